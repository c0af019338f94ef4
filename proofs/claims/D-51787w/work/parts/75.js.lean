set_option maxRecDepth 100000
/-! ===== a roof's turn ===== -/
theorem qk_and {a b : Prop} {rt : Option Nat} (h : a) : qk (a ∧ b) rt = qk b rt ∧ qs (a ∧ b) rt = qs b rt := by
  have e : (a ∧ b) = b := propext ⟨fun q => q.2, fun q => ⟨h, q⟩⟩
  rw [e]
  exact ⟨rfl, rfl⟩
theorem Qp_and {a b : Prop} {rt rt2 : Option Nat} (h : a) (q : Qp b rt rt2) : Qp (a ∧ b) rt rt2 := ⟨fun z => q.1 z.2, fun z => q.2 fun y => z ⟨h, y⟩⟩
/-- a roof's turn asks for routes -/
def aw (row : Nat → Int32) (k nt : Nat) : Prop := ¬ row 3 < row (25 + 13 * k + 11) ∧ ask row k nt
theorem ws1_r {ra nm : Nat → Nat} {row : Nat → Int32} {t k : Nat} : rfN ra nm (ws1 row t k) (ts row t) = (ra (ts row t), .inl (2, [.ref (nm (ts row t)), .int (row (25 + 13 * ts row t + 7)), .int (row (25 + 13 * ts row t + 8)), .int (row (25 + 13 * ts row t + 9)), .int (row (25 + 13 * ts row t + 10) - wsfee row t k), .int (row (25 + 13 * ts row t + 11)), .int (row (25 + 13 * ts row t + 12))])) := by
  unfold rfN
  rw [ws1_s, ws1_o (by omega), ws1_o (by omega), ws1_o (by omega), ws1_o (by omega), ws1_o (by omega)]
theorem ws1_k {nm : Nat → Nat} {row : Nat → Int32} {t k : Nat} : ((.inl (2, [.ref (nm k), .int (ws1 row t k (25 + 13 * k + 7)), .int (ws1 row t k (25 + 13 * k + 8)), .int (ws1 row t k (25 + 13 * k + 9)), .int (ws1 row t k (25 + 13 * k + 10)), .int (ws1 row t k (25 + 13 * k + 11)), .int (ws1 row t k (25 + 13 * k + 12))])) : gg_E) = .inl (2, [.ref (nm k), .int (row (25 + 13 * k + 7)), .int (row (25 + 13 * k + 8)), .int (row (25 + 13 * k + 9)), .int (ws1 row t k (25 + 13 * k + 10)), .int (row (25 + 13 * k + 11)), .int (row (25 + 13 * k + 12))]) := by
  rw [ws1_o (j := 25 + 13 * k + 7) (by omega), ws1_o (j := 25 + 13 * k + 8) (by omega), ws1_o (j := 25 + 13 * k + 9) (by omega), ws1_o (j := 25 + 13 * k + 11) (by omega), ws1_o (j := 25 + 13 * k + 12) (by omega)]
set_option maxHeartbeats 4000000 in
theorem ct_X2_whistles {l : Launch} (hl : l.stackTraces = false) {g : gg_G}  {w : Nat} {ad : Nat → Nat} {t7 c7 : Int32} {rt0 : Option Nat} {ra nm : Nat → Nat} {m1 : Int32} {nr : Nat} {tu sn hd : Nat → Nat} {m3 : Int32} {nt : Nat} {nd wo : Nat → Nat} {m2 : Int32} {nw : Nat} {row : Nat → Int32} {P : gg_S} {k1 : Nat} (hP : Po g P sn wo row nw nt) (hG : Gw row nr nw nt) (hR : ∀ a, rt0 = some a → Rt g P a row nr nw) (hk : k1 < nr) (h37 : row 3 = t7) : gg_C l g yX2_whistles (ws_ yX2_whistles cX2_whistles 6 none) { frames := 17, cells := (qk (aw row k1 nt) rt0 + 2), slots := (qs (aw row k1 nt) rt0 + 10), locals := 346 } [.ref w, .int (nI k1)] ([((ad 1), .inl (11, [.int m1, .ref (ad 2), .int (nI nr)])), ((ad 2), gg_ao g 4 10 (lsF ra nr)), ((ad 4), .inl (11, [.int m3, .ref (ad 5), .int (nI nt)])), ((ad 5), gg_ao g 4 30 (lsF tu nt)), ((ad 3), .inl (15, [.int m2, .int (nI nw), llF nd nw, llL nd nw]))] ++ (llS nd wo nw)) [[(w, .inl (1, [.ref (ad 1), .ref (ad 3), .ref (ad 4), .ref (ad 6), .ref (ad 7), .int t7, .int c7, (va_rf rt0)]))], [((ad 7), gg_ai g 11 (fun j => row (10 + j)))], (mp (rfN ra nm row) nr), (mp (tuN tu sn hd row) nt), P] (fun vv CC => ∃ (rt2 : Option Nat) (P2 : gg_S), (Po g P2 sn wo (wsR row nw k1 nt) nw nt ∧ (∀ a, rt2 = some a → Rt g P2 a (wsR row nw k1 nt) nr nw) ∧ Qp (aw row k1 nt) rt0 rt2 ∧ Sub P P2) ∧ vv = none ∧ CC = [[(w, .inl (1, [.ref (ad 1), .ref (ad 3), .ref (ad 4), .ref (ad 6), .ref (ad 7), .int t7, .int c7, (va_rf rt2)]))], [((ad 7), gg_ai g 11 (fun j => (wsR row nw k1 nt) (10 + j)))], (mp (rfN ra nm (wsR row nw k1 nt)) nr), (mp (tuN tu sn hd (wsR row nw k1 nt)) nt), P2]) gg_no := by
  refine gg_of (lv := [_, _, _, _, _, _]) (by decide) hl (Nat.le_of_ble_eq_true rfl) rfl ?_
  intro p e R s m args below meth c A Q hRf hRl hRc hRs E Fn hnm hex
  have hw := hG.2.1
  have h20 := hw.2.1
  have hr10 := hw.2.2.1
  have hT := hG.2.2.1.2.2.2
  have ht30 := hG.2.2.1.2.1
  refine gg_aload_n (pc := 0) E dX2_whistles_0 rfl rfl ?_
  refine gg_iload_n (pc := 1) E dX2_whistles_1 rfl rfl ?_
  refine gg_callV (F := [_, _, _, _, _]) (As := [.int (nI k1)]) (rest := []) (pc := 2) E ck_X2 (ct_X2_roof hl (hk) (hr10)) (cwV 1 E.2.2.2.2.1 (lw_V q1096 q1097 q1098 q152 q1099) rfl rfl rfl (by decide +kernel) ⟨by rw [hRf]; exact Nat.le_of_ble_eq_true rfl, by rw [hRl]; exact Nat.le_of_ble_eq_true rfl⟩) dX2_whistles_2 [] (by decide) rfl rfl (List.forall_mem_append.mpr ⟨(List.forall_mem_cons.mpr ⟨(gg_i 0 rfl), (List.forall_mem_cons.mpr ⟨(gg_r 0 rfl), (List.forall_mem_cons.mpr ⟨(gg_r 1 rfl), (fun _ h => by cases h)⟩)⟩)⟩), (fun q hq => gg_j 2 rfl hq)⟩) (gg_i 0 rfl) rfl rfl (Nat.le_of_ble_eq_true rfl) (by first | (rw [hRc]; dsimp only; omega) | (rw [hRc]; exact Nat.le_of_ble_eq_true rfl)) (by first | (rw [hRs]; dsimp only; omega) | (rw [hRs]; exact Nat.le_of_ble_eq_true rfl)) ?_ (fun X q C1 h => h.elim)
  rintro _ _ ⟨rfl, rfl⟩
  dsimp only [List.cons_append, List.nil_append, Option.toList]
  refine gg_astore_n (lv' := [_, _, _, _, _, _]) (pc := 5) E dX2_whistles_5 rfl (Nat.le_of_ble_eq_true rfl) rfl rfl ?_
  refine gg_aload_n (pc := 6) E dX2_whistles_6 rfl rfl ?_
  refine gg_getN (pc := 7) E ck_X3 5 nq655 rfl (by decide) dX2_whistles_7 (gg_j 2 rfl (mp_mem (by omega))) rfl ?_
  refine gg_aload_n (pc := 10) E dX2_whistles_10 rfl rfl ?_
  refine gg_get (pc := 11) E ck_X2 5 q610 rfl (by decide) dX2_whistles_11 (gg_i 0 rfl) rfl ?_
  refine gg_icmp_le (tgt := 21) (pc := 14) E dX2_whistles_14 (by decide) (fun c14 => ?_) (fun c14 => ?_)
  · have hbz : ¬ row 3 < row (25 + 13 * k1 + 11) := by rw [h37]; exact Int32.not_lt.mpr c14
    have hqa := qk_and (rt := rt0) (b := ask row k1 nt) hbz
    have hqc : qk (aw row k1 nt) rt0 = qk (ask row k1 nt) rt0 := hqa.1
    have hqs : qs (aw row k1 nt) rt0 = qs (ask row k1 nt) rt0 := hqa.2
    refine gg_aload_n (pc := 21) E dX2_whistles_21 rfl rfl ?_
    refine gg_iload_n (pc := 22) E dX2_whistles_22 rfl rfl ?_
    refine gg_callV (F := [_, _, _]) (As := [.int (nI k1)]) (rest := []) (pc := 23) E ck_X2 (ct_X2_chosen hl hP hG hR hk) (cwV 1 E.2.2.2.2.1 (lw_V q1693 q1694 q1695 q152 q1696) rfl rfl rfl (by decide +kernel) ⟨by rw [hRf]; exact Nat.le_of_ble_eq_true rfl, by rw [hRl]; exact Nat.le_of_ble_eq_true rfl⟩) dX2_whistles_23 [0, 4] (by decide) rfl rfl (List.forall_mem_append.mpr ⟨(List.forall_mem_cons.mpr ⟨(gg_r 0 rfl), (List.forall_mem_cons.mpr ⟨(gg_r 1 rfl), (List.forall_mem_cons.mpr ⟨(gg_r 2 rfl), (List.forall_mem_cons.mpr ⟨(gg_r 3 rfl), (List.forall_mem_cons.mpr ⟨(gg_r 4 rfl), (fun _ h => by cases h)⟩)⟩)⟩)⟩)⟩), (List.forall_mem_append.mpr ⟨(fun q hq => gg_rm (List.mem_append_right _ (hq))), (List.forall_mem_append.mpr ⟨(fun q hq => gg_j 1 rfl hq), (fun q hq => gg_j 2 rfl hq)⟩)⟩)⟩) (gg_i 0 rfl) rfl rfl (Nat.le_of_ble_eq_true rfl) (by first | (rw [hRc]; dsimp only; omega) | (rw [hRc]; exact Nat.le_of_ble_eq_true rfl)) (by first | (rw [hRs]; dsimp only; omega) | (rw [hRs]; exact Nat.le_of_ble_eq_true rfl)) ?_ (fun X q C1 h => h.elim)
    rintro _ _ ⟨rt4, P4, ⟨hP, hR, hq, hS⟩, rfl, rfl⟩
    dsimp only [List.cons_append, List.nil_append, Option.toList]
    refine gg_up1 ?_
    refine gg_up4 ?_
    rcases hf : fas row nw k1 nt with _ | t9
    · refine gg_astore_nN (lv' := [_, _, _, _, _, _]) (pc := 26) E dX2_whistles_26 rfl (Nat.le_of_ble_eq_true rfl) rfl rfl ?_
      refine gg_aload_nN (pc := 27) E dX2_whistles_27 rfl rfl ?_
      refine gg_ifnonnullN (pc := 28) E dX2_whistles_28 ?_
      refine gg_vret (pc := 31) E Fn rfl dX2_whistles_31 (by first | omega | (dsimp only; omega) | exact Nat.le_of_ble_eq_true rfl) (by first | omega | (dsimp only; omega) | exact Nat.le_of_ble_eq_true rfl) ?_
      rw [show wsR row nw k1 nt = row from by unfold wsR; rw [if_neg hbz, hf]]
      exact ⟨rt4, P4, ⟨hP, hR, Qp_and hbz hq, hS⟩, rfl, rfl⟩
    · obtain ⟨ht9, hwt, u9, hu9⟩ := fas_ok (nr := nr) _ _ hf
      have hrc := fas_rch _ _ hf
      obtain ⟨b4, rfl⟩ := hq.1 ⟨t9, ht9, hwt, hrc⟩
      have hb4C : lyC (some b4) = 0 := rfl
      have hb4S : lyS (some b4) = 0 := rfl
      obtain ⟨g1, g2, g3, g4, g5, g6, g7, g8, g9, g10⟩ := hT t9 ht9
      have hne := nxt_ne hw (by omega) hu9
      have hwy := wy_ok hw hk hne.2.1 hne.2.2.1 hne.2.2.2
      have hwy2 := hwy.2
      have hu10 := hne.2.1
      refine gg_astore_n (lv' := [_, _, _, _, _, _]) (pc := 26) E dX2_whistles_26 rfl (Nat.le_of_ble_eq_true rfl) rfl rfl ?_
      refine gg_aload_n (pc := 27) E dX2_whistles_27 rfl rfl ?_
      refine gg_ifnonnull (tgt := 32) (pc := 28) E dX2_whistles_28 (by decide) ?_
      refine gg_aload_n (pc := 32) E dX2_whistles_32 rfl rfl ?_
      refine gg_iload_n (pc := 33) E dX2_whistles_33 rfl rfl ?_
      refine gg_aload_n (pc := 34) E dX2_whistles_34 rfl rfl ?_
      refine gg_callV (F := [_, _, _, _, _]) (As := [.int (nI k1), _]) (rest := []) (pc := 35) E ck_X2 (ct_X2_fee hl (hk) (hr10) (by omega)) (cwV 2 E.2.2.2.2.1 (lw_V q1705 q1706 q1707 q152 q1708) rfl rfl rfl (by decide +kernel) ⟨by rw [hRf]; exact Nat.le_of_ble_eq_true rfl, by rw [hRl]; exact Nat.le_of_ble_eq_true rfl⟩) dX2_whistles_35 [] (by decide) rfl rfl (List.forall_mem_append.mpr ⟨(List.forall_mem_cons.mpr ⟨(gg_i 0 rfl), (List.forall_mem_cons.mpr ⟨(gg_r 0 rfl), (List.forall_mem_cons.mpr ⟨(gg_r 1 rfl), (List.forall_mem_cons.mpr ⟨(gg_j 3 rfl (mp_mem (by omega))), (List.forall_mem_cons.mpr ⟨(gg_j 4 rfl (hP.1 t9 (by omega))), (fun _ h => by cases h)⟩)⟩)⟩)⟩)⟩), (fun q hq => gg_j 2 rfl hq)⟩) (gg_i 0 rfl) rfl rfl (Nat.le_of_ble_eq_true rfl) (by first | (rw [hRc]; dsimp only; omega) | (rw [hRc]; exact Nat.le_of_ble_eq_true rfl)) (by first | (rw [hRs]; dsimp only; omega) | (rw [hRs]; exact Nat.le_of_ble_eq_true rfl)) ?_ (fun X q C1 h => h.elim)
      rintro _ _ ⟨rfl, rfl⟩
      dsimp only [List.cons_append, List.nil_append, Option.toList]
      refine gg_topI (y := wsfee row t9 k1) (congrArg (row (25 + 13 * k1 + 9) * ·) (br_ba g3 g10)) ?_
      refine gg_istore (lv' := [_, _, _, _, _, _]) (pc := 38) E dX2_whistles_38 (Nat.le_of_ble_eq_true rfl) rfl rfl ?_
      refine gg_aload_n (pc := 40) E dX2_whistles_40 rfl rfl ?_
      refine gg_aload_n (pc := 41) E dX2_whistles_41 rfl rfl ?_
      refine gg_getN (pc := 42) E ck_X8 1 nq1572 rfl (by decide) dX2_whistles_42 (gg_j 3 rfl (mp_mem (by omega))) rfl ?_
      refine gg_topI (y := nI (ts row t9)) g1 ?_
      refine gg_callV (F := [_, _, _, _, _]) (As := [.int (nI (ts row t9))]) (rest := []) (pc := 45) E ck_X2 (ct_X2_roof hl (g5) (hr10)) (cwV 1 E.2.2.2.2.1 (lw_V q1096 q1097 q1098 q152 q1099) rfl rfl rfl (by decide +kernel) ⟨by rw [hRf]; exact Nat.le_of_ble_eq_true rfl, by rw [hRl]; exact Nat.le_of_ble_eq_true rfl⟩) dX2_whistles_45 [] (by decide) rfl rfl (List.forall_mem_append.mpr ⟨(List.forall_mem_cons.mpr ⟨(gg_i 0 rfl), (List.forall_mem_cons.mpr ⟨(gg_r 0 rfl), (List.forall_mem_cons.mpr ⟨(gg_r 1 rfl), (fun _ h => by cases h)⟩)⟩)⟩), (fun q hq => gg_j 2 rfl hq)⟩) (gg_i 0 rfl) rfl rfl (Nat.le_of_ble_eq_true rfl) (by first | (rw [hRc]; dsimp only; omega) | (rw [hRc]; exact Nat.le_of_ble_eq_true rfl)) (by first | (rw [hRs]; dsimp only; omega) | (rw [hRs]; exact Nat.le_of_ble_eq_true rfl)) ?_ (fun X q C1 h => h.elim)
      rintro _ _ ⟨rfl, rfl⟩
      dsimp only [List.cons_append, List.nil_append, Option.toList]
      refine gg_dup (pc := 48) E dX2_whistles_48 rfl ?_
      refine gg_getN (pc := 49) E ck_X3 4 nq652 rfl (by decide) dX2_whistles_49 (gg_j 2 rfl (mp_mem (by omega))) rfl ?_
      refine gg_iload (pc := 52) E dX2_whistles_52 rfl ?_
      refine gg_isub (pc := 54) E dX2_whistles_54 ?_
      refine gg_opn (k := (ts row t9)) (M' := [_, _, _, _, _, _]) 2 rfl (by omega) rfl ?_
      refine gg_putN (fs' := [_, _, _, _, _, _, _]) (M' := [_, _, _, _, _, _]) (pc := 55) E ck_X3 4 nq652 rfl (by decide) dX2_whistles_55 5 rfl rfl (rfl) rfl (Nat.le_of_ble_eq_true rfl) rfl rfl ?_
      refine gg_cls (F' := (rfN ra nm (ws1 row t9 k1))) (M' := [_, _, _, _, _]) 2 rfl rfl (by omega) ws1_r (fun j hj hne => rfN_eq fun d h7 h13 => ws1_o (by omega)) rfl ?_
      refine gg_aload_n (pc := 58) E dX2_whistles_58 rfl rfl ?_
      refine gg_dup (pc := 59) E dX2_whistles_59 rfl ?_
      refine gg_getN (pc := 60) E ck_X3 4 nq652 rfl (by decide) dX2_whistles_60 (gg_j 2 rfl (mp_mem (by omega))) rfl ?_
      refine gg_iload (pc := 63) E dX2_whistles_63 rfl ?_
      refine gg_iadd (pc := 65) E dX2_whistles_65 ?_
      refine gg_opn (k := k1) (M' := [_, _, _, _, _, _]) 2 rfl (by omega) rfl ?_
      refine gg_cel (y := .inl (2, [.ref (nm k1), .int (row (25 + 13 * k1 + 7)), .int (row (25 + 13 * k1 + 8)), .int (row (25 + 13 * k1 + 9)), .int (ws1 row t9 k1 (25 + 13 * k1 + 10)), .int (row (25 + 13 * k1 + 11)), .int (row (25 + 13 * k1 + 12))])) 5 rfl (ws1_k) rfl ?_
      refine gg_putN (fs' := [_, _, _, _, _, _, _]) (M' := [_, _, _, _, _, _]) (pc := 66) E ck_X3 4 nq652 rfl (by decide) dX2_whistles_66 5 rfl rfl (rfl) rfl (Nat.le_of_ble_eq_true rfl) rfl rfl ?_
      refine gg_aload_n (pc := 69) E dX2_whistles_69 rfl rfl ?_
      refine gg_get (pc := 70) E ck_X2 4 q608 rfl (by decide) dX2_whistles_70 (gg_i 0 rfl) rfl ?_
      refine gg_bipush (v := 9) (pc := 73) E dX2_whistles_73 (by decide) ?_
      refine gg_dup2_11 (pc := 75) E dX2_whistles_75 rfl rfl ?_
      refine gg_ialdN (pc := 76) E 9 rfl (by omega) (by omega) dX2_whistles_76 (gg_i 1 rfl) ?_
      refine gg_iload (pc := 77) E dX2_whistles_77 rfl ?_
      refine gg_iadd (pc := 79) E dX2_whistles_79 ?_
      refine gg_iastN (M' := [_, _, _, _, _, _]) (pc := 80) E 9 rfl (by omega) (by omega) dX2_whistles_80 1 rfl rfl ?_
      refine gg_aload_n (pc := 81) E dX2_whistles_81 rfl rfl ?_
      refine gg_get (pc := 82) E ck_X2 4 q608 rfl (by decide) dX2_whistles_82 (gg_i 0 rfl) rfl ?_
      refine gg_iconst (v := 3) (pc := 85) E dX2_whistles_85 (by decide) ?_
      refine gg_dup2_11 (pc := 86) E dX2_whistles_86 rfl rfl ?_
      refine gg_ialdN (pc := 87) E 3 rfl (by omega) (by omega) dX2_whistles_87 (gg_i 1 rfl) ?_
      refine gg_iconst (v := 1) (pc := 88) E dX2_whistles_88 (by decide) ?_
      refine gg_iadd (pc := 89) E dX2_whistles_89 ?_
      refine gg_iastN (M' := [_, _, _, _, _, _]) (pc := 90) E 3 rfl (by omega) (by omega) dX2_whistles_90 1 rfl rfl ?_
      refine gg_aload_n (pc := 91) E dX2_whistles_91 rfl rfl ?_
      refine gg_dup (pc := 92) E dX2_whistles_92 rfl ?_
      refine gg_getN (pc := 93) E ck_X3 6 nq658 rfl (by decide) dX2_whistles_93 (gg_i 5 rfl) rfl ?_
      refine gg_iconst (v := 1) (pc := 96) E dX2_whistles_96 (by decide) ?_
      refine gg_iadd (pc := 97) E dX2_whistles_97 ?_
      refine gg_putN (fs' := [_, _, _, _, _, _, _]) (M' := [_, _, _, _, _, _]) (pc := 98) E ck_X3 6 nq658 rfl (by decide) dX2_whistles_98 5 rfl rfl (rfl) rfl (Nat.le_of_ble_eq_true rfl) rfl rfl ?_
      refine gg_aload_n (pc := 101) E dX2_whistles_101 rfl rfl ?_
      refine gg_dup (pc := 102) E dX2_whistles_102 rfl ?_
      refine gg_getN (pc := 103) E ck_X8 12 nq1601 rfl (by decide) dX2_whistles_103 (gg_j 3 rfl (mp_mem (by omega))) rfl ?_
      refine gg_iconst (v := 1) (pc := 106) E dX2_whistles_106 (by decide) ?_
      refine gg_iadd (pc := 107) E dX2_whistles_107 ?_
      refine gg_opn (k := t9) (M' := [_, _, _, _, _, _, _]) 3 rfl (by omega) rfl ?_
      refine gg_putN (fs' := [_, _, _, _, _, _, _, _, _, _, _, _, _]) (M' := [_, _, _, _, _, _, _]) (pc := 108) E ck_X8 12 nq1601 rfl (by decide) dX2_whistles_108 6 rfl rfl (rfl) rfl (Nat.le_of_ble_eq_true rfl) rfl rfl ?_
      refine gg_aload_n (pc := 111) E dX2_whistles_111 rfl rfl ?_
      refine gg_aload_n (pc := 112) E dX2_whistles_112 rfl rfl ?_
      refine gg_get (pc := 113) E ck_X2 5 q610 rfl (by decide) dX2_whistles_113 (gg_i 0 rfl) rfl ?_
      refine gg_aload_n (pc := 116) E dX2_whistles_116 rfl rfl ?_
      refine gg_callV (F := [_, _, _, _, _, _, _]) (As := []) (rest := [_, _]) (pc := 117) E ck_X8 (ct_X8_notes hl ) (cwV 0 E.2.2.2.2.1 (lw_V q1659 q1660 q1661 q192 q1662) rfl rfl rfl (by decide +kernel) ⟨by rw [hRf]; exact Nat.le_of_ble_eq_true rfl, by rw [hRl]; exact Nat.le_of_ble_eq_true rfl⟩) dX2_whistles_117 [] (by decide) rfl rfl (List.forall_mem_cons.mpr ⟨(gg_i 6 rfl), (List.forall_mem_cons.mpr ⟨(gg_j 4 rfl (hP.1 t9 (by omega))), (fun _ h => by cases h)⟩)⟩) (gg_i 6 rfl) rfl rfl (Nat.le_of_ble_eq_true rfl) (by first | (rw [hRc]; dsimp only; omega) | (rw [hRc]; exact Nat.le_of_ble_eq_true rfl)) (by first | (rw [hRs]; dsimp only; omega) | (rw [hRs]; exact Nat.le_of_ble_eq_true rfl)) ?_ (fun X q C1 h => h.elim)
      rintro _ _ ⟨rfl, rfl⟩
      dsimp only [List.cons_append, List.nil_append, Option.toList]
      refine gg_aload_n (pc := 120) E dX2_whistles_120 rfl rfl ?_
      refine gg_getN (pc := 121) E ck_X3 1 nq643 rfl (by decide) dX2_whistles_121 (gg_i 5 rfl) rfl ?_
      refine gg_iadd (pc := 124) E dX2_whistles_124 ?_
      refine gg_iconst (v := 1) (pc := 125) E dX2_whistles_125 (by decide) ?_
      refine gg_isub (pc := 126) E dX2_whistles_126 ?_
      refine gg_aload_n (pc := 127) E dX2_whistles_127 rfl rfl ?_
      refine gg_getN (pc := 128) E ck_X3 1 nq643 rfl (by decide) dX2_whistles_128 (gg_i 5 rfl) rfl ?_
      refine gg_idiv (pc := 131) E dX2_whistles_131 (fun q => by have z := (hG.2.2.2.1 k1 hk).2.1; rw [q] at z; exact absurd z (by decide)) ?_
      refine gg_iadd (pc := 132) E dX2_whistles_132 ?_
      refine gg_topI (y := wsunt row t9 k1) (by unfold wsunt; rw [h37]) ?_
      refine gg_putN (fs' := [_, _, _, _, _, _, _]) (M' := [_, _, _, _, _, _, _]) (pc := 133) E ck_X3 5 nq655 rfl (by decide) dX2_whistles_133 5 rfl rfl (rfl) rfl (Nat.le_of_ble_eq_true rfl) rfl rfl ?_
      refine gg_aload_n (pc := 136) E dX2_whistles_136 rfl rfl ?_
      refine gg_iload_n (pc := 137) E dX2_whistles_137 rfl rfl ?_
      refine gg_aload_n (pc := 138) E dX2_whistles_138 rfl rfl ?_
      refine gg_getN (pc := 139) E ck_X8 2 nq1575 rfl (by decide) dX2_whistles_139 (gg_i 6 rfl) rfl ?_
      refine gg_topI (y := nI (tg row t9)) g2 ?_
      refine gg_callV (F := [_, _, _, _, _]) (As := [.int (nI k1), .int (nI (tg row t9))]) (rest := []) (pc := 142) E ck_X2 (ct_X2_next (rt0 := some b4) hl hP hw hR hk g6) (cwV 2 E.2.2.2.2.1 (lw_V q2075 q2076 q2077 q152 q2078) rfl rfl rfl (by decide +kernel) ⟨by rw [hRf]; exact Nat.le_of_ble_eq_true rfl, by rw [hRl]; exact Nat.le_of_ble_eq_true rfl⟩) dX2_whistles_142 [0, 4] (by decide) rfl rfl (List.forall_mem_append.mpr ⟨(List.forall_mem_cons.mpr ⟨(gg_r 0 rfl), (List.forall_mem_cons.mpr ⟨(gg_r 4 rfl), (fun _ h => by cases h)⟩)⟩), (fun q hq => gg_rm (List.mem_append_right _ (hq)))⟩) (gg_i 0 rfl) rfl rfl (Nat.le_of_ble_eq_true rfl) (by first | (rw [hRc]; dsimp only; omega) | (rw [hRc]; exact Nat.le_of_ble_eq_true rfl)) (by first | (rw [hRs]; dsimp only; omega) | (rw [hRs]; exact Nat.le_of_ble_eq_true rfl)) ?_ (fun X q C1 h => h.elim)
      rintro _ _ ⟨rt5, P5, ⟨hP, hR, hS5⟩, rfl, rfl⟩
      dsimp only [List.cons_append, List.nil_append, Option.toList]
      refine gg_up1 ?_
      refine gg_up4 ?_
      refine gg_topI (y := nI u9) (by rw [hu9]; rfl) ?_
      refine gg_istore (lv' := [_, _, _, _, _, _]) (pc := 145) E dX2_whistles_145 (Nat.le_of_ble_eq_true rfl) rfl rfl ?_
      refine gg_aload_n (pc := 147) E dX2_whistles_147 rfl rfl ?_
      refine gg_aload_n (pc := 148) E dX2_whistles_148 rfl rfl ?_
      refine gg_iload_n (pc := 149) E dX2_whistles_149 rfl rfl ?_
      refine gg_iload (pc := 150) E dX2_whistles_150 rfl ?_
      refine gg_callV (F := [_, _, _, _, _, _, _]) (As := [_, _]) (rest := [_]) (pc := 152) E ck_X2 (ct_X2_between hl hP hw) (cwV 2 E.2.2.2.2.1 (lw_V q2079 q1187 q1188 q152 q1189) rfl rfl rfl (by decide +kernel) ⟨by rw [hRf]; exact Nat.le_of_ble_eq_true rfl, by rw [hRl]; exact Nat.le_of_ble_eq_true rfl⟩) dX2_whistles_152 [] (by decide) rfl rfl (List.forall_mem_append.mpr ⟨(List.forall_mem_cons.mpr ⟨(gg_i 0 rfl), (List.forall_mem_cons.mpr ⟨(gg_r 4 rfl), (fun _ h => by cases h)⟩)⟩), (List.forall_mem_append.mpr ⟨(fun q hq => gg_rm (List.mem_append_right _ (hq))), (fun q hq => gg_j 4 rfl hq)⟩)⟩) (gg_i 0 rfl) rfl rfl (Nat.le_of_ble_eq_true rfl) (by first | (rw [hRc]; dsimp only; omega) | (rw [hRc]; exact Nat.le_of_ble_eq_true rfl)) (by first | (rw [hRs]; dsimp only; omega) | (rw [hRs]; exact Nat.le_of_ble_eq_true rfl)) ?_ (fun X q C1 h => h.elim)
      rintro _ _ ⟨rfl, rfl⟩
      dsimp only [List.cons_append, List.nil_append, Option.toList]
      refine gg_topV (show va_rf (btw wo row nw (nI k1) (nI u9)) = .ref (wo (wy row nw k1 u9)) from by unfold btw; rw [hwy.1, if_neg (nI_nm1 (by omega)), tn_nI (by omega)]; rfl) ?_
      refine gg_callV (F := [_, _, _, _, _, _, _]) (As := []) (rest := [_]) (pc := 155) E ck_X4 (ct_X4_far hl ) (cwV 0 E.2.2.2.2.1 (lw_V q2070 q2071 q2072 q177 q2073) rfl rfl rfl (by decide +kernel) ⟨by rw [hRf]; exact Nat.le_of_ble_eq_true rfl, by rw [hRl]; exact Nat.le_of_ble_eq_true rfl⟩) dX2_whistles_155 [] (by decide) rfl rfl (List.forall_mem_cons.mpr ⟨(gg_j 4 rfl (hP.2 (wy row nw k1 u9) (by omega))), (fun _ h => by cases h)⟩) (gg_j 4 rfl (hP.2 (wy row nw k1 u9) (by omega))) rfl rfl (Nat.le_of_ble_eq_true rfl) (by first | (rw [hRc]; dsimp only; omega) | (rw [hRc]; exact Nat.le_of_ble_eq_true rfl)) (by first | (rw [hRs]; dsimp only; omega) | (rw [hRs]; exact Nat.le_of_ble_eq_true rfl)) ?_ (fun X q C1 h => h.elim)
      rintro _ _ ⟨rfl, rfl⟩
      dsimp only [List.cons_append, List.nil_append, Option.toList]
      refine gg_putN (fs' := [_, _, _, _, _, _, _, _, _, _, _, _, _]) (M' := [_, _, _, _, _, _, _]) (pc := 158) E ck_X8 10 nq1596 rfl (by decide) dX2_whistles_158 6 rfl rfl (rfl) rfl (Nat.le_of_ble_eq_true rfl) rfl rfl ?_
      refine gg_aload_n (pc := 161) E dX2_whistles_161 rfl rfl ?_
      refine gg_aload_n (pc := 162) E dX2_whistles_162 rfl rfl ?_
      refine gg_getN (pc := 163) E ck_X3 5 nq655 rfl (by decide) dX2_whistles_163 (gg_i 5 rfl) rfl ?_
      refine gg_aload_n (pc := 166) E dX2_whistles_166 rfl rfl ?_
      refine gg_getN (pc := 167) E ck_X8 10 nq1596 rfl (by decide) dX2_whistles_167 (gg_i 6 rfl) rfl ?_
      refine gg_iadd (pc := 170) E dX2_whistles_170 ?_
      refine gg_putN (fs' := [_, _, _, _, _, _, _, _, _, _, _, _, _]) (M' := [_, _, _, _, _, _, _]) (pc := 171) E ck_X8 9 nq1593 rfl (by decide) dX2_whistles_171 6 rfl rfl (rfl) rfl (Nat.le_of_ble_eq_true rfl) rfl rfl ?_
      refine gg_aload_n (pc := 174) E dX2_whistles_174 rfl rfl ?_
      refine gg_iload (pc := 175) E dX2_whistles_175 rfl ?_
      refine gg_putN (fs' := [_, _, _, _, _, _, _, _, _, _, _, _, _]) (M' := [_, _, _, _, _, _, _]) (pc := 177) E ck_X8 7 nq1587 rfl (by decide) dX2_whistles_177 6 rfl rfl (rfl) rfl (Nat.le_of_ble_eq_true rfl) rfl rfl ?_
      refine gg_aload_n (pc := 180) E dX2_whistles_180 rfl rfl ?_
      refine gg_iconst (v := 1) (pc := 181) E dX2_whistles_181 (by decide) ?_
      refine gg_putN (fs' := [_, _, _, _, _, _, _, _, _, _, _, _, _]) (M' := [_, _, _, _, _, _, _]) (pc := 182) E ck_X8 8 nq1590 rfl (by decide) dX2_whistles_182 6 rfl rfl (rfl) rfl (Nat.le_of_ble_eq_true rfl) rfl rfl ?_
      refine gg_cls (F' := (tuN tu sn hd (ws row nw t9 k1 u9))) (M' := [_, _, _, _, _, _]) 3 rfl rfl (by omega) (ws_tt (by omega) (by omega)) (fun j hj hne => tuN_eq rfl rfl rfl fun d hd => ws_tj (by omega) (by omega) hne (by omega)) rfl ?_
      refine gg_cls (F' := (rfN ra nm (ws row nw t9 k1 u9))) (M' := [_, _, _, _, _]) 2 rfl rfl (by omega) (ws_rk (by omega) (by omega)) (fun j hj hne => rfN_eq fun d h7 h13 => ws_rj (by omega) (by omega) hne h7 h13) rfl ?_
      refine gg_cel (y := gg_ai g 11 (fun j => (ws row nw t9 k1 u9) (10 + j))) 1 rfl (gg_ai_congr fun j hj => ws_ac (by omega) (by omega) hj) rfl ?_
      refine gg_vret (pc := 185) E Fn rfl dX2_whistles_185 (by first | omega | (dsimp only; omega) | exact Nat.le_of_ble_eq_true rfl) (by first | omega | (dsimp only; omega) | exact Nat.le_of_ble_eq_true rfl) ?_
      rw [show wsR row nw k1 nt = (ws row nw t9 k1 u9) from by unfold wsR; rw [if_neg hbz, hf]; dsimp only; rw [hu9]; rfl]
      refine ⟨some rt5, P5, ⟨Po_keep hP (fun t ht => (hT t ht).2.2.2.2.2.2.2.2.2) (fun t ht d hd => ?_) (fun j h1 h2 => ws_w (by omega) (by omega) h1 h2) h20, fun a h => by cases h; exact Rt_keep hR h20 (fun j h1 h2 => ws_w (by omega) (by omega) h1 h2), Qp_y ⟨hbz, t9, ht9, hwt, hrc⟩, fun q h => hS5 q (hS q h)⟩, rfl, rfl⟩
      by_cases e : t = t9
      · subst e
        exact ws_te (by omega) (by omega) (by omega)
      · exact ws_tj (by omega) (by omega) e (by omega)
  · refine gg_null (pc := 17) E dX2_whistles_17 ?_
    refine gg_goto (tgt := 26) (pc := 18) E dX2_whistles_18 (by decide) ?_
    refine gg_astore_nN (lv' := [_, _, _, _, _, _]) (pc := 26) E dX2_whistles_26 rfl (Nat.le_of_ble_eq_true rfl) rfl rfl ?_
    refine gg_aload_nN (pc := 27) E dX2_whistles_27 rfl rfl ?_
    refine gg_ifnonnullN (pc := 28) E dX2_whistles_28 ?_
    refine gg_vret (pc := 31) E Fn rfl dX2_whistles_31 (by first | omega | (dsimp only; omega) | exact Nat.le_of_ble_eq_true rfl) (by first | omega | (dsimp only; omega) | exact Nat.le_of_ble_eq_true rfl) ?_
    rw [show wsR row nw k1 nt = row from if_pos (by rw [h37]; exact Int32.not_le.mp c14)]
    exact ⟨rt0, P, ⟨hP, hR, Qp_n (fun q => q.1 (by rw [h37]; exact Int32.not_le.mp c14)), fun q h => h⟩, rfl, rfl⟩

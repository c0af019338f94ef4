set_option maxRecDepth 100000
set_option maxHeartbeats 4000000 in
theorem ct_X5_does {l : Launch} (hl : l.stackTraces = false) {g : gg_G}  {h : Nat} {ad : Nat → Nat} {x : Nat → Int32} {row : Nat → Int32} {D : Nat → Int32} {sums : Nat → Int32}  {su : Nat → Int32} {i tm N : Nat} {nr nw nt : Nat} (hI : Iv row nr nw nt N) (htm : row 3 = nI tm) (htm9 : tm ≤ 9999) (hdv : Dv nr D i) (hi : i < 30) (hN : N ≤ 77777777) : gg_C l g yX5_does (ws_ yX5_does cX5_does 5 (some .boolean)) { frames := 9, cells := 0, slots := 0, locals := 209 } [.ref h, .int (nI i)] [((ad 22), gg_ai g 360 D)] [[(h, .inl (4, mo_f ad x))], [((ad 0), gg_ai g 1030 row)], [((ad 9), gg_ai g 10 sums)], [((ad 10), gg_ai g 8 su)]] (fun vv CC => ∃ (z : Int32) (S U : Nat → Int32), vv = some (.int (duV row D i)) ∧ CC = [[(h, .inl (4, mo_f ad (upd x 11 z)))], [((ad 0), gg_ai g 1030 (duN row nr D i))], [((ad 9), gg_ai g 10 S)], [((ad 10), gg_ai g 8 U)]]) gg_no := by
  refine gg_of (lv := [_, _, _, _, _]) (by decide) hl (Nat.le_of_ble_eq_true rfl) rfl ?_
  intro p e R s m args below meth c A Q hRf hRl hRc hRs E Fn hnm hex
  have hG := hI.1
  have hG0 := hG
  obtain ⟨hnr, hw, ht, hG4, hGS⟩ := hG
  have hnw := hw.1
  have hw20 := hw.2.1
  have hr10 := hw.2.2.1
  have hnt := ht.1
  have ht30 := ht.2.1
  have e1 : tn (row 1) = nw := by rw [hnw, tn_nI (by omega)]
  have e2 : tn (row 2) = nt := by rw [hnt, tn_nI (by omega)]
  have e3 : tn (row 3) = tm := by rw [htm, tn_nI (by omega)]
  refine gg_bipush (v := 12) (pc := 0) E dX5_does_0 (by decide) ?_
  refine gg_iload_n (pc := 2) E dX5_does_2 rfl rfl ?_
  refine gg_imulN (pc := 3) E 12 i rfl rfl dX5_does_3 ?_
  refine gg_istore_n (lv' := [_, _, _, _, _]) (pc := 4) E dX5_does_4 rfl (Nat.le_of_ble_eq_true rfl) rfl rfl ?_
  refine gg_aload_n (pc := 5) E dX5_does_5 rfl rfl ?_
  refine gg_get (pc := 6) E ck_X5 22 q2881 rfl (by decide) dX5_does_6 (gg_i 0 rfl) rfl ?_
  refine gg_iload_n (pc := 9) E dX5_does_9 rfl rfl ?_
  refine gg_iconst (v := 1) (pc := 10) E dX5_does_10 (by decide) ?_
  refine gg_iaddN (pc := 11) E (12 * i) 1 rfl rfl dX5_does_11 ?_
  refine gg_ialdN (pc := 12) E (12 * i + 1) rfl (by omega) (by omega) dX5_does_12 (gg_r 0 rfl) ?_
  refine gg_istore_n (lv' := [_, _, _, _, _]) (pc := 13) E dX5_does_13 rfl (Nat.le_of_ble_eq_true rfl) rfl rfl ?_
  refine gg_aload_n (pc := 14) E dX5_does_14 rfl rfl ?_
  refine gg_get (pc := 15) E ck_X5 22 q2881 rfl (by decide) dX5_does_15 (gg_i 0 rfl) rfl ?_
  refine gg_iload_n (pc := 18) E dX5_does_18 rfl rfl ?_
  refine gg_iconst (v := 2) (pc := 19) E dX5_does_19 (by decide) ?_
  refine gg_iaddN (pc := 20) E (12 * i) 2 rfl rfl dX5_does_20 ?_
  refine gg_ialdN (pc := 21) E (12 * i + 2) rfl (by omega) (by omega) dX5_does_21 (gg_r 0 rfl) ?_
  refine gg_istore (lv' := [_, _, _, _, _]) (pc := 22) E dX5_does_22 (Nat.le_of_ble_eq_true rfl) rfl rfl ?_
  refine gg_aload_n (pc := 24) E dX5_does_24 rfl rfl ?_
  refine gg_get (pc := 25) E ck_X5 22 q2881 rfl (by decide) dX5_does_25 (gg_i 0 rfl) rfl ?_
  refine gg_iload_n (pc := 28) E dX5_does_28 rfl rfl ?_
  refine gg_ialdN (pc := 29) E (12 * i) rfl (by omega) (by omega) dX5_does_29 (gg_r 0 rfl) ?_
  rcases hdv with ⟨hk, a1, c1, k1, ha, hc, hac, h1, h2, h3, hk1, hk8, hno⟩ | ⟨hk, a1, c1, k1, ha, hc, hac, h1, h2, h3, hk1, hk8, hno⟩ | ⟨hk, t1, ht1, ht2, h1⟩ | ⟨hk, a1, co, ha, hco, hc9, h1, h2⟩ | ⟨hk, a1, c1, ha, hc, hac, h1, h2⟩ | ⟨hk, u1, v1, hu4, hu6, h1, h2, hlo, hhi, hv60⟩
  · refine gg_topI (y := 0) hk ?_
    refine gg_tableIn (off := 34) (tgt := 64) (pc := 30) E dX5_does_30 (by decide) (by decide) rfl (by decide) ?_
    refine gg_aload_n (pc := 64) E dX5_does_64 rfl rfl ?_
    refine gg_get (pc := 65) E ck_X5 0 q2859 rfl (by decide) dX5_does_65 (gg_i 0 rfl) rfl ?_
    refine gg_iconst (v := 2) (pc := 68) E dX5_does_68 (by decide) ?_
    refine gg_ialdN (pc := 69) E 2 rfl (by omega) (by omega) dX5_does_69 (gg_i 1 rfl) ?_
    rw [hnt]
    refine gg_bipush (v := 30) (pc := 70) E dX5_does_70 (by decide) ?_
    refine gg_icmpN_ge (tgt := 87) (pc := 72) E nt 30 rfl rfl (by omega) (by omega) dX5_does_72 (by decide) (fun c72 => ?_) (fun c72 => ?_)
    · refine gg_iconst (v := 0) (pc := 87) E dX5_does_87 (by decide) ?_
      refine gg_iret (pc := 88) E Fn rfl (gg_nz (by first | decide | assumption | exact gg_b01 | (split <;> decide))) dX5_does_88 (by first | exact Nat.le_of_ble_eq_true rfl | (dsimp only; omega)) (by first | exact Nat.le_of_ble_eq_true rfl | (dsimp only; omega)) ?_
      unfold duN
      have hv : duV row D i = 0 := by
        unfold duV
        rw [if_pos (Or.inl hk), e2, if_neg (by omega)]
      rw [hv, if_pos rfl]
      exact ⟨x 11, sums, su, rfl, congrArg (fun z => [[(h, .inl (4, mo_f ad z))], [(ad 0, gg_ai g 1030 row)], [(ad 9, gg_ai g 10 sums)], [(ad 10, gg_ai g 8 su)]]) (mu_11 _)⟩
    · refine gg_aload_n (pc := 75) E dX5_does_75 rfl rfl ?_
      refine gg_iload_n (pc := 76) E dX5_does_76 rfl rfl ?_
      refine gg_callV (F := [_]) (As := [.int (nI (12 * i))]) (rest := []) (pc := 77) E ck_X5 (ct_X5_sendsDeed hl (h3) (hk8) (by omega) (hnt) (c72)) (cwV 1 E.2.2.2.2.1 (lw_V q3113 q3115 qs98 q179 q3116) rfl rfl rfl (by decide +kernel) ⟨by rw [hRf]; exact Nat.le_of_ble_eq_true rfl, by rw [hRl]; exact Nat.le_of_ble_eq_true rfl⟩) dX5_does_77 [0, 1, 3] (by decide) rfl rfl (List.forall_mem_cons.mpr ⟨(gg_r 0 rfl), (fun _ h => by cases h)⟩) (gg_i 0 rfl) rfl rfl (Nat.le_of_ble_eq_true rfl) (by first | (rw [hRc]; exact Nat.le_of_ble_eq_true rfl) | (rw [hRc]; dsimp only; omega)) (by first | (rw [hRs]; exact Nat.le_of_ble_eq_true rfl) | (rw [hRs]; dsimp only; omega)) ?_ (fun X q C1 h => h.elim)
      rintro _ _ ⟨rfl, rfl⟩
      dsimp only [List.cons_append, List.nil_append, Option.toList]
      refine gg_up2 ?_
      refine gg_up2 ?_
      refine gg_up3 ?_
      refine gg_ifN_lt (tgt := 87) (pc := 80) E nt rfl (by omega) dX5_does_80 (by decide) (fun c80 => ?_) (fun c80 => ?_)
      · exact c80.elim
      refine gg_iconst (v := 1) (pc := 83) E dX5_does_83 (by decide) ?_
      refine gg_goto (tgt := 88) (pc := 84) E dX5_does_84 (by decide) ?_
      refine gg_iret (pc := 88) E Fn rfl (gg_nz (by first | decide | assumption | exact gg_b01 | (split <;> decide))) dX5_does_88 (by first | exact Nat.le_of_ble_eq_true rfl | (dsimp only; omega)) (by first | exact Nat.le_of_ble_eq_true rfl | (dsimp only; omega)) ?_
      unfold duN
      have hv : duV row D i = 1 := by
        unfold duV
        rw [if_pos (Or.inl hk), e2, if_pos c72]
      rw [hv, if_neg (show ¬ (1:Int32) = 0 by decide)]
      have hr : duR row nr D i = ntu row nt k1 (fun j => D (12 * i + 4 + j)) (D (12 * i + 1)) (D (12 * i + 2)) 0 (if D (12 * i) = 1 then 1 else 0) := by
        unfold duR
        rw [if_pos (Or.inl hk), e2, h3, tn_nI (j := k1) (by omega)]
      rw [hr]
      refine ⟨nI k1, sums, ub su 0 k1 (fun j => D (12 * i + 4 + j)), rfl, ?_⟩
      rfl
  · refine gg_topI (y := 1) hk ?_
    refine gg_tableIn (off := 34) (tgt := 64) (pc := 30) E dX5_does_30 (by decide) (by decide) rfl (by decide) ?_
    refine gg_aload_n (pc := 64) E dX5_does_64 rfl rfl ?_
    refine gg_get (pc := 65) E ck_X5 0 q2859 rfl (by decide) dX5_does_65 (gg_i 0 rfl) rfl ?_
    refine gg_iconst (v := 2) (pc := 68) E dX5_does_68 (by decide) ?_
    refine gg_ialdN (pc := 69) E 2 rfl (by omega) (by omega) dX5_does_69 (gg_i 1 rfl) ?_
    rw [hnt]
    refine gg_bipush (v := 30) (pc := 70) E dX5_does_70 (by decide) ?_
    refine gg_icmpN_ge (tgt := 87) (pc := 72) E nt 30 rfl rfl (by omega) (by omega) dX5_does_72 (by decide) (fun c72 => ?_) (fun c72 => ?_)
    · refine gg_iconst (v := 0) (pc := 87) E dX5_does_87 (by decide) ?_
      refine gg_iret (pc := 88) E Fn rfl (gg_nz (by first | decide | assumption | exact gg_b01 | (split <;> decide))) dX5_does_88 (by first | exact Nat.le_of_ble_eq_true rfl | (dsimp only; omega)) (by first | exact Nat.le_of_ble_eq_true rfl | (dsimp only; omega)) ?_
      unfold duN
      have hv : duV row D i = 0 := by
        unfold duV
        rw [if_pos (Or.inr hk), e2, if_neg (by omega)]
      rw [hv, if_pos rfl]
      exact ⟨x 11, sums, su, rfl, congrArg (fun z => [[(h, .inl (4, mo_f ad z))], [(ad 0, gg_ai g 1030 row)], [(ad 9, gg_ai g 10 sums)], [(ad 10, gg_ai g 8 su)]]) (mu_11 _)⟩
    · refine gg_aload_n (pc := 75) E dX5_does_75 rfl rfl ?_
      refine gg_iload_n (pc := 76) E dX5_does_76 rfl rfl ?_
      refine gg_callV (F := [_]) (As := [.int (nI (12 * i))]) (rest := []) (pc := 77) E ck_X5 (ct_X5_sendsDeed hl (h3) (hk8) (by omega) (hnt) (c72)) (cwV 1 E.2.2.2.2.1 (lw_V q3113 q3115 qs98 q179 q3116) rfl rfl rfl (by decide +kernel) ⟨by rw [hRf]; exact Nat.le_of_ble_eq_true rfl, by rw [hRl]; exact Nat.le_of_ble_eq_true rfl⟩) dX5_does_77 [0, 1, 3] (by decide) rfl rfl (List.forall_mem_cons.mpr ⟨(gg_r 0 rfl), (fun _ h => by cases h)⟩) (gg_i 0 rfl) rfl rfl (Nat.le_of_ble_eq_true rfl) (by first | (rw [hRc]; exact Nat.le_of_ble_eq_true rfl) | (rw [hRc]; dsimp only; omega)) (by first | (rw [hRs]; exact Nat.le_of_ble_eq_true rfl) | (rw [hRs]; dsimp only; omega)) ?_ (fun X q C1 h => h.elim)
      rintro _ _ ⟨rfl, rfl⟩
      dsimp only [List.cons_append, List.nil_append, Option.toList]
      refine gg_up2 ?_
      refine gg_up2 ?_
      refine gg_up3 ?_
      refine gg_ifN_lt (tgt := 87) (pc := 80) E nt rfl (by omega) dX5_does_80 (by decide) (fun c80 => ?_) (fun c80 => ?_)
      · exact c80.elim
      refine gg_iconst (v := 1) (pc := 83) E dX5_does_83 (by decide) ?_
      refine gg_goto (tgt := 88) (pc := 84) E dX5_does_84 (by decide) ?_
      refine gg_iret (pc := 88) E Fn rfl (gg_nz (by first | decide | assumption | exact gg_b01 | (split <;> decide))) dX5_does_88 (by first | exact Nat.le_of_ble_eq_true rfl | (dsimp only; omega)) (by first | exact Nat.le_of_ble_eq_true rfl | (dsimp only; omega)) ?_
      unfold duN
      have hv : duV row D i = 1 := by
        unfold duV
        rw [if_pos (Or.inr hk), e2, if_pos c72]
      rw [hv, if_neg (show ¬ (1:Int32) = 0 by decide)]
      have hr : duR row nr D i = ntu row nt k1 (fun j => D (12 * i + 4 + j)) (D (12 * i + 1)) (D (12 * i + 2)) 0 (if D (12 * i) = 1 then 1 else 0) := by
        unfold duR
        rw [if_pos (Or.inr hk), e2, h3, tn_nI (j := k1) (by omega)]
      rw [hr]
      refine ⟨nI k1, sums, ub su 0 k1 (fun j => D (12 * i + 4 + j)), rfl, ?_⟩
      rfl
  · refine gg_topI (y := 2) hk ?_
    refine gg_tableIn (off := 59) (tgt := 89) (pc := 30) E dX5_does_30 (by decide) (by decide) rfl (by decide) ?_
    refine gg_aload_n (pc := 89) E dX5_does_89 rfl rfl ?_
    refine gg_get (pc := 90) E ck_X5 0 q2859 rfl (by decide) dX5_does_90 (gg_i 0 rfl) rfl ?_
    refine gg_iconst (v := 3) (pc := 93) E dX5_does_93 (by decide) ?_
    refine gg_ialdN (pc := 94) E 3 rfl (by omega) (by omega) dX5_does_94 (gg_i 1 rfl) ?_
    rw [htm]
    refine gg_iload_n (pc := 95) E dX5_does_95 rfl rfl ?_
    refine gg_topI (y := nI t1) h1 ?_
    refine gg_iaddN (pc := 96) E tm t1 rfl rfl dX5_does_96 ?_
    refine gg_sipush (v := 9999) (pc := 97) E dX5_does_97 (by decide) ?_
    refine gg_icmpN_gt (tgt := 115) (pc := 100) E (tm + t1) 9999 rfl rfl (by omega) (by omega) dX5_does_100 (by decide) (fun c100 => ?_) (fun c100 => ?_)
    · refine gg_iconst (v := 0) (pc := 115) E dX5_does_115 (by decide) ?_
      refine gg_iret (pc := 116) E Fn rfl (gg_nz (by first | decide | assumption | exact gg_b01 | (split <;> decide))) dX5_does_116 (by first | exact Nat.le_of_ble_eq_true rfl | (dsimp only; omega)) (by first | exact Nat.le_of_ble_eq_true rfl | (dsimp only; omega)) ?_
      unfold duN
      have hv : duV row D i = 0 := by
        unfold duV
        rw [if_neg (show ¬ (D (12 * i) = 0 ∨ D (12 * i) = 1) from fun q => q.elim (fun z => absurd (hk.symm.trans z) (by decide)) (fun z => absurd (hk.symm.trans z) (by decide))), if_pos hk, e3, h1, tn_nI (j := t1) (by omega), if_neg (by omega)]
      rw [hv, if_pos rfl]
      exact ⟨x 11, sums, su, rfl, congrArg (fun z => [[(h, .inl (4, mo_f ad z))], [(ad 0, gg_ai g 1030 row)], [(ad 9, gg_ai g 10 sums)], [(ad 10, gg_ai g 8 su)]]) (mu_11 _)⟩
    · refine gg_aload_n (pc := 103) E dX5_does_103 rfl rfl ?_
      refine gg_iload_n (pc := 104) E dX5_does_104 rfl rfl ?_
      refine gg_topI (y := nI t1) h1 ?_
      refine gg_callV (F := []) (As := [.int (nI t1)]) (rest := []) (pc := 105) E ck_X5 (ct_X5_goes hl (hG0) (htm) (by omega)) (cwV 1 E.2.2.2.2.1 (lw_V q3135 q3137 qs102 q179 q3138) rfl rfl rfl (by decide +kernel) ⟨by rw [hRf]; exact Nat.le_of_ble_eq_true rfl, by rw [hRl]; exact Nat.le_of_ble_eq_true rfl⟩) dX5_does_105 [0, 1, 2, 3] (by decide) rfl rfl (fun _ h => by cases h) (gg_i 0 rfl) rfl rfl (Nat.le_of_ble_eq_true rfl) (by first | (rw [hRc]; exact Nat.le_of_ble_eq_true rfl) | (rw [hRc]; dsimp only; omega)) (by first | (rw [hRs]; exact Nat.le_of_ble_eq_true rfl) | (rw [hRs]; dsimp only; omega)) ?_ (fun X q C1 h => h.elim)
      rintro _ _ ⟨z1, S1, U1, rfl, rfl⟩
      dsimp only [List.cons_append, List.nil_append, Option.toList]
      refine gg_up3 ?_
      refine gg_up3 ?_
      refine gg_up3 ?_
      refine gg_up3 ?_
      refine gg_if_lt (tgt := 115) (pc := 108) E dX5_does_108 (by decide) (fun c108 => ?_) (fun c108 => ?_)
      · exact absurd c108 (go_n15 hG0 htm (by omega) (by omega))
      refine gg_iconst (v := 1) (pc := 111) E dX5_does_111 (by decide) ?_
      refine gg_goto (tgt := 116) (pc := 112) E dX5_does_112 (by decide) ?_
      refine gg_iret (pc := 116) E Fn rfl (gg_nz (by first | decide | assumption | exact gg_b01 | (split <;> decide))) dX5_does_116 (by first | exact Nat.le_of_ble_eq_true rfl | (dsimp only; omega)) (by first | exact Nat.le_of_ble_eq_true rfl | (dsimp only; omega)) ?_
      unfold duN
      have hv : duV row D i = 1 := by
        unfold duV
        rw [if_neg (show ¬ (D (12 * i) = 0 ∨ D (12 * i) = 1) from fun q => q.elim (fun z => absurd (hk.symm.trans z) (by decide)) (fun z => absurd (hk.symm.trans z) (by decide))), if_pos hk, e3, h1, tn_nI (j := t1) (by omega), if_pos c100]
      rw [hv, if_neg (show ¬ (1:Int32) = 0 by decide)]
      have hr : duR row nr D i = goF row nr nw t1 := by
        unfold duR
        rw [if_neg (show ¬ (D (12 * i) = 0 ∨ D (12 * i) = 1) from fun q => q.elim (fun z => absurd (hk.symm.trans z) (by decide)) (fun z => absurd (hk.symm.trans z) (by decide))), if_pos hk, e1, h1, tn_nI (j := t1) (by omega)]
      rw [hr]
      exact ⟨z1, S1, U1, rfl, rfl⟩
  · refine gg_topI (y := 3) hk ?_
    refine gg_tableIn (off := 87) (tgt := 117) (pc := 30) E dX5_does_30 (by decide) (by decide) rfl (by decide) ?_
    refine gg_aload_n (pc := 117) E dX5_does_117 rfl rfl ?_
    refine gg_get (pc := 118) E ck_X5 0 q2859 rfl (by decide) dX5_does_118 (gg_i 0 rfl) rfl ?_
    refine gg_iload_n (pc := 121) E dX5_does_121 rfl rfl ?_
    refine gg_topI (y := nI a1) h1 ?_
    refine gg_callS (F := [_, _, _, _]) (As := [.int (nI a1)]) (rest := [_]) (pc := 122) E (ct_X5_r hl ) (va_cwS 1 E.2.2.2.2.1 (lw_S q2849 q2850 q179 q2851) rfl rfl rfl (by decide +kernel) ⟨by rw [hRf]; exact Nat.le_of_ble_eq_true rfl, by rw [hRl]; exact Nat.le_of_ble_eq_true rfl⟩) dX5_does_122 [] (by decide) rfl rfl (fun _ h => by cases h) rfl rfl (Nat.le_of_ble_eq_true rfl) (by first | (rw [hRc]; exact Nat.le_of_ble_eq_true rfl) | (rw [hRc]; dsimp only; omega)) (by first | (rw [hRs]; exact Nat.le_of_ble_eq_true rfl) | (rw [hRs]; dsimp only; omega)) ?_ (fun X q C1 h => h.elim)
    rintro _ _ ⟨rfl, rfl⟩
    dsimp only [List.cons_append, List.nil_append, Option.toList]
    refine gg_bipush (v := 10) (pc := 125) E dX5_does_125 (by decide) ?_
    refine gg_iaddN (pc := 127) E (25 + 13 * a1) 10 rfl rfl dX5_does_127 ?_
    refine gg_ialdN (pc := 128) E ((25 + 13 * a1) + 10) rfl (by omega) (by omega) dX5_does_128 (gg_i 1 rfl) ?_
    refine gg_iload (pc := 129) E dX5_does_129 rfl ?_
    refine gg_iadd (pc := 131) E dX5_does_131 ?_
    refine gg_sipush (v := 9999) (pc := 132) E dX5_does_132 (by decide) ?_
    refine gg_icmp_gt (tgt := 152) (pc := 135) E dX5_does_135 (by decide) (fun c135 => ?_) (fun c135 => ?_)
    · refine gg_iconst (v := 0) (pc := 152) E dX5_does_152 (by decide) ?_
      refine gg_iret (pc := 153) E Fn rfl (gg_nz (by first | decide | assumption | exact gg_b01 | (split <;> decide))) dX5_does_153 (by first | exact Nat.le_of_ble_eq_true rfl | (dsimp only; omega)) (by first | exact Nat.le_of_ble_eq_true rfl | (dsimp only; omega)) ?_
      unfold duN
      have hv : duV row D i = 0 := by
        unfold duV
        rw [if_neg (show ¬ (D (12 * i) = 0 ∨ D (12 * i) = 1) from fun q => q.elim (fun z => absurd (hk.symm.trans z) (by decide)) (fun z => absurd (hk.symm.trans z) (by decide))), if_neg (show ¬ D (12 * i) = 2 from fun q => absurd (hk.symm.trans q) (by decide)), if_pos hk, h1, tn_nI (j := a1) (by omega), if_neg (Int32.not_le.mpr c135)]
      rw [hv, if_pos rfl]
      exact ⟨x 11, sums, su, rfl, congrArg (fun z => [[(h, .inl (4, mo_f ad z))], [(ad 0, gg_ai g 1030 row)], [(ad 9, gg_ai g 10 sums)], [(ad 10, gg_ai g 8 su)]]) (mu_11 _)⟩
    · refine gg_aload_n (pc := 138) E dX5_does_138 rfl rfl ?_
      refine gg_iload_n (pc := 139) E dX5_does_139 rfl rfl ?_
      refine gg_topI (y := nI a1) h1 ?_
      refine gg_iload (pc := 140) E dX5_does_140 rfl ?_
      refine gg_callV (F := [_, _, _]) (As := [.int (nI a1), _]) (rest := []) (pc := 142) E ck_X5 (ct_X5_givesCoins hl (by omega)) (cwV 2 E.2.2.2.2.1 (lw_V q3224 q3226 qs124 q179 q3227) rfl rfl rfl (by decide +kernel) ⟨by rw [hRf]; exact Nat.le_of_ble_eq_true rfl, by rw [hRl]; exact Nat.le_of_ble_eq_true rfl⟩) dX5_does_142 [1] (by decide) rfl rfl (List.forall_mem_cons.mpr ⟨(gg_i 0 rfl), (fun _ h => by cases h)⟩) (gg_i 0 rfl) rfl rfl (Nat.le_of_ble_eq_true rfl) (by first | (rw [hRc]; exact Nat.le_of_ble_eq_true rfl) | (rw [hRc]; dsimp only; omega)) (by first | (rw [hRs]; exact Nat.le_of_ble_eq_true rfl) | (rw [hRs]; dsimp only; omega)) ?_ (fun X q C1 h => h.elim)
      rintro _ _ ⟨rfl, rfl⟩
      dsimp only [List.cons_append, List.nil_append, Option.toList]
      refine gg_up1 ?_
      refine gg_if_le (tgt := 152) (pc := 145) E dX5_does_145 (by decide) (fun c145 => ?_) (fun c145 => ?_)
      · exact absurd c145 (gc_pos hI hN ha h2 hco hc9)
      refine gg_iconst (v := 1) (pc := 148) E dX5_does_148 (by decide) ?_
      refine gg_goto (tgt := 153) (pc := 149) E dX5_does_149 (by decide) ?_
      refine gg_iret (pc := 153) E Fn rfl (gg_nz (by first | decide | assumption | exact gg_b01 | (split <;> decide))) dX5_does_153 (by first | exact Nat.le_of_ble_eq_true rfl | (dsimp only; omega)) (by first | exact Nat.le_of_ble_eq_true rfl | (dsimp only; omega)) ?_
      unfold duN
      have hv : duV row D i = 1 := by
        unfold duV
        rw [if_neg (show ¬ (D (12 * i) = 0 ∨ D (12 * i) = 1) from fun q => q.elim (fun z => absurd (hk.symm.trans z) (by decide)) (fun z => absurd (hk.symm.trans z) (by decide))), if_neg (show ¬ D (12 * i) = 2 from fun q => absurd (hk.symm.trans q) (by decide)), if_pos hk, h1, tn_nI (j := a1) (by omega), if_pos (Int32.not_lt.mp c135)]
      rw [hv, if_neg (show ¬ (1:Int32) = 0 by decide)]
      have hr : duR row nr D i = gcF row a1 (D (12 * i + 2)) := by
        unfold duR
        rw [if_neg (show ¬ (D (12 * i) = 0 ∨ D (12 * i) = 1) from fun q => q.elim (fun z => absurd (hk.symm.trans z) (by decide)) (fun z => absurd (hk.symm.trans z) (by decide))), if_neg (show ¬ D (12 * i) = 2 from fun q => absurd (hk.symm.trans q) (by decide)), if_pos hk, h1, tn_nI (j := a1) (by omega)]
      rw [hr]
      exact ⟨x 11, sums, su, rfl, by rw [← mu_11 x]⟩
  · refine gg_topI (y := 4) hk ?_
    refine gg_tableIn (off := 124) (tgt := 154) (pc := 30) E dX5_does_30 (by decide) (by decide) rfl (by decide) ?_
    refine gg_aload_n (pc := 154) E dX5_does_154 rfl rfl ?_
    refine gg_iload_n (pc := 155) E dX5_does_155 rfl rfl ?_
    refine gg_iload (pc := 156) E dX5_does_156 rfl ?_
    refine gg_callV (F := [_, _, _, _]) (As := [_, _]) (rest := []) (pc := 158) E ck_X5 (ct_X5_wayBetween hl (hnw) (hw20)) (cwV 2 E.2.2.2.2.1 (lw_V q3047 q3049 qs86 q179 q3050) rfl rfl rfl (by decide +kernel) ⟨by rw [hRf]; exact Nat.le_of_ble_eq_true rfl, by rw [hRl]; exact Nat.le_of_ble_eq_true rfl⟩) dX5_does_158 [] (by decide) rfl rfl (List.forall_mem_cons.mpr ⟨(gg_i 0 rfl), (List.forall_mem_cons.mpr ⟨(gg_i 1 rfl), (fun _ h => by cases h)⟩)⟩) (gg_i 0 rfl) rfl rfl (Nat.le_of_ble_eq_true rfl) (by first | (rw [hRc]; exact Nat.le_of_ble_eq_true rfl) | (rw [hRc]; dsimp only; omega)) (by first | (rw [hRs]; exact Nat.le_of_ble_eq_true rfl) | (rw [hRs]; dsimp only; omega)) ?_ (fun X q C1 h => h.elim)
    rintro _ _ ⟨rfl, rfl⟩
    dsimp only [List.cons_append, List.nil_append, Option.toList]
    refine gg_iconst (v := (-1)) (pc := 161) E dX5_does_161 (by decide) ?_
    refine gg_icmp_eq (tgt := 183) (pc := 162) E dX5_does_162 (by decide) (fun c162 => ?_) (fun c162 => ?_)
    · refine gg_iconst (v := 0) (pc := 183) E dX5_does_183 (by decide) ?_
      refine gg_iret (pc := 184) E Fn rfl (gg_nz (by first | decide | assumption | exact gg_b01 | (split <;> decide))) dX5_does_184 (by first | exact Nat.le_of_ble_eq_true rfl | (dsimp only; omega)) (by first | exact Nat.le_of_ble_eq_true rfl | (dsimp only; omega)) ?_
      unfold duN
      have hv : duV row D i = 0 := by
        unfold duV
        rw [if_neg (show ¬ (D (12 * i) = 0 ∨ D (12 * i) = 1) from fun q => q.elim (fun z => absurd (hk.symm.trans z) (by decide)) (fun z => absurd (hk.symm.trans z) (by decide))), if_neg (show ¬ D (12 * i) = 2 from fun q => absurd (hk.symm.trans q) (by decide)), if_neg (show ¬ D (12 * i) = 3 from fun q => absurd (hk.symm.trans q) (by decide)), if_pos hk, e1, if_neg (fun q : ¬ wyI row nw (D (12 * i + 1)) (D (12 * i + 2)) = -1 => q c162)]
      rw [hv, if_pos rfl]
      exact ⟨x 11, sums, su, rfl, congrArg (fun z => [[(h, .inl (4, mo_f ad z))], [(ad 0, gg_ai g 1030 row)], [(ad 9, gg_ai g 10 sums)], [(ad 10, gg_ai g 8 su)]]) (mu_11 _)⟩
    · obtain ⟨i1, hi1, hie⟩ := wyI_nat (row := row) (nw := nw) (show ¬ wyI row nw (D (12 * i + 1)) (D (12 * i + 2)) = -1 from c162)
      refine gg_aload_n (pc := 165) E dX5_does_165 rfl rfl ?_
      refine gg_aload_n (pc := 166) E dX5_does_166 rfl rfl ?_
      refine gg_iload_n (pc := 167) E dX5_does_167 rfl rfl ?_
      refine gg_iload (pc := 168) E dX5_does_168 rfl ?_
      refine gg_callV (F := [_, _, _, _]) (As := [_, _]) (rest := [_]) (pc := 170) E ck_X5 (ct_X5_wayBetween hl (hnw) (hw20)) (cwV 2 E.2.2.2.2.1 (lw_V q3047 q3049 qs86 q179 q3050) rfl rfl rfl (by decide +kernel) ⟨by rw [hRf]; exact Nat.le_of_ble_eq_true rfl, by rw [hRl]; exact Nat.le_of_ble_eq_true rfl⟩) dX5_does_170 [] (by decide) rfl rfl (List.forall_mem_cons.mpr ⟨(gg_i 0 rfl), (List.forall_mem_cons.mpr ⟨(gg_i 1 rfl), (fun _ h => by cases h)⟩)⟩) (gg_i 0 rfl) rfl rfl (Nat.le_of_ble_eq_true rfl) (by first | (rw [hRc]; exact Nat.le_of_ble_eq_true rfl) | (rw [hRc]; dsimp only; omega)) (by first | (rw [hRs]; exact Nat.le_of_ble_eq_true rfl) | (rw [hRs]; dsimp only; omega)) ?_ (fun X q C1 h => h.elim)
      rintro _ _ ⟨rfl, rfl⟩
      dsimp only [List.cons_append, List.nil_append, Option.toList]
      refine gg_topI (y := nI i1) hie ?_
      refine gg_callV (F := [_, _, _]) (As := [.int (nI i1)]) (rest := []) (pc := 173) E ck_X5 (ct_X5_cuts hl (hnw) (hw20) (hi1)) (cwV 1 E.2.2.2.2.1 (lw_V q3228 q3230 qs125 q179 q3231) rfl rfl rfl (by decide +kernel) ⟨by rw [hRf]; exact Nat.le_of_ble_eq_true rfl, by rw [hRl]; exact Nat.le_of_ble_eq_true rfl⟩) dX5_does_173 [1] (by decide) rfl rfl (List.forall_mem_cons.mpr ⟨(gg_i 0 rfl), (fun _ h => by cases h)⟩) (gg_i 0 rfl) rfl rfl (Nat.le_of_ble_eq_true rfl) (by first | (rw [hRc]; exact Nat.le_of_ble_eq_true rfl) | (rw [hRc]; dsimp only; omega)) (by first | (rw [hRs]; exact Nat.le_of_ble_eq_true rfl) | (rw [hRs]; dsimp only; omega)) ?_ (fun X q C1 h => h.elim)
      rintro _ _ ⟨rfl, rfl⟩
      dsimp only [List.cons_append, List.nil_append, Option.toList]
      refine gg_up1 ?_
      refine gg_ifB_lt (pc := 176) E dX5_does_176 dX5_does_179 dX5_does_180 dX5_does_183 ?_
      refine gg_iret (pc := 184) E Fn rfl (gg_nz (by first | decide | assumption | exact gg_b01 | (split <;> decide))) dX5_does_184 (by first | exact Nat.le_of_ble_eq_true rfl | (dsimp only; omega)) (by first | exact Nat.le_of_ble_eq_true rfl | (dsimp only; omega)) ?_
      unfold duN
      have hv : duV row D i = 1 := by
        unfold duV
        rw [if_neg (show ¬ (D (12 * i) = 0 ∨ D (12 * i) = 1) from fun q => q.elim (fun z => absurd (hk.symm.trans z) (by decide)) (fun z => absurd (hk.symm.trans z) (by decide))), if_neg (show ¬ D (12 * i) = 2 from fun q => absurd (hk.symm.trans q) (by decide)), if_neg (show ¬ D (12 * i) = 3 from fun q => absurd (hk.symm.trans q) (by decide)), if_pos hk, e1, if_pos (show ¬ wyI row nw (D (12 * i + 1)) (D (12 * i + 2)) = -1 from c162)]
      rw [hv, if_neg (show ¬ (1:Int32) = 0 by decide)]
      have hr : duR row nr D i = cuF row nw i1 := by
        unfold duR
        rw [if_neg (show ¬ (D (12 * i) = 0 ∨ D (12 * i) = 1) from fun q => q.elim (fun z => absurd (hk.symm.trans z) (by decide)) (fun z => absurd (hk.symm.trans z) (by decide))), if_neg (show ¬ D (12 * i) = 2 from fun q => absurd (hk.symm.trans q) (by decide)), if_neg (show ¬ D (12 * i) = 3 from fun q => absurd (hk.symm.trans q) (by decide)), if_pos hk, e1]; rw [show wyI row nw (D (12 * i + 1)) (D (12 * i + 2)) = nI i1 from hie, nI_clamp (by omega)]
      rw [hr, if_pos (show ¬ nI (nw - 1) < 0 from fun q => Nat.not_lt_zero _ ((nI_ltI (b := 0) (by omega) (by decide)).mp q))]
      exact ⟨x 11, sums, su, rfl, by rw [← mu_11 x]⟩
  · refine gg_topI (y := 5) hk ?_
    refine gg_tableOut (tgt := 185) (pc := 30) E dX5_does_30 (by decide) (by decide) ?_
    refine gg_aload_n (pc := 185) E dX5_does_185 rfl rfl ?_
    refine gg_iload_n (pc := 186) E dX5_does_186 rfl rfl ?_
    refine gg_topI (y := nI u1) h1 ?_
    refine gg_iload (pc := 187) E dX5_does_187 rfl ?_
    refine gg_callV (F := [_, _, _]) (As := [.int (nI u1), _]) (rest := []) (pc := 189) E ck_X5 (ct_X5_sets hl (by omega)) (cwV 2 E.2.2.2.2.1 (lw_V q3232 q3234 qs126 q179 q3235) rfl rfl rfl (by decide +kernel) ⟨by rw [hRf]; exact Nat.le_of_ble_eq_true rfl, by rw [hRl]; exact Nat.le_of_ble_eq_true rfl⟩) dX5_does_189 [1] (by decide) rfl rfl (List.forall_mem_cons.mpr ⟨(gg_i 0 rfl), (fun _ h => by cases h)⟩) (gg_i 0 rfl) rfl rfl (Nat.le_of_ble_eq_true rfl) (by first | (rw [hRc]; exact Nat.le_of_ble_eq_true rfl) | (rw [hRc]; dsimp only; omega)) (by first | (rw [hRs]; exact Nat.le_of_ble_eq_true rfl) | (rw [hRs]; dsimp only; omega)) ?_ (fun X q C1 h => h.elim)
    rintro _ _ ⟨rfl, rfl⟩
    dsimp only [List.cons_append, List.nil_append, Option.toList]
    refine gg_up1 ?_
    refine gg_if_lt (tgt := 199) (pc := 192) E dX5_does_192 (by decide) (fun c192 => ?_) (fun c192 => ?_)
    · exact absurd c192 (sg_pos hI hu4 hu6)
    refine gg_iconst (v := 1) (pc := 195) E dX5_does_195 (by decide) ?_
    refine gg_goto (tgt := 200) (pc := 196) E dX5_does_196 (by decide) ?_
    refine gg_iret (pc := 200) E Fn rfl (gg_nz (by first | decide | assumption | exact gg_b01 | (split <;> decide))) dX5_does_200 (by first | exact Nat.le_of_ble_eq_true rfl | (dsimp only; omega)) (by first | exact Nat.le_of_ble_eq_true rfl | (dsimp only; omega)) ?_
    unfold duN
    have hv : duV row D i = 1 := by
      unfold duV
      rw [if_neg (show ¬ (D (12 * i) = 0 ∨ D (12 * i) = 1) from fun q => q.elim (fun z => absurd (hk.symm.trans z) (by decide)) (fun z => absurd (hk.symm.trans z) (by decide))), if_neg (show ¬ D (12 * i) = 2 from fun q => absurd (hk.symm.trans q) (by decide)), if_neg (show ¬ D (12 * i) = 3 from fun q => absurd (hk.symm.trans q) (by decide)), if_neg (show ¬ D (12 * i) = 4 from fun q => absurd (hk.symm.trans q) (by decide))]
    rw [hv, if_neg (show ¬ (1:Int32) = 0 by decide)]
    have hr : duR row nr D i = upd row u1 (D (12 * i + 2)) := by
      unfold duR
      rw [if_neg (show ¬ (D (12 * i) = 0 ∨ D (12 * i) = 1) from fun q => q.elim (fun z => absurd (hk.symm.trans z) (by decide)) (fun z => absurd (hk.symm.trans z) (by decide))), if_neg (show ¬ D (12 * i) = 2 from fun q => absurd (hk.symm.trans q) (by decide)), if_neg (show ¬ D (12 * i) = 3 from fun q => absurd (hk.symm.trans q) (by decide)), if_neg (show ¬ D (12 * i) = 4 from fun q => absurd (hk.symm.trans q) (by decide)), h1, tn_nI (j := u1) (by omega)]
    rw [hr]
    exact ⟨x 11, sums, su, rfl, by rw [← mu_11 x]⟩
set_option maxHeartbeats 4000000 in
theorem ct_X5_playScript {l : Launch} (hl : l.stackTraces = false) {g : gg_G}  {h : Nat} {ad : Nat → Nat} {x : Nat → Int32} {row : Nat → Int32} {past : Nat → Int32} {b sp D : Nat → Int32} {sums : Nat → Int32}  {su : Nat → Int32} {bn pm tm N : Nat} {nr nw nt : Nat} (hI : Iv row nr nw nt N) (htm : row 3 = nI tm) (htm9 : tm ≤ 9999) (hN : N + 3000 ≤ 77777777) (hx : x 13 = nI bn) (hb8 : bn ≤ 800) (hpm : x 4 = nI pm) (hp8 : pm ≤ 8) : gg_C l g yX5_playScript (ws_ yX5_playScript cX5_playScript 2 (some .int)) { frames := 10, cells := 0, slots := 0, locals := 233 } [.ref h] [((ad 12), gg_ab g 800 b)] [[(h, .inl (4, mo_f ad x))], [((ad 0), gg_ai g 1030 row)], [((ad 3), gg_ai g 8240 past)], [((ad 7), gg_ai g 6 sp)], [((ad 9), gg_ai g 10 sums)], [((ad 10), gg_ai g 8 su)], [((ad 22), gg_ai g 360 D)]] (fun vv CC => ∃ (z : Int32) (S U : Nat → Int32), vv = some (.int (plV row nr b bn x sp D)) ∧ CC = [[(h, .inl (4, mo_f ad (upd (plX row nr b bn x sp D pm) 11 z)))], [((ad 0), gg_ai g 1030 (plR row nr b bn x sp D))], [((ad 3), gg_ai g 8240 (plP past row nr b bn x sp D pm))], [((ad 7), gg_ai g 6 ((plS row nr b bn x sp D).2.1))], [((ad 9), gg_ai g 10 S)], [((ad 10), gg_ai g 8 U)], [((ad 22), gg_ai g 360 ((plS row nr b bn x sp D).2.2))]]) gg_no := by
  refine gg_of (lv := [_, _]) (by decide) hl (Nat.le_of_ble_eq_true rfl) rfl ?_
  intro p e R s m args below meth c A Q hRf hRl hRc hRs E Fn hnm hex
  have hG := hI.1
  have hG0 := hG
  obtain ⟨hnr, hw, ht, hG4, hGS⟩ := hG
  have hnw := hw.1
  have hw20 := hw.2.1
  have hr10 := hw.2.2.1
  have hnt := ht.1
  have ht30 := ht.2.1
  have e1 : tn (row 1) = nw := by rw [hnw, tn_nI (by omega)]
  have e2 : tn (row 2) = nt := by rw [hnt, tn_nI (by omega)]
  have e3 : tn (row 3) = tm := by rw [htm, tn_nI (by omega)]
  refine gg_aload_n (pc := 0) E dX5_playScript_0 rfl rfl ?_
  refine gg_iconst (v := 0) (pc := 1) E dX5_playScript_1 (by decide) ?_
  refine gg_putM (M' := [_, _, _, _, _, _, _]) (pc := 2) E ck_X5 6 q2865 rfl (by decide) dX5_playScript_2 0 rfl rfl (rfl) rfl (Nat.le_of_ble_eq_true rfl) rfl rfl ?_
  refine gg_aload_n (pc := 5) E dX5_playScript_5 rfl rfl ?_
  refine gg_iconst (v := 0) (pc := 6) E dX5_playScript_6 (by decide) ?_
  refine gg_putM (M' := [_, _, _, _, _, _, _]) (pc := 7) E ck_X5 23 q2882 rfl (by decide) dX5_playScript_7 0 rfl rfl (rfl) rfl (Nat.le_of_ble_eq_true rfl) rfl rfl ?_
  refine gg_aload_n (pc := 10) E dX5_playScript_10 rfl rfl ?_
  refine gg_callV (F := [_, _, _, _, _, _]) (As := []) (rest := []) (pc := 11) E ck_X5 (ct_X5_starts hl ((pk_un (by omega)).trans ((pk_un (by omega)).trans hx)) (hb8)) (cwV 0 E.2.2.2.2.1 (lw_V q2980 q2982 qs71 q179 q2983) rfl rfl rfl (by decide +kernel) ⟨by rw [hRf]; exact Nat.le_of_ble_eq_true rfl, by rw [hRl]; exact Nat.le_of_ble_eq_true rfl⟩) dX5_playScript_11 [0] (by decide) rfl rfl (List.forall_mem_cons.mpr ⟨(gg_r 0 rfl), (fun _ h => by cases h)⟩) (gg_i 0 rfl) rfl rfl (Nat.le_of_ble_eq_true rfl) (by first | (rw [hRc]; exact Nat.le_of_ble_eq_true rfl) | (rw [hRc]; dsimp only; omega)) (by first | (rw [hRs]; exact Nat.le_of_ble_eq_true rfl) | (rw [hRs]; dsimp only; omega)) ?_ (fun X q C1 h => h.elim)
  rintro _ _ ⟨rfl, rfl⟩
  dsimp only [List.cons_append, List.nil_append, Option.toList]
  have L14 : ∀ (n : Nat) (k : Nat) (X S1 Y : Nat → Int32) (dm : Nat), (if X 20 = 0 then bn + 1 - tn (X 17) else 0) < n → (it (plF row nr b bn) k (pl0 b bn x sp D) = (X, S1, Y)) → (∀ j, j < k → goesC (it (plF row nr b bn) j (pl0 b bn x sp D))) → (Xi bn X) → (X 23 = nI dm) → (dm ≤ 30) → (X 20 = 0 → ∀ i, i < dm → Dv nr Y i) → gg_W p l e R s m args below meth c g A 2 Q 0 0 [[(h, .inl (4, mo_f ad X))], [((ad 0), gg_ai g 1030 row)], [((ad 3), gg_ai g 8240 past)], [((ad 7), gg_ai g 6 S1)], [((ad 9), gg_ai g 10 sums)], [((ad 10), gg_ai g 8 su)], [((ad 22), gg_ai g 360 Y)]] [some (.ref h), none] [] 14 := by
    intro n14
    induction n14 with
    | zero => intro k X S1 Y dm hmz; exact absurd hmz (Nat.not_lt_zero _)
    | succ n14 ih14 =>
      intro k X S1 Y dm hm14 hit hall hXX hdm hdm3 hdv
      refine gg_aload_n (pc := 14) E dX5_playScript_14 rfl rfl ?_
      refine gg_get (pc := 15) E ck_X5 20 q2879 rfl (by decide) dX5_playScript_15 (gg_i 0 rfl) rfl ?_
      refine gg_if_ne (tgt := 35) (pc := 18) E dX5_playScript_18 (by decide) (fun c18 => ?_) (fun c18 => ?_)
      · have hLD : plS row nr b bn x sp D = (X, S1, Y) := (LD_eq ⟨hall, by rw [hit]; exact fun q => c18 q.1⟩).trans hit
        have hX0 := hXX.2.2.2.2.2.2
        refine gg_aload_n (pc := 35) E dX5_playScript_35 rfl rfl ?_
        refine gg_callV (F := [_, _, _, _, _, _]) (As := []) (rest := []) (pc := 36) E ck_X5 (ct_X5_ending hl ) (cwV 0 E.2.2.2.2.1 (lw_V q3076 q3078 qs91 q179 q3079) rfl rfl rfl (by decide +kernel) ⟨by rw [hRf]; exact Nat.le_of_ble_eq_true rfl, by rw [hRl]; exact Nat.le_of_ble_eq_true rfl⟩) dX5_playScript_36 [0] (by decide) rfl rfl (fun _ h => by cases h) (gg_i 0 rfl) rfl rfl (Nat.le_of_ble_eq_true rfl) (by first | (rw [hRc]; exact Nat.le_of_ble_eq_true rfl) | (rw [hRc]; dsimp only; omega)) (by first | (rw [hRs]; exact Nat.le_of_ble_eq_true rfl) | (rw [hRs]; dsimp only; omega)) ?_ (fun X q C1 h => h.elim)
        rintro _ _ ⟨rfl, rfl⟩
        dsimp only [List.cons_append, List.nil_append, Option.toList]
        refine gg_aload_n (pc := 39) E dX5_playScript_39 rfl rfl ?_
        refine gg_get (pc := 40) E ck_X5 20 q2879 rfl (by decide) dX5_playScript_40 (gg_i 0 rfl) rfl ?_
        refine gg_if_le (tgt := 48) (pc := 43) E dX5_playScript_43 (by decide) (fun c43 => ?_) (fun c43 => ?_)
        · have hc : enX X 20 ≤ 0 := c43
          rw [en_20] at hc
          have hz : X 20 = 0 := z_of hX0 hc
          have hdva : ∀ i, i < dm → Dv nr Y i := hdv hz
          refine gg_aload_n (pc := 48) E dX5_playScript_48 rfl rfl ?_
          refine gg_callV (F := [_, _, _, _, _]) (As := []) (rest := []) (pc := 49) E ck_X5 (ct_X5_remembers hl ((plx_4 hit).trans hpm) (hp8)) (cwV 0 E.2.2.2.2.1 (lw_V q3105 q3107 qs96 q179 q3108) rfl rfl rfl (by decide +kernel) ⟨by rw [hRf]; exact Nat.le_of_ble_eq_true rfl, by rw [hRl]; exact Nat.le_of_ble_eq_true rfl⟩) dX5_playScript_49 [0, 2] (by decide) rfl rfl (List.forall_mem_cons.mpr ⟨(gg_i 0 rfl), (fun _ h => by cases h)⟩) (gg_i 0 rfl) rfl rfl (Nat.le_of_ble_eq_true rfl) (by first | (rw [hRc]; exact Nat.le_of_ble_eq_true rfl) | (rw [hRc]; dsimp only; omega)) (by first | (rw [hRs]; exact Nat.le_of_ble_eq_true rfl) | (rw [hRs]; dsimp only; omega)) ?_ (fun X q C1 h => h.elim)
          rintro _ _ ⟨rfl, rfl⟩
          dsimp only [List.cons_append, List.nil_append, Option.toList]
          refine gg_up1 ?_
          refine gg_up2 ?_
          refine gg_iconst (v := 0) (pc := 52) E dX5_playScript_52 (by decide) ?_
          refine gg_istore_n (lv' := [_, _]) (pc := 53) E dX5_playScript_53 rfl (Nat.le_of_ble_eq_true rfl) rfl rfl ?_
          have L54 : ∀ (n : Nat) (k : Nat) (Rr : Nat → Int32) (nw2 nt2 tm2 : Nat) (z : Int32) (S U : Nat → Int32), dm - k < n → (k ≤ dm) → (it (dF nr Y) k (row, 0) = (Rr, k)) → (∀ j, j < k → dC Y dm (it (dF nr Y) j (row, 0))) → (Iv Rr nr nw2 nt2 (N + 99 * k)) → (Rr 3 = nI tm2) → (tm2 ≤ 9999) → gg_W p l e R s m args below meth c g A 2 Q 0 0 [[(h, .inl (4, mo_f ad (upd (upd (enX X) 4 (nI (psn pm))) 11 z)))], [((ad 0), gg_ai g 1030 Rr)], [((ad 3), gg_ai g 8240 (pst past row pm))], [((ad 7), gg_ai g 6 S1)], [((ad 9), gg_ai g 10 S)], [((ad 10), gg_ai g 8 U)], [((ad 22), gg_ai g 360 Y)]] [some (.ref h), some (.int (nI k))] [] 54 := by
            intro n54
            induction n54 with
            | zero => intro k Rr nw2 nt2 tm2 z S U hmz; exact absurd hmz (Nat.not_lt_zero _)
            | succ n54 ih54 =>
              intro k Rr nw2 nt2 tm2 z S U hm54 hkd hit2 hall2 hI2 htm2 htm29
              refine gg_iload_n (pc := 54) E dX5_playScript_54 rfl rfl ?_
              refine gg_aload_n (pc := 55) E dX5_playScript_55 rfl rfl ?_
              refine gg_get (pc := 56) E ck_X5 23 q2882 rfl (by decide) dX5_playScript_56 (gg_i 0 rfl) rfl ?_
              refine gg_topI (y := nI dm) ((pk_un (by omega)).trans ((pk_un (by omega)).trans (enX_23.trans hdm))) ?_
              refine gg_icmpN_ge (tgt := 76) (pc := 59) E k dm rfl rfl (by omega) (by omega) dX5_playScript_59 (by decide) (fun c59 => ?_) (fun c59 => ?_)
              · refine gg_iload_n (pc := 76) E dX5_playScript_76 rfl rfl ?_
                refine gg_iret (pc := 77) E Fn rfl (rfl) dX5_playScript_77 (by first | exact Nat.le_of_ble_eq_true rfl | (dsimp only; omega)) (by first | exact Nat.le_of_ble_eq_true rfl | (dsimp only; omega)) ?_
                have hLDd : plD row nr Y dm = (Rr, k) := (LD_eq (k := k) ⟨hall2, by rw [hit2]; exact fun q => absurd q.1 (by show ¬ k < dm; omega)⟩).trans hit2
                have hz2 : (plS row nr b bn x sp D).1 20 = 0 := by rw [hLD]; exact hz
                have hdm2 : tn ((plS row nr b bn x sp D).1 23) = dm := by rw [hLD]; show tn (X 23) = dm; rw [hdm, tn_nI (by omega)]
                unfold plV plX plR plP
                rw [if_pos hz2, if_pos hz2, if_pos hz2, if_pos hz2, hdm2, hLD]
                rw [show plD row nr (X, S1, Y).2.2 dm = (Rr, k) from hLDd]
                exact ⟨z, S, U, rfl, rfl⟩
              · refine gg_aload_n (pc := 62) E dX5_playScript_62 rfl rfl ?_
                refine gg_iload_n (pc := 63) E dX5_playScript_63 rfl rfl ?_
                refine gg_callV (F := [_, _, _]) (As := [.int (nI k)]) (rest := []) (pc := 64) E ck_X5 (ct_X5_does (row := Rr) (N := N + 99 * k) (tm := tm2) (nr := nr) (nw := nw2) (nt := nt2) hl hI2 htm2 htm29 (hdva k c59) (by omega) (by omega)) (cwV 1 E.2.2.2.2.1 (lw_V q3109 q3111 qs97 q179 q3112) rfl rfl rfl (by decide +kernel) ⟨by rw [hRf]; exact Nat.le_of_ble_eq_true rfl, by rw [hRl]; exact Nat.le_of_ble_eq_true rfl⟩) dX5_playScript_64 [0, 1, 4, 5] (by decide) rfl rfl (List.forall_mem_cons.mpr ⟨(gg_i 2 rfl), (fun _ h => by cases h)⟩) (gg_i 0 rfl) rfl rfl (Nat.le_of_ble_eq_true rfl) (by first | (rw [hRc]; exact Nat.le_of_ble_eq_true rfl) | (rw [hRc]; dsimp only; omega)) (by first | (rw [hRs]; exact Nat.le_of_ble_eq_true rfl) | (rw [hRs]; dsimp only; omega)) ?_ (fun X q C1 h => h.elim)
                rintro _ _ ⟨z1, S3, U3, rfl, rfl⟩
                dsimp only [List.cons_append, List.nil_append, Option.toList]
                refine gg_up3 ?_
                refine gg_up3 ?_
                refine gg_up5 ?_
                refine gg_up5 ?_
                refine gg_if_eq (tgt := 76) (pc := 67) E dX5_playScript_67 (by decide) (fun c67 => ?_) (fun c67 => ?_)
                · refine gg_iload_n (pc := 76) E dX5_playScript_76 rfl rfl ?_
                  refine gg_iret (pc := 77) E Fn rfl (rfl) dX5_playScript_77 (by first | exact Nat.le_of_ble_eq_true rfl | (dsimp only; omega)) (by first | exact Nat.le_of_ble_eq_true rfl | (dsimp only; omega)) ?_
                  have hLDd : plD row nr Y dm = (Rr, k) := (LD_eq (k := k) ⟨hall2, by rw [hit2]; exact fun q => q.2 (c67)⟩).trans hit2
                  have hz2 : (plS row nr b bn x sp D).1 20 = 0 := by rw [hLD]; exact hz
                  have hdm2 : tn ((plS row nr b bn x sp D).1 23) = dm := by rw [hLD]; show tn (X 23) = dm; rw [hdm, tn_nI (by omega)]
                  unfold plV plX plR plP
                  rw [if_pos hz2, if_pos hz2, if_pos hz2, if_pos hz2, hdm2, hLD]
                  rw [show plD row nr (X, S1, Y).2.2 dm = (Rr, k) from hLDd]
                  refine ⟨z1, S3, U3, rfl, ?_⟩
                  rw [upd_2, show duN Rr nr Y k = Rr from if_pos c67]
                · refine gg_iincN (k := 1) (lv' := [_, _]) (pc := 70) E k dX5_playScript_70 rfl rfl rfl (Nat.le_of_ble_eq_true rfl) rfl rfl ?_
                  refine gg_goto (tgt := 54) (pc := 73) E dX5_playScript_73 (by decide) ?_
                  obtain ⟨nw3, nt3, tm3, hI3, htm3, htm39⟩ := du_I hI2 htm2 htm29 (hdva k c59) c67 (by omega)
                  refine gg_cv ?_ (gg_leS (gg_leS gg_le0)) rfl (by first | exact Nat.le_refl _ | (dsimp only; omega)) (by first | exact Nat.le_refl _ | (dsimp only; omega)) (ih54 (k + 1) (duN Rr nr Y k) nw3 nt3 tm3 z1 S3 U3 (by omega) (by omega) (by show dF nr Y (it (dF nr Y) k (row, 0)) = _; rw [hit2]; rfl) (all_s hall2 (by rw [hit2]; exact ⟨c59, c67⟩)) (hI3) (htm3) (htm39))
                  · rw [upd_2]
          refine gg_cv ?_ (gg_leS (gg_leS gg_le0)) rfl (by first | exact Nat.le_refl _ | (dsimp only; omega)) (by first | exact Nat.le_refl _ | (dsimp only; omega)) (L54 _ 0 row nw nt tm (enX X 11) sums su (Nat.lt_succ_self _) (Nat.zero_le _) (rfl) (fun j hj => absurd hj (Nat.not_lt_zero j)) (hI) (htm) (htm9))
          · rw [pl_m11]
        · refine gg_iconst (v := (-1)) (pc := 46) E dX5_playScript_46 (by decide) ?_
          refine gg_iret (pc := 47) E Fn rfl (rfl) dX5_playScript_47 (by first | exact Nat.le_of_ble_eq_true rfl | (dsimp only; omega)) (by first | exact Nat.le_of_ble_eq_true rfl | (dsimp only; omega)) ?_
          have hc : ¬ enX X 20 ≤ 0 := c43
          rw [en_20] at hc
          have hz : ¬ (plS row nr b bn x sp D).1 20 = 0 := fun q => hc (by rw [hLD] at q; exact Int32.le_of_eq q)
          unfold plV plX plR plP
          rw [if_neg hz, if_neg hz, if_neg hz, if_neg hz, hLD]
          exact ⟨enX X 11, sums, su, rfl, congrArg (fun z => [[(h, .inl (4, mo_f ad z))], [(ad 0, gg_ai g 1030 row)], [(ad 3, gg_ai g 8240 past)], [(ad 7, gg_ai g 6 S1)], [(ad 9, gg_ai g 10 sums)], [(ad 10, gg_ai g 8 su)], [(ad 22, gg_ai g 360 Y)]]) (mu_11 _)⟩
      · refine gg_aload_n (pc := 21) E dX5_playScript_21 rfl rfl ?_
        refine gg_get (pc := 22) E ck_X5 18 q2877 rfl (by decide) dX5_playScript_22 (gg_i 0 rfl) rfl ?_
        refine gg_if_eq (tgt := 35) (pc := 25) E dX5_playScript_25 (by decide) (fun c25 => ?_) (fun c25 => ?_)
        · have hLD : plS row nr b bn x sp D = (X, S1, Y) := (LD_eq ⟨hall, by rw [hit]; exact fun q => q.2 c25⟩).trans hit
          have hX0 := hXX.2.2.2.2.2.2
          refine gg_aload_n (pc := 35) E dX5_playScript_35 rfl rfl ?_
          refine gg_callV (F := [_, _, _, _, _, _]) (As := []) (rest := []) (pc := 36) E ck_X5 (ct_X5_ending hl ) (cwV 0 E.2.2.2.2.1 (lw_V q3076 q3078 qs91 q179 q3079) rfl rfl rfl (by decide +kernel) ⟨by rw [hRf]; exact Nat.le_of_ble_eq_true rfl, by rw [hRl]; exact Nat.le_of_ble_eq_true rfl⟩) dX5_playScript_36 [0] (by decide) rfl rfl (fun _ h => by cases h) (gg_i 0 rfl) rfl rfl (Nat.le_of_ble_eq_true rfl) (by first | (rw [hRc]; exact Nat.le_of_ble_eq_true rfl) | (rw [hRc]; dsimp only; omega)) (by first | (rw [hRs]; exact Nat.le_of_ble_eq_true rfl) | (rw [hRs]; dsimp only; omega)) ?_ (fun X q C1 h => h.elim)
          rintro _ _ ⟨rfl, rfl⟩
          dsimp only [List.cons_append, List.nil_append, Option.toList]
          refine gg_aload_n (pc := 39) E dX5_playScript_39 rfl rfl ?_
          refine gg_get (pc := 40) E ck_X5 20 q2879 rfl (by decide) dX5_playScript_40 (gg_i 0 rfl) rfl ?_
          refine gg_if_le (tgt := 48) (pc := 43) E dX5_playScript_43 (by decide) (fun c43 => ?_) (fun c43 => ?_)
          · have hc : enX X 20 ≤ 0 := c43
            rw [en_20] at hc
            have hz : X 20 = 0 := z_of hX0 hc
            have hdva : ∀ i, i < dm → Dv nr Y i := hdv hz
            refine gg_aload_n (pc := 48) E dX5_playScript_48 rfl rfl ?_
            refine gg_callV (F := [_, _, _, _, _]) (As := []) (rest := []) (pc := 49) E ck_X5 (ct_X5_remembers hl ((plx_4 hit).trans hpm) (hp8)) (cwV 0 E.2.2.2.2.1 (lw_V q3105 q3107 qs96 q179 q3108) rfl rfl rfl (by decide +kernel) ⟨by rw [hRf]; exact Nat.le_of_ble_eq_true rfl, by rw [hRl]; exact Nat.le_of_ble_eq_true rfl⟩) dX5_playScript_49 [0, 2] (by decide) rfl rfl (List.forall_mem_cons.mpr ⟨(gg_i 0 rfl), (fun _ h => by cases h)⟩) (gg_i 0 rfl) rfl rfl (Nat.le_of_ble_eq_true rfl) (by first | (rw [hRc]; exact Nat.le_of_ble_eq_true rfl) | (rw [hRc]; dsimp only; omega)) (by first | (rw [hRs]; exact Nat.le_of_ble_eq_true rfl) | (rw [hRs]; dsimp only; omega)) ?_ (fun X q C1 h => h.elim)
            rintro _ _ ⟨rfl, rfl⟩
            dsimp only [List.cons_append, List.nil_append, Option.toList]
            refine gg_up1 ?_
            refine gg_up2 ?_
            refine gg_iconst (v := 0) (pc := 52) E dX5_playScript_52 (by decide) ?_
            refine gg_istore_n (lv' := [_, _]) (pc := 53) E dX5_playScript_53 rfl (Nat.le_of_ble_eq_true rfl) rfl rfl ?_
            have L54 : ∀ (n : Nat) (k : Nat) (Rr : Nat → Int32) (nw2 nt2 tm2 : Nat) (z : Int32) (S U : Nat → Int32), dm - k < n → (k ≤ dm) → (it (dF nr Y) k (row, 0) = (Rr, k)) → (∀ j, j < k → dC Y dm (it (dF nr Y) j (row, 0))) → (Iv Rr nr nw2 nt2 (N + 99 * k)) → (Rr 3 = nI tm2) → (tm2 ≤ 9999) → gg_W p l e R s m args below meth c g A 2 Q 0 0 [[(h, .inl (4, mo_f ad (upd (upd (enX X) 4 (nI (psn pm))) 11 z)))], [((ad 0), gg_ai g 1030 Rr)], [((ad 3), gg_ai g 8240 (pst past row pm))], [((ad 7), gg_ai g 6 S1)], [((ad 9), gg_ai g 10 S)], [((ad 10), gg_ai g 8 U)], [((ad 22), gg_ai g 360 Y)]] [some (.ref h), some (.int (nI k))] [] 54 := by
              intro n54
              induction n54 with
              | zero => intro k Rr nw2 nt2 tm2 z S U hmz; exact absurd hmz (Nat.not_lt_zero _)
              | succ n54 ih54 =>
                intro k Rr nw2 nt2 tm2 z S U hm54 hkd hit2 hall2 hI2 htm2 htm29
                refine gg_iload_n (pc := 54) E dX5_playScript_54 rfl rfl ?_
                refine gg_aload_n (pc := 55) E dX5_playScript_55 rfl rfl ?_
                refine gg_get (pc := 56) E ck_X5 23 q2882 rfl (by decide) dX5_playScript_56 (gg_i 0 rfl) rfl ?_
                refine gg_topI (y := nI dm) ((pk_un (by omega)).trans ((pk_un (by omega)).trans (enX_23.trans hdm))) ?_
                refine gg_icmpN_ge (tgt := 76) (pc := 59) E k dm rfl rfl (by omega) (by omega) dX5_playScript_59 (by decide) (fun c59 => ?_) (fun c59 => ?_)
                · refine gg_iload_n (pc := 76) E dX5_playScript_76 rfl rfl ?_
                  refine gg_iret (pc := 77) E Fn rfl (rfl) dX5_playScript_77 (by first | exact Nat.le_of_ble_eq_true rfl | (dsimp only; omega)) (by first | exact Nat.le_of_ble_eq_true rfl | (dsimp only; omega)) ?_
                  have hLDd : plD row nr Y dm = (Rr, k) := (LD_eq (k := k) ⟨hall2, by rw [hit2]; exact fun q => absurd q.1 (by show ¬ k < dm; omega)⟩).trans hit2
                  have hz2 : (plS row nr b bn x sp D).1 20 = 0 := by rw [hLD]; exact hz
                  have hdm2 : tn ((plS row nr b bn x sp D).1 23) = dm := by rw [hLD]; show tn (X 23) = dm; rw [hdm, tn_nI (by omega)]
                  unfold plV plX plR plP
                  rw [if_pos hz2, if_pos hz2, if_pos hz2, if_pos hz2, hdm2, hLD]
                  rw [show plD row nr (X, S1, Y).2.2 dm = (Rr, k) from hLDd]
                  exact ⟨z, S, U, rfl, rfl⟩
                · refine gg_aload_n (pc := 62) E dX5_playScript_62 rfl rfl ?_
                  refine gg_iload_n (pc := 63) E dX5_playScript_63 rfl rfl ?_
                  refine gg_callV (F := [_, _, _]) (As := [.int (nI k)]) (rest := []) (pc := 64) E ck_X5 (ct_X5_does (row := Rr) (N := N + 99 * k) (tm := tm2) (nr := nr) (nw := nw2) (nt := nt2) hl hI2 htm2 htm29 (hdva k c59) (by omega) (by omega)) (cwV 1 E.2.2.2.2.1 (lw_V q3109 q3111 qs97 q179 q3112) rfl rfl rfl (by decide +kernel) ⟨by rw [hRf]; exact Nat.le_of_ble_eq_true rfl, by rw [hRl]; exact Nat.le_of_ble_eq_true rfl⟩) dX5_playScript_64 [0, 1, 4, 5] (by decide) rfl rfl (List.forall_mem_cons.mpr ⟨(gg_i 2 rfl), (fun _ h => by cases h)⟩) (gg_i 0 rfl) rfl rfl (Nat.le_of_ble_eq_true rfl) (by first | (rw [hRc]; exact Nat.le_of_ble_eq_true rfl) | (rw [hRc]; dsimp only; omega)) (by first | (rw [hRs]; exact Nat.le_of_ble_eq_true rfl) | (rw [hRs]; dsimp only; omega)) ?_ (fun X q C1 h => h.elim)
                  rintro _ _ ⟨z1, S3, U3, rfl, rfl⟩
                  dsimp only [List.cons_append, List.nil_append, Option.toList]
                  refine gg_up3 ?_
                  refine gg_up3 ?_
                  refine gg_up5 ?_
                  refine gg_up5 ?_
                  refine gg_if_eq (tgt := 76) (pc := 67) E dX5_playScript_67 (by decide) (fun c67 => ?_) (fun c67 => ?_)
                  · refine gg_iload_n (pc := 76) E dX5_playScript_76 rfl rfl ?_
                    refine gg_iret (pc := 77) E Fn rfl (rfl) dX5_playScript_77 (by first | exact Nat.le_of_ble_eq_true rfl | (dsimp only; omega)) (by first | exact Nat.le_of_ble_eq_true rfl | (dsimp only; omega)) ?_
                    have hLDd : plD row nr Y dm = (Rr, k) := (LD_eq (k := k) ⟨hall2, by rw [hit2]; exact fun q => q.2 (c67)⟩).trans hit2
                    have hz2 : (plS row nr b bn x sp D).1 20 = 0 := by rw [hLD]; exact hz
                    have hdm2 : tn ((plS row nr b bn x sp D).1 23) = dm := by rw [hLD]; show tn (X 23) = dm; rw [hdm, tn_nI (by omega)]
                    unfold plV plX plR plP
                    rw [if_pos hz2, if_pos hz2, if_pos hz2, if_pos hz2, hdm2, hLD]
                    rw [show plD row nr (X, S1, Y).2.2 dm = (Rr, k) from hLDd]
                    refine ⟨z1, S3, U3, rfl, ?_⟩
                    rw [upd_2, show duN Rr nr Y k = Rr from if_pos c67]
                  · refine gg_iincN (k := 1) (lv' := [_, _]) (pc := 70) E k dX5_playScript_70 rfl rfl rfl (Nat.le_of_ble_eq_true rfl) rfl rfl ?_
                    refine gg_goto (tgt := 54) (pc := 73) E dX5_playScript_73 (by decide) ?_
                    obtain ⟨nw3, nt3, tm3, hI3, htm3, htm39⟩ := du_I hI2 htm2 htm29 (hdva k c59) c67 (by omega)
                    refine gg_cv ?_ (gg_leS (gg_leS gg_le0)) rfl (by first | exact Nat.le_refl _ | (dsimp only; omega)) (by first | exact Nat.le_refl _ | (dsimp only; omega)) (ih54 (k + 1) (duN Rr nr Y k) nw3 nt3 tm3 z1 S3 U3 (by omega) (by omega) (by show dF nr Y (it (dF nr Y) k (row, 0)) = _; rw [hit2]; rfl) (all_s hall2 (by rw [hit2]; exact ⟨c59, c67⟩)) (hI3) (htm3) (htm39))
                    · rw [upd_2]
            refine gg_cv ?_ (gg_leS (gg_leS gg_le0)) rfl (by first | exact Nat.le_refl _ | (dsimp only; omega)) (by first | exact Nat.le_refl _ | (dsimp only; omega)) (L54 _ 0 row nw nt tm (enX X 11) sums su (Nat.lt_succ_self _) (Nat.zero_le _) (rfl) (fun j hj => absurd hj (Nat.not_lt_zero j)) (hI) (htm) (htm9))
            · rw [pl_m11]
          · refine gg_iconst (v := (-1)) (pc := 46) E dX5_playScript_46 (by decide) ?_
            refine gg_iret (pc := 47) E Fn rfl (rfl) dX5_playScript_47 (by first | exact Nat.le_of_ble_eq_true rfl | (dsimp only; omega)) (by first | exact Nat.le_of_ble_eq_true rfl | (dsimp only; omega)) ?_
            have hc : ¬ enX X 20 ≤ 0 := c43
            rw [en_20] at hc
            have hz : ¬ (plS row nr b bn x sp D).1 20 = 0 := fun q => hc (by rw [hLD] at q; exact Int32.le_of_eq q)
            unfold plV plX plR plP
            rw [if_neg hz, if_neg hz, if_neg hz, if_neg hz, hLD]
            exact ⟨enX X 11, sums, su, rfl, congrArg (fun z => [[(h, .inl (4, mo_f ad z))], [(ad 0, gg_ai g 1030 row)], [(ad 3, gg_ai g 8240 past)], [(ad 7, gg_ai g 6 S1)], [(ad 9, gg_ai g 10 sums)], [(ad 10, gg_ai g 8 su)], [(ad 22, gg_ai g 360 Y)]]) (mu_11 _)⟩
        · refine gg_aload_n (pc := 28) E dX5_playScript_28 rfl rfl ?_
          refine gg_callV (F := [_, _, _, _]) (As := []) (rest := []) (pc := 29) E ck_X5 (ct_X5_readsDeed hl (hnr) (hr10) (hXX) (hdm) (hdm3)) (cwV 0 E.2.2.2.2.1 (lw_V q3088 q3090 qs93 q179 q3091) rfl rfl rfl (by decide +kernel) ⟨by rw [hRf]; exact Nat.le_of_ble_eq_true rfl, by rw [hRl]; exact Nat.le_of_ble_eq_true rfl⟩) dX5_playScript_29 [0, 3, 6] (by decide) rfl rfl (List.forall_mem_cons.mpr ⟨(gg_i 0 rfl), (List.forall_mem_cons.mpr ⟨(gg_r 0 rfl), (fun _ h => by cases h)⟩)⟩) (gg_i 0 rfl) rfl rfl (Nat.le_of_ble_eq_true rfl) (by first | (rw [hRc]; exact Nat.le_of_ble_eq_true rfl) | (rw [hRc]; dsimp only; omega)) (by first | (rw [hRs]; exact Nat.le_of_ble_eq_true rfl) | (rw [hRs]; dsimp only; omega)) ?_ (fun X q C1 h => h.elim)
          rintro _ _ ⟨rfl, rfl⟩
          dsimp only [List.cons_append, List.nil_append, Option.toList]
          refine gg_up2 ?_
          refine gg_up4 ?_
          refine gg_up6 ?_
          refine gg_goto (tgt := 14) (pc := 32) E dX5_playScript_32 (by decide) ?_
          obtain ⟨dm1, hd1, hd2, hd3⟩ := rd_23 (row := row) (nr := nr) (b := b) (bn := bn) (sp := S1) (D := Y) hdm hdm3
          refine gg_cv rfl (gg_leS (gg_leN gg_le0)) rfl (by first | exact Nat.le_refl _ | (dsimp only; omega)) (by first | exact Nat.le_refl _ | (dsimp only; omega)) (ih14 (k + 1) (rdT row nr b bn dm X S1 Y).1 (rdT row nr b bn dm X S1 Y).2.1 (rdT row nr b bn dm X S1 Y).2.2 dm1 (pl_dec hXX c18 hm14) (pl_it hit hdm hdm3) (all_s hall (by rw [hit]; exact ⟨c18, c25⟩)) (Xi_rd hXX) (hd2) (hd1) (fun q => rd_Dv hI.1 (hdv c18) q (hd3 q)))
  refine gg_cv rfl (gg_leS (gg_leN gg_le0)) rfl (by first | exact Nat.le_refl _ | (dsimp only; omega)) (by first | exact Nat.le_refl _ | (dsimp only; omega)) (L14 _ 0 (bgX b bn (upd (upd x 6 0) 23 0)) sp D 0 (Nat.lt_succ_self _) (rfl) (fun j hj => absurd hj (Nat.not_lt_zero j)) (Xi_bg ((pk_un (by omega)).trans ((pk_un (by omega)).trans hx)) hb8) (plx_23) (Nat.zero_le _) (fun _ i hi => absurd hi (Nat.not_lt_zero i)))

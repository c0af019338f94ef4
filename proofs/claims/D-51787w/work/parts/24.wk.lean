set_option maxRecDepth 100000
theorem cm3_out {row : Nat → Int32} {t j : Nat} (h1 : 1 ≤ tno row t) (h8 : tno row t ≤ 8) (h : j < 220 + 27 * t + 19 ∨ 220 + 27 * t + 19 + 8 ≤ j) (h14 : j ≠ 14) (h5 : j ≠ 220 + 27 * t + 5) (h3 : j ≠ 220 + 27 * t + 3) : cm3 row t j = row j := by
  unfold cm3
  rw [pk_un h3, pk_un h5, blF_out h1 h8 h h14]
theorem ulk_cm3 {row : Nat → Int32} {t : Nat} (h8 : tno row t ≤ 8) : ulk (cm3 row t) t (tno row t) = ulk (blF row t) t (tno row t) := ulk_c h8 fun j q1 q2 => by
  unfold cm3
  rw [pk_un (by omega), pk_un (by omega)]
theorem ulk_cm4 {row : Nat → Int32} {t : Nat} (h8 : tno row t ≤ 8) : ulk (cn (upd (cm3 row t) (220 + 27 * t + 3) 2) 5 1) t (tno row t) = ulk (blF row t) t (tno row t) := (ulk_c h8 fun j q1 q2 => by
  rw [cn_out (by omega), pk_un (by omega)]).trans (ulk_cm3 h8)
theorem mu_11 (x : Nat → Int32) : x = upd x 11 (x 11) := by
  funext j
  by_cases e : j = 11
  · subst e; rw [pk_us]
  · rw [pk_un e]
set_option maxHeartbeats 4000000 in
theorem ct_X5_blurs {l : Launch} (hl : l.stackTraces = false) {g : gg_G}  {h : Nat} {ad : Nat → Nat} {x : Nat → Int32} {row : Nat → Int32} {t : Nat} {nr nw nt : Nat} (hG : Gw row nr nw nt) (htt : t < nt) : gg_C l g yX5_blurs (ws_ yX5_blurs cX5_blurs 7 none) { frames := 2, cells := 0, slots := 0, locals := 45 } [.ref h, .int (nI t)] [(h, .inl (4, mo_f ad x))] [[((ad 0), gg_ai g 1030 row)]] (fun vv CC => vv = none ∧ CC = [[((ad 0), gg_ai g 1030 (blF row t))]]) gg_no := by
  refine gg_of (lv := [_, _, _, _, _, _, _]) (by decide) hl (Nat.le_of_ble_eq_true rfl) rfl ?_
  intro p e R s m args below meth c A Q hRf hRl hRc hRs E Fn hnm hex
  have hG0 := hG
  obtain ⟨hnr, hw, ht, hG4, hGS⟩ := hG
  have hnw := hw.1
  have hw20 := hw.2.1
  have hr10 := hw.2.2.1
  have hnt := ht.1
  have ht30 := ht.2.1
  obtain ⟨g1, g2, g3, g4, g5, g6, g7, g8, g9, g10⟩ := ht.2.2.2 t (by omega)
  refine gg_iload_n (pc := 0) E dX5_blurs_0 rfl rfl ?_
  refine gg_callS (F := [_]) (As := [.int (nI t)]) (rest := []) (pc := 1) E (ct_X5_t hl ) (va_cwS 1 E.2.2.2.2.1 (lw_S q3121 q3122 q179 q3123) rfl rfl rfl (by decide +kernel) ⟨by rw [hRf]; exact Nat.le_of_ble_eq_true rfl, by rw [hRl]; exact Nat.le_of_ble_eq_true rfl⟩) dX5_blurs_1 [] (by decide) rfl rfl (fun _ h => by cases h) rfl rfl (Nat.le_of_ble_eq_true rfl) (by first | (rw [hRc]; exact Nat.le_of_ble_eq_true rfl) | (rw [hRc]; dsimp only; omega)) (by first | (rw [hRs]; exact Nat.le_of_ble_eq_true rfl) | (rw [hRs]; dsimp only; omega)) ?_ (fun X q C1 h => h.elim)
  rintro _ _ ⟨rfl, rfl⟩
  dsimp only [List.cons_append, List.nil_append, Option.toList]
  refine gg_istore_n (lv' := [_, _, _, _, _, _, _]) (pc := 4) E dX5_blurs_4 rfl (Nat.le_of_ble_eq_true rfl) rfl rfl ?_
  refine gg_aload_n (pc := 5) E dX5_blurs_5 rfl rfl ?_
  refine gg_get (pc := 6) E ck_X5 0 q2859 rfl (by decide) dX5_blurs_6 (gg_r 0 rfl) rfl ?_
  refine gg_iload_n (pc := 9) E dX5_blurs_9 rfl rfl ?_
  refine gg_iconst (v := 2) (pc := 10) E dX5_blurs_10 (by decide) ?_
  refine gg_iaddN (pc := 11) E (220 + 27 * t) 2 rfl rfl dX5_blurs_11 ?_
  refine gg_ialdN (pc := 12) E ((220 + 27 * t) + 2) rfl (by omega) (by omega) dX5_blurs_12 (gg_i 0 rfl) ?_
  rw [g3]
  refine gg_istore_n (lv' := [_, _, _, _, _, _, _]) (pc := 13) E dX5_blurs_13 rfl (Nat.le_of_ble_eq_true rfl) rfl rfl ?_
  refine gg_aload_n (pc := 14) E dX5_blurs_14 rfl rfl ?_
  refine gg_aload_n (pc := 15) E dX5_blurs_15 rfl rfl ?_
  refine gg_get (pc := 16) E ck_X5 0 q2859 rfl (by decide) dX5_blurs_16 (gg_r 0 rfl) rfl ?_
  refine gg_iconst (v := 4) (pc := 19) E dX5_blurs_19 (by decide) ?_
  refine gg_ialdN (pc := 20) E 4 rfl (by omega) (by omega) dX5_blurs_20 (gg_i 0 rfl) ?_
  refine gg_aload_n (pc := 21) E dX5_blurs_21 rfl rfl ?_
  refine gg_get (pc := 22) E ck_X5 0 q2859 rfl (by decide) dX5_blurs_22 (gg_r 0 rfl) rfl ?_
  refine gg_iload_n (pc := 25) E dX5_blurs_25 rfl rfl ?_
  refine gg_bipush (v := 10) (pc := 26) E dX5_blurs_26 (by decide) ?_
  refine gg_iaddN (pc := 28) E (220 + 27 * t) 10 rfl rfl dX5_blurs_28 ?_
  refine gg_ialdN (pc := 29) E ((220 + 27 * t) + 10) rfl (by omega) (by omega) dX5_blurs_29 (gg_i 0 rfl) ?_
  refine gg_aload_n (pc := 30) E dX5_blurs_30 rfl rfl ?_
  refine gg_get (pc := 31) E ck_X5 0 q2859 rfl (by decide) dX5_blurs_31 (gg_r 0 rfl) rfl ?_
  refine gg_iload_n (pc := 34) E dX5_blurs_34 rfl rfl ?_
  refine gg_iconst (v := 4) (pc := 35) E dX5_blurs_35 (by decide) ?_
  refine gg_iaddN (pc := 36) E (220 + 27 * t) 4 rfl rfl dX5_blurs_36 ?_
  refine gg_ialdN (pc := 37) E ((220 + 27 * t) + 4) rfl (by omega) (by omega) dX5_blurs_37 (gg_i 0 rfl) ?_
  rw [g4]
  refine gg_iload_n (pc := 38) E dX5_blurs_38 rfl rfl ?_
  refine gg_callV (F := [_]) (As := [_, _, .int (nI (ta row t)), _]) (rest := []) (pc := 39) E ck_X5 (ct_X5_wrongBy hl (by omega)) (cwV 4 E.2.2.2.2.1 (lw_V q3155 q3157 qs107 q179 q3158) rfl rfl rfl (by decide +kernel) ⟨by rw [hRf]; exact Nat.le_of_ble_eq_true rfl, by rw [hRl]; exact Nat.le_of_ble_eq_true rfl⟩) dX5_blurs_39 [] (by decide) rfl rfl (List.forall_mem_cons.mpr ⟨(gg_r 0 rfl), (List.forall_mem_cons.mpr ⟨(gg_i 0 rfl), (fun _ h => by cases h)⟩)⟩) (gg_r 0 rfl) rfl rfl (Nat.le_of_ble_eq_true rfl) (by first | (rw [hRc]; exact Nat.le_of_ble_eq_true rfl) | (rw [hRc]; dsimp only; omega)) (by first | (rw [hRs]; exact Nat.le_of_ble_eq_true rfl) | (rw [hRs]; dsimp only; omega)) ?_ (fun X q C1 h => h.elim)
  rintro _ _ ⟨rfl, rfl⟩
  dsimp only [List.cons_append, List.nil_append, Option.toList]
  refine gg_topI (y := nI (wn row t)) (wn_ok g10).1 ?_
  have hwn := (wn_ok g10).2
  refine gg_istore (lv' := [_, _, _, _, _, _, _]) (pc := 42) E dX5_blurs_42 (Nat.le_of_ble_eq_true rfl) rfl rfl ?_
  refine gg_iconst (v := 0) (pc := 44) E dX5_blurs_44 (by decide) ?_
  refine gg_istore (lv' := [_, _, _, _, _, _, _]) (pc := 45) E dX5_blurs_45 (Nat.le_of_ble_eq_true rfl) rfl rfl ?_
  have L47 : ∀ (n : Nat) (i : Nat), wn row t - i < n → (i ≤ wn row t) → gg_W p l e R s m args below meth c g A 7 Q 0 0 [[((ad 0), gg_ai g 1030 (bl row t (tno row t) i))]] [some (.ref h), some (.int (nI t)), some (.int (nI (220 + 27 * t))), some (.int (nI (tno row t))), some (.int (nI (wn row t))), some (.int (nI i)), none] [] 47 := by
    intro n47
    induction n47 with
    | zero => intro i hmz; exact absurd hmz (Nat.not_lt_zero _)
    | succ n47 ih47 =>
      intro i hm47 hi
      have hmd := Nat.mod_lt (t + i) (show 0 < tno row t by omega)
      refine gg_iload (pc := 47) E dX5_blurs_47 rfl ?_
      refine gg_iload (pc := 49) E dX5_blurs_49 rfl ?_
      refine gg_icmpN_ge (tgt := 92) (pc := 51) E i (wn row t) rfl rfl (by omega) (by omega) dX5_blurs_51 (by decide) (fun c51 => ?_) (fun c51 => ?_)
      · refine gg_aload_n (pc := 92) E dX5_blurs_92 rfl rfl ?_
        refine gg_iconst (v := 4) (pc := 93) E dX5_blurs_93 (by decide) ?_
        refine gg_iload (pc := 94) E dX5_blurs_94 rfl ?_
        refine gg_callV (F := []) (As := [.int (nI 4), _]) (rest := []) (pc := 96) E ck_X5 (ct_X5_counts hl (by first | assumption | omega)) (cwV 2 E.2.2.2.2.1 (lw_V q3131 q3133 qs101 q179 q3134) rfl rfl rfl (by decide +kernel) ⟨by rw [hRf]; exact Nat.le_of_ble_eq_true rfl, by rw [hRl]; exact Nat.le_of_ble_eq_true rfl⟩) dX5_blurs_96 [0] (by decide) rfl rfl (List.forall_mem_cons.mpr ⟨(gg_r 0 rfl), (fun _ h => by cases h)⟩) (gg_r 0 rfl) rfl rfl (Nat.le_of_ble_eq_true rfl) (by first | (rw [hRc]; exact Nat.le_of_ble_eq_true rfl) | (rw [hRc]; dsimp only; omega)) (by first | (rw [hRs]; exact Nat.le_of_ble_eq_true rfl) | (rw [hRs]; dsimp only; omega)) ?_ (fun X q C1 h => h.elim)
        rintro _ _ ⟨rfl, rfl⟩
        dsimp only [List.cons_append, List.nil_append, Option.toList]
        refine gg_vret (pc := 99) E Fn rfl dX5_blurs_99 (by first | exact Nat.le_of_ble_eq_true rfl | (dsimp only; omega)) (by first | exact Nat.le_of_ble_eq_true rfl | (dsimp only; omega)) ?_
        obtain rfl : i = wn row t := by omega
        exact ⟨rfl, rfl⟩
      · refine gg_iload_n (pc := 54) E dX5_blurs_54 rfl rfl ?_
        refine gg_bipush (v := 19) (pc := 55) E dX5_blurs_55 (by decide) ?_
        refine gg_iaddN (pc := 57) E (220 + 27 * t) 19 rfl rfl dX5_blurs_57 ?_
        refine gg_iload_n (pc := 58) E dX5_blurs_58 rfl rfl ?_
        refine gg_iload (pc := 59) E dX5_blurs_59 rfl ?_
        refine gg_iaddN (pc := 61) E t i rfl rfl dX5_blurs_61 ?_
        refine gg_iload_n (pc := 62) E dX5_blurs_62 rfl rfl ?_
        refine gg_iremN (pc := 63) E (t + i) (tno row t) rfl rfl (by omega) (by omega) (by omega) dX5_blurs_63 ?_
        refine gg_iaddN (pc := 64) E ((220 + 27 * t) + 19) ((t + i) % (tno row t)) rfl rfl dX5_blurs_64 ?_
        refine gg_istore (lv' := [_, _, _, _, _, _, _]) (pc := 65) E dX5_blurs_65 (Nat.le_of_ble_eq_true rfl) rfl rfl ?_
        refine gg_aload_n (pc := 67) E dX5_blurs_67 rfl rfl ?_
        refine gg_get (pc := 68) E ck_X5 0 q2859 rfl (by decide) dX5_blurs_68 (gg_r 0 rfl) rfl ?_
        refine gg_iload (pc := 71) E dX5_blurs_71 rfl ?_
        refine gg_aload_n (pc := 73) E dX5_blurs_73 rfl rfl ?_
        refine gg_get (pc := 74) E ck_X5 0 q2859 rfl (by decide) dX5_blurs_74 (gg_r 0 rfl) rfl ?_
        refine gg_iload (pc := 77) E dX5_blurs_77 rfl ?_
        refine gg_ialdN (pc := 79) E ((220 + 27 * t) + 19 + ((t + i) % (tno row t))) rfl (by omega) (by omega) dX5_blurs_79 (gg_i 0 rfl) ?_
        refine gg_iconst (v := 1) (pc := 80) E dX5_blurs_80 (by decide) ?_
        refine gg_iadd (pc := 81) E dX5_blurs_81 ?_
        refine gg_bipush (v := 8) (pc := 82) E dX5_blurs_82 (by decide) ?_
        refine gg_irem (pc := 84) E dX5_blurs_84 (by decide) ?_
        refine gg_iastN (M' := [_]) (pc := 85) E ((220 + 27 * t) + 19 + ((t + i) % (tno row t))) rfl (by omega) (by omega) dX5_blurs_85 0 rfl rfl ?_
        refine gg_iincN (k := 1) (lv' := [_, _, _, _, _, _, _]) (pc := 86) E i dX5_blurs_86 rfl rfl rfl (Nat.le_of_ble_eq_true rfl) rfl rfl ?_
        refine gg_goto (tgt := 47) (pc := 89) E dX5_blurs_89 (by decide) ?_
        refine gg_cv rfl (gg_leS (gg_leS (gg_leS (gg_leS (gg_leS (gg_leS (gg_leN gg_le0))))))) rfl (by first | exact Nat.le_refl _ | (dsimp only; omega)) (by first | exact Nat.le_refl _ | (dsimp only; omega)) (ih47 (i + 1) (by omega) (by omega))
  refine gg_cv rfl (gg_leS (gg_leS (gg_leS (gg_leS (gg_leS (gg_leS (gg_leN gg_le0))))))) rfl (by first | exact Nat.le_refl _ | (dsimp only; omega)) (by first | exact Nat.le_refl _ | (dsimp only; omega)) (L47 _ 0 (Nat.lt_succ_self _) (Nat.zero_le _))
set_option maxHeartbeats 4000000 in
theorem ct_X5_replies {l : Launch} (hl : l.stackTraces = false) {g : gg_G}  {h : Nat} {ad : Nat → Nat} {x : Nat → Int32} {row : Nat → Int32} {su : Nat → Int32} {t no nt : Nat} (htt : t < 30) (hno : row (220 + 27 * t + 2) = nI no) (hno8 : no ≤ 8) (hnt : row 2 = nI nt) (hnt30 : nt ≤ 30) : gg_C l g yX5_replies (ws_ yX5_replies cX5_replies 4 none) { frames := 3, cells := 0, slots := 0, locals := 69 } [.ref h, .int (nI t)] [] [[(h, .inl (4, mo_f ad x))], [((ad 0), gg_ai g 1030 row)], [((ad 10), gg_ai g 8 su)]] (fun vv CC => ∃ (z : Int32) (S : Nat → Int32), vv = none ∧ CC = [[(h, .inl (4, mo_f ad (upd x 11 z)))], [((ad 0), gg_ai g 1030 (rpF row t nt no))], [((ad 10), gg_ai g 8 S)]]) gg_no := by
  refine gg_of (lv := [_, _, _, _]) (by decide) hl (Nat.le_of_ble_eq_true rfl) rfl ?_
  intro p e R s m args below meth c A Q hRf hRl hRc hRs E Fn hnm hex
  refine gg_iload_n (pc := 0) E dX5_replies_0 rfl rfl ?_
  refine gg_callS (F := [_, _, _]) (As := [.int (nI t)]) (rest := []) (pc := 1) E (ct_X5_t hl ) (va_cwS 1 E.2.2.2.2.1 (lw_S q3121 q3122 q179 q3123) rfl rfl rfl (by decide +kernel) ⟨by rw [hRf]; exact Nat.le_of_ble_eq_true rfl, by rw [hRl]; exact Nat.le_of_ble_eq_true rfl⟩) dX5_replies_1 [] (by decide) rfl rfl (fun _ h => by cases h) rfl rfl (Nat.le_of_ble_eq_true rfl) (by first | (rw [hRc]; exact Nat.le_of_ble_eq_true rfl) | (rw [hRc]; dsimp only; omega)) (by first | (rw [hRs]; exact Nat.le_of_ble_eq_true rfl) | (rw [hRs]; dsimp only; omega)) ?_ (fun X q C1 h => h.elim)
  rintro _ _ ⟨rfl, rfl⟩
  dsimp only [List.cons_append, List.nil_append, Option.toList]
  refine gg_istore_n (lv' := [_, _, _, _]) (pc := 4) E dX5_replies_4 rfl (Nat.le_of_ble_eq_true rfl) rfl rfl ?_
  refine gg_aload_n (pc := 5) E dX5_replies_5 rfl rfl ?_
  refine gg_get (pc := 6) E ck_X5 0 q2859 rfl (by decide) dX5_replies_6 (gg_i 0 rfl) rfl ?_
  refine gg_iload_n (pc := 9) E dX5_replies_9 rfl rfl ?_
  refine gg_bipush (v := 7) (pc := 10) E dX5_replies_10 (by decide) ?_
  refine gg_iaddN (pc := 12) E (220 + 27 * t) 7 rfl rfl dX5_replies_12 ?_
  refine gg_ialdN (pc := 13) E ((220 + 27 * t) + 7) rfl (by omega) (by omega) dX5_replies_13 (gg_i 1 rfl) ?_
  refine gg_if_eq (tgt := 36) (pc := 14) E dX5_replies_14 (by decide) (fun c14 => ?_) (fun c14 => ?_)
  · refine gg_vret (pc := 36) E Fn rfl dX5_replies_36 (by first | exact Nat.le_of_ble_eq_true rfl | (dsimp only; omega)) (by first | exact Nat.le_of_ble_eq_true rfl | (dsimp only; omega)) ?_
    exact ⟨x 11, su, rfl, by unfold rpF; rw [if_pos (Or.inl c14)]; exact congrArg (fun z => [[(h, .inl (4, mo_f ad z))], [(ad 0, gg_ai g 1030 row)], [(ad 10, gg_ai g 8 su)]]) (mu_11 x)⟩
  · refine gg_aload_n (pc := 17) E dX5_replies_17 rfl rfl ?_
    refine gg_iload_n (pc := 18) E dX5_replies_18 rfl rfl ?_
    refine gg_callV (F := [_, _, _]) (As := [.int (nI t)]) (rest := []) (pc := 19) E ck_X5 (ct_X5_unlike hl (htt) (hno) (hno8)) (cwV 1 E.2.2.2.2.1 (lw_V q3160 q3162 qs108 q179 q3163) rfl rfl rfl (by decide +kernel) ⟨by rw [hRf]; exact Nat.le_of_ble_eq_true rfl, by rw [hRl]; exact Nat.le_of_ble_eq_true rfl⟩) dX5_replies_19 [] (by decide) rfl rfl (List.forall_mem_cons.mpr ⟨(gg_i 0 rfl), (List.forall_mem_cons.mpr ⟨(gg_i 1 rfl), (fun _ h => by cases h)⟩)⟩) (gg_i 0 rfl) rfl rfl (Nat.le_of_ble_eq_true rfl) (by first | (rw [hRc]; exact Nat.le_of_ble_eq_true rfl) | (rw [hRc]; dsimp only; omega)) (by first | (rw [hRs]; exact Nat.le_of_ble_eq_true rfl) | (rw [hRs]; dsimp only; omega)) ?_ (fun X q C1 h => h.elim)
    rintro _ _ ⟨rfl, rfl⟩
    dsimp only [List.cons_append, List.nil_append, Option.toList]
    refine gg_if_gt (tgt := 36) (pc := 22) E dX5_replies_22 (by decide) (fun c22 => ?_) (fun c22 => ?_)
    · refine gg_vret (pc := 36) E Fn rfl dX5_replies_36 (by first | exact Nat.le_of_ble_eq_true rfl | (dsimp only; omega)) (by first | exact Nat.le_of_ble_eq_true rfl | (dsimp only; omega)) ?_
      exact ⟨x 11, su, rfl, by unfold rpF; rw [if_pos (Or.inr (Or.inl (show 0 < ulk row t no from c22)))]; exact congrArg (fun z => [[(h, .inl (4, mo_f ad z))], [(ad 0, gg_ai g 1030 row)], [(ad 10, gg_ai g 8 su)]]) (mu_11 x)⟩
    · refine gg_aload_n (pc := 25) E dX5_replies_25 rfl rfl ?_
      refine gg_get (pc := 26) E ck_X5 0 q2859 rfl (by decide) dX5_replies_26 (gg_i 0 rfl) rfl ?_
      refine gg_iconst (v := 2) (pc := 29) E dX5_replies_29 (by decide) ?_
      refine gg_ialdN (pc := 30) E 2 rfl (by omega) (by omega) dX5_replies_30 (gg_i 1 rfl) ?_
      rw [hnt]
      refine gg_bipush (v := 30) (pc := 31) E dX5_replies_31 (by decide) ?_
      refine gg_icmpN_ne (tgt := 37) (pc := 33) E nt 30 rfl rfl (by omega) (by omega) dX5_replies_33 (by decide) (fun c33 => ?_) (fun c33 => ?_)
      · refine gg_aload_n (pc := 37) E dX5_replies_37 rfl rfl ?_
        refine gg_aload_n (pc := 38) E dX5_replies_38 rfl rfl ?_
        refine gg_get (pc := 39) E ck_X5 0 q2859 rfl (by decide) dX5_replies_39 (gg_i 0 rfl) rfl ?_
        refine gg_iload_n (pc := 42) E dX5_replies_42 rfl rfl ?_
        refine gg_iconst (v := 2) (pc := 43) E dX5_replies_43 (by decide) ?_
        refine gg_iaddN (pc := 44) E (220 + 27 * t) 2 rfl rfl dX5_replies_44 ?_
        refine gg_ialdN (pc := 45) E ((220 + 27 * t) + 2) rfl (by omega) (by omega) dX5_replies_45 (gg_i 1 rfl) ?_
        rw [hno]
        refine gg_putM (M' := [_, _, _]) (pc := 46) E ck_X5 11 q2870 rfl (by decide) dX5_replies_46 0 rfl rfl (rfl) rfl (Nat.le_of_ble_eq_true rfl) rfl rfl ?_
        refine gg_iconst (v := 0) (pc := 49) E dX5_replies_49 (by decide) ?_
        refine gg_istore_n (lv' := [_, _, _, _]) (pc := 50) E dX5_replies_50 rfl (Nat.le_of_ble_eq_true rfl) rfl rfl ?_
        have L51 : ∀ (n : Nat) (i : Nat), no - i < n → (i ≤ no) → gg_W p l e R s m args below meth c g A 4 Q 0 0 [[(h, .inl (4, mo_f ad (upd x 11 (nI no))))], [((ad 0), gg_ai g 1030 row)], [((ad 10), gg_ai g 8 (ub su 0 i (fun j => row (220 + 27 * t + 11 + no - 1 - j))))]] [some (.ref h), some (.int (nI t)), some (.int (nI (220 + 27 * t))), some (.int (nI i))] [] 51 := by
          intro n51
          induction n51 with
          | zero => intro i hmz; exact absurd hmz (Nat.not_lt_zero _)
          | succ n51 ih51 =>
            intro i hm51 hi
            refine gg_iload_n (pc := 51) E dX5_replies_51 rfl rfl ?_
            refine gg_aload_n (pc := 52) E dX5_replies_52 rfl rfl ?_
            refine gg_get (pc := 53) E ck_X5 11 q2870 rfl (by decide) dX5_replies_53 (gg_i 0 rfl) rfl ?_
            refine gg_topI (y := nI no) pk_us ?_
            refine gg_icmpN_ge (tgt := 89) (pc := 56) E i no rfl rfl (by omega) (by omega) dX5_replies_56 (by decide) (fun c56 => ?_) (fun c56 => ?_)
            · refine gg_aload_n (pc := 89) E dX5_replies_89 rfl rfl ?_
              refine gg_aload_n (pc := 90) E dX5_replies_90 rfl rfl ?_
              refine gg_get (pc := 91) E ck_X5 0 q2859 rfl (by decide) dX5_replies_91 (gg_i 0 rfl) rfl ?_
              refine gg_iload_n (pc := 94) E dX5_replies_94 rfl rfl ?_
              refine gg_iconst (v := 1) (pc := 95) E dX5_replies_95 (by decide) ?_
              refine gg_iaddN (pc := 96) E (220 + 27 * t) 1 rfl rfl dX5_replies_96 ?_
              refine gg_ialdN (pc := 97) E ((220 + 27 * t) + 1) rfl (by omega) (by omega) dX5_replies_97 (gg_i 1 rfl) ?_
              refine gg_aload_n (pc := 98) E dX5_replies_98 rfl rfl ?_
              refine gg_get (pc := 99) E ck_X5 0 q2859 rfl (by decide) dX5_replies_99 (gg_i 0 rfl) rfl ?_
              refine gg_iload_n (pc := 102) E dX5_replies_102 rfl rfl ?_
              refine gg_iconst (v := 0) (pc := 103) E dX5_replies_103 (by decide) ?_
              refine gg_iaddN (pc := 104) E (220 + 27 * t) 0 rfl rfl dX5_replies_104 ?_
              refine gg_ialdN (pc := 105) E ((220 + 27 * t) + 0) rfl (by omega) (by omega) dX5_replies_105 (gg_i 1 rfl) ?_
              refine gg_iconst (v := 1) (pc := 106) E dX5_replies_106 (by decide) ?_
              refine gg_iconst (v := 0) (pc := 107) E dX5_replies_107 (by decide) ?_
              refine gg_callV (F := [_, _]) (As := [_, _, _, _]) (rest := []) (pc := 108) E ck_X5 (ct_X5_newTune hl (hnt) (by omega) (pk_us) (hno8) (Or.inr rfl) (Or.inl rfl)) (cwV 4 E.2.2.2.2.1 (lw_V q3117 q3119 qs99 q179 q3120) rfl rfl rfl (by decide +kernel) ⟨by rw [hRf]; exact Nat.le_of_ble_eq_true rfl, by rw [hRl]; exact Nat.le_of_ble_eq_true rfl⟩) dX5_replies_108 [1] (by decide) rfl rfl (List.forall_mem_cons.mpr ⟨(gg_i 0 rfl), (List.forall_mem_cons.mpr ⟨(gg_i 1 rfl), (fun _ h => by cases h)⟩)⟩) (gg_i 0 rfl) rfl rfl (Nat.le_of_ble_eq_true rfl) (by first | (rw [hRc]; exact Nat.le_of_ble_eq_true rfl) | (rw [hRc]; dsimp only; omega)) (by first | (rw [hRs]; exact Nat.le_of_ble_eq_true rfl) | (rw [hRs]; dsimp only; omega)) ?_ (fun X q C1 h => h.elim)
              rintro _ _ ⟨rfl, rfl⟩
              dsimp only [List.cons_append, List.nil_append, Option.toList]
              refine gg_up1 ?_
              refine gg_istore_n (lv' := [_, _, _, _]) (pc := 111) E dX5_replies_111 rfl (Nat.le_of_ble_eq_true rfl) rfl rfl ?_
              refine gg_vret (pc := 112) E Fn rfl dX5_replies_112 (by first | exact Nat.le_of_ble_eq_true rfl | (dsimp only; omega)) (by first | exact Nat.le_of_ble_eq_true rfl | (dsimp only; omega)) ?_
              obtain rfl : i = no := by omega
              refine ⟨nI i, (ub su 0 i (fun j => row (220 + 27 * t + 11 + i - 1 - j))), rfl, ?_⟩
              unfold rpF
              rw [if_neg (by rintro (q | q | q); exact c14 q; exact c22 q; exact c33 q), ntu_su (su' := (fun j => row (220 + 27 * t + 11 + i - 1 - j))) (fun k hk => by rw [ub_in _ _ _ _ (by omega) (by omega)]; rfl)]
              rfl
            · refine gg_aload_n (pc := 59) E dX5_replies_59 rfl rfl ?_
              refine gg_get (pc := 60) E ck_X5 10 q2869 rfl (by decide) dX5_replies_60 (gg_i 0 rfl) rfl ?_
              refine gg_iload_n (pc := 63) E dX5_replies_63 rfl rfl ?_
              refine gg_aload_n (pc := 64) E dX5_replies_64 rfl rfl ?_
              refine gg_get (pc := 65) E ck_X5 0 q2859 rfl (by decide) dX5_replies_65 (gg_i 0 rfl) rfl ?_
              refine gg_iload_n (pc := 68) E dX5_replies_68 rfl rfl ?_
              refine gg_bipush (v := 11) (pc := 69) E dX5_replies_69 (by decide) ?_
              refine gg_iaddN (pc := 71) E (220 + 27 * t) 11 rfl rfl dX5_replies_71 ?_
              refine gg_aload_n (pc := 72) E dX5_replies_72 rfl rfl ?_
              refine gg_get (pc := 73) E ck_X5 11 q2870 rfl (by decide) dX5_replies_73 (gg_i 0 rfl) rfl ?_
              refine gg_topI (y := nI no) pk_us ?_
              refine gg_iaddN (pc := 76) E ((220 + 27 * t) + 11) no rfl rfl dX5_replies_76 ?_
              refine gg_iconst (v := 1) (pc := 77) E dX5_replies_77 (by decide) ?_
              refine gg_isubN (pc := 78) E ((220 + 27 * t) + 11 + no) 1 rfl rfl (by omega) dX5_replies_78 ?_
              refine gg_iload_n (pc := 79) E dX5_replies_79 rfl rfl ?_
              refine gg_isubN (pc := 80) E (((220 + 27 * t) + 11 + no) - 1) i rfl rfl (by omega) dX5_replies_80 ?_
              refine gg_ialdN (pc := 81) E ((((220 + 27 * t) + 11 + no) - 1) - i) rfl (by omega) (by omega) dX5_replies_81 (gg_i 1 rfl) ?_
              refine gg_iastN (M' := [_, _, _]) (pc := 82) E i rfl (by omega) (by omega) dX5_replies_82 2 rfl rfl ?_
              refine gg_iincN (k := 1) (lv' := [_, _, _, _]) (pc := 83) E i dX5_replies_83 rfl rfl rfl (Nat.le_of_ble_eq_true rfl) rfl rfl ?_
              refine gg_goto (tgt := 51) (pc := 86) E dX5_replies_86 (by decide) ?_
              refine gg_cv ?_ (gg_leS (gg_leS (gg_leS (gg_leS gg_le0)))) rfl (by first | exact Nat.le_refl _ | (dsimp only; omega)) (by first | exact Nat.le_refl _ | (dsimp only; omega)) (ih51 (i + 1) (by omega) (by omega))
              · rw [ub0_1 _ _ _ _ rfl]
        refine gg_cv ?_ (gg_leS (gg_leS (gg_leS (gg_leS gg_le0)))) rfl (by first | exact Nat.le_refl _ | (dsimp only; omega)) (by first | exact Nat.le_refl _ | (dsimp only; omega)) (L51 _ 0 (Nat.lt_succ_self _) (Nat.zero_le _))
        · first | (rw [ub_0]; done) | (rw [ub_0]; rfl)
      · refine gg_vret (pc := 36) E Fn rfl dX5_replies_36 (by first | exact Nat.le_of_ble_eq_true rfl | (dsimp only; omega)) (by first | exact Nat.le_of_ble_eq_true rfl | (dsimp only; omega)) ?_
        exact ⟨x 11, su, rfl, by unfold rpF; rw [if_pos (Or.inr (Or.inr c33))]; exact congrArg (fun z => [[(h, .inl (4, mo_f ad z))], [(ad 0, gg_ai g 1030 row)], [(ad 10, gg_ai g 8 su)]]) (mu_11 x)⟩
set_option maxHeartbeats 4000000 in
theorem ct_X5_comes {l : Launch} (hl : l.stackTraces = false) {g : gg_G}  {h : Nat} {ad : Nat → Nat} {x : Nat → Int32} {row : Nat → Int32} {su : Nat → Int32} {t : Nat} {nr nw nt : Nat} (hG : Gw row nr nw nt) (htt : t < nt) : gg_C l g yX5_comes (ws_ yX5_comes cX5_comes 3 none) { frames := 4, cells := 0, slots := 0, locals := 92 } [.ref h, .int (nI t)] [] [[(h, .inl (4, mo_f ad x))], [((ad 0), gg_ai g 1030 row)], [((ad 10), gg_ai g 8 su)]] (fun vv CC => ∃ (z : Int32) (S : Nat → Int32), vv = none ∧ CC = [[(h, .inl (4, mo_f ad (upd x 11 z)))], [((ad 0), gg_ai g 1030 (cmF row nt t))], [((ad 10), gg_ai g 8 S)]]) gg_no := by
  refine gg_of (lv := [_, _, _]) (by decide) hl (Nat.le_of_ble_eq_true rfl) rfl ?_
  intro p e R s m args below meth c A Q hRf hRl hRc hRs E Fn hnm hex
  have hG0 := hG
  obtain ⟨hnr, hw, ht, hG4, hGS⟩ := hG
  have hnw := hw.1
  have hw20 := hw.2.1
  have hr10 := hw.2.2.1
  have hnt := ht.1
  have ht30 := ht.2.1
  obtain ⟨g1, g2, g3, g4, g5, g6, g7, g8, g9, g10⟩ := ht.2.2.2 t (by omega)
  refine gg_iload_n (pc := 0) E dX5_comes_0 rfl rfl ?_
  refine gg_callS (F := [_, _, _]) (As := [.int (nI t)]) (rest := []) (pc := 1) E (ct_X5_t hl ) (va_cwS 1 E.2.2.2.2.1 (lw_S q3121 q3122 q179 q3123) rfl rfl rfl (by decide +kernel) ⟨by rw [hRf]; exact Nat.le_of_ble_eq_true rfl, by rw [hRl]; exact Nat.le_of_ble_eq_true rfl⟩) dX5_comes_1 [] (by decide) rfl rfl (fun _ h => by cases h) rfl rfl (Nat.le_of_ble_eq_true rfl) (by first | (rw [hRc]; exact Nat.le_of_ble_eq_true rfl) | (rw [hRc]; dsimp only; omega)) (by first | (rw [hRs]; exact Nat.le_of_ble_eq_true rfl) | (rw [hRs]; dsimp only; omega)) ?_ (fun X q C1 h => h.elim)
  rintro _ _ ⟨rfl, rfl⟩
  dsimp only [List.cons_append, List.nil_append, Option.toList]
  refine gg_istore_n (lv' := [_, _, _]) (pc := 4) E dX5_comes_4 rfl (Nat.le_of_ble_eq_true rfl) rfl rfl ?_
  refine gg_aload_n (pc := 5) E dX5_comes_5 rfl rfl ?_
  refine gg_iload_n (pc := 6) E dX5_comes_6 rfl rfl ?_
  refine gg_callV (F := [_, _]) (As := [.int (nI t)]) (rest := []) (pc := 7) E ck_X5 (ct_X5_blurs hl (hG0) (htt)) (cwV 1 E.2.2.2.2.1 (lw_V q3151 q3153 qs106 q179 q3154) rfl rfl rfl (by decide +kernel) ⟨by rw [hRf]; exact Nat.le_of_ble_eq_true rfl, by rw [hRl]; exact Nat.le_of_ble_eq_true rfl⟩) dX5_comes_7 [1] (by decide) rfl rfl (List.forall_mem_cons.mpr ⟨(gg_i 0 rfl), (fun _ h => by cases h)⟩) (gg_i 0 rfl) rfl rfl (Nat.le_of_ble_eq_true rfl) (by first | (rw [hRc]; exact Nat.le_of_ble_eq_true rfl) | (rw [hRc]; dsimp only; omega)) (by first | (rw [hRs]; exact Nat.le_of_ble_eq_true rfl) | (rw [hRs]; dsimp only; omega)) ?_ (fun X q C1 h => h.elim)
  rintro _ _ ⟨rfl, rfl⟩
  dsimp only [List.cons_append, List.nil_append, Option.toList]
  refine gg_up1 ?_
  refine gg_aload_n (pc := 10) E dX5_comes_10 rfl rfl ?_
  refine gg_get (pc := 11) E ck_X5 0 q2859 rfl (by decide) dX5_comes_11 (gg_i 0 rfl) rfl ?_
  refine gg_iload_n (pc := 14) E dX5_comes_14 rfl rfl ?_
  refine gg_iconst (v := 5) (pc := 15) E dX5_comes_15 (by decide) ?_
  refine gg_iaddN (pc := 16) E (220 + 27 * t) 5 rfl rfl dX5_comes_16 ?_
  refine gg_iconst (v := (-1)) (pc := 17) E dX5_comes_17 (by decide) ?_
  refine gg_iastN (M' := [_, _, _]) (pc := 18) E ((220 + 27 * t) + 5) rfl (by omega) (by omega) dX5_comes_18 1 rfl rfl ?_
  refine gg_aload_n (pc := 19) E dX5_comes_19 rfl rfl ?_
  refine gg_get (pc := 20) E ck_X5 0 q2859 rfl (by decide) dX5_comes_20 (gg_i 0 rfl) rfl ?_
  refine gg_iload_n (pc := 23) E dX5_comes_23 rfl rfl ?_
  refine gg_iconst (v := 3) (pc := 24) E dX5_comes_24 (by decide) ?_
  refine gg_iaddN (pc := 25) E (220 + 27 * t) 3 rfl rfl dX5_comes_25 ?_
  refine gg_iconst (v := 0) (pc := 26) E dX5_comes_26 (by decide) ?_
  refine gg_iastN (M' := [_, _, _]) (pc := 27) E ((220 + 27 * t) + 3) rfl (by omega) (by omega) dX5_comes_27 1 rfl rfl ?_
  refine gg_aload_n (pc := 28) E dX5_comes_28 rfl rfl ?_
  refine gg_get (pc := 29) E ck_X5 0 q2859 rfl (by decide) dX5_comes_29 (gg_i 0 rfl) rfl ?_
  refine gg_iload_n (pc := 32) E dX5_comes_32 rfl rfl ?_
  refine gg_iconst (v := 4) (pc := 33) E dX5_comes_33 (by decide) ?_
  refine gg_iaddN (pc := 34) E (220 + 27 * t) 4 rfl rfl dX5_comes_34 ?_
  refine gg_ialdN (pc := 35) E ((220 + 27 * t) + 4) rfl (by omega) (by omega) dX5_comes_35 (gg_i 1 rfl) ?_
  refine gg_topI (y := row (220 + 27 * t + 4)) (by rw [pk_un (by omega), pk_un (by omega), blF_out g9 g10 (by omega) (by omega)]) ?_
  refine gg_aload_n (pc := 36) E dX5_comes_36 rfl rfl ?_
  refine gg_get (pc := 37) E ck_X5 0 q2859 rfl (by decide) dX5_comes_37 (gg_i 0 rfl) rfl ?_
  refine gg_iload_n (pc := 40) E dX5_comes_40 rfl rfl ?_
  refine gg_iconst (v := 1) (pc := 41) E dX5_comes_41 (by decide) ?_
  refine gg_iaddN (pc := 42) E (220 + 27 * t) 1 rfl rfl dX5_comes_42 ?_
  refine gg_ialdN (pc := 43) E ((220 + 27 * t) + 1) rfl (by omega) (by omega) dX5_comes_43 (gg_i 1 rfl) ?_
  refine gg_topI (y := row (220 + 27 * t + 1)) (by rw [pk_un (by omega), pk_un (by omega), blF_out g9 g10 (by omega) (by omega)]) ?_
  refine gg_icmp_eq (tgt := 48) (pc := 44) E dX5_comes_44 (by decide) (fun c44 => ?_) (fun c44 => ?_)
  · refine gg_aload_n (pc := 48) E dX5_comes_48 rfl rfl ?_
    refine gg_iload_n (pc := 49) E dX5_comes_49 rfl rfl ?_
    refine gg_callV (F := [_, _, _]) (As := [.int (nI t)]) (rest := []) (pc := 50) E ck_X5 (ct_X5_unlike (row := cm3 row t) hl (by omega) ((cm3_out g9 g10 (by omega) (by omega) (by omega) (by omega)).trans g3) g10) (cwV 1 E.2.2.2.2.1 (lw_V q3160 q3162 qs108 q179 q3163) rfl rfl rfl (by decide +kernel) ⟨by rw [hRf]; exact Nat.le_of_ble_eq_true rfl, by rw [hRl]; exact Nat.le_of_ble_eq_true rfl⟩) dX5_comes_50 [] (by decide) rfl rfl (List.forall_mem_cons.mpr ⟨(gg_i 0 rfl), (List.forall_mem_cons.mpr ⟨(gg_i 1 rfl), (fun _ h => by cases h)⟩)⟩) (gg_i 0 rfl) rfl rfl (Nat.le_of_ble_eq_true rfl) (by first | (rw [hRc]; exact Nat.le_of_ble_eq_true rfl) | (rw [hRc]; dsimp only; omega)) (by first | (rw [hRs]; exact Nat.le_of_ble_eq_true rfl) | (rw [hRs]; dsimp only; omega)) ?_ (fun X q C1 h => h.elim)
    rintro _ _ ⟨rfl, rfl⟩
    dsimp only [List.cons_append, List.nil_append, Option.toList]
    refine gg_topI (y := ulk (blF row t) t (tno row t)) (ulk_cm3 g10) ?_
    refine gg_if_le (tgt := 117) (pc := 53) E dX5_comes_53 (by decide) (fun c53 => ?_) (fun c53 => ?_)
    · refine gg_aload_n (pc := 117) E dX5_comes_117 rfl rfl ?_
      refine gg_get (pc := 118) E ck_X5 0 q2859 rfl (by decide) dX5_comes_118 (gg_i 0 rfl) rfl ?_
      refine gg_iload_n (pc := 121) E dX5_comes_121 rfl rfl ?_
      refine gg_iconst (v := 3) (pc := 122) E dX5_comes_122 (by decide) ?_
      refine gg_iaddN (pc := 123) E (220 + 27 * t) 3 rfl rfl dX5_comes_123 ?_
      refine gg_iconst (v := 2) (pc := 124) E dX5_comes_124 (by decide) ?_
      refine gg_iastN (M' := [_, _, _]) (pc := 125) E ((220 + 27 * t) + 3) rfl (by omega) (by omega) dX5_comes_125 1 rfl rfl ?_
      refine gg_aload_n (pc := 126) E dX5_comes_126 rfl rfl ?_
      refine gg_iconst (v := 5) (pc := 127) E dX5_comes_127 (by decide) ?_
      refine gg_iconst (v := 1) (pc := 128) E dX5_comes_128 (by decide) ?_
      refine gg_callV (F := [_, _]) (As := [.int (nI 5), _]) (rest := []) (pc := 129) E ck_X5 (ct_X5_counts hl (by first | assumption | omega)) (cwV 2 E.2.2.2.2.1 (lw_V q3131 q3133 qs101 q179 q3134) rfl rfl rfl (by decide +kernel) ⟨by rw [hRf]; exact Nat.le_of_ble_eq_true rfl, by rw [hRl]; exact Nat.le_of_ble_eq_true rfl⟩) dX5_comes_129 [1] (by decide) rfl rfl (List.forall_mem_cons.mpr ⟨(gg_i 0 rfl), (fun _ h => by cases h)⟩) (gg_i 0 rfl) rfl rfl (Nat.le_of_ble_eq_true rfl) (by first | (rw [hRc]; exact Nat.le_of_ble_eq_true rfl) | (rw [hRc]; dsimp only; omega)) (by first | (rw [hRs]; exact Nat.le_of_ble_eq_true rfl) | (rw [hRs]; dsimp only; omega)) ?_ (fun X q C1 h => h.elim)
      rintro _ _ ⟨rfl, rfl⟩
      dsimp only [List.cons_append, List.nil_append, Option.toList]
      refine gg_up1 ?_
      refine gg_aload_n (pc := 132) E dX5_comes_132 rfl rfl ?_
      refine gg_bipush (v := 6) (pc := 133) E dX5_comes_133 (by decide) ?_
      refine gg_aload_n (pc := 135) E dX5_comes_135 rfl rfl ?_
      refine gg_iload_n (pc := 136) E dX5_comes_136 rfl rfl ?_
      refine gg_callV (F := [_, _, _]) (As := [.int (nI t)]) (rest := [_, _]) (pc := 137) E ck_X5 (ct_X5_unlike (row := cn (upd (cm3 row t) (220 + 27 * t + 3) 2) 5 1) hl (by omega) (by rw [cn_out (by omega), pk_un (by omega)]; exact (cm3_out g9 g10 (by omega) (by omega) (by omega) (by omega)).trans g3) g10) (cwV 1 E.2.2.2.2.1 (lw_V q3160 q3162 qs108 q179 q3163) rfl rfl rfl (by decide +kernel) ⟨by rw [hRf]; exact Nat.le_of_ble_eq_true rfl, by rw [hRl]; exact Nat.le_of_ble_eq_true rfl⟩) dX5_comes_137 [] (by decide) rfl rfl (List.forall_mem_cons.mpr ⟨(gg_i 0 rfl), (List.forall_mem_cons.mpr ⟨(gg_i 1 rfl), (fun _ h => by cases h)⟩)⟩) (gg_i 0 rfl) rfl rfl (Nat.le_of_ble_eq_true rfl) (by first | (rw [hRc]; exact Nat.le_of_ble_eq_true rfl) | (rw [hRc]; dsimp only; omega)) (by first | (rw [hRs]; exact Nat.le_of_ble_eq_true rfl) | (rw [hRs]; dsimp only; omega)) ?_ (fun X q C1 h => h.elim)
      rintro _ _ ⟨rfl, rfl⟩
      dsimp only [List.cons_append, List.nil_append, Option.toList]
      refine gg_topI (y := ulk (blF row t) t (tno row t)) (ulk_cm4 g10) ?_
      refine gg_ifB_ne (pc := 140) E dX5_comes_140 dX5_comes_143 dX5_comes_144 dX5_comes_147 ?_
      refine gg_callS (F := [_, _, _]) (As := [_]) (rest := [_, _]) (pc := 148) E (ct_X5_one hl ) (va_cwS 1 E.2.2.2.2.1 (lw_S q3124 q3125 q179 q3126) rfl rfl rfl (by decide +kernel) ⟨by rw [hRf]; exact Nat.le_of_ble_eq_true rfl, by rw [hRl]; exact Nat.le_of_ble_eq_true rfl⟩) dX5_comes_148 [] (by decide) rfl rfl (fun _ h => by cases h) rfl rfl (Nat.le_of_ble_eq_true rfl) (by first | (rw [hRc]; exact Nat.le_of_ble_eq_true rfl) | (rw [hRc]; dsimp only; omega)) (by first | (rw [hRs]; exact Nat.le_of_ble_eq_true rfl) | (rw [hRs]; dsimp only; omega)) ?_ (fun X q C1 h => h.elim)
      rintro _ _ ⟨rfl, rfl⟩
      dsimp only [List.cons_append, List.nil_append, Option.toList]
      refine gg_callV (F := [_, _]) (As := [.int (nI 6), _]) (rest := []) (pc := 151) E ck_X5 (ct_X5_counts hl (by first | assumption | omega)) (cwV 2 E.2.2.2.2.1 (lw_V q3131 q3133 qs101 q179 q3134) rfl rfl rfl (by decide +kernel) ⟨by rw [hRf]; exact Nat.le_of_ble_eq_true rfl, by rw [hRl]; exact Nat.le_of_ble_eq_true rfl⟩) dX5_comes_151 [1] (by decide) rfl rfl (List.forall_mem_cons.mpr ⟨(gg_i 0 rfl), (fun _ h => by cases h)⟩) (gg_i 0 rfl) rfl rfl (Nat.le_of_ble_eq_true rfl) (by first | (rw [hRc]; exact Nat.le_of_ble_eq_true rfl) | (rw [hRc]; dsimp only; omega)) (by first | (rw [hRs]; exact Nat.le_of_ble_eq_true rfl) | (rw [hRs]; dsimp only; omega)) ?_ (fun X q C1 h => h.elim)
      rintro _ _ ⟨rfl, rfl⟩
      dsimp only [List.cons_append, List.nil_append, Option.toList]
      refine gg_up1 ?_
      refine gg_aload_n (pc := 154) E dX5_comes_154 rfl rfl ?_
      refine gg_iload_n (pc := 155) E dX5_comes_155 rfl rfl ?_
      refine gg_callV (F := []) (As := [.int (nI t)]) (rest := []) (pc := 156) E ck_X5 (ct_X5_replies (row := cmB row t (ulk (blF row t) t (tno row t))) (no := tno row t) (nt := nt) hl (by omega) (by unfold cmB; rw [cn_out (by omega), cn_out (by omega), pk_un (by omega)]; exact (cm3_out g9 g10 (by omega) (by omega) (by omega) (by omega)).trans g3) g10 (by unfold cmB; rw [cn_out (by omega), cn_out (by omega), pk_un (by omega)]; exact (cm3_out g9 g10 (by omega) (by omega) (by omega) (by omega)).trans hnt) ht30) (cwV 1 E.2.2.2.2.1 (lw_V q3164 q3166 qs109 q179 q3167) rfl rfl rfl (by decide +kernel) ⟨by rw [hRf]; exact Nat.le_of_ble_eq_true rfl, by rw [hRl]; exact Nat.le_of_ble_eq_true rfl⟩) dX5_comes_156 [0, 1, 2] (by decide) rfl rfl (fun _ h => by cases h) (gg_i 0 rfl) rfl rfl (Nat.le_of_ble_eq_true rfl) (by first | (rw [hRc]; exact Nat.le_of_ble_eq_true rfl) | (rw [hRc]; dsimp only; omega)) (by first | (rw [hRs]; exact Nat.le_of_ble_eq_true rfl) | (rw [hRs]; dsimp only; omega)) ?_ (fun X q C1 h => h.elim)
      rintro _ _ ⟨z1, S1, rfl, rfl⟩
      dsimp only [List.cons_append, List.nil_append, Option.toList]
      refine gg_up2 ?_
      refine gg_up2 ?_
      refine gg_up2 ?_
      refine gg_vret (pc := 159) E Fn rfl dX5_comes_159 (by first | exact Nat.le_of_ble_eq_true rfl | (dsimp only; omega)) (by first | exact Nat.le_of_ble_eq_true rfl | (dsimp only; omega)) ?_
      refine ⟨z1, S1, rfl, ?_⟩
      unfold cmF
      rw [if_neg (fun q => q c44), if_neg (fun q => absurd q.1 (Int32.not_lt.mpr c53))]
    · refine gg_aload_n (pc := 56) E dX5_comes_56 rfl rfl ?_
      refine gg_get (pc := 57) E ck_X5 0 q2859 rfl (by decide) dX5_comes_57 (gg_i 0 rfl) rfl ?_
      refine gg_iload_n (pc := 60) E dX5_comes_60 rfl rfl ?_
      refine gg_bipush (v := 8) (pc := 61) E dX5_comes_61 (by decide) ?_
      refine gg_iaddN (pc := 63) E (220 + 27 * t) 8 rfl rfl dX5_comes_63 ?_
      refine gg_ialdN (pc := 64) E ((220 + 27 * t) + 8) rfl (by omega) (by omega) dX5_comes_64 (gg_i 1 rfl) ?_
      refine gg_topI (y := row (220 + 27 * t + 8)) (by exact cm3_out g9 g10 (by omega) (by omega) (by omega) (by omega)) ?_
      refine gg_aload_n (pc := 65) E dX5_comes_65 rfl rfl ?_
      refine gg_get (pc := 66) E ck_X5 0 q2859 rfl (by decide) dX5_comes_66 (gg_i 0 rfl) rfl ?_
      refine gg_bipush (v := 6) (pc := 69) E dX5_comes_69 (by decide) ?_
      refine gg_ialdN (pc := 71) E 6 rfl (by omega) (by omega) dX5_comes_71 (gg_i 1 rfl) ?_
      refine gg_topI (y := row 6) (by exact cm3_out g9 g10 (by omega) (by omega) (by omega) (by omega)) ?_
      refine gg_icmp_ge (tgt := 117) (pc := 72) E dX5_comes_72 (by decide) (fun c72 => ?_) (fun c72 => ?_)
      · refine gg_aload_n (pc := 117) E dX5_comes_117 rfl rfl ?_
        refine gg_get (pc := 118) E ck_X5 0 q2859 rfl (by decide) dX5_comes_118 (gg_i 0 rfl) rfl ?_
        refine gg_iload_n (pc := 121) E dX5_comes_121 rfl rfl ?_
        refine gg_iconst (v := 3) (pc := 122) E dX5_comes_122 (by decide) ?_
        refine gg_iaddN (pc := 123) E (220 + 27 * t) 3 rfl rfl dX5_comes_123 ?_
        refine gg_iconst (v := 2) (pc := 124) E dX5_comes_124 (by decide) ?_
        refine gg_iastN (M' := [_, _, _]) (pc := 125) E ((220 + 27 * t) + 3) rfl (by omega) (by omega) dX5_comes_125 1 rfl rfl ?_
        refine gg_aload_n (pc := 126) E dX5_comes_126 rfl rfl ?_
        refine gg_iconst (v := 5) (pc := 127) E dX5_comes_127 (by decide) ?_
        refine gg_iconst (v := 1) (pc := 128) E dX5_comes_128 (by decide) ?_
        refine gg_callV (F := [_, _]) (As := [.int (nI 5), _]) (rest := []) (pc := 129) E ck_X5 (ct_X5_counts hl (by first | assumption | omega)) (cwV 2 E.2.2.2.2.1 (lw_V q3131 q3133 qs101 q179 q3134) rfl rfl rfl (by decide +kernel) ⟨by rw [hRf]; exact Nat.le_of_ble_eq_true rfl, by rw [hRl]; exact Nat.le_of_ble_eq_true rfl⟩) dX5_comes_129 [1] (by decide) rfl rfl (List.forall_mem_cons.mpr ⟨(gg_i 0 rfl), (fun _ h => by cases h)⟩) (gg_i 0 rfl) rfl rfl (Nat.le_of_ble_eq_true rfl) (by first | (rw [hRc]; exact Nat.le_of_ble_eq_true rfl) | (rw [hRc]; dsimp only; omega)) (by first | (rw [hRs]; exact Nat.le_of_ble_eq_true rfl) | (rw [hRs]; dsimp only; omega)) ?_ (fun X q C1 h => h.elim)
        rintro _ _ ⟨rfl, rfl⟩
        dsimp only [List.cons_append, List.nil_append, Option.toList]
        refine gg_up1 ?_
        refine gg_aload_n (pc := 132) E dX5_comes_132 rfl rfl ?_
        refine gg_bipush (v := 6) (pc := 133) E dX5_comes_133 (by decide) ?_
        refine gg_aload_n (pc := 135) E dX5_comes_135 rfl rfl ?_
        refine gg_iload_n (pc := 136) E dX5_comes_136 rfl rfl ?_
        refine gg_callV (F := [_, _, _]) (As := [.int (nI t)]) (rest := [_, _]) (pc := 137) E ck_X5 (ct_X5_unlike (row := cn (upd (cm3 row t) (220 + 27 * t + 3) 2) 5 1) hl (by omega) (by rw [cn_out (by omega), pk_un (by omega)]; exact (cm3_out g9 g10 (by omega) (by omega) (by omega) (by omega)).trans g3) g10) (cwV 1 E.2.2.2.2.1 (lw_V q3160 q3162 qs108 q179 q3163) rfl rfl rfl (by decide +kernel) ⟨by rw [hRf]; exact Nat.le_of_ble_eq_true rfl, by rw [hRl]; exact Nat.le_of_ble_eq_true rfl⟩) dX5_comes_137 [] (by decide) rfl rfl (List.forall_mem_cons.mpr ⟨(gg_i 0 rfl), (List.forall_mem_cons.mpr ⟨(gg_i 1 rfl), (fun _ h => by cases h)⟩)⟩) (gg_i 0 rfl) rfl rfl (Nat.le_of_ble_eq_true rfl) (by first | (rw [hRc]; exact Nat.le_of_ble_eq_true rfl) | (rw [hRc]; dsimp only; omega)) (by first | (rw [hRs]; exact Nat.le_of_ble_eq_true rfl) | (rw [hRs]; dsimp only; omega)) ?_ (fun X q C1 h => h.elim)
        rintro _ _ ⟨rfl, rfl⟩
        dsimp only [List.cons_append, List.nil_append, Option.toList]
        refine gg_topI (y := ulk (blF row t) t (tno row t)) (ulk_cm4 g10) ?_
        refine gg_ifB_ne (pc := 140) E dX5_comes_140 dX5_comes_143 dX5_comes_144 dX5_comes_147 ?_
        refine gg_callS (F := [_, _, _]) (As := [_]) (rest := [_, _]) (pc := 148) E (ct_X5_one hl ) (va_cwS 1 E.2.2.2.2.1 (lw_S q3124 q3125 q179 q3126) rfl rfl rfl (by decide +kernel) ⟨by rw [hRf]; exact Nat.le_of_ble_eq_true rfl, by rw [hRl]; exact Nat.le_of_ble_eq_true rfl⟩) dX5_comes_148 [] (by decide) rfl rfl (fun _ h => by cases h) rfl rfl (Nat.le_of_ble_eq_true rfl) (by first | (rw [hRc]; exact Nat.le_of_ble_eq_true rfl) | (rw [hRc]; dsimp only; omega)) (by first | (rw [hRs]; exact Nat.le_of_ble_eq_true rfl) | (rw [hRs]; dsimp only; omega)) ?_ (fun X q C1 h => h.elim)
        rintro _ _ ⟨rfl, rfl⟩
        dsimp only [List.cons_append, List.nil_append, Option.toList]
        refine gg_callV (F := [_, _]) (As := [.int (nI 6), _]) (rest := []) (pc := 151) E ck_X5 (ct_X5_counts hl (by first | assumption | omega)) (cwV 2 E.2.2.2.2.1 (lw_V q3131 q3133 qs101 q179 q3134) rfl rfl rfl (by decide +kernel) ⟨by rw [hRf]; exact Nat.le_of_ble_eq_true rfl, by rw [hRl]; exact Nat.le_of_ble_eq_true rfl⟩) dX5_comes_151 [1] (by decide) rfl rfl (List.forall_mem_cons.mpr ⟨(gg_i 0 rfl), (fun _ h => by cases h)⟩) (gg_i 0 rfl) rfl rfl (Nat.le_of_ble_eq_true rfl) (by first | (rw [hRc]; exact Nat.le_of_ble_eq_true rfl) | (rw [hRc]; dsimp only; omega)) (by first | (rw [hRs]; exact Nat.le_of_ble_eq_true rfl) | (rw [hRs]; dsimp only; omega)) ?_ (fun X q C1 h => h.elim)
        rintro _ _ ⟨rfl, rfl⟩
        dsimp only [List.cons_append, List.nil_append, Option.toList]
        refine gg_up1 ?_
        refine gg_aload_n (pc := 154) E dX5_comes_154 rfl rfl ?_
        refine gg_iload_n (pc := 155) E dX5_comes_155 rfl rfl ?_
        refine gg_callV (F := []) (As := [.int (nI t)]) (rest := []) (pc := 156) E ck_X5 (ct_X5_replies (row := cmB row t (ulk (blF row t) t (tno row t))) (no := tno row t) (nt := nt) hl (by omega) (by unfold cmB; rw [cn_out (by omega), cn_out (by omega), pk_un (by omega)]; exact (cm3_out g9 g10 (by omega) (by omega) (by omega) (by omega)).trans g3) g10 (by unfold cmB; rw [cn_out (by omega), cn_out (by omega), pk_un (by omega)]; exact (cm3_out g9 g10 (by omega) (by omega) (by omega) (by omega)).trans hnt) ht30) (cwV 1 E.2.2.2.2.1 (lw_V q3164 q3166 qs109 q179 q3167) rfl rfl rfl (by decide +kernel) ⟨by rw [hRf]; exact Nat.le_of_ble_eq_true rfl, by rw [hRl]; exact Nat.le_of_ble_eq_true rfl⟩) dX5_comes_156 [0, 1, 2] (by decide) rfl rfl (fun _ h => by cases h) (gg_i 0 rfl) rfl rfl (Nat.le_of_ble_eq_true rfl) (by first | (rw [hRc]; exact Nat.le_of_ble_eq_true rfl) | (rw [hRc]; dsimp only; omega)) (by first | (rw [hRs]; exact Nat.le_of_ble_eq_true rfl) | (rw [hRs]; dsimp only; omega)) ?_ (fun X q C1 h => h.elim)
        rintro _ _ ⟨z1, S1, rfl, rfl⟩
        dsimp only [List.cons_append, List.nil_append, Option.toList]
        refine gg_up2 ?_
        refine gg_up2 ?_
        refine gg_up2 ?_
        refine gg_vret (pc := 159) E Fn rfl dX5_comes_159 (by first | exact Nat.le_of_ble_eq_true rfl | (dsimp only; omega)) (by first | exact Nat.le_of_ble_eq_true rfl | (dsimp only; omega)) ?_
        refine ⟨z1, S1, rfl, ?_⟩
        unfold cmF
        rw [if_neg (fun q => q c44), if_neg (fun q => absurd q.2 (Int32.not_lt.mpr c72))]
      · refine gg_aload_n (pc := 75) E dX5_comes_75 rfl rfl ?_
        refine gg_get (pc := 76) E ck_X5 0 q2859 rfl (by decide) dX5_comes_76 (gg_i 0 rfl) rfl ?_
        refine gg_iload_n (pc := 79) E dX5_comes_79 rfl rfl ?_
        refine gg_bipush (v := 8) (pc := 80) E dX5_comes_80 (by decide) ?_
        refine gg_iaddN (pc := 82) E (220 + 27 * t) 8 rfl rfl dX5_comes_82 ?_
        refine gg_dup2_11 (pc := 83) E dX5_comes_83 rfl rfl ?_
        refine gg_ialdN (pc := 84) E ((220 + 27 * t) + 8) rfl (by omega) (by omega) dX5_comes_84 (gg_i 1 rfl) ?_
        refine gg_topI (y := row (220 + 27 * t + 8)) (by exact cm3_out g9 g10 (by omega) (by omega) (by omega) (by omega)) ?_
        refine gg_iconst (v := 1) (pc := 85) E dX5_comes_85 (by decide) ?_
        refine gg_iadd (pc := 86) E dX5_comes_86 ?_
        refine gg_iastN (M' := [_, _, _]) (pc := 87) E ((220 + 27 * t) + 8) rfl (by omega) (by omega) dX5_comes_87 1 rfl rfl ?_
        refine gg_aload_n (pc := 88) E dX5_comes_88 rfl rfl ?_
        refine gg_iload_n (pc := 89) E dX5_comes_89 rfl rfl ?_
        refine gg_callV (F := [_, _]) (As := [.int (nI t)]) (rest := []) (pc := 90) E ck_X5 (ct_X5_hearsAsSent hl (by first | assumption | omega)) (cwV 1 E.2.2.2.2.1 (lw_V q3127 q3129 qs100 q179 q3130) rfl rfl rfl (by decide +kernel) ⟨by rw [hRf]; exact Nat.le_of_ble_eq_true rfl, by rw [hRl]; exact Nat.le_of_ble_eq_true rfl⟩) dX5_comes_90 [1] (by decide) rfl rfl (List.forall_mem_cons.mpr ⟨(gg_i 0 rfl), (fun _ h => by cases h)⟩) (gg_i 0 rfl) rfl rfl (Nat.le_of_ble_eq_true rfl) (by first | (rw [hRc]; exact Nat.le_of_ble_eq_true rfl) | (rw [hRc]; dsimp only; omega)) (by first | (rw [hRs]; exact Nat.le_of_ble_eq_true rfl) | (rw [hRs]; dsimp only; omega)) ?_ (fun X q C1 h => h.elim)
        rintro _ _ ⟨rfl, rfl⟩
        dsimp only [List.cons_append, List.nil_append, Option.toList]
        refine gg_up1 ?_
        refine gg_aload_n (pc := 93) E dX5_comes_93 rfl rfl ?_
        refine gg_get (pc := 94) E ck_X5 0 q2859 rfl (by decide) dX5_comes_94 (gg_i 0 rfl) rfl ?_
        refine gg_iload_n (pc := 97) E dX5_comes_97 rfl rfl ?_
        refine gg_iconst (v := 4) (pc := 98) E dX5_comes_98 (by decide) ?_
        refine gg_iaddN (pc := 99) E (220 + 27 * t) 4 rfl rfl dX5_comes_99 ?_
        refine gg_aload_n (pc := 100) E dX5_comes_100 rfl rfl ?_
        refine gg_get (pc := 101) E ck_X5 0 q2859 rfl (by decide) dX5_comes_101 (gg_i 0 rfl) rfl ?_
        refine gg_iload_n (pc := 104) E dX5_comes_104 rfl rfl ?_
        refine gg_iconst (v := 0) (pc := 105) E dX5_comes_105 (by decide) ?_
        refine gg_iaddN (pc := 106) E (220 + 27 * t) 0 rfl rfl dX5_comes_106 ?_
        refine gg_ialdN (pc := 107) E ((220 + 27 * t) + 0) rfl (by omega) (by omega) dX5_comes_107 (gg_i 1 rfl) ?_
        refine gg_topI (y := row (220 + 27 * t)) (by rw [he_out (by omega), pk_un (by omega)]; exact cm3_out g9 g10 (by omega) (by omega) (by omega) (by omega)) ?_
        refine gg_iastN (M' := [_, _, _]) (pc := 108) E ((220 + 27 * t) + 4) rfl (by omega) (by omega) dX5_comes_108 1 rfl rfl ?_
        refine gg_aload_n (pc := 109) E dX5_comes_109 rfl rfl ?_
        refine gg_bipush (v := 7) (pc := 110) E dX5_comes_110 (by decide) ?_
        refine gg_iconst (v := 1) (pc := 112) E dX5_comes_112 (by decide) ?_
        refine gg_callV (F := [_, _]) (As := [.int (nI 7), _]) (rest := []) (pc := 113) E ck_X5 (ct_X5_counts hl (by first | assumption | omega)) (cwV 2 E.2.2.2.2.1 (lw_V q3131 q3133 qs101 q179 q3134) rfl rfl rfl (by decide +kernel) ⟨by rw [hRf]; exact Nat.le_of_ble_eq_true rfl, by rw [hRl]; exact Nat.le_of_ble_eq_true rfl⟩) dX5_comes_113 [1] (by decide) rfl rfl (List.forall_mem_cons.mpr ⟨(gg_i 0 rfl), (fun _ h => by cases h)⟩) (gg_i 0 rfl) rfl rfl (Nat.le_of_ble_eq_true rfl) (by first | (rw [hRc]; exact Nat.le_of_ble_eq_true rfl) | (rw [hRc]; dsimp only; omega)) (by first | (rw [hRs]; exact Nat.le_of_ble_eq_true rfl) | (rw [hRs]; dsimp only; omega)) ?_ (fun X q C1 h => h.elim)
        rintro _ _ ⟨rfl, rfl⟩
        dsimp only [List.cons_append, List.nil_append, Option.toList]
        refine gg_up1 ?_
        refine gg_vret (pc := 116) E Fn rfl dX5_comes_116 (by first | exact Nat.le_of_ble_eq_true rfl | (dsimp only; omega)) (by first | exact Nat.le_of_ble_eq_true rfl | (dsimp only; omega)) ?_
        refine ⟨x 11, su, rfl, ?_⟩
        rw [← mu_11 x]
        unfold cmF
        rw [if_neg (fun q => q c44), if_pos ⟨Int32.not_le.mp c53, Int32.not_le.mp c72⟩]
        rfl
  · refine gg_vret (pc := 47) E Fn rfl dX5_comes_47 (by first | exact Nat.le_of_ble_eq_true rfl | (dsimp only; omega)) (by first | exact Nat.le_of_ble_eq_true rfl | (dsimp only; omega)) ?_
    refine ⟨x 11, su, rfl, ?_⟩
    rw [← mu_11 x]
    unfold cmF
    rw [if_pos c44]
    rfl

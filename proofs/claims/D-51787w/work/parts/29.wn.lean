set_option maxRecDepth 100000
theorem lsum {a tk : Int32} {tm : Nat} (h : a = nI tm) (ht : tm < 2 ^ 30) : ¬ ((9999 : Int64) < a.toInt64 + tk.toInt64) ↔ (tm : Int) + tk.toInt ≤ 9999 := by
  have h1 := Int32.le_toInt tk
  have h2 := Int32.toInt_lt tk
  have e : ((tm : Int) + tk.toInt).bmod (2 ^ 64) = (tm : Int) + tk.toInt := by
    rw [Int.bmod_def]
    split <;> omega
  have e9 : (9999 : Int64).toInt = 9999 := by decide
  rw [Int64.lt_iff_toInt_lt, Int64.toInt_add, Int32.toInt_toInt64, Int32.toInt_toInt64, h, nI_toInt (by omega), e, e9]
  omega
theorem wyI_nat {row : Nat → Int32} {nw : Nat} {a b : Int32} (h : ¬ wyI row nw a b = -1) : ∃ i, i < nw ∧ wyI row nw a b = nI i := by
  by_cases hx : ∃ i, i < nw ∧ (¬ a = b ∧ (row (160 + 3 * i) = a ∨ row (160 + 3 * i + 1) = a) ∧ (row (160 + 3 * i) = b ∨ row (160 + 3 * i + 1) = b))
  · obtain ⟨j, h1, -, h2⟩ := fi_ex hx
    exact ⟨j, h1, h2⟩
  · exact absurd (fi_none fun j hj q => hx ⟨j, hj, q⟩) h
abbrev cTick (tm : Nat) (tk : Int32) : Prop := (1 ≤ tk.toInt ∧ tk.toInt ≤ 200) ∧ (tm : Int) + tk.toInt ≤ 9999
abbrev cGive (row : Nat → Int32) (nr : Nat) (k co : Int32) : Prop := isR nr k ∧ (1 ≤ co.toInt ∧ co.toInt ≤ 99) ∧ isR nr k ∧ (1 ≤ co.toInt ∧ co.toInt ≤ 99) ∧ row (25 + 13 * tn k + 10) + co ≤ 9999
abbrev cCut (row : Nat → Int32) (nr nw : Nat) (k o : Int32) : Prop := (isR nr k ∧ isR nr o) ∧ (isR nr k ∧ isR nr o) ∧ ¬ wyI row nw k o = -1
abbrev cSet (wh va : Int32) : Prop := (8 ≤ wh.toInt ∧ wh.toInt ≤ 10) ∧ low (nI (tn wh - 4)) ≤ va ∧ va ≤ hig (nI (tn wh - 4))
set_option maxHeartbeats 4000000 in
theorem ct_X5_tick {l : Launch} (hl : l.stackTraces = false) {g : gg_G}  {h : Nat} {ad : Nat → Nat} {x : Nat → Int32} {row : Nat → Int32} {past : Nat → Int32} {sums : Nat → Int32}  {su : Nat → Int32} {tk : Int32} {tm pm : Nat} {nr nw nt : Nat} (hG : Gw row nr nw nt) (hpm : x 4 = nI pm) (hp8 : pm ≤ 8) (htm : row 3 = nI tm) (htm2 : tm ≤ 9999) : gg_C l g yX5_tick (ws_ yX5_tick cX5_tick 2 (some .int)) { frames := 9, cells := 0, slots := 0, locals := 209 } [.ref h, .int tk] [] [[(h, .inl (4, mo_f ad x))], [((ad 0), gg_ai g 1030 row)], [((ad 3), gg_ai g 8240 past)], [((ad 9), gg_ai g 10 sums)], [((ad 10), gg_ai g 8 su)]] (fun vv CC => ∃ (X1 R1 P1 S U : Nat → Int32), (Chg (cTick tm tk) x row past X1 R1 P1 (th (if 1 ≤ tk.toInt ∧ tk.toInt ≤ 200 then 1 else 0) (if (tm : Int) + tk.toInt ≤ 9999 then 1 else 0) 1) pm (goF row nr nw (tn tk))) ∧ vv = some (.int (if cTick tm tk then goF row nr nw (tn tk) 15 - row 15 else 0)) ∧ CC = [[(h, .inl (4, mo_f ad X1))], [((ad 0), gg_ai g 1030 R1)], [((ad 3), gg_ai g 8240 P1)], [((ad 9), gg_ai g 10 S)], [((ad 10), gg_ai g 8 U)]]) gg_no := by
  refine gg_of (lv := [_, _]) (by decide) hl (Nat.le_of_ble_eq_true rfl) rfl ?_
  intro p e R s m args below meth c A Q hRf hRl hRc hRs E Fn hnm hex
  have hG0 := hG
  obtain ⟨hnr, hw, ht, hG4, hGS⟩ := hG
  have hnw := hw.1
  have hw20 := hw.2.1
  have hr10 := hw.2.2.1
  have hnt := ht.1
  have ht30 := ht.2.1
  refine gg_aload_n (pc := 0) E dX5_tick_0 rfl rfl ?_
  refine gg_iload_n (pc := 1) E dX5_tick_1 rfl rfl ?_
  refine gg_i2l (pc := 2) E dX5_tick_2 rfl ?_
  refine gg_lconst (v := 1) (pc := 3) E dX5_tick_3 (by decide) ?_
  refine gg_ldc2 (pc := 4) E q3358 dX5_tick_4 ?_
  refine gg_callS (F := [_, _, _, _, _]) (As := [_, _, _]) (rest := [_]) (pc := 7) E (ct_X5_in hl ) (va_cwS 3 E.2.2.2.2.1 (lw_S q2961 q2962 q179 q2963) rfl rfl rfl (by decide +kernel) ⟨by rw [hRf]; exact Nat.le_of_ble_eq_true rfl, by rw [hRl]; exact Nat.le_of_ble_eq_true rfl⟩) dX5_tick_7 [] (by decide) rfl rfl (fun _ h => by cases h) rfl rfl (Nat.le_of_ble_eq_true rfl) (by first | (rw [hRc]; exact Nat.le_of_ble_eq_true rfl) | (rw [hRc]; dsimp only; omega)) (by first | (rw [hRs]; exact Nat.le_of_ble_eq_true rfl) | (rw [hRs]; dsimp only; omega)) ?_ (fun X q C1 h => h.elim)
  rintro _ _ ⟨rfl, rfl⟩
  dsimp only [List.cons_append, List.nil_append, Option.toList]
  refine gg_topI (y := if 1 ≤ tk.toInt ∧ tk.toInt ≤ 200 then 1 else 0) (gg_ifc (in_ab (by decide) (by decide))) ?_
  refine gg_aload_n (pc := 10) E dX5_tick_10 rfl rfl ?_
  refine gg_get (pc := 11) E ck_X5 0 q2859 rfl (by decide) dX5_tick_11 (gg_i 0 rfl) rfl ?_
  refine gg_iconst (v := 3) (pc := 14) E dX5_tick_14 (by decide) ?_
  refine gg_ialdN (pc := 15) E 3 rfl (by omega) (by omega) dX5_tick_15 (gg_i 1 rfl) ?_
  refine gg_i2l (pc := 16) E dX5_tick_16 rfl ?_
  refine gg_iload_n (pc := 17) E dX5_tick_17 rfl rfl ?_
  refine gg_i2l (pc := 18) E dX5_tick_18 rfl ?_
  refine gg_ladd (pc := 19) E dX5_tick_19 ?_
  refine gg_ldc2 (pc := 20) E q3408 dX5_tick_20 ?_
  refine gg_lcmp (pc := 23) E dX5_tick_23 ?_
  refine gg_ifB_gt (pc := 24) E dX5_tick_24 dX5_tick_27 dX5_tick_28 dX5_tick_31 ?_
  refine gg_topI (y := if (tm : Int) + tk.toInt ≤ 9999 then 1 else 0) (gg_ifc ((not_congr (lg_cmp_gt _ _)).trans (lsum htm (by omega)))) ?_
  refine gg_iconst (v := 1) (pc := 32) E dX5_tick_32 (by decide) ?_
  refine gg_callV (F := [_, _, _, _]) (As := [_, _, _]) (rest := []) (pc := 33) E ck_X5 (ct_X5_may hl ) (cwV 3 E.2.2.2.2.1 (lw_V q3241 q3243 qs127 q179 q3244) rfl rfl rfl (by decide +kernel) ⟨by rw [hRf]; exact Nat.le_of_ble_eq_true rfl, by rw [hRl]; exact Nat.le_of_ble_eq_true rfl⟩) dX5_tick_33 [0] (by decide) rfl rfl (fun _ h => by cases h) (gg_i 0 rfl) rfl rfl (Nat.le_of_ble_eq_true rfl) (by first | (rw [hRc]; exact Nat.le_of_ble_eq_true rfl) | (rw [hRc]; dsimp only; omega)) (by first | (rw [hRs]; exact Nat.le_of_ble_eq_true rfl) | (rw [hRs]; dsimp only; omega)) ?_ (fun X q C1 h => h.elim)
  rintro _ _ ⟨rfl, rfl⟩
  dsimp only [List.cons_append, List.nil_append, Option.toList]
  refine gg_ifP_ne (tgt := 41) (pc := 36) E dX5_tick_36 (by decide) (fun c36 => ?_) (fun c36 => ?_)
  · obtain ⟨t1, ht1, ht1q⟩ := k_nI (n := 201) (k := tk) (by have := (th_2.mp c36).1; omega)
    subst ht1q
    refine gg_aload_n (pc := 41) E dX5_tick_41 rfl rfl ?_
    refine gg_callV (F := [_, _, _]) (As := []) (rest := []) (pc := 42) E ck_X5 (ct_X5_remembers hl ((pk_un (by omega)).trans hpm) (hp8)) (cwV 0 E.2.2.2.2.1 (lw_V q3105 q3107 qs96 q179 q3108) rfl rfl rfl (by decide +kernel) ⟨by rw [hRf]; exact Nat.le_of_ble_eq_true rfl, by rw [hRl]; exact Nat.le_of_ble_eq_true rfl⟩) dX5_tick_42 [0, 2] (by decide) rfl rfl (List.forall_mem_cons.mpr ⟨(gg_i 0 rfl), (fun _ h => by cases h)⟩) (gg_i 0 rfl) rfl rfl (Nat.le_of_ble_eq_true rfl) (by first | (rw [hRc]; exact Nat.le_of_ble_eq_true rfl) | (rw [hRc]; dsimp only; omega)) (by first | (rw [hRs]; exact Nat.le_of_ble_eq_true rfl) | (rw [hRs]; dsimp only; omega)) ?_ (fun X q C1 h => h.elim)
    rintro _ _ ⟨rfl, rfl⟩
    dsimp only [List.cons_append, List.nil_append, Option.toList]
    refine gg_up1 ?_
    refine gg_up2 ?_
    refine gg_aload_n (pc := 45) E dX5_tick_45 rfl rfl ?_
    refine gg_iload_n (pc := 46) E dX5_tick_46 rfl rfl ?_
    refine gg_callV (F := [_]) (As := [.int (nI t1)]) (rest := []) (pc := 47) E ck_X5 (ct_X5_goes hl (hG0) (htm) (by omega)) (cwV 1 E.2.2.2.2.1 (lw_V q3135 q3137 qs102 q179 q3138) rfl rfl rfl (by decide +kernel) ⟨by rw [hRf]; exact Nat.le_of_ble_eq_true rfl, by rw [hRl]; exact Nat.le_of_ble_eq_true rfl⟩) dX5_tick_47 [0, 1, 3, 4] (by decide) rfl rfl (fun _ h => by cases h) (gg_i 0 rfl) rfl rfl (Nat.le_of_ble_eq_true rfl) (by first | (rw [hRc]; exact Nat.le_of_ble_eq_true rfl) | (rw [hRc]; dsimp only; omega)) (by first | (rw [hRs]; exact Nat.le_of_ble_eq_true rfl) | (rw [hRs]; dsimp only; omega)) ?_ (fun X q C1 h => h.elim)
    rintro _ _ ⟨z1, S1, U1, rfl, rfl⟩
    dsimp only [List.cons_append, List.nil_append, Option.toList]
    refine gg_up3 ?_
    refine gg_up3 ?_
    refine gg_up4 ?_
    refine gg_up4 ?_
    refine gg_iret (pc := 50) E Fn rfl (rfl) dX5_tick_50 (by first | exact Nat.le_of_ble_eq_true rfl | (dsimp only; omega)) (by first | exact Nat.le_of_ble_eq_true rfl | (dsimp only; omega)) ?_
    exact ⟨_, _, _, S1, U1, by rw [tn_nI (j := t1) (by omega)]; exact Chg_yes (th_2.mp c36), by rw [if_pos (show cTick tm (nI t1) from th_2.mp c36), tn_nI (j := t1) (by omega)], rfl⟩
  · refine gg_iconst (v := 0) (pc := 39) E dX5_tick_39 (by decide) ?_
    refine gg_iret (pc := 40) E Fn rfl (rfl) dX5_tick_40 (by first | exact Nat.le_of_ble_eq_true rfl | (dsimp only; omega)) (by first | exact Nat.le_of_ble_eq_true rfl | (dsimp only; omega)) ?_
    exact ⟨_, _, _, sums, su, Chg_no (fun q => c36 (th_2.mpr q)), by rw [if_neg (fun q => c36 (th_2.mpr q))], rfl⟩
set_option maxHeartbeats 4000000 in
theorem ct_X5_give {l : Launch} (hl : l.stackTraces = false) {g : gg_G}  {h : Nat} {ad : Nat → Nat} {x : Nat → Int32} {row : Nat → Int32} {past : Nat → Int32} {sums : Nat → Int32}  {su : Nat → Int32} {k co : Int32} {pm : Nat} {nr nw nt : Nat} (hG : Gw row nr nw nt) (hpm : x 4 = nI pm) (hp8 : pm ≤ 8) : gg_C l g yX5_give (ws_ yX5_give cX5_give 5 (some .int)) { frames := 2, cells := 0, slots := 0, locals := 46 } [.ref h, .int k, .int co] [] [[(h, .inl (4, mo_f ad x))], [((ad 0), gg_ai g 1030 row)], [((ad 3), gg_ai g 8240 past)], [((ad 9), gg_ai g 10 sums)], [((ad 10), gg_ai g 8 su)]] (fun vv CC => ∃ (X1 R1 P1 S U : Nat → Int32), (Chg (cGive row nr k co) x row past X1 R1 P1 (th (if 0 ≤ k.toInt ∧ k.toInt < nr then 1 else 0) (if 1 ≤ co.toInt ∧ co.toInt ≤ 99 then 1 else 0) (if (0 ≤ k.toInt ∧ k.toInt < nr) ∧ (1 ≤ co.toInt ∧ co.toInt ≤ 99) ∧ row (25 + 13 * tn k + 10) + co ≤ 9999 then 1 else 0)) pm (gcF row (tn k) co)) ∧ vv = some (.int (if cGive row nr k co then row (25 + 13 * tn k + 10) + co else 0)) ∧ CC = [[(h, .inl (4, mo_f ad X1))], [((ad 0), gg_ai g 1030 R1)], [((ad 3), gg_ai g 8240 P1)], [((ad 9), gg_ai g 10 S)], [((ad 10), gg_ai g 8 U)]]) gg_no := by
  refine gg_of (lv := [_, _, _, _, _]) (by decide) hl (Nat.le_of_ble_eq_true rfl) rfl ?_
  intro p e R s m args below meth c A Q hRf hRl hRc hRs E Fn hnm hex
  have hG0 := hG
  obtain ⟨hnr, hw, ht, hG4, hGS⟩ := hG
  have hnw := hw.1
  have hw20 := hw.2.1
  have hr10 := hw.2.2.1
  have hnt := ht.1
  have ht30 := ht.2.1
  refine gg_aload_n (pc := 0) E dX5_give_0 rfl rfl ?_
  refine gg_iload_n (pc := 1) E dX5_give_1 rfl rfl ?_
  refine gg_callV (F := [_, _, _, _, _]) (As := [_]) (rest := []) (pc := 2) E ck_X5 (ct_X5_isRoof hl (by first | assumption | omega) (by first | assumption | omega)) (cwV 1 E.2.2.2.2.1 (lw_V q3266 q3268 qs131 q179 q3269) rfl rfl rfl (by decide +kernel) ⟨by rw [hRf]; exact Nat.le_of_ble_eq_true rfl, by rw [hRl]; exact Nat.le_of_ble_eq_true rfl⟩) dX5_give_2 [] (by decide) rfl rfl (List.forall_mem_cons.mpr ⟨(gg_i 0 rfl), (List.forall_mem_cons.mpr ⟨(gg_i 1 rfl), (fun _ h => by cases h)⟩)⟩) (gg_i 0 rfl) rfl rfl (Nat.le_of_ble_eq_true rfl) (by first | (rw [hRc]; exact Nat.le_of_ble_eq_true rfl) | (rw [hRc]; dsimp only; omega)) (by first | (rw [hRs]; exact Nat.le_of_ble_eq_true rfl) | (rw [hRs]; dsimp only; omega)) ?_ (fun X q C1 h => h.elim)
  rintro _ _ ⟨rfl, rfl⟩
  dsimp only [List.cons_append, List.nil_append, Option.toList]
  refine gg_istore_n (lv' := [_, _, _, _, _]) (pc := 5) E dX5_give_5 rfl (Nat.le_of_ble_eq_true rfl) rfl rfl ?_
  refine gg_iload_n (pc := 6) E dX5_give_6 rfl rfl ?_
  refine gg_i2l (pc := 7) E dX5_give_7 rfl ?_
  refine gg_lconst (v := 1) (pc := 8) E dX5_give_8 (by decide) ?_
  refine gg_ldc2 (pc := 9) E q3413 dX5_give_9 ?_
  refine gg_callS (F := [_, _, _, _, _]) (As := [_, _, _]) (rest := []) (pc := 12) E (ct_X5_in hl ) (va_cwS 3 E.2.2.2.2.1 (lw_S q2961 q2962 q179 q2963) rfl rfl rfl (by decide +kernel) ⟨by rw [hRf]; exact Nat.le_of_ble_eq_true rfl, by rw [hRl]; exact Nat.le_of_ble_eq_true rfl⟩) dX5_give_12 [] (by decide) rfl rfl (fun _ h => by cases h) rfl rfl (Nat.le_of_ble_eq_true rfl) (by first | (rw [hRc]; exact Nat.le_of_ble_eq_true rfl) | (rw [hRc]; dsimp only; omega)) (by first | (rw [hRs]; exact Nat.le_of_ble_eq_true rfl) | (rw [hRs]; dsimp only; omega)) ?_ (fun X q C1 h => h.elim)
  rintro _ _ ⟨rfl, rfl⟩
  dsimp only [List.cons_append, List.nil_append, Option.toList]
  refine gg_topI (y := if 1 ≤ co.toInt ∧ co.toInt ≤ 99 then 1 else 0) (gg_ifc (in_ab (by decide) (by decide))) ?_
  refine gg_istore (lv' := [_, _, _, _, _]) (pc := 15) E dX5_give_15 (Nat.le_of_ble_eq_true rfl) rfl rfl ?_
  refine gg_aload_n (pc := 17) E dX5_give_17 rfl rfl ?_
  refine gg_iload_n (pc := 18) E dX5_give_18 rfl rfl ?_
  refine gg_iload (pc := 19) E dX5_give_19 rfl ?_
  refine gg_iload_n (pc := 21) E dX5_give_21 rfl rfl ?_
  refine gg_ifP_eq (tgt := 54) (pc := 22) E dX5_give_22 (by decide) (fun c22 => ?_) (fun c22 => ?_)
  · refine gg_iconst (v := 0) (pc := 54) E dX5_give_54 (by decide) ?_
    refine gg_topI (y := if (0 ≤ k.toInt ∧ k.toInt < nr) ∧ (1 ≤ co.toInt ∧ co.toInt ≤ 99) ∧ row (25 + 13 * tn k + 10) + co ≤ 9999 then 1 else 0) (if_neg (fun q => c22 q.1)).symm ?_
    refine gg_callV (F := [_, _, _, _]) (As := [_, _, _]) (rest := []) (pc := 55) E ck_X5 (ct_X5_may hl ) (cwV 3 E.2.2.2.2.1 (lw_V q3241 q3243 qs127 q179 q3244) rfl rfl rfl (by decide +kernel) ⟨by rw [hRf]; exact Nat.le_of_ble_eq_true rfl, by rw [hRl]; exact Nat.le_of_ble_eq_true rfl⟩) dX5_give_55 [0] (by decide) rfl rfl (fun _ h => by cases h) (gg_i 0 rfl) rfl rfl (Nat.le_of_ble_eq_true rfl) (by first | (rw [hRc]; exact Nat.le_of_ble_eq_true rfl) | (rw [hRc]; dsimp only; omega)) (by first | (rw [hRs]; exact Nat.le_of_ble_eq_true rfl) | (rw [hRs]; dsimp only; omega)) ?_ (fun X q C1 h => h.elim)
    rintro _ _ ⟨rfl, rfl⟩
    dsimp only [List.cons_append, List.nil_append, Option.toList]
    refine gg_ifP_ne (tgt := 63) (pc := 58) E dX5_give_58 (by decide) (fun c58 => ?_) (fun c58 => ?_)
    · obtain ⟨j, hj, hjq⟩ := k_nI (th_3.mp c58).1
      subst hjq
      refine gg_aload_n (pc := 63) E dX5_give_63 rfl rfl ?_
      refine gg_callV (F := [_, _, _]) (As := []) (rest := []) (pc := 64) E ck_X5 (ct_X5_remembers hl ((pk_un (by omega)).trans hpm) (hp8)) (cwV 0 E.2.2.2.2.1 (lw_V q3105 q3107 qs96 q179 q3108) rfl rfl rfl (by decide +kernel) ⟨by rw [hRf]; exact Nat.le_of_ble_eq_true rfl, by rw [hRl]; exact Nat.le_of_ble_eq_true rfl⟩) dX5_give_64 [0, 2] (by decide) rfl rfl (List.forall_mem_cons.mpr ⟨(gg_i 0 rfl), (fun _ h => by cases h)⟩) (gg_i 0 rfl) rfl rfl (Nat.le_of_ble_eq_true rfl) (by first | (rw [hRc]; exact Nat.le_of_ble_eq_true rfl) | (rw [hRc]; dsimp only; omega)) (by first | (rw [hRs]; exact Nat.le_of_ble_eq_true rfl) | (rw [hRs]; dsimp only; omega)) ?_ (fun X q C1 h => h.elim)
      rintro _ _ ⟨rfl, rfl⟩
      dsimp only [List.cons_append, List.nil_append, Option.toList]
      refine gg_up1 ?_
      refine gg_up2 ?_
      refine gg_aload_n (pc := 67) E dX5_give_67 rfl rfl ?_
      refine gg_iload_n (pc := 68) E dX5_give_68 rfl rfl ?_
      refine gg_iload_n (pc := 69) E dX5_give_69 rfl rfl ?_
      refine gg_callV (F := [_, _, _, _]) (As := [.int (nI j), _]) (rest := []) (pc := 70) E ck_X5 (ct_X5_givesCoins hl (by first | assumption | omega)) (cwV 2 E.2.2.2.2.1 (lw_V q3224 q3226 qs124 q179 q3227) rfl rfl rfl (by decide +kernel) ⟨by rw [hRf]; exact Nat.le_of_ble_eq_true rfl, by rw [hRl]; exact Nat.le_of_ble_eq_true rfl⟩) dX5_give_70 [1] (by decide) rfl rfl (List.forall_mem_cons.mpr ⟨(gg_i 0 rfl), (fun _ h => by cases h)⟩) (gg_i 0 rfl) rfl rfl (Nat.le_of_ble_eq_true rfl) (by first | (rw [hRc]; exact Nat.le_of_ble_eq_true rfl) | (rw [hRc]; dsimp only; omega)) (by first | (rw [hRs]; exact Nat.le_of_ble_eq_true rfl) | (rw [hRs]; dsimp only; omega)) ?_ (fun X q C1 h => h.elim)
      rintro _ _ ⟨rfl, rfl⟩
      dsimp only [List.cons_append, List.nil_append, Option.toList]
      refine gg_up1 ?_
      refine gg_iret (pc := 73) E Fn rfl (rfl) dX5_give_73 (by first | exact Nat.le_of_ble_eq_true rfl | (dsimp only; omega)) (by first | exact Nat.le_of_ble_eq_true rfl | (dsimp only; omega)) ?_
      exact ⟨_, _, _, sums, su, by rw [tn_nI (j := j) (by omega)]; exact Chg_yes0 (th_3.mp c58), by rw [if_pos (show cGive row nr (nI j) co from th_3.mp c58), tn_nI (j := j) (by omega)], rfl⟩
    · refine gg_iconst (v := 0) (pc := 61) E dX5_give_61 (by decide) ?_
      refine gg_iret (pc := 62) E Fn rfl (rfl) dX5_give_62 (by first | exact Nat.le_of_ble_eq_true rfl | (dsimp only; omega)) (by first | exact Nat.le_of_ble_eq_true rfl | (dsimp only; omega)) ?_
      exact ⟨_, _, _, sums, su, Chg_no (fun q => c58 (th_3.mpr q)), by rw [if_neg (fun q => c58 (th_3.mpr q))], rfl⟩
  · obtain ⟨j, hj, hjq⟩ := k_nI c22
    subst hjq
    refine gg_iload (pc := 25) E dX5_give_25 rfl ?_
    refine gg_ifP_eq (tgt := 54) (pc := 27) E dX5_give_27 (by decide) (fun c27 => ?_) (fun c27 => ?_)
    · refine gg_iconst (v := 0) (pc := 54) E dX5_give_54 (by decide) ?_
      refine gg_topI (y := if (0 ≤ (nI j).toInt ∧ (nI j).toInt < nr) ∧ (1 ≤ co.toInt ∧ co.toInt ≤ 99) ∧ row (25 + 13 * tn (nI j) + 10) + co ≤ 9999 then 1 else 0) (if_neg (fun q => c27 q.2.1)).symm ?_
      refine gg_callV (F := [_, _, _, _]) (As := [_, _, _]) (rest := []) (pc := 55) E ck_X5 (ct_X5_may hl ) (cwV 3 E.2.2.2.2.1 (lw_V q3241 q3243 qs127 q179 q3244) rfl rfl rfl (by decide +kernel) ⟨by rw [hRf]; exact Nat.le_of_ble_eq_true rfl, by rw [hRl]; exact Nat.le_of_ble_eq_true rfl⟩) dX5_give_55 [0] (by decide) rfl rfl (fun _ h => by cases h) (gg_i 0 rfl) rfl rfl (Nat.le_of_ble_eq_true rfl) (by first | (rw [hRc]; exact Nat.le_of_ble_eq_true rfl) | (rw [hRc]; dsimp only; omega)) (by first | (rw [hRs]; exact Nat.le_of_ble_eq_true rfl) | (rw [hRs]; dsimp only; omega)) ?_ (fun X q C1 h => h.elim)
      rintro _ _ ⟨rfl, rfl⟩
      dsimp only [List.cons_append, List.nil_append, Option.toList]
      refine gg_ifP_ne (tgt := 63) (pc := 58) E dX5_give_58 (by decide) (fun c58 => ?_) (fun c58 => ?_)
      · 
        refine gg_aload_n (pc := 63) E dX5_give_63 rfl rfl ?_
        refine gg_callV (F := [_, _, _]) (As := []) (rest := []) (pc := 64) E ck_X5 (ct_X5_remembers hl ((pk_un (by omega)).trans hpm) (hp8)) (cwV 0 E.2.2.2.2.1 (lw_V q3105 q3107 qs96 q179 q3108) rfl rfl rfl (by decide +kernel) ⟨by rw [hRf]; exact Nat.le_of_ble_eq_true rfl, by rw [hRl]; exact Nat.le_of_ble_eq_true rfl⟩) dX5_give_64 [0, 2] (by decide) rfl rfl (List.forall_mem_cons.mpr ⟨(gg_i 0 rfl), (fun _ h => by cases h)⟩) (gg_i 0 rfl) rfl rfl (Nat.le_of_ble_eq_true rfl) (by first | (rw [hRc]; exact Nat.le_of_ble_eq_true rfl) | (rw [hRc]; dsimp only; omega)) (by first | (rw [hRs]; exact Nat.le_of_ble_eq_true rfl) | (rw [hRs]; dsimp only; omega)) ?_ (fun X q C1 h => h.elim)
        rintro _ _ ⟨rfl, rfl⟩
        dsimp only [List.cons_append, List.nil_append, Option.toList]
        refine gg_up1 ?_
        refine gg_up2 ?_
        refine gg_aload_n (pc := 67) E dX5_give_67 rfl rfl ?_
        refine gg_iload_n (pc := 68) E dX5_give_68 rfl rfl ?_
        refine gg_iload_n (pc := 69) E dX5_give_69 rfl rfl ?_
        refine gg_callV (F := [_, _, _, _]) (As := [.int (nI j), _]) (rest := []) (pc := 70) E ck_X5 (ct_X5_givesCoins hl (by first | assumption | omega)) (cwV 2 E.2.2.2.2.1 (lw_V q3224 q3226 qs124 q179 q3227) rfl rfl rfl (by decide +kernel) ⟨by rw [hRf]; exact Nat.le_of_ble_eq_true rfl, by rw [hRl]; exact Nat.le_of_ble_eq_true rfl⟩) dX5_give_70 [1] (by decide) rfl rfl (List.forall_mem_cons.mpr ⟨(gg_i 0 rfl), (fun _ h => by cases h)⟩) (gg_i 0 rfl) rfl rfl (Nat.le_of_ble_eq_true rfl) (by first | (rw [hRc]; exact Nat.le_of_ble_eq_true rfl) | (rw [hRc]; dsimp only; omega)) (by first | (rw [hRs]; exact Nat.le_of_ble_eq_true rfl) | (rw [hRs]; dsimp only; omega)) ?_ (fun X q C1 h => h.elim)
        rintro _ _ ⟨rfl, rfl⟩
        dsimp only [List.cons_append, List.nil_append, Option.toList]
        refine gg_up1 ?_
        refine gg_iret (pc := 73) E Fn rfl (rfl) dX5_give_73 (by first | exact Nat.le_of_ble_eq_true rfl | (dsimp only; omega)) (by first | exact Nat.le_of_ble_eq_true rfl | (dsimp only; omega)) ?_
        exact ⟨_, _, _, sums, su, by rw [tn_nI (j := j) (by omega)]; exact Chg_yes0 (th_3.mp c58), by rw [if_pos (show cGive row nr (nI j) co from th_3.mp c58), tn_nI (j := j) (by omega)], rfl⟩
      · refine gg_iconst (v := 0) (pc := 61) E dX5_give_61 (by decide) ?_
        refine gg_iret (pc := 62) E Fn rfl (rfl) dX5_give_62 (by first | exact Nat.le_of_ble_eq_true rfl | (dsimp only; omega)) (by first | exact Nat.le_of_ble_eq_true rfl | (dsimp only; omega)) ?_
        exact ⟨_, _, _, sums, su, Chg_no (fun q => c58 (th_3.mpr q)), by rw [if_neg (fun q => c58 (th_3.mpr q))], rfl⟩
    · refine gg_aload_n (pc := 30) E dX5_give_30 rfl rfl ?_
      refine gg_get (pc := 31) E ck_X5 0 q2859 rfl (by decide) dX5_give_31 (gg_i 0 rfl) rfl ?_
      refine gg_iload_n (pc := 34) E dX5_give_34 rfl rfl ?_
      refine gg_callS (F := [_, _, _, _, _]) (As := [.int (nI j)]) (rest := [_, _, _, _]) (pc := 35) E (ct_X5_r hl ) (va_cwS 1 E.2.2.2.2.1 (lw_S q2849 q2850 q179 q2851) rfl rfl rfl (by decide +kernel) ⟨by rw [hRf]; exact Nat.le_of_ble_eq_true rfl, by rw [hRl]; exact Nat.le_of_ble_eq_true rfl⟩) dX5_give_35 [] (by decide) rfl rfl (fun _ h => by cases h) rfl rfl (Nat.le_of_ble_eq_true rfl) (by first | (rw [hRc]; exact Nat.le_of_ble_eq_true rfl) | (rw [hRc]; dsimp only; omega)) (by first | (rw [hRs]; exact Nat.le_of_ble_eq_true rfl) | (rw [hRs]; dsimp only; omega)) ?_ (fun X q C1 h => h.elim)
      rintro _ _ ⟨rfl, rfl⟩
      dsimp only [List.cons_append, List.nil_append, Option.toList]
      refine gg_bipush (v := 10) (pc := 38) E dX5_give_38 (by decide) ?_
      refine gg_iaddN (pc := 40) E (25 + 13 * j) 10 rfl rfl dX5_give_40 ?_
      refine gg_ialdN (pc := 41) E ((25 + 13 * j) + 10) rfl (by omega) (by omega) dX5_give_41 (gg_i 1 rfl) ?_
      refine gg_iload_n (pc := 42) E dX5_give_42 rfl rfl ?_
      refine gg_iadd (pc := 43) E dX5_give_43 ?_
      refine gg_sipush (v := 9999) (pc := 44) E dX5_give_44 (by decide) ?_
      refine gg_icmp_gt (tgt := 54) (pc := 47) E dX5_give_47 (by decide) (fun c47 => ?_) (fun c47 => ?_)
      · refine gg_iconst (v := 0) (pc := 54) E dX5_give_54 (by decide) ?_
        refine gg_topI (y := if (0 ≤ (nI j).toInt ∧ (nI j).toInt < nr) ∧ (1 ≤ co.toInt ∧ co.toInt ≤ 99) ∧ row (25 + 13 * tn (nI j) + 10) + co ≤ 9999 then 1 else 0) (if_neg (fun q => Int32.not_lt.mpr (by have := q.2.2; rw [tn_nI (j := j) (by omega)] at this; exact this) c47)).symm ?_
        refine gg_callV (F := [_, _, _, _]) (As := [_, _, _]) (rest := []) (pc := 55) E ck_X5 (ct_X5_may hl ) (cwV 3 E.2.2.2.2.1 (lw_V q3241 q3243 qs127 q179 q3244) rfl rfl rfl (by decide +kernel) ⟨by rw [hRf]; exact Nat.le_of_ble_eq_true rfl, by rw [hRl]; exact Nat.le_of_ble_eq_true rfl⟩) dX5_give_55 [0] (by decide) rfl rfl (fun _ h => by cases h) (gg_i 0 rfl) rfl rfl (Nat.le_of_ble_eq_true rfl) (by first | (rw [hRc]; exact Nat.le_of_ble_eq_true rfl) | (rw [hRc]; dsimp only; omega)) (by first | (rw [hRs]; exact Nat.le_of_ble_eq_true rfl) | (rw [hRs]; dsimp only; omega)) ?_ (fun X q C1 h => h.elim)
        rintro _ _ ⟨rfl, rfl⟩
        dsimp only [List.cons_append, List.nil_append, Option.toList]
        refine gg_ifP_ne (tgt := 63) (pc := 58) E dX5_give_58 (by decide) (fun c58 => ?_) (fun c58 => ?_)
        · 
          refine gg_aload_n (pc := 63) E dX5_give_63 rfl rfl ?_
          refine gg_callV (F := [_, _, _]) (As := []) (rest := []) (pc := 64) E ck_X5 (ct_X5_remembers hl ((pk_un (by omega)).trans hpm) (hp8)) (cwV 0 E.2.2.2.2.1 (lw_V q3105 q3107 qs96 q179 q3108) rfl rfl rfl (by decide +kernel) ⟨by rw [hRf]; exact Nat.le_of_ble_eq_true rfl, by rw [hRl]; exact Nat.le_of_ble_eq_true rfl⟩) dX5_give_64 [0, 2] (by decide) rfl rfl (List.forall_mem_cons.mpr ⟨(gg_i 0 rfl), (fun _ h => by cases h)⟩) (gg_i 0 rfl) rfl rfl (Nat.le_of_ble_eq_true rfl) (by first | (rw [hRc]; exact Nat.le_of_ble_eq_true rfl) | (rw [hRc]; dsimp only; omega)) (by first | (rw [hRs]; exact Nat.le_of_ble_eq_true rfl) | (rw [hRs]; dsimp only; omega)) ?_ (fun X q C1 h => h.elim)
          rintro _ _ ⟨rfl, rfl⟩
          dsimp only [List.cons_append, List.nil_append, Option.toList]
          refine gg_up1 ?_
          refine gg_up2 ?_
          refine gg_aload_n (pc := 67) E dX5_give_67 rfl rfl ?_
          refine gg_iload_n (pc := 68) E dX5_give_68 rfl rfl ?_
          refine gg_iload_n (pc := 69) E dX5_give_69 rfl rfl ?_
          refine gg_callV (F := [_, _, _, _]) (As := [.int (nI j), _]) (rest := []) (pc := 70) E ck_X5 (ct_X5_givesCoins hl (by first | assumption | omega)) (cwV 2 E.2.2.2.2.1 (lw_V q3224 q3226 qs124 q179 q3227) rfl rfl rfl (by decide +kernel) ⟨by rw [hRf]; exact Nat.le_of_ble_eq_true rfl, by rw [hRl]; exact Nat.le_of_ble_eq_true rfl⟩) dX5_give_70 [1] (by decide) rfl rfl (List.forall_mem_cons.mpr ⟨(gg_i 0 rfl), (fun _ h => by cases h)⟩) (gg_i 0 rfl) rfl rfl (Nat.le_of_ble_eq_true rfl) (by first | (rw [hRc]; exact Nat.le_of_ble_eq_true rfl) | (rw [hRc]; dsimp only; omega)) (by first | (rw [hRs]; exact Nat.le_of_ble_eq_true rfl) | (rw [hRs]; dsimp only; omega)) ?_ (fun X q C1 h => h.elim)
          rintro _ _ ⟨rfl, rfl⟩
          dsimp only [List.cons_append, List.nil_append, Option.toList]
          refine gg_up1 ?_
          refine gg_iret (pc := 73) E Fn rfl (rfl) dX5_give_73 (by first | exact Nat.le_of_ble_eq_true rfl | (dsimp only; omega)) (by first | exact Nat.le_of_ble_eq_true rfl | (dsimp only; omega)) ?_
          exact ⟨_, _, _, sums, su, by rw [tn_nI (j := j) (by omega)]; exact Chg_yes0 (th_3.mp c58), by rw [if_pos (show cGive row nr (nI j) co from th_3.mp c58), tn_nI (j := j) (by omega)], rfl⟩
        · refine gg_iconst (v := 0) (pc := 61) E dX5_give_61 (by decide) ?_
          refine gg_iret (pc := 62) E Fn rfl (rfl) dX5_give_62 (by first | exact Nat.le_of_ble_eq_true rfl | (dsimp only; omega)) (by first | exact Nat.le_of_ble_eq_true rfl | (dsimp only; omega)) ?_
          exact ⟨_, _, _, sums, su, Chg_no (fun q => c58 (th_3.mpr q)), by rw [if_neg (fun q => c58 (th_3.mpr q))], rfl⟩
      · refine gg_iconst (v := 1) (pc := 50) E dX5_give_50 (by decide) ?_
        refine gg_goto (tgt := 55) (pc := 51) E dX5_give_51 (by decide) ?_
        refine gg_topI (y := if (0 ≤ (nI j).toInt ∧ (nI j).toInt < nr) ∧ (1 ≤ co.toInt ∧ co.toInt ≤ 99) ∧ row (25 + 13 * tn (nI j) + 10) + co ≤ 9999 then 1 else 0) (if_pos ⟨c22, c27, by rw [tn_nI (j := j) (by omega)]; exact Int32.not_lt.mp c47⟩).symm ?_
        refine gg_callV (F := [_, _, _, _]) (As := [_, _, _]) (rest := []) (pc := 55) E ck_X5 (ct_X5_may hl ) (cwV 3 E.2.2.2.2.1 (lw_V q3241 q3243 qs127 q179 q3244) rfl rfl rfl (by decide +kernel) ⟨by rw [hRf]; exact Nat.le_of_ble_eq_true rfl, by rw [hRl]; exact Nat.le_of_ble_eq_true rfl⟩) dX5_give_55 [0] (by decide) rfl rfl (fun _ h => by cases h) (gg_i 0 rfl) rfl rfl (Nat.le_of_ble_eq_true rfl) (by first | (rw [hRc]; exact Nat.le_of_ble_eq_true rfl) | (rw [hRc]; dsimp only; omega)) (by first | (rw [hRs]; exact Nat.le_of_ble_eq_true rfl) | (rw [hRs]; dsimp only; omega)) ?_ (fun X q C1 h => h.elim)
        rintro _ _ ⟨rfl, rfl⟩
        dsimp only [List.cons_append, List.nil_append, Option.toList]
        refine gg_ifP_ne (tgt := 63) (pc := 58) E dX5_give_58 (by decide) (fun c58 => ?_) (fun c58 => ?_)
        · 
          refine gg_aload_n (pc := 63) E dX5_give_63 rfl rfl ?_
          refine gg_callV (F := [_, _, _]) (As := []) (rest := []) (pc := 64) E ck_X5 (ct_X5_remembers hl ((pk_un (by omega)).trans hpm) (hp8)) (cwV 0 E.2.2.2.2.1 (lw_V q3105 q3107 qs96 q179 q3108) rfl rfl rfl (by decide +kernel) ⟨by rw [hRf]; exact Nat.le_of_ble_eq_true rfl, by rw [hRl]; exact Nat.le_of_ble_eq_true rfl⟩) dX5_give_64 [0, 2] (by decide) rfl rfl (List.forall_mem_cons.mpr ⟨(gg_i 0 rfl), (fun _ h => by cases h)⟩) (gg_i 0 rfl) rfl rfl (Nat.le_of_ble_eq_true rfl) (by first | (rw [hRc]; exact Nat.le_of_ble_eq_true rfl) | (rw [hRc]; dsimp only; omega)) (by first | (rw [hRs]; exact Nat.le_of_ble_eq_true rfl) | (rw [hRs]; dsimp only; omega)) ?_ (fun X q C1 h => h.elim)
          rintro _ _ ⟨rfl, rfl⟩
          dsimp only [List.cons_append, List.nil_append, Option.toList]
          refine gg_up1 ?_
          refine gg_up2 ?_
          refine gg_aload_n (pc := 67) E dX5_give_67 rfl rfl ?_
          refine gg_iload_n (pc := 68) E dX5_give_68 rfl rfl ?_
          refine gg_iload_n (pc := 69) E dX5_give_69 rfl rfl ?_
          refine gg_callV (F := [_, _, _, _]) (As := [.int (nI j), _]) (rest := []) (pc := 70) E ck_X5 (ct_X5_givesCoins hl (by first | assumption | omega)) (cwV 2 E.2.2.2.2.1 (lw_V q3224 q3226 qs124 q179 q3227) rfl rfl rfl (by decide +kernel) ⟨by rw [hRf]; exact Nat.le_of_ble_eq_true rfl, by rw [hRl]; exact Nat.le_of_ble_eq_true rfl⟩) dX5_give_70 [1] (by decide) rfl rfl (List.forall_mem_cons.mpr ⟨(gg_i 0 rfl), (fun _ h => by cases h)⟩) (gg_i 0 rfl) rfl rfl (Nat.le_of_ble_eq_true rfl) (by first | (rw [hRc]; exact Nat.le_of_ble_eq_true rfl) | (rw [hRc]; dsimp only; omega)) (by first | (rw [hRs]; exact Nat.le_of_ble_eq_true rfl) | (rw [hRs]; dsimp only; omega)) ?_ (fun X q C1 h => h.elim)
          rintro _ _ ⟨rfl, rfl⟩
          dsimp only [List.cons_append, List.nil_append, Option.toList]
          refine gg_up1 ?_
          refine gg_iret (pc := 73) E Fn rfl (rfl) dX5_give_73 (by first | exact Nat.le_of_ble_eq_true rfl | (dsimp only; omega)) (by first | exact Nat.le_of_ble_eq_true rfl | (dsimp only; omega)) ?_
          exact ⟨_, _, _, sums, su, by rw [tn_nI (j := j) (by omega)]; exact Chg_yes0 (th_3.mp c58), by rw [if_pos (show cGive row nr (nI j) co from th_3.mp c58), tn_nI (j := j) (by omega)], rfl⟩
        · refine gg_iconst (v := 0) (pc := 61) E dX5_give_61 (by decide) ?_
          refine gg_iret (pc := 62) E Fn rfl (rfl) dX5_give_62 (by first | exact Nat.le_of_ble_eq_true rfl | (dsimp only; omega)) (by first | exact Nat.le_of_ble_eq_true rfl | (dsimp only; omega)) ?_
          exact ⟨_, _, _, sums, su, Chg_no (fun q => c58 (th_3.mpr q)), by rw [if_neg (fun q => c58 (th_3.mpr q))], rfl⟩
set_option maxHeartbeats 4000000 in
theorem ct_X5_cut {l : Launch} (hl : l.stackTraces = false) {g : gg_G}  {h : Nat} {ad : Nat → Nat} {x : Nat → Int32} {row : Nat → Int32} {past : Nat → Int32} {sums : Nat → Int32}  {su : Nat → Int32} {k o : Int32} {pm : Nat} {nr nw nt : Nat} (hG : Gw row nr nw nt) (hpm : x 4 = nI pm) (hp8 : pm ≤ 8) : gg_C l g yX5_cut (ws_ yX5_cut cX5_cut 4 (some .int)) { frames := 3, cells := 0, slots := 0, locals := 68 } [.ref h, .int k, .int o] [] [[(h, .inl (4, mo_f ad x))], [((ad 0), gg_ai g 1030 row)], [((ad 3), gg_ai g 8240 past)], [((ad 9), gg_ai g 10 sums)], [((ad 10), gg_ai g 8 su)]] (fun vv CC => ∃ (X1 R1 P1 S U : Nat → Int32), (Chg (cCut row nr nw k o) x row past X1 R1 P1 (th (if (0 ≤ k.toInt ∧ k.toInt < nr) ∧ 0 ≤ o.toInt ∧ o.toInt < nr then 1 else 0) (if ((0 ≤ k.toInt ∧ k.toInt < nr) ∧ 0 ≤ o.toInt ∧ o.toInt < nr) ∧ ¬ wyI row nw k o = -1 then 1 else 0) 1) pm (cuF row nw (wyI row nw k o).toNatClampNeg)) ∧ vv = some (.int (if cCut row nr nw k o then nI (nw - 1) else 0)) ∧ CC = [[(h, .inl (4, mo_f ad X1))], [((ad 0), gg_ai g 1030 R1)], [((ad 3), gg_ai g 8240 P1)], [((ad 9), gg_ai g 10 S)], [((ad 10), gg_ai g 8 U)]]) gg_no := by
  refine gg_of (lv := [_, _, _, _]) (by decide) hl (Nat.le_of_ble_eq_true rfl) rfl ?_
  intro p e R s m args below meth c A Q hRf hRl hRc hRs E Fn hnm hex
  have hG0 := hG
  obtain ⟨hnr, hw, ht, hG4, hGS⟩ := hG
  have hnw := hw.1
  have hw20 := hw.2.1
  have hr10 := hw.2.2.1
  have hnt := ht.1
  have ht30 := ht.2.1
  refine gg_aload_n (pc := 0) E dX5_cut_0 rfl rfl ?_
  refine gg_iload_n (pc := 1) E dX5_cut_1 rfl rfl ?_
  refine gg_iload_n (pc := 2) E dX5_cut_2 rfl rfl ?_
  refine gg_callV (F := [_, _, _, _, _]) (As := [_, _]) (rest := []) (pc := 3) E ck_X5 (ct_X5_areRoofs hl (by first | assumption | omega) (by first | assumption | omega)) (cwV 2 E.2.2.2.2.1 (lw_V q3292 q3294 qs134 q179 q3295) rfl rfl rfl (by decide +kernel) ⟨by rw [hRf]; exact Nat.le_of_ble_eq_true rfl, by rw [hRl]; exact Nat.le_of_ble_eq_true rfl⟩) dX5_cut_3 [] (by decide) rfl rfl (List.forall_mem_cons.mpr ⟨(gg_i 0 rfl), (List.forall_mem_cons.mpr ⟨(gg_i 1 rfl), (fun _ h => by cases h)⟩)⟩) (gg_i 0 rfl) rfl rfl (Nat.le_of_ble_eq_true rfl) (by first | (rw [hRc]; exact Nat.le_of_ble_eq_true rfl) | (rw [hRc]; dsimp only; omega)) (by first | (rw [hRs]; exact Nat.le_of_ble_eq_true rfl) | (rw [hRs]; dsimp only; omega)) ?_ (fun X q C1 h => h.elim)
  rintro _ _ ⟨rfl, rfl⟩
  dsimp only [List.cons_append, List.nil_append, Option.toList]
  refine gg_istore_n (lv' := [_, _, _, _]) (pc := 6) E dX5_cut_6 rfl (Nat.le_of_ble_eq_true rfl) rfl rfl ?_
  refine gg_aload_n (pc := 7) E dX5_cut_7 rfl rfl ?_
  refine gg_iload_n (pc := 8) E dX5_cut_8 rfl rfl ?_
  refine gg_iload_n (pc := 9) E dX5_cut_9 rfl rfl ?_
  refine gg_ifP_eq (tgt := 27) (pc := 10) E dX5_cut_10 (by decide) (fun c10 => ?_) (fun c10 => ?_)
  · refine gg_iconst (v := 0) (pc := 27) E dX5_cut_27 (by decide) ?_
    refine gg_topI (y := if ((0 ≤ k.toInt ∧ k.toInt < nr) ∧ 0 ≤ o.toInt ∧ o.toInt < nr) ∧ ¬ wyI row nw k o = -1 then 1 else 0) (if_neg (fun q => c10 q.1)).symm ?_
    refine gg_iconst (v := 1) (pc := 28) E dX5_cut_28 (by decide) ?_
    refine gg_callV (F := [_, _, _, _]) (As := [_, _, _]) (rest := []) (pc := 29) E ck_X5 (ct_X5_may hl ) (cwV 3 E.2.2.2.2.1 (lw_V q3241 q3243 qs127 q179 q3244) rfl rfl rfl (by decide +kernel) ⟨by rw [hRf]; exact Nat.le_of_ble_eq_true rfl, by rw [hRl]; exact Nat.le_of_ble_eq_true rfl⟩) dX5_cut_29 [0] (by decide) rfl rfl (fun _ h => by cases h) (gg_i 0 rfl) rfl rfl (Nat.le_of_ble_eq_true rfl) (by first | (rw [hRc]; exact Nat.le_of_ble_eq_true rfl) | (rw [hRc]; dsimp only; omega)) (by first | (rw [hRs]; exact Nat.le_of_ble_eq_true rfl) | (rw [hRs]; dsimp only; omega)) ?_ (fun X q C1 h => h.elim)
    rintro _ _ ⟨rfl, rfl⟩
    dsimp only [List.cons_append, List.nil_append, Option.toList]
    refine gg_ifP_ne (tgt := 37) (pc := 32) E dX5_cut_32 (by decide) (fun c32 => ?_) (fun c32 => ?_)
    · obtain ⟨j, hj, hjq⟩ := k_nI (th_2.mp c32).1.1
      subst hjq
      obtain ⟨j2, hj2, hj2q⟩ := k_nI (th_2.mp c32).1.2
      subst hj2q
      obtain ⟨i1, hi1, hie⟩ := wyI_nat (th_2.mp c32).2.2
      refine gg_aload_n (pc := 37) E dX5_cut_37 rfl rfl ?_
      refine gg_callV (F := [_, _, _]) (As := []) (rest := []) (pc := 38) E ck_X5 (ct_X5_remembers hl ((pk_un (by omega)).trans hpm) (hp8)) (cwV 0 E.2.2.2.2.1 (lw_V q3105 q3107 qs96 q179 q3108) rfl rfl rfl (by decide +kernel) ⟨by rw [hRf]; exact Nat.le_of_ble_eq_true rfl, by rw [hRl]; exact Nat.le_of_ble_eq_true rfl⟩) dX5_cut_38 [0, 2] (by decide) rfl rfl (List.forall_mem_cons.mpr ⟨(gg_i 0 rfl), (fun _ h => by cases h)⟩) (gg_i 0 rfl) rfl rfl (Nat.le_of_ble_eq_true rfl) (by first | (rw [hRc]; exact Nat.le_of_ble_eq_true rfl) | (rw [hRc]; dsimp only; omega)) (by first | (rw [hRs]; exact Nat.le_of_ble_eq_true rfl) | (rw [hRs]; dsimp only; omega)) ?_ (fun X q C1 h => h.elim)
      rintro _ _ ⟨rfl, rfl⟩
      dsimp only [List.cons_append, List.nil_append, Option.toList]
      refine gg_up1 ?_
      refine gg_up2 ?_
      refine gg_aload_n (pc := 41) E dX5_cut_41 rfl rfl ?_
      refine gg_aload_n (pc := 42) E dX5_cut_42 rfl rfl ?_
      refine gg_iload_n (pc := 43) E dX5_cut_43 rfl rfl ?_
      refine gg_iload_n (pc := 44) E dX5_cut_44 rfl rfl ?_
      refine gg_callV (F := [_, _, _, _, _]) (As := [_, _]) (rest := [_]) (pc := 45) E ck_X5 (ct_X5_wayBetween hl (hnw) (hw20)) (cwV 2 E.2.2.2.2.1 (lw_V q3047 q3049 qs86 q179 q3050) rfl rfl rfl (by decide +kernel) ⟨by rw [hRf]; exact Nat.le_of_ble_eq_true rfl, by rw [hRl]; exact Nat.le_of_ble_eq_true rfl⟩) dX5_cut_45 [] (by decide) rfl rfl (List.forall_mem_cons.mpr ⟨(gg_i 0 rfl), (List.forall_mem_cons.mpr ⟨(gg_i 1 rfl), (fun _ h => by cases h)⟩)⟩) (gg_i 0 rfl) rfl rfl (Nat.le_of_ble_eq_true rfl) (by first | (rw [hRc]; exact Nat.le_of_ble_eq_true rfl) | (rw [hRc]; dsimp only; omega)) (by first | (rw [hRs]; exact Nat.le_of_ble_eq_true rfl) | (rw [hRs]; dsimp only; omega)) ?_ (fun X q C1 h => h.elim)
      rintro _ _ ⟨rfl, rfl⟩
      dsimp only [List.cons_append, List.nil_append, Option.toList]
      refine gg_topI (y := nI i1) hie ?_
      refine gg_callV (F := [_, _, _, _]) (As := [.int (nI i1)]) (rest := []) (pc := 48) E ck_X5 (ct_X5_cuts hl (by first | assumption | omega) (by first | assumption | omega) (by first | assumption | omega)) (cwV 1 E.2.2.2.2.1 (lw_V q3228 q3230 qs125 q179 q3231) rfl rfl rfl (by decide +kernel) ⟨by rw [hRf]; exact Nat.le_of_ble_eq_true rfl, by rw [hRl]; exact Nat.le_of_ble_eq_true rfl⟩) dX5_cut_48 [1] (by decide) rfl rfl (List.forall_mem_cons.mpr ⟨(gg_i 0 rfl), (fun _ h => by cases h)⟩) (gg_i 0 rfl) rfl rfl (Nat.le_of_ble_eq_true rfl) (by first | (rw [hRc]; exact Nat.le_of_ble_eq_true rfl) | (rw [hRc]; dsimp only; omega)) (by first | (rw [hRs]; exact Nat.le_of_ble_eq_true rfl) | (rw [hRs]; dsimp only; omega)) ?_ (fun X q C1 h => h.elim)
      rintro _ _ ⟨rfl, rfl⟩
      dsimp only [List.cons_append, List.nil_append, Option.toList]
      refine gg_up1 ?_
      refine gg_iret (pc := 51) E Fn rfl (rfl) dX5_cut_51 (by first | exact Nat.le_of_ble_eq_true rfl | (dsimp only; omega)) (by first | exact Nat.le_of_ble_eq_true rfl | (dsimp only; omega)) ?_
      have hi2 : (wyI row nw (nI j) (nI j2)).toNatClampNeg = i1 := by rw [hie, nI_clamp (by omega)]
      exact ⟨_, _, _, sums, su, by rw [hi2]; exact Chg_yes0 (th_2.mp c32), by rw [if_pos (show cCut row nr nw (nI j) (nI j2) from th_2.mp c32)], rfl⟩
    · refine gg_iconst (v := 0) (pc := 35) E dX5_cut_35 (by decide) ?_
      refine gg_iret (pc := 36) E Fn rfl (rfl) dX5_cut_36 (by first | exact Nat.le_of_ble_eq_true rfl | (dsimp only; omega)) (by first | exact Nat.le_of_ble_eq_true rfl | (dsimp only; omega)) ?_
      exact ⟨_, _, _, sums, su, Chg_no (fun q => c32 (th_2.mpr q)), by rw [if_neg (fun q => c32 (th_2.mpr q))], rfl⟩
  · obtain ⟨j, hj, hjq⟩ := k_nI c10.1
    subst hjq
    obtain ⟨j2, hj2, hj2q⟩ := k_nI c10.2
    subst hj2q
    refine gg_aload_n (pc := 13) E dX5_cut_13 rfl rfl ?_
    refine gg_iload_n (pc := 14) E dX5_cut_14 rfl rfl ?_
    refine gg_iload_n (pc := 15) E dX5_cut_15 rfl rfl ?_
    refine gg_callV (F := [_, _, _, _, _]) (As := [_, _]) (rest := [_, _]) (pc := 16) E ck_X5 (ct_X5_wayBetween hl (by first | assumption | omega) (by first | assumption | omega)) (cwV 2 E.2.2.2.2.1 (lw_V q3047 q3049 qs86 q179 q3050) rfl rfl rfl (by decide +kernel) ⟨by rw [hRf]; exact Nat.le_of_ble_eq_true rfl, by rw [hRl]; exact Nat.le_of_ble_eq_true rfl⟩) dX5_cut_16 [] (by decide) rfl rfl (List.forall_mem_cons.mpr ⟨(gg_i 0 rfl), (List.forall_mem_cons.mpr ⟨(gg_i 1 rfl), (fun _ h => by cases h)⟩)⟩) (gg_i 0 rfl) rfl rfl (Nat.le_of_ble_eq_true rfl) (by first | (rw [hRc]; exact Nat.le_of_ble_eq_true rfl) | (rw [hRc]; dsimp only; omega)) (by first | (rw [hRs]; exact Nat.le_of_ble_eq_true rfl) | (rw [hRs]; dsimp only; omega)) ?_ (fun X q C1 h => h.elim)
    rintro _ _ ⟨rfl, rfl⟩
    dsimp only [List.cons_append, List.nil_append, Option.toList]
    refine gg_iconst (v := (-1)) (pc := 19) E dX5_cut_19 (by decide) ?_
    refine gg_icmp_eq (tgt := 27) (pc := 20) E dX5_cut_20 (by decide) (fun c20 => ?_) (fun c20 => ?_)
    · refine gg_iconst (v := 0) (pc := 27) E dX5_cut_27 (by decide) ?_
      refine gg_topI (y := if ((0 ≤ (nI j).toInt ∧ (nI j).toInt < nr) ∧ 0 ≤ (nI j2).toInt ∧ (nI j2).toInt < nr) ∧ ¬ wyI row nw (nI j) (nI j2) = -1 then 1 else 0) (if_neg (fun q => q.2 c20)).symm ?_
      refine gg_iconst (v := 1) (pc := 28) E dX5_cut_28 (by decide) ?_
      refine gg_callV (F := [_, _, _, _]) (As := [_, _, _]) (rest := []) (pc := 29) E ck_X5 (ct_X5_may hl ) (cwV 3 E.2.2.2.2.1 (lw_V q3241 q3243 qs127 q179 q3244) rfl rfl rfl (by decide +kernel) ⟨by rw [hRf]; exact Nat.le_of_ble_eq_true rfl, by rw [hRl]; exact Nat.le_of_ble_eq_true rfl⟩) dX5_cut_29 [0] (by decide) rfl rfl (fun _ h => by cases h) (gg_i 0 rfl) rfl rfl (Nat.le_of_ble_eq_true rfl) (by first | (rw [hRc]; exact Nat.le_of_ble_eq_true rfl) | (rw [hRc]; dsimp only; omega)) (by first | (rw [hRs]; exact Nat.le_of_ble_eq_true rfl) | (rw [hRs]; dsimp only; omega)) ?_ (fun X q C1 h => h.elim)
      rintro _ _ ⟨rfl, rfl⟩
      dsimp only [List.cons_append, List.nil_append, Option.toList]
      refine gg_ifP_ne (tgt := 37) (pc := 32) E dX5_cut_32 (by decide) (fun c32 => ?_) (fun c32 => ?_)
      · obtain ⟨i1, hi1, hie⟩ := wyI_nat (th_2.mp c32).2.2
        refine gg_aload_n (pc := 37) E dX5_cut_37 rfl rfl ?_
        refine gg_callV (F := [_, _, _]) (As := []) (rest := []) (pc := 38) E ck_X5 (ct_X5_remembers hl ((pk_un (by omega)).trans hpm) (hp8)) (cwV 0 E.2.2.2.2.1 (lw_V q3105 q3107 qs96 q179 q3108) rfl rfl rfl (by decide +kernel) ⟨by rw [hRf]; exact Nat.le_of_ble_eq_true rfl, by rw [hRl]; exact Nat.le_of_ble_eq_true rfl⟩) dX5_cut_38 [0, 2] (by decide) rfl rfl (List.forall_mem_cons.mpr ⟨(gg_i 0 rfl), (fun _ h => by cases h)⟩) (gg_i 0 rfl) rfl rfl (Nat.le_of_ble_eq_true rfl) (by first | (rw [hRc]; exact Nat.le_of_ble_eq_true rfl) | (rw [hRc]; dsimp only; omega)) (by first | (rw [hRs]; exact Nat.le_of_ble_eq_true rfl) | (rw [hRs]; dsimp only; omega)) ?_ (fun X q C1 h => h.elim)
        rintro _ _ ⟨rfl, rfl⟩
        dsimp only [List.cons_append, List.nil_append, Option.toList]
        refine gg_up1 ?_
        refine gg_up2 ?_
        refine gg_aload_n (pc := 41) E dX5_cut_41 rfl rfl ?_
        refine gg_aload_n (pc := 42) E dX5_cut_42 rfl rfl ?_
        refine gg_iload_n (pc := 43) E dX5_cut_43 rfl rfl ?_
        refine gg_iload_n (pc := 44) E dX5_cut_44 rfl rfl ?_
        refine gg_callV (F := [_, _, _, _, _]) (As := [_, _]) (rest := [_]) (pc := 45) E ck_X5 (ct_X5_wayBetween hl (hnw) (hw20)) (cwV 2 E.2.2.2.2.1 (lw_V q3047 q3049 qs86 q179 q3050) rfl rfl rfl (by decide +kernel) ⟨by rw [hRf]; exact Nat.le_of_ble_eq_true rfl, by rw [hRl]; exact Nat.le_of_ble_eq_true rfl⟩) dX5_cut_45 [] (by decide) rfl rfl (List.forall_mem_cons.mpr ⟨(gg_i 0 rfl), (List.forall_mem_cons.mpr ⟨(gg_i 1 rfl), (fun _ h => by cases h)⟩)⟩) (gg_i 0 rfl) rfl rfl (Nat.le_of_ble_eq_true rfl) (by first | (rw [hRc]; exact Nat.le_of_ble_eq_true rfl) | (rw [hRc]; dsimp only; omega)) (by first | (rw [hRs]; exact Nat.le_of_ble_eq_true rfl) | (rw [hRs]; dsimp only; omega)) ?_ (fun X q C1 h => h.elim)
        rintro _ _ ⟨rfl, rfl⟩
        dsimp only [List.cons_append, List.nil_append, Option.toList]
        refine gg_topI (y := nI i1) hie ?_
        refine gg_callV (F := [_, _, _, _]) (As := [.int (nI i1)]) (rest := []) (pc := 48) E ck_X5 (ct_X5_cuts hl (by first | assumption | omega) (by first | assumption | omega) (by first | assumption | omega)) (cwV 1 E.2.2.2.2.1 (lw_V q3228 q3230 qs125 q179 q3231) rfl rfl rfl (by decide +kernel) ⟨by rw [hRf]; exact Nat.le_of_ble_eq_true rfl, by rw [hRl]; exact Nat.le_of_ble_eq_true rfl⟩) dX5_cut_48 [1] (by decide) rfl rfl (List.forall_mem_cons.mpr ⟨(gg_i 0 rfl), (fun _ h => by cases h)⟩) (gg_i 0 rfl) rfl rfl (Nat.le_of_ble_eq_true rfl) (by first | (rw [hRc]; exact Nat.le_of_ble_eq_true rfl) | (rw [hRc]; dsimp only; omega)) (by first | (rw [hRs]; exact Nat.le_of_ble_eq_true rfl) | (rw [hRs]; dsimp only; omega)) ?_ (fun X q C1 h => h.elim)
        rintro _ _ ⟨rfl, rfl⟩
        dsimp only [List.cons_append, List.nil_append, Option.toList]
        refine gg_up1 ?_
        refine gg_iret (pc := 51) E Fn rfl (rfl) dX5_cut_51 (by first | exact Nat.le_of_ble_eq_true rfl | (dsimp only; omega)) (by first | exact Nat.le_of_ble_eq_true rfl | (dsimp only; omega)) ?_
        have hi2 : (wyI row nw (nI j) (nI j2)).toNatClampNeg = i1 := by rw [hie, nI_clamp (by omega)]
        exact ⟨_, _, _, sums, su, by rw [hi2]; exact Chg_yes0 (th_2.mp c32), by rw [if_pos (show cCut row nr nw (nI j) (nI j2) from th_2.mp c32)], rfl⟩
      · refine gg_iconst (v := 0) (pc := 35) E dX5_cut_35 (by decide) ?_
        refine gg_iret (pc := 36) E Fn rfl (rfl) dX5_cut_36 (by first | exact Nat.le_of_ble_eq_true rfl | (dsimp only; omega)) (by first | exact Nat.le_of_ble_eq_true rfl | (dsimp only; omega)) ?_
        exact ⟨_, _, _, sums, su, Chg_no (fun q => c32 (th_2.mpr q)), by rw [if_neg (fun q => c32 (th_2.mpr q))], rfl⟩
    · refine gg_iconst (v := 1) (pc := 23) E dX5_cut_23 (by decide) ?_
      refine gg_goto (tgt := 28) (pc := 24) E dX5_cut_24 (by decide) ?_
      refine gg_topI (y := if ((0 ≤ (nI j).toInt ∧ (nI j).toInt < nr) ∧ 0 ≤ (nI j2).toInt ∧ (nI j2).toInt < nr) ∧ ¬ wyI row nw (nI j) (nI j2) = -1 then 1 else 0) (if_pos ⟨c10, c20⟩).symm ?_
      refine gg_iconst (v := 1) (pc := 28) E dX5_cut_28 (by decide) ?_
      refine gg_callV (F := [_, _, _, _]) (As := [_, _, _]) (rest := []) (pc := 29) E ck_X5 (ct_X5_may hl ) (cwV 3 E.2.2.2.2.1 (lw_V q3241 q3243 qs127 q179 q3244) rfl rfl rfl (by decide +kernel) ⟨by rw [hRf]; exact Nat.le_of_ble_eq_true rfl, by rw [hRl]; exact Nat.le_of_ble_eq_true rfl⟩) dX5_cut_29 [0] (by decide) rfl rfl (fun _ h => by cases h) (gg_i 0 rfl) rfl rfl (Nat.le_of_ble_eq_true rfl) (by first | (rw [hRc]; exact Nat.le_of_ble_eq_true rfl) | (rw [hRc]; dsimp only; omega)) (by first | (rw [hRs]; exact Nat.le_of_ble_eq_true rfl) | (rw [hRs]; dsimp only; omega)) ?_ (fun X q C1 h => h.elim)
      rintro _ _ ⟨rfl, rfl⟩
      dsimp only [List.cons_append, List.nil_append, Option.toList]
      refine gg_ifP_ne (tgt := 37) (pc := 32) E dX5_cut_32 (by decide) (fun c32 => ?_) (fun c32 => ?_)
      · obtain ⟨i1, hi1, hie⟩ := wyI_nat (th_2.mp c32).2.2
        refine gg_aload_n (pc := 37) E dX5_cut_37 rfl rfl ?_
        refine gg_callV (F := [_, _, _]) (As := []) (rest := []) (pc := 38) E ck_X5 (ct_X5_remembers hl ((pk_un (by omega)).trans hpm) (hp8)) (cwV 0 E.2.2.2.2.1 (lw_V q3105 q3107 qs96 q179 q3108) rfl rfl rfl (by decide +kernel) ⟨by rw [hRf]; exact Nat.le_of_ble_eq_true rfl, by rw [hRl]; exact Nat.le_of_ble_eq_true rfl⟩) dX5_cut_38 [0, 2] (by decide) rfl rfl (List.forall_mem_cons.mpr ⟨(gg_i 0 rfl), (fun _ h => by cases h)⟩) (gg_i 0 rfl) rfl rfl (Nat.le_of_ble_eq_true rfl) (by first | (rw [hRc]; exact Nat.le_of_ble_eq_true rfl) | (rw [hRc]; dsimp only; omega)) (by first | (rw [hRs]; exact Nat.le_of_ble_eq_true rfl) | (rw [hRs]; dsimp only; omega)) ?_ (fun X q C1 h => h.elim)
        rintro _ _ ⟨rfl, rfl⟩
        dsimp only [List.cons_append, List.nil_append, Option.toList]
        refine gg_up1 ?_
        refine gg_up2 ?_
        refine gg_aload_n (pc := 41) E dX5_cut_41 rfl rfl ?_
        refine gg_aload_n (pc := 42) E dX5_cut_42 rfl rfl ?_
        refine gg_iload_n (pc := 43) E dX5_cut_43 rfl rfl ?_
        refine gg_iload_n (pc := 44) E dX5_cut_44 rfl rfl ?_
        refine gg_callV (F := [_, _, _, _, _]) (As := [_, _]) (rest := [_]) (pc := 45) E ck_X5 (ct_X5_wayBetween hl (hnw) (hw20)) (cwV 2 E.2.2.2.2.1 (lw_V q3047 q3049 qs86 q179 q3050) rfl rfl rfl (by decide +kernel) ⟨by rw [hRf]; exact Nat.le_of_ble_eq_true rfl, by rw [hRl]; exact Nat.le_of_ble_eq_true rfl⟩) dX5_cut_45 [] (by decide) rfl rfl (List.forall_mem_cons.mpr ⟨(gg_i 0 rfl), (List.forall_mem_cons.mpr ⟨(gg_i 1 rfl), (fun _ h => by cases h)⟩)⟩) (gg_i 0 rfl) rfl rfl (Nat.le_of_ble_eq_true rfl) (by first | (rw [hRc]; exact Nat.le_of_ble_eq_true rfl) | (rw [hRc]; dsimp only; omega)) (by first | (rw [hRs]; exact Nat.le_of_ble_eq_true rfl) | (rw [hRs]; dsimp only; omega)) ?_ (fun X q C1 h => h.elim)
        rintro _ _ ⟨rfl, rfl⟩
        dsimp only [List.cons_append, List.nil_append, Option.toList]
        refine gg_topI (y := nI i1) hie ?_
        refine gg_callV (F := [_, _, _, _]) (As := [.int (nI i1)]) (rest := []) (pc := 48) E ck_X5 (ct_X5_cuts hl (by first | assumption | omega) (by first | assumption | omega) (by first | assumption | omega)) (cwV 1 E.2.2.2.2.1 (lw_V q3228 q3230 qs125 q179 q3231) rfl rfl rfl (by decide +kernel) ⟨by rw [hRf]; exact Nat.le_of_ble_eq_true rfl, by rw [hRl]; exact Nat.le_of_ble_eq_true rfl⟩) dX5_cut_48 [1] (by decide) rfl rfl (List.forall_mem_cons.mpr ⟨(gg_i 0 rfl), (fun _ h => by cases h)⟩) (gg_i 0 rfl) rfl rfl (Nat.le_of_ble_eq_true rfl) (by first | (rw [hRc]; exact Nat.le_of_ble_eq_true rfl) | (rw [hRc]; dsimp only; omega)) (by first | (rw [hRs]; exact Nat.le_of_ble_eq_true rfl) | (rw [hRs]; dsimp only; omega)) ?_ (fun X q C1 h => h.elim)
        rintro _ _ ⟨rfl, rfl⟩
        dsimp only [List.cons_append, List.nil_append, Option.toList]
        refine gg_up1 ?_
        refine gg_iret (pc := 51) E Fn rfl (rfl) dX5_cut_51 (by first | exact Nat.le_of_ble_eq_true rfl | (dsimp only; omega)) (by first | exact Nat.le_of_ble_eq_true rfl | (dsimp only; omega)) ?_
        have hi2 : (wyI row nw (nI j) (nI j2)).toNatClampNeg = i1 := by rw [hie, nI_clamp (by omega)]
        exact ⟨_, _, _, sums, su, by rw [hi2]; exact Chg_yes0 (th_2.mp c32), by rw [if_pos (show cCut row nr nw (nI j) (nI j2) from th_2.mp c32)], rfl⟩
      · refine gg_iconst (v := 0) (pc := 35) E dX5_cut_35 (by decide) ?_
        refine gg_iret (pc := 36) E Fn rfl (rfl) dX5_cut_36 (by first | exact Nat.le_of_ble_eq_true rfl | (dsimp only; omega)) (by first | exact Nat.le_of_ble_eq_true rfl | (dsimp only; omega)) ?_
        exact ⟨_, _, _, sums, su, Chg_no (fun q => c32 (th_2.mpr q)), by rw [if_neg (fun q => c32 (th_2.mpr q))], rfl⟩
set_option maxHeartbeats 4000000 in
theorem ct_X5_set {l : Launch} (hl : l.stackTraces = false) {g : gg_G}  {h : Nat} {ad : Nat → Nat} {x : Nat → Int32} {row : Nat → Int32} {past : Nat → Int32} {sums : Nat → Int32}  {su : Nat → Int32} {wh va : Int32} {pm : Nat} {nr nw nt : Nat} (hG : Gw row nr nw nt) (hpm : x 4 = nI pm) (hp8 : pm ≤ 8) : gg_C l g yX5_set (ws_ yX5_set cX5_set 4 (some .int)) { frames := 1, cells := 0, slots := 0, locals := 25 } [.ref h, .int wh, .int va] [] [[(h, .inl (4, mo_f ad x))], [((ad 0), gg_ai g 1030 row)], [((ad 3), gg_ai g 8240 past)], [((ad 9), gg_ai g 10 sums)], [((ad 10), gg_ai g 8 su)]] (fun vv CC => ∃ (X1 R1 P1 S U : Nat → Int32), (Chg (cSet wh va) x row past X1 R1 P1 (th (if (8 ≤ wh.toInt ∧ wh.toInt ≤ 10) ∧ low (nI (tn wh - 4)) ≤ va ∧ va ≤ hig (nI (tn wh - 4)) then 1 else 0) 1 1) pm (upd row (tn wh - 4) va)) ∧ vv = some (.int (if cSet wh va then row (tn wh - 4) else 0)) ∧ CC = [[(h, .inl (4, mo_f ad X1))], [((ad 0), gg_ai g 1030 R1)], [((ad 3), gg_ai g 8240 P1)], [((ad 9), gg_ai g 10 S)], [((ad 10), gg_ai g 8 U)]]) gg_no := by
  refine gg_of (lv := [_, _, _, _]) (by decide) hl (Nat.le_of_ble_eq_true rfl) rfl ?_
  intro p e R s m args below meth c A Q hRf hRl hRc hRs E Fn hnm hex
  have hG0 := hG
  obtain ⟨hnr, hw, ht, hG4, hGS⟩ := hG
  have hnw := hw.1
  have hw20 := hw.2.1
  have hr10 := hw.2.2.1
  have hnt := ht.1
  have ht30 := ht.2.1
  refine gg_iload_n (pc := 0) E dX5_set_0 rfl rfl ?_
  refine gg_i2l (pc := 1) E dX5_set_1 rfl ?_
  refine gg_ldc2 (pc := 2) E q3337 dX5_set_2 ?_
  refine gg_ldc2 (pc := 5) E q3261 dX5_set_5 ?_
  refine gg_callS (F := [_, _, _, _, _]) (As := [_, _, _]) (rest := []) (pc := 8) E (ct_X5_in hl ) (va_cwS 3 E.2.2.2.2.1 (lw_S q2961 q2962 q179 q2963) rfl rfl rfl (by decide +kernel) ⟨by rw [hRf]; exact Nat.le_of_ble_eq_true rfl, by rw [hRl]; exact Nat.le_of_ble_eq_true rfl⟩) dX5_set_8 [] (by decide) rfl rfl (fun _ h => by cases h) rfl rfl (Nat.le_of_ble_eq_true rfl) (by first | (rw [hRc]; exact Nat.le_of_ble_eq_true rfl) | (rw [hRc]; dsimp only; omega)) (by first | (rw [hRs]; exact Nat.le_of_ble_eq_true rfl) | (rw [hRs]; dsimp only; omega)) ?_ (fun X q C1 h => h.elim)
  rintro _ _ ⟨rfl, rfl⟩
  dsimp only [List.cons_append, List.nil_append, Option.toList]
  refine gg_topI (y := if 8 ≤ wh.toInt ∧ wh.toInt ≤ 10 then 1 else 0) (gg_ifc (in_ab (by decide) (by decide))) ?_
  refine gg_ifP_eq (tgt := 23) (pc := 11) E dX5_set_11 (by decide) (fun c11 => ?_) (fun c11 => ?_)
  · refine gg_iconst (v := (-1)) (pc := 23) E dX5_set_23 (by decide) ?_
    refine gg_istore_n (lv' := [_, _, _, _]) (pc := 24) E dX5_set_24 rfl (Nat.le_of_ble_eq_true rfl) rfl rfl ?_
    refine gg_aload_n (pc := 25) E dX5_set_25 rfl rfl ?_
    refine gg_iload_n (pc := 26) E dX5_set_26 rfl rfl ?_
    refine gg_iconst (v := (-1)) (pc := 27) E dX5_set_27 (by decide) ?_
    refine gg_icmp_eq (tgt := 53) (pc := 28) E dX5_set_28 (by decide) (fun c28 => ?_) (fun c28 => ?_)
    rotate_left
    · exact absurd rfl c28
    refine gg_iconst (v := 0) (pc := 53) E dX5_set_53 (by decide) ?_
    refine gg_topI (y := if (8 ≤ wh.toInt ∧ wh.toInt ≤ 10) ∧ low (nI (tn wh - 4)) ≤ va ∧ va ≤ hig (nI (tn wh - 4)) then 1 else 0) (if_neg (fun q => c11 q.1)).symm ?_
    refine gg_iconst (v := 1) (pc := 54) E dX5_set_54 (by decide) ?_
    refine gg_iconst (v := 1) (pc := 55) E dX5_set_55 (by decide) ?_
    refine gg_callV (F := [_, _, _, _]) (As := [_, _, _]) (rest := []) (pc := 56) E ck_X5 (ct_X5_may hl ) (cwV 3 E.2.2.2.2.1 (lw_V q3241 q3243 qs127 q179 q3244) rfl rfl rfl (by decide +kernel) ⟨by rw [hRf]; exact Nat.le_of_ble_eq_true rfl, by rw [hRl]; exact Nat.le_of_ble_eq_true rfl⟩) dX5_set_56 [0] (by decide) rfl rfl (fun _ h => by cases h) (gg_i 0 rfl) rfl rfl (Nat.le_of_ble_eq_true rfl) (by first | (rw [hRc]; exact Nat.le_of_ble_eq_true rfl) | (rw [hRc]; dsimp only; omega)) (by first | (rw [hRs]; exact Nat.le_of_ble_eq_true rfl) | (rw [hRs]; dsimp only; omega)) ?_ (fun X q C1 h => h.elim)
    rintro _ _ ⟨rfl, rfl⟩
    dsimp only [List.cons_append, List.nil_append, Option.toList]
    refine gg_ifP_ne (tgt := 64) (pc := 59) E dX5_set_59 (by decide) (fun c59 => ?_) (fun c59 => ?_)
    · exact absurd (th_1.mp c59).1 c11
    refine gg_iconst (v := 0) (pc := 62) E dX5_set_62 (by decide) ?_
    refine gg_iret (pc := 63) E Fn rfl (rfl) dX5_set_63 (by first | exact Nat.le_of_ble_eq_true rfl | (dsimp only; omega)) (by first | exact Nat.le_of_ble_eq_true rfl | (dsimp only; omega)) ?_
    exact ⟨_, _, _, sums, su, Chg_no (fun q => c59 (th_1.mpr q)), by rw [if_neg (fun q => c59 (th_1.mpr q))], rfl⟩
  · obtain ⟨u, hu, huq⟩ := k_nI (n := 11) (k := wh) (by omega)
    subst huq
    have hu8 : 8 ≤ u := by
      have := c11.1
      rw [nI_toInt (by omega)] at this
      omega
    refine gg_iconst (v := 4) (pc := 14) E dX5_set_14 (by decide) ?_
    refine gg_iload_n (pc := 15) E dX5_set_15 rfl rfl ?_
    refine gg_iaddN (pc := 16) E 4 u rfl rfl dX5_set_16 ?_
    refine gg_bipush (v := 8) (pc := 17) E dX5_set_17 (by decide) ?_
    refine gg_isubN (pc := 19) E (4 + u) 8 rfl rfl (by omega) dX5_set_19 ?_
    refine gg_goto (tgt := 24) (pc := 20) E dX5_set_20 (by decide) ?_
    refine gg_istore_n (lv' := [_, _, _, _]) (pc := 24) E dX5_set_24 rfl (Nat.le_of_ble_eq_true rfl) rfl rfl ?_
    refine gg_aload_n (pc := 25) E dX5_set_25 rfl rfl ?_
    refine gg_iload_n (pc := 26) E dX5_set_26 rfl rfl ?_
    refine gg_iconst (v := (-1)) (pc := 27) E dX5_set_27 (by decide) ?_
    refine gg_icmp_eq (tgt := 53) (pc := 28) E dX5_set_28 (by decide) (fun c28 => ?_) (fun c28 => ?_)
    · exact absurd c28 (nI_nm1 (by omega))
    refine gg_iload_n (pc := 31) E dX5_set_31 rfl rfl ?_
    refine gg_i2l (pc := 32) E dX5_set_32 rfl ?_
    refine gg_iload_n (pc := 33) E dX5_set_33 rfl rfl ?_
    refine gg_callS (F := [_, _, _, _, _]) (As := [_]) (rest := [_, _]) (pc := 34) E (ct_X5_lowOf hl ) (va_cwS 1 E.2.2.2.2.1 (lw_S q3066 q3067 q179 q3068) rfl rfl rfl (by decide +kernel) ⟨by rw [hRf]; exact Nat.le_of_ble_eq_true rfl, by rw [hRl]; exact Nat.le_of_ble_eq_true rfl⟩) dX5_set_34 [] (by decide) rfl rfl (fun _ h => by cases h) rfl rfl (Nat.le_of_ble_eq_true rfl) (by first | (rw [hRc]; exact Nat.le_of_ble_eq_true rfl) | (rw [hRc]; dsimp only; omega)) (by first | (rw [hRs]; exact Nat.le_of_ble_eq_true rfl) | (rw [hRs]; dsimp only; omega)) ?_ (fun X q C1 h => h.elim)
    rintro _ _ ⟨rfl, rfl⟩
    dsimp only [List.cons_append, List.nil_append, Option.toList]
    refine gg_i2l (pc := 37) E dX5_set_37 rfl ?_
    refine gg_iload_n (pc := 38) E dX5_set_38 rfl rfl ?_
    refine gg_callS (F := [_, _, _, _, _]) (As := [_]) (rest := [_, _, _]) (pc := 39) E (ct_X5_highOf hl ) (va_cwS 1 E.2.2.2.2.1 (lw_S q3069 q3070 q179 q3071) rfl rfl rfl (by decide +kernel) ⟨by rw [hRf]; exact Nat.le_of_ble_eq_true rfl, by rw [hRl]; exact Nat.le_of_ble_eq_true rfl⟩) dX5_set_39 [] (by decide) rfl rfl (fun _ h => by cases h) rfl rfl (Nat.le_of_ble_eq_true rfl) (by first | (rw [hRc]; exact Nat.le_of_ble_eq_true rfl) | (rw [hRc]; dsimp only; omega)) (by first | (rw [hRs]; exact Nat.le_of_ble_eq_true rfl) | (rw [hRs]; dsimp only; omega)) ?_ (fun X q C1 h => h.elim)
    rintro _ _ ⟨rfl, rfl⟩
    dsimp only [List.cons_append, List.nil_append, Option.toList]
    refine gg_i2l (pc := 42) E dX5_set_42 rfl ?_
    refine gg_callS (F := [_, _, _, _, _]) (As := [_, _, _]) (rest := [_]) (pc := 43) E (ct_X5_in hl ) (va_cwS 3 E.2.2.2.2.1 (lw_S q2961 q2962 q179 q2963) rfl rfl rfl (by decide +kernel) ⟨by rw [hRf]; exact Nat.le_of_ble_eq_true rfl, by rw [hRl]; exact Nat.le_of_ble_eq_true rfl⟩) dX5_set_43 [] (by decide) rfl rfl (fun _ h => by cases h) rfl rfl (Nat.le_of_ble_eq_true rfl) (by first | (rw [hRc]; exact Nat.le_of_ble_eq_true rfl) | (rw [hRc]; dsimp only; omega)) (by first | (rw [hRs]; exact Nat.le_of_ble_eq_true rfl) | (rw [hRs]; dsimp only; omega)) ?_ (fun X q C1 h => h.elim)
    rintro _ _ ⟨rfl, rfl⟩
    dsimp only [List.cons_append, List.nil_append, Option.toList]
    refine gg_topI (y := if low (nI (4 + u - 8)) ≤ va ∧ va ≤ hig (nI (4 + u - 8)) then 1 else 0) (gg_ifc (by rw [i64_le, i64_le])) ?_
    refine gg_ifP_eq (tgt := 53) (pc := 46) E dX5_set_46 (by decide) (fun c46 => ?_) (fun c46 => ?_)
    · refine gg_iconst (v := 0) (pc := 53) E dX5_set_53 (by decide) ?_
      refine gg_topI (y := if (8 ≤ (nI u).toInt ∧ (nI u).toInt ≤ 10) ∧ low (nI (tn (nI u) - 4)) ≤ va ∧ va ≤ hig (nI (tn (nI u) - 4)) then 1 else 0) (if_neg (fun q => c46 (by have := q.2; rw [tn_nI (j := u) (by omega), show u - 4 = 4 + u - 8 by omega] at this; exact this))).symm ?_
      refine gg_iconst (v := 1) (pc := 54) E dX5_set_54 (by decide) ?_
      refine gg_iconst (v := 1) (pc := 55) E dX5_set_55 (by decide) ?_
      refine gg_callV (F := [_, _, _, _]) (As := [_, _, _]) (rest := []) (pc := 56) E ck_X5 (ct_X5_may hl ) (cwV 3 E.2.2.2.2.1 (lw_V q3241 q3243 qs127 q179 q3244) rfl rfl rfl (by decide +kernel) ⟨by rw [hRf]; exact Nat.le_of_ble_eq_true rfl, by rw [hRl]; exact Nat.le_of_ble_eq_true rfl⟩) dX5_set_56 [0] (by decide) rfl rfl (fun _ h => by cases h) (gg_i 0 rfl) rfl rfl (Nat.le_of_ble_eq_true rfl) (by first | (rw [hRc]; exact Nat.le_of_ble_eq_true rfl) | (rw [hRc]; dsimp only; omega)) (by first | (rw [hRs]; exact Nat.le_of_ble_eq_true rfl) | (rw [hRs]; dsimp only; omega)) ?_ (fun X q C1 h => h.elim)
      rintro _ _ ⟨rfl, rfl⟩
      dsimp only [List.cons_append, List.nil_append, Option.toList]
      refine gg_ifP_ne (tgt := 64) (pc := 59) E dX5_set_59 (by decide) (fun c59 => ?_) (fun c59 => ?_)
      · refine gg_aload_n (pc := 64) E dX5_set_64 rfl rfl ?_
        refine gg_callV (F := [_, _, _]) (As := []) (rest := []) (pc := 65) E ck_X5 (ct_X5_remembers hl ((pk_un (by omega)).trans hpm) (hp8)) (cwV 0 E.2.2.2.2.1 (lw_V q3105 q3107 qs96 q179 q3108) rfl rfl rfl (by decide +kernel) ⟨by rw [hRf]; exact Nat.le_of_ble_eq_true rfl, by rw [hRl]; exact Nat.le_of_ble_eq_true rfl⟩) dX5_set_65 [0, 2] (by decide) rfl rfl (List.forall_mem_cons.mpr ⟨(gg_i 0 rfl), (fun _ h => by cases h)⟩) (gg_i 0 rfl) rfl rfl (Nat.le_of_ble_eq_true rfl) (by first | (rw [hRc]; exact Nat.le_of_ble_eq_true rfl) | (rw [hRc]; dsimp only; omega)) (by first | (rw [hRs]; exact Nat.le_of_ble_eq_true rfl) | (rw [hRs]; dsimp only; omega)) ?_ (fun X q C1 h => h.elim)
        rintro _ _ ⟨rfl, rfl⟩
        dsimp only [List.cons_append, List.nil_append, Option.toList]
        refine gg_up1 ?_
        refine gg_up2 ?_
        refine gg_aload_n (pc := 68) E dX5_set_68 rfl rfl ?_
        refine gg_iload_n (pc := 69) E dX5_set_69 rfl rfl ?_
        refine gg_iload_n (pc := 70) E dX5_set_70 rfl rfl ?_
        refine gg_callV (F := [_, _, _, _]) (As := [.int (nI ((4 + u) - 8)), _]) (rest := []) (pc := 71) E ck_X5 (ct_X5_sets hl (by omega)) (cwV 2 E.2.2.2.2.1 (lw_V q3232 q3234 qs126 q179 q3235) rfl rfl rfl (by decide +kernel) ⟨by rw [hRf]; exact Nat.le_of_ble_eq_true rfl, by rw [hRl]; exact Nat.le_of_ble_eq_true rfl⟩) dX5_set_71 [1] (by decide) rfl rfl (List.forall_mem_cons.mpr ⟨(gg_i 0 rfl), (fun _ h => by cases h)⟩) (gg_i 0 rfl) rfl rfl (Nat.le_of_ble_eq_true rfl) (by first | (rw [hRc]; exact Nat.le_of_ble_eq_true rfl) | (rw [hRc]; dsimp only; omega)) (by first | (rw [hRs]; exact Nat.le_of_ble_eq_true rfl) | (rw [hRs]; dsimp only; omega)) ?_ (fun X q C1 h => h.elim)
        rintro _ _ ⟨rfl, rfl⟩
        dsimp only [List.cons_append, List.nil_append, Option.toList]
        refine gg_up1 ?_
        refine gg_iret (pc := 74) E Fn rfl (rfl) dX5_set_74 (by first | exact Nat.le_of_ble_eq_true rfl | (dsimp only; omega)) (by first | exact Nat.le_of_ble_eq_true rfl | (dsimp only; omega)) ?_
        have e4 : 4 + u - 8 = tn (nI u) - 4 := by rw [tn_nI (j := u) (by omega)]; omega
        rw [e4]
        exact ⟨_, _, _, sums, su, Chg_yes0 (th_1.mp c59), by rw [if_pos (show cSet (nI u) va from th_1.mp c59)], rfl⟩
      · refine gg_iconst (v := 0) (pc := 62) E dX5_set_62 (by decide) ?_
        refine gg_iret (pc := 63) E Fn rfl (rfl) dX5_set_63 (by first | exact Nat.le_of_ble_eq_true rfl | (dsimp only; omega)) (by first | exact Nat.le_of_ble_eq_true rfl | (dsimp only; omega)) ?_
        exact ⟨_, _, _, sums, su, Chg_no (fun q => c59 (th_1.mpr q)), by rw [if_neg (fun q => c59 (th_1.mpr q))], rfl⟩
    · refine gg_iconst (v := 1) (pc := 49) E dX5_set_49 (by decide) ?_
      refine gg_goto (tgt := 54) (pc := 50) E dX5_set_50 (by decide) ?_
      refine gg_topI (y := if (8 ≤ (nI u).toInt ∧ (nI u).toInt ≤ 10) ∧ low (nI (tn (nI u) - 4)) ≤ va ∧ va ≤ hig (nI (tn (nI u) - 4)) then 1 else 0) (if_pos ⟨c11, by rw [tn_nI (j := u) (by omega), show u - 4 = 4 + u - 8 by omega]; exact c46⟩).symm ?_
      refine gg_iconst (v := 1) (pc := 54) E dX5_set_54 (by decide) ?_
      refine gg_iconst (v := 1) (pc := 55) E dX5_set_55 (by decide) ?_
      refine gg_callV (F := [_, _, _, _]) (As := [_, _, _]) (rest := []) (pc := 56) E ck_X5 (ct_X5_may hl ) (cwV 3 E.2.2.2.2.1 (lw_V q3241 q3243 qs127 q179 q3244) rfl rfl rfl (by decide +kernel) ⟨by rw [hRf]; exact Nat.le_of_ble_eq_true rfl, by rw [hRl]; exact Nat.le_of_ble_eq_true rfl⟩) dX5_set_56 [0] (by decide) rfl rfl (fun _ h => by cases h) (gg_i 0 rfl) rfl rfl (Nat.le_of_ble_eq_true rfl) (by first | (rw [hRc]; exact Nat.le_of_ble_eq_true rfl) | (rw [hRc]; dsimp only; omega)) (by first | (rw [hRs]; exact Nat.le_of_ble_eq_true rfl) | (rw [hRs]; dsimp only; omega)) ?_ (fun X q C1 h => h.elim)
      rintro _ _ ⟨rfl, rfl⟩
      dsimp only [List.cons_append, List.nil_append, Option.toList]
      refine gg_ifP_ne (tgt := 64) (pc := 59) E dX5_set_59 (by decide) (fun c59 => ?_) (fun c59 => ?_)
      · refine gg_aload_n (pc := 64) E dX5_set_64 rfl rfl ?_
        refine gg_callV (F := [_, _, _]) (As := []) (rest := []) (pc := 65) E ck_X5 (ct_X5_remembers hl ((pk_un (by omega)).trans hpm) (hp8)) (cwV 0 E.2.2.2.2.1 (lw_V q3105 q3107 qs96 q179 q3108) rfl rfl rfl (by decide +kernel) ⟨by rw [hRf]; exact Nat.le_of_ble_eq_true rfl, by rw [hRl]; exact Nat.le_of_ble_eq_true rfl⟩) dX5_set_65 [0, 2] (by decide) rfl rfl (List.forall_mem_cons.mpr ⟨(gg_i 0 rfl), (fun _ h => by cases h)⟩) (gg_i 0 rfl) rfl rfl (Nat.le_of_ble_eq_true rfl) (by first | (rw [hRc]; exact Nat.le_of_ble_eq_true rfl) | (rw [hRc]; dsimp only; omega)) (by first | (rw [hRs]; exact Nat.le_of_ble_eq_true rfl) | (rw [hRs]; dsimp only; omega)) ?_ (fun X q C1 h => h.elim)
        rintro _ _ ⟨rfl, rfl⟩
        dsimp only [List.cons_append, List.nil_append, Option.toList]
        refine gg_up1 ?_
        refine gg_up2 ?_
        refine gg_aload_n (pc := 68) E dX5_set_68 rfl rfl ?_
        refine gg_iload_n (pc := 69) E dX5_set_69 rfl rfl ?_
        refine gg_iload_n (pc := 70) E dX5_set_70 rfl rfl ?_
        refine gg_callV (F := [_, _, _, _]) (As := [.int (nI ((4 + u) - 8)), _]) (rest := []) (pc := 71) E ck_X5 (ct_X5_sets hl (by omega)) (cwV 2 E.2.2.2.2.1 (lw_V q3232 q3234 qs126 q179 q3235) rfl rfl rfl (by decide +kernel) ⟨by rw [hRf]; exact Nat.le_of_ble_eq_true rfl, by rw [hRl]; exact Nat.le_of_ble_eq_true rfl⟩) dX5_set_71 [1] (by decide) rfl rfl (List.forall_mem_cons.mpr ⟨(gg_i 0 rfl), (fun _ h => by cases h)⟩) (gg_i 0 rfl) rfl rfl (Nat.le_of_ble_eq_true rfl) (by first | (rw [hRc]; exact Nat.le_of_ble_eq_true rfl) | (rw [hRc]; dsimp only; omega)) (by first | (rw [hRs]; exact Nat.le_of_ble_eq_true rfl) | (rw [hRs]; dsimp only; omega)) ?_ (fun X q C1 h => h.elim)
        rintro _ _ ⟨rfl, rfl⟩
        dsimp only [List.cons_append, List.nil_append, Option.toList]
        refine gg_up1 ?_
        refine gg_iret (pc := 74) E Fn rfl (rfl) dX5_set_74 (by first | exact Nat.le_of_ble_eq_true rfl | (dsimp only; omega)) (by first | exact Nat.le_of_ble_eq_true rfl | (dsimp only; omega)) ?_
        have e4 : 4 + u - 8 = tn (nI u) - 4 := by rw [tn_nI (j := u) (by omega)]; omega
        rw [e4]
        exact ⟨_, _, _, sums, su, Chg_yes0 (th_1.mp c59), by rw [if_pos (show cSet (nI u) va from th_1.mp c59)], rfl⟩
      · refine gg_iconst (v := 0) (pc := 62) E dX5_set_62 (by decide) ?_
        refine gg_iret (pc := 63) E Fn rfl (rfl) dX5_set_63 (by first | exact Nat.le_of_ble_eq_true rfl | (dsimp only; omega)) (by first | exact Nat.le_of_ble_eq_true rfl | (dsimp only; omega)) ?_
        exact ⟨_, _, _, sums, su, Chg_no (fun q => c59 (th_1.mpr q)), by rw [if_neg (fun q => c59 (th_1.mpr q))], rfl⟩

set_option maxRecDepth 100000
theorem th_3 {P W Y : Prop} [Decidable P] [Decidable W] [Decidable Y] : th (if P then 1 else 0) (if W then 1 else 0) (if Y then 1 else 0) = 0 ↔ P ∧ W ∧ Y := by
  unfold th
  by_cases h : P <;> by_cases h' : W <;> by_cases h2 : Y <;> simp [h, h', h2]
/-- a change, done or not -/
def Chg (C : Prop) (x row past X1 R1 P1 : Nat → Int32) (t : Int32) (pm : Nat) (R : Nat → Int32) : Prop := (C ∧ R1 = R ∧ P1 = pst past row pm ∧ ∃ z, X1 = upd (upd (upd x 6 t) 4 (nI (psn pm))) 11 z) ∨ (¬ C ∧ R1 = row ∧ P1 = past ∧ ∃ z, X1 = upd (upd x 6 t) 11 z)
theorem Chg_no {C : Prop} {x row past : Nat → Int32} {t : Int32} {pm : Nat} {R : Nat → Int32} (h : ¬ C) : Chg C x row past (upd x 6 t) row past t pm R := Or.inr ⟨h, rfl, rfl, _, mu_11 _⟩
theorem Chg_yes {C : Prop} {x row past : Nat → Int32} {t z : Int32} {pm : Nat} {R : Nat → Int32} (h : C) : Chg C x row past (upd (upd (upd x 6 t) 4 (nI (psn pm))) 11 z) R (pst past row pm) t pm R := Or.inl ⟨h, rfl, rfl, z, rfl⟩
theorem Chg_yes0 {C : Prop} {x row past : Nat → Int32} {t : Int32} {pm : Nat} {R : Nat → Int32} (h : C) : Chg C x row past (upd (upd x 6 t) 4 (nI (psn pm))) R (pst past row pm) t pm R := Or.inl ⟨h, rfl, rfl, _, mu_11 _⟩
noncomputable def qArr (row : Nat → Int32) (nr nw nt : Nat) (k : Int32) : Int32 := if isR nt k then fi (fun i => goF row nr nw i (220 + 27 * tn k + 3) = 2) 201 else 0
noncomputable def qGrow (row : Nat → Int32) (nr nw : Nat) (wh tk : Int32) : Int32 := if (0 ≤ wh.toInt ∧ wh.toInt ≤ 10) ∧ 0 ≤ tk.toInt ∧ tk.toInt ≤ 200 then goF row nr nw (tn tk) (10 + tn wh) - row (10 + tn wh) else 0
def gcF (row : Nat → Int32) (k : Nat) (d : Int32) : Nat → Int32 := cn (upd row (25 + 13 * k + 10) (row (25 + 13 * k + 10) + d)) 10 d
def unX (x : Nat → Int32) (pm : Nat) : Nat → Int32 := if pm = 0 then upd x 6 1 else upd (upd x 6 0) 4 (nI (pm - 1))
def unR (row past : Nat → Int32) (pm : Nat) : Nat → Int32 := if pm = 0 then row else fun k => past (1030 * (pm - 1) + k)
set_option maxHeartbeats 4000000 in
theorem ct_X5_goes {l : Launch} (hl : l.stackTraces = false) {g : gg_G}  {h : Nat} {ad : Nat → Nat} {x : Nat → Int32} {row : Nat → Int32} {sums : Nat → Int32}  {su : Nat → Int32} {tk tm : Nat} {nr nw nt : Nat} (hG : Gw row nr nw nt) (htm : row 3 = nI tm) (htm2 : tm + tk < 2 ^ 30) : gg_C l g yX5_goes (ws_ yX5_goes cX5_goes 4 (some .int)) { frames := 8, cells := 0, slots := 0, locals := 186 } [.ref h, .int (nI tk)] [] [[(h, .inl (4, mo_f ad x))], [((ad 0), gg_ai g 1030 row)], [((ad 9), gg_ai g 10 sums)], [((ad 10), gg_ai g 8 su)]] (fun vv CC => ∃ (z : Int32) (S U : Nat → Int32), vv = some (.int (goF row nr nw tk 15 - row 15)) ∧ CC = [[(h, .inl (4, mo_f ad (upd x 11 z)))], [((ad 0), gg_ai g 1030 (goF row nr nw tk))], [((ad 9), gg_ai g 10 S)], [((ad 10), gg_ai g 8 U)]]) gg_no := by
  refine gg_of (lv := [_, _, _, _]) (by decide) hl (Nat.le_of_ble_eq_true rfl) rfl ?_
  intro p e R s m args below meth c A Q hRf hRl hRc hRs E Fn hnm hex
  have hG0 := hG
  obtain ⟨hnr, hw, ht, hG4, hGS⟩ := hG
  have hnw := hw.1
  have hw20 := hw.2.1
  have hr10 := hw.2.2.1
  have hnt := ht.1
  have ht30 := ht.2.1
  refine gg_aload_n (pc := 0) E dX5_goes_0 rfl rfl ?_
  refine gg_get (pc := 1) E ck_X5 0 q2859 rfl (by decide) dX5_goes_1 (gg_i 0 rfl) rfl ?_
  refine gg_bipush (v := 15) (pc := 4) E dX5_goes_4 (by decide) ?_
  refine gg_ialdN (pc := 6) E 15 rfl (by omega) (by omega) dX5_goes_6 (gg_i 1 rfl) ?_
  refine gg_istore_n (lv' := [_, _, _, _]) (pc := 7) E dX5_goes_7 rfl (Nat.le_of_ble_eq_true rfl) rfl rfl ?_
  refine gg_iconst (v := 0) (pc := 8) E dX5_goes_8 (by decide) ?_
  refine gg_istore_n (lv' := [_, _, _, _]) (pc := 9) E dX5_goes_9 rfl (Nat.le_of_ble_eq_true rfl) rfl rfl ?_
  have L10 : ∀ (n : Nat) (i : Nat) (z : Int32) (S U : Nat → Int32), tk - i < n → (i ≤ tk) → gg_W p l e R s m args below meth c g A 4 Q 0 0 [[(h, .inl (4, mo_f ad (upd x 11 z)))], [((ad 0), gg_ai g 1030 (goF row nr nw i))], [((ad 9), gg_ai g 10 S)], [((ad 10), gg_ai g 8 U)]] [some (.ref h), some (.int (nI tk)), some (.int (row 15)), some (.int (nI i))] [] 10 := by
    intro n10
    induction n10 with
    | zero => intro i z S U hmz; exact absurd hmz (Nat.not_lt_zero _)
    | succ n10 ih10 =>
      intro i z S U hm10 hi
      obtain ⟨n1, q1, q2, q3, q4⟩ := go_G hG0 htm i (by omega)
      refine gg_iload_n (pc := 10) E dX5_goes_10 rfl rfl ?_
      refine gg_iload_n (pc := 11) E dX5_goes_11 rfl rfl ?_
      refine gg_icmpN_ge (tgt := 25) (pc := 12) E i tk rfl rfl (by omega) (by omega) dX5_goes_12 (by decide) (fun c12 => ?_) (fun c12 => ?_)
      · refine gg_aload_n (pc := 25) E dX5_goes_25 rfl rfl ?_
        refine gg_get (pc := 26) E ck_X5 0 q2859 rfl (by decide) dX5_goes_26 (gg_i 0 rfl) rfl ?_
        refine gg_bipush (v := 15) (pc := 29) E dX5_goes_29 (by decide) ?_
        refine gg_ialdN (pc := 31) E 15 rfl (by omega) (by omega) dX5_goes_31 (gg_i 1 rfl) ?_
        refine gg_iload_n (pc := 32) E dX5_goes_32 rfl rfl ?_
        refine gg_isub (pc := 33) E dX5_goes_33 ?_
        refine gg_iret (pc := 34) E Fn rfl (rfl) dX5_goes_34 (by first | exact Nat.le_of_ble_eq_true rfl | (dsimp only; omega)) (by first | exact Nat.le_of_ble_eq_true rfl | (dsimp only; omega)) ?_
        obtain rfl : i = tk := by omega
        exact ⟨z, S, U, rfl, rfl⟩
      · refine gg_aload_n (pc := 15) E dX5_goes_15 rfl rfl ?_
        refine gg_callV (F := []) (As := []) (rest := []) (pc := 16) E ck_X5 (ct_X5_ticks (row := (goF row nr nw i)) (tm := tm + i) hl q2 q3 (by omega)) (cwV 0 E.2.2.2.2.1 (lw_V q3139 q3141 qs103 q179 q3142) rfl rfl rfl (by decide +kernel) ⟨by rw [hRf]; exact Nat.le_of_ble_eq_true rfl, by rw [hRl]; exact Nat.le_of_ble_eq_true rfl⟩) dX5_goes_16 [0, 1, 2, 3] (by decide) rfl rfl (fun _ h => by cases h) (gg_i 0 rfl) rfl rfl (Nat.le_of_ble_eq_true rfl) (by first | (rw [hRc]; exact Nat.le_of_ble_eq_true rfl) | (rw [hRc]; dsimp only; omega)) (by first | (rw [hRs]; exact Nat.le_of_ble_eq_true rfl) | (rw [hRs]; dsimp only; omega)) ?_ (fun X q C1 h => h.elim)
        rintro _ _ ⟨z1, S1, U1, rfl, rfl⟩
        dsimp only [List.cons_append, List.nil_append, Option.toList]
        refine gg_up3 ?_
        refine gg_up3 ?_
        refine gg_up3 ?_
        refine gg_up3 ?_
        refine gg_iincN (k := 1) (lv' := [_, _, _, _]) (pc := 19) E i dX5_goes_19 rfl rfl rfl (Nat.le_of_ble_eq_true rfl) rfl rfl ?_
        refine gg_goto (tgt := 10) (pc := 22) E dX5_goes_22 (by decide) ?_
        refine gg_cv ?_ (gg_leS (gg_leS (gg_leS (gg_leS gg_le0)))) rfl (by first | exact Nat.le_refl _ | (dsimp only; omega)) (by first | exact Nat.le_refl _ | (dsimp only; omega)) (ih10 (i + 1) z1 S1 U1 (by omega) (by omega))
        · rw [upd_2]; rfl
  refine gg_cv ?_ (gg_leS (gg_leS (gg_leS (gg_leS gg_le0)))) rfl (by first | exact Nat.le_refl _ | (dsimp only; omega)) (by first | exact Nat.le_refl _ | (dsimp only; omega)) (L10 _ 0 (x 11) sums su (Nat.lt_succ_self _) (Nat.zero_le _))
  · rw [← mu_11 x]; rfl
set_option maxHeartbeats 4000000 in
theorem ct_X5_givesCoins {l : Launch} (hl : l.stackTraces = false) {g : gg_G}  {h : Nat} {ad : Nat → Nat} {x : Nat → Int32} {row : Nat → Int32} {k : Nat} {d : Int32} (hk : k < 10) : gg_C l g yX5_givesCoins (ws_ yX5_givesCoins cX5_givesCoins 3 (some .int)) { frames := 1, cells := 0, slots := 0, locals := 22 } [.ref h, .int (nI k), .int d] [(h, .inl (4, mo_f ad x))] [[((ad 0), gg_ai g 1030 row)]] (fun vv CC => vv = some (.int (row (25 + 13 * k + 10) + d)) ∧ CC = [[((ad 0), gg_ai g 1030 (gcF row k d))]]) gg_no := by
  refine gg_of (lv := [_, _, _]) (by decide) hl (Nat.le_of_ble_eq_true rfl) rfl ?_
  intro p e R s m args below meth c A Q hRf hRl hRc hRs E Fn hnm hex
  refine gg_aload_n (pc := 0) E dX5_givesCoins_0 rfl rfl ?_
  refine gg_get (pc := 1) E ck_X5 0 q2859 rfl (by decide) dX5_givesCoins_1 (gg_r 0 rfl) rfl ?_
  refine gg_iload_n (pc := 4) E dX5_givesCoins_4 rfl rfl ?_
  refine gg_callS (F := [_]) (As := [.int (nI k)]) (rest := [_]) (pc := 5) E (ct_X5_r hl ) (va_cwS 1 E.2.2.2.2.1 (lw_S q2849 q2850 q179 q2851) rfl rfl rfl (by decide +kernel) ⟨by rw [hRf]; exact Nat.le_of_ble_eq_true rfl, by rw [hRl]; exact Nat.le_of_ble_eq_true rfl⟩) dX5_givesCoins_5 [] (by decide) rfl rfl (fun _ h => by cases h) rfl rfl (Nat.le_of_ble_eq_true rfl) (by first | (rw [hRc]; exact Nat.le_of_ble_eq_true rfl) | (rw [hRc]; dsimp only; omega)) (by first | (rw [hRs]; exact Nat.le_of_ble_eq_true rfl) | (rw [hRs]; dsimp only; omega)) ?_ (fun X q C1 h => h.elim)
  rintro _ _ ⟨rfl, rfl⟩
  dsimp only [List.cons_append, List.nil_append, Option.toList]
  refine gg_bipush (v := 10) (pc := 8) E dX5_givesCoins_8 (by decide) ?_
  refine gg_iaddN (pc := 10) E (25 + 13 * k) 10 rfl rfl dX5_givesCoins_10 ?_
  refine gg_dup2_11 (pc := 11) E dX5_givesCoins_11 rfl rfl ?_
  refine gg_ialdN (pc := 12) E ((25 + 13 * k) + 10) rfl (by omega) (by omega) dX5_givesCoins_12 (gg_i 0 rfl) ?_
  refine gg_iload_n (pc := 13) E dX5_givesCoins_13 rfl rfl ?_
  refine gg_iadd (pc := 14) E dX5_givesCoins_14 ?_
  refine gg_iastN (M' := [_]) (pc := 15) E ((25 + 13 * k) + 10) rfl (by omega) (by omega) dX5_givesCoins_15 0 rfl rfl ?_
  refine gg_aload_n (pc := 16) E dX5_givesCoins_16 rfl rfl ?_
  refine gg_bipush (v := 10) (pc := 17) E dX5_givesCoins_17 (by decide) ?_
  refine gg_iload_n (pc := 19) E dX5_givesCoins_19 rfl rfl ?_
  refine gg_callV (F := []) (As := [.int (nI 10), _]) (rest := []) (pc := 20) E ck_X5 (ct_X5_counts hl (by first | assumption | omega)) (cwV 2 E.2.2.2.2.1 (lw_V q3131 q3133 qs101 q179 q3134) rfl rfl rfl (by decide +kernel) ⟨by rw [hRf]; exact Nat.le_of_ble_eq_true rfl, by rw [hRl]; exact Nat.le_of_ble_eq_true rfl⟩) dX5_givesCoins_20 [0] (by decide) rfl rfl (List.forall_mem_cons.mpr ⟨(gg_r 0 rfl), (fun _ h => by cases h)⟩) (gg_r 0 rfl) rfl rfl (Nat.le_of_ble_eq_true rfl) (by first | (rw [hRc]; exact Nat.le_of_ble_eq_true rfl) | (rw [hRc]; dsimp only; omega)) (by first | (rw [hRs]; exact Nat.le_of_ble_eq_true rfl) | (rw [hRs]; dsimp only; omega)) ?_ (fun X q C1 h => h.elim)
  rintro _ _ ⟨rfl, rfl⟩
  dsimp only [List.cons_append, List.nil_append, Option.toList]
  refine gg_aload_n (pc := 23) E dX5_givesCoins_23 rfl rfl ?_
  refine gg_get (pc := 24) E ck_X5 0 q2859 rfl (by decide) dX5_givesCoins_24 (gg_r 0 rfl) rfl ?_
  refine gg_iload_n (pc := 27) E dX5_givesCoins_27 rfl rfl ?_
  refine gg_callS (F := [_]) (As := [.int (nI k)]) (rest := [_]) (pc := 28) E (ct_X5_r hl ) (va_cwS 1 E.2.2.2.2.1 (lw_S q2849 q2850 q179 q2851) rfl rfl rfl (by decide +kernel) ⟨by rw [hRf]; exact Nat.le_of_ble_eq_true rfl, by rw [hRl]; exact Nat.le_of_ble_eq_true rfl⟩) dX5_givesCoins_28 [] (by decide) rfl rfl (fun _ h => by cases h) rfl rfl (Nat.le_of_ble_eq_true rfl) (by first | (rw [hRc]; exact Nat.le_of_ble_eq_true rfl) | (rw [hRc]; dsimp only; omega)) (by first | (rw [hRs]; exact Nat.le_of_ble_eq_true rfl) | (rw [hRs]; dsimp only; omega)) ?_ (fun X q C1 h => h.elim)
  rintro _ _ ⟨rfl, rfl⟩
  dsimp only [List.cons_append, List.nil_append, Option.toList]
  refine gg_bipush (v := 10) (pc := 31) E dX5_givesCoins_31 (by decide) ?_
  refine gg_iaddN (pc := 33) E (25 + 13 * k) 10 rfl rfl dX5_givesCoins_33 ?_
  refine gg_ialdN (pc := 34) E ((25 + 13 * k) + 10) rfl (by omega) (by omega) dX5_givesCoins_34 (gg_i 0 rfl) ?_
  refine gg_topI (y := row (25 + 13 * k + 10) + d) (by repeat (first | rw [pk_us] | rw [pk_un (by omega)] | rw [ub_out _ _ _ _ (by omega)] | rw [cn_out (by omega)] | rw [he_out (by omega)])) ?_
  refine gg_iret (pc := 35) E Fn rfl (rfl) dX5_givesCoins_35 (by first | exact Nat.le_of_ble_eq_true rfl | (dsimp only; omega)) (by first | exact Nat.le_of_ble_eq_true rfl | (dsimp only; omega)) ?_
  exact ⟨rfl, rfl⟩
set_option maxHeartbeats 4000000 in
theorem ct_X5_cuts {l : Launch} (hl : l.stackTraces = false) {g : gg_G}  {h : Nat} {ad : Nat → Nat} {x : Nat → Int32} {row : Nat → Int32} {i nw : Nat} (hnw : row 1 = nI nw) (hw20 : nw ≤ 20) (hi : i < nw) : gg_C l g yX5_cuts (ws_ yX5_cuts cX5_cuts 3 (some .int)) { frames := 1, cells := 0, slots := 0, locals := 20 } [.ref h, .int (nI i)] [(h, .inl (4, mo_f ad x))] [[((ad 0), gg_ai g 1030 row)]] (fun vv CC => vv = some (.int (nI (nw - 1))) ∧ CC = [[((ad 0), gg_ai g 1030 (cuF row nw i))]]) gg_no := by
  refine gg_of (lv := [_, _, _]) (by decide) hl (Nat.le_of_ble_eq_true rfl) rfl ?_
  intro p e R s m args below meth c A Q hRf hRl hRc hRs E Fn hnm hex
  refine gg_iload_n (pc := 0) E dX5_cuts_0 rfl rfl ?_
  refine gg_callS (F := [_]) (As := [.int (nI i)]) (rest := []) (pc := 1) E (ct_X5_w hl ) (va_cwS 1 E.2.2.2.2.1 (lw_S q2856 q2857 q179 q2858) rfl rfl rfl (by decide +kernel) ⟨by rw [hRf]; exact Nat.le_of_ble_eq_true rfl, by rw [hRl]; exact Nat.le_of_ble_eq_true rfl⟩) dX5_cuts_1 [] (by decide) rfl rfl (fun _ h => by cases h) rfl rfl (Nat.le_of_ble_eq_true rfl) (by first | (rw [hRc]; exact Nat.le_of_ble_eq_true rfl) | (rw [hRc]; dsimp only; omega)) (by first | (rw [hRs]; exact Nat.le_of_ble_eq_true rfl) | (rw [hRs]; dsimp only; omega)) ?_ (fun X q C1 h => h.elim)
  rintro _ _ ⟨rfl, rfl⟩
  dsimp only [List.cons_append, List.nil_append, Option.toList]
  refine gg_istore_n (lv' := [_, _, _]) (pc := 4) E dX5_cuts_4 rfl (Nat.le_of_ble_eq_true rfl) rfl rfl ?_
  have L5 : ∀ (n : Nat) (q : Nat), 3 * (nw - 1 - i) - q < n → (q ≤ 3 * (nw - 1 - i)) → gg_W p l e R s m args below meth c g A 3 Q 0 0 [[((ad 0), gg_ai g 1030 (ub row (160 + 3 * i) q (fun k => row (160 + 3 * i + k + 3))))]] [some (.ref h), some (.int (nI i)), some (.int (nI (160 + 3 * i + q)))] [] 5 := by
    intro n5
    induction n5 with
    | zero => intro q hmz; exact absurd hmz (Nat.not_lt_zero _)
    | succ n5 ih5 =>
      intro q hm5 hq
      refine gg_iload_n (pc := 5) E dX5_cuts_5 rfl rfl ?_
      refine gg_aload_n (pc := 6) E dX5_cuts_6 rfl rfl ?_
      refine gg_get (pc := 7) E ck_X5 0 q2859 rfl (by decide) dX5_cuts_7 (gg_r 0 rfl) rfl ?_
      refine gg_iconst (v := 1) (pc := 10) E dX5_cuts_10 (by decide) ?_
      refine gg_ialdN (pc := 11) E 1 rfl (by omega) (by omega) dX5_cuts_11 (gg_i 0 rfl) ?_
      refine gg_topI (y := row 1) (by repeat (first | rw [pk_us] | rw [pk_un (by omega)] | rw [ub_out _ _ _ _ (by omega)] | rw [cn_out (by omega)] | rw [he_out (by omega)])) ?_
      rw [hnw]
      refine gg_iconst (v := 1) (pc := 12) E dX5_cuts_12 (by decide) ?_
      refine gg_isubN (pc := 13) E nw 1 rfl rfl (by omega) dX5_cuts_13 ?_
      refine gg_callS (F := [_]) (As := [.int (nI (nw - 1))]) (rest := [_]) (pc := 14) E (ct_X5_w hl ) (va_cwS 1 E.2.2.2.2.1 (lw_S q2856 q2857 q179 q2858) rfl rfl rfl (by decide +kernel) ⟨by rw [hRf]; exact Nat.le_of_ble_eq_true rfl, by rw [hRl]; exact Nat.le_of_ble_eq_true rfl⟩) dX5_cuts_14 [] (by decide) rfl rfl (fun _ h => by cases h) rfl rfl (Nat.le_of_ble_eq_true rfl) (by first | (rw [hRc]; exact Nat.le_of_ble_eq_true rfl) | (rw [hRc]; dsimp only; omega)) (by first | (rw [hRs]; exact Nat.le_of_ble_eq_true rfl) | (rw [hRs]; dsimp only; omega)) ?_ (fun X q C1 h => h.elim)
      rintro _ _ ⟨rfl, rfl⟩
      dsimp only [List.cons_append, List.nil_append, Option.toList]
      refine gg_icmpN_ge (tgt := 40) (pc := 17) E (160 + 3 * i + q) (160 + 3 * (nw - 1)) rfl rfl (by omega) (by omega) dX5_cuts_17 (by decide) (fun c17 => ?_) (fun c17 => ?_)
      · refine gg_aload_n (pc := 40) E dX5_cuts_40 rfl rfl ?_
        refine gg_get (pc := 41) E ck_X5 0 q2859 rfl (by decide) dX5_cuts_41 (gg_r 0 rfl) rfl ?_
        refine gg_iconst (v := 1) (pc := 44) E dX5_cuts_44 (by decide) ?_
        refine gg_dup2_11 (pc := 45) E dX5_cuts_45 rfl rfl ?_
        refine gg_ialdN (pc := 46) E 1 rfl (by omega) (by omega) dX5_cuts_46 (gg_i 0 rfl) ?_
        refine gg_topI (y := row 1) (by repeat (first | rw [pk_us] | rw [pk_un (by omega)] | rw [ub_out _ _ _ _ (by omega)] | rw [cn_out (by omega)] | rw [he_out (by omega)])) ?_
        rw [hnw]
        refine gg_iconst (v := 1) (pc := 47) E dX5_cuts_47 (by decide) ?_
        refine gg_isubN (pc := 48) E nw 1 rfl rfl (by omega) dX5_cuts_48 ?_
        refine gg_iastN (M' := [_]) (pc := 49) E 1 rfl (by omega) (by omega) dX5_cuts_49 0 rfl rfl ?_
        refine gg_aload_n (pc := 50) E dX5_cuts_50 rfl rfl ?_
        refine gg_get (pc := 51) E ck_X5 0 q2859 rfl (by decide) dX5_cuts_51 (gg_r 0 rfl) rfl ?_
        refine gg_iconst (v := 1) (pc := 54) E dX5_cuts_54 (by decide) ?_
        refine gg_ialdN (pc := 55) E 1 rfl (by omega) (by omega) dX5_cuts_55 (gg_i 0 rfl) ?_
        refine gg_topI (y := nI (nw - 1)) (by repeat (first | rw [pk_us] | rw [pk_un (by omega)] | rw [ub_out _ _ _ _ (by omega)] | rw [cn_out (by omega)] | rw [he_out (by omega)])) ?_
        refine gg_iret (pc := 56) E Fn rfl (rfl) dX5_cuts_56 (by first | exact Nat.le_of_ble_eq_true rfl | (dsimp only; omega)) (by first | exact Nat.le_of_ble_eq_true rfl | (dsimp only; omega)) ?_
        obtain rfl : q = 3 * (nw - 1 - i) := by omega
        exact ⟨rfl, rfl⟩
      · refine gg_aload_n (pc := 20) E dX5_cuts_20 rfl rfl ?_
        refine gg_get (pc := 21) E ck_X5 0 q2859 rfl (by decide) dX5_cuts_21 (gg_r 0 rfl) rfl ?_
        refine gg_iload_n (pc := 24) E dX5_cuts_24 rfl rfl ?_
        refine gg_aload_n (pc := 25) E dX5_cuts_25 rfl rfl ?_
        refine gg_get (pc := 26) E ck_X5 0 q2859 rfl (by decide) dX5_cuts_26 (gg_r 0 rfl) rfl ?_
        refine gg_iload_n (pc := 29) E dX5_cuts_29 rfl rfl ?_
        refine gg_iconst (v := 3) (pc := 30) E dX5_cuts_30 (by decide) ?_
        refine gg_iaddN (pc := 31) E (160 + 3 * i + q) 3 rfl rfl dX5_cuts_31 ?_
        refine gg_ialdN (pc := 32) E ((160 + 3 * i + q) + 3) rfl (by omega) (by omega) dX5_cuts_32 (gg_i 0 rfl) ?_
        refine gg_topI (y := row (160 + 3 * i + q + 3)) (by repeat (first | rw [pk_us] | rw [pk_un (by omega)] | rw [ub_out _ _ _ _ (by omega)] | rw [cn_out (by omega)] | rw [he_out (by omega)])) ?_
        refine gg_iastN (M' := [_]) (pc := 33) E (160 + 3 * i + q) rfl (by omega) (by omega) dX5_cuts_33 0 rfl rfl ?_
        refine gg_iincN (k := 1) (lv' := [_, _, _]) (pc := 34) E (160 + 3 * i + q) dX5_cuts_34 rfl rfl rfl (Nat.le_of_ble_eq_true rfl) rfl rfl ?_
        refine gg_goto (tgt := 5) (pc := 37) E dX5_cuts_37 (by decide) ?_
        refine gg_cv ?_ (gg_leS (gg_leS (gg_leS gg_le0))) rfl (by first | exact Nat.le_refl _ | (dsimp only; omega)) (by first | exact Nat.le_refl _ | (dsimp only; omega)) (ih5 (q + 1) (by omega) (by omega))
        · rw [ub_1 _ _ _ _ _ rfl]
  refine gg_cv ?_ (gg_leS (gg_leS (gg_leS gg_le0))) rfl (by first | exact Nat.le_refl _ | (dsimp only; omega)) (by first | exact Nat.le_refl _ | (dsimp only; omega)) (L5 _ 0 (Nat.lt_succ_self _) (Nat.zero_le _))
  · first | (rw [ub_0]; done) | (rw [ub_0]; rfl)
set_option maxHeartbeats 4000000 in
theorem ct_X5_sets {l : Launch} (hl : l.stackTraces = false) {g : gg_G}  {h : Nat} {ad : Nat → Nat} {x : Nat → Int32} {row : Nat → Int32} {k : Nat} {d : Int32} (hk : k < 1030) : gg_C l g yX5_sets (ws_ yX5_sets cX5_sets 4 (some .int)) { frames := 0, cells := 0, slots := 0, locals := 0 } [.ref h, .int (nI k), .int d] [(h, .inl (4, mo_f ad x))] [[((ad 0), gg_ai g 1030 row)]] (fun vv CC => vv = some (.int (row k)) ∧ CC = [[((ad 0), gg_ai g 1030 (upd row k d))]]) gg_no := by
  refine gg_of (lv := [_, _, _, _]) (by decide) hl (Nat.le_of_ble_eq_true rfl) rfl ?_
  intro p e R s m args below meth c A Q hRf hRl hRc hRs E Fn hnm hex
  refine gg_aload_n (pc := 0) E dX5_sets_0 rfl rfl ?_
  refine gg_get (pc := 1) E ck_X5 0 q2859 rfl (by decide) dX5_sets_1 (gg_r 0 rfl) rfl ?_
  refine gg_iload_n (pc := 4) E dX5_sets_4 rfl rfl ?_
  refine gg_ialdN (pc := 5) E k rfl (by omega) (by omega) dX5_sets_5 (gg_i 0 rfl) ?_
  refine gg_istore_n (lv' := [_, _, _, _]) (pc := 6) E dX5_sets_6 rfl (Nat.le_of_ble_eq_true rfl) rfl rfl ?_
  refine gg_aload_n (pc := 7) E dX5_sets_7 rfl rfl ?_
  refine gg_get (pc := 8) E ck_X5 0 q2859 rfl (by decide) dX5_sets_8 (gg_r 0 rfl) rfl ?_
  refine gg_iload_n (pc := 11) E dX5_sets_11 rfl rfl ?_
  refine gg_iload_n (pc := 12) E dX5_sets_12 rfl rfl ?_
  refine gg_iastN (M' := [_]) (pc := 13) E k rfl (by omega) (by omega) dX5_sets_13 0 rfl rfl ?_
  refine gg_iload_n (pc := 14) E dX5_sets_14 rfl rfl ?_
  refine gg_iret (pc := 15) E Fn rfl (rfl) dX5_sets_15 (by first | exact Nat.le_of_ble_eq_true rfl | (dsimp only; omega)) (by first | exact Nat.le_of_ble_eq_true rfl | (dsimp only; omega)) ?_
  exact ⟨rfl, rfl⟩
set_option maxHeartbeats 4000000 in
theorem ct_X5_lowOf {l : Launch} (hl : l.stackTraces = false) {g : gg_G}  {k : Int32}  : gg_C l g yX5_lowOf (ws_ yX5_lowOf cX5_lowOf 1 (some .int)) { frames := 0, cells := 0, slots := 0, locals := 0 } [.int k] [] [] (fun vv CC => vv = some (.int (low k)) ∧ CC = []) gg_no := by
  refine gg_of (lv := [_]) (by decide) hl (Nat.le_of_ble_eq_true rfl) rfl ?_
  intro p e R s m args below meth c A Q hRf hRl hRc hRs E Fn hnm hex
  refine gg_iload_n (pc := 0) E dX5_lowOf_0 rfl rfl ?_
  refine gg_iconst (v := 5) (pc := 1) E dX5_lowOf_1 (by decide) ?_
  refine gg_icmpB_ne (pc := 2) E dX5_lowOf_2 dX5_lowOf_5 dX5_lowOf_6 dX5_lowOf_9 ?_
  refine gg_iret (pc := 10) E Fn rfl (rfl) dX5_lowOf_10 (by first | exact Nat.le_of_ble_eq_true rfl | (dsimp only; omega)) (by first | exact Nat.le_of_ble_eq_true rfl | (dsimp only; omega)) ?_
  exact ⟨rfl, rfl⟩
set_option maxHeartbeats 4000000 in
theorem ct_X5_highOf {l : Launch} (hl : l.stackTraces = false) {g : gg_G}  {k : Int32}  : gg_C l g yX5_highOf (ws_ yX5_highOf cX5_highOf 1 (some .int)) { frames := 0, cells := 0, slots := 0, locals := 0 } [.int k] [] [] (fun vv CC => vv = some (.int (hig k)) ∧ CC = []) gg_no := by
  refine gg_of (lv := [_]) (by decide) hl (Nat.le_of_ble_eq_true rfl) rfl ?_
  intro p e R s m args below meth c A Q hRf hRl hRc hRs E Fn hnm hex
  refine gg_iload_n (pc := 0) E dX5_highOf_0 rfl rfl ?_
  refine gg_iconst (v := 5) (pc := 1) E dX5_highOf_1 (by decide) ?_
  refine gg_icmp_ne (tgt := 10) (pc := 2) E dX5_highOf_2 (by decide) (fun c2 => ?_) (fun c2 => ?_)
  · refine gg_iload_n (pc := 10) E dX5_highOf_10 rfl rfl ?_
    refine gg_iconst (v := 4) (pc := 11) E dX5_highOf_11 (by decide) ?_
    refine gg_icmp_ne (tgt := 20) (pc := 12) E dX5_highOf_12 (by decide) (fun c12 => ?_) (fun c12 => ?_)
    · refine gg_iconst (v := 3) (pc := 20) E dX5_highOf_20 (by decide) ?_
      refine gg_iret (pc := 21) E Fn rfl (rfl) dX5_highOf_21 (by first | exact Nat.le_of_ble_eq_true rfl | (dsimp only; omega)) (by first | exact Nat.le_of_ble_eq_true rfl | (dsimp only; omega)) ?_
      exact ⟨by unfold hig; rw [if_neg c2, if_neg c12], rfl⟩
    · refine gg_bipush (v := 9) (pc := 15) E dX5_highOf_15 (by decide) ?_
      refine gg_goto (tgt := 21) (pc := 17) E dX5_highOf_17 (by decide) ?_
      refine gg_iret (pc := 21) E Fn rfl (rfl) dX5_highOf_21 (by first | exact Nat.le_of_ble_eq_true rfl | (dsimp only; omega)) (by first | exact Nat.le_of_ble_eq_true rfl | (dsimp only; omega)) ?_
      exact ⟨by unfold hig; rw [if_neg c2, if_pos c12], rfl⟩
  · refine gg_bipush (v := 60) (pc := 5) E dX5_highOf_5 (by decide) ?_
    refine gg_goto (tgt := 21) (pc := 7) E dX5_highOf_7 (by decide) ?_
    refine gg_iret (pc := 21) E Fn rfl (rfl) dX5_highOf_21 (by first | exact Nat.le_of_ble_eq_true rfl | (dsimp only; omega)) (by first | exact Nat.le_of_ble_eq_true rfl | (dsimp only; omega)) ?_
    exact ⟨by unfold hig; rw [if_pos c2], rfl⟩
set_option maxHeartbeats 4000000 in
theorem ct_X5_undo {l : Launch} (hl : l.stackTraces = false) {g : gg_G}  {h : Nat} {ad : Nat → Nat} {x : Nat → Int32} {row : Nat → Int32} {past : Nat → Int32} {pm : Nat} (hpm : x 4 = nI pm) (hp8 : pm ≤ 8) : gg_C l g yX5_undo (ws_ yX5_undo cX5_undo 2 (some .int)) { frames := 1, cells := 0, slots := 0, locals := 23 } [.ref h] [((ad 3), gg_ai g 8240 past)] [[(h, .inl (4, mo_f ad x))], [((ad 0), gg_ai g 1030 row)]] (fun vv CC => vv = some (.int (nI (pm - 1))) ∧ CC = [[(h, .inl (4, mo_f ad (unX x pm)))], [((ad 0), gg_ai g 1030 (unR row past pm))]]) gg_no := by
  refine gg_of (lv := [_, _]) (by decide) hl (Nat.le_of_ble_eq_true rfl) rfl ?_
  intro p e R s m args below meth c A Q hRf hRl hRc hRs E Fn hnm hex
  refine gg_aload_n (pc := 0) E dX5_undo_0 rfl rfl ?_
  refine gg_aload_n (pc := 1) E dX5_undo_1 rfl rfl ?_
  refine gg_get (pc := 2) E ck_X5 4 q2863 rfl (by decide) dX5_undo_2 (gg_i 0 rfl) rfl ?_
  refine gg_topI (y := nI pm) hpm ?_
  refine gg_ifB_le (pc := 5) E dX5_undo_5 dX5_undo_8 dX5_undo_9 dX5_undo_12 ?_
  refine gg_topI (y := if ¬ pm = 0 then 1 else 0) (gg_ifc (by rw [show (0 : Int32) = nI 0 from rfl, nI_leI (by omega) (by omega)]; omega)) ?_
  refine gg_iconst (v := 1) (pc := 13) E dX5_undo_13 (by decide) ?_
  refine gg_iconst (v := 1) (pc := 14) E dX5_undo_14 (by decide) ?_
  refine gg_callV (F := [_]) (As := [_, _, _]) (rest := []) (pc := 15) E ck_X5 (ct_X5_may hl ) (cwV 3 E.2.2.2.2.1 (lw_V q3241 q3243 qs127 q179 q3244) rfl rfl rfl (by decide +kernel) ⟨by rw [hRf]; exact Nat.le_of_ble_eq_true rfl, by rw [hRl]; exact Nat.le_of_ble_eq_true rfl⟩) dX5_undo_15 [0] (by decide) rfl rfl (fun _ h => by cases h) (gg_i 0 rfl) rfl rfl (Nat.le_of_ble_eq_true rfl) (by first | (rw [hRc]; exact Nat.le_of_ble_eq_true rfl) | (rw [hRc]; dsimp only; omega)) (by first | (rw [hRs]; exact Nat.le_of_ble_eq_true rfl) | (rw [hRs]; dsimp only; omega)) ?_ (fun X q C1 h => h.elim)
  rintro _ _ ⟨rfl, rfl⟩
  dsimp only [List.cons_append, List.nil_append, Option.toList]
  refine gg_ifP_ne (tgt := 23) (pc := 18) E dX5_undo_18 (by decide) (fun c18 => ?_) (fun c18 => ?_)
  · have hp0 := th_1.mp c18
    rw [c18]
    refine gg_aload_n (pc := 23) E dX5_undo_23 rfl rfl ?_
    refine gg_dup (pc := 24) E dX5_undo_24 rfl ?_
    refine gg_get (pc := 25) E ck_X5 4 q2863 rfl (by decide) dX5_undo_25 (gg_i 0 rfl) rfl ?_
    refine gg_topI (y := nI pm) ((pk_un (by omega)).trans hpm) ?_
    refine gg_iconst (v := 1) (pc := 28) E dX5_undo_28 (by decide) ?_
    refine gg_isubN (pc := 29) E pm 1 rfl rfl (by omega) dX5_undo_29 ?_
    refine gg_putM (M' := [_, _]) (pc := 30) E ck_X5 4 q2863 rfl (by decide) dX5_undo_30 0 rfl rfl (rfl) rfl (Nat.le_of_ble_eq_true rfl) rfl rfl ?_
    refine gg_iconst (v := 0) (pc := 33) E dX5_undo_33 (by decide) ?_
    refine gg_istore_n (lv' := [_, _]) (pc := 34) E dX5_undo_34 rfl (Nat.le_of_ble_eq_true rfl) rfl rfl ?_
    have L35 : ∀ (n : Nat) (i : Nat), 1030 - i < n → (i ≤ 1030) → gg_W p l e R s m args below meth c g A 2 Q 0 0 [[(h, .inl (4, mo_f ad (upd (upd x 6 0) 4 (nI (pm - 1)))))], [((ad 0), gg_ai g 1030 (ub row 0 i (fun k => past (1030 * (pm - 1) + k))))]] [some (.ref h), some (.int (nI i))] [] 35 := by
      intro n35
      induction n35 with
      | zero => intro i hmz; exact absurd hmz (Nat.not_lt_zero _)
      | succ n35 ih35 =>
        intro i hm35 hi
        refine gg_iload_n (pc := 35) E dX5_undo_35 rfl rfl ?_
        refine gg_sipush (v := 1030) (pc := 36) E dX5_undo_36 (by decide) ?_
        refine gg_icmpN_ge (tgt := 69) (pc := 39) E i 1030 rfl rfl (by omega) (by omega) dX5_undo_39 (by decide) (fun c39 => ?_) (fun c39 => ?_)
        · refine gg_aload_n (pc := 69) E dX5_undo_69 rfl rfl ?_
          refine gg_get (pc := 70) E ck_X5 4 q2863 rfl (by decide) dX5_undo_70 (gg_i 0 rfl) rfl ?_
          refine gg_topI (y := nI (pm - 1)) pk_us ?_
          refine gg_iret (pc := 73) E Fn rfl (rfl) dX5_undo_73 (by first | exact Nat.le_of_ble_eq_true rfl | (dsimp only; omega)) (by first | exact Nat.le_of_ble_eq_true rfl | (dsimp only; omega)) ?_
          obtain rfl : i = 1030 := by omega
          refine ⟨rfl, ?_⟩
          unfold unX unR
          rw [if_neg hp0, if_neg hp0]
          exact congrArg (fun z => [[(h, .inl (4, mo_f ad (upd (upd x 6 0) 4 (nI (pm - 1)))))], [(ad 0, z)]]) (gg_ai_congr (n := 1030) (f := ub row 0 1030 (fun k => past (1030 * (pm - 1) + k))) (f' := fun k => past (1030 * (pm - 1) + k)) fun k hk => by rw [ub_in _ _ _ _ (by omega) (by omega)]; rfl)
        · refine gg_aload_n (pc := 42) E dX5_undo_42 rfl rfl ?_
          refine gg_get (pc := 43) E ck_X5 0 q2859 rfl (by decide) dX5_undo_43 (gg_i 0 rfl) rfl ?_
          refine gg_iload_n (pc := 46) E dX5_undo_46 rfl rfl ?_
          refine gg_aload_n (pc := 47) E dX5_undo_47 rfl rfl ?_
          refine gg_get (pc := 48) E ck_X5 3 q2862 rfl (by decide) dX5_undo_48 (gg_i 0 rfl) rfl ?_
          refine gg_sipush (v := 1030) (pc := 51) E dX5_undo_51 (by decide) ?_
          refine gg_aload_n (pc := 54) E dX5_undo_54 rfl rfl ?_
          refine gg_get (pc := 55) E ck_X5 4 q2863 rfl (by decide) dX5_undo_55 (gg_i 0 rfl) rfl ?_
          refine gg_topI (y := nI (pm - 1)) pk_us ?_
          refine gg_imulN (pc := 58) E 1030 (pm - 1) rfl rfl dX5_undo_58 ?_
          refine gg_iload_n (pc := 59) E dX5_undo_59 rfl rfl ?_
          refine gg_iaddN (pc := 60) E (1030 * (pm - 1)) i rfl rfl dX5_undo_60 ?_
          refine gg_ialdN (pc := 61) E (1030 * (pm - 1) + i) rfl (by omega) (by omega) dX5_undo_61 (gg_r 0 rfl) ?_
          refine gg_iastN (M' := [_, _]) (pc := 62) E i rfl (by omega) (by omega) dX5_undo_62 1 rfl rfl ?_
          refine gg_iincN (k := 1) (lv' := [_, _]) (pc := 63) E i dX5_undo_63 rfl rfl rfl (Nat.le_of_ble_eq_true rfl) rfl rfl ?_
          refine gg_goto (tgt := 35) (pc := 66) E dX5_undo_66 (by decide) ?_
          refine gg_cv ?_ (gg_leS (gg_leS gg_le0)) rfl (by first | exact Nat.le_refl _ | (dsimp only; omega)) (by first | exact Nat.le_refl _ | (dsimp only; omega)) (ih35 (i + 1) (by omega) (by omega))
          · rw [ub0_1 _ _ _ _ rfl]
    refine gg_cv ?_ (gg_leS (gg_leS gg_le0)) rfl (by first | exact Nat.le_refl _ | (dsimp only; omega)) (by first | exact Nat.le_refl _ | (dsimp only; omega)) (L35 _ 0 (Nat.lt_succ_self _) (Nat.zero_le _))
    · first | (rw [ub_0]; done) | (rw [ub_0]; rfl)
  · refine gg_iconst (v := 0) (pc := 21) E dX5_undo_21 (by decide) ?_
    refine gg_iret (pc := 22) E Fn rfl (rfl) dX5_undo_22 (by first | exact Nat.le_of_ble_eq_true rfl | (dsimp only; omega)) (by first | exact Nat.le_of_ble_eq_true rfl | (dsimp only; omega)) ?_
    have hp0 : pm = 0 := Classical.byContradiction fun q => c18 (th_1.mpr q)
    subst hp0
    exact ⟨rfl, rfl⟩
set_option maxHeartbeats 4000000 in
theorem ct_X5_saveState {l : Launch} (hl : l.stackTraces = false) {g : gg_G}  {h : Nat} {ad : Nat → Nat} {x : Nat → Int32} {row : Nat → Int32} {kp : Nat → Int32}  : gg_C l g yX5_saveState (ws_ yX5_saveState cX5_saveState 1 (some .int)) { frames := 1, cells := 0, slots := 0, locals := 22 } [.ref h] [((ad 0), gg_ai g 1030 row)] [[(h, .inl (4, mo_f ad x))], [((ad 2), gg_ai g 1030 kp)]] (fun vv CC => vv = some (.int (row 2)) ∧ CC = [[(h, .inl (4, mo_f ad (upd (upd x 6 0) 5 1)))], [((ad 2), gg_ai g 1030 row)]]) gg_no := by
  refine gg_of (lv := [_]) (by decide) hl (Nat.le_of_ble_eq_true rfl) rfl ?_
  intro p e R s m args below meth c A Q hRf hRl hRc hRs E Fn hnm hex
  refine gg_aload_n (pc := 0) E dX5_saveState_0 rfl rfl ?_
  refine gg_iconst (v := 0) (pc := 1) E dX5_saveState_1 (by decide) ?_
  refine gg_putM (M' := [_, _]) (pc := 2) E ck_X5 6 q2865 rfl (by decide) dX5_saveState_2 0 rfl rfl (rfl) rfl (Nat.le_of_ble_eq_true rfl) rfl rfl ?_
  refine gg_aload_n (pc := 5) E dX5_saveState_5 rfl rfl ?_
  refine gg_aload_n (pc := 6) E dX5_saveState_6 rfl rfl ?_
  refine gg_get (pc := 7) E ck_X5 2 q2861 rfl (by decide) dX5_saveState_7 (gg_i 0 rfl) rfl ?_
  refine gg_callV (F := [_]) (As := [_]) (rest := []) (pc := 10) E ck_X5 (ct_X5_copies hl ) (cwV 1 E.2.2.2.2.1 (lw_V q2976 q2978 qs70 q179 q2979) rfl rfl rfl (by decide +kernel) ⟨by rw [hRf]; exact Nat.le_of_ble_eq_true rfl, by rw [hRl]; exact Nat.le_of_ble_eq_true rfl⟩) dX5_saveState_10 [1] (by decide) rfl rfl (List.forall_mem_cons.mpr ⟨(gg_i 0 rfl), (List.forall_mem_cons.mpr ⟨(gg_r 0 rfl), (fun _ h => by cases h)⟩)⟩) (gg_i 0 rfl) rfl rfl (Nat.le_of_ble_eq_true rfl) (by first | (rw [hRc]; exact Nat.le_of_ble_eq_true rfl) | (rw [hRc]; dsimp only; omega)) (by first | (rw [hRs]; exact Nat.le_of_ble_eq_true rfl) | (rw [hRs]; dsimp only; omega)) ?_ (fun X q C1 h => h.elim)
  rintro _ _ ⟨rfl, rfl⟩
  dsimp only [List.cons_append, List.nil_append, Option.toList]
  refine gg_up1 ?_
  refine gg_aload_n (pc := 13) E dX5_saveState_13 rfl rfl ?_
  refine gg_iconst (v := 1) (pc := 14) E dX5_saveState_14 (by decide) ?_
  refine gg_putM (M' := [_, _]) (pc := 15) E ck_X5 5 q2864 rfl (by decide) dX5_saveState_15 0 rfl rfl (gg_nz (by first | decide | assumption | exact gg_b01 | (split <;> decide))) rfl (Nat.le_of_ble_eq_true rfl) rfl rfl ?_
  refine gg_aload_n (pc := 18) E dX5_saveState_18 rfl rfl ?_
  refine gg_get (pc := 19) E ck_X5 0 q2859 rfl (by decide) dX5_saveState_19 (gg_i 0 rfl) rfl ?_
  refine gg_iconst (v := 2) (pc := 22) E dX5_saveState_22 (by decide) ?_
  refine gg_ialdN (pc := 23) E 2 rfl (by omega) (by omega) dX5_saveState_23 (gg_r 0 rfl) ?_
  refine gg_iret (pc := 24) E Fn rfl (rfl) dX5_saveState_24 (by first | exact Nat.le_of_ble_eq_true rfl | (dsimp only; omega)) (by first | exact Nat.le_of_ble_eq_true rfl | (dsimp only; omega)) ?_
  exact ⟨rfl, rfl⟩
set_option maxHeartbeats 4000000 in
theorem ct_X5_restoreState {l : Launch} (hl : l.stackTraces = false) {g : gg_G}  {h : Nat} {ad : Nat → Nat} {x : Nat → Int32} {row : Nat → Int32} {kp : Nat → Int32} (hkz : x 5 = 0 ∨ x 5 = 1) : gg_C l g yX5_restoreState (ws_ yX5_restoreState cX5_restoreState 2 (some .int)) { frames := 1, cells := 0, slots := 0, locals := 23 } [.ref h] [((ad 2), gg_ai g 1030 kp)] [[(h, .inl (4, mo_f ad x))], [((ad 0), gg_ai g 1030 row)]] (fun vv CC => vv = some (.int (if x 5 = 0 then 0 else kp 2)) ∧ CC = [[(h, .inl (4, mo_f ad (if x 5 = 0 then upd x 6 1 else upd (upd x 6 0) 4 0)))], [((ad 0), gg_ai g 1030 (if x 5 = 0 then row else kp))]]) gg_no := by
  refine gg_of (lv := [_, _]) (by decide) hl (Nat.le_of_ble_eq_true rfl) rfl ?_
  intro p e R s m args below meth c A Q hRf hRl hRc hRs E Fn hnm hex
  refine gg_aload_n (pc := 0) E dX5_restoreState_0 rfl rfl ?_
  refine gg_aload_n (pc := 1) E dX5_restoreState_1 rfl rfl ?_
  refine gg_get (pc := 2) E ck_X5 5 q2864 rfl (by decide) dX5_restoreState_2 (gg_i 0 rfl) rfl ?_
  refine gg_topI (y := if ¬ x 5 = 0 then 1 else 0) (by rcases hkz with q | q <;> rw [q] <;> rfl) ?_
  refine gg_iconst (v := 1) (pc := 5) E dX5_restoreState_5 (by decide) ?_
  refine gg_iconst (v := 1) (pc := 6) E dX5_restoreState_6 (by decide) ?_
  refine gg_callV (F := [_]) (As := [_, _, _]) (rest := []) (pc := 7) E ck_X5 (ct_X5_may hl ) (cwV 3 E.2.2.2.2.1 (lw_V q3241 q3243 qs127 q179 q3244) rfl rfl rfl (by decide +kernel) ⟨by rw [hRf]; exact Nat.le_of_ble_eq_true rfl, by rw [hRl]; exact Nat.le_of_ble_eq_true rfl⟩) dX5_restoreState_7 [0] (by decide) rfl rfl (fun _ h => by cases h) (gg_i 0 rfl) rfl rfl (Nat.le_of_ble_eq_true rfl) (by first | (rw [hRc]; exact Nat.le_of_ble_eq_true rfl) | (rw [hRc]; dsimp only; omega)) (by first | (rw [hRs]; exact Nat.le_of_ble_eq_true rfl) | (rw [hRs]; dsimp only; omega)) ?_ (fun X q C1 h => h.elim)
  rintro _ _ ⟨rfl, rfl⟩
  dsimp only [List.cons_append, List.nil_append, Option.toList]
  refine gg_ifP_ne (tgt := 15) (pc := 10) E dX5_restoreState_10 (by decide) (fun c10 => ?_) (fun c10 => ?_)
  · have hk0 := th_1.mp c10
    rw [c10]
    refine gg_aload_n (pc := 15) E dX5_restoreState_15 rfl rfl ?_
    refine gg_aload_n (pc := 16) E dX5_restoreState_16 rfl rfl ?_
    refine gg_get (pc := 17) E ck_X5 2 q2861 rfl (by decide) dX5_restoreState_17 (gg_i 0 rfl) rfl ?_
    refine gg_iconst (v := 0) (pc := 20) E dX5_restoreState_20 (by decide) ?_
    refine gg_callV (F := [_]) (As := [_, _]) (rest := []) (pc := 21) E ck_X5 (ct_X5_gives hl ) (cwV 2 E.2.2.2.2.1 (lw_V q3080 q3082 qs92 q179 q3083) rfl rfl rfl (by decide +kernel) ⟨by rw [hRf]; exact Nat.le_of_ble_eq_true rfl, by rw [hRl]; exact Nat.le_of_ble_eq_true rfl⟩) dX5_restoreState_21 [1] (by decide) rfl rfl (List.forall_mem_cons.mpr ⟨(gg_i 0 rfl), (List.forall_mem_cons.mpr ⟨(gg_r 0 rfl), (fun _ h => by cases h)⟩)⟩) (gg_i 0 rfl) rfl rfl (Nat.le_of_ble_eq_true rfl) (by first | (rw [hRc]; exact Nat.le_of_ble_eq_true rfl) | (rw [hRc]; dsimp only; omega)) (by first | (rw [hRs]; exact Nat.le_of_ble_eq_true rfl) | (rw [hRs]; dsimp only; omega)) ?_ (fun X q C1 h => h.elim)
    rintro _ _ ⟨rfl, rfl⟩
    dsimp only [List.cons_append, List.nil_append, Option.toList]
    refine gg_up1 ?_
    refine gg_istore_n (lv' := [_, _]) (pc := 24) E dX5_restoreState_24 rfl (Nat.le_of_ble_eq_true rfl) rfl rfl ?_
    refine gg_aload_n (pc := 25) E dX5_restoreState_25 rfl rfl ?_
    refine gg_iconst (v := 0) (pc := 26) E dX5_restoreState_26 (by decide) ?_
    refine gg_putM (M' := [_, _]) (pc := 27) E ck_X5 4 q2863 rfl (by decide) dX5_restoreState_27 0 rfl rfl (rfl) rfl (Nat.le_of_ble_eq_true rfl) rfl rfl ?_
    refine gg_aload_n (pc := 30) E dX5_restoreState_30 rfl rfl ?_
    refine gg_get (pc := 31) E ck_X5 0 q2859 rfl (by decide) dX5_restoreState_31 (gg_i 0 rfl) rfl ?_
    refine gg_iconst (v := 2) (pc := 34) E dX5_restoreState_34 (by decide) ?_
    refine gg_ialdN (pc := 35) E 2 rfl (by omega) (by omega) dX5_restoreState_35 (gg_i 1 rfl) ?_
    refine gg_iret (pc := 36) E Fn rfl (rfl) dX5_restoreState_36 (by first | exact Nat.le_of_ble_eq_true rfl | (dsimp only; omega)) (by first | exact Nat.le_of_ble_eq_true rfl | (dsimp only; omega)) ?_
    rw [if_neg hk0, if_neg hk0, if_neg hk0]
    exact ⟨rfl, rfl⟩
  · refine gg_iconst (v := 0) (pc := 13) E dX5_restoreState_13 (by decide) ?_
    refine gg_iret (pc := 14) E Fn rfl (rfl) dX5_restoreState_14 (by first | exact Nat.le_of_ble_eq_true rfl | (dsimp only; omega)) (by first | exact Nat.le_of_ble_eq_true rfl | (dsimp only; omega)) ?_
    have hk0 : x 5 = 0 := Classical.byContradiction fun q => c10 (th_1.mpr q)
    rw [if_pos hk0, if_pos hk0, if_pos hk0]
    exact ⟨rfl, by rw [show th (if ¬ x 5 = 0 then 1 else 0) 1 1 = 1 from by rw [if_neg (fun q => q hk0)]; rfl]⟩
set_option maxHeartbeats 4000000 in
theorem ct_X5_arrivesIn {l : Launch} (hl : l.stackTraces = false) {g : gg_G}  {h : Nat} {ad : Nat → Nat} {x : Nat → Int32} {row : Nat → Int32} {asd : Nat → Int32} {sums : Nat → Int32}  {su : Nat → Int32} {k : Int32} {tm : Nat} {nr nw nt : Nat} (hG : Gw row nr nw nt) (htm : row 3 = nI tm) (htm2 : tm + 201 < 2 ^ 30) : gg_C l g yX5_arrivesIn (ws_ yX5_arrivesIn cX5_arrivesIn 3 (some .int)) { frames := 8, cells := 0, slots := 0, locals := 186 } [.ref h, .int k] [] [[(h, .inl (4, mo_f ad x))], [((ad 0), gg_ai g 1030 row)], [((ad 1), gg_ai g 1030 asd)], [((ad 9), gg_ai g 10 sums)], [((ad 10), gg_ai g 8 su)]] (fun vv CC => ∃ (z : Int32) (S U Y : Nat → Int32), vv = some (.int (qArr row nr nw nt k)) ∧ CC = [[(h, .inl (4, mo_f ad (upd (upd x 6 (th (if 0 ≤ k.toInt ∧ k.toInt < nt then 1 else 0) 1 1)) 11 z)))], [((ad 0), gg_ai g 1030 row)], [((ad 1), gg_ai g 1030 Y)], [((ad 9), gg_ai g 10 S)], [((ad 10), gg_ai g 8 U)]]) gg_no := by
  refine gg_of (lv := [_, _, _]) (by decide) hl (Nat.le_of_ble_eq_true rfl) rfl ?_
  intro p e R s m args below meth c A Q hRf hRl hRc hRs E Fn hnm hex
  have hG0 := hG
  obtain ⟨hnr, hw, ht, hG4, hGS⟩ := hG
  have hnw := hw.1
  have hw20 := hw.2.1
  have hr10 := hw.2.2.1
  have hnt := ht.1
  have ht30 := ht.2.1
  refine gg_aload_n (pc := 0) E dX5_arrivesIn_0 rfl rfl ?_
  refine gg_aload_n (pc := 1) E dX5_arrivesIn_1 rfl rfl ?_
  refine gg_iload_n (pc := 2) E dX5_arrivesIn_2 rfl rfl ?_
  refine gg_callV (F := [_, _, _, _, _]) (As := [_]) (rest := [_]) (pc := 3) E ck_X5 (ct_X5_isTune hl (by first | assumption | omega) (by first | assumption | omega)) (cwV 1 E.2.2.2.2.1 (lw_V q3304 q3306 qs135 q179 q3307) rfl rfl rfl (by decide +kernel) ⟨by rw [hRf]; exact Nat.le_of_ble_eq_true rfl, by rw [hRl]; exact Nat.le_of_ble_eq_true rfl⟩) dX5_arrivesIn_3 [] (by decide) rfl rfl (List.forall_mem_cons.mpr ⟨(gg_i 0 rfl), (List.forall_mem_cons.mpr ⟨(gg_i 1 rfl), (fun _ h => by cases h)⟩)⟩) (gg_i 0 rfl) rfl rfl (Nat.le_of_ble_eq_true rfl) (by first | (rw [hRc]; exact Nat.le_of_ble_eq_true rfl) | (rw [hRc]; dsimp only; omega)) (by first | (rw [hRs]; exact Nat.le_of_ble_eq_true rfl) | (rw [hRs]; dsimp only; omega)) ?_ (fun X q C1 h => h.elim)
  rintro _ _ ⟨rfl, rfl⟩
  dsimp only [List.cons_append, List.nil_append, Option.toList]
  refine gg_iconst (v := 1) (pc := 6) E dX5_arrivesIn_6 (by decide) ?_
  refine gg_iconst (v := 1) (pc := 7) E dX5_arrivesIn_7 (by decide) ?_
  refine gg_callV (F := [_, _, _, _]) (As := [_, _, _]) (rest := []) (pc := 8) E ck_X5 (ct_X5_may hl ) (cwV 3 E.2.2.2.2.1 (lw_V q3241 q3243 qs127 q179 q3244) rfl rfl rfl (by decide +kernel) ⟨by rw [hRf]; exact Nat.le_of_ble_eq_true rfl, by rw [hRl]; exact Nat.le_of_ble_eq_true rfl⟩) dX5_arrivesIn_8 [0] (by decide) rfl rfl (fun _ h => by cases h) (gg_i 0 rfl) rfl rfl (Nat.le_of_ble_eq_true rfl) (by first | (rw [hRc]; exact Nat.le_of_ble_eq_true rfl) | (rw [hRc]; dsimp only; omega)) (by first | (rw [hRs]; exact Nat.le_of_ble_eq_true rfl) | (rw [hRs]; dsimp only; omega)) ?_ (fun X q C1 h => h.elim)
  rintro _ _ ⟨rfl, rfl⟩
  dsimp only [List.cons_append, List.nil_append, Option.toList]
  refine gg_ifP_ne (tgt := 16) (pc := 11) E dX5_arrivesIn_11 (by decide) (fun c11 => ?_) (fun c11 => ?_)
  · obtain ⟨t, ht, htq⟩ := k_nI (th_1.mp c11)
    subst htq
    refine gg_aload_n (pc := 16) E dX5_arrivesIn_16 rfl rfl ?_
    refine gg_aload_n (pc := 17) E dX5_arrivesIn_17 rfl rfl ?_
    refine gg_get (pc := 18) E ck_X5 1 q2860 rfl (by decide) dX5_arrivesIn_18 (gg_i 0 rfl) rfl ?_
    refine gg_callV (F := [_, _, _, _]) (As := [_]) (rest := []) (pc := 21) E ck_X5 (ct_X5_copies hl ) (cwV 1 E.2.2.2.2.1 (lw_V q2976 q2978 qs70 q179 q2979) rfl rfl rfl (by decide +kernel) ⟨by rw [hRf]; exact Nat.le_of_ble_eq_true rfl, by rw [hRl]; exact Nat.le_of_ble_eq_true rfl⟩) dX5_arrivesIn_21 [2] (by decide) rfl rfl (List.forall_mem_cons.mpr ⟨(gg_i 0 rfl), (List.forall_mem_cons.mpr ⟨(gg_i 1 rfl), (fun _ h => by cases h)⟩)⟩) (gg_i 0 rfl) rfl rfl (Nat.le_of_ble_eq_true rfl) (by first | (rw [hRc]; exact Nat.le_of_ble_eq_true rfl) | (rw [hRc]; dsimp only; omega)) (by first | (rw [hRs]; exact Nat.le_of_ble_eq_true rfl) | (rw [hRs]; dsimp only; omega)) ?_ (fun X q C1 h => h.elim)
    rintro _ _ ⟨rfl, rfl⟩
    dsimp only [List.cons_append, List.nil_append, Option.toList]
    refine gg_up2 ?_
    refine gg_iconst (v := 0) (pc := 24) E dX5_arrivesIn_24 (by decide) ?_
    refine gg_istore_n (lv' := [_, _, _]) (pc := 25) E dX5_arrivesIn_25 rfl (Nat.le_of_ble_eq_true rfl) rfl rfl ?_
    have L26 : ∀ (n : Nat) (i : Nat) (z : Int32) (S U : Nat → Int32), 201 - i < n → (i ≤ 201) → (∀ j, j < i → ¬ goF row nr nw j (220 + 27 * t + 3) = 2) → gg_W p l e R s m args below meth c g A 3 Q 0 0 [[(h, .inl (4, mo_f ad (upd (upd x 6 (th (if 0 ≤ (nI t).toInt ∧ (nI t).toInt < nt then 1 else 0) 1 1)) 11 z)))], [((ad 0), gg_ai g 1030 (goF row nr nw i))], [((ad 1), gg_ai g 1030 row)], [((ad 9), gg_ai g 10 S)], [((ad 10), gg_ai g 8 U)]] [some (.ref h), some (.int (nI t)), some (.int (nI i))] [] 26 := by
      intro n26
      induction n26 with
      | zero => intro i z S U hmz; exact absurd hmz (Nat.not_lt_zero _)
      | succ n26 ih26 =>
        intro i z S U hm26 hi hm
        obtain ⟨n1, q1, q2, q3, q4⟩ := go_G hG0 htm i (by omega)
        refine gg_iload_n (pc := 26) E dX5_arrivesIn_26 rfl rfl ?_
        refine gg_sipush (v := 200) (pc := 27) E dX5_arrivesIn_27 (by decide) ?_
        refine gg_icmpN_gt (tgt := 68) (pc := 30) E i 200 rfl rfl (by omega) (by omega) dX5_arrivesIn_30 (by decide) (fun c30 => ?_) (fun c30 => ?_)
        · refine gg_aload_n (pc := 68) E dX5_arrivesIn_68 rfl rfl ?_
          refine gg_aload_n (pc := 69) E dX5_arrivesIn_69 rfl rfl ?_
          refine gg_get (pc := 70) E ck_X5 1 q2860 rfl (by decide) dX5_arrivesIn_70 (gg_i 0 rfl) rfl ?_
          refine gg_iconst (v := (-1)) (pc := 73) E dX5_arrivesIn_73 (by decide) ?_
          refine gg_callV (F := [_, _, _, _]) (As := [_, _]) (rest := []) (pc := 74) E ck_X5 (ct_X5_gives hl ) (cwV 2 E.2.2.2.2.1 (lw_V q3080 q3082 qs92 q179 q3083) rfl rfl rfl (by decide +kernel) ⟨by rw [hRf]; exact Nat.le_of_ble_eq_true rfl, by rw [hRl]; exact Nat.le_of_ble_eq_true rfl⟩) dX5_arrivesIn_74 [1] (by decide) rfl rfl (List.forall_mem_cons.mpr ⟨(gg_i 0 rfl), (List.forall_mem_cons.mpr ⟨(gg_i 1 rfl), (fun _ h => by cases h)⟩)⟩) (gg_i 0 rfl) rfl rfl (Nat.le_of_ble_eq_true rfl) (by first | (rw [hRc]; exact Nat.le_of_ble_eq_true rfl) | (rw [hRc]; dsimp only; omega)) (by first | (rw [hRs]; exact Nat.le_of_ble_eq_true rfl) | (rw [hRs]; dsimp only; omega)) ?_ (fun X q C1 h => h.elim)
          rintro _ _ ⟨rfl, rfl⟩
          dsimp only [List.cons_append, List.nil_append, Option.toList]
          refine gg_up1 ?_
          refine gg_iret (pc := 77) E Fn rfl (rfl) dX5_arrivesIn_77 (by first | exact Nat.le_of_ble_eq_true rfl | (dsimp only; omega)) (by first | exact Nat.le_of_ble_eq_true rfl | (dsimp only; omega)) ?_
          obtain rfl : i = 201 := by omega
          exact ⟨z, S, U, row, by unfold qArr; rw [if_pos (th_1.mp c11), tn_nI (j := t) (by omega), fi_none hm], rfl⟩
        · refine gg_aload_n (pc := 33) E dX5_arrivesIn_33 rfl rfl ?_
          refine gg_get (pc := 34) E ck_X5 0 q2859 rfl (by decide) dX5_arrivesIn_34 (gg_i 0 rfl) rfl ?_
          refine gg_iload_n (pc := 37) E dX5_arrivesIn_37 rfl rfl ?_
          refine gg_callS (F := [_, _, _, _, _]) (As := [.int (nI t)]) (rest := [_]) (pc := 38) E (ct_X5_t hl ) (va_cwS 1 E.2.2.2.2.1 (lw_S q3121 q3122 q179 q3123) rfl rfl rfl (by decide +kernel) ⟨by rw [hRf]; exact Nat.le_of_ble_eq_true rfl, by rw [hRl]; exact Nat.le_of_ble_eq_true rfl⟩) dX5_arrivesIn_38 [] (by decide) rfl rfl (fun _ h => by cases h) rfl rfl (Nat.le_of_ble_eq_true rfl) (by first | (rw [hRc]; exact Nat.le_of_ble_eq_true rfl) | (rw [hRc]; dsimp only; omega)) (by first | (rw [hRs]; exact Nat.le_of_ble_eq_true rfl) | (rw [hRs]; dsimp only; omega)) ?_ (fun X q C1 h => h.elim)
          rintro _ _ ⟨rfl, rfl⟩
          dsimp only [List.cons_append, List.nil_append, Option.toList]
          refine gg_iconst (v := 3) (pc := 41) E dX5_arrivesIn_41 (by decide) ?_
          refine gg_iaddN (pc := 42) E (220 + 27 * t) 3 rfl rfl dX5_arrivesIn_42 ?_
          refine gg_ialdN (pc := 43) E ((220 + 27 * t) + 3) rfl (by omega) (by omega) dX5_arrivesIn_43 (gg_i 1 rfl) ?_
          refine gg_iconst (v := 2) (pc := 44) E dX5_arrivesIn_44 (by decide) ?_
          refine gg_icmp_ne (tgt := 58) (pc := 45) E dX5_arrivesIn_45 (by decide) (fun c45 => ?_) (fun c45 => ?_)
          · refine gg_aload_n (pc := 58) E dX5_arrivesIn_58 rfl rfl ?_
            refine gg_callV (F := [_]) (As := []) (rest := []) (pc := 59) E ck_X5 (ct_X5_ticks (row := (goF row nr nw i)) (tm := tm + i) hl q2 q3 (by omega)) (cwV 0 E.2.2.2.2.1 (lw_V q3139 q3141 qs103 q179 q3142) rfl rfl rfl (by decide +kernel) ⟨by rw [hRf]; exact Nat.le_of_ble_eq_true rfl, by rw [hRl]; exact Nat.le_of_ble_eq_true rfl⟩) dX5_arrivesIn_59 [0, 1, 3, 4] (by decide) rfl rfl (fun _ h => by cases h) (gg_i 0 rfl) rfl rfl (Nat.le_of_ble_eq_true rfl) (by first | (rw [hRc]; exact Nat.le_of_ble_eq_true rfl) | (rw [hRc]; dsimp only; omega)) (by first | (rw [hRs]; exact Nat.le_of_ble_eq_true rfl) | (rw [hRs]; dsimp only; omega)) ?_ (fun X q C1 h => h.elim)
            rintro _ _ ⟨z1, S1, U1, rfl, rfl⟩
            dsimp only [List.cons_append, List.nil_append, Option.toList]
            refine gg_up3 ?_
            refine gg_up3 ?_
            refine gg_up4 ?_
            refine gg_up4 ?_
            refine gg_iincN (k := 1) (lv' := [_, _, _]) (pc := 62) E i dX5_arrivesIn_62 rfl rfl rfl (Nat.le_of_ble_eq_true rfl) rfl rfl ?_
            refine gg_goto (tgt := 26) (pc := 65) E dX5_arrivesIn_65 (by decide) ?_
            refine gg_cv ?_ (gg_leS (gg_leS (gg_leS gg_le0))) rfl (by first | exact Nat.le_refl _ | (dsimp only; omega)) (by first | exact Nat.le_refl _ | (dsimp only; omega)) (ih26 (i + 1) z1 S1 U1 (by omega) (by omega) (all_s hm c45))
            · rw [upd_2]; rfl
          · refine gg_aload_n (pc := 48) E dX5_arrivesIn_48 rfl rfl ?_
            refine gg_aload_n (pc := 49) E dX5_arrivesIn_49 rfl rfl ?_
            refine gg_get (pc := 50) E ck_X5 1 q2860 rfl (by decide) dX5_arrivesIn_50 (gg_i 0 rfl) rfl ?_
            refine gg_iload_n (pc := 53) E dX5_arrivesIn_53 rfl rfl ?_
            refine gg_callV (F := [_, _, _, _]) (As := [_, _]) (rest := []) (pc := 54) E ck_X5 (ct_X5_gives hl ) (cwV 2 E.2.2.2.2.1 (lw_V q3080 q3082 qs92 q179 q3083) rfl rfl rfl (by decide +kernel) ⟨by rw [hRf]; exact Nat.le_of_ble_eq_true rfl, by rw [hRl]; exact Nat.le_of_ble_eq_true rfl⟩) dX5_arrivesIn_54 [1] (by decide) rfl rfl (List.forall_mem_cons.mpr ⟨(gg_i 0 rfl), (List.forall_mem_cons.mpr ⟨(gg_i 1 rfl), (fun _ h => by cases h)⟩)⟩) (gg_i 0 rfl) rfl rfl (Nat.le_of_ble_eq_true rfl) (by first | (rw [hRc]; exact Nat.le_of_ble_eq_true rfl) | (rw [hRc]; dsimp only; omega)) (by first | (rw [hRs]; exact Nat.le_of_ble_eq_true rfl) | (rw [hRs]; dsimp only; omega)) ?_ (fun X q C1 h => h.elim)
            rintro _ _ ⟨rfl, rfl⟩
            dsimp only [List.cons_append, List.nil_append, Option.toList]
            refine gg_up1 ?_
            refine gg_iret (pc := 57) E Fn rfl (rfl) dX5_arrivesIn_57 (by first | exact Nat.le_of_ble_eq_true rfl | (dsimp only; omega)) (by first | exact Nat.le_of_ble_eq_true rfl | (dsimp only; omega)) ?_
            exact ⟨z, S, U, row, by unfold qArr; rw [if_pos (th_1.mp c11), tn_nI (j := t) (by omega), fi_some (by omega) c45 hm], rfl⟩
    refine gg_cv ?_ (gg_leS (gg_leS (gg_leS gg_le0))) rfl (by first | exact Nat.le_refl _ | (dsimp only; omega)) (by first | exact Nat.le_refl _ | (dsimp only; omega)) (L26 _ 0 (x 11) sums su (Nat.lt_succ_self _) (Nat.zero_le _) (fun j hj => absurd hj (Nat.not_lt_zero j)))
    · exact congrArg (fun z => [[(h, .inl (4, mo_f ad z))], [(ad 0, gg_ai g 1030 row)], [(ad 1, gg_ai g 1030 row)], [(ad 9, gg_ai g 10 sums)], [(ad 10, gg_ai g 8 su)]]) (mu_11 _)
  · refine gg_iconst (v := 0) (pc := 14) E dX5_arrivesIn_14 (by decide) ?_
    refine gg_iret (pc := 15) E Fn rfl (rfl) dX5_arrivesIn_15 (by first | exact Nat.le_of_ble_eq_true rfl | (dsimp only; omega)) (by first | exact Nat.le_of_ble_eq_true rfl | (dsimp only; omega)) ?_
    exact ⟨_, sums, su, asd, by unfold qArr; rw [if_neg (fun q => c11 (th_1.mpr q))], congrArg (fun z => [[(h, .inl (4, mo_f ad z))], [(ad 0, gg_ai g 1030 row)], [(ad 1, gg_ai g 1030 asd)], [(ad 9, gg_ai g 10 sums)], [(ad 10, gg_ai g 8 su)]]) (mu_11 _)⟩
set_option maxHeartbeats 4000000 in
theorem ct_X5_growsBy {l : Launch} (hl : l.stackTraces = false) {g : gg_G}  {h : Nat} {ad : Nat → Nat} {x : Nat → Int32} {row : Nat → Int32} {asd : Nat → Int32} {sums : Nat → Int32}  {su : Nat → Int32} {wh tk : Int32} {tm : Nat} {nr nw nt : Nat} (hG : Gw row nr nw nt) (htm : row 3 = nI tm) (htm2 : tm + 201 < 2 ^ 30) : gg_C l g yX5_growsBy (ws_ yX5_growsBy cX5_growsBy 5 (some .int)) { frames := 9, cells := 0, slots := 0, locals := 209 } [.ref h, .int wh, .int tk] [] [[(h, .inl (4, mo_f ad x))], [((ad 0), gg_ai g 1030 row)], [((ad 1), gg_ai g 1030 asd)], [((ad 9), gg_ai g 10 sums)], [((ad 10), gg_ai g 8 su)]] (fun vv CC => ∃ (z : Int32) (S U Y : Nat → Int32), vv = some (.int (qGrow row nr nw wh tk)) ∧ CC = [[(h, .inl (4, mo_f ad (upd (upd x 6 (th (if (0 ≤ wh.toInt ∧ wh.toInt ≤ 10) ∧ 0 ≤ tk.toInt ∧ tk.toInt ≤ 200 then 1 else 0) 1 1)) 11 z)))], [((ad 0), gg_ai g 1030 row)], [((ad 1), gg_ai g 1030 Y)], [((ad 9), gg_ai g 10 S)], [((ad 10), gg_ai g 8 U)]]) gg_no := by
  refine gg_of (lv := [_, _, _, _, _]) (by decide) hl (Nat.le_of_ble_eq_true rfl) rfl ?_
  intro p e R s m args below meth c A Q hRf hRl hRc hRs E Fn hnm hex
  have hG0 := hG
  obtain ⟨hnr, hw, ht, hG4, hGS⟩ := hG
  have hnw := hw.1
  have hw20 := hw.2.1
  have hr10 := hw.2.2.1
  have hnt := ht.1
  have ht30 := ht.2.1
  refine gg_aload_n (pc := 0) E dX5_growsBy_0 rfl rfl ?_
  refine gg_iload_n (pc := 1) E dX5_growsBy_1 rfl rfl ?_
  refine gg_i2l (pc := 2) E dX5_growsBy_2 rfl ?_
  refine gg_lconst (v := 0) (pc := 3) E dX5_growsBy_3 (by decide) ?_
  refine gg_ldc2 (pc := 4) E q3261 dX5_growsBy_4 ?_
  refine gg_callS (F := [_, _, _, _, _]) (As := [_, _, _]) (rest := [_]) (pc := 7) E (ct_X5_in hl ) (va_cwS 3 E.2.2.2.2.1 (lw_S q2961 q2962 q179 q2963) rfl rfl rfl (by decide +kernel) ⟨by rw [hRf]; exact Nat.le_of_ble_eq_true rfl, by rw [hRl]; exact Nat.le_of_ble_eq_true rfl⟩) dX5_growsBy_7 [] (by decide) rfl rfl (fun _ h => by cases h) rfl rfl (Nat.le_of_ble_eq_true rfl) (by first | (rw [hRc]; exact Nat.le_of_ble_eq_true rfl) | (rw [hRc]; dsimp only; omega)) (by first | (rw [hRs]; exact Nat.le_of_ble_eq_true rfl) | (rw [hRs]; dsimp only; omega)) ?_ (fun X q C1 h => h.elim)
  rintro _ _ ⟨rfl, rfl⟩
  dsimp only [List.cons_append, List.nil_append, Option.toList]
  refine gg_topI (y := if 0 ≤ wh.toInt ∧ wh.toInt ≤ 10 then 1 else 0) (gg_ifc (in_ab (by decide) (by decide))) ?_
  refine gg_ifP_eq (tgt := 29) (pc := 10) E dX5_growsBy_10 (by decide) (fun c10 => ?_) (fun c10 => ?_)
  · refine gg_iconst (v := 0) (pc := 29) E dX5_growsBy_29 (by decide) ?_
    refine gg_topI (y := if (0 ≤ wh.toInt ∧ wh.toInt ≤ 10) ∧ 0 ≤ tk.toInt ∧ tk.toInt ≤ 200 then 1 else 0) (if_neg (fun q => c10 q.1)).symm ?_
    refine gg_iconst (v := 1) (pc := 30) E dX5_growsBy_30 (by decide) ?_
    refine gg_iconst (v := 1) (pc := 31) E dX5_growsBy_31 (by decide) ?_
    refine gg_callV (F := [_, _, _, _]) (As := [_, _, _]) (rest := []) (pc := 32) E ck_X5 (ct_X5_may hl ) (cwV 3 E.2.2.2.2.1 (lw_V q3241 q3243 qs127 q179 q3244) rfl rfl rfl (by decide +kernel) ⟨by rw [hRf]; exact Nat.le_of_ble_eq_true rfl, by rw [hRl]; exact Nat.le_of_ble_eq_true rfl⟩) dX5_growsBy_32 [0] (by decide) rfl rfl (fun _ h => by cases h) (gg_i 0 rfl) rfl rfl (Nat.le_of_ble_eq_true rfl) (by first | (rw [hRc]; exact Nat.le_of_ble_eq_true rfl) | (rw [hRc]; dsimp only; omega)) (by first | (rw [hRs]; exact Nat.le_of_ble_eq_true rfl) | (rw [hRs]; dsimp only; omega)) ?_ (fun X q C1 h => h.elim)
    rintro _ _ ⟨rfl, rfl⟩
    dsimp only [List.cons_append, List.nil_append, Option.toList]
    refine gg_ifP_ne (tgt := 40) (pc := 35) E dX5_growsBy_35 (by decide) (fun c35 => ?_) (fun c35 => ?_)
    · obtain ⟨w1, hw1, hw1q⟩ := k_nI (n := 11) (k := wh) (by have := th_1.mp c35; omega)
      subst hw1q
      obtain ⟨t1, ht1, ht1q⟩ := k_nI (n := 201) (k := tk) (by have := th_1.mp c35; omega)
      subst ht1q
      refine gg_aload_n (pc := 40) E dX5_growsBy_40 rfl rfl ?_
      refine gg_get (pc := 41) E ck_X5 0 q2859 rfl (by decide) dX5_growsBy_41 (gg_i 0 rfl) rfl ?_
      refine gg_bipush (v := 10) (pc := 44) E dX5_growsBy_44 (by decide) ?_
      refine gg_iload_n (pc := 46) E dX5_growsBy_46 rfl rfl ?_
      refine gg_iaddN (pc := 47) E 10 w1 rfl rfl dX5_growsBy_47 ?_
      refine gg_ialdN (pc := 48) E (10 + w1) rfl (by omega) (by omega) dX5_growsBy_48 (gg_i 1 rfl) ?_
      refine gg_istore_n (lv' := [_, _, _, _, _]) (pc := 49) E dX5_growsBy_49 rfl (Nat.le_of_ble_eq_true rfl) rfl rfl ?_
      refine gg_aload_n (pc := 50) E dX5_growsBy_50 rfl rfl ?_
      refine gg_aload_n (pc := 51) E dX5_growsBy_51 rfl rfl ?_
      refine gg_get (pc := 52) E ck_X5 1 q2860 rfl (by decide) dX5_growsBy_52 (gg_i 0 rfl) rfl ?_
      refine gg_callV (F := [_, _, _, _]) (As := [_]) (rest := []) (pc := 55) E ck_X5 (ct_X5_copies hl ) (cwV 1 E.2.2.2.2.1 (lw_V q2976 q2978 qs70 q179 q2979) rfl rfl rfl (by decide +kernel) ⟨by rw [hRf]; exact Nat.le_of_ble_eq_true rfl, by rw [hRl]; exact Nat.le_of_ble_eq_true rfl⟩) dX5_growsBy_55 [2] (by decide) rfl rfl (List.forall_mem_cons.mpr ⟨(gg_i 0 rfl), (List.forall_mem_cons.mpr ⟨(gg_i 1 rfl), (fun _ h => by cases h)⟩)⟩) (gg_i 0 rfl) rfl rfl (Nat.le_of_ble_eq_true rfl) (by first | (rw [hRc]; exact Nat.le_of_ble_eq_true rfl) | (rw [hRc]; dsimp only; omega)) (by first | (rw [hRs]; exact Nat.le_of_ble_eq_true rfl) | (rw [hRs]; dsimp only; omega)) ?_ (fun X q C1 h => h.elim)
      rintro _ _ ⟨rfl, rfl⟩
      dsimp only [List.cons_append, List.nil_append, Option.toList]
      refine gg_up2 ?_
      refine gg_aload_n (pc := 58) E dX5_growsBy_58 rfl rfl ?_
      refine gg_iload_n (pc := 59) E dX5_growsBy_59 rfl rfl ?_
      refine gg_callV (F := [_]) (As := [.int (nI t1)]) (rest := []) (pc := 60) E ck_X5 (ct_X5_goes hl (hG0) (htm) (by omega)) (cwV 1 E.2.2.2.2.1 (lw_V q3135 q3137 qs102 q179 q3138) rfl rfl rfl (by decide +kernel) ⟨by rw [hRf]; exact Nat.le_of_ble_eq_true rfl, by rw [hRl]; exact Nat.le_of_ble_eq_true rfl⟩) dX5_growsBy_60 [0, 1, 3, 4] (by decide) rfl rfl (fun _ h => by cases h) (gg_i 0 rfl) rfl rfl (Nat.le_of_ble_eq_true rfl) (by first | (rw [hRc]; exact Nat.le_of_ble_eq_true rfl) | (rw [hRc]; dsimp only; omega)) (by first | (rw [hRs]; exact Nat.le_of_ble_eq_true rfl) | (rw [hRs]; dsimp only; omega)) ?_ (fun X q C1 h => h.elim)
      rintro _ _ ⟨z1, S1, U1, rfl, rfl⟩
      dsimp only [List.cons_append, List.nil_append, Option.toList]
      refine gg_up3 ?_
      refine gg_up3 ?_
      refine gg_up4 ?_
      refine gg_up4 ?_
      refine gg_istore (lv' := [_, _, _, _, _]) (pc := 63) E dX5_growsBy_63 (Nat.le_of_ble_eq_true rfl) rfl rfl ?_
      refine gg_aload_n (pc := 65) E dX5_growsBy_65 rfl rfl ?_
      refine gg_aload_n (pc := 66) E dX5_growsBy_66 rfl rfl ?_
      refine gg_get (pc := 67) E ck_X5 1 q2860 rfl (by decide) dX5_growsBy_67 (gg_i 0 rfl) rfl ?_
      refine gg_aload_n (pc := 70) E dX5_growsBy_70 rfl rfl ?_
      refine gg_get (pc := 71) E ck_X5 0 q2859 rfl (by decide) dX5_growsBy_71 (gg_i 0 rfl) rfl ?_
      refine gg_bipush (v := 10) (pc := 74) E dX5_growsBy_74 (by decide) ?_
      refine gg_iload_n (pc := 76) E dX5_growsBy_76 rfl rfl ?_
      refine gg_iaddN (pc := 77) E 10 w1 rfl rfl dX5_growsBy_77 ?_
      refine gg_ialdN (pc := 78) E (10 + w1) rfl (by omega) (by omega) dX5_growsBy_78 (gg_i 1 rfl) ?_
      refine gg_iload_n (pc := 79) E dX5_growsBy_79 rfl rfl ?_
      refine gg_isub (pc := 80) E dX5_growsBy_80 ?_
      refine gg_callV (F := [_, _, _, _]) (As := [_, _]) (rest := []) (pc := 81) E ck_X5 (ct_X5_gives hl ) (cwV 2 E.2.2.2.2.1 (lw_V q3080 q3082 qs92 q179 q3083) rfl rfl rfl (by decide +kernel) ⟨by rw [hRf]; exact Nat.le_of_ble_eq_true rfl, by rw [hRl]; exact Nat.le_of_ble_eq_true rfl⟩) dX5_growsBy_81 [1] (by decide) rfl rfl (List.forall_mem_cons.mpr ⟨(gg_i 0 rfl), (List.forall_mem_cons.mpr ⟨(gg_i 1 rfl), (fun _ h => by cases h)⟩)⟩) (gg_i 0 rfl) rfl rfl (Nat.le_of_ble_eq_true rfl) (by first | (rw [hRc]; exact Nat.le_of_ble_eq_true rfl) | (rw [hRc]; dsimp only; omega)) (by first | (rw [hRs]; exact Nat.le_of_ble_eq_true rfl) | (rw [hRs]; dsimp only; omega)) ?_ (fun X q C1 h => h.elim)
      rintro _ _ ⟨rfl, rfl⟩
      dsimp only [List.cons_append, List.nil_append, Option.toList]
      refine gg_up1 ?_
      refine gg_iret (pc := 84) E Fn rfl (rfl) dX5_growsBy_84 (by first | exact Nat.le_of_ble_eq_true rfl | (dsimp only; omega)) (by first | exact Nat.le_of_ble_eq_true rfl | (dsimp only; omega)) ?_
      exact ⟨z1, S1, U1, row, by unfold qGrow; rw [if_pos (th_1.mp c35), tn_nI (j := w1) (by omega), tn_nI (j := t1) (by omega)], rfl⟩
    · refine gg_iconst (v := 0) (pc := 38) E dX5_growsBy_38 (by decide) ?_
      refine gg_iret (pc := 39) E Fn rfl (rfl) dX5_growsBy_39 (by first | exact Nat.le_of_ble_eq_true rfl | (dsimp only; omega)) (by first | exact Nat.le_of_ble_eq_true rfl | (dsimp only; omega)) ?_
      exact ⟨_, sums, su, asd, by unfold qGrow; rw [if_neg (fun q => c35 (th_1.mpr q))], congrArg (fun z => [[(h, .inl (4, mo_f ad z))], [(ad 0, gg_ai g 1030 row)], [(ad 1, gg_ai g 1030 asd)], [(ad 9, gg_ai g 10 sums)], [(ad 10, gg_ai g 8 su)]]) (mu_11 _)⟩
  · refine gg_iload_n (pc := 13) E dX5_growsBy_13 rfl rfl ?_
    refine gg_i2l (pc := 14) E dX5_growsBy_14 rfl ?_
    refine gg_lconst (v := 0) (pc := 15) E dX5_growsBy_15 (by decide) ?_
    refine gg_ldc2 (pc := 16) E q3358 dX5_growsBy_16 ?_
    refine gg_callS (F := [_, _, _, _, _]) (As := [_, _, _]) (rest := [_]) (pc := 19) E (ct_X5_in hl ) (va_cwS 3 E.2.2.2.2.1 (lw_S q2961 q2962 q179 q2963) rfl rfl rfl (by decide +kernel) ⟨by rw [hRf]; exact Nat.le_of_ble_eq_true rfl, by rw [hRl]; exact Nat.le_of_ble_eq_true rfl⟩) dX5_growsBy_19 [] (by decide) rfl rfl (fun _ h => by cases h) rfl rfl (Nat.le_of_ble_eq_true rfl) (by first | (rw [hRc]; exact Nat.le_of_ble_eq_true rfl) | (rw [hRc]; dsimp only; omega)) (by first | (rw [hRs]; exact Nat.le_of_ble_eq_true rfl) | (rw [hRs]; dsimp only; omega)) ?_ (fun X q C1 h => h.elim)
    rintro _ _ ⟨rfl, rfl⟩
    dsimp only [List.cons_append, List.nil_append, Option.toList]
    refine gg_topI (y := if 0 ≤ tk.toInt ∧ tk.toInt ≤ 200 then 1 else 0) (gg_ifc (in_ab (by decide) (by decide))) ?_
    refine gg_ifP_eq (tgt := 29) (pc := 22) E dX5_growsBy_22 (by decide) (fun c22 => ?_) (fun c22 => ?_)
    · refine gg_iconst (v := 0) (pc := 29) E dX5_growsBy_29 (by decide) ?_
      refine gg_topI (y := if (0 ≤ wh.toInt ∧ wh.toInt ≤ 10) ∧ 0 ≤ tk.toInt ∧ tk.toInt ≤ 200 then 1 else 0) (if_neg (fun q => c22 q.2)).symm ?_
      refine gg_iconst (v := 1) (pc := 30) E dX5_growsBy_30 (by decide) ?_
      refine gg_iconst (v := 1) (pc := 31) E dX5_growsBy_31 (by decide) ?_
      refine gg_callV (F := [_, _, _, _]) (As := [_, _, _]) (rest := []) (pc := 32) E ck_X5 (ct_X5_may hl ) (cwV 3 E.2.2.2.2.1 (lw_V q3241 q3243 qs127 q179 q3244) rfl rfl rfl (by decide +kernel) ⟨by rw [hRf]; exact Nat.le_of_ble_eq_true rfl, by rw [hRl]; exact Nat.le_of_ble_eq_true rfl⟩) dX5_growsBy_32 [0] (by decide) rfl rfl (fun _ h => by cases h) (gg_i 0 rfl) rfl rfl (Nat.le_of_ble_eq_true rfl) (by first | (rw [hRc]; exact Nat.le_of_ble_eq_true rfl) | (rw [hRc]; dsimp only; omega)) (by first | (rw [hRs]; exact Nat.le_of_ble_eq_true rfl) | (rw [hRs]; dsimp only; omega)) ?_ (fun X q C1 h => h.elim)
      rintro _ _ ⟨rfl, rfl⟩
      dsimp only [List.cons_append, List.nil_append, Option.toList]
      refine gg_ifP_ne (tgt := 40) (pc := 35) E dX5_growsBy_35 (by decide) (fun c35 => ?_) (fun c35 => ?_)
      · obtain ⟨w1, hw1, hw1q⟩ := k_nI (n := 11) (k := wh) (by have := th_1.mp c35; omega)
        subst hw1q
        obtain ⟨t1, ht1, ht1q⟩ := k_nI (n := 201) (k := tk) (by have := th_1.mp c35; omega)
        subst ht1q
        refine gg_aload_n (pc := 40) E dX5_growsBy_40 rfl rfl ?_
        refine gg_get (pc := 41) E ck_X5 0 q2859 rfl (by decide) dX5_growsBy_41 (gg_i 0 rfl) rfl ?_
        refine gg_bipush (v := 10) (pc := 44) E dX5_growsBy_44 (by decide) ?_
        refine gg_iload_n (pc := 46) E dX5_growsBy_46 rfl rfl ?_
        refine gg_iaddN (pc := 47) E 10 w1 rfl rfl dX5_growsBy_47 ?_
        refine gg_ialdN (pc := 48) E (10 + w1) rfl (by omega) (by omega) dX5_growsBy_48 (gg_i 1 rfl) ?_
        refine gg_istore_n (lv' := [_, _, _, _, _]) (pc := 49) E dX5_growsBy_49 rfl (Nat.le_of_ble_eq_true rfl) rfl rfl ?_
        refine gg_aload_n (pc := 50) E dX5_growsBy_50 rfl rfl ?_
        refine gg_aload_n (pc := 51) E dX5_growsBy_51 rfl rfl ?_
        refine gg_get (pc := 52) E ck_X5 1 q2860 rfl (by decide) dX5_growsBy_52 (gg_i 0 rfl) rfl ?_
        refine gg_callV (F := [_, _, _, _]) (As := [_]) (rest := []) (pc := 55) E ck_X5 (ct_X5_copies hl ) (cwV 1 E.2.2.2.2.1 (lw_V q2976 q2978 qs70 q179 q2979) rfl rfl rfl (by decide +kernel) ⟨by rw [hRf]; exact Nat.le_of_ble_eq_true rfl, by rw [hRl]; exact Nat.le_of_ble_eq_true rfl⟩) dX5_growsBy_55 [2] (by decide) rfl rfl (List.forall_mem_cons.mpr ⟨(gg_i 0 rfl), (List.forall_mem_cons.mpr ⟨(gg_i 1 rfl), (fun _ h => by cases h)⟩)⟩) (gg_i 0 rfl) rfl rfl (Nat.le_of_ble_eq_true rfl) (by first | (rw [hRc]; exact Nat.le_of_ble_eq_true rfl) | (rw [hRc]; dsimp only; omega)) (by first | (rw [hRs]; exact Nat.le_of_ble_eq_true rfl) | (rw [hRs]; dsimp only; omega)) ?_ (fun X q C1 h => h.elim)
        rintro _ _ ⟨rfl, rfl⟩
        dsimp only [List.cons_append, List.nil_append, Option.toList]
        refine gg_up2 ?_
        refine gg_aload_n (pc := 58) E dX5_growsBy_58 rfl rfl ?_
        refine gg_iload_n (pc := 59) E dX5_growsBy_59 rfl rfl ?_
        refine gg_callV (F := [_]) (As := [.int (nI t1)]) (rest := []) (pc := 60) E ck_X5 (ct_X5_goes hl (hG0) (htm) (by omega)) (cwV 1 E.2.2.2.2.1 (lw_V q3135 q3137 qs102 q179 q3138) rfl rfl rfl (by decide +kernel) ⟨by rw [hRf]; exact Nat.le_of_ble_eq_true rfl, by rw [hRl]; exact Nat.le_of_ble_eq_true rfl⟩) dX5_growsBy_60 [0, 1, 3, 4] (by decide) rfl rfl (fun _ h => by cases h) (gg_i 0 rfl) rfl rfl (Nat.le_of_ble_eq_true rfl) (by first | (rw [hRc]; exact Nat.le_of_ble_eq_true rfl) | (rw [hRc]; dsimp only; omega)) (by first | (rw [hRs]; exact Nat.le_of_ble_eq_true rfl) | (rw [hRs]; dsimp only; omega)) ?_ (fun X q C1 h => h.elim)
        rintro _ _ ⟨z1, S1, U1, rfl, rfl⟩
        dsimp only [List.cons_append, List.nil_append, Option.toList]
        refine gg_up3 ?_
        refine gg_up3 ?_
        refine gg_up4 ?_
        refine gg_up4 ?_
        refine gg_istore (lv' := [_, _, _, _, _]) (pc := 63) E dX5_growsBy_63 (Nat.le_of_ble_eq_true rfl) rfl rfl ?_
        refine gg_aload_n (pc := 65) E dX5_growsBy_65 rfl rfl ?_
        refine gg_aload_n (pc := 66) E dX5_growsBy_66 rfl rfl ?_
        refine gg_get (pc := 67) E ck_X5 1 q2860 rfl (by decide) dX5_growsBy_67 (gg_i 0 rfl) rfl ?_
        refine gg_aload_n (pc := 70) E dX5_growsBy_70 rfl rfl ?_
        refine gg_get (pc := 71) E ck_X5 0 q2859 rfl (by decide) dX5_growsBy_71 (gg_i 0 rfl) rfl ?_
        refine gg_bipush (v := 10) (pc := 74) E dX5_growsBy_74 (by decide) ?_
        refine gg_iload_n (pc := 76) E dX5_growsBy_76 rfl rfl ?_
        refine gg_iaddN (pc := 77) E 10 w1 rfl rfl dX5_growsBy_77 ?_
        refine gg_ialdN (pc := 78) E (10 + w1) rfl (by omega) (by omega) dX5_growsBy_78 (gg_i 1 rfl) ?_
        refine gg_iload_n (pc := 79) E dX5_growsBy_79 rfl rfl ?_
        refine gg_isub (pc := 80) E dX5_growsBy_80 ?_
        refine gg_callV (F := [_, _, _, _]) (As := [_, _]) (rest := []) (pc := 81) E ck_X5 (ct_X5_gives hl ) (cwV 2 E.2.2.2.2.1 (lw_V q3080 q3082 qs92 q179 q3083) rfl rfl rfl (by decide +kernel) ⟨by rw [hRf]; exact Nat.le_of_ble_eq_true rfl, by rw [hRl]; exact Nat.le_of_ble_eq_true rfl⟩) dX5_growsBy_81 [1] (by decide) rfl rfl (List.forall_mem_cons.mpr ⟨(gg_i 0 rfl), (List.forall_mem_cons.mpr ⟨(gg_i 1 rfl), (fun _ h => by cases h)⟩)⟩) (gg_i 0 rfl) rfl rfl (Nat.le_of_ble_eq_true rfl) (by first | (rw [hRc]; exact Nat.le_of_ble_eq_true rfl) | (rw [hRc]; dsimp only; omega)) (by first | (rw [hRs]; exact Nat.le_of_ble_eq_true rfl) | (rw [hRs]; dsimp only; omega)) ?_ (fun X q C1 h => h.elim)
        rintro _ _ ⟨rfl, rfl⟩
        dsimp only [List.cons_append, List.nil_append, Option.toList]
        refine gg_up1 ?_
        refine gg_iret (pc := 84) E Fn rfl (rfl) dX5_growsBy_84 (by first | exact Nat.le_of_ble_eq_true rfl | (dsimp only; omega)) (by first | exact Nat.le_of_ble_eq_true rfl | (dsimp only; omega)) ?_
        exact ⟨z1, S1, U1, row, by unfold qGrow; rw [if_pos (th_1.mp c35), tn_nI (j := w1) (by omega), tn_nI (j := t1) (by omega)], rfl⟩
      · refine gg_iconst (v := 0) (pc := 38) E dX5_growsBy_38 (by decide) ?_
        refine gg_iret (pc := 39) E Fn rfl (rfl) dX5_growsBy_39 (by first | exact Nat.le_of_ble_eq_true rfl | (dsimp only; omega)) (by first | exact Nat.le_of_ble_eq_true rfl | (dsimp only; omega)) ?_
        exact ⟨_, sums, su, asd, by unfold qGrow; rw [if_neg (fun q => c35 (th_1.mpr q))], congrArg (fun z => [[(h, .inl (4, mo_f ad z))], [(ad 0, gg_ai g 1030 row)], [(ad 1, gg_ai g 1030 asd)], [(ad 9, gg_ai g 10 sums)], [(ad 10, gg_ai g 8 su)]]) (mu_11 _)⟩
    · refine gg_iconst (v := 1) (pc := 25) E dX5_growsBy_25 (by decide) ?_
      refine gg_goto (tgt := 30) (pc := 26) E dX5_growsBy_26 (by decide) ?_
      refine gg_topI (y := if (0 ≤ wh.toInt ∧ wh.toInt ≤ 10) ∧ 0 ≤ tk.toInt ∧ tk.toInt ≤ 200 then 1 else 0) (if_pos ⟨c10, c22⟩).symm ?_
      refine gg_iconst (v := 1) (pc := 30) E dX5_growsBy_30 (by decide) ?_
      refine gg_iconst (v := 1) (pc := 31) E dX5_growsBy_31 (by decide) ?_
      refine gg_callV (F := [_, _, _, _]) (As := [_, _, _]) (rest := []) (pc := 32) E ck_X5 (ct_X5_may hl ) (cwV 3 E.2.2.2.2.1 (lw_V q3241 q3243 qs127 q179 q3244) rfl rfl rfl (by decide +kernel) ⟨by rw [hRf]; exact Nat.le_of_ble_eq_true rfl, by rw [hRl]; exact Nat.le_of_ble_eq_true rfl⟩) dX5_growsBy_32 [0] (by decide) rfl rfl (fun _ h => by cases h) (gg_i 0 rfl) rfl rfl (Nat.le_of_ble_eq_true rfl) (by first | (rw [hRc]; exact Nat.le_of_ble_eq_true rfl) | (rw [hRc]; dsimp only; omega)) (by first | (rw [hRs]; exact Nat.le_of_ble_eq_true rfl) | (rw [hRs]; dsimp only; omega)) ?_ (fun X q C1 h => h.elim)
      rintro _ _ ⟨rfl, rfl⟩
      dsimp only [List.cons_append, List.nil_append, Option.toList]
      refine gg_ifP_ne (tgt := 40) (pc := 35) E dX5_growsBy_35 (by decide) (fun c35 => ?_) (fun c35 => ?_)
      · obtain ⟨w1, hw1, hw1q⟩ := k_nI (n := 11) (k := wh) (by have := th_1.mp c35; omega)
        subst hw1q
        obtain ⟨t1, ht1, ht1q⟩ := k_nI (n := 201) (k := tk) (by have := th_1.mp c35; omega)
        subst ht1q
        refine gg_aload_n (pc := 40) E dX5_growsBy_40 rfl rfl ?_
        refine gg_get (pc := 41) E ck_X5 0 q2859 rfl (by decide) dX5_growsBy_41 (gg_i 0 rfl) rfl ?_
        refine gg_bipush (v := 10) (pc := 44) E dX5_growsBy_44 (by decide) ?_
        refine gg_iload_n (pc := 46) E dX5_growsBy_46 rfl rfl ?_
        refine gg_iaddN (pc := 47) E 10 w1 rfl rfl dX5_growsBy_47 ?_
        refine gg_ialdN (pc := 48) E (10 + w1) rfl (by omega) (by omega) dX5_growsBy_48 (gg_i 1 rfl) ?_
        refine gg_istore_n (lv' := [_, _, _, _, _]) (pc := 49) E dX5_growsBy_49 rfl (Nat.le_of_ble_eq_true rfl) rfl rfl ?_
        refine gg_aload_n (pc := 50) E dX5_growsBy_50 rfl rfl ?_
        refine gg_aload_n (pc := 51) E dX5_growsBy_51 rfl rfl ?_
        refine gg_get (pc := 52) E ck_X5 1 q2860 rfl (by decide) dX5_growsBy_52 (gg_i 0 rfl) rfl ?_
        refine gg_callV (F := [_, _, _, _]) (As := [_]) (rest := []) (pc := 55) E ck_X5 (ct_X5_copies hl ) (cwV 1 E.2.2.2.2.1 (lw_V q2976 q2978 qs70 q179 q2979) rfl rfl rfl (by decide +kernel) ⟨by rw [hRf]; exact Nat.le_of_ble_eq_true rfl, by rw [hRl]; exact Nat.le_of_ble_eq_true rfl⟩) dX5_growsBy_55 [2] (by decide) rfl rfl (List.forall_mem_cons.mpr ⟨(gg_i 0 rfl), (List.forall_mem_cons.mpr ⟨(gg_i 1 rfl), (fun _ h => by cases h)⟩)⟩) (gg_i 0 rfl) rfl rfl (Nat.le_of_ble_eq_true rfl) (by first | (rw [hRc]; exact Nat.le_of_ble_eq_true rfl) | (rw [hRc]; dsimp only; omega)) (by first | (rw [hRs]; exact Nat.le_of_ble_eq_true rfl) | (rw [hRs]; dsimp only; omega)) ?_ (fun X q C1 h => h.elim)
        rintro _ _ ⟨rfl, rfl⟩
        dsimp only [List.cons_append, List.nil_append, Option.toList]
        refine gg_up2 ?_
        refine gg_aload_n (pc := 58) E dX5_growsBy_58 rfl rfl ?_
        refine gg_iload_n (pc := 59) E dX5_growsBy_59 rfl rfl ?_
        refine gg_callV (F := [_]) (As := [.int (nI t1)]) (rest := []) (pc := 60) E ck_X5 (ct_X5_goes hl (hG0) (htm) (by omega)) (cwV 1 E.2.2.2.2.1 (lw_V q3135 q3137 qs102 q179 q3138) rfl rfl rfl (by decide +kernel) ⟨by rw [hRf]; exact Nat.le_of_ble_eq_true rfl, by rw [hRl]; exact Nat.le_of_ble_eq_true rfl⟩) dX5_growsBy_60 [0, 1, 3, 4] (by decide) rfl rfl (fun _ h => by cases h) (gg_i 0 rfl) rfl rfl (Nat.le_of_ble_eq_true rfl) (by first | (rw [hRc]; exact Nat.le_of_ble_eq_true rfl) | (rw [hRc]; dsimp only; omega)) (by first | (rw [hRs]; exact Nat.le_of_ble_eq_true rfl) | (rw [hRs]; dsimp only; omega)) ?_ (fun X q C1 h => h.elim)
        rintro _ _ ⟨z1, S1, U1, rfl, rfl⟩
        dsimp only [List.cons_append, List.nil_append, Option.toList]
        refine gg_up3 ?_
        refine gg_up3 ?_
        refine gg_up4 ?_
        refine gg_up4 ?_
        refine gg_istore (lv' := [_, _, _, _, _]) (pc := 63) E dX5_growsBy_63 (Nat.le_of_ble_eq_true rfl) rfl rfl ?_
        refine gg_aload_n (pc := 65) E dX5_growsBy_65 rfl rfl ?_
        refine gg_aload_n (pc := 66) E dX5_growsBy_66 rfl rfl ?_
        refine gg_get (pc := 67) E ck_X5 1 q2860 rfl (by decide) dX5_growsBy_67 (gg_i 0 rfl) rfl ?_
        refine gg_aload_n (pc := 70) E dX5_growsBy_70 rfl rfl ?_
        refine gg_get (pc := 71) E ck_X5 0 q2859 rfl (by decide) dX5_growsBy_71 (gg_i 0 rfl) rfl ?_
        refine gg_bipush (v := 10) (pc := 74) E dX5_growsBy_74 (by decide) ?_
        refine gg_iload_n (pc := 76) E dX5_growsBy_76 rfl rfl ?_
        refine gg_iaddN (pc := 77) E 10 w1 rfl rfl dX5_growsBy_77 ?_
        refine gg_ialdN (pc := 78) E (10 + w1) rfl (by omega) (by omega) dX5_growsBy_78 (gg_i 1 rfl) ?_
        refine gg_iload_n (pc := 79) E dX5_growsBy_79 rfl rfl ?_
        refine gg_isub (pc := 80) E dX5_growsBy_80 ?_
        refine gg_callV (F := [_, _, _, _]) (As := [_, _]) (rest := []) (pc := 81) E ck_X5 (ct_X5_gives hl ) (cwV 2 E.2.2.2.2.1 (lw_V q3080 q3082 qs92 q179 q3083) rfl rfl rfl (by decide +kernel) ⟨by rw [hRf]; exact Nat.le_of_ble_eq_true rfl, by rw [hRl]; exact Nat.le_of_ble_eq_true rfl⟩) dX5_growsBy_81 [1] (by decide) rfl rfl (List.forall_mem_cons.mpr ⟨(gg_i 0 rfl), (List.forall_mem_cons.mpr ⟨(gg_i 1 rfl), (fun _ h => by cases h)⟩)⟩) (gg_i 0 rfl) rfl rfl (Nat.le_of_ble_eq_true rfl) (by first | (rw [hRc]; exact Nat.le_of_ble_eq_true rfl) | (rw [hRc]; dsimp only; omega)) (by first | (rw [hRs]; exact Nat.le_of_ble_eq_true rfl) | (rw [hRs]; dsimp only; omega)) ?_ (fun X q C1 h => h.elim)
        rintro _ _ ⟨rfl, rfl⟩
        dsimp only [List.cons_append, List.nil_append, Option.toList]
        refine gg_up1 ?_
        refine gg_iret (pc := 84) E Fn rfl (rfl) dX5_growsBy_84 (by first | exact Nat.le_of_ble_eq_true rfl | (dsimp only; omega)) (by first | exact Nat.le_of_ble_eq_true rfl | (dsimp only; omega)) ?_
        exact ⟨z1, S1, U1, row, by unfold qGrow; rw [if_pos (th_1.mp c35), tn_nI (j := w1) (by omega), tn_nI (j := t1) (by omega)], rfl⟩
      · refine gg_iconst (v := 0) (pc := 38) E dX5_growsBy_38 (by decide) ?_
        refine gg_iret (pc := 39) E Fn rfl (rfl) dX5_growsBy_39 (by first | exact Nat.le_of_ble_eq_true rfl | (dsimp only; omega)) (by first | exact Nat.le_of_ble_eq_true rfl | (dsimp only; omega)) ?_
        exact ⟨_, sums, su, asd, by unfold qGrow; rw [if_neg (fun q => c35 (th_1.mpr q))], congrArg (fun z => [[(h, .inl (4, mo_f ad z))], [(ad 0, gg_ai g 1030 row)], [(ad 1, gg_ai g 1030 asd)], [(ad 9, gg_ai g 10 sums)], [(ad 10, gg_ai g 8 su)]]) (mu_11 _)⟩

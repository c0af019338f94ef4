set_option maxRecDepth 100000
/-- the four bytes of a word, the first the highest -/
def fr (w : Int32) : Nat → Int32 := fun q => b8 (w >>> (nI (8 * (3 - q)) &&& 31))
def fours (w : Int32) : List Int32 := tN (fr w) 4
theorem mu_k {x : Nat → Int32} {k : Nat} {v : Int32} (h : x k = v) : x = upd x k v := by
  funext z
  by_cases e : z = k
  · subst e; rw [pk_us, h]
  · rw [pk_un e]
theorem fours_len (w : Int32) : (fours w).length = 4 := tN_len _ _
theorem fr_s {x o : Nat → Int32} {L : List Int32} {w a : Int32} {j1 : Nat} (h : j1 < 4) : upd (upd x 13 a) 13 (nI ((L ++ tN (fr w) (4 - (j1 + 1))).length + 1)) = upd x 13 (nI (L ++ tN (fr w) (4 - j1)).length) ∧ upd (lo o (L ++ tN (fr w) (4 - (j1 + 1)))) (L ++ tN (fr w) (4 - (j1 + 1))).length ((w >>> (nI (8 * j1) &&& 31)).toInt8.toInt32.toInt8.toInt32) = lo o (L ++ tN (fr w) (4 - j1)) := by
  have e : fr w (4 - (j1 + 1)) = b8 (w >>> (nI (8 * j1) &&& 31)) := by
    unfold fr
    rw [show 3 - (4 - (j1 + 1)) = j1 by omega]
  rw [show 4 - j1 = (4 - (j1 + 1)) + 1 by omega, ← tN_s, e, upd_2, len_s]
  exact ⟨rfl, by rw [← lo_s]; exact congrArg _ (b8_b8 _)⟩
set_option maxHeartbeats 4000000 in
theorem ct_X5_four {l : Launch} (hl : l.stackTraces = false) {g : gg_G}  {h : Nat} {ad : Nat → Nat} {x : Nat → Int32} {o : Nat → Int32} {L : List Int32} {w : Int32} (hL : L.length + 4 ≤ 800) : gg_C l g yX5_four (ws_ yX5_four cX5_four 3 none) { frames := 0, cells := 0, slots := 0, locals := 0 } [.ref h, .int w] [] [[(h, .inl (4, mo_f ad (upd x 13 (nI (L).length))))], [((ad 12), gg_ab g 800 (lo o L))]] (fun vv CC => vv = none ∧ CC = [[(h, .inl (4, mo_f ad (upd x 13 (nI (L ++ fours w).length))))], [((ad 12), gg_ab g 800 (lo o (L ++ fours w)))]]) gg_no := by
  refine gg_of (lv := [_, _, _]) (by decide) hl (Nat.le_of_ble_eq_true rfl) rfl ?_
  intro p e R s m args below meth c A Q hRf hRl hRc hRs E Fn hnm hex
  refine gg_iconst (v := 3) (pc := 0) E dX5_four_0 (by decide) ?_
  refine gg_istore_n (lv' := [_, _, _]) (pc := 1) E dX5_four_1 rfl (Nat.le_of_ble_eq_true rfl) rfl rfl ?_
  have L2 : ∀ (n : Nat) (j : Nat), j < n → (j ≤ 4) → gg_W p l e R s m args below meth c g A 3 Q 0 0 [[(h, .inl (4, mo_f ad (upd x 13 (nI (L ++ tN (fr w) (4 - j)).length))))], [((ad 12), gg_ab g 800 (lo o (L ++ tN (fr w) (4 - j))))]] [some (.ref h), some (.int w), some (.int (nI j - 1))] [] 2 := by
    intro n2
    induction n2 with
    | zero => intro j hmz; exact absurd hmz (Nat.not_lt_zero _)
    | succ n2 ih2 =>
      intro j hm2 hj
      refine gg_iload_n (pc := 2) E dX5_four_2 rfl rfl ?_
      refine gg_if_lt (tgt := 38) (pc := 3) E dX5_four_3 (by decide) (fun c3 => ?_) (fun c3 => ?_)
      · refine gg_vret (pc := 38) E Fn rfl dX5_four_38 (by first | exact Nat.le_of_ble_eq_true rfl | (dsimp only; omega)) (by first | exact Nat.le_of_ble_eq_true rfl | (dsimp only; omega)) ?_
        have hj0 : j = 0 := by
          rcases Nat.eq_zero_or_pos j with z | z
          · exact z
          · obtain ⟨j1, rfl⟩ : ∃ j1, j = j1 + 1 := ⟨j - 1, by omega⟩
            rw [nI_pred j1] at c3
            exact absurd c3 (nI_pos (by omega))
        subst hj0
        exact ⟨rfl, rfl⟩
      · have hj1 : 1 ≤ j := by
          rcases Nat.eq_zero_or_pos j with z | z
          · subst z
            exact absurd (by decide) c3
          · exact z
        obtain ⟨j1, rfl⟩ : ∃ j1, j = j1 + 1 := ⟨j - 1, by omega⟩
        rw [show nI (j1 + 1) - 1 = nI j1 from nI_pred j1]
        have hlen : (L ++ tN (fr w) (4 - (j1 + 1))).length < 800 := by rw [List.length_append, tN_len]; omega
        refine gg_aload_n (pc := 6) E dX5_four_6 rfl rfl ?_
        refine gg_get (pc := 7) E ck_X5 12 q2871 rfl (by decide) dX5_four_7 (gg_i 0 rfl) rfl ?_
        refine gg_aload_n (pc := 10) E dX5_four_10 rfl rfl ?_
        refine gg_get (pc := 11) E ck_X5 13 q2872 rfl (by decide) dX5_four_11 (gg_i 0 rfl) rfl ?_
        refine gg_topI (y := nI ((L ++ tN (fr w) (4 - (j1 + 1))).length)) pk_us ?_
        refine gg_iload_n (pc := 14) E dX5_four_14 rfl rfl ?_
        refine gg_bipush (v := 8) (pc := 15) E dX5_four_15 (by decide) ?_
        refine gg_iload_n (pc := 17) E dX5_four_17 rfl rfl ?_
        refine gg_imulN (pc := 18) E 8 j1 rfl rfl dX5_four_18 ?_
        refine gg_ishr (pc := 19) E dX5_four_19 ?_
        refine gg_i2b (pc := 20) E dX5_four_20 rfl ?_
        refine gg_bastN (M' := [_, _]) (pc := 21) E ((L ++ tN (fr w) (4 - (j1 + 1))).length) rfl (by omega) (by omega) dX5_four_21 1 rfl rfl ?_
        refine gg_aload_n (pc := 22) E dX5_four_22 rfl rfl ?_
        refine gg_dup (pc := 23) E dX5_four_23 rfl ?_
        refine gg_get (pc := 24) E ck_X5 13 q2872 rfl (by decide) dX5_four_24 (gg_i 0 rfl) rfl ?_
        refine gg_topI (y := nI ((L ++ tN (fr w) (4 - (j1 + 1))).length)) pk_us ?_
        refine gg_iconst (v := 1) (pc := 27) E dX5_four_27 (by decide) ?_
        refine gg_iaddN (pc := 28) E ((L ++ tN (fr w) (4 - (j1 + 1))).length) 1 rfl rfl dX5_four_28 ?_
        refine gg_putM (M' := [_, _]) (pc := 29) E ck_X5 13 q2872 rfl (by decide) dX5_four_29 0 rfl rfl (rfl) rfl (Nat.le_of_ble_eq_true rfl) rfl rfl ?_
        refine gg_iinc (lv' := [_, _, _]) (pc := 32) E dX5_four_32 rfl rfl (Nat.le_of_ble_eq_true rfl) rfl rfl ?_
        refine gg_goto (tgt := 2) (pc := 35) E dX5_four_35 (by decide) ?_
        refine gg_cv ?_ ?_ rfl (by first | exact Nat.le_refl _ | (dsimp only; omega)) (by first | exact Nat.le_refl _ | (dsimp only; omega)) (ih2 j1 (by omega) (by omega))
        · rw [(fr_s (x := x) (o := o) (L := L) (w := w) (by omega)).1, (fr_s (x := x) (o := o) (L := L) (w := w) (a := 0) (by omega)).2]
        · exact ⟨Or.inr rfl, Or.inr rfl, Or.inr (congrArg (fun z => some (Value.int z)) (dec_m1 _)), trivial⟩
  refine gg_cv ?_ ?_ rfl (by first | exact Nat.le_refl _ | (dsimp only; omega)) (by first | exact Nat.le_refl _ | (dsimp only; omega)) (L2 _ 4 (Nat.lt_succ_self _) (Nat.le_refl _))
  · rw [show tN (fr w) (4 - 4) = [] from rfl, List.append_nil]
  · exact ⟨Or.inr rfl, Or.inr rfl, Or.inr (by decide), trivial⟩
set_option maxHeartbeats 4000000 in
theorem ct_X5_appendInput {l : Launch} (hl : l.stackTraces = false) {g : gg_G}  {h : Nat} {ad : Nat → Nat} {x : Nat → Int32} {o : Nat → Int32} {L : List Int32} {w1 w2 w3 w4 w5 : Int32} (hL : L.length ≤ 800) (hx : x 13 = nI L.length) : gg_C l g yX5_appendInput (ws_ yX5_appendInput cX5_appendInput 6 (some .int)) { frames := 1, cells := 0, slots := 0, locals := 22 } [.ref h, .int w1, .int w2, .int w3, .int w4, .int w5] [] [[(h, .inl (4, mo_f ad x))], [((ad 12), gg_ab g 800 (lo o L))]] (fun vv CC => vv = some (.int (if 780 < L.length then -1 else nI (L ++ fours w1 ++ fours w2 ++ fours w3 ++ fours w4 ++ fours w5).length)) ∧ CC = [[(h, .inl (4, mo_f ad (upd (upd x 6 0) 13 (nI (if 780 < L.length then L else L ++ fours w1 ++ fours w2 ++ fours w3 ++ fours w4 ++ fours w5).length))))], [((ad 12), gg_ab g 800 (lo o (if 780 < L.length then L else L ++ fours w1 ++ fours w2 ++ fours w3 ++ fours w4 ++ fours w5)))]]) gg_no := by
  refine gg_of (lv := [_, _, _, _, _, _]) (by decide) hl (Nat.le_of_ble_eq_true rfl) rfl ?_
  intro p e R s m args below meth c A Q hRf hRl hRc hRs E Fn hnm hex
  refine gg_aload_n (pc := 0) E dX5_appendInput_0 rfl rfl ?_
  refine gg_iconst (v := 0) (pc := 1) E dX5_appendInput_1 (by decide) ?_
  refine gg_putM (M' := [_, _]) (pc := 2) E ck_X5 6 q2865 rfl (by decide) dX5_appendInput_2 0 rfl rfl (rfl) rfl (Nat.le_of_ble_eq_true rfl) rfl rfl ?_
  refine gg_aload_n (pc := 5) E dX5_appendInput_5 rfl rfl ?_
  refine gg_get (pc := 6) E ck_X5 13 q2872 rfl (by decide) dX5_appendInput_6 (gg_i 0 rfl) rfl ?_
  refine gg_topI (y := nI L.length) ((pk_un (by omega)).trans hx) ?_
  refine gg_sipush (v := 780) (pc := 9) E dX5_appendInput_9 (by decide) ?_
  refine gg_icmpN_le (tgt := 17) (pc := 12) E L.length 780 rfl rfl (by omega) (by omega) dX5_appendInput_12 (by decide) (fun c12 => ?_) (fun c12 => ?_)
  · rw [mu_k (x := upd x 6 0) (k := 13) (v := nI L.length) ((pk_un (by omega)).trans hx)]
    refine gg_aload_n (pc := 17) E dX5_appendInput_17 rfl rfl ?_
    refine gg_iload_n (pc := 18) E dX5_appendInput_18 rfl rfl ?_
    refine gg_callV (F := []) (As := [_]) (rest := []) (pc := 19) E ck_X5 (ct_X5_four (L := L) hl (by first | omega | (simp only [List.length_append, fours_len]; omega))) (cwV 1 E.2.2.2.2.1 (lw_V q2953 q2955 qs69 q179 q2956) rfl rfl rfl (by decide +kernel) ⟨by rw [hRf]; exact Nat.le_of_ble_eq_true rfl, by rw [hRl]; exact Nat.le_of_ble_eq_true rfl⟩) dX5_appendInput_19 [0, 1] (by decide) rfl rfl (fun _ h => by cases h) (gg_i 0 rfl) rfl rfl (Nat.le_of_ble_eq_true rfl) (by first | (rw [hRc]; exact Nat.le_of_ble_eq_true rfl) | (rw [hRc]; dsimp only; omega)) (by first | (rw [hRs]; exact Nat.le_of_ble_eq_true rfl) | (rw [hRs]; dsimp only; omega)) ?_ (fun X q C1 h => h.elim)
    rintro _ _ ⟨rfl, rfl⟩
    dsimp only [List.cons_append, List.nil_append, Option.toList]
    refine gg_up1 ?_
    refine gg_up1 ?_
    refine gg_aload_n (pc := 22) E dX5_appendInput_22 rfl rfl ?_
    refine gg_iload_n (pc := 23) E dX5_appendInput_23 rfl rfl ?_
    refine gg_callV (F := []) (As := [_]) (rest := []) (pc := 24) E ck_X5 (ct_X5_four (L := L ++ fours w1) hl (by first | omega | (simp only [List.length_append, fours_len]; omega))) (cwV 1 E.2.2.2.2.1 (lw_V q2953 q2955 qs69 q179 q2956) rfl rfl rfl (by decide +kernel) ⟨by rw [hRf]; exact Nat.le_of_ble_eq_true rfl, by rw [hRl]; exact Nat.le_of_ble_eq_true rfl⟩) dX5_appendInput_24 [0, 1] (by decide) rfl rfl (fun _ h => by cases h) (gg_i 0 rfl) rfl rfl (Nat.le_of_ble_eq_true rfl) (by first | (rw [hRc]; exact Nat.le_of_ble_eq_true rfl) | (rw [hRc]; dsimp only; omega)) (by first | (rw [hRs]; exact Nat.le_of_ble_eq_true rfl) | (rw [hRs]; dsimp only; omega)) ?_ (fun X q C1 h => h.elim)
    rintro _ _ ⟨rfl, rfl⟩
    dsimp only [List.cons_append, List.nil_append, Option.toList]
    refine gg_up1 ?_
    refine gg_up1 ?_
    refine gg_aload_n (pc := 27) E dX5_appendInput_27 rfl rfl ?_
    refine gg_iload_n (pc := 28) E dX5_appendInput_28 rfl rfl ?_
    refine gg_callV (F := []) (As := [_]) (rest := []) (pc := 29) E ck_X5 (ct_X5_four (L := L ++ fours w1 ++ fours w2) hl (by first | omega | (simp only [List.length_append, fours_len]; omega))) (cwV 1 E.2.2.2.2.1 (lw_V q2953 q2955 qs69 q179 q2956) rfl rfl rfl (by decide +kernel) ⟨by rw [hRf]; exact Nat.le_of_ble_eq_true rfl, by rw [hRl]; exact Nat.le_of_ble_eq_true rfl⟩) dX5_appendInput_29 [0, 1] (by decide) rfl rfl (fun _ h => by cases h) (gg_i 0 rfl) rfl rfl (Nat.le_of_ble_eq_true rfl) (by first | (rw [hRc]; exact Nat.le_of_ble_eq_true rfl) | (rw [hRc]; dsimp only; omega)) (by first | (rw [hRs]; exact Nat.le_of_ble_eq_true rfl) | (rw [hRs]; dsimp only; omega)) ?_ (fun X q C1 h => h.elim)
    rintro _ _ ⟨rfl, rfl⟩
    dsimp only [List.cons_append, List.nil_append, Option.toList]
    refine gg_up1 ?_
    refine gg_up1 ?_
    refine gg_aload_n (pc := 32) E dX5_appendInput_32 rfl rfl ?_
    refine gg_iload (pc := 33) E dX5_appendInput_33 rfl ?_
    refine gg_callV (F := []) (As := [_]) (rest := []) (pc := 35) E ck_X5 (ct_X5_four (L := L ++ fours w1 ++ fours w2 ++ fours w3) hl (by first | omega | (simp only [List.length_append, fours_len]; omega))) (cwV 1 E.2.2.2.2.1 (lw_V q2953 q2955 qs69 q179 q2956) rfl rfl rfl (by decide +kernel) ⟨by rw [hRf]; exact Nat.le_of_ble_eq_true rfl, by rw [hRl]; exact Nat.le_of_ble_eq_true rfl⟩) dX5_appendInput_35 [0, 1] (by decide) rfl rfl (fun _ h => by cases h) (gg_i 0 rfl) rfl rfl (Nat.le_of_ble_eq_true rfl) (by first | (rw [hRc]; exact Nat.le_of_ble_eq_true rfl) | (rw [hRc]; dsimp only; omega)) (by first | (rw [hRs]; exact Nat.le_of_ble_eq_true rfl) | (rw [hRs]; dsimp only; omega)) ?_ (fun X q C1 h => h.elim)
    rintro _ _ ⟨rfl, rfl⟩
    dsimp only [List.cons_append, List.nil_append, Option.toList]
    refine gg_up1 ?_
    refine gg_up1 ?_
    refine gg_aload_n (pc := 38) E dX5_appendInput_38 rfl rfl ?_
    refine gg_iload (pc := 39) E dX5_appendInput_39 rfl ?_
    refine gg_callV (F := []) (As := [_]) (rest := []) (pc := 41) E ck_X5 (ct_X5_four (L := L ++ fours w1 ++ fours w2 ++ fours w3 ++ fours w4) hl (by first | omega | (simp only [List.length_append, fours_len]; omega))) (cwV 1 E.2.2.2.2.1 (lw_V q2953 q2955 qs69 q179 q2956) rfl rfl rfl (by decide +kernel) ⟨by rw [hRf]; exact Nat.le_of_ble_eq_true rfl, by rw [hRl]; exact Nat.le_of_ble_eq_true rfl⟩) dX5_appendInput_41 [0, 1] (by decide) rfl rfl (fun _ h => by cases h) (gg_i 0 rfl) rfl rfl (Nat.le_of_ble_eq_true rfl) (by first | (rw [hRc]; exact Nat.le_of_ble_eq_true rfl) | (rw [hRc]; dsimp only; omega)) (by first | (rw [hRs]; exact Nat.le_of_ble_eq_true rfl) | (rw [hRs]; dsimp only; omega)) ?_ (fun X q C1 h => h.elim)
    rintro _ _ ⟨rfl, rfl⟩
    dsimp only [List.cons_append, List.nil_append, Option.toList]
    refine gg_up1 ?_
    refine gg_up1 ?_
    refine gg_aload_n (pc := 44) E dX5_appendInput_44 rfl rfl ?_
    refine gg_get (pc := 45) E ck_X5 13 q2872 rfl (by decide) dX5_appendInput_45 (gg_i 0 rfl) rfl ?_
    refine gg_iret (pc := 48) E Fn rfl (rfl) dX5_appendInput_48 (by first | exact Nat.le_of_ble_eq_true rfl | (dsimp only; omega)) (by first | exact Nat.le_of_ble_eq_true rfl | (dsimp only; omega)) ?_
    have hc : ¬ 780 < L.length := by omega
    rw [if_neg hc, if_neg hc]
    exact ⟨congrArg (fun z => some (Value.int z)) pk_us, rfl⟩
  · refine gg_iconst (v := (-1)) (pc := 15) E dX5_appendInput_15 (by decide) ?_
    refine gg_iret (pc := 16) E Fn rfl (rfl) dX5_appendInput_16 (by first | exact Nat.le_of_ble_eq_true rfl | (dsimp only; omega)) (by first | exact Nat.le_of_ble_eq_true rfl | (dsimp only; omega)) ?_
    rw [if_pos c12, if_pos c12]
    exact ⟨rfl, by rw [← mu_k (x := upd x 6 0) (k := 13) (v := nI L.length) ((pk_un (by omega)).trans hx)]⟩

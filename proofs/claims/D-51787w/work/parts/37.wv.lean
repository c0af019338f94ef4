set_option maxRecDepth 100000
theorem lo_take {o : Nat → Int32} {L : List Int32} {n : Nat} (h : n ≤ L.length) : lo o L = lo (lo o L) (L.take n) := by
  funext k
  conv => rhs; unfold lo
  by_cases q : k < (L.take n).length
  · rw [if_pos q]
    rw [List.length_take] at q
    unfold lo
    rw [if_pos (by omega), List.getD_eq_getElem?_getD, List.getD_eq_getElem?_getD, List.getElem?_take_of_lt (by omega)]
  · rw [if_neg q]
    rfl
set_option maxHeartbeats 4000000 in
theorem ct_X5_truncateInput {l : Launch} (hl : l.stackTraces = false) {g : gg_G}  {h : Nat} {ad : Nat → Nat} {x : Nat → Int32} {L : List Int32} {k : Int32} (hL : L.length ≤ 800) (hx : x 13 = nI L.length) : gg_C l g yX5_truncateInput (ws_ yX5_truncateInput cX5_truncateInput 2 (some .boolean)) { frames := 1, cells := 0, slots := 0, locals := 25 } [.ref h, .int k] [] [[(h, .inl (4, mo_f ad x))]] (fun vv CC => vv = some (.int (if 0 ≤ k.toInt ∧ k.toInt ≤ L.length then 1 else 0)) ∧ CC = [[(h, .inl (4, mo_f ad (if 0 ≤ k.toInt ∧ k.toInt ≤ L.length then upd (upd x 6 0) 13 k else upd x 6 0)))]]) gg_no := by
  refine gg_of (lv := [_, _]) (by decide) hl (Nat.le_of_ble_eq_true rfl) rfl ?_
  intro p e R s m args below meth c A Q hRf hRl hRc hRs E Fn hnm hex
  refine gg_aload_n (pc := 0) E dX5_truncateInput_0 rfl rfl ?_
  refine gg_iconst (v := 0) (pc := 1) E dX5_truncateInput_1 (by decide) ?_
  refine gg_putM (M' := [_]) (pc := 2) E ck_X5 6 q2865 rfl (by decide) dX5_truncateInput_2 0 rfl rfl (rfl) rfl (Nat.le_of_ble_eq_true rfl) rfl rfl ?_
  refine gg_iload_n (pc := 5) E dX5_truncateInput_5 rfl rfl ?_
  refine gg_i2l (pc := 6) E dX5_truncateInput_6 rfl ?_
  refine gg_lconst (v := 0) (pc := 7) E dX5_truncateInput_7 (by decide) ?_
  refine gg_aload_n (pc := 8) E dX5_truncateInput_8 rfl rfl ?_
  refine gg_get (pc := 9) E ck_X5 13 q2872 rfl (by decide) dX5_truncateInput_9 (gg_i 0 rfl) rfl ?_
  refine gg_topI (y := nI L.length) ((pk_un (by omega)).trans hx) ?_
  refine gg_i2l (pc := 12) E dX5_truncateInput_12 rfl ?_
  refine gg_callS (F := [_]) (As := [_, _, _]) (rest := []) (pc := 13) E (ct_X5_in hl ) (va_cwS 3 E.2.2.2.2.1 (lw_S q2961 q2962 q179 q2963) rfl rfl rfl (by decide +kernel) ⟨by rw [hRf]; exact Nat.le_of_ble_eq_true rfl, by rw [hRl]; exact Nat.le_of_ble_eq_true rfl⟩) dX5_truncateInput_13 [] (by decide) rfl rfl (fun _ h => by cases h) rfl rfl (Nat.le_of_ble_eq_true rfl) (by first | (rw [hRc]; exact Nat.le_of_ble_eq_true rfl) | (rw [hRc]; dsimp only; omega)) (by first | (rw [hRs]; exact Nat.le_of_ble_eq_true rfl) | (rw [hRs]; dsimp only; omega)) ?_ (fun X q C1 h => h.elim)
  rintro _ _ ⟨rfl, rfl⟩
  dsimp only [List.cons_append, List.nil_append, Option.toList]
  refine gg_topI (y := if 0 ≤ k.toInt ∧ k.toInt ≤ L.length then 1 else 0) (gg_ifc (in_ab (by decide) (by rw [Int32.toInt_toInt64, nI_toInt (by omega)]))) ?_
  refine gg_ifP_ne (tgt := 21) (pc := 16) E dX5_truncateInput_16 (by decide) (fun c16 => ?_) (fun c16 => ?_)
  · refine gg_aload_n (pc := 21) E dX5_truncateInput_21 rfl rfl ?_
    refine gg_iload_n (pc := 22) E dX5_truncateInput_22 rfl rfl ?_
    refine gg_putM (M' := [_]) (pc := 23) E ck_X5 13 q2872 rfl (by decide) dX5_truncateInput_23 0 rfl rfl (rfl) rfl (Nat.le_of_ble_eq_true rfl) rfl rfl ?_
    refine gg_iconst (v := 1) (pc := 26) E dX5_truncateInput_26 (by decide) ?_
    refine gg_iret (pc := 27) E Fn rfl (gg_nz (by first | decide | assumption | exact gg_b01 | (split <;> decide))) dX5_truncateInput_27 (by first | exact Nat.le_of_ble_eq_true rfl | (dsimp only; omega)) (by first | exact Nat.le_of_ble_eq_true rfl | (dsimp only; omega)) ?_
    rw [if_pos c16, if_pos c16]
    exact ⟨rfl, rfl⟩
  · refine gg_iconst (v := 0) (pc := 19) E dX5_truncateInput_19 (by decide) ?_
    refine gg_iret (pc := 20) E Fn rfl (gg_nz (by first | decide | assumption | exact gg_b01 | (split <;> decide))) dX5_truncateInput_20 (by first | exact Nat.le_of_ble_eq_true rfl | (dsimp only; omega)) (by first | exact Nat.le_of_ble_eq_true rfl | (dsimp only; omega)) ?_
    rw [if_neg c16, if_neg c16]
    exact ⟨rfl, rfl⟩
set_option maxHeartbeats 4000000 in
theorem ct_X5_errorCode {l : Launch} (hl : l.stackTraces = false) {g : gg_G}  {h : Nat} {ad : Nat → Nat} {x : Nat → Int32}  : gg_C l g yX5_errorCode (ws_ yX5_errorCode cX5_errorCode 1 (some .int)) { frames := 0, cells := 0, slots := 0, locals := 0 } [.ref h] [] [[(h, .inl (4, mo_f ad x))]] (fun vv CC => vv = some (.int (x 14)) ∧ CC = [[(h, .inl (4, mo_f ad (upd x 6 0)))]]) gg_no := by
  refine gg_of (lv := [_]) (by decide) hl (Nat.le_of_ble_eq_true rfl) rfl ?_
  intro p e R s m args below meth c A Q hRf hRl hRc hRs E Fn hnm hex
  refine gg_aload_n (pc := 0) E dX5_errorCode_0 rfl rfl ?_
  refine gg_iconst (v := 0) (pc := 1) E dX5_errorCode_1 (by decide) ?_
  refine gg_putM (M' := [_]) (pc := 2) E ck_X5 6 q2865 rfl (by decide) dX5_errorCode_2 0 rfl rfl (rfl) rfl (Nat.le_of_ble_eq_true rfl) rfl rfl ?_
  refine gg_aload_n (pc := 5) E dX5_errorCode_5 rfl rfl ?_
  refine gg_get (pc := 6) E ck_X5 14 q2873 rfl (by decide) dX5_errorCode_6 (gg_i 0 rfl) rfl ?_
  refine gg_iret (pc := 9) E Fn rfl (rfl) dX5_errorCode_9 (by first | exact Nat.le_of_ble_eq_true rfl | (dsimp only; omega)) (by first | exact Nat.le_of_ble_eq_true rfl | (dsimp only; omega)) ?_
  exact ⟨rfl, rfl⟩
set_option maxHeartbeats 4000000 in
theorem ct_X5_errorOffset {l : Launch} (hl : l.stackTraces = false) {g : gg_G}  {h : Nat} {ad : Nat → Nat} {x : Nat → Int32}  : gg_C l g yX5_errorOffset (ws_ yX5_errorOffset cX5_errorOffset 1 (some .int)) { frames := 0, cells := 0, slots := 0, locals := 0 } [.ref h] [] [[(h, .inl (4, mo_f ad x))]] (fun vv CC => vv = some (.int (x 15)) ∧ CC = [[(h, .inl (4, mo_f ad (upd x 6 0)))]]) gg_no := by
  refine gg_of (lv := [_]) (by decide) hl (Nat.le_of_ble_eq_true rfl) rfl ?_
  intro p e R s m args below meth c A Q hRf hRl hRc hRs E Fn hnm hex
  refine gg_aload_n (pc := 0) E dX5_errorOffset_0 rfl rfl ?_
  refine gg_iconst (v := 0) (pc := 1) E dX5_errorOffset_1 (by decide) ?_
  refine gg_putM (M' := [_]) (pc := 2) E ck_X5 6 q2865 rfl (by decide) dX5_errorOffset_2 0 rfl rfl (rfl) rfl (Nat.le_of_ble_eq_true rfl) rfl rfl ?_
  refine gg_aload_n (pc := 5) E dX5_errorOffset_5 rfl rfl ?_
  refine gg_get (pc := 6) E ck_X5 15 q2874 rfl (by decide) dX5_errorOffset_6 (gg_i 0 rfl) rfl ?_
  refine gg_iret (pc := 9) E Fn rfl (rfl) dX5_errorOffset_9 (by first | exact Nat.le_of_ble_eq_true rfl | (dsimp only; omega)) (by first | exact Nat.le_of_ble_eq_true rfl | (dsimp only; omega)) ?_
  exact ⟨rfl, rfl⟩
set_option maxHeartbeats 4000000 in
theorem ct_X5_thrown {l : Launch} (hl : l.stackTraces = false) {g : gg_G}  {h : Nat} {ad : Nat → Nat} {x : Nat → Int32}  : gg_C l g yX5_thrown (ws_ yX5_thrown cX5_thrown 1 (some .int)) { frames := 0, cells := 0, slots := 0, locals := 0 } [.ref h] [(h, .inl (4, mo_f ad x))] [] (fun vv CC => vv = some (.int (x 6)) ∧ CC = []) gg_no := by
  refine gg_of (lv := [_]) (by decide) hl (Nat.le_of_ble_eq_true rfl) rfl ?_
  intro p e R s m args below meth c A Q hRf hRl hRc hRs E Fn hnm hex
  refine gg_aload_n (pc := 0) E dX5_thrown_0 rfl rfl ?_
  refine gg_get (pc := 1) E ck_X5 6 q2865 rfl (by decide) dX5_thrown_1 (gg_r 0 rfl) rfl ?_
  refine gg_iret (pc := 4) E Fn rfl (rfl) dX5_thrown_4 (by first | exact Nat.le_of_ble_eq_true rfl | (dsimp only; omega)) (by first | exact Nat.le_of_ble_eq_true rfl | (dsimp only; omega)) ?_
  exact ⟨rfl, rfl⟩
set_option maxHeartbeats 4000000 in
theorem ct_X5_ending {l : Launch} (hl : l.stackTraces = false) {g : gg_G}  {h : Nat} {ad : Nat → Nat} {x : Nat → Int32}  : gg_C l g yX5_ending (ws_ yX5_ending cX5_ending 1 none) { frames := 0, cells := 0, slots := 0, locals := 0 } [.ref h] [] [[(h, .inl (4, mo_f ad x))]] (fun vv CC => vv = none ∧ CC = [[(h, .inl (4, mo_f ad (upd (upd (upd x 14 (x 20)) 15 (if x 20 = 0 then -1 else x 21)) 13 0)))]]) gg_no := by
  refine gg_of (lv := [_]) (by decide) hl (Nat.le_of_ble_eq_true rfl) rfl ?_
  intro p e R s m args below meth c A Q hRf hRl hRc hRs E Fn hnm hex
  refine gg_aload_n (pc := 0) E dX5_ending_0 rfl rfl ?_
  refine gg_aload_n (pc := 1) E dX5_ending_1 rfl rfl ?_
  refine gg_get (pc := 2) E ck_X5 20 q2879 rfl (by decide) dX5_ending_2 (gg_i 0 rfl) rfl ?_
  refine gg_putM (M' := [_]) (pc := 5) E ck_X5 14 q2873 rfl (by decide) dX5_ending_5 0 rfl rfl (rfl) rfl (Nat.le_of_ble_eq_true rfl) rfl rfl ?_
  refine gg_aload_n (pc := 8) E dX5_ending_8 rfl rfl ?_
  refine gg_aload_n (pc := 9) E dX5_ending_9 rfl rfl ?_
  refine gg_get (pc := 10) E ck_X5 20 q2879 rfl (by decide) dX5_ending_10 (gg_i 0 rfl) rfl ?_
  refine gg_if_ne (tgt := 20) (pc := 13) E dX5_ending_13 (by decide) (fun c13 => ?_) (fun c13 => ?_)
  · refine gg_aload_n (pc := 20) E dX5_ending_20 rfl rfl ?_
    refine gg_get (pc := 21) E ck_X5 21 q2880 rfl (by decide) dX5_ending_21 (gg_i 0 rfl) rfl ?_
    refine gg_topI (y := if x 20 = 0 then -1 else x 21) (if_neg c13).symm ?_
    refine gg_putM (M' := [_]) (pc := 24) E ck_X5 15 q2874 rfl (by decide) dX5_ending_24 0 rfl rfl (rfl) rfl (Nat.le_of_ble_eq_true rfl) rfl rfl ?_
    refine gg_aload_n (pc := 27) E dX5_ending_27 rfl rfl ?_
    refine gg_iconst (v := 0) (pc := 28) E dX5_ending_28 (by decide) ?_
    refine gg_putM (M' := [_]) (pc := 29) E ck_X5 13 q2872 rfl (by decide) dX5_ending_29 0 rfl rfl (rfl) rfl (Nat.le_of_ble_eq_true rfl) rfl rfl ?_
    refine gg_vret (pc := 32) E Fn rfl dX5_ending_32 (by first | exact Nat.le_of_ble_eq_true rfl | (dsimp only; omega)) (by first | exact Nat.le_of_ble_eq_true rfl | (dsimp only; omega)) ?_
    exact ⟨rfl, rfl⟩
  · refine gg_iconst (v := (-1)) (pc := 16) E dX5_ending_16 (by decide) ?_
    refine gg_goto (tgt := 24) (pc := 17) E dX5_ending_17 (by decide) ?_
    refine gg_topI (y := if x 20 = 0 then -1 else x 21) (if_pos c13).symm ?_
    refine gg_putM (M' := [_]) (pc := 24) E ck_X5 15 q2874 rfl (by decide) dX5_ending_24 0 rfl rfl (rfl) rfl (Nat.le_of_ble_eq_true rfl) rfl rfl ?_
    refine gg_aload_n (pc := 27) E dX5_ending_27 rfl rfl ?_
    refine gg_iconst (v := 0) (pc := 28) E dX5_ending_28 (by decide) ?_
    refine gg_putM (M' := [_]) (pc := 29) E ck_X5 13 q2872 rfl (by decide) dX5_ending_29 0 rfl rfl (rfl) rfl (Nat.le_of_ble_eq_true rfl) rfl rfl ?_
    refine gg_vret (pc := 32) E Fn rfl dX5_ending_32 (by first | exact Nat.le_of_ble_eq_true rfl | (dsimp only; omega)) (by first | exact Nat.le_of_ble_eq_true rfl | (dsimp only; omega)) ?_
    exact ⟨rfl, rfl⟩
set_option maxHeartbeats 4000000 in
theorem ct_X5_need {l : Launch} (hl : l.stackTraces = false) {g : gg_G}  {h : Nat} {ad : Nat → Nat} {x : Nat → Int32} {z k : Int32}  : gg_C l g yX5_need (ws_ yX5_need cX5_need 3 none) { frames := 0, cells := 0, slots := 0, locals := 0 } [.ref h, .int z, .int k] [] [[(h, .inl (4, mo_f ad x))]] (fun vv CC => vv = none ∧ CC = [[(h, .inl (4, mo_f ad (if x 20 = 0 ∧ z = 0 then upd (upd x 20 k) 21 (x 16) else x)))]]) gg_no := by
  refine gg_of (lv := [_, _, _]) (by decide) hl (Nat.le_of_ble_eq_true rfl) rfl ?_
  intro p e R s m args below meth c A Q hRf hRl hRc hRs E Fn hnm hex
  refine gg_aload_n (pc := 0) E dX5_need_0 rfl rfl ?_
  refine gg_get (pc := 1) E ck_X5 20 q2879 rfl (by decide) dX5_need_1 (gg_i 0 rfl) rfl ?_
  refine gg_if_ne (tgt := 24) (pc := 4) E dX5_need_4 (by decide) (fun c4 => ?_) (fun c4 => ?_)
  · refine gg_vret (pc := 24) E Fn rfl dX5_need_24 (by first | exact Nat.le_of_ble_eq_true rfl | (dsimp only; omega)) (by first | exact Nat.le_of_ble_eq_true rfl | (dsimp only; omega)) ?_
    exact ⟨rfl, by rw [if_neg (fun q => c4 q.1)]⟩
  · refine gg_iload_n (pc := 7) E dX5_need_7 rfl rfl ?_
    refine gg_if_ne (tgt := 24) (pc := 8) E dX5_need_8 (by decide) (fun c8 => ?_) (fun c8 => ?_)
    · refine gg_vret (pc := 24) E Fn rfl dX5_need_24 (by first | exact Nat.le_of_ble_eq_true rfl | (dsimp only; omega)) (by first | exact Nat.le_of_ble_eq_true rfl | (dsimp only; omega)) ?_
      exact ⟨rfl, by rw [if_neg (fun q => c8 q.2)]⟩
    · refine gg_aload_n (pc := 11) E dX5_need_11 rfl rfl ?_
      refine gg_iload_n (pc := 12) E dX5_need_12 rfl rfl ?_
      refine gg_putM (M' := [_]) (pc := 13) E ck_X5 20 q2879 rfl (by decide) dX5_need_13 0 rfl rfl (rfl) rfl (Nat.le_of_ble_eq_true rfl) rfl rfl ?_
      refine gg_aload_n (pc := 16) E dX5_need_16 rfl rfl ?_
      refine gg_aload_n (pc := 17) E dX5_need_17 rfl rfl ?_
      refine gg_get (pc := 18) E ck_X5 16 q2875 rfl (by decide) dX5_need_18 (gg_i 0 rfl) rfl ?_
      refine gg_putM (M' := [_]) (pc := 21) E ck_X5 21 q2880 rfl (by decide) dX5_need_21 0 rfl rfl (rfl) rfl (Nat.le_of_ble_eq_true rfl) rfl rfl ?_
      refine gg_vret (pc := 24) E Fn rfl dX5_need_24 (by first | exact Nat.le_of_ble_eq_true rfl | (dsimp only; omega)) (by first | exact Nat.le_of_ble_eq_true rfl | (dsimp only; omega)) ?_
      exact ⟨rfl, by rw [if_pos ⟨c4, c8⟩] <;> rfl⟩
set_option maxHeartbeats 4000000 in
theorem ct_X5_isLetter {l : Launch} (hl : l.stackTraces = false) {g : gg_G}  {h : Nat} {ad : Nat → Nat} {x : Nat → Int32} {b : Nat → Int32} {i bn : Nat} (hx : x 13 = nI bn) (hbn : bn ≤ 800) (hi : i ≤ 800) : gg_C l g yX5_isLetter (ws_ yX5_isLetter cX5_isLetter 2 (some .boolean)) { frames := 1, cells := 0, slots := 0, locals := 25 } [.ref h, .int (nI i)] [(h, .inl (4, mo_f ad x)), ((ad 12), gg_ab g 800 b)] [] (fun vv CC => vv = some (.int (if i < bn ∧ 97 ≤ (b i).toInt ∧ (b i).toInt ≤ 122 then 1 else 0)) ∧ CC = []) gg_no := by
  refine gg_of (lv := [_, _]) (by decide) hl (Nat.le_of_ble_eq_true rfl) rfl ?_
  intro p e R s m args below meth c A Q hRf hRl hRc hRs E Fn hnm hex
  refine gg_iload_n (pc := 0) E dX5_isLetter_0 rfl rfl ?_
  refine gg_aload_n (pc := 1) E dX5_isLetter_1 rfl rfl ?_
  refine gg_get (pc := 2) E ck_X5 13 q2872 rfl (by decide) dX5_isLetter_2 (gg_r 0 rfl) rfl ?_
  refine gg_topI (y := nI bn) hx ?_
  refine gg_icmpN_ge (tgt := 31) (pc := 5) E i bn rfl rfl (by omega) (by omega) dX5_isLetter_5 (by decide) (fun c5 => ?_) (fun c5 => ?_)
  · refine gg_iconst (v := 0) (pc := 31) E dX5_isLetter_31 (by decide) ?_
    refine gg_iret (pc := 32) E Fn rfl (gg_nz (by first | decide | assumption | exact gg_b01 | (split <;> decide))) dX5_isLetter_32 (by first | exact Nat.le_of_ble_eq_true rfl | (dsimp only; omega)) (by first | exact Nat.le_of_ble_eq_true rfl | (dsimp only; omega)) ?_
    exact ⟨congrArg (fun z => some (Value.int z)) (if_neg (fun q => by have := q.1; omega)).symm, rfl⟩
  · refine gg_aload_n (pc := 8) E dX5_isLetter_8 rfl rfl ?_
    refine gg_get (pc := 9) E ck_X5 12 q2871 rfl (by decide) dX5_isLetter_9 (gg_r 0 rfl) rfl ?_
    refine gg_iload_n (pc := 12) E dX5_isLetter_12 rfl rfl ?_
    refine gg_baldN (pc := 13) E i rfl (by omega) (by omega) dX5_isLetter_13 (gg_r 1 rfl) ?_
    refine gg_i2l (pc := 14) E dX5_isLetter_14 rfl ?_
    refine gg_ldc2 (pc := 15) E q2992 dX5_isLetter_15 ?_
    refine gg_ldc2 (pc := 18) E q2993 dX5_isLetter_18 ?_
    refine gg_callS (F := []) (As := [_, _, _]) (rest := []) (pc := 21) E (ct_X5_in hl ) (va_cwS 3 E.2.2.2.2.1 (lw_S q2961 q2962 q179 q2963) rfl rfl rfl (by decide +kernel) ⟨by rw [hRf]; exact Nat.le_of_ble_eq_true rfl, by rw [hRl]; exact Nat.le_of_ble_eq_true rfl⟩) dX5_isLetter_21 [] (by decide) rfl rfl (fun _ h => by cases h) rfl rfl (Nat.le_of_ble_eq_true rfl) (by first | (rw [hRc]; exact Nat.le_of_ble_eq_true rfl) | (rw [hRc]; dsimp only; omega)) (by first | (rw [hRs]; exact Nat.le_of_ble_eq_true rfl) | (rw [hRs]; dsimp only; omega)) ?_ (fun X q C1 h => h.elim)
    rintro _ _ ⟨rfl, rfl⟩
    dsimp only [List.cons_append, List.nil_append, Option.toList]
    refine gg_topI (y := if 97 ≤ (b i).toInt ∧ (b i).toInt ≤ 122 then 1 else 0) (gg_ifc (in_ab (by decide) (by decide))) ?_
    refine gg_ifP_eq (tgt := 31) (pc := 24) E dX5_isLetter_24 (by decide) (fun c24 => ?_) (fun c24 => ?_)
    · refine gg_iconst (v := 0) (pc := 31) E dX5_isLetter_31 (by decide) ?_
      refine gg_iret (pc := 32) E Fn rfl (gg_nz (by first | decide | assumption | exact gg_b01 | (split <;> decide))) dX5_isLetter_32 (by first | exact Nat.le_of_ble_eq_true rfl | (dsimp only; omega)) (by first | exact Nat.le_of_ble_eq_true rfl | (dsimp only; omega)) ?_
      exact ⟨congrArg (fun z => some (Value.int z)) (if_neg (fun q => c24 q.2)).symm, rfl⟩
    · refine gg_iconst (v := 1) (pc := 27) E dX5_isLetter_27 (by decide) ?_
      refine gg_goto (tgt := 32) (pc := 28) E dX5_isLetter_28 (by decide) ?_
      refine gg_iret (pc := 32) E Fn rfl (gg_nz (by first | decide | assumption | exact gg_b01 | (split <;> decide))) dX5_isLetter_32 (by first | exact Nat.le_of_ble_eq_true rfl | (dsimp only; omega)) (by first | exact Nat.le_of_ble_eq_true rfl | (dsimp only; omega)) ?_
      exact ⟨congrArg (fun z => some (Value.int z)) (if_pos ⟨by omega, c24⟩).symm, rfl⟩
set_option maxHeartbeats 4000000 in
theorem ct_X5_isDigit {l : Launch} (hl : l.stackTraces = false) {g : gg_G}  {h : Nat} {ad : Nat → Nat} {x : Nat → Int32} {b : Nat → Int32} {i bn : Nat} (hx : x 13 = nI bn) (hbn : bn ≤ 800) (hi : i ≤ 800) : gg_C l g yX5_isDigit (ws_ yX5_isDigit cX5_isDigit 2 (some .boolean)) { frames := 1, cells := 0, slots := 0, locals := 25 } [.ref h, .int (nI i)] [(h, .inl (4, mo_f ad x)), ((ad 12), gg_ab g 800 b)] [] (fun vv CC => vv = some (.int (if i < bn ∧ 48 ≤ (b i).toInt ∧ (b i).toInt ≤ 57 then 1 else 0)) ∧ CC = []) gg_no := by
  refine gg_of (lv := [_, _]) (by decide) hl (Nat.le_of_ble_eq_true rfl) rfl ?_
  intro p e R s m args below meth c A Q hRf hRl hRc hRs E Fn hnm hex
  refine gg_iload_n (pc := 0) E dX5_isDigit_0 rfl rfl ?_
  refine gg_aload_n (pc := 1) E dX5_isDigit_1 rfl rfl ?_
  refine gg_get (pc := 2) E ck_X5 13 q2872 rfl (by decide) dX5_isDigit_2 (gg_r 0 rfl) rfl ?_
  refine gg_topI (y := nI bn) hx ?_
  refine gg_icmpN_ge (tgt := 31) (pc := 5) E i bn rfl rfl (by omega) (by omega) dX5_isDigit_5 (by decide) (fun c5 => ?_) (fun c5 => ?_)
  · refine gg_iconst (v := 0) (pc := 31) E dX5_isDigit_31 (by decide) ?_
    refine gg_iret (pc := 32) E Fn rfl (gg_nz (by first | decide | assumption | exact gg_b01 | (split <;> decide))) dX5_isDigit_32 (by first | exact Nat.le_of_ble_eq_true rfl | (dsimp only; omega)) (by first | exact Nat.le_of_ble_eq_true rfl | (dsimp only; omega)) ?_
    exact ⟨congrArg (fun z => some (Value.int z)) (if_neg (fun q => by have := q.1; omega)).symm, rfl⟩
  · refine gg_aload_n (pc := 8) E dX5_isDigit_8 rfl rfl ?_
    refine gg_get (pc := 9) E ck_X5 12 q2871 rfl (by decide) dX5_isDigit_9 (gg_r 0 rfl) rfl ?_
    refine gg_iload_n (pc := 12) E dX5_isDigit_12 rfl rfl ?_
    refine gg_baldN (pc := 13) E i rfl (by omega) (by omega) dX5_isDigit_13 (gg_r 1 rfl) ?_
    refine gg_i2l (pc := 14) E dX5_isDigit_14 rfl ?_
    refine gg_ldc2 (pc := 15) E q2998 dX5_isDigit_15 ?_
    refine gg_ldc2 (pc := 18) E q2999 dX5_isDigit_18 ?_
    refine gg_callS (F := []) (As := [_, _, _]) (rest := []) (pc := 21) E (ct_X5_in hl ) (va_cwS 3 E.2.2.2.2.1 (lw_S q2961 q2962 q179 q2963) rfl rfl rfl (by decide +kernel) ⟨by rw [hRf]; exact Nat.le_of_ble_eq_true rfl, by rw [hRl]; exact Nat.le_of_ble_eq_true rfl⟩) dX5_isDigit_21 [] (by decide) rfl rfl (fun _ h => by cases h) rfl rfl (Nat.le_of_ble_eq_true rfl) (by first | (rw [hRc]; exact Nat.le_of_ble_eq_true rfl) | (rw [hRc]; dsimp only; omega)) (by first | (rw [hRs]; exact Nat.le_of_ble_eq_true rfl) | (rw [hRs]; dsimp only; omega)) ?_ (fun X q C1 h => h.elim)
    rintro _ _ ⟨rfl, rfl⟩
    dsimp only [List.cons_append, List.nil_append, Option.toList]
    refine gg_topI (y := if 48 ≤ (b i).toInt ∧ (b i).toInt ≤ 57 then 1 else 0) (gg_ifc (in_ab (by decide) (by decide))) ?_
    refine gg_ifP_eq (tgt := 31) (pc := 24) E dX5_isDigit_24 (by decide) (fun c24 => ?_) (fun c24 => ?_)
    · refine gg_iconst (v := 0) (pc := 31) E dX5_isDigit_31 (by decide) ?_
      refine gg_iret (pc := 32) E Fn rfl (gg_nz (by first | decide | assumption | exact gg_b01 | (split <;> decide))) dX5_isDigit_32 (by first | exact Nat.le_of_ble_eq_true rfl | (dsimp only; omega)) (by first | exact Nat.le_of_ble_eq_true rfl | (dsimp only; omega)) ?_
      exact ⟨congrArg (fun z => some (Value.int z)) (if_neg (fun q => c24 q.2)).symm, rfl⟩
    · refine gg_iconst (v := 1) (pc := 27) E dX5_isDigit_27 (by decide) ?_
      refine gg_goto (tgt := 32) (pc := 28) E dX5_isDigit_28 (by decide) ?_
      refine gg_iret (pc := 32) E Fn rfl (gg_nz (by first | decide | assumption | exact gg_b01 | (split <;> decide))) dX5_isDigit_32 (by first | exact Nat.le_of_ble_eq_true rfl | (dsimp only; omega)) (by first | exact Nat.le_of_ble_eq_true rfl | (dsimp only; omega)) ?_
      exact ⟨congrArg (fun z => some (Value.int z)) (if_pos ⟨by omega, c24⟩).symm, rfl⟩

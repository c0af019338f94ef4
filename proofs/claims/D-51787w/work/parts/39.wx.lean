set_option maxRecDepth 100000
/-- a need: a fault if there is none yet and it is not met -/
def nd (x : Nat → Int32) (z k : Int32) : Nat → Int32 := if x 20 = 0 ∧ z = 0 then upd (upd x 20 k) 21 (x 16) else x
theorem nd_out {x : Nat → Int32} {z k : Int32} {j : Nat} (h : j ≠ 20) (h2 : j ≠ 21) : nd x z k j = x j := by
  unfold nd
  split
  · rw [pk_un h2, pk_un h]
  · rfl
def nhX (x : Nat → Int32) (a b2 : Int32) : Nat → Int32 := nd (nd x (if x 18 = 2 then 1 else 0) 1) (if a ≤ x 19 ∧ x 19 ≤ b2 then 1 else 0) 2
def nhV (x : Nat → Int32) (a b2 : Int32) : Int32 := if nhX x a b2 20 = 0 then x 19 else a
theorem nhX_out {x : Nat → Int32} {a b2 : Int32} {j : Nat} (h : j ≠ 20) (h2 : j ≠ 21) : nhX x a b2 j = x j := by
  unfold nhX
  rw [nd_out h h2, nd_out h h2]
set_option maxHeartbeats 4000000 in
theorem ct_X5_starts {l : Launch} (hl : l.stackTraces = false) {g : gg_G}  {h : Nat} {ad : Nat → Nat} {x : Nat → Int32} {b : Nat → Int32} {bn : Nat} (hx : x 13 = nI bn) (hbn : bn ≤ 800) : gg_C l g yX5_starts (ws_ yX5_starts cX5_starts 1 none) { frames := 3, cells := 0, slots := 0, locals := 66 } [.ref h] [((ad 12), gg_ab g 800 b)] [[(h, .inl (4, mo_f ad x))]] (fun vv CC => vv = none ∧ CC = [[(h, .inl (4, mo_f ad (goX b bn (upd (upd x 20 0) 17 0))))]]) gg_no := by
  refine gg_of (lv := [_]) (by decide) hl (Nat.le_of_ble_eq_true rfl) rfl ?_
  intro p e R s m args below meth c A Q hRf hRl hRc hRs E Fn hnm hex
  refine gg_aload_n (pc := 0) E dX5_starts_0 rfl rfl ?_
  refine gg_iconst (v := 0) (pc := 1) E dX5_starts_1 (by decide) ?_
  refine gg_putM (M' := [_]) (pc := 2) E ck_X5 20 q2879 rfl (by decide) dX5_starts_2 0 rfl rfl (rfl) rfl (Nat.le_of_ble_eq_true rfl) rfl rfl ?_
  refine gg_aload_n (pc := 5) E dX5_starts_5 rfl rfl ?_
  refine gg_iconst (v := 0) (pc := 6) E dX5_starts_6 (by decide) ?_
  refine gg_putM (M' := [_]) (pc := 7) E ck_X5 17 q2876 rfl (by decide) dX5_starts_7 0 rfl rfl (rfl) rfl (Nat.le_of_ble_eq_true rfl) rfl rfl ?_
  refine gg_aload_n (pc := 10) E dX5_starts_10 rfl rfl ?_
  refine gg_callV (F := []) (As := []) (rest := []) (pc := 11) E ck_X5 (ct_X5_goesOn hl ((pk_un (by omega)).trans ((pk_un (by omega)).trans hx)) (hbn) (pk_us) (Nat.zero_le bn)) (cwV 0 E.2.2.2.2.1 (lw_V q2984 q2986 qs72 q179 q2987) rfl rfl rfl (by decide +kernel) ⟨by rw [hRf]; exact Nat.le_of_ble_eq_true rfl, by rw [hRl]; exact Nat.le_of_ble_eq_true rfl⟩) dX5_starts_11 [0] (by decide) rfl rfl (List.forall_mem_cons.mpr ⟨(gg_r 0 rfl), (fun _ h => by cases h)⟩) (gg_i 0 rfl) rfl rfl (Nat.le_of_ble_eq_true rfl) (by first | (rw [hRc]; exact Nat.le_of_ble_eq_true rfl) | (rw [hRc]; dsimp only; omega)) (by first | (rw [hRs]; exact Nat.le_of_ble_eq_true rfl) | (rw [hRs]; dsimp only; omega)) ?_ (fun X q C1 h => h.elim)
  rintro _ _ ⟨rfl, rfl⟩
  dsimp only [List.cons_append, List.nil_append, Option.toList]
  refine gg_vret (pc := 14) E Fn rfl dX5_starts_14 (by first | exact Nat.le_of_ble_eq_true rfl | (dsimp only; omega)) (by first | exact Nat.le_of_ble_eq_true rfl | (dsimp only; omega)) ?_
  exact ⟨rfl, rfl⟩
set_option maxHeartbeats 4000000 in
theorem ct_X5_semicolon {l : Launch} (hl : l.stackTraces = false) {g : gg_G}  {h : Nat} {ad : Nat → Nat} {x : Nat → Int32} {b : Nat → Int32} {bn p0 : Nat} (hx : x 13 = nI bn) (hbn : bn ≤ 800) (hp : x 17 = nI p0) (hpb : p0 ≤ bn) : gg_C l g yX5_semicolon (ws_ yX5_semicolon cX5_semicolon 1 none) { frames := 3, cells := 0, slots := 0, locals := 66 } [.ref h] [((ad 12), gg_ab g 800 b)] [[(h, .inl (4, mo_f ad x))]] (fun vv CC => vv = none ∧ CC = [[(h, .inl (4, mo_f ad (goX b bn (nd x (if x 18 = 3 then 1 else 0) 1))))]]) gg_no := by
  refine gg_of (lv := [_]) (by decide) hl (Nat.le_of_ble_eq_true rfl) rfl ?_
  intro p e R s m args below meth c A Q hRf hRl hRc hRs E Fn hnm hex
  refine gg_aload_n (pc := 0) E dX5_semicolon_0 rfl rfl ?_
  refine gg_aload_n (pc := 1) E dX5_semicolon_1 rfl rfl ?_
  refine gg_get (pc := 2) E ck_X5 18 q2877 rfl (by decide) dX5_semicolon_2 (gg_i 0 rfl) rfl ?_
  refine gg_iconst (v := 3) (pc := 5) E dX5_semicolon_5 (by decide) ?_
  refine gg_icmpB_ne (pc := 6) E dX5_semicolon_6 dX5_semicolon_9 dX5_semicolon_10 dX5_semicolon_13 ?_
  refine gg_iconst (v := 1) (pc := 14) E dX5_semicolon_14 (by decide) ?_
  refine gg_callV (F := []) (As := [_, _]) (rest := []) (pc := 15) E ck_X5 (ct_X5_need hl ) (cwV 2 E.2.2.2.2.1 (lw_V q3013 q3015 qs78 q179 q3016) rfl rfl rfl (by decide +kernel) ⟨by rw [hRf]; exact Nat.le_of_ble_eq_true rfl, by rw [hRl]; exact Nat.le_of_ble_eq_true rfl⟩) dX5_semicolon_15 [0] (by decide) rfl rfl (fun _ h => by cases h) (gg_i 0 rfl) rfl rfl (Nat.le_of_ble_eq_true rfl) (by first | (rw [hRc]; exact Nat.le_of_ble_eq_true rfl) | (rw [hRc]; dsimp only; omega)) (by first | (rw [hRs]; exact Nat.le_of_ble_eq_true rfl) | (rw [hRs]; dsimp only; omega)) ?_ (fun X q C1 h => h.elim)
  rintro _ _ ⟨rfl, rfl⟩
  dsimp only [List.cons_append, List.nil_append, Option.toList]
  refine gg_aload_n (pc := 18) E dX5_semicolon_18 rfl rfl ?_
  refine gg_callV (F := []) (As := []) (rest := []) (pc := 19) E ck_X5 (ct_X5_goesOn (x := nd x (if x 18 = 3 then 1 else 0) 1) (p0 := p0) hl ((nd_out (by omega) (by omega)).trans hx) hbn ((nd_out (by omega) (by omega)).trans hp) hpb) (cwV 0 E.2.2.2.2.1 (lw_V q2984 q2986 qs72 q179 q2987) rfl rfl rfl (by decide +kernel) ⟨by rw [hRf]; exact Nat.le_of_ble_eq_true rfl, by rw [hRl]; exact Nat.le_of_ble_eq_true rfl⟩) dX5_semicolon_19 [0] (by decide) rfl rfl (List.forall_mem_cons.mpr ⟨(gg_r 0 rfl), (fun _ h => by cases h)⟩) (gg_i 0 rfl) rfl rfl (Nat.le_of_ble_eq_true rfl) (by first | (rw [hRc]; exact Nat.le_of_ble_eq_true rfl) | (rw [hRc]; dsimp only; omega)) (by first | (rw [hRs]; exact Nat.le_of_ble_eq_true rfl) | (rw [hRs]; dsimp only; omega)) ?_ (fun X q C1 h => h.elim)
  rintro _ _ ⟨rfl, rfl⟩
  dsimp only [List.cons_append, List.nil_append, Option.toList]
  refine gg_vret (pc := 22) E Fn rfl dX5_semicolon_22 (by first | exact Nat.le_of_ble_eq_true rfl | (dsimp only; omega)) (by first | exact Nat.le_of_ble_eq_true rfl | (dsimp only; omega)) ?_
  exact ⟨rfl, rfl⟩
set_option maxHeartbeats 4000000 in
theorem ct_X5_numberHere {l : Launch} (hl : l.stackTraces = false) {g : gg_G}  {h : Nat} {ad : Nat → Nat} {x : Nat → Int32} {lo1 hi1 : Int32}  : gg_C l g yX5_numberHere (ws_ yX5_numberHere cX5_numberHere 3 (some .int)) { frames := 1, cells := 0, slots := 0, locals := 25 } [.ref h, .int lo1, .int hi1] [] [[(h, .inl (4, mo_f ad x))]] (fun vv CC => vv = some (.int (nhV x lo1 hi1)) ∧ CC = [[(h, .inl (4, mo_f ad (nhX x lo1 hi1)))]]) gg_no := by
  refine gg_of (lv := [_, _, _]) (by decide) hl (Nat.le_of_ble_eq_true rfl) rfl ?_
  intro p e R s m args below meth c A Q hRf hRl hRc hRs E Fn hnm hex
  refine gg_aload_n (pc := 0) E dX5_numberHere_0 rfl rfl ?_
  refine gg_aload_n (pc := 1) E dX5_numberHere_1 rfl rfl ?_
  refine gg_get (pc := 2) E ck_X5 18 q2877 rfl (by decide) dX5_numberHere_2 (gg_i 0 rfl) rfl ?_
  refine gg_iconst (v := 2) (pc := 5) E dX5_numberHere_5 (by decide) ?_
  refine gg_icmpB_ne (pc := 6) E dX5_numberHere_6 dX5_numberHere_9 dX5_numberHere_10 dX5_numberHere_13 ?_
  refine gg_iconst (v := 1) (pc := 14) E dX5_numberHere_14 (by decide) ?_
  refine gg_callV (F := []) (As := [_, _]) (rest := []) (pc := 15) E ck_X5 (ct_X5_need hl ) (cwV 2 E.2.2.2.2.1 (lw_V q3013 q3015 qs78 q179 q3016) rfl rfl rfl (by decide +kernel) ⟨by rw [hRf]; exact Nat.le_of_ble_eq_true rfl, by rw [hRl]; exact Nat.le_of_ble_eq_true rfl⟩) dX5_numberHere_15 [0] (by decide) rfl rfl (fun _ h => by cases h) (gg_i 0 rfl) rfl rfl (Nat.le_of_ble_eq_true rfl) (by first | (rw [hRc]; exact Nat.le_of_ble_eq_true rfl) | (rw [hRc]; dsimp only; omega)) (by first | (rw [hRs]; exact Nat.le_of_ble_eq_true rfl) | (rw [hRs]; dsimp only; omega)) ?_ (fun X q C1 h => h.elim)
  rintro _ _ ⟨rfl, rfl⟩
  dsimp only [List.cons_append, List.nil_append, Option.toList]
  refine gg_aload_n (pc := 18) E dX5_numberHere_18 rfl rfl ?_
  refine gg_aload_n (pc := 19) E dX5_numberHere_19 rfl rfl ?_
  refine gg_get (pc := 20) E ck_X5 19 q2878 rfl (by decide) dX5_numberHere_20 (gg_i 0 rfl) rfl ?_
  refine gg_topI (y := x 19) (show (nd x (if x 18 = 2 then 1 else 0) 1) 19 = x 19 from nd_out (by omega) (by omega)) ?_
  refine gg_i2l (pc := 23) E dX5_numberHere_23 rfl ?_
  refine gg_iload_n (pc := 24) E dX5_numberHere_24 rfl rfl ?_
  refine gg_i2l (pc := 25) E dX5_numberHere_25 rfl ?_
  refine gg_iload_n (pc := 26) E dX5_numberHere_26 rfl rfl ?_
  refine gg_i2l (pc := 27) E dX5_numberHere_27 rfl ?_
  refine gg_callS (F := [_]) (As := [_, _, _]) (rest := [_]) (pc := 28) E (ct_X5_in hl ) (va_cwS 3 E.2.2.2.2.1 (lw_S q2961 q2962 q179 q2963) rfl rfl rfl (by decide +kernel) ⟨by rw [hRf]; exact Nat.le_of_ble_eq_true rfl, by rw [hRl]; exact Nat.le_of_ble_eq_true rfl⟩) dX5_numberHere_28 [] (by decide) rfl rfl (fun _ h => by cases h) rfl rfl (Nat.le_of_ble_eq_true rfl) (by first | (rw [hRc]; exact Nat.le_of_ble_eq_true rfl) | (rw [hRc]; dsimp only; omega)) (by first | (rw [hRs]; exact Nat.le_of_ble_eq_true rfl) | (rw [hRs]; dsimp only; omega)) ?_ (fun X q C1 h => h.elim)
  rintro _ _ ⟨rfl, rfl⟩
  dsimp only [List.cons_append, List.nil_append, Option.toList]
  refine gg_topI (y := if lo1 ≤ x 19 ∧ x 19 ≤ hi1 then 1 else 0) (gg_ifc (by rw [i64_le, i64_le])) ?_
  refine gg_iconst (v := 2) (pc := 31) E dX5_numberHere_31 (by decide) ?_
  refine gg_callV (F := []) (As := [_, _]) (rest := []) (pc := 32) E ck_X5 (ct_X5_need hl ) (cwV 2 E.2.2.2.2.1 (lw_V q3013 q3015 qs78 q179 q3016) rfl rfl rfl (by decide +kernel) ⟨by rw [hRf]; exact Nat.le_of_ble_eq_true rfl, by rw [hRl]; exact Nat.le_of_ble_eq_true rfl⟩) dX5_numberHere_32 [0] (by decide) rfl rfl (fun _ h => by cases h) (gg_i 0 rfl) rfl rfl (Nat.le_of_ble_eq_true rfl) (by first | (rw [hRc]; exact Nat.le_of_ble_eq_true rfl) | (rw [hRc]; dsimp only; omega)) (by first | (rw [hRs]; exact Nat.le_of_ble_eq_true rfl) | (rw [hRs]; dsimp only; omega)) ?_ (fun X q C1 h => h.elim)
  rintro _ _ ⟨rfl, rfl⟩
  dsimp only [List.cons_append, List.nil_append, Option.toList]
  refine gg_aload_n (pc := 35) E dX5_numberHere_35 rfl rfl ?_
  refine gg_get (pc := 36) E ck_X5 20 q2879 rfl (by decide) dX5_numberHere_36 (gg_i 0 rfl) rfl ?_
  refine gg_if_ne (tgt := 49) (pc := 39) E dX5_numberHere_39 (by decide) (fun c39 => ?_) (fun c39 => ?_)
  · refine gg_iload_n (pc := 49) E dX5_numberHere_49 rfl rfl ?_
    refine gg_iret (pc := 50) E Fn rfl (rfl) dX5_numberHere_50 (by first | exact Nat.le_of_ble_eq_true rfl | (dsimp only; omega)) (by first | exact Nat.le_of_ble_eq_true rfl | (dsimp only; omega)) ?_
    exact ⟨congrArg (fun z => some (Value.int z)) (if_neg c39).symm, rfl⟩
  · refine gg_aload_n (pc := 42) E dX5_numberHere_42 rfl rfl ?_
    refine gg_get (pc := 43) E ck_X5 19 q2878 rfl (by decide) dX5_numberHere_43 (gg_i 0 rfl) rfl ?_
    refine gg_topI (y := x 19) (show nhX x lo1 hi1 19 = x 19 from nhX_out (by omega) (by omega)) ?_
    refine gg_goto (tgt := 50) (pc := 46) E dX5_numberHere_46 (by decide) ?_
    refine gg_iret (pc := 50) E Fn rfl (rfl) dX5_numberHere_50 (by first | exact Nat.le_of_ble_eq_true rfl | (dsimp only; omega)) (by first | exact Nat.le_of_ble_eq_true rfl | (dsimp only; omega)) ?_
    exact ⟨congrArg (fun z => some (Value.int z)) (if_pos c39).symm, rfl⟩
set_option maxHeartbeats 4000000 in
theorem ct_X5_number {l : Launch} (hl : l.stackTraces = false) {g : gg_G}  {h : Nat} {ad : Nat → Nat} {x : Nat → Int32} {b : Nat → Int32} {bn p0 : Nat} {lo1 hi1 : Int32} (hx : x 13 = nI bn) (hbn : bn ≤ 800) (hp : x 17 = nI p0) (hpb : p0 ≤ bn) : gg_C l g yX5_number (ws_ yX5_number cX5_number 4 (some .int)) { frames := 3, cells := 0, slots := 0, locals := 66 } [.ref h, .int lo1, .int hi1] [((ad 12), gg_ab g 800 b)] [[(h, .inl (4, mo_f ad x))]] (fun vv CC => vv = some (.int (nhV x lo1 hi1)) ∧ CC = [[(h, .inl (4, mo_f ad (goX b bn (nhX x lo1 hi1))))]]) gg_no := by
  refine gg_of (lv := [_, _, _, _]) (by decide) hl (Nat.le_of_ble_eq_true rfl) rfl ?_
  intro p e R s m args below meth c A Q hRf hRl hRc hRs E Fn hnm hex
  refine gg_aload_n (pc := 0) E dX5_number_0 rfl rfl ?_
  refine gg_iload_n (pc := 1) E dX5_number_1 rfl rfl ?_
  refine gg_iload_n (pc := 2) E dX5_number_2 rfl rfl ?_
  refine gg_callV (F := []) (As := [_, _]) (rest := []) (pc := 3) E ck_X5 (ct_X5_numberHere hl ) (cwV 2 E.2.2.2.2.1 (lw_V q3029 q3031 qs82 q179 q3032) rfl rfl rfl (by decide +kernel) ⟨by rw [hRf]; exact Nat.le_of_ble_eq_true rfl, by rw [hRl]; exact Nat.le_of_ble_eq_true rfl⟩) dX5_number_3 [0] (by decide) rfl rfl (fun _ h => by cases h) (gg_i 0 rfl) rfl rfl (Nat.le_of_ble_eq_true rfl) (by first | (rw [hRc]; exact Nat.le_of_ble_eq_true rfl) | (rw [hRc]; dsimp only; omega)) (by first | (rw [hRs]; exact Nat.le_of_ble_eq_true rfl) | (rw [hRs]; dsimp only; omega)) ?_ (fun X q C1 h => h.elim)
  rintro _ _ ⟨rfl, rfl⟩
  dsimp only [List.cons_append, List.nil_append, Option.toList]
  refine gg_istore_n (lv' := [_, _, _, _]) (pc := 6) E dX5_number_6 rfl (Nat.le_of_ble_eq_true rfl) rfl rfl ?_
  refine gg_aload_n (pc := 7) E dX5_number_7 rfl rfl ?_
  refine gg_callV (F := []) (As := []) (rest := []) (pc := 8) E ck_X5 (ct_X5_goesOn hl ((nhX_out (by omega) (by omega)).trans hx) (hbn) ((nhX_out (by omega) (by omega)).trans hp) (hpb)) (cwV 0 E.2.2.2.2.1 (lw_V q2984 q2986 qs72 q179 q2987) rfl rfl rfl (by decide +kernel) ⟨by rw [hRf]; exact Nat.le_of_ble_eq_true rfl, by rw [hRl]; exact Nat.le_of_ble_eq_true rfl⟩) dX5_number_8 [0] (by decide) rfl rfl (List.forall_mem_cons.mpr ⟨(gg_r 0 rfl), (fun _ h => by cases h)⟩) (gg_i 0 rfl) rfl rfl (Nat.le_of_ble_eq_true rfl) (by first | (rw [hRc]; exact Nat.le_of_ble_eq_true rfl) | (rw [hRc]; dsimp only; omega)) (by first | (rw [hRs]; exact Nat.le_of_ble_eq_true rfl) | (rw [hRs]; dsimp only; omega)) ?_ (fun X q C1 h => h.elim)
  rintro _ _ ⟨rfl, rfl⟩
  dsimp only [List.cons_append, List.nil_append, Option.toList]
  refine gg_iload_n (pc := 11) E dX5_number_11 rfl rfl ?_
  refine gg_iret (pc := 12) E Fn rfl (rfl) dX5_number_12 (by first | exact Nat.le_of_ble_eq_true rfl | (dsimp only; omega)) (by first | exact Nat.le_of_ble_eq_true rfl | (dsimp only; omega)) ?_
  exact ⟨rfl, rfl⟩

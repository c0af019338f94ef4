set_option maxRecDepth 100000
def nmI (row : Nat → Int32) (nr len : Nat) (sp : Nat → Int32) : Int32 := fi (fun i => row (25 + 13 * i) = nI len ∧ ∀ j, j < len → row (25 + 13 * i + 1 + j) = sp j) nr
def rhX1 (x : Nat → Int32) (n : Nat) : Nat → Int32 := upd (spY x n) 8 (nI (spn x n))
def rhV (row : Nat → Int32) (nr : Nat) (b sp x : Nat → Int32) (n f0 : Nat) : Int32 := if rhX1 x n 20 = 0 then nmI row nr (spn x n) (ub sp 0 (spn x n) (fun i => b (f0 + i))) else 0
def rhX (row : Nat → Int32) (nr : Nat) (b sp x : Nat → Int32) (n f0 : Nat) (no : Int32) : Nat → Int32 := nd (rhX1 x n) (if 0 < rhX1 x n 20 ∨ ¬ rhV row nr b sp x n f0 = -1 ∧ ¬ rhV row nr b sp x n f0 = no then 1 else 0) 3
set_option maxHeartbeats 4000000 in
theorem ct_X5_roofHere {l : Launch} (hl : l.stackTraces = false) {g : gg_G}  {h : Nat} {ad : Nat → Nat} {x : Nat → Int32} {row : Nat → Int32} {b sp : Nat → Int32} {p0 f0 nr : Nat} {no : Int32} (hnr : row 0 = nI nr) (hr10 : nr ≤ 10) (hp : x 17 = nI p0) (hf : x 16 = nI f0) (hfp : f0 ≤ p0) (hpb : p0 ≤ 800) : gg_C l g yX5_roofHere (ws_ yX5_roofHere cX5_roofHere 3 (some .int)) { frames := 2, cells := 0, slots := 0, locals := 43 } [.ref h, .int no] [((ad 0), gg_ai g 1030 row), ((ad 12), gg_ab g 800 b)] [[(h, .inl (4, mo_f ad x))], [((ad 7), gg_ai g 6 sp)]] (fun vv CC => vv = some (.int (mx 0 (rhV row nr b sp x (p0 - f0) f0))) ∧ CC = [[(h, .inl (4, mo_f ad (rhX row nr b sp x (p0 - f0) f0 no)))], [((ad 7), gg_ai g 6 (ub sp 0 (spn x (p0 - f0)) (fun i => b (f0 + i))))]]) gg_no := by
  refine gg_of (lv := [_, _, _]) (by decide) hl (Nat.le_of_ble_eq_true rfl) rfl ?_
  intro p e R s m args below meth c A Q hRf hRl hRc hRs E Fn hnm hex
  refine gg_aload_n (pc := 0) E dX5_roofHere_0 rfl rfl ?_
  refine gg_callV (F := []) (As := []) (rest := []) (pc := 1) E ck_X5 (ct_X5_spells hl (hp) (hf) (hfp) (hpb)) (cwV 0 E.2.2.2.2.1 (lw_V q3017 q3019 qs79 q179 q3020) rfl rfl rfl (by decide +kernel) ⟨by rw [hRf]; exact Nat.le_of_ble_eq_true rfl, by rw [hRl]; exact Nat.le_of_ble_eq_true rfl⟩) dX5_roofHere_1 [0, 1] (by decide) rfl rfl (List.forall_mem_cons.mpr ⟨(gg_r 1 rfl), (fun _ h => by cases h)⟩) (gg_i 0 rfl) rfl rfl (Nat.le_of_ble_eq_true rfl) (by first | (rw [hRc]; exact Nat.le_of_ble_eq_true rfl) | (rw [hRc]; dsimp only; omega)) (by first | (rw [hRs]; exact Nat.le_of_ble_eq_true rfl) | (rw [hRs]; dsimp only; omega)) ?_ (fun X q C1 h => h.elim)
  rintro _ _ ⟨rfl, rfl⟩
  dsimp only [List.cons_append, List.nil_append, Option.toList]
  refine gg_up1 ?_
  refine gg_up1 ?_
  refine gg_aload_n (pc := 4) E dX5_roofHere_4 rfl rfl ?_
  refine gg_get (pc := 5) E ck_X5 20 q2879 rfl (by decide) dX5_roofHere_5 (gg_i 0 rfl) rfl ?_
  refine gg_if_ne (tgt := 18) (pc := 8) E dX5_roofHere_8 (by decide) (fun c8 => ?_) (fun c8 => ?_)
  · refine gg_iconst (v := 0) (pc := 18) E dX5_roofHere_18 (by decide) ?_
    refine gg_topI (y := rhV row nr b sp x (p0 - f0) f0) (if_neg c8).symm ?_
    refine gg_istore_n (lv' := [_, _, _]) (pc := 19) E dX5_roofHere_19 rfl (Nat.le_of_ble_eq_true rfl) rfl rfl ?_
    refine gg_aload_n (pc := 20) E dX5_roofHere_20 rfl rfl ?_
    refine gg_aload_n (pc := 21) E dX5_roofHere_21 rfl rfl ?_
    refine gg_get (pc := 22) E ck_X5 20 q2879 rfl (by decide) dX5_roofHere_22 (gg_i 0 rfl) rfl ?_
    refine gg_if_gt (tgt := 38) (pc := 25) E dX5_roofHere_25 (by decide) (fun c25 => ?_) (fun c25 => ?_)
    · refine gg_iconst (v := 1) (pc := 38) E dX5_roofHere_38 (by decide) ?_
      refine gg_goto (tgt := 43) (pc := 39) E dX5_roofHere_39 (by decide) ?_
      refine gg_topI (y := if 0 < rhX1 x (p0 - f0) 20 ∨ ¬ rhV row nr b sp x (p0 - f0) f0 = -1 ∧ ¬ rhV row nr b sp x (p0 - f0) f0 = no then 1 else 0) (if_pos (Or.inl c25)).symm ?_
      refine gg_iconst (v := 3) (pc := 43) E dX5_roofHere_43 (by decide) ?_
      refine gg_callV (F := [_]) (As := [_, _]) (rest := []) (pc := 44) E ck_X5 (ct_X5_need hl ) (cwV 2 E.2.2.2.2.1 (lw_V q3013 q3015 qs78 q179 q3016) rfl rfl rfl (by decide +kernel) ⟨by rw [hRf]; exact Nat.le_of_ble_eq_true rfl, by rw [hRl]; exact Nat.le_of_ble_eq_true rfl⟩) dX5_roofHere_44 [0] (by decide) rfl rfl (fun _ h => by cases h) (gg_i 0 rfl) rfl rfl (Nat.le_of_ble_eq_true rfl) (by first | (rw [hRc]; exact Nat.le_of_ble_eq_true rfl) | (rw [hRc]; dsimp only; omega)) (by first | (rw [hRs]; exact Nat.le_of_ble_eq_true rfl) | (rw [hRs]; dsimp only; omega)) ?_ (fun X q C1 h => h.elim)
      rintro _ _ ⟨rfl, rfl⟩
      dsimp only [List.cons_append, List.nil_append, Option.toList]
      refine gg_iconst (v := 0) (pc := 47) E dX5_roofHere_47 (by decide) ?_
      refine gg_iload_n (pc := 48) E dX5_roofHere_48 rfl rfl ?_
      refine gg_mmax (pc := 49) E q3046 q341 q165 q342 dX5_roofHere_49 (by rw [hRf]; exact Nat.le_of_ble_eq_true rfl) (by rw [hRl]; exact Nat.le_of_ble_eq_true rfl) (by rw [hRc]; first | exact Nat.le_of_ble_eq_true rfl | (dsimp only; omega)) (by rw [hRs]; first | exact Nat.le_of_ble_eq_true rfl | (dsimp only; omega)) ?_
      refine gg_iret (pc := 52) E Fn rfl (rfl) dX5_roofHere_52 (by first | exact Nat.le_of_ble_eq_true rfl | (dsimp only; omega)) (by first | exact Nat.le_of_ble_eq_true rfl | (dsimp only; omega)) ?_
      exact ⟨rfl, rfl⟩
    · refine gg_iload_n (pc := 28) E dX5_roofHere_28 rfl rfl ?_
      refine gg_iconst (v := (-1)) (pc := 29) E dX5_roofHere_29 (by decide) ?_
      refine gg_icmp_eq (tgt := 42) (pc := 30) E dX5_roofHere_30 (by decide) (fun c30 => ?_) (fun c30 => ?_)
      · refine gg_iconst (v := 0) (pc := 42) E dX5_roofHere_42 (by decide) ?_
        refine gg_topI (y := if 0 < rhX1 x (p0 - f0) 20 ∨ ¬ rhV row nr b sp x (p0 - f0) f0 = -1 ∧ ¬ rhV row nr b sp x (p0 - f0) f0 = no then 1 else 0) (if_neg (fun q => q.elim c25 (fun z => z.1 c30))).symm ?_
        refine gg_iconst (v := 3) (pc := 43) E dX5_roofHere_43 (by decide) ?_
        refine gg_callV (F := [_]) (As := [_, _]) (rest := []) (pc := 44) E ck_X5 (ct_X5_need hl ) (cwV 2 E.2.2.2.2.1 (lw_V q3013 q3015 qs78 q179 q3016) rfl rfl rfl (by decide +kernel) ⟨by rw [hRf]; exact Nat.le_of_ble_eq_true rfl, by rw [hRl]; exact Nat.le_of_ble_eq_true rfl⟩) dX5_roofHere_44 [0] (by decide) rfl rfl (fun _ h => by cases h) (gg_i 0 rfl) rfl rfl (Nat.le_of_ble_eq_true rfl) (by first | (rw [hRc]; exact Nat.le_of_ble_eq_true rfl) | (rw [hRc]; dsimp only; omega)) (by first | (rw [hRs]; exact Nat.le_of_ble_eq_true rfl) | (rw [hRs]; dsimp only; omega)) ?_ (fun X q C1 h => h.elim)
        rintro _ _ ⟨rfl, rfl⟩
        dsimp only [List.cons_append, List.nil_append, Option.toList]
        refine gg_iconst (v := 0) (pc := 47) E dX5_roofHere_47 (by decide) ?_
        refine gg_iload_n (pc := 48) E dX5_roofHere_48 rfl rfl ?_
        refine gg_mmax (pc := 49) E q3046 q341 q165 q342 dX5_roofHere_49 (by rw [hRf]; exact Nat.le_of_ble_eq_true rfl) (by rw [hRl]; exact Nat.le_of_ble_eq_true rfl) (by rw [hRc]; first | exact Nat.le_of_ble_eq_true rfl | (dsimp only; omega)) (by rw [hRs]; first | exact Nat.le_of_ble_eq_true rfl | (dsimp only; omega)) ?_
        refine gg_iret (pc := 52) E Fn rfl (rfl) dX5_roofHere_52 (by first | exact Nat.le_of_ble_eq_true rfl | (dsimp only; omega)) (by first | exact Nat.le_of_ble_eq_true rfl | (dsimp only; omega)) ?_
        exact ⟨rfl, rfl⟩
      · refine gg_iload_n (pc := 33) E dX5_roofHere_33 rfl rfl ?_
        refine gg_iload_n (pc := 34) E dX5_roofHere_34 rfl rfl ?_
        refine gg_icmp_eq (tgt := 42) (pc := 35) E dX5_roofHere_35 (by decide) (fun c35 => ?_) (fun c35 => ?_)
        · refine gg_iconst (v := 0) (pc := 42) E dX5_roofHere_42 (by decide) ?_
          refine gg_topI (y := if 0 < rhX1 x (p0 - f0) 20 ∨ ¬ rhV row nr b sp x (p0 - f0) f0 = -1 ∧ ¬ rhV row nr b sp x (p0 - f0) f0 = no then 1 else 0) (if_neg (fun q => q.elim c25 (fun z => z.2 c35))).symm ?_
          refine gg_iconst (v := 3) (pc := 43) E dX5_roofHere_43 (by decide) ?_
          refine gg_callV (F := [_]) (As := [_, _]) (rest := []) (pc := 44) E ck_X5 (ct_X5_need hl ) (cwV 2 E.2.2.2.2.1 (lw_V q3013 q3015 qs78 q179 q3016) rfl rfl rfl (by decide +kernel) ⟨by rw [hRf]; exact Nat.le_of_ble_eq_true rfl, by rw [hRl]; exact Nat.le_of_ble_eq_true rfl⟩) dX5_roofHere_44 [0] (by decide) rfl rfl (fun _ h => by cases h) (gg_i 0 rfl) rfl rfl (Nat.le_of_ble_eq_true rfl) (by first | (rw [hRc]; exact Nat.le_of_ble_eq_true rfl) | (rw [hRc]; dsimp only; omega)) (by first | (rw [hRs]; exact Nat.le_of_ble_eq_true rfl) | (rw [hRs]; dsimp only; omega)) ?_ (fun X q C1 h => h.elim)
          rintro _ _ ⟨rfl, rfl⟩
          dsimp only [List.cons_append, List.nil_append, Option.toList]
          refine gg_iconst (v := 0) (pc := 47) E dX5_roofHere_47 (by decide) ?_
          refine gg_iload_n (pc := 48) E dX5_roofHere_48 rfl rfl ?_
          refine gg_mmax (pc := 49) E q3046 q341 q165 q342 dX5_roofHere_49 (by rw [hRf]; exact Nat.le_of_ble_eq_true rfl) (by rw [hRl]; exact Nat.le_of_ble_eq_true rfl) (by rw [hRc]; first | exact Nat.le_of_ble_eq_true rfl | (dsimp only; omega)) (by rw [hRs]; first | exact Nat.le_of_ble_eq_true rfl | (dsimp only; omega)) ?_
          refine gg_iret (pc := 52) E Fn rfl (rfl) dX5_roofHere_52 (by first | exact Nat.le_of_ble_eq_true rfl | (dsimp only; omega)) (by first | exact Nat.le_of_ble_eq_true rfl | (dsimp only; omega)) ?_
          exact ⟨rfl, rfl⟩
        · refine gg_iconst (v := 1) (pc := 38) E dX5_roofHere_38 (by decide) ?_
          refine gg_goto (tgt := 43) (pc := 39) E dX5_roofHere_39 (by decide) ?_
          refine gg_topI (y := if 0 < rhX1 x (p0 - f0) 20 ∨ ¬ rhV row nr b sp x (p0 - f0) f0 = -1 ∧ ¬ rhV row nr b sp x (p0 - f0) f0 = no then 1 else 0) (if_pos (Or.inr ⟨c30, c35⟩)).symm ?_
          refine gg_iconst (v := 3) (pc := 43) E dX5_roofHere_43 (by decide) ?_
          refine gg_callV (F := [_]) (As := [_, _]) (rest := []) (pc := 44) E ck_X5 (ct_X5_need hl ) (cwV 2 E.2.2.2.2.1 (lw_V q3013 q3015 qs78 q179 q3016) rfl rfl rfl (by decide +kernel) ⟨by rw [hRf]; exact Nat.le_of_ble_eq_true rfl, by rw [hRl]; exact Nat.le_of_ble_eq_true rfl⟩) dX5_roofHere_44 [0] (by decide) rfl rfl (fun _ h => by cases h) (gg_i 0 rfl) rfl rfl (Nat.le_of_ble_eq_true rfl) (by first | (rw [hRc]; exact Nat.le_of_ble_eq_true rfl) | (rw [hRc]; dsimp only; omega)) (by first | (rw [hRs]; exact Nat.le_of_ble_eq_true rfl) | (rw [hRs]; dsimp only; omega)) ?_ (fun X q C1 h => h.elim)
          rintro _ _ ⟨rfl, rfl⟩
          dsimp only [List.cons_append, List.nil_append, Option.toList]
          refine gg_iconst (v := 0) (pc := 47) E dX5_roofHere_47 (by decide) ?_
          refine gg_iload_n (pc := 48) E dX5_roofHere_48 rfl rfl ?_
          refine gg_mmax (pc := 49) E q3046 q341 q165 q342 dX5_roofHere_49 (by rw [hRf]; exact Nat.le_of_ble_eq_true rfl) (by rw [hRl]; exact Nat.le_of_ble_eq_true rfl) (by rw [hRc]; first | exact Nat.le_of_ble_eq_true rfl | (dsimp only; omega)) (by rw [hRs]; first | exact Nat.le_of_ble_eq_true rfl | (dsimp only; omega)) ?_
          refine gg_iret (pc := 52) E Fn rfl (rfl) dX5_roofHere_52 (by first | exact Nat.le_of_ble_eq_true rfl | (dsimp only; omega)) (by first | exact Nat.le_of_ble_eq_true rfl | (dsimp only; omega)) ?_
          exact ⟨rfl, rfl⟩
  · refine gg_aload_n (pc := 11) E dX5_roofHere_11 rfl rfl ?_
    refine gg_callV (F := [_, _]) (As := []) (rest := []) (pc := 12) E ck_X5 (ct_X5_named hl (hnr) (hr10) (pk_us) (spn_6.1)) (cwV 0 E.2.2.2.2.1 (lw_V q3021 q3023 qs80 q179 q3024) rfl rfl rfl (by decide +kernel) ⟨by rw [hRf]; exact Nat.le_of_ble_eq_true rfl, by rw [hRl]; exact Nat.le_of_ble_eq_true rfl⟩) dX5_roofHere_12 [] (by decide) rfl rfl (List.forall_mem_cons.mpr ⟨(gg_i 0 rfl), (List.forall_mem_cons.mpr ⟨(gg_r 0 rfl), (List.forall_mem_cons.mpr ⟨(gg_i 1 rfl), (fun _ h => by cases h)⟩)⟩)⟩) (gg_i 0 rfl) rfl rfl (Nat.le_of_ble_eq_true rfl) (by first | (rw [hRc]; exact Nat.le_of_ble_eq_true rfl) | (rw [hRc]; dsimp only; omega)) (by first | (rw [hRs]; exact Nat.le_of_ble_eq_true rfl) | (rw [hRs]; dsimp only; omega)) ?_ (fun X q C1 h => h.elim)
    rintro _ _ ⟨rfl, rfl⟩
    dsimp only [List.cons_append, List.nil_append, Option.toList]
    refine gg_goto (tgt := 19) (pc := 15) E dX5_roofHere_15 (by decide) ?_
    refine gg_topI (y := rhV row nr b sp x (p0 - f0) f0) (if_pos c8).symm ?_
    refine gg_istore_n (lv' := [_, _, _]) (pc := 19) E dX5_roofHere_19 rfl (Nat.le_of_ble_eq_true rfl) rfl rfl ?_
    refine gg_aload_n (pc := 20) E dX5_roofHere_20 rfl rfl ?_
    refine gg_aload_n (pc := 21) E dX5_roofHere_21 rfl rfl ?_
    refine gg_get (pc := 22) E ck_X5 20 q2879 rfl (by decide) dX5_roofHere_22 (gg_i 0 rfl) rfl ?_
    refine gg_if_gt (tgt := 38) (pc := 25) E dX5_roofHere_25 (by decide) (fun c25 => ?_) (fun c25 => ?_)
    · refine gg_iconst (v := 1) (pc := 38) E dX5_roofHere_38 (by decide) ?_
      refine gg_goto (tgt := 43) (pc := 39) E dX5_roofHere_39 (by decide) ?_
      refine gg_topI (y := if 0 < rhX1 x (p0 - f0) 20 ∨ ¬ rhV row nr b sp x (p0 - f0) f0 = -1 ∧ ¬ rhV row nr b sp x (p0 - f0) f0 = no then 1 else 0) (if_pos (Or.inl c25)).symm ?_
      refine gg_iconst (v := 3) (pc := 43) E dX5_roofHere_43 (by decide) ?_
      refine gg_callV (F := [_]) (As := [_, _]) (rest := []) (pc := 44) E ck_X5 (ct_X5_need hl ) (cwV 2 E.2.2.2.2.1 (lw_V q3013 q3015 qs78 q179 q3016) rfl rfl rfl (by decide +kernel) ⟨by rw [hRf]; exact Nat.le_of_ble_eq_true rfl, by rw [hRl]; exact Nat.le_of_ble_eq_true rfl⟩) dX5_roofHere_44 [0] (by decide) rfl rfl (fun _ h => by cases h) (gg_i 0 rfl) rfl rfl (Nat.le_of_ble_eq_true rfl) (by first | (rw [hRc]; exact Nat.le_of_ble_eq_true rfl) | (rw [hRc]; dsimp only; omega)) (by first | (rw [hRs]; exact Nat.le_of_ble_eq_true rfl) | (rw [hRs]; dsimp only; omega)) ?_ (fun X q C1 h => h.elim)
      rintro _ _ ⟨rfl, rfl⟩
      dsimp only [List.cons_append, List.nil_append, Option.toList]
      refine gg_iconst (v := 0) (pc := 47) E dX5_roofHere_47 (by decide) ?_
      refine gg_iload_n (pc := 48) E dX5_roofHere_48 rfl rfl ?_
      refine gg_mmax (pc := 49) E q3046 q341 q165 q342 dX5_roofHere_49 (by rw [hRf]; exact Nat.le_of_ble_eq_true rfl) (by rw [hRl]; exact Nat.le_of_ble_eq_true rfl) (by rw [hRc]; first | exact Nat.le_of_ble_eq_true rfl | (dsimp only; omega)) (by rw [hRs]; first | exact Nat.le_of_ble_eq_true rfl | (dsimp only; omega)) ?_
      refine gg_iret (pc := 52) E Fn rfl (rfl) dX5_roofHere_52 (by first | exact Nat.le_of_ble_eq_true rfl | (dsimp only; omega)) (by first | exact Nat.le_of_ble_eq_true rfl | (dsimp only; omega)) ?_
      exact ⟨rfl, rfl⟩
    · refine gg_iload_n (pc := 28) E dX5_roofHere_28 rfl rfl ?_
      refine gg_iconst (v := (-1)) (pc := 29) E dX5_roofHere_29 (by decide) ?_
      refine gg_icmp_eq (tgt := 42) (pc := 30) E dX5_roofHere_30 (by decide) (fun c30 => ?_) (fun c30 => ?_)
      · refine gg_iconst (v := 0) (pc := 42) E dX5_roofHere_42 (by decide) ?_
        refine gg_topI (y := if 0 < rhX1 x (p0 - f0) 20 ∨ ¬ rhV row nr b sp x (p0 - f0) f0 = -1 ∧ ¬ rhV row nr b sp x (p0 - f0) f0 = no then 1 else 0) (if_neg (fun q => q.elim c25 (fun z => z.1 c30))).symm ?_
        refine gg_iconst (v := 3) (pc := 43) E dX5_roofHere_43 (by decide) ?_
        refine gg_callV (F := [_]) (As := [_, _]) (rest := []) (pc := 44) E ck_X5 (ct_X5_need hl ) (cwV 2 E.2.2.2.2.1 (lw_V q3013 q3015 qs78 q179 q3016) rfl rfl rfl (by decide +kernel) ⟨by rw [hRf]; exact Nat.le_of_ble_eq_true rfl, by rw [hRl]; exact Nat.le_of_ble_eq_true rfl⟩) dX5_roofHere_44 [0] (by decide) rfl rfl (fun _ h => by cases h) (gg_i 0 rfl) rfl rfl (Nat.le_of_ble_eq_true rfl) (by first | (rw [hRc]; exact Nat.le_of_ble_eq_true rfl) | (rw [hRc]; dsimp only; omega)) (by first | (rw [hRs]; exact Nat.le_of_ble_eq_true rfl) | (rw [hRs]; dsimp only; omega)) ?_ (fun X q C1 h => h.elim)
        rintro _ _ ⟨rfl, rfl⟩
        dsimp only [List.cons_append, List.nil_append, Option.toList]
        refine gg_iconst (v := 0) (pc := 47) E dX5_roofHere_47 (by decide) ?_
        refine gg_iload_n (pc := 48) E dX5_roofHere_48 rfl rfl ?_
        refine gg_mmax (pc := 49) E q3046 q341 q165 q342 dX5_roofHere_49 (by rw [hRf]; exact Nat.le_of_ble_eq_true rfl) (by rw [hRl]; exact Nat.le_of_ble_eq_true rfl) (by rw [hRc]; first | exact Nat.le_of_ble_eq_true rfl | (dsimp only; omega)) (by rw [hRs]; first | exact Nat.le_of_ble_eq_true rfl | (dsimp only; omega)) ?_
        refine gg_iret (pc := 52) E Fn rfl (rfl) dX5_roofHere_52 (by first | exact Nat.le_of_ble_eq_true rfl | (dsimp only; omega)) (by first | exact Nat.le_of_ble_eq_true rfl | (dsimp only; omega)) ?_
        exact ⟨rfl, rfl⟩
      · refine gg_iload_n (pc := 33) E dX5_roofHere_33 rfl rfl ?_
        refine gg_iload_n (pc := 34) E dX5_roofHere_34 rfl rfl ?_
        refine gg_icmp_eq (tgt := 42) (pc := 35) E dX5_roofHere_35 (by decide) (fun c35 => ?_) (fun c35 => ?_)
        · refine gg_iconst (v := 0) (pc := 42) E dX5_roofHere_42 (by decide) ?_
          refine gg_topI (y := if 0 < rhX1 x (p0 - f0) 20 ∨ ¬ rhV row nr b sp x (p0 - f0) f0 = -1 ∧ ¬ rhV row nr b sp x (p0 - f0) f0 = no then 1 else 0) (if_neg (fun q => q.elim c25 (fun z => z.2 c35))).symm ?_
          refine gg_iconst (v := 3) (pc := 43) E dX5_roofHere_43 (by decide) ?_
          refine gg_callV (F := [_]) (As := [_, _]) (rest := []) (pc := 44) E ck_X5 (ct_X5_need hl ) (cwV 2 E.2.2.2.2.1 (lw_V q3013 q3015 qs78 q179 q3016) rfl rfl rfl (by decide +kernel) ⟨by rw [hRf]; exact Nat.le_of_ble_eq_true rfl, by rw [hRl]; exact Nat.le_of_ble_eq_true rfl⟩) dX5_roofHere_44 [0] (by decide) rfl rfl (fun _ h => by cases h) (gg_i 0 rfl) rfl rfl (Nat.le_of_ble_eq_true rfl) (by first | (rw [hRc]; exact Nat.le_of_ble_eq_true rfl) | (rw [hRc]; dsimp only; omega)) (by first | (rw [hRs]; exact Nat.le_of_ble_eq_true rfl) | (rw [hRs]; dsimp only; omega)) ?_ (fun X q C1 h => h.elim)
          rintro _ _ ⟨rfl, rfl⟩
          dsimp only [List.cons_append, List.nil_append, Option.toList]
          refine gg_iconst (v := 0) (pc := 47) E dX5_roofHere_47 (by decide) ?_
          refine gg_iload_n (pc := 48) E dX5_roofHere_48 rfl rfl ?_
          refine gg_mmax (pc := 49) E q3046 q341 q165 q342 dX5_roofHere_49 (by rw [hRf]; exact Nat.le_of_ble_eq_true rfl) (by rw [hRl]; exact Nat.le_of_ble_eq_true rfl) (by rw [hRc]; first | exact Nat.le_of_ble_eq_true rfl | (dsimp only; omega)) (by rw [hRs]; first | exact Nat.le_of_ble_eq_true rfl | (dsimp only; omega)) ?_
          refine gg_iret (pc := 52) E Fn rfl (rfl) dX5_roofHere_52 (by first | exact Nat.le_of_ble_eq_true rfl | (dsimp only; omega)) (by first | exact Nat.le_of_ble_eq_true rfl | (dsimp only; omega)) ?_
          exact ⟨rfl, rfl⟩
        · refine gg_iconst (v := 1) (pc := 38) E dX5_roofHere_38 (by decide) ?_
          refine gg_goto (tgt := 43) (pc := 39) E dX5_roofHere_39 (by decide) ?_
          refine gg_topI (y := if 0 < rhX1 x (p0 - f0) 20 ∨ ¬ rhV row nr b sp x (p0 - f0) f0 = -1 ∧ ¬ rhV row nr b sp x (p0 - f0) f0 = no then 1 else 0) (if_pos (Or.inr ⟨c30, c35⟩)).symm ?_
          refine gg_iconst (v := 3) (pc := 43) E dX5_roofHere_43 (by decide) ?_
          refine gg_callV (F := [_]) (As := [_, _]) (rest := []) (pc := 44) E ck_X5 (ct_X5_need hl ) (cwV 2 E.2.2.2.2.1 (lw_V q3013 q3015 qs78 q179 q3016) rfl rfl rfl (by decide +kernel) ⟨by rw [hRf]; exact Nat.le_of_ble_eq_true rfl, by rw [hRl]; exact Nat.le_of_ble_eq_true rfl⟩) dX5_roofHere_44 [0] (by decide) rfl rfl (fun _ h => by cases h) (gg_i 0 rfl) rfl rfl (Nat.le_of_ble_eq_true rfl) (by first | (rw [hRc]; exact Nat.le_of_ble_eq_true rfl) | (rw [hRc]; dsimp only; omega)) (by first | (rw [hRs]; exact Nat.le_of_ble_eq_true rfl) | (rw [hRs]; dsimp only; omega)) ?_ (fun X q C1 h => h.elim)
          rintro _ _ ⟨rfl, rfl⟩
          dsimp only [List.cons_append, List.nil_append, Option.toList]
          refine gg_iconst (v := 0) (pc := 47) E dX5_roofHere_47 (by decide) ?_
          refine gg_iload_n (pc := 48) E dX5_roofHere_48 rfl rfl ?_
          refine gg_mmax (pc := 49) E q3046 q341 q165 q342 dX5_roofHere_49 (by rw [hRf]; exact Nat.le_of_ble_eq_true rfl) (by rw [hRl]; exact Nat.le_of_ble_eq_true rfl) (by rw [hRc]; first | exact Nat.le_of_ble_eq_true rfl | (dsimp only; omega)) (by rw [hRs]; first | exact Nat.le_of_ble_eq_true rfl | (dsimp only; omega)) ?_
          refine gg_iret (pc := 52) E Fn rfl (rfl) dX5_roofHere_52 (by first | exact Nat.le_of_ble_eq_true rfl | (dsimp only; omega)) (by first | exact Nat.le_of_ble_eq_true rfl | (dsimp only; omega)) ?_
          exact ⟨rfl, rfl⟩

set_option maxRecDepth 100000
/-! ===== a new world; a copy of one; one roof more ===== -/
/-- addresses, by their places -/
def adL (l : List Nat) : Nat → Nat := fun j => l.getD j 0
theorem nd_push {nd im nd' im' : Nat → Nat} {n : Nat} (h : ∀ j, j < n → nd' j = nd j ∧ im' j = im j) : llS nd' im' n = llS nd im n := mp_eq fun k hk => (ll_o h hk).symm
theorem rf_push {ra nm : Nat → Nat} {row : Nat → Int32} {n a : Nat} : mp (rfN ra nm row) n ++ [(a, .inl (2, [.ref (nm n), .int (row (25 + 13 * n + 7)), .int (row (25 + 13 * n + 8)), .int (row (25 + 13 * n + 9)), .int (row (25 + 13 * n + 10)), .int (row (25 + 13 * n + 11)), .int (row (25 + 13 * n + 12))]))] = mp (rfN (llU ra n a) nm row) (n + 1) := by
  have h : ∀ j, j < n → rfN (llU ra n a) nm row j = rfN ra nm row j := by
    intro j hj
    unfold rfN
    rw [llU_o (by omega)]
  rw [mp_push h]
  congr 2
  unfold rfN
  rw [llU_n]
theorem tu_push {tu sn hd : Nat → Nat} {row : Nat → Int32} {n a b : Nat} : mp (tuN tu sn hd row) n ++ [(a, .inl (7, [.int (nI n), .int (row (220 + 27 * n)), .int (row (220 + 27 * n + 1)), .ref (sn n), .ref b, .int (row (220 + 27 * n + 6)), .int (row (220 + 27 * n + 7)), .int (row (220 + 27 * n + 4)), .int (row (220 + 27 * n + 3)), .int (row (220 + 27 * n + 5)), .int (row (220 + 27 * n + 10)), .int (row (220 + 27 * n + 8)), .int (row (220 + 27 * n + 9))]))] = mp (tuN (llU tu n a) sn (llU hd n b) row) (n + 1) := by
  have h : ∀ j, j < n → tuN (llU tu n a) sn (llU hd n b) row j = tuN tu sn hd row j := by
    intro j hj
    unfold tuN
    rw [llU_o (by omega), llU_o (by omega)]
  rw [mp_push h]
  congr 2
  unfold tuN
  rw [llU_n, llU_n]
theorem he_push {g : gg_G} {hd : Nat → Nat} {row : Nat → Int32} {n b : Nat} : mp (heN g hd row) n ++ [(b, gg_ai g (tno row n) (fun j => row (220 + 27 * n + 19 + j)))] = mp (heN g (llU hd n b) row) (n + 1) := by
  have h : ∀ j, j < n → heN g (llU hd n b) row j = heN g hd row j := by
    intro j hj
    unfold heN
    rw [llU_o (by omega)]
  rw [mp_push h]
  congr 2
  unfold heN
  rw [llU_n]
theorem nr_push {ra nm : Nat → Nat} {row row9 : Nat → Int32} {n a n1 : Nat} {b7 b8 b9 b10 : Int32} (h : ∀ k, k < n → ∀ d, 7 ≤ d → d < 13 → row9 (25 + 13 * k + d) = row (25 + 13 * k + d)) (h7 : row9 (25 + 13 * n + 7) = b7) (h8 : row9 (25 + 13 * n + 8) = b8) (h9 : row9 (25 + 13 * n + 9) = b9) (h10 : row9 (25 + 13 * n + 10) = b10) (h11 : row9 (25 + 13 * n + 11) = 0) (h12 : row9 (25 + 13 * n + 12) = 0) : mp (rfN ra nm row) n ++ [(a, .inl (2, [.ref n1, .int b7, .int b8, .int b9, .int b10, .int 0, .int 0]))] = mp (rfN (llU ra n a) (llU nm n n1) row9) (n + 1) := by
  have e : ∀ j, j < n → rfN (llU ra n a) (llU nm n n1) row9 j = rfN ra nm row j := by
    intro j hj
    unfold rfN
    rw [llU_o (by omega), llU_o (by omega), h j hj 7 (by omega) (by omega), h j hj 8 (by omega) (by omega), h j hj 9 (by omega) (by omega), h j hj 10 (by omega) (by omega), h j hj 11 (by omega) (by omega), h j hj 12 (by omega) (by omega)]
  rw [mp_push e]
  congr 2
  unfold rfN
  rw [llU_n, llU_n, h7, h8, h9, h10, h11, h12]
set_option maxHeartbeats 4000000 in
theorem ct_X2_init {l : Launch} (hl : l.stackTraces = false) {g : gg_G}  {w : Nat}  : gg_C l g yX2_init (ws_ yX2_init cX2_init 1 none) { frames := 9, cells := 7, slots := 70, locals := 161 } [.ref w] [] [[(w, .inl (1, [.null, .null, .null, .null, .null, .int 0, .int 0, .null]))]] (fun vv CC => ∃ (ad : Nat → Nat), vv = none ∧ CC = [[(w, .inl (1, [.ref (ad 1), .ref (ad 3), .ref (ad 4), .ref (ad 6), .ref (ad 7), .int 0, .int 0, .null]))], [((ad 1), .inl (11, [.int 0, .ref (ad 2), .int 0]))], [((ad 2), gg_ao g 4 10 (fun _ => none))], [((ad 3), .inl (15, [.int 0, .int 0, .null, .null]))], [((ad 4), .inl (11, [.int 0, .ref (ad 5), .int 0]))], [((ad 5), gg_ao g 4 30 (fun _ => none))], [((ad 6), gg_ai g 3 (fun j => if j = 0 then 3 else if j = 1 then 50 else 1))], [((ad 7), gg_ai g 11 (fun _ => 0))]]) gg_no := by
  refine gg_of (lv := [_]) (by decide) hl (Nat.le_of_ble_eq_true rfl) rfl ?_
  intro p e R s m args below meth c A Q hRf hRl hRc hRs E Fn hnm hex
  refine gg_aload_n (pc := 0) E dX2_init_0 rfl rfl ?_
  refine gg_objInit (pc := 1) E q221 dX2_init_1 (by rw [hRf]; exact Nat.le_of_ble_eq_true rfl) (by rw [hRl]; exact Nat.le_of_ble_eq_true rfl) ?_
  refine gg_aload_n (pc := 4) E dX2_init_4 rfl rfl ?_
  refine gg_new (fs := [.int 0, .null, .int 0]) (pc := 5) E ck_J2 q222 q223 q155 dX2_init_5 (gg_fsJ2) (by first | (rw [hRc]; exact Nat.le_of_ble_eq_true rfl) | (rw [hRc]; dsimp only; omega)) (by first | (rw [hRs]; exact Nat.le_of_ble_eq_true rfl) | (rw [hRs]; dsimp only; omega)) (fun _ => rfl) (fun a1 => ?_)
  dsimp only [List.cons_append, List.nil_append]
  refine gg_dup (pc := 8) E dX2_init_8 rfl ?_
  refine gg_bipush (v := 10) (pc := 9) E dX2_init_9 (by decide) ?_
  refine gg_callI (F := [_]) (As := [.int (nI 10)]) (rest := [_, _]) (pc := 11) E (ct_J2_init (cap := 10) hl (by omega) (by omega)) (cwI 1 E.2.2.2.2.1 (lw_meth q226) rfl rfl rfl (E.2.2.2.2.1 _ q155) (E.2.2.2.2.1 _ q224) (E.2.2.2.2.1 _ q225) rfl (by decide +kernel) ⟨by rw [hRf]; exact Nat.le_of_ble_eq_true rfl, by rw [hRl]; exact Nat.le_of_ble_eq_true rfl⟩) dX2_init_11 [1] (by decide) rfl rfl (fun _ h => by cases h) rfl rfl (Nat.le_of_ble_eq_true rfl) (by first | (rw [hRc]; exact Nat.le_of_ble_eq_true rfl) | (rw [hRc]; dsimp only; omega)) (by first | (rw [hRs]; exact Nat.le_of_ble_eq_true rfl) | (rw [hRs]; dsimp only; omega)) ?_ (fun X q C1 h => h.elim)
  rintro _ _ ⟨e1, rfl, rfl⟩
  dsimp only [List.cons_append, List.nil_append, Option.toList]
  refine gg_up2 ?_
  refine gg_up2 ?_
  refine gg_putF (fs' := [_, _, _, _, _, _, _, _]) (M' := [_, _, _]) (pc := 14) E ck_X2 0 q598 rfl (by decide) hnm dX2_init_14 0 rfl rfl (rfl) rfl (Nat.le_of_ble_eq_true rfl) rfl rfl ?_
  refine gg_aload_n (pc := 17) E dX2_init_17 rfl rfl ?_
  refine gg_new (fs := [.int 0, .int 0, .null, .null]) (pc := 18) E ck_J19 q577 q578 q173 dX2_init_18 (gg_fsJ19) (by first | (rw [hRc]; exact Nat.le_of_ble_eq_true rfl) | (rw [hRc]; dsimp only; omega)) (by first | (rw [hRs]; exact Nat.le_of_ble_eq_true rfl) | (rw [hRs]; dsimp only; omega)) (fun _ => rfl) (fun a2 => ?_)
  dsimp only [List.cons_append, List.nil_append]
  refine gg_dup (pc := 21) E dX2_init_21 rfl ?_
  refine gg_callI (F := [_, _, _]) (As := []) (rest := [_, _]) (pc := 22) E (ct_J19_init hl ) (cwI 0 E.2.2.2.2.1 (lw_meth q581) rfl rfl rfl (E.2.2.2.2.1 _ q173) (E.2.2.2.2.1 _ q579) (E.2.2.2.2.1 _ q580) rfl (by decide +kernel) ⟨by rw [hRf]; exact Nat.le_of_ble_eq_true rfl, by rw [hRl]; exact Nat.le_of_ble_eq_true rfl⟩) dX2_init_22 [3] (by decide) rfl rfl (fun _ h => by cases h) rfl rfl (Nat.le_of_ble_eq_true rfl) (by first | (rw [hRc]; exact Nat.le_of_ble_eq_true rfl) | (rw [hRc]; dsimp only; omega)) (by first | (rw [hRs]; exact Nat.le_of_ble_eq_true rfl) | (rw [hRs]; dsimp only; omega)) ?_ (fun X q C1 h => h.elim)
  rintro _ _ ⟨rfl, rfl⟩
  dsimp only [List.cons_append, List.nil_append, Option.toList]
  refine gg_up3 ?_
  refine gg_putF (fs' := [_, _, _, _, _, _, _, _]) (M' := [_, _, _, _]) (pc := 25) E ck_X2 1 q601 rfl (by decide) hnm dX2_init_25 0 rfl rfl (rfl) rfl (Nat.le_of_ble_eq_true rfl) rfl rfl ?_
  refine gg_aload_n (pc := 28) E dX2_init_28 rfl rfl ?_
  refine gg_new (fs := [.int 0, .null, .int 0]) (pc := 29) E ck_J2 q222 q223 q155 dX2_init_29 (gg_fsJ2) (by first | (rw [hRc]; exact Nat.le_of_ble_eq_true rfl) | (rw [hRc]; dsimp only; omega)) (by first | (rw [hRs]; exact Nat.le_of_ble_eq_true rfl) | (rw [hRs]; dsimp only; omega)) (fun _ => rfl) (fun a3 => ?_)
  dsimp only [List.cons_append, List.nil_append]
  refine gg_dup (pc := 32) E dX2_init_32 rfl ?_
  refine gg_bipush (v := 30) (pc := 33) E dX2_init_33 (by decide) ?_
  refine gg_callI (F := [_, _, _, _]) (As := [.int (nI 30)]) (rest := [_, _]) (pc := 35) E (ct_J2_init (cap := 30) hl (by omega) (by omega)) (cwI 1 E.2.2.2.2.1 (lw_meth q226) rfl rfl rfl (E.2.2.2.2.1 _ q155) (E.2.2.2.2.1 _ q224) (E.2.2.2.2.1 _ q225) rfl (by decide +kernel) ⟨by rw [hRf]; exact Nat.le_of_ble_eq_true rfl, by rw [hRl]; exact Nat.le_of_ble_eq_true rfl⟩) dX2_init_35 [4] (by decide) rfl rfl (fun _ h => by cases h) rfl rfl (Nat.le_of_ble_eq_true rfl) (by first | (rw [hRc]; exact Nat.le_of_ble_eq_true rfl) | (rw [hRc]; dsimp only; omega)) (by first | (rw [hRs]; exact Nat.le_of_ble_eq_true rfl) | (rw [hRs]; dsimp only; omega)) ?_ (fun X q C1 h => h.elim)
  rintro _ _ ⟨e2, rfl, rfl⟩
  dsimp only [List.cons_append, List.nil_append, Option.toList]
  refine gg_up5 ?_
  refine gg_up5 ?_
  refine gg_putF (fs' := [_, _, _, _, _, _, _, _]) (M' := [_, _, _, _, _, _]) (pc := 38) E ck_X2 2 q604 rfl (by decide) hnm dX2_init_38 0 rfl rfl (rfl) rfl (Nat.le_of_ble_eq_true rfl) rfl rfl ?_
  refine gg_aload_n (pc := 41) E dX2_init_41 rfl rfl ?_
  refine gg_iconst (v := 3) (pc := 42) E dX2_init_42 (by decide) ?_
  refine gg_newa (N := 3) (pc := 43) E 0 (ty := .int) rfl rfl q631 dX2_init_43 (by decide) (by decide) (by decide) (by first | (rw [hRc]; exact Nat.le_of_ble_eq_true rfl) | (rw [hRc]; dsimp only; omega)) (by first | (rw [hRs]; exact Nat.le_of_ble_eq_true rfl) | (rw [hRs]; dsimp only; omega)) (fun _ => rfl) (fun a4 => ?_)
  dsimp only [List.cons_append, List.nil_append]
  refine gg_dup (pc := 45) E dX2_init_45 rfl ?_
  refine gg_iconst (v := 0) (pc := 46) E dX2_init_46 (by decide) ?_
  refine gg_iconst (v := 3) (pc := 47) E dX2_init_47 (by decide) ?_
  refine gg_iastN (M' := [_, _, _, _, _, _, _]) (pc := 48) E 0 rfl (by omega) (by omega) dX2_init_48 6 rfl rfl ?_
  refine gg_dup (pc := 49) E dX2_init_49 rfl ?_
  refine gg_iconst (v := 1) (pc := 50) E dX2_init_50 (by decide) ?_
  refine gg_bipush (v := 50) (pc := 51) E dX2_init_51 (by decide) ?_
  refine gg_iastN (M' := [_, _, _, _, _, _, _]) (pc := 53) E 1 rfl (by omega) (by omega) dX2_init_53 6 rfl rfl ?_
  refine gg_dup (pc := 54) E dX2_init_54 rfl ?_
  refine gg_iconst (v := 2) (pc := 55) E dX2_init_55 (by decide) ?_
  refine gg_iconst (v := 1) (pc := 56) E dX2_init_56 (by decide) ?_
  refine gg_iastN (M' := [_, _, _, _, _, _, _]) (pc := 57) E 2 rfl (by omega) (by omega) dX2_init_57 6 rfl rfl ?_
  refine gg_putF (fs' := [_, _, _, _, _, _, _, _]) (M' := [_, _, _, _, _, _, _]) (pc := 58) E ck_X2 3 q606 rfl (by decide) hnm dX2_init_58 0 rfl rfl (rfl) rfl (Nat.le_of_ble_eq_true rfl) rfl rfl ?_
  refine gg_aload_n (pc := 61) E dX2_init_61 rfl rfl ?_
  refine gg_bipush (v := 11) (pc := 62) E dX2_init_62 (by decide) ?_
  refine gg_newa (N := 11) (pc := 64) E 0 (ty := .int) rfl rfl q631 dX2_init_64 (by decide) (by decide) (by decide) (by first | (rw [hRc]; exact Nat.le_of_ble_eq_true rfl) | (rw [hRc]; dsimp only; omega)) (by first | (rw [hRs]; exact Nat.le_of_ble_eq_true rfl) | (rw [hRs]; dsimp only; omega)) (fun _ => rfl) (fun a5 => ?_)
  dsimp only [List.cons_append, List.nil_append]
  refine gg_putF (fs' := [_, _, _, _, _, _, _, _]) (M' := [_, _, _, _, _, _, _, _]) (pc := 66) E ck_X2 4 q608 rfl (by decide) hnm dX2_init_66 0 rfl rfl (rfl) rfl (Nat.le_of_ble_eq_true rfl) rfl rfl ?_
  refine gg_cel (y := gg_ai g 3 (fun j => if j = 0 then 3 else if j = 1 then 50 else 1)) 6 rfl (gg_ai_congr fun j hj => by rcases (show j = 0 ∨ j = 1 ∨ j = 2 by omega) with rfl | rfl | rfl <;> rfl) rfl ?_
  refine gg_vret (pc := 69) E Fn rfl dX2_init_69 (by first | exact Nat.le_of_ble_eq_true rfl | (dsimp only; omega)) (by first | exact Nat.le_of_ble_eq_true rfl | (dsimp only; omega)) ?_
  exact ⟨adL [0, a1, e1, a2, a3, e2, a4, a5], rfl, rfl⟩
set_option maxHeartbeats 4000000 in
theorem ct_X2_adds {l : Launch} (hl : l.stackTraces = false) {g : gg_G}  {w : Nat} {ad : Nat → Nat} {t7 c7 : Int32} {v7 : Value} {ra nm : Nat → Nat} {m1 : Int32} {nr : Nat} {row : Nat → Int32} {q1 n1 : Nat} {row9 : Nat → Int32} {b7 b8 b9 b10 : Int32} (hr9 : nr < 10) (hk7 : ∀ k, k < nr → ∀ d, 7 ≤ d → d < 13 → row9 (25 + 13 * k + d) = row (25 + 13 * k + d)) (h7 : row9 (25 + 13 * nr + 7) = b7) (h8 : row9 (25 + 13 * nr + 8) = b8) (h9 : row9 (25 + 13 * nr + 9) = b9) (h10 : row9 (25 + 13 * nr + 10) = b10) (h11 : row9 (25 + 13 * nr + 11) = 0) (h12 : row9 (25 + 13 * nr + 12) = 0) : gg_C l g yX2_adds (ws_ yX2_adds cX2_adds 2 none) { frames := 2, cells := 0, slots := 0, locals := 44 } [.ref w, .ref q1] [] [[(w, .inl (1, [.ref (ad 1), .ref (ad 3), .ref (ad 4), .ref (ad 6), .ref (ad 7), .int t7, .int c7, v7]))], [((ad 1), .inl (11, [.int m1, .ref (ad 2), .int (nI nr)]))], [((ad 2), gg_ao g 4 10 (lsF ra nr))], (mp (rfN ra nm row) nr), [(q1, .inl (2, [.ref n1, .int b7, .int b8, .int b9, .int b10, .int 0, .int 0]))]] (fun vv CC => vv = none ∧ CC = [[(w, .inl (1, [.ref (ad 1), .ref (ad 3), .ref (ad 4), .ref (ad 6), .ref (ad 7), .int t7, .int (c7 + b10), v7]))], [((ad 1), .inl (11, [.int (m1 + 1), .ref (ad 2), .int (nI (nr + 1))]))], [((ad 2), gg_ao g 4 10 (lsF (llU ra nr q1) (nr + 1)))], (mp (rfN (llU ra nr q1) (llU nm nr n1) row9) (nr + 1))]) gg_no := by
  refine gg_of (lv := [_, _]) (by decide) hl (Nat.le_of_ble_eq_true rfl) rfl ?_
  intro p e R s m args below meth c A Q hRf hRl hRc hRs E Fn hnm hex
  refine gg_aload_n (pc := 0) E dX2_adds_0 rfl rfl ?_
  refine gg_get (pc := 1) E ck_X2 0 q598 rfl (by decide) dX2_adds_1 (gg_i 0 rfl) rfl ?_
  refine gg_aload_n (pc := 4) E dX2_adds_4 rfl rfl ?_
  refine gg_callF (F := [_, _, _]) (As := [_]) (rest := []) (pc := 5) E ck_J2 (ct_J2_add hl (by omega) (by omega) ck_X3 (gg_nwi q3498 rfl)) (gg_cwF 1 E (x := ⟨"java/util/List", "add", "(Ljava/lang/Object;)Z"⟩) (by decide) nq687 nq685 nq683 (lw_app (lw_in _ [680, 684, 686, 155] (by decide +kernel) (by decide +kernel)) (lw_meth q688)) (by decide +kernel) ⟨by rw [hRf]; exact Nat.le_of_ble_eq_true rfl, by rw [hRl]; exact Nat.le_of_ble_eq_true rfl⟩) dX2_adds_5 [1, 2] (by decide) rfl rfl (List.forall_mem_cons.mpr ⟨(gg_i 2 rfl), (fun _ h => by cases h)⟩) (gg_i 1 rfl) rfl rfl (Nat.le_of_ble_eq_true rfl) (by first | (rw [hRc]; exact Nat.le_of_ble_eq_true rfl) | (rw [hRc]; dsimp only; omega)) (by first | (rw [hRs]; exact Nat.le_of_ble_eq_true rfl) | (rw [hRs]; dsimp only; omega)) ?_ (fun X q C1 h => h.elim)
  rintro _ _ ⟨rfl, rfl⟩
  dsimp only [List.cons_append, List.nil_append, Option.toList]
  refine gg_up2 ?_
  refine gg_up2 ?_
  refine gg_pop (pc := 10) E dX2_adds_10 rfl ?_
  refine gg_aload_n (pc := 11) E dX2_adds_11 rfl rfl ?_
  refine gg_dup (pc := 12) E dX2_adds_12 rfl ?_
  refine gg_get (pc := 13) E ck_X2 6 q612 rfl (by decide) dX2_adds_13 (gg_i 0 rfl) rfl ?_
  refine gg_aload_n (pc := 16) E dX2_adds_16 rfl rfl ?_
  refine gg_getN (pc := 17) E ck_X3 4 nq652 rfl (by decide) dX2_adds_17 (gg_i 4 rfl) rfl ?_
  refine gg_iadd (pc := 20) E dX2_adds_20 ?_
  refine gg_put (fs' := [_, _, _, _, _, _, _, _]) (M' := [_, _, _, _, _]) (pc := 21) E ck_X2 6 q612 rfl (by decide) dX2_adds_21 0 rfl rfl (rfl) rfl (Nat.le_of_ble_eq_true rfl) rfl rfl ?_
  refine gg_cel (y := gg_ao g 4 10 (lsF (llU ra nr q1) (nr + 1))) 2 rfl (congrArg (gg_ao g 4 10) lsF_push) rfl ?_
  refine gg_psh (x := [(q1, .inl (2, [.ref n1, .int b7, .int b8, .int b9, .int b10, .int 0, .int 0]))]) (M' := [_, _, _, _]) 3 rfl rfl rfl ?_
  refine gg_seg (S' := mp (rfN (llU ra nr q1) (llU nm nr n1) row9) (nr + 1)) (M' := [_, _, _, _]) 3 rfl (nr_push hk7 h7 h8 h9 h10 h11 h12) rfl ?_
  refine gg_vret (pc := 24) E Fn rfl dX2_adds_24 (by first | exact Nat.le_of_ble_eq_true rfl | (dsimp only; omega)) (by first | exact Nat.le_of_ble_eq_true rfl | (dsimp only; omega)) ?_
  exact ⟨rfl, rfl⟩
set_option maxHeartbeats 4000000 in
theorem ct_X2_copy {l : Launch} (hl : l.stackTraces = false) {g : gg_G}  {w : Nat} {ad : Nat → Nat} {t7 c7 : Int32} {rt0 : Option Nat} {ra nm : Nat → Nat} {m1 : Int32} {nr : Nat} {tu sn hd : Nat → Nat} {m3 : Int32} {nt : Nat} {nd wo : Nat → Nat} {m2 : Int32} {nw : Nat} {row : Nat → Int32} {P : gg_S} (hP : Po g P sn wo row nw nt) (hG : Gw row nr nw nt) (hb : ∀ t, t < nt → (row (220 + 27 * t + 6) = 0 ∨ row (220 + 27 * t + 6) = 1) ∧ (row (220 + 27 * t + 7) = 0 ∨ row (220 + 27 * t + 7) = 1)) : gg_C l g yX2_copy (ws_ yX2_copy cX2_copy 4 (some (.object "WhistlePosts$World"))) { frames := 12, cells := (9 + nr + nw + 2 * nt), slots := (83 + 7 * nr + 3 * nw + 21 * nt), locals := 223 } [.ref w] ([(w, .inl (1, [.ref (ad 1), .ref (ad 3), .ref (ad 4), .ref (ad 6), .ref (ad 7), .int t7, .int c7, (va_rf rt0)])), ((ad 1), .inl (11, [.int m1, .ref (ad 2), .int (nI nr)])), ((ad 2), gg_ao g 4 10 (lsF ra nr)), ((ad 3), .inl (15, [.int m2, .int (nI nw), llF nd nw, llL nd nw])), ((ad 4), .inl (11, [.int m3, .ref (ad 5), .int (nI nt)])), ((ad 5), gg_ao g 4 30 (lsF tu nt)), ((ad 6), gg_ai g 3 (fun j => row (4 + j))), ((ad 7), gg_ai g 11 (fun j => row (10 + j)))] ++ ((llS nd wo nw) ++ ((mp (rfN ra nm row) nr) ++ ((mp (tuN tu sn hd row) nt) ++ ((mp (heN g hd row) nt) ++ P))))) [] (fun vv CC => ∃ (a1 : Nat) (ad2 : Nat → Nat) (ra2 nd2 tu2 hd2 : Nat → Nat) (n1 n2 n3 : Int32), vv = some (.ref a1) ∧ CC = [[(a1, .inl (1, [.ref (ad2 1), .ref (ad2 3), .ref (ad2 4), .ref (ad2 6), .ref (ad2 7), .int t7, .int c7, va_rf rt0]))], [((ad2 1), .inl (11, [.int n1, .ref (ad2 2), .int (nI nr)]))], [((ad2 2), gg_ao g 4 10 (lsF ra2 nr))], [((ad2 3), .inl (15, [.int n2, .int (nI nw), llF nd2 nw, llL nd2 nw]))], [((ad2 4), .inl (11, [.int n3, .ref (ad2 5), .int (nI nt)]))], [((ad2 5), gg_ao g 4 30 (lsF tu2 nt))], [((ad2 6), gg_ai g 3 (fun j => row (4 + j)))], [((ad2 7), gg_ai g 11 (fun j => row (10 + j)))], (mp (rfN ra2 nm row) nr), (llS nd2 wo nw), (mp (tuN tu2 sn hd2 row) nt), (mp (heN g hd2 row) nt)]) gg_no := by
  refine gg_of (lv := [_, _, _, _]) (by decide) hl (Nat.le_of_ble_eq_true rfl) rfl ?_
  intro p e R s m args below meth c A Q hRf hRl hRc hRs E Fn hnm hex
  have hw := hG.2.1
  have h20 := hw.2.1
  have hr10 := hw.2.2.1
  have hT := hG.2.2.1.2.2.2
  have ht30 := hG.2.2.1.2.1
  refine gg_new (fs := [.null, .null, .null, .null, .null, .int 0, .int 0, .null]) (pc := 0) E ck_X2 q2176 q217 q152 dX2_copy_0 (gg_fsX2) (by first | (rw [hRc]; dsimp only; omega) | (rw [hRc]; exact Nat.le_of_ble_eq_true rfl)) (by first | (rw [hRs]; dsimp only; omega) | (rw [hRs]; exact Nat.le_of_ble_eq_true rfl)) (fun _ => rfl) (fun a1 => ?_)
  dsimp only [List.cons_append, List.nil_append]
  refine gg_dup (pc := 3) E dX2_copy_3 rfl ?_
  refine gg_callI (F := []) (As := []) (rest := [_]) (pc := 4) E (ct_X2_init hl ) (cwI 0 E.2.2.2.2.1 (lw_meth q220) rfl rfl rfl (E.2.2.2.2.1 _ q152) (E.2.2.2.2.1 _ q2177) (E.2.2.2.2.1 _ q219) rfl (by decide +kernel) ⟨by rw [hRf]; exact Nat.le_of_ble_eq_true rfl, by rw [hRl]; exact Nat.le_of_ble_eq_true rfl⟩) dX2_copy_4 [0] (by decide) rfl rfl (fun _ h => by cases h) rfl rfl (Nat.le_of_ble_eq_true rfl) (by first | (rw [hRc]; dsimp only; omega) | (rw [hRc]; exact Nat.le_of_ble_eq_true rfl)) (by first | (rw [hRs]; dsimp only; omega) | (rw [hRs]; exact Nat.le_of_ble_eq_true rfl)) ?_ (fun X q C1 h => h.elim)
  rintro _ _ ⟨ad2, rfl, rfl⟩
  dsimp only [List.cons_append, List.nil_append, Option.toList]
  refine gg_up7 ?_
  refine gg_up7 ?_
  refine gg_up7 ?_
  refine gg_up7 ?_
  refine gg_up7 ?_
  refine gg_up7 ?_
  refine gg_up7 ?_
  refine gg_up7 ?_
  refine gg_astore_n (lv' := [_, _, _, _]) (pc := 7) E dX2_copy_7 rfl (Nat.le_of_ble_eq_true rfl) rfl rfl ?_
  refine gg_cel (y := gg_ao g 4 10 (lsF ra 0)) 2 rfl (congrArg (gg_ao g 4 10) lsF_0.symm) rfl ?_
  refine gg_cel (y := gg_ao g 4 30 (lsF tu 0)) 5 rfl (congrArg (gg_ao g 4 30) lsF_0.symm) rfl ?_
  refine gg_spl (S1 := [(a1, .inl (1, [.ref (ad2 1), .ref (ad2 3), .ref (ad2 4), .ref (ad2 6), .ref (ad2 7), .int 0, .int 0, .null]))]) (S2 := (mp (rfN ra nm row) 0)) (M' := [_, _, _, _, _, _, _, _, _]) 0 rfl rfl ?_
  refine gg_spl (S1 := [(a1, .inl (1, [.ref (ad2 1), .ref (ad2 3), .ref (ad2 4), .ref (ad2 6), .ref (ad2 7), .int 0, .int 0, .null]))]) (S2 := (llS nd wo 0)) (M' := [_, _, _, _, _, _, _, _, _, _]) 0 rfl rfl ?_
  refine gg_spl (S1 := [(a1, .inl (1, [.ref (ad2 1), .ref (ad2 3), .ref (ad2 4), .ref (ad2 6), .ref (ad2 7), .int 0, .int 0, .null]))]) (S2 := (mp (tuN tu sn hd row) 0)) (M' := [_, _, _, _, _, _, _, _, _, _, _]) 0 rfl rfl ?_
  refine gg_spl (S1 := [(a1, .inl (1, [.ref (ad2 1), .ref (ad2 3), .ref (ad2 4), .ref (ad2 6), .ref (ad2 7), .int 0, .int 0, .null]))]) (S2 := (mp (heN g hd row) 0)) (M' := [_, _, _, _, _, _, _, _, _, _, _, _]) 0 rfl rfl ?_
  refine gg_iconst (v := 0) (pc := 8) E dX2_copy_8 (by decide) ?_
  refine gg_istore_n (lv' := [_, _, _, _]) (pc := 9) E dX2_copy_9 rfl (Nat.le_of_ble_eq_true rfl) rfl rfl ?_
  have L10 : ∀ (n : Nat) (k : Nat) (ra2 : Nat → Nat) (n1 : Int32), nr - k < n → (k ≤ nr) → gg_W p l e R s m args below meth c g A 4 Q (8 + k) (8 + 70 + 7 * k) [[(a1, .inl (1, [.ref (ad2 1), .ref (ad2 3), .ref (ad2 4), .ref (ad2 6), .ref (ad2 7), .int 0, .int 0, .null]))], [((ad2 1), .inl (11, [.int n1, .ref (ad2 2), .int (nI k)]))], [((ad2 2), gg_ao g 4 10 (lsF ra2 k))], [((ad2 3), .inl (15, [.int 0, .int (nI 0), llF nd 0, llL nd 0]))], [((ad2 4), .inl (11, [.int 0, .ref (ad2 5), .int (nI 0)]))], [((ad2 5), gg_ao g 4 30 (lsF tu 0))], [((ad2 6), gg_ai g 3 (fun j => if j = 0 then 3 else if j = 1 then 50 else 1))], [((ad2 7), gg_ai g 11 (fun _ => 0))], (mp (rfN ra2 nm row) k), (llS nd wo 0), (mp (tuN tu sn hd row) 0), (mp (heN g hd row) 0)] [some (.ref w), some (.ref a1), some (.int (nI k)), none] [] 10 := by
    intro n10
    induction n10 with
    | zero => intro k ra2 n1 hmz; exact absurd hmz (Nat.not_lt_zero _)
    | succ n10 ih10 =>
      intro k ra2 n1 hm10 hk
      refine gg_iload_n (pc := 10) E dX2_copy_10 rfl rfl ?_
      refine gg_aload_n (pc := 11) E dX2_copy_11 rfl rfl ?_
      refine gg_get (pc := 12) E ck_X2 0 q598 rfl (by decide) dX2_copy_12 (gg_r 0 rfl) rfl ?_
      refine gg_callF (F := [_, _, _, _, _, _, _, _, _, _, _, _]) (As := []) (rest := [_]) (pc := 15) E ck_J2 (ct_J2_size hl ) (gg_cwF 0 E (x := ⟨"java/util/List", "size", "()I"⟩) (by decide) nq1046 nq1044 nq683 (lw_app (lw_in _ [1095, 1043, 1045, 155] (by decide +kernel) (by decide +kernel)) (lw_meth q1047)) (by decide +kernel) ⟨by rw [hRf]; exact Nat.le_of_ble_eq_true rfl, by rw [hRl]; exact Nat.le_of_ble_eq_true rfl⟩) dX2_copy_15 [] (by decide) rfl rfl (List.forall_mem_cons.mpr ⟨(gg_r 1 rfl), (fun _ h => by cases h)⟩) (gg_r 1 rfl) rfl rfl (Nat.le_of_ble_eq_true rfl) (by first | (rw [hRc]; dsimp only; omega) | (rw [hRc]; exact Nat.le_of_ble_eq_true rfl)) (by first | (rw [hRs]; dsimp only; omega) | (rw [hRs]; exact Nat.le_of_ble_eq_true rfl)) ?_ (fun X q C1 h => h.elim)
      rintro _ _ ⟨rfl, rfl⟩
      dsimp only [List.cons_append, List.nil_append, Option.toList]
      refine gg_icmpN_ge (tgt := 47) (pc := 20) E k nr rfl rfl (by omega) (by omega) dX2_copy_20 (by decide) (fun c20 => ?_) (fun c20 => ?_)
      · obtain rfl : nr = k := by omega
        refine gg_aload_n (pc := 47) E dX2_copy_47 rfl rfl ?_
        refine gg_get (pc := 48) E ck_X2 1 q601 rfl (by decide) dX2_copy_48 (gg_r 0 rfl) rfl ?_
        refine gg_callU (F := [_, _, _, _, _, _, _, _, _, _, _, _]) (As := []) (rest := []) (pc := 51) E ck_J19 (ct_J18_iterator hl (by omega)) (va_cwU (own := "WhistlePosts$World") (C := "java/util/LinkedList") (index := 58) (x := ⟨"java/util/LinkedList", "iterator", "()Ljava/util/Iterator;"⟩) (owner := "java/util/AbstractSequentialList") 0 E.2.2.2.2.1 (lw_app (lw_in _ [1190, 1191, 1193, 1194, 172] (by decide +kernel) (by decide +kernel)) (lw_meth q1195)) rfl rfl rfl rfl (by decide +kernel) ⟨by rw [hRf]; exact Nat.le_of_ble_eq_true rfl, by rw [hRl]; exact Nat.le_of_ble_eq_true rfl⟩) dX2_copy_51 [] (by decide) rfl rfl (List.forall_mem_append.mpr ⟨(List.forall_mem_cons.mpr ⟨(gg_r 3 rfl), (fun _ h => by cases h)⟩), (fun q hq => gg_rm (List.mem_append_right _ (List.mem_append_left _ (hq))))⟩) (gg_r 3 rfl) rfl rfl (Nat.le_of_ble_eq_true rfl) (by first | (rw [hRc]; dsimp only; omega) | (rw [hRc]; exact Nat.le_of_ble_eq_true rfl)) (by first | (rw [hRs]; dsimp only; omega) | (rw [hRs]; exact Nat.le_of_ble_eq_true rfl)) ?_ (fun X q C1 h => h.elim)
        rintro _ _ ⟨i1, rfl, rfl⟩
        dsimp only [List.cons_append, List.nil_append, Option.toList]
        refine gg_up12 ?_
        refine gg_astore_n (lv' := [_, _, _, _]) (pc := 54) E dX2_copy_54 rfl (Nat.le_of_ble_eq_true rfl) rfl rfl ?_
        have L55 : ∀ (n : Nat) (k : Nat) (v : Value) (nd2 wo2 : Nat → Nat) (n2 : Int32), nw - k < n → (k ≤ nw) → (∀ j, j < k → wo2 j = wo j) → gg_W p l e R s m args below meth c g A 4 Q (8 + nr + 1 + k) (8 + 70 + 7 * nr + 5 + 3 * k) [[(a1, .inl (1, [.ref (ad2 1), .ref (ad2 3), .ref (ad2 4), .ref (ad2 6), .ref (ad2 7), .int 0, .int 0, .null]))], [((ad2 1), .inl (11, [.int n1, .ref (ad2 2), .int (nI nr)]))], [((ad2 2), gg_ao g 4 10 (lsF ra2 nr))], [((ad2 3), .inl (15, [.int n2, .int (nI k), llF nd2 k, llL nd2 k]))], [((ad2 4), .inl (11, [.int 0, .ref (ad2 5), .int (nI 0)]))], [((ad2 5), gg_ao g 4 30 (lsF tu 0))], [((ad2 6), gg_ai g 3 (fun j => if j = 0 then 3 else if j = 1 then 50 else 1))], [((ad2 7), gg_ai g 11 (fun _ => 0))], (mp (rfN ra2 nm row) nr), (llS nd2 wo2 k), (mp (tuN tu sn hd row) 0), (mp (heN g hd row) 0), [(i1, .inl (19, [v, va_rf (if k < nw then some (nd k) else none), .int (nI k), .int m2, .ref (ad 3)]))]] [some (.ref w), some (.ref a1), some (.ref i1), none] [] 55 := by
          intro n55
          induction n55 with
          | zero => intro k v nd2 wo2 n2 hmz; exact absurd hmz (Nat.not_lt_zero _)
          | succ n55 ih55 =>
            intro k v nd2 wo2 n2 hm55 hk hwo
            refine gg_aload_n (pc := 55) E dX2_copy_55 rfl rfl ?_
            refine gg_callF (F := [_, _, _, _, _, _, _, _, _, _, _, _, _]) (As := []) (rest := []) (pc := 56) E ck_J28 (ct_J28_hasNext hl (hk) (by omega)) (gg_cwF 0 E (x := ⟨"java/util/Iterator", "hasNext", "()Z"⟩) (by decide) nq1310 nq1308 nq1306 (lw_app (lw_in _ [1283, 1307, 1309, 188] (by decide +kernel) (by decide +kernel)) (lw_meth q1311)) (by decide +kernel) ⟨by rw [hRf]; exact Nat.le_of_ble_eq_true rfl, by rw [hRl]; exact Nat.le_of_ble_eq_true rfl⟩) dX2_copy_56 [] (by decide) rfl rfl (List.forall_mem_cons.mpr ⟨(gg_i 12 rfl), (List.forall_mem_cons.mpr ⟨(gg_r 3 rfl), (fun _ h => by cases h)⟩)⟩) (gg_i 12 rfl) rfl rfl (Nat.le_of_ble_eq_true rfl) (by first | (rw [hRc]; dsimp only; omega) | (rw [hRc]; exact Nat.le_of_ble_eq_true rfl)) (by first | (rw [hRs]; dsimp only; omega) | (rw [hRs]; exact Nat.le_of_ble_eq_true rfl)) ?_ (fun X q C1 h => h.elim)
            rintro _ _ ⟨rfl, rfl⟩
            dsimp only [List.cons_append, List.nil_append, Option.toList]
            refine gg_ifP_eq (tgt := 85) (pc := 61) E dX2_copy_61 (by decide) (fun c61 => ?_) (fun c61 => ?_)
            · have hkn : nw = k := by omega
              refine gg_let rfl rfl ?_
              subst hkn
              refine gg_seg (S' := llS nd2 wo nw) (M' := [_, _, _, _, _, _, _, _, _, _, _, _]) 9 rfl (nd_push fun j hj => ⟨rfl, hwo j hj⟩) rfl ?_
              refine gg_iconst (v := 0) (pc := 85) E dX2_copy_85 (by decide) ?_
              refine gg_istore_n (lv' := [_, _, _, _]) (pc := 86) E dX2_copy_86 rfl (Nat.le_of_ble_eq_true rfl) rfl rfl ?_
              have L87 : ∀ (n : Nat) (k : Nat) (tu2 hd2 : Nat → Nat) (n3 : Int32), nt - k < n → (k ≤ nt) → gg_W p l e R s m args below meth c g A 4 Q (8 + nr + 1 + nw + 2 * k) (8 + 70 + 7 * nr + 5 + 3 * nw + 21 * k) [[(a1, .inl (1, [.ref (ad2 1), .ref (ad2 3), .ref (ad2 4), .ref (ad2 6), .ref (ad2 7), .int 0, .int 0, .null]))], [((ad2 1), .inl (11, [.int n1, .ref (ad2 2), .int (nI nr)]))], [((ad2 2), gg_ao g 4 10 (lsF ra2 nr))], [((ad2 3), .inl (15, [.int n2, .int (nI nw), llF nd2 nw, llL nd2 nw]))], [((ad2 4), .inl (11, [.int n3, .ref (ad2 5), .int (nI k)]))], [((ad2 5), gg_ao g 4 30 (lsF tu2 k))], [((ad2 6), gg_ai g 3 (fun j => if j = 0 then 3 else if j = 1 then 50 else 1))], [((ad2 7), gg_ai g 11 (fun _ => 0))], (mp (rfN ra2 nm row) nr), (llS nd2 wo nw), (mp (tuN tu2 sn hd2 row) k), (mp (heN g hd2 row) k)] [some (.ref w), some (.ref a1), some (.int (nI k)), none] [] 87 := by
                intro n87
                induction n87 with
                | zero => intro k tu2 hd2 n3 hmz; exact absurd hmz (Nat.not_lt_zero _)
                | succ n87 ih87 =>
                  intro k tu2 hd2 n3 hm87 hk
                  refine gg_iload_n (pc := 87) E dX2_copy_87 rfl rfl ?_
                  refine gg_aload_n (pc := 88) E dX2_copy_88 rfl rfl ?_
                  refine gg_get (pc := 89) E ck_X2 2 q604 rfl (by decide) dX2_copy_89 (gg_r 0 rfl) rfl ?_
                  refine gg_callF (F := [_, _, _, _, _, _, _, _, _, _, _, _]) (As := []) (rest := [_]) (pc := 92) E ck_J2 (ct_J2_size hl ) (gg_cwF 0 E (x := ⟨"java/util/List", "size", "()I"⟩) (by decide) nq1046 nq1044 nq683 (lw_app (lw_in _ [1095, 1043, 1045, 155] (by decide +kernel) (by decide +kernel)) (lw_meth q1047)) (by decide +kernel) ⟨by rw [hRf]; exact Nat.le_of_ble_eq_true rfl, by rw [hRl]; exact Nat.le_of_ble_eq_true rfl⟩) dX2_copy_92 [] (by decide) rfl rfl (List.forall_mem_cons.mpr ⟨(gg_r 4 rfl), (fun _ h => by cases h)⟩) (gg_r 4 rfl) rfl rfl (Nat.le_of_ble_eq_true rfl) (by first | (rw [hRc]; dsimp only; omega) | (rw [hRc]; exact Nat.le_of_ble_eq_true rfl)) (by first | (rw [hRs]; dsimp only; omega) | (rw [hRs]; exact Nat.le_of_ble_eq_true rfl)) ?_ (fun X q C1 h => h.elim)
                  rintro _ _ ⟨rfl, rfl⟩
                  dsimp only [List.cons_append, List.nil_append, Option.toList]
                  refine gg_icmpN_ge (tgt := 124) (pc := 97) E k nt rfl rfl (by omega) (by omega) dX2_copy_97 (by decide) (fun c97 => ?_) (fun c97 => ?_)
                  · obtain rfl : nt = k := by omega
                    refine gg_aload_n (pc := 124) E dX2_copy_124 rfl rfl ?_
                    refine gg_get (pc := 125) E ck_X2 3 q606 rfl (by decide) dX2_copy_125 (gg_r 0 rfl) rfl ?_
                    refine gg_iconst (v := 0) (pc := 128) E dX2_copy_128 (by decide) ?_
                    refine gg_aload_n (pc := 129) E dX2_copy_129 rfl rfl ?_
                    refine gg_get (pc := 130) E ck_X2 3 q606 rfl (by decide) dX2_copy_130 (gg_i 0 rfl) rfl ?_
                    refine gg_iconst (v := 0) (pc := 133) E dX2_copy_133 (by decide) ?_
                    refine gg_iconst (v := 3) (pc := 134) E dX2_copy_134 (by decide) ?_
                    refine gg_copyI (k := 3) (M' := [_, _, _, _, _, _, _, _, _, _, _, _]) (pc := 135) E q2191 q363 q362 q167 dX2_copy_135 (gg_r 6 rfl) 6 rfl (by omega) (by omega) (by omega) (by rw [hRf]; exact Nat.le_of_ble_eq_true rfl) (by rw [hRl]; exact Nat.le_of_ble_eq_true rfl) rfl ?_
                    refine gg_cel (y := gg_ai g 3 (fun j => row (4 + j))) 6 rfl (gg_ai_congr fun j hj => if_pos hj) rfl ?_
                    refine gg_aload_n (pc := 138) E dX2_copy_138 rfl rfl ?_
                    refine gg_get (pc := 139) E ck_X2 4 q608 rfl (by decide) dX2_copy_139 (gg_r 0 rfl) rfl ?_
                    refine gg_iconst (v := 0) (pc := 142) E dX2_copy_142 (by decide) ?_
                    refine gg_aload_n (pc := 143) E dX2_copy_143 rfl rfl ?_
                    refine gg_get (pc := 144) E ck_X2 4 q608 rfl (by decide) dX2_copy_144 (gg_i 0 rfl) rfl ?_
                    refine gg_iconst (v := 0) (pc := 147) E dX2_copy_147 (by decide) ?_
                    refine gg_bipush (v := 11) (pc := 148) E dX2_copy_148 (by decide) ?_
                    refine gg_copyI (k := 11) (M' := [_, _, _, _, _, _, _, _, _, _, _, _]) (pc := 150) E q2191 q363 q362 q167 dX2_copy_150 (gg_r 7 rfl) 7 rfl (by omega) (by omega) (by omega) (by rw [hRf]; exact Nat.le_of_ble_eq_true rfl) (by rw [hRl]; exact Nat.le_of_ble_eq_true rfl) rfl ?_
                    refine gg_cel (y := gg_ai g 11 (fun j => row (10 + j))) 7 rfl (gg_ai_congr fun j hj => if_pos hj) rfl ?_
                    refine gg_aload_n (pc := 153) E dX2_copy_153 rfl rfl ?_
                    refine gg_aload_n (pc := 154) E dX2_copy_154 rfl rfl ?_
                    refine gg_get (pc := 155) E ck_X2 5 q610 rfl (by decide) dX2_copy_155 (gg_r 0 rfl) rfl ?_
                    refine gg_put (fs' := [_, _, _, _, _, _, _, _]) (M' := [_, _, _, _, _, _, _, _, _, _, _, _]) (pc := 158) E ck_X2 5 q610 rfl (by decide) dX2_copy_158 0 rfl rfl (rfl) rfl (Nat.le_of_ble_eq_true rfl) rfl rfl ?_
                    refine gg_aload_n (pc := 161) E dX2_copy_161 rfl rfl ?_
                    refine gg_aload_n (pc := 162) E dX2_copy_162 rfl rfl ?_
                    refine gg_get (pc := 163) E ck_X2 6 q612 rfl (by decide) dX2_copy_163 (gg_r 0 rfl) rfl ?_
                    refine gg_put (fs' := [_, _, _, _, _, _, _, _]) (M' := [_, _, _, _, _, _, _, _, _, _, _, _]) (pc := 166) E ck_X2 6 q612 rfl (by decide) dX2_copy_166 0 rfl rfl (rfl) rfl (Nat.le_of_ble_eq_true rfl) rfl rfl ?_
                    refine gg_aload_n (pc := 169) E dX2_copy_169 rfl rfl ?_
                    refine gg_aload_n (pc := 170) E dX2_copy_170 rfl rfl ?_
                    refine gg_get (pc := 171) E ck_X2 7 q613 rfl (by decide) dX2_copy_171 (gg_r 0 rfl) rfl ?_
                    refine gg_put (fs' := [_, _, _, _, _, _, _, _]) (M' := [_, _, _, _, _, _, _, _, _, _, _, _]) (pc := 174) E ck_X2 7 q613 rfl (by decide) dX2_copy_174 0 rfl rfl (rfl) (fits_rfa _ _) (Nat.le_of_ble_eq_true rfl) rfl rfl ?_
                    refine gg_aload_n (pc := 177) E dX2_copy_177 rfl rfl ?_
                    refine gg_aret (pc := 178) E Fn rfl (Or.inl ⟨_, rfl⟩) (Or.inr ⟨_, rfl⟩) dX2_copy_178 (by first | omega | (dsimp only; omega) | exact Nat.le_of_ble_eq_true rfl) (by first | omega | (dsimp only; omega) | exact Nat.le_of_ble_eq_true rfl) ?_
                    exact ⟨a1, ad2, ra2, nd2, tu2, hd2, n1, n2, n3, rfl, rfl⟩
                  · refine gg_aload_n (pc := 100) E dX2_copy_100 rfl rfl ?_
                    refine gg_get (pc := 101) E ck_X2 2 q604 rfl (by decide) dX2_copy_101 (gg_i 0 rfl) rfl ?_
                    refine gg_aload_n (pc := 104) E dX2_copy_104 rfl rfl ?_
                    refine gg_iload_n (pc := 105) E dX2_copy_105 rfl rfl ?_
                    have h8k := (hT k c97).2.2.2.2.2.2.2.2.2
                    refine gg_callV (F := [_, _, _, _, _, _, _, _, _, _, _, _]) (As := [.int (nI k)]) (rest := [_]) (pc := 106) E ck_X2 (ct_X2_tune hl (c97) (ht30)) (cwV 1 E.2.2.2.2.1 (lw_V q1651 q1652 q1653 q152 q1654) rfl rfl rfl (by decide +kernel) ⟨by rw [hRf]; exact Nat.le_of_ble_eq_true rfl, by rw [hRl]; exact Nat.le_of_ble_eq_true rfl⟩) dX2_copy_106 [] (by decide) rfl rfl (List.forall_mem_append.mpr ⟨(List.forall_mem_cons.mpr ⟨(gg_r 0 rfl), (List.forall_mem_cons.mpr ⟨(gg_r 4 rfl), (List.forall_mem_cons.mpr ⟨(gg_r 5 rfl), (fun _ h => by cases h)⟩)⟩)⟩), (fun q hq => gg_rm (List.mem_append_right _ (List.mem_append_right _ (List.mem_append_right _ (List.mem_append_left _ (hq))))))⟩) (gg_r 0 rfl) rfl rfl (Nat.le_of_ble_eq_true rfl) (by first | (rw [hRc]; dsimp only; omega) | (rw [hRc]; exact Nat.le_of_ble_eq_true rfl)) (by first | (rw [hRs]; dsimp only; omega) | (rw [hRs]; exact Nat.le_of_ble_eq_true rfl)) ?_ (fun X q C1 h => h.elim)
                    rintro _ _ ⟨rfl, rfl⟩
                    dsimp only [List.cons_append, List.nil_append, Option.toList]
                    refine gg_callV (F := [_, _, _, _, _, _, _, _, _, _, _, _]) (As := []) (rest := [_]) (pc := 109) E ck_X8 (ct_X8_copy hl (by have := (hT k c97).2.2.2.2.2.2.2.2.2; omega) (hb k c97).1 (hb k c97).2) (cwV 0 E.2.2.2.2.1 (lw_V q2185 q2186 q2187 q192 q2188) rfl rfl rfl (by decide +kernel) ⟨by rw [hRf]; exact Nat.le_of_ble_eq_true rfl, by rw [hRl]; exact Nat.le_of_ble_eq_true rfl⟩) dX2_copy_109 [] (by decide) rfl rfl (List.forall_mem_cons.mpr ⟨(gg_rm (List.mem_append_right _ (List.mem_append_right _ (List.mem_append_right _ (List.mem_append_left _ (mp_mem (by omega))))))), (List.forall_mem_cons.mpr ⟨(gg_rm (List.mem_append_right _ (List.mem_append_right _ (List.mem_append_right _ (List.mem_append_right _ (List.mem_append_right _ (hP.1 k (by omega)))))))), (List.forall_mem_cons.mpr ⟨(gg_rm (List.mem_append_right _ (List.mem_append_right _ (List.mem_append_right _ (List.mem_append_right _ (List.mem_append_left _ (mp_mem (by omega)))))))), (fun _ h => by cases h)⟩)⟩)⟩) (gg_rm (List.mem_append_right _ (List.mem_append_right _ (List.mem_append_right _ (List.mem_append_left _ (mp_mem (by omega))))))) rfl rfl (Nat.le_of_ble_eq_true rfl) (by first | (rw [hRc]; dsimp only; omega) | (rw [hRc]; exact Nat.le_of_ble_eq_true rfl)) (by first | (rw [hRs]; dsimp only; omega) | (rw [hRs]; exact Nat.le_of_ble_eq_true rfl)) ?_ (fun X q C1 h => h.elim)
                    rintro _ _ ⟨t3_2, h3_3, rfl, rfl⟩
                    dsimp only [List.cons_append, List.nil_append, Option.toList]
                    refine gg_up13 ?_
                    refine gg_up13 ?_
                    refine gg_callF (F := [_, _, _, _, _, _, _, _, _, _, _, _]) (As := [_]) (rest := []) (pc := 112) E ck_J2 (ct_J2_add hl (by omega) (by omega) ck_X8 (gg_nwi q3513 rfl)) (gg_cwF 1 E (x := ⟨"java/util/List", "add", "(Ljava/lang/Object;)Z"⟩) (by decide) nq687 nq685 nq683 (lw_app (lw_in _ [680, 684, 686, 155] (by decide +kernel) (by decide +kernel)) (lw_meth q688)) (by decide +kernel) ⟨by rw [hRf]; exact Nat.le_of_ble_eq_true rfl, by rw [hRl]; exact Nat.le_of_ble_eq_true rfl⟩) dX2_copy_112 [4, 5] (by decide) rfl rfl (List.forall_mem_cons.mpr ⟨(gg_i 10 rfl), (fun _ h => by cases h)⟩) (gg_i 4 rfl) rfl rfl (Nat.le_of_ble_eq_true rfl) (by first | (rw [hRc]; dsimp only; omega) | (rw [hRc]; exact Nat.le_of_ble_eq_true rfl)) (by first | (rw [hRs]; dsimp only; omega) | (rw [hRs]; exact Nat.le_of_ble_eq_true rfl)) ?_ (fun X q C1 h => h.elim)
                    rintro _ _ ⟨rfl, rfl⟩
                    dsimp only [List.cons_append, List.nil_append, Option.toList]
                    refine gg_up5 ?_
                    refine gg_up5 ?_
                    refine gg_pop (pc := 117) E dX2_copy_117 rfl ?_
                    refine gg_cel (y := gg_ao g 4 30 (lsF (llU tu2 k t3_2) (k + 1))) 5 rfl (congrArg (gg_ao g 4 30) lsF_push) rfl ?_
                    refine gg_psh (x := [(h3_3, gg_ai g (tno row k) (fun j => row (220 + 27 * k + 19 + j)))]) (M' := [_, _, _, _, _, _, _, _, _, _, _, _, _]) 11 rfl rfl rfl ?_
                    refine gg_seg (S' := mp (heN g (llU hd2 k h3_3) row) (k + 1)) (M' := [_, _, _, _, _, _, _, _, _, _, _, _, _]) 11 rfl he_push rfl ?_
                    refine gg_psh (x := [(t3_2, .inl (7, [.int (nI k), .int (row (220 + 27 * k)), .int (row (220 + 27 * k + 1)), .ref (sn k), .ref h3_3, .int (row (220 + 27 * k + 6)), .int (row (220 + 27 * k + 7)), .int (row (220 + 27 * k + 4)), .int (row (220 + 27 * k + 3)), .int (row (220 + 27 * k + 5)), .int (row (220 + 27 * k + 10)), .int (row (220 + 27 * k + 8)), .int (row (220 + 27 * k + 9))]))]) (M' := [_, _, _, _, _, _, _, _, _, _, _, _]) 10 rfl rfl rfl ?_
                    refine gg_seg (S' := mp (tuN (llU tu2 k t3_2) sn (llU hd2 k h3_3) row) (k + 1)) (M' := [_, _, _, _, _, _, _, _, _, _, _, _]) 10 rfl tu_push rfl ?_
                    refine gg_iincN (k := 1) (lv' := [_, _, _, _]) (pc := 118) E k dX2_copy_118 rfl rfl rfl (Nat.le_of_ble_eq_true rfl) rfl rfl ?_
                    refine gg_goto (tgt := 87) (pc := 121) E dX2_copy_121 (by decide) ?_
                    refine gg_cv rfl (gg_leS (gg_leS (gg_leS (gg_leN gg_le0)))) rfl (by first | omega | exact Nat.le_refl _ | (dsimp only; omega)) (by first | omega | exact Nat.le_refl _ | (dsimp only; omega)) (ih87 (k + 1) (llU tu2 k t3_2) (llU hd2 k h3_3) (n3 + 1) (by omega) (by omega))
              refine gg_cv rfl (gg_leS (gg_leS (gg_leS (gg_leN gg_le0)))) rfl (by first | omega | exact Nat.le_refl _ | (dsimp only; omega)) (by first | omega | exact Nat.le_refl _ | (dsimp only; omega)) (L87 _ 0 tu hd 0 (Nat.lt_succ_self _) (Nat.zero_le _))
            · refine gg_aload_n (pc := 64) E dX2_copy_64 rfl rfl ?_
              refine gg_callF (F := [_, _, _, _, _, _, _, _, _, _, _, _]) (As := []) (rest := []) (pc := 65) E ck_J28 (ct_J28_next hl (c61) (by omega)) (gg_cwF 0 E (x := ⟨"java/util/Iterator", "next", "()Ljava/lang/Object;"⟩) (by decide) nq1423 nq1421 nq1306 (lw_app (lw_in _ [1313, 1420, 1422, 188] (by decide +kernel) (by decide +kernel)) (lw_meth q1424)) (by decide +kernel) ⟨by rw [hRf]; exact Nat.le_of_ble_eq_true rfl, by rw [hRl]; exact Nat.le_of_ble_eq_true rfl⟩) dX2_copy_65 [12] (by decide) rfl rfl (List.forall_mem_append.mpr ⟨(List.forall_mem_cons.mpr ⟨(gg_r 3 rfl), (fun _ h => by cases h)⟩), (fun q hq => gg_rm (List.mem_append_right _ (List.mem_append_left _ (hq))))⟩) (gg_i 12 rfl) rfl rfl (Nat.le_of_ble_eq_true rfl) (by first | (rw [hRc]; dsimp only; omega) | (rw [hRc]; exact Nat.le_of_ble_eq_true rfl)) (by first | (rw [hRs]; dsimp only; omega) | (rw [hRs]; exact Nat.le_of_ble_eq_true rfl)) ?_ (fun X q C1 h => h.elim)
              rintro _ _ ⟨rfl, rfl⟩
              dsimp only [List.cons_append, List.nil_append, Option.toList]
              refine gg_up12 ?_
              refine gg_cast (pc := 70) E ck_X4 q1432 (Or.inl rfl) dX2_copy_70 (gg_rm (List.mem_append_right _ (List.mem_append_right _ (List.mem_append_right _ (List.mem_append_right _ (List.mem_append_right _ (hP.2 k (by omega)))))))) ?_
              refine gg_astore_n (lv' := [_, _, _, _]) (pc := 73) E dX2_copy_73 rfl (Nat.le_of_ble_eq_true rfl) rfl rfl ?_
              refine gg_aload_n (pc := 74) E dX2_copy_74 rfl rfl ?_
              refine gg_get (pc := 75) E ck_X2 1 q601 rfl (by decide) dX2_copy_75 (gg_i 0 rfl) rfl ?_
              refine gg_aload_n (pc := 78) E dX2_copy_78 rfl rfl ?_
              refine gg_callV (F := [_, _, _, _, _, _, _, _, _, _, _]) (As := [_]) (rest := []) (pc := 79) E ck_J19 (ct_J19_addLast hl (by omega)) (cwV 1 E.2.2.2.2.1 (lw_V q2184 q804 q805 q173 q806) rfl rfl rfl (by decide +kernel) ⟨by rw [hRf]; exact Nat.le_of_ble_eq_true rfl, by rw [hRl]; exact Nat.le_of_ble_eq_true rfl⟩) dX2_copy_79 [3, 9] (by decide) rfl rfl (fun _ h => by cases h) (gg_i 3 rfl) rfl rfl (Nat.le_of_ble_eq_true rfl) (by first | (rw [hRc]; dsimp only; omega) | (rw [hRc]; exact Nat.le_of_ble_eq_true rfl)) (by first | (rw [hRs]; dsimp only; omega) | (rw [hRs]; exact Nat.le_of_ble_eq_true rfl)) ?_ (fun X q C1 h => h.elim)
              rintro _ _ ⟨b1, rfl, rfl⟩
              dsimp only [List.cons_append, List.nil_append, Option.toList]
              refine gg_up4 ?_
              refine gg_up9 ?_
              refine gg_goto (tgt := 55) (pc := 82) E dX2_copy_82 (by decide) ?_
              refine gg_cv rfl (gg_leS (gg_leS (gg_leS (gg_leN gg_le0)))) rfl (by first | omega | exact Nat.le_refl _ | (dsimp only; omega)) (by first | omega | exact Nat.le_refl _ | (dsimp only; omega)) (ih55 (k + 1) (.ref (nd k)) (llU nd2 k b1) (llU wo2 k (wo k)) (n2 + 1) (by omega) (by omega) (fun j hj => by unfold llU; by_cases e : j = k; (· rw [if_pos e, e]); (· rw [if_neg e]; exact hwo j (by omega))))
        refine gg_cv rfl (gg_leS (gg_leS (gg_leS (gg_leN gg_le0)))) rfl (by first | omega | exact Nat.le_refl _ | (dsimp only; omega)) (by first | omega | exact Nat.le_refl _ | (dsimp only; omega)) (L55 _ 0 .null nd wo 0 (Nat.lt_succ_self _) (Nat.zero_le _) (fun j h => absurd h (Nat.not_lt_zero j)))
      · refine gg_aload_n (pc := 23) E dX2_copy_23 rfl rfl ?_
        refine gg_get (pc := 24) E ck_X2 0 q598 rfl (by decide) dX2_copy_24 (gg_i 0 rfl) rfl ?_
        refine gg_aload_n (pc := 27) E dX2_copy_27 rfl rfl ?_
        refine gg_iload_n (pc := 28) E dX2_copy_28 rfl rfl ?_
        refine gg_callV (F := [_, _, _, _, _, _, _, _, _, _, _, _]) (As := [.int (nI k)]) (rest := [_]) (pc := 29) E ck_X2 (ct_X2_roof hl (c20) (hr10)) (cwV 1 E.2.2.2.2.1 (lw_V q1096 q1097 q1098 q152 q1099) rfl rfl rfl (by decide +kernel) ⟨by rw [hRf]; exact Nat.le_of_ble_eq_true rfl, by rw [hRl]; exact Nat.le_of_ble_eq_true rfl⟩) dX2_copy_29 [] (by decide) rfl rfl (List.forall_mem_append.mpr ⟨(List.forall_mem_cons.mpr ⟨(gg_r 0 rfl), (List.forall_mem_cons.mpr ⟨(gg_r 1 rfl), (List.forall_mem_cons.mpr ⟨(gg_r 2 rfl), (fun _ h => by cases h)⟩)⟩)⟩), (fun q hq => gg_rm (List.mem_append_right _ (List.mem_append_right _ (List.mem_append_left _ (hq)))))⟩) (gg_r 0 rfl) rfl rfl (Nat.le_of_ble_eq_true rfl) (by first | (rw [hRc]; dsimp only; omega) | (rw [hRc]; exact Nat.le_of_ble_eq_true rfl)) (by first | (rw [hRs]; dsimp only; omega) | (rw [hRs]; exact Nat.le_of_ble_eq_true rfl)) ?_ (fun X q C1 h => h.elim)
        rintro _ _ ⟨rfl, rfl⟩
        dsimp only [List.cons_append, List.nil_append, Option.toList]
        refine gg_callV (F := [_, _, _, _, _, _, _, _, _, _, _, _]) (As := []) (rest := [_]) (pc := 32) E ck_X3 (ct_X3_copy hl ) (cwV 0 E.2.2.2.2.1 (lw_V q2178 q2179 q2180 q174 q2181) rfl rfl rfl (by decide +kernel) ⟨by rw [hRf]; exact Nat.le_of_ble_eq_true rfl, by rw [hRl]; exact Nat.le_of_ble_eq_true rfl⟩) dX2_copy_32 [] (by decide) rfl rfl (List.forall_mem_cons.mpr ⟨(gg_rm (List.mem_append_right _ (List.mem_append_right _ (List.mem_append_left _ (mp_mem (by omega)))))), (fun _ h => by cases h)⟩) (gg_rm (List.mem_append_right _ (List.mem_append_right _ (List.mem_append_left _ (mp_mem (by omega)))))) rfl rfl (Nat.le_of_ble_eq_true rfl) (by first | (rw [hRc]; dsimp only; omega) | (rw [hRc]; exact Nat.le_of_ble_eq_true rfl)) (by first | (rw [hRs]; dsimp only; omega) | (rw [hRs]; exact Nat.le_of_ble_eq_true rfl)) ?_ (fun X q C1 h => h.elim)
        rintro _ _ ⟨r2_4, rfl, rfl⟩
        dsimp only [List.cons_append, List.nil_append, Option.toList]
        refine gg_up12 ?_
        refine gg_callF (F := [_, _, _, _, _, _, _, _, _, _, _]) (As := [_]) (rest := []) (pc := 35) E ck_J2 (ct_J2_add hl (by omega) (by omega) ck_X3 (gg_nwi q3498 rfl)) (gg_cwF 1 E (x := ⟨"java/util/List", "add", "(Ljava/lang/Object;)Z"⟩) (by decide) nq687 nq685 nq683 (lw_app (lw_in _ [680, 684, 686, 155] (by decide +kernel) (by decide +kernel)) (lw_meth q688)) (by decide +kernel) ⟨by rw [hRf]; exact Nat.le_of_ble_eq_true rfl, by rw [hRl]; exact Nat.le_of_ble_eq_true rfl⟩) dX2_copy_35 [1, 2] (by decide) rfl rfl (List.forall_mem_cons.mpr ⟨(gg_i 10 rfl), (fun _ h => by cases h)⟩) (gg_i 1 rfl) rfl rfl (Nat.le_of_ble_eq_true rfl) (by first | (rw [hRc]; dsimp only; omega) | (rw [hRc]; exact Nat.le_of_ble_eq_true rfl)) (by first | (rw [hRs]; dsimp only; omega) | (rw [hRs]; exact Nat.le_of_ble_eq_true rfl)) ?_ (fun X q C1 h => h.elim)
        rintro _ _ ⟨rfl, rfl⟩
        dsimp only [List.cons_append, List.nil_append, Option.toList]
        refine gg_up2 ?_
        refine gg_up2 ?_
        refine gg_pop (pc := 40) E dX2_copy_40 rfl ?_
        refine gg_cel (y := gg_ao g 4 10 (lsF (llU ra2 k r2_4) (k + 1))) 2 rfl (congrArg (gg_ao g 4 10) lsF_push) rfl ?_
        refine gg_psh (x := [(r2_4, .inl (2, [.ref (nm k), .int (row (25 + 13 * k + 7)), .int (row (25 + 13 * k + 8)), .int (row (25 + 13 * k + 9)), .int (row (25 + 13 * k + 10)), .int (row (25 + 13 * k + 11)), .int (row (25 + 13 * k + 12))]))]) (M' := [_, _, _, _, _, _, _, _, _, _, _, _]) 8 rfl rfl rfl ?_
        refine gg_seg (S' := mp (rfN (llU ra2 k r2_4) nm row) (k + 1)) (M' := [_, _, _, _, _, _, _, _, _, _, _, _]) 8 rfl rf_push rfl ?_
        refine gg_iincN (k := 1) (lv' := [_, _, _, _]) (pc := 41) E k dX2_copy_41 rfl rfl rfl (Nat.le_of_ble_eq_true rfl) rfl rfl ?_
        refine gg_goto (tgt := 10) (pc := 44) E dX2_copy_44 (by decide) ?_
        refine gg_cv rfl (gg_leS (gg_leS (gg_leS (gg_leN gg_le0)))) rfl (by first | omega | exact Nat.le_refl _ | (dsimp only; omega)) (by first | omega | exact Nat.le_refl _ | (dsimp only; omega)) (ih10 (k + 1) (llU ra2 k r2_4) (n1 + 1) (by omega) (by omega))
  refine gg_cv rfl (gg_leS (gg_leS (gg_leS (gg_leN gg_le0)))) rfl (by first | omega | exact Nat.le_refl _ | (dsimp only; omega)) (by first | omega | exact Nat.le_refl _ | (dsimp only; omega)) (L10 _ 0 ra 0 (Nat.lt_succ_self _) (Nat.zero_le _))

set_option maxRecDepth 100000
/-- the first n of a list of objects -/
abbrev lsF (f : Nat → Nat) (n : Nat) : Nat → Option Nat := fun k => if k < n then some (f k) else none
theorem lsF_at {f : Nat → Nat} {n k : Nat} (h : k < n) : lsF f n k = some (f k) := if_pos h
/-- a roof, a tune, its notes as heard: the row's numbers in the class's objects -/
abbrev rfN (ra nm : Nat → Nat) (row : Nat → Int32) (k : Nat) : Nat × gg_E := (ra k, .inl (2, [.ref (nm k), .int (row (25 + 13 * k + 7)), .int (row (25 + 13 * k + 8)), .int (row (25 + 13 * k + 9)), .int (row (25 + 13 * k + 10)), .int (row (25 + 13 * k + 11)), .int (row (25 + 13 * k + 12))]))
abbrev tuN (tu sn hd : Nat → Nat) (row : Nat → Int32) (t : Nat) : Nat × gg_E := (tu t, .inl (7, [.int (nI t), .int (row (220 + 27 * t)), .int (row (220 + 27 * t + 1)), .ref (sn t), .ref (hd t), .int (row (220 + 27 * t + 6)), .int (row (220 + 27 * t + 7)), .int (row (220 + 27 * t + 4)), .int (row (220 + 27 * t + 3)), .int (row (220 + 27 * t + 5)), .int (row (220 + 27 * t + 10)), .int (row (220 + 27 * t + 8)), .int (row (220 + 27 * t + 9))]))
abbrev heN (g : gg_G) (hd : Nat → Nat) (row : Nat → Int32) (t : Nat) : Nat × gg_E := (hd t, gg_ai g (tno row t) (fun j => row (220 + 27 * t + 19 + j)))
/-- what lies apart and is never written: the notes as sent, the ways -/
def Po (g : gg_G) (P : gg_S) (sn wy : Nat → Nat) (row : Nat → Int32) (nw nt : Nat) : Prop := (∀ t, t < nt → (sn t, gg_ai g (tno row t) (fun j => row (220 + 27 * t + 11 + j))) ∈ P) ∧ ∀ i, i < nw → (wy i, (.inl (3, [.int (row (160 + 3 * i)), .int (row (160 + 3 * i + 1)), .int (row (160 + 3 * i + 2))]) : gg_E)) ∈ P
set_option maxHeartbeats 4000000 in
theorem ct_X2_roof {l : Launch} (hl : l.stackTraces = false) {g : gg_G}  {w : Nat} {ad : Nat → Nat} {t7 c7 : Int32} {v7 : Value} {ra nm : Nat → Nat} {m1 : Int32} {nr : Nat} {row : Nat → Int32} {k1 : Nat} (hk : k1 < nr) (hr10 : nr ≤ 10) : gg_C l g yX2_roof (ws_ yX2_roof cX2_roof 2 (some (.object "WhistlePosts$Roof"))) { frames := 3, cells := 0, slots := 0, locals := 64 } [.ref w, .int (nI k1)] ([(w, .inl (1, [.ref (ad 1), .ref (ad 3), .ref (ad 4), .ref (ad 6), .ref (ad 7), .int t7, .int c7, v7])), ((ad 1), .inl (11, [.int m1, .ref (ad 2), .int (nI nr)])), ((ad 2), gg_ao g 4 10 (lsF ra nr))] ++ (mp (rfN ra nm row) nr)) [] (fun vv CC => vv = some (.ref (ra k1)) ∧ CC = []) gg_no := by
  refine gg_of (lv := [_, _]) (by decide) hl (Nat.le_of_ble_eq_true rfl) rfl ?_
  intro p e R s m args below meth c A Q hRf hRl hRc hRs E Fn hnm hex
  refine gg_aload_n (pc := 0) E dX2_roof_0 rfl rfl ?_
  refine gg_get (pc := 1) E ck_X2 0 q598 rfl (by decide) dX2_roof_1 (gg_r 0 rfl) rfl ?_
  refine gg_iload_n (pc := 4) E dX2_roof_4 rfl rfl ?_
  refine gg_callF (F := []) (As := [.int (nI k1)]) (rest := []) (pc := 5) E ck_J2 (ct_J2_get hl (hk) (by omega) (by omega) (lsF_at hk)) (gg_cwF 1 E (x := ⟨"java/util/List", "get", "(I)Ljava/lang/Object;"⟩) (by decide) nq1107 nq1105 nq683 (lw_app (lw_in _ [1101, 1104, 1106, 155] (by decide +kernel) (by decide +kernel)) (lw_meth q1108)) (by decide +kernel) ⟨by rw [hRf]; exact Nat.le_of_ble_eq_true rfl, by rw [hRl]; exact Nat.le_of_ble_eq_true rfl⟩) dX2_roof_5 [] (by decide) rfl rfl (List.forall_mem_cons.mpr ⟨(gg_r 1 rfl), (List.forall_mem_cons.mpr ⟨(gg_r 2 rfl), (fun _ h => by cases h)⟩)⟩) (gg_r 1 rfl) rfl rfl (Nat.le_of_ble_eq_true rfl) (by first | (rw [hRc]; exact Nat.le_of_ble_eq_true rfl) | (rw [hRc]; dsimp only; omega)) (by first | (rw [hRs]; exact Nat.le_of_ble_eq_true rfl) | (rw [hRs]; dsimp only; omega)) ?_ (fun X q C1 h => h.elim)
  rintro _ _ ⟨rfl, rfl⟩
  dsimp only [List.cons_append, List.nil_append, Option.toList]
  refine gg_cast (pc := 10) E ck_X3 q1160 (Or.inl rfl) dX2_roof_10 (gg_rm (List.mem_append_right _ (mp_mem (by omega)))) ?_
  refine gg_aret (pc := 13) E Fn rfl (Or.inl ⟨_, rfl⟩) (Or.inr ⟨_, rfl⟩) dX2_roof_13 (by first | exact Nat.le_of_ble_eq_true rfl | (dsimp only; omega)) (by first | exact Nat.le_of_ble_eq_true rfl | (dsimp only; omega)) ?_
  exact ⟨rfl, rfl⟩
set_option maxHeartbeats 4000000 in
theorem ct_X2_tune {l : Launch} (hl : l.stackTraces = false) {g : gg_G}  {w : Nat} {ad : Nat → Nat} {t7 c7 : Int32} {v7 : Value} {tu sn hd : Nat → Nat} {m3 : Int32} {nt : Nat} {row : Nat → Int32} {t1 : Nat} (hk : t1 < nt) (ht30 : nt ≤ 30) : gg_C l g yX2_tune (ws_ yX2_tune cX2_tune 2 (some (.object "WhistlePosts$Tune"))) { frames := 3, cells := 0, slots := 0, locals := 64 } [.ref w, .int (nI t1)] ([(w, .inl (1, [.ref (ad 1), .ref (ad 3), .ref (ad 4), .ref (ad 6), .ref (ad 7), .int t7, .int c7, v7])), ((ad 4), .inl (11, [.int m3, .ref (ad 5), .int (nI nt)])), ((ad 5), gg_ao g 4 30 (lsF tu nt))] ++ (mp (tuN tu sn hd row) nt)) [] (fun vv CC => vv = some (.ref (tu t1)) ∧ CC = []) gg_no := by
  refine gg_of (lv := [_, _]) (by decide) hl (Nat.le_of_ble_eq_true rfl) rfl ?_
  intro p e R s m args below meth c A Q hRf hRl hRc hRs E Fn hnm hex
  refine gg_aload_n (pc := 0) E dX2_tune_0 rfl rfl ?_
  refine gg_get (pc := 1) E ck_X2 2 q604 rfl (by decide) dX2_tune_1 (gg_r 0 rfl) rfl ?_
  refine gg_iload_n (pc := 4) E dX2_tune_4 rfl rfl ?_
  refine gg_callF (F := []) (As := [.int (nI t1)]) (rest := []) (pc := 5) E ck_J2 (ct_J2_get hl (hk) (by omega) (by omega) (lsF_at hk)) (gg_cwF 1 E (x := ⟨"java/util/List", "get", "(I)Ljava/lang/Object;"⟩) (by decide) nq1107 nq1105 nq683 (lw_app (lw_in _ [1101, 1104, 1106, 155] (by decide +kernel) (by decide +kernel)) (lw_meth q1108)) (by decide +kernel) ⟨by rw [hRf]; exact Nat.le_of_ble_eq_true rfl, by rw [hRl]; exact Nat.le_of_ble_eq_true rfl⟩) dX2_tune_5 [] (by decide) rfl rfl (List.forall_mem_cons.mpr ⟨(gg_r 1 rfl), (List.forall_mem_cons.mpr ⟨(gg_r 2 rfl), (fun _ h => by cases h)⟩)⟩) (gg_r 1 rfl) rfl rfl (Nat.le_of_ble_eq_true rfl) (by first | (rw [hRc]; exact Nat.le_of_ble_eq_true rfl) | (rw [hRc]; dsimp only; omega)) (by first | (rw [hRs]; exact Nat.le_of_ble_eq_true rfl) | (rw [hRs]; dsimp only; omega)) ?_ (fun X q C1 h => h.elim)
  rintro _ _ ⟨rfl, rfl⟩
  dsimp only [List.cons_append, List.nil_append, Option.toList]
  refine gg_cast (pc := 10) E ck_X8 q1558 (Or.inl rfl) dX2_tune_10 (gg_rm (List.mem_append_right _ (mp_mem (by omega)))) ?_
  refine gg_aret (pc := 13) E Fn rfl (Or.inl ⟨_, rfl⟩) (Or.inr ⟨_, rfl⟩) dX2_tune_13 (by first | exact Nat.le_of_ble_eq_true rfl | (dsimp only; omega)) (by first | exact Nat.le_of_ble_eq_true rfl | (dsimp only; omega)) ?_
  exact ⟨rfl, rfl⟩
set_option maxHeartbeats 4000000 in
theorem ct_X2_wrongBy {l : Launch} (hl : l.stackTraces = false) {g : gg_G}  {w : Nat} {ad : Nat → Nat} {t7 c7 : Int32} {v7 : Value} {ra nm : Nat → Nat} {m1 : Int32} {nr : Nat} {row : Nat → Int32} {k1 : Nat} {wi fa no : Int32} (hk : k1 < nr) (hr10 : nr ≤ 10) : gg_C l g yX2_wrongBy (ws_ yX2_wrongBy cX2_wrongBy 5 (some .int)) { frames := 4, cells := 0, slots := 0, locals := 85 } [.ref w, .int wi, .int fa, .int (nI k1), .int no] ([(w, .inl (1, [.ref (ad 1), .ref (ad 3), .ref (ad 4), .ref (ad 6), .ref (ad 7), .int t7, .int c7, v7])), ((ad 1), .inl (11, [.int m1, .ref (ad 2), .int (nI nr)])), ((ad 2), gg_ao g 4 10 (lsF ra nr))] ++ (mp (rfN ra nm row) nr)) [] (fun vv CC => vv = some (.int (wb wi fa (row (25 + 13 * k1 + 8)) no)) ∧ CC = []) gg_no := by
  refine gg_of (lv := [_, _, _, _, _]) (by decide) hl (Nat.le_of_ble_eq_true rfl) rfl ?_
  intro p e R s m args below meth c A Q hRf hRl hRc hRs E Fn hnm hex
  refine gg_iload (pc := 0) E dX2_wrongBy_0 rfl ?_
  refine gg_iconst (v := 0) (pc := 2) E dX2_wrongBy_2 (by decide) ?_
  refine gg_iload_n (pc := 3) E dX2_wrongBy_3 rfl rfl ?_
  refine gg_iload_n (pc := 4) E dX2_wrongBy_4 rfl rfl ?_
  refine gg_imul (pc := 5) E dX2_wrongBy_5 ?_
  refine gg_iconst (v := 3) (pc := 6) E dX2_wrongBy_6 (by decide) ?_
  refine gg_aload_n (pc := 7) E dX2_wrongBy_7 rfl rfl ?_
  refine gg_iload_n (pc := 8) E dX2_wrongBy_8 rfl rfl ?_
  refine gg_callV (F := []) (As := [.int (nI k1)]) (rest := [_, _, _, _]) (pc := 9) E ck_X2 (ct_X2_roof hl (by first | assumption | omega) (by first | assumption | omega)) (cwV 1 E.2.2.2.2.1 (lw_V q1096 q1097 q1098 q152 q1099) rfl rfl rfl (by decide +kernel) ⟨by rw [hRf]; exact Nat.le_of_ble_eq_true rfl, by rw [hRl]; exact Nat.le_of_ble_eq_true rfl⟩) dX2_wrongBy_9 [] (by decide) rfl rfl (List.forall_mem_append.mpr ⟨(List.forall_mem_cons.mpr ⟨(gg_r 0 rfl), (List.forall_mem_cons.mpr ⟨(gg_r 1 rfl), (List.forall_mem_cons.mpr ⟨(gg_r 2 rfl), (fun _ h => by cases h)⟩)⟩)⟩), (fun q hq => gg_rm (List.mem_append_right _ (hq)))⟩) (gg_r 0 rfl) rfl rfl (Nat.le_of_ble_eq_true rfl) (by first | (rw [hRc]; exact Nat.le_of_ble_eq_true rfl) | (rw [hRc]; dsimp only; omega)) (by first | (rw [hRs]; exact Nat.le_of_ble_eq_true rfl) | (rw [hRs]; dsimp only; omega)) ?_ (fun X q C1 h => h.elim)
  rintro _ _ ⟨rfl, rfl⟩
  dsimp only [List.cons_append, List.nil_append, Option.toList]
  refine gg_getN (pc := 12) E ck_X3 2 nq646 rfl (by decide) dX2_wrongBy_12 (gg_rm (List.mem_append_right _ (mp_mem (by omega)))) rfl ?_
  refine gg_imul (pc := 15) E dX2_wrongBy_15 ?_
  refine gg_isub (pc := 16) E dX2_wrongBy_16 ?_
  refine gg_mmax (pc := 17) E q1667 q341 q165 q342 dX2_wrongBy_17 (by rw [hRf]; exact Nat.le_of_ble_eq_true rfl) (by rw [hRl]; exact Nat.le_of_ble_eq_true rfl) (by rw [hRc]; first | exact Nat.le_of_ble_eq_true rfl | (dsimp only; omega)) (by rw [hRs]; first | exact Nat.le_of_ble_eq_true rfl | (dsimp only; omega)) ?_
  refine gg_bipush (v := 10) (pc := 20) E dX2_wrongBy_20 (by decide) ?_
  refine gg_idiv (pc := 22) E dX2_wrongBy_22 (by decide) ?_
  refine gg_mmin (pc := 23) E q1668 q359 q165 q360 dX2_wrongBy_23 (by rw [hRf]; exact Nat.le_of_ble_eq_true rfl) (by rw [hRl]; exact Nat.le_of_ble_eq_true rfl) (by rw [hRc]; first | exact Nat.le_of_ble_eq_true rfl | (dsimp only; omega)) (by rw [hRs]; first | exact Nat.le_of_ble_eq_true rfl | (dsimp only; omega)) ?_
  refine gg_iret (pc := 26) E Fn rfl (rfl) dX2_wrongBy_26 (by first | exact Nat.le_of_ble_eq_true rfl | (dsimp only; omega)) (by first | exact Nat.le_of_ble_eq_true rfl | (dsimp only; omega)) ?_
  exact ⟨rfl, rfl⟩
set_option maxHeartbeats 4000000 in
theorem ct_X2_fee {l : Launch} (hl : l.stackTraces = false) {g : gg_G}  {w : Nat} {ad : Nat → Nat} {t7 c7 : Int32} {v7 : Value} {ra nm : Nat → Nat} {m1 : Int32} {nr : Nat} {row : Nat → Int32} {k1 : Nat} {t1 sn1 hd1 nu no : Nat} {sf : Nat → Int32} {se go re wa a4 st1 en fa tr ho : Int32} (hk : k1 < nr) (hr10 : nr ≤ 10) (hno : no ≤ 1000) : gg_C l g yX2_fee (ws_ yX2_fee cX2_fee 3 (some .int)) { frames := 4, cells := 0, slots := 0, locals := 85 } [.ref w, .int (nI k1), .ref t1] ([(w, .inl (1, [.ref (ad 1), .ref (ad 3), .ref (ad 4), .ref (ad 6), .ref (ad 7), .int t7, .int c7, v7])), ((ad 1), .inl (11, [.int m1, .ref (ad 2), .int (nI nr)])), ((ad 2), gg_ao g 4 10 (lsF ra nr)), (t1, .inl (7, [.int (nI nu), .int se, .int go, .ref sn1, .ref hd1, .int re, .int wa, .int a4, .int st1, .int en, .int fa, .int tr, .int ho])), (sn1, gg_ai g no sf)] ++ (mp (rfN ra nm row) nr)) [] (fun vv CC => vv = some (.int (row (25 + 13 * k1 + 9) * nI (baN no))) ∧ CC = []) gg_no := by
  refine gg_of (lv := [_, _, _]) (by decide) hl (Nat.le_of_ble_eq_true rfl) rfl ?_
  intro p e R s m args below meth c A Q hRf hRl hRc hRs E Fn hnm hex
  refine gg_aload_n (pc := 0) E dX2_fee_0 rfl rfl ?_
  refine gg_iload_n (pc := 1) E dX2_fee_1 rfl rfl ?_
  refine gg_callV (F := []) (As := [.int (nI k1)]) (rest := []) (pc := 2) E ck_X2 (ct_X2_roof hl (by first | assumption | omega) (by first | assumption | omega)) (cwV 1 E.2.2.2.2.1 (lw_V q1096 q1097 q1098 q152 q1099) rfl rfl rfl (by decide +kernel) ⟨by rw [hRf]; exact Nat.le_of_ble_eq_true rfl, by rw [hRl]; exact Nat.le_of_ble_eq_true rfl⟩) dX2_fee_2 [] (by decide) rfl rfl (List.forall_mem_append.mpr ⟨(List.forall_mem_cons.mpr ⟨(gg_r 0 rfl), (List.forall_mem_cons.mpr ⟨(gg_r 1 rfl), (List.forall_mem_cons.mpr ⟨(gg_r 2 rfl), (fun _ h => by cases h)⟩)⟩)⟩), (fun q hq => gg_rm (List.mem_append_right _ (hq)))⟩) (gg_r 0 rfl) rfl rfl (Nat.le_of_ble_eq_true rfl) (by first | (rw [hRc]; exact Nat.le_of_ble_eq_true rfl) | (rw [hRc]; dsimp only; omega)) (by first | (rw [hRs]; exact Nat.le_of_ble_eq_true rfl) | (rw [hRs]; dsimp only; omega)) ?_ (fun X q C1 h => h.elim)
  rintro _ _ ⟨rfl, rfl⟩
  dsimp only [List.cons_append, List.nil_append, Option.toList]
  refine gg_getN (pc := 5) E ck_X3 3 nq649 rfl (by decide) dX2_fee_5 (gg_rm (List.mem_append_right _ (mp_mem (by omega)))) rfl ?_
  refine gg_aload_n (pc := 8) E dX2_fee_8 rfl rfl ?_
  refine gg_callV (F := []) (As := []) (rest := [_]) (pc := 9) E ck_X8 (ct_X8_bars hl (by first | assumption | omega)) (cwV 0 E.2.2.2.2.1 (lw_V q1709 q1710 q1711 q192 q1712) rfl rfl rfl (by decide +kernel) ⟨by rw [hRf]; exact Nat.le_of_ble_eq_true rfl, by rw [hRl]; exact Nat.le_of_ble_eq_true rfl⟩) dX2_fee_9 [] (by decide) rfl rfl (List.forall_mem_cons.mpr ⟨(gg_r 3 rfl), (List.forall_mem_cons.mpr ⟨(gg_r 4 rfl), (fun _ h => by cases h)⟩)⟩) (gg_r 3 rfl) rfl rfl (Nat.le_of_ble_eq_true rfl) (by first | (rw [hRc]; exact Nat.le_of_ble_eq_true rfl) | (rw [hRc]; dsimp only; omega)) (by first | (rw [hRs]; exact Nat.le_of_ble_eq_true rfl) | (rw [hRs]; dsimp only; omega)) ?_ (fun X q C1 h => h.elim)
  rintro _ _ ⟨rfl, rfl⟩
  dsimp only [List.cons_append, List.nil_append, Option.toList]
  refine gg_imul (pc := 12) E dX2_fee_12 ?_
  refine gg_iret (pc := 13) E Fn rfl (rfl) dX2_fee_13 (by first | exact Nat.le_of_ble_eq_true rfl | (dsimp only; omega)) (by first | exact Nat.le_of_ble_eq_true rfl | (dsimp only; omega)) ?_
  exact ⟨rfl, rfl⟩
set_option maxHeartbeats 4000000 in
theorem ct_X2_sets {l : Launch} (hl : l.stackTraces = false) {g : gg_G}  {w : Nat} {ad : Nat → Nat} {t7 c7 : Int32} {v7 : Value} {u1 : Nat} {d1 : Int32} {sf : Nat → Int32} (hu : u1 < 3) : gg_C l g yX2_sets (ws_ yX2_sets cX2_sets 4 (some .int)) { frames := 0, cells := 0, slots := 0, locals := 0 } [.ref w, .int (nI u1), .int d1] [(w, .inl (1, [.ref (ad 1), .ref (ad 3), .ref (ad 4), .ref (ad 6), .ref (ad 7), .int t7, .int c7, v7]))] [[((ad 6), gg_ai g 3 sf)]] (fun vv CC => vv = some (.int (sf u1)) ∧ CC = [[((ad 6), gg_ai g 3 (upd sf u1 d1))]]) gg_no := by
  refine gg_of (lv := [_, _, _, _]) (by decide) hl (Nat.le_of_ble_eq_true rfl) rfl ?_
  intro p e R s m args below meth c A Q hRf hRl hRc hRs E Fn hnm hex
  refine gg_aload_n (pc := 0) E dX2_sets_0 rfl rfl ?_
  refine gg_get (pc := 1) E ck_X2 3 q606 rfl (by decide) dX2_sets_1 (gg_r 0 rfl) rfl ?_
  refine gg_iload_n (pc := 4) E dX2_sets_4 rfl rfl ?_
  refine gg_ialdN (pc := 5) E u1 rfl (by omega) (by omega) dX2_sets_5 (gg_i 0 rfl) ?_
  refine gg_istore_n (lv' := [_, _, _, _]) (pc := 6) E dX2_sets_6 rfl (Nat.le_of_ble_eq_true rfl) rfl rfl ?_
  refine gg_aload_n (pc := 7) E dX2_sets_7 rfl rfl ?_
  refine gg_get (pc := 8) E ck_X2 3 q606 rfl (by decide) dX2_sets_8 (gg_r 0 rfl) rfl ?_
  refine gg_iload_n (pc := 11) E dX2_sets_11 rfl rfl ?_
  refine gg_iload_n (pc := 12) E dX2_sets_12 rfl rfl ?_
  refine gg_iastN (M' := [_]) (pc := 13) E u1 rfl (by omega) (by omega) dX2_sets_13 0 rfl rfl ?_
  refine gg_iload_n (pc := 14) E dX2_sets_14 rfl rfl ?_
  refine gg_iret (pc := 15) E Fn rfl (rfl) dX2_sets_15 (by first | exact Nat.le_of_ble_eq_true rfl | (dsimp only; omega)) (by first | exact Nat.le_of_ble_eq_true rfl | (dsimp only; omega)) ?_
  exact ⟨rfl, rfl⟩

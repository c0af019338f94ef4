set_option maxRecDepth 100000
/-! ===== many ticks; a way is cut; one roof more ===== -/
set_option maxHeartbeats 4000000 in
theorem ct_X2_ticksMany {l : Launch} (hl : l.stackTraces = false) {g : gg_G}  {w : Nat} {ad : Nat → Nat} {tm : Nat} {c7 : Int32} {rt0 : Option Nat} {ra nm : Nat → Nat} {m1 : Int32} {nr : Nat} {tu sn hd : Nat → Nat} {m3 : Int32} {nt : Nat} {nd wo : Nat → Nat} {m2 : Int32} {nw : Nat} {row : Nat → Int32} {P : gg_S} {sf4 : Nat → Int32} {q1 : Nat} (hP : Po g P sn wo row nw nt) (hG : Gw row nr nw nt) (hR : ∀ a, rt0 = some a → Rt g P a row nr nw) (htm : row 3 = nI tm) (hs4 : ∀ j, j < 3 → sf4 j = row (4 + j)) (hq1 : tm + q1 < 2 ^ 30) : gg_C l g yX2_ticksMany (ws_ yX2_ticksMany cX2_ticksMany 4 (some .int)) { frames := 19, cells := (5 * (ntn (goF row nr nw q1) - nt) + qk (gka row nr nw q1) rt0 + 20 * q1), slots := (60 * (ntn (goF row nr nw q1) - nt) + qs (gka row nr nw q1) rt0 + 100 * q1), locals := 394 } [.ref w, .int (nI q1)] ([((ad 1), .inl (11, [.int m1, .ref (ad 2), .int (nI nr)])), ((ad 2), gg_ao g 4 10 (lsF ra nr)), ((ad 6), gg_ai g 3 sf4), ((ad 3), .inl (15, [.int m2, .int (nI nw), llF nd nw, llL nd nw]))] ++ (llS nd wo nw)) [[(w, .inl (1, [.ref (ad 1), .ref (ad 3), .ref (ad 4), .ref (ad 6), .ref (ad 7), .int (nI tm), .int c7, (va_rf rt0)]))], [((ad 4), .inl (11, [.int m3, .ref (ad 5), .int (nI nt)]))], [((ad 5), gg_ao g 4 30 (lsF tu nt))], (mp (tuN tu sn hd row) (nt)), (mp (heN g hd row) (nt)), [((ad 7), gg_ai g 11 (fun j => row (10 + j)))], (mp (rfN ra nm row) nr), P] (fun vv CC => ∃ (tu2 sn2 hd2 : Nat → Nat) (m32 : Int32) (nt2 : Nat) (rt2 : Option Nat) (P2 : gg_S), (Po g P2 sn2 wo (goF row nr nw q1) nw nt2 ∧ (goF row nr nw q1) 2 = nI nt2 ∧ nt2 ≤ 30 ∧ (∀ a, rt2 = some a → Rt g P2 a (goF row nr nw q1) nr nw) ∧ Qp (gka row nr nw q1) rt0 rt2 ∧ Sub P P2) ∧ vv = some (.int (goF row nr nw q1 (10 + 5) - row (10 + 5))) ∧ CC = [[(w, .inl (1, [.ref (ad 1), .ref (ad 3), .ref (ad 4), .ref (ad 6), .ref (ad 7), .int (nI (tm + q1)), .int c7, (va_rf rt2)]))], [((ad 4), .inl (11, [.int m32, .ref (ad 5), .int (nI nt2)]))], [((ad 5), gg_ao g 4 30 (lsF tu2 nt2))], (mp (tuN tu2 sn2 hd2 (goF row nr nw q1)) (nt2)), (mp (heN g hd2 (goF row nr nw q1)) (nt2)), [((ad 7), gg_ai g 11 (fun j => (goF row nr nw q1) (10 + j)))], (mp (rfN ra nm (goF row nr nw q1)) nr), P2]) gg_no := by
  refine gg_of (lv := [_, _, _, _]) (by decide) hl (Nat.le_of_ble_eq_true rfl) rfl ?_
  intro p e R s m args below meth c A Q hRf hRl hRc hRs E Fn hnm hex
  have hw := hG.2.1
  have h20 := hw.2.1
  have hr10 := hw.2.2.1
  have hT := hG.2.2.1.2.2.2
  have ht30 := hG.2.2.1.2.1
  have hnt0 : ntn row = nt := ntn_G hG
  refine gg_aload_n (pc := 0) E dX2_ticksMany_0 rfl rfl ?_
  refine gg_get (pc := 1) E ck_X2 4 q608 rfl (by decide) dX2_ticksMany_1 (gg_i 0 rfl) rfl ?_
  refine gg_iconst (v := 5) (pc := 4) E dX2_ticksMany_4 (by decide) ?_
  refine gg_ialdN (pc := 5) E 5 rfl (by omega) (by omega) dX2_ticksMany_5 (gg_i 5 rfl) ?_
  refine gg_istore_n (lv' := [_, _, _, _]) (pc := 6) E dX2_ticksMany_6 rfl (Nat.le_of_ble_eq_true rfl) rfl rfl ?_
  refine gg_iconst (v := 0) (pc := 7) E dX2_ticksMany_7 (by decide) ?_
  refine gg_istore_n (lv' := [_, _, _, _]) (pc := 8) E dX2_ticksMany_8 rfl (Nat.le_of_ble_eq_true rfl) rfl rfl ?_
  have L9 : ∀ (n : Nat) (i : Nat) (tu1 sn1 hd1 : Nat → Nat) (m31 : Int32) (nt1 : Nat) (rt : Option Nat) (P1 : gg_S), q1 - i < n → (i ≤ q1) → (Po g P1 sn1 wo (goF row nr nw i) nw nt1) → (Gw (goF row nr nw i) nr nw nt1) → (nt ≤ nt1) → ((goF row nr nw i) 3 = nI (tm + i)) → (∀ j, 4 ≤ j → j ≤ 6 → (goF row nr nw i) j = row j) → (∀ a, rt = some a → Rt g P1 a (goF row nr nw i) nr nw) → (lyC rt ≤ lyC rt0) → (lyS rt ≤ lyS rt0) → (rt = none → ∀ t, t < i → ¬ tka (goF row nr nw t) (ntn (goF row nr nw t))) → (¬ gka row nr nw q1 → rt = rt0) → (Sub P P1) → gg_W p l e R s m args below meth c g A 4 Q (5 * (nt1 - nt) + (qk (gka row nr nw q1) rt0 - lyC rt) + 20 * i) (60 * (nt1 - nt) + (qs (gka row nr nw q1) rt0 - lyS rt) + 100 * i) [[(w, .inl (1, [.ref (ad 1), .ref (ad 3), .ref (ad 4), .ref (ad 6), .ref (ad 7), .int (nI (tm + i)), .int c7, (va_rf rt)]))], [((ad 4), .inl (11, [.int m31, .ref (ad 5), .int (nI nt1)]))], [((ad 5), gg_ao g 4 30 (lsF tu1 nt1))], (mp (tuN tu1 sn1 hd1 (goF row nr nw i)) (nt1)), (mp (heN g hd1 (goF row nr nw i)) (nt1)), [((ad 7), gg_ai g 11 (fun j => (goF row nr nw i) (10 + j)))], (mp (rfN ra nm (goF row nr nw i)) nr), P1] [some (.ref w), some (.int (nI q1)), some (.int (row (10 + 5))), some (.int (nI i))] [] 9 := by
    intro n9
    induction n9 with
    | zero => intro i tu1 sn1 hd1 m31 nt1 rt P1 hmz; exact absurd hmz (Nat.not_lt_zero _)
    | succ n9 ih9 =>
      intro i tu1 sn1 hd1 m31 nt1 rt P1 hm9 hi hP hG1 hn1 h3 h46 hR hlc hls hno hsm hS
      have hnt1 := ntn_G hG1
      refine gg_iload_n (pc := 9) E dX2_ticksMany_9 rfl rfl ?_
      refine gg_iload_n (pc := 10) E dX2_ticksMany_10 rfl rfl ?_
      refine gg_icmpN_ge (tgt := 24) (pc := 11) E i q1 rfl rfl (by omega) (by omega) dX2_ticksMany_11 (by decide) (fun c11 => ?_) (fun c11 => ?_)
      · obtain rfl : q1 = i := by omega
        refine gg_aload_n (pc := 24) E dX2_ticksMany_24 rfl rfl ?_
        refine gg_get (pc := 25) E ck_X2 4 q608 rfl (by decide) dX2_ticksMany_25 (gg_i 0 rfl) rfl ?_
        refine gg_iconst (v := 5) (pc := 28) E dX2_ticksMany_28 (by decide) ?_
        refine gg_ialdN (pc := 29) E 5 rfl (by omega) (by omega) dX2_ticksMany_29 (gg_i 5 rfl) ?_
        refine gg_iload_n (pc := 30) E dX2_ticksMany_30 rfl rfl ?_
        refine gg_isub (pc := 31) E dX2_ticksMany_31 ?_
        refine gg_iret (pc := 32) E Fn rfl (rfl) dX2_ticksMany_32 (by first | omega | (dsimp only; omega) | exact Nat.le_of_ble_eq_true rfl) (by first | omega | (dsimp only; omega) | exact Nat.le_of_ble_eq_true rfl) ?_
        refine ⟨tu1, sn1, hd1, m31, nt1, rt, P1, ⟨hP, hG1.2.2.1.1, hG1.2.2.1.2.1, hR, ⟨?_, hsm⟩, hS⟩, rfl, rfl⟩
        rintro ⟨t, t1, t2⟩
        cases hrt : rt with
        | none => exact absurd t2 (hno hrt t t1)
        | some b => exact ⟨b, rfl⟩
      · refine gg_aload_n (pc := 14) E dX2_ticksMany_14 rfl rfl ?_
        have hab : tka (goF row nr nw i) nt1 → gka row nr nw q1 := fun z => ⟨i, c11, by rw [ntn_G hG1]; exact z⟩
        have hrm := qk_room (rt0 := rt0) (rt := rt) hab hlc hls
        have hmn : ntn (tkF (goF row nr nw i) nr nw) ≤ ntn (goF row nr nw q1) := by
          have z := go_mono hG htm (q1 - (i + 1)) (i + 1) (by omega)
          rw [show i + 1 + (q1 - (i + 1)) = q1 by omega] at z
          exact z
        have hge : nt1 ≤ ntn (tkF (goF row nr nw i) nr nw) := by
          obtain ⟨n9, z1, z2, -⟩ := tk_G hG1 h3 (by omega)
          rw [ntn_G z2]
          exact z1
        refine gg_callV (F := []) (As := []) (rest := []) (pc := 15) E ck_X2 (ct_X2_ticks (row := (goF row nr nw i)) (rt0 := rt) (tm := tm + i) (sf4 := sf4) hl hP hG1 hR h3 (by omega) (fun j hj => (hs4 j hj).trans (h46 (4 + j) (by omega) (by omega)).symm)) (cwV 0 E.2.2.2.2.1 (lw_V q1647 q1648 q1649 q152 q1650) rfl rfl rfl (by decide +kernel) ⟨by rw [hRf]; exact Nat.le_of_ble_eq_true rfl, by rw [hRl]; exact Nat.le_of_ble_eq_true rfl⟩) dX2_ticksMany_15 [0, 1, 2, 3, 4, 5, 6, 7] (by decide) rfl rfl (List.forall_mem_append.mpr ⟨(List.forall_mem_cons.mpr ⟨(gg_r 0 rfl), (List.forall_mem_cons.mpr ⟨(gg_r 1 rfl), (List.forall_mem_cons.mpr ⟨(gg_r 2 rfl), (List.forall_mem_cons.mpr ⟨(gg_r 3 rfl), (fun _ h => by cases h)⟩)⟩)⟩)⟩), (fun q hq => gg_rm (List.mem_append_right _ (hq)))⟩) (gg_i 0 rfl) rfl rfl (Nat.le_of_ble_eq_true rfl) (by first | (rw [hRc]; dsimp only; omega) | (rw [hRc]; exact Nat.le_of_ble_eq_true rfl)) (by first | (rw [hRs]; dsimp only; omega) | (rw [hRs]; exact Nat.le_of_ble_eq_true rfl)) ?_ (fun X q C1 h => h.elim)
        rintro _ _ ⟨tu4, sn4, hd4, m34, nt4, rt4, P4, ⟨hP4, h24, hn4, hR4, hq4, hS4⟩, rfl, rfl⟩
        dsimp only [List.cons_append, List.nil_append, Option.toList]
        refine gg_up7 ?_
        refine gg_up7 ?_
        refine gg_up7 ?_
        refine gg_up7 ?_
        refine gg_up7 ?_
        refine gg_up7 ?_
        refine gg_up7 ?_
        refine gg_up7 ?_
        obtain ⟨hle4, hG4, h34, h464⟩ := tk_Gn hG1 h3 (by omega) h24 hn4
        have hnc := ntn_G hG4
        have hin := qk_in (rt0 := rt0) (rt := rt) hab hlc hls hq4
        refine gg_iincN (k := 1) (lv' := [_, _, _, _]) (pc := 18) E i dX2_ticksMany_18 rfl rfl rfl (Nat.le_of_ble_eq_true rfl) rfl rfl ?_
        refine gg_goto (tgt := 9) (pc := 21) E dX2_ticksMany_21 (by decide) ?_
        refine gg_cv rfl (gg_leS (gg_leS (gg_leS (gg_leS gg_le0)))) rfl (by first | omega | exact Nat.le_refl _ | (dsimp only; omega)) (by first | omega | exact Nat.le_refl _ | (dsimp only; omega)) (ih9 (i + 1) tu4 sn4 hd4 m34 nt4 rt4 P4 (by omega) (by omega) (hP4) (hG4) (by omega) (h34) (fun j a b => (h464 j a b).trans (h46 j a b)) (hR4) (hin.2.2.1) (hin.2.2.2) (fun q t ht => by rcases Nat.lt_or_ge t i with z | z; (· have hna : ¬ tka (goF row nr nw i) nt1 := (fun y => by obtain ⟨b, hb⟩ := hq4.1 y; rw [q] at hb; cases hb); exact hno ((hq4.2 hna).symm.trans q) t z); (· obtain rfl : i = t := (by omega); rw [ntn_G hG1]; exact fun y => by obtain ⟨b, hb⟩ := hq4.1 y; rw [q] at hb; cases hb)) (fun q => (hq4.2 (fun z => q (hab z))).trans (hsm q)) (fun q h => hS4 q (hS q h)))
  refine gg_cv rfl (gg_leS (gg_leS (gg_leS (gg_leS gg_le0)))) rfl (by first | omega | exact Nat.le_refl _ | (dsimp only; omega)) (by first | omega | exact Nat.le_refl _ | (dsimp only; omega)) (L9 _ 0 tu sn hd m3 nt rt0 P (Nat.lt_succ_self _) (Nat.zero_le _) (hP) (hG) (Nat.le_refl _) (htm) (fun _ _ _ => rfl) (hR) (Nat.le_refl _) (Nat.le_refl _) (fun _ t h => absurd h (Nat.not_lt_zero t)) (fun _ => rfl) (fun _ h => h))
set_option maxHeartbeats 4000000 in
theorem ct_X2_ticksNow {l : Launch} (hl : l.stackTraces = false) {g : gg_G}  {w : Nat} {ad : Nat → Nat} {tm : Nat} {c7 : Int32} {rt0 : Option Nat} {ra nm : Nat → Nat} {m1 : Int32} {nr : Nat} {tu sn hd : Nat → Nat} {m3 : Int32} {nt : Nat} {nd wo : Nat → Nat} {m2 : Int32} {nw : Nat} {row : Nat → Int32} {P : gg_S} {sf4 : Nat → Int32} {q1 : Nat} (hP : Po g P sn wo row nw nt) (hG : Gw row nr nw nt) (hR : ∀ a, rt0 = some a → Rt g P a row nr nw) (htm : row 3 = nI tm) (hs4 : ∀ j, j < 3 → sf4 j = row (4 + j)) (hq1 : tm + q1 < 2 ^ 30) : gg_C l g yX2_ticksNow (ws_ yX2_ticksNow cX2_ticksNow 2 (some .int)) { frames := 20, cells := (5 * (ntn (goF row nr nw q1) - nt) + qk (gka row nr nw q1) rt0 + 20 * q1 + 1), slots := (60 * (ntn (goF row nr nw q1) - nt) + qs (gka row nr nw q1) rt0 + 100 * q1 + 6), locals := 417 } [.ref w, .int (nI q1)] ([((ad 1), .inl (11, [.int m1, .ref (ad 2), .int (nI nr)])), ((ad 2), gg_ao g 4 10 (lsF ra nr)), ((ad 6), gg_ai g 3 sf4), ((ad 3), .inl (15, [.int m2, .int (nI nw), llF nd nw, llL nd nw]))] ++ (llS nd wo nw)) [[(w, .inl (1, [.ref (ad 1), .ref (ad 3), .ref (ad 4), .ref (ad 6), .ref (ad 7), .int (nI tm), .int c7, (va_rf rt0)]))], [((ad 4), .inl (11, [.int m3, .ref (ad 5), .int (nI nt)]))], [((ad 5), gg_ao g 4 30 (lsF tu nt))], (mp (tuN tu sn hd row) (nt)), (mp (heN g hd row) (nt)), [((ad 7), gg_ai g 11 (fun j => row (10 + j)))], (mp (rfN ra nm row) nr), P] (fun vv CC => ∃ (tu2 sn2 hd2 : Nat → Nat) (m32 : Int32) (nt2 : Nat) (rt2 : Option Nat) (P2 : gg_S), (Po g P2 sn2 wo (goF row nr nw q1) nw nt2 ∧ (goF row nr nw q1) 2 = nI nt2 ∧ nt2 ≤ 30 ∧ (∀ a, rt2 = some a → Rt g P2 a (goF row nr nw q1) nr nw) ∧ Qp (gka row nr nw q1) rt0 rt2 ∧ Sub P P2 ∧ tm + q1 ≤ 9999) ∧ vv = some (.int (goF row nr nw q1 (10 + 5) - row (10 + 5))) ∧ CC = [[(w, .inl (1, [.ref (ad 1), .ref (ad 3), .ref (ad 4), .ref (ad 6), .ref (ad 7), .int (nI (tm + q1)), .int c7, (va_rf rt2)]))], [((ad 4), .inl (11, [.int m32, .ref (ad 5), .int (nI nt2)]))], [((ad 5), gg_ao g 4 30 (lsF tu2 nt2))], (mp (tuN tu2 sn2 hd2 (goF row nr nw q1)) (nt2)), (mp (heN g hd2 (goF row nr nw q1)) (nt2)), [((ad 7), gg_ai g 11 (fun j => (goF row nr nw q1) (10 + j)))], (mp (rfN ra nm (goF row nr nw q1)) nr), P2]) (fun X q CC => X = "java/lang/IllegalStateException" ∧ ¬ tm + q1 ≤ 9999 ∧ CC = [[(w, .inl (1, [.ref (ad 1), .ref (ad 3), .ref (ad 4), .ref (ad 6), .ref (ad 7), .int (nI tm), .int c7, (va_rf rt0)]))], [((ad 4), .inl (11, [.int m3, .ref (ad 5), .int (nI nt)]))], [((ad 5), gg_ao g 4 30 (lsF tu nt))], (mp (tuN tu sn hd row) (nt)), (mp (heN g hd row) (nt)), [((ad 7), gg_ai g 11 (fun j => row (10 + j)))], (mp (rfN ra nm row) nr), P]) := by
  refine gg_of (lv := [_, _]) (by decide) hl (Nat.le_of_ble_eq_true rfl) rfl ?_
  intro p e R s m args below meth c A Q hRf hRl hRc hRs E Fn hnm hex
  have hw := hG.2.1
  have h20 := hw.2.1
  have hr10 := hw.2.2.1
  have hT := hG.2.2.1.2.2.2
  have ht30 := hG.2.2.1.2.1
  refine gg_aload_n (pc := 0) E dX2_ticksNow_0 rfl rfl ?_
  refine gg_get (pc := 1) E ck_X2 5 q610 rfl (by decide) dX2_ticksNow_1 (gg_i 0 rfl) rfl ?_
  refine gg_iload_n (pc := 4) E dX2_ticksNow_4 rfl rfl ?_
  refine gg_iaddN (pc := 5) E tm q1 rfl rfl dX2_ticksNow_5 ?_
  refine gg_sipush (v := 9999) (pc := 6) E dX2_ticksNow_6 (by decide) ?_
  refine gg_icmpN_gt (tgt := 16) (pc := 9) E (tm + q1) 9999 rfl rfl (by omega) (by omega) dX2_ticksNow_9 (by decide) (fun c9 => ?_) (fun c9 => ?_)
  · refine gg_iconst (v := 0) (pc := 16) E dX2_ticksNow_16 (by decide) ?_
    refine gg_callSN (F := [_, _, _, _, _, _, _, _]) (As := [_]) (rest := []) (pc := 17) E (ct_X1_needState hl ) ⟨va_cnB 1 E.2.2.2.2.1 (lw_meth q1542) rfl rfl rfl (E.2.2.2.2.2.1.2.1 _ nq1540) (E.2.2.2.2.1 _ q151) (by decide +kernel) ⟨by rw [hRf]; exact Nat.le_of_ble_eq_true rfl, by rw [hRl]; exact Nat.le_of_ble_eq_true rfl⟩, E.2.2.2.2.1 _ q1541, trivial⟩ dX2_ticksNow_17 [] (by decide) rfl rfl (fun _ h => by cases h) rfl rfl (Nat.le_of_ble_eq_true rfl) (by first | (rw [hRc]; dsimp only; omega) | (rw [hRc]; exact Nat.le_of_ble_eq_true rfl)) (by first | (rw [hRs]; dsimp only; omega) | (rw [hRs]; exact Nat.le_of_ble_eq_true rfl)) ?_ ?_
    · rintro _ _ ⟨hq, rfl, rfl⟩
      dsimp only [List.cons_append, List.nil_append, Option.toList]
      exact absurd rfl hq
    · rintro X q _ ⟨rfl, hx0, rfl⟩
      dsimp only [List.cons_append, List.nil_append, Option.toList]
      refine gg_xout E Fn (fun x hx => (hex x hx).elim) (by first | exact Nat.le_of_ble_eq_true rfl | (dsimp only; omega)) (by first | exact Nat.le_of_ble_eq_true rfl | (dsimp only; omega)) ?_
      exact ⟨rfl, by omega, rfl⟩
  · refine gg_iconst (v := 1) (pc := 12) E dX2_ticksNow_12 (by decide) ?_
    refine gg_goto (tgt := 17) (pc := 13) E dX2_ticksNow_13 (by decide) ?_
    refine gg_callSN (F := [_, _, _, _, _, _, _, _]) (As := [_]) (rest := []) (pc := 17) E (ct_X1_needState hl ) ⟨va_cnB 1 E.2.2.2.2.1 (lw_meth q1542) rfl rfl rfl (E.2.2.2.2.2.1.2.1 _ nq1540) (E.2.2.2.2.1 _ q151) (by decide +kernel) ⟨by rw [hRf]; exact Nat.le_of_ble_eq_true rfl, by rw [hRl]; exact Nat.le_of_ble_eq_true rfl⟩, E.2.2.2.2.1 _ q1541, trivial⟩ dX2_ticksNow_17 [] (by decide) rfl rfl (fun _ h => by cases h) rfl rfl (Nat.le_of_ble_eq_true rfl) (by first | (rw [hRc]; dsimp only; omega) | (rw [hRc]; exact Nat.le_of_ble_eq_true rfl)) (by first | (rw [hRs]; dsimp only; omega) | (rw [hRs]; exact Nat.le_of_ble_eq_true rfl)) ?_ ?_
    · rintro _ _ ⟨hq, rfl, rfl⟩
      dsimp only [List.cons_append, List.nil_append, Option.toList]
      refine gg_aload_n (pc := 20) E dX2_ticksNow_20 rfl rfl ?_
      refine gg_iload_n (pc := 21) E dX2_ticksNow_21 rfl rfl ?_
      refine gg_callV (F := []) (As := [.int (nI q1)]) (rest := []) (pc := 22) E ck_X2 (ct_X2_ticksMany hl hP hG hR htm hs4 hq1) (cwV 1 E.2.2.2.2.1 (lw_V q1643 q1644 q1645 q152 q1646) rfl rfl rfl (by decide +kernel) ⟨by rw [hRf]; exact Nat.le_of_ble_eq_true rfl, by rw [hRl]; exact Nat.le_of_ble_eq_true rfl⟩) dX2_ticksNow_22 [0, 1, 2, 3, 4, 5, 6, 7] (by decide) rfl rfl (List.forall_mem_append.mpr ⟨(List.forall_mem_cons.mpr ⟨(gg_r 0 rfl), (List.forall_mem_cons.mpr ⟨(gg_r 1 rfl), (List.forall_mem_cons.mpr ⟨(gg_r 2 rfl), (List.forall_mem_cons.mpr ⟨(gg_r 3 rfl), (fun _ h => by cases h)⟩)⟩)⟩)⟩), (fun q hq => gg_rm (List.mem_append_right _ (hq)))⟩) (gg_i 0 rfl) rfl rfl (Nat.le_of_ble_eq_true rfl) (by first | (rw [hRc]; dsimp only; omega) | (rw [hRc]; exact Nat.le_of_ble_eq_true rfl)) (by first | (rw [hRs]; dsimp only; omega) | (rw [hRs]; exact Nat.le_of_ble_eq_true rfl)) ?_ (fun X q C1 h => h.elim)
      rintro _ _ ⟨tu4, sn4, hd4, m34, nt4, rt4, P4, ⟨hP4, h24, hn4, hR4, hq4, hS4⟩, rfl, rfl⟩
      dsimp only [List.cons_append, List.nil_append, Option.toList]
      refine gg_up7 ?_
      refine gg_up7 ?_
      refine gg_up7 ?_
      refine gg_up7 ?_
      refine gg_up7 ?_
      refine gg_up7 ?_
      refine gg_up7 ?_
      refine gg_up7 ?_
      refine gg_iret (pc := 25) E Fn rfl (rfl) dX2_ticksNow_25 (by first | omega | (dsimp only; omega) | exact Nat.le_of_ble_eq_true rfl) (by first | omega | (dsimp only; omega) | exact Nat.le_of_ble_eq_true rfl) ?_
      exact ⟨tu4, sn4, hd4, m34, nt4, rt4, P4, ⟨hP4, h24, hn4, hR4, hq4, hS4, by omega⟩, rfl, rfl⟩
    · exact fun X q C1 hx => absurd hx.2.1 (by decide)
set_option maxHeartbeats 4000000 in
theorem ct_X2_cuts {l : Launch} (hl : l.stackTraces = false) {g : gg_G}  {w : Nat} {ad : Nat → Nat} {t7 c7 : Int32} {v7 : Value} {nd wo : Nat → Nat} {m2 : Int32} {nw : Nat} {row : Nat → Int32} {a1 b1 : Int32} {P : gg_S} {sn : Nat → Nat} {nt nr : Nat} (hP : Po g P sn wo row nw nt) (hw : Ww row nr nw) (hu : Wu row nw) : gg_C l g yX2_cuts (ws_ yX2_cuts cX2_cuts 4 (some .int)) { frames := 13, cells := 4, slots := 30, locals := 247 } [.ref w, .int a1, .int b1] ([] ++ P) [[(w, .inl (1, [.ref (ad 1), .ref (ad 3), .ref (ad 4), .ref (ad 6), .ref (ad 7), .int t7, .int c7, v7]))], [((ad 3), .inl (15, [.int m2, .int (nI nw), llF nd nw, llL nd nw]))], (llS nd wo nw)] (fun vv CC => (¬ wyI row nw a1 b1 = -1) ∧ vv = some (.int (nI (nw - 1))) ∧ CC = [[(w, .inl (1, [.ref (ad 1), .ref (ad 3), .ref (ad 4), .ref (ad 6), .ref (ad 7), .int t7, .int c7, .null]))], [((ad 3), .inl (15, [.int (m2 + 1), .int (nI (nw - 1)), llF (fun j => nd (sk (tn (wyI row nw a1 b1)) j)) (nw - 1), llL (fun j => nd (sk (tn (wyI row nw a1 b1)) j)) (nw - 1)]))], (llS (fun j => nd (sk (tn (wyI row nw a1 b1)) j)) (fun j => wo (sk (tn (wyI row nw a1 b1)) j)) (nw - 1))]) (fun X q CC => X = "java/lang/IllegalStateException" ∧ wyI row nw a1 b1 = -1 ∧ CC = [[(w, .inl (1, [.ref (ad 1), .ref (ad 3), .ref (ad 4), .ref (ad 6), .ref (ad 7), .int t7, .int c7, v7]))], [((ad 3), .inl (15, [.int m2, .int (nI nw), llF nd nw, llL nd nw]))], (llS nd wo nw)]) := by
  refine gg_of (lv := [_, _, _, _]) (by decide) hl (Nat.le_of_ble_eq_true rfl) rfl ?_
  intro p e R s m args below meth c A Q hRf hRl hRc hRs E Fn hnm hex
  have h20 := hw.2.1
  refine gg_aload_n (pc := 0) E dX2_cuts_0 rfl rfl ?_
  refine gg_iload_n (pc := 1) E dX2_cuts_1 rfl rfl ?_
  refine gg_iload_n (pc := 2) E dX2_cuts_2 rfl rfl ?_
  refine gg_callV (F := [_, _, _]) (As := [_, _]) (rest := []) (pc := 3) E ck_X2 (ct_X2_between hl hP hw) (cwV 2 E.2.2.2.2.1 (lw_V q2079 q1187 q1188 q152 q1189) rfl rfl rfl (by decide +kernel) ⟨by rw [hRf]; exact Nat.le_of_ble_eq_true rfl, by rw [hRl]; exact Nat.le_of_ble_eq_true rfl⟩) dX2_cuts_3 [] (by decide) rfl rfl (List.forall_mem_append.mpr ⟨(List.forall_mem_cons.mpr ⟨(gg_i 0 rfl), (List.forall_mem_cons.mpr ⟨(gg_i 1 rfl), (fun _ h => by cases h)⟩)⟩), (List.forall_mem_append.mpr ⟨(fun q hq => gg_j 2 rfl hq), (fun q hq => gg_rm (List.mem_append_right _ (hq)))⟩)⟩) (gg_i 0 rfl) rfl rfl (Nat.le_of_ble_eq_true rfl) (by first | (rw [hRc]; exact Nat.le_of_ble_eq_true rfl) | (rw [hRc]; dsimp only; omega)) (by first | (rw [hRs]; exact Nat.le_of_ble_eq_true rfl) | (rw [hRs]; dsimp only; omega)) ?_ (fun X q C1 h => h.elim)
  rintro _ _ ⟨rfl, rfl⟩
  dsimp only [List.cons_append, List.nil_append, Option.toList]
  by_cases hwy : wyI row nw a1 b1 = -1
  · refine gg_topV (show va_rf (btw wo row nw a1 b1) = .null from by unfold btw; rw [if_pos hwy]; rfl) ?_
    refine gg_ifnullN (tgt := 13) (pc := 6) E dX2_cuts_6 (by decide) ?_
    refine gg_iconst (v := 0) (pc := 13) E dX2_cuts_13 (by decide) ?_
    refine gg_callSN (F := [_, _, _]) (As := [_]) (rest := []) (pc := 14) E (ct_X1_needState hl ) ⟨va_cnB 1 E.2.2.2.2.1 (lw_meth q1542) rfl rfl rfl (E.2.2.2.2.2.1.2.1 _ nq1540) (E.2.2.2.2.1 _ q151) (by decide +kernel) ⟨by rw [hRf]; exact Nat.le_of_ble_eq_true rfl, by rw [hRl]; exact Nat.le_of_ble_eq_true rfl⟩, E.2.2.2.2.1 _ q1541, trivial⟩ dX2_cuts_14 [] (by decide) rfl rfl (fun _ h => by cases h) rfl rfl (Nat.le_of_ble_eq_true rfl) (by first | (rw [hRc]; exact Nat.le_of_ble_eq_true rfl) | (rw [hRc]; dsimp only; omega)) (by first | (rw [hRs]; exact Nat.le_of_ble_eq_true rfl) | (rw [hRs]; dsimp only; omega)) ?_ ?_
    · rintro _ _ ⟨hq, rfl, rfl⟩
      dsimp only [List.cons_append, List.nil_append, Option.toList]
      exact absurd rfl hq
    · rintro X q _ ⟨rfl, hx0, rfl⟩
      dsimp only [List.cons_append, List.nil_append, Option.toList]
      refine gg_xout E Fn (fun x hx => (hex x hx).elim) (by first | exact Nat.le_of_ble_eq_true rfl | (dsimp only; omega)) (by first | exact Nat.le_of_ble_eq_true rfl | (dsimp only; omega)) ?_
      exact ⟨rfl, hwy, rfl⟩
  · obtain ⟨i0, hi0, hwi, hjo⟩ := wyI_i hw hwy
    have htn : tn (wyI row nw a1 b1) = i0 := by rw [hwi]; exact tn_nI (by omega)
    refine gg_topV (show va_rf (btw wo row nw a1 b1) = .ref (wo i0) from by unfold btw; rw [if_neg hwy, htn]; rfl) ?_
    refine gg_ifnull (pc := 6) E dX2_cuts_6 ?_
    refine gg_iconst (v := 1) (pc := 9) E dX2_cuts_9 (by decide) ?_
    refine gg_goto (tgt := 14) (pc := 10) E dX2_cuts_10 (by decide) ?_
    refine gg_callSN (F := [_, _, _]) (As := [_]) (rest := []) (pc := 14) E (ct_X1_needState hl ) ⟨va_cnB 1 E.2.2.2.2.1 (lw_meth q1542) rfl rfl rfl (E.2.2.2.2.2.1.2.1 _ nq1540) (E.2.2.2.2.1 _ q151) (by decide +kernel) ⟨by rw [hRf]; exact Nat.le_of_ble_eq_true rfl, by rw [hRl]; exact Nat.le_of_ble_eq_true rfl⟩, E.2.2.2.2.1 _ q1541, trivial⟩ dX2_cuts_14 [] (by decide) rfl rfl (fun _ h => by cases h) rfl rfl (Nat.le_of_ble_eq_true rfl) (by first | (rw [hRc]; exact Nat.le_of_ble_eq_true rfl) | (rw [hRc]; dsimp only; omega)) (by first | (rw [hRs]; exact Nat.le_of_ble_eq_true rfl) | (rw [hRs]; dsimp only; omega)) ?_ ?_
    · rintro _ _ ⟨hq, rfl, rfl⟩
      dsimp only [List.cons_append, List.nil_append, Option.toList]
      refine gg_aload_n (pc := 17) E dX2_cuts_17 rfl rfl ?_
      refine gg_get (pc := 18) E ck_X2 1 q601 rfl (by decide) dX2_cuts_18 (gg_i 0 rfl) rfl ?_
      refine gg_callU (F := [_, _, _]) (As := []) (rest := []) (pc := 21) E ck_J19 (ct_J18_iterator hl (by omega)) (va_cwU (own := "WhistlePosts$World") (C := "java/util/LinkedList") (index := 58) (x := ⟨"java/util/LinkedList", "iterator", "()Ljava/util/Iterator;"⟩) (owner := "java/util/AbstractSequentialList") 0 E.2.2.2.2.1 (lw_app (lw_in _ [1190, 1191, 1193, 1194, 172] (by decide +kernel) (by decide +kernel)) (lw_meth q1195)) rfl rfl rfl rfl (by decide +kernel) ⟨by rw [hRf]; exact Nat.le_of_ble_eq_true rfl, by rw [hRl]; exact Nat.le_of_ble_eq_true rfl⟩) dX2_cuts_21 [] (by decide) rfl rfl (List.forall_mem_append.mpr ⟨(List.forall_mem_cons.mpr ⟨(gg_i 1 rfl), (fun _ h => by cases h)⟩), (fun q hq => gg_j 2 rfl hq)⟩) (gg_i 1 rfl) rfl rfl (Nat.le_of_ble_eq_true rfl) (by first | (rw [hRc]; exact Nat.le_of_ble_eq_true rfl) | (rw [hRc]; dsimp only; omega)) (by first | (rw [hRs]; exact Nat.le_of_ble_eq_true rfl) | (rw [hRs]; dsimp only; omega)) ?_ (fun X q C1 h => h.elim)
      rintro _ _ ⟨i1, rfl, rfl⟩
      dsimp only [List.cons_append, List.nil_append, Option.toList]
      refine gg_up3 ?_
      refine gg_astore_n (lv' := [_, _, _, _]) (pc := 24) E dX2_cuts_24 rfl (Nat.le_of_ble_eq_true rfl) rfl rfl ?_
      have L25 : ∀ (n : Nat) (k z : Nat) (v : Value), 2 * nw - k - z < n → (k ≤ nw - z) → (z ≤ 1) → (z = 0 → k ≤ i0) → (z = 1 → i0 ≤ k) → gg_W p l e R s m args below meth c g A 4 Q (0 + 1 + 1 + 1) (0 + 5 + 6 + 5) [[(w, .inl (1, [.ref (ad 1), .ref (ad 3), .ref (ad 4), .ref (ad 6), .ref (ad 7), .int t7, .int c7, v7]))], [((ad 3), .inl (15, [.int (mz m2 z), .int (nI (nw - z)), llF (fun j => nd (dx i0 z j)) (nw - z), llL (fun j => nd (dx i0 z j)) (nw - z)]))], (llS (fun j => nd (dx i0 z j)) (fun j => wo (dx i0 z j)) (nw - z)), [(i1, .inl (19, [v, va_rf (if k < (nw - z) then some ((fun j => nd (dx i0 z j)) k) else none), .int (nI k), .int (mz m2 z), .ref (ad 3)]))]] [some (.ref w), some (.int a1), some (.int b1), some (.ref i1)] [] 25 := by
        intro n25
        induction n25 with
        | zero => intro k z v hmz; exact absurd hmz (Nat.not_lt_zero _)
        | succ n25 ih25 =>
          intro k z v hm25 hk hz hA hB
          refine gg_aload_n (pc := 25) E dX2_cuts_25 rfl rfl ?_
          refine gg_callF (F := [_, _, _, _]) (As := []) (rest := []) (pc := 26) E ck_J28 (ct_J28_hasNext hl (hk) (by omega)) (gg_cwF 0 E (x := ⟨"java/util/Iterator", "hasNext", "()Z"⟩) (by decide) nq1310 nq1308 nq1306 (lw_app (lw_in _ [1283, 1307, 1309, 188] (by decide +kernel) (by decide +kernel)) (lw_meth q1311)) (by decide +kernel) ⟨by rw [hRf]; exact Nat.le_of_ble_eq_true rfl, by rw [hRl]; exact Nat.le_of_ble_eq_true rfl⟩) dX2_cuts_26 [] (by decide) rfl rfl (List.forall_mem_cons.mpr ⟨(gg_i 3 rfl), (List.forall_mem_cons.mpr ⟨(gg_i 1 rfl), (fun _ h => by cases h)⟩)⟩) (gg_i 3 rfl) rfl rfl (Nat.le_of_ble_eq_true rfl) (by first | (rw [hRc]; exact Nat.le_of_ble_eq_true rfl) | (rw [hRc]; dsimp only; omega)) (by first | (rw [hRs]; exact Nat.le_of_ble_eq_true rfl) | (rw [hRs]; dsimp only; omega)) ?_ (fun X q C1 h => h.elim)
          rintro _ _ ⟨rfl, rfl⟩
          dsimp only [List.cons_append, List.nil_append, Option.toList]
          refine gg_ifP_eq (tgt := 60) (pc := 31) E dX2_cuts_31 (by decide) (fun c31 => ?_) (fun c31 => ?_)
          · obtain rfl : z = 1 := by
              rcases Nat.lt_or_ge z 1 with q | q
              · have := hA (by omega); omega
              · omega
            refine gg_let rfl rfl ?_
            refine gg_aload_n (pc := 60) E dX2_cuts_60 rfl rfl ?_
            refine gg_null (pc := 61) E dX2_cuts_61 ?_
            refine gg_put (fs' := [_, _, _, _, _, _, _, _]) (M' := [_, _, _]) (pc := 62) E ck_X2 7 q613 rfl (by decide) dX2_cuts_62 0 rfl rfl (rfl) rfl (Nat.le_of_ble_eq_true rfl) rfl rfl ?_
            refine gg_aload_n (pc := 65) E dX2_cuts_65 rfl rfl ?_
            refine gg_get (pc := 66) E ck_X2 1 q601 rfl (by decide) dX2_cuts_66 (gg_i 0 rfl) rfl ?_
            refine gg_callV (F := [_, _, _]) (As := []) (rest := []) (pc := 69) E ck_J19 (ct_J19_size hl ) (cwV 0 E.2.2.2.2.1 (lw_V q2165 q1050 q3472 q173 q1052) rfl rfl rfl (by decide +kernel) ⟨by rw [hRf]; exact Nat.le_of_ble_eq_true rfl, by rw [hRl]; exact Nat.le_of_ble_eq_true rfl⟩) dX2_cuts_69 [] (by decide) rfl rfl (List.forall_mem_cons.mpr ⟨(gg_i 1 rfl), (fun _ h => by cases h)⟩) (gg_i 1 rfl) rfl rfl (Nat.le_of_ble_eq_true rfl) (by first | (rw [hRc]; exact Nat.le_of_ble_eq_true rfl) | (rw [hRc]; dsimp only; omega)) (by first | (rw [hRs]; exact Nat.le_of_ble_eq_true rfl) | (rw [hRs]; dsimp only; omega)) ?_ (fun X q C1 h => h.elim)
            rintro _ _ ⟨rfl, rfl⟩
            dsimp only [List.cons_append, List.nil_append, Option.toList]
            refine gg_iret (pc := 72) E Fn rfl (rfl) dX2_cuts_72 (by first | exact Nat.le_of_ble_eq_true rfl | (dsimp only; omega)) (by first | exact Nat.le_of_ble_eq_true rfl | (dsimp only; omega)) ?_
            rw [htn]
            exact ⟨hwy, rfl, rfl⟩
          · refine gg_aload_n (pc := 34) E dX2_cuts_34 rfl rfl ?_
            refine gg_callF (F := [_, _, _]) (As := []) (rest := []) (pc := 35) E ck_J28 (ct_J28_next hl (c31) (by omega)) (gg_cwF 0 E (x := ⟨"java/util/Iterator", "next", "()Ljava/lang/Object;"⟩) (by decide) nq1423 nq1421 nq1306 (lw_app (lw_in _ [1313, 1420, 1422, 188] (by decide +kernel) (by decide +kernel)) (lw_meth q1424)) (by decide +kernel) ⟨by rw [hRf]; exact Nat.le_of_ble_eq_true rfl, by rw [hRl]; exact Nat.le_of_ble_eq_true rfl⟩) dX2_cuts_35 [3] (by decide) rfl rfl (List.forall_mem_append.mpr ⟨(List.forall_mem_cons.mpr ⟨(gg_i 1 rfl), (fun _ h => by cases h)⟩), (fun q hq => gg_j 2 rfl hq)⟩) (gg_i 3 rfl) rfl rfl (Nat.le_of_ble_eq_true rfl) (by first | (rw [hRc]; exact Nat.le_of_ble_eq_true rfl) | (rw [hRc]; dsimp only; omega)) (by first | (rw [hRs]; exact Nat.le_of_ble_eq_true rfl) | (rw [hRs]; dsimp only; omega)) ?_ (fun X q C1 h => h.elim)
            rintro _ _ ⟨rfl, rfl⟩
            dsimp only [List.cons_append, List.nil_append, Option.toList]
            refine gg_up3 ?_
            have hdx : dx i0 z k < nw := by unfold dx sk; split <;> (try split) <;> omega
            refine gg_cast (pc := 40) E ck_X4 q1432 (Or.inl rfl) dX2_cuts_40 (gg_rm (List.mem_append_right _ (hP.2 (dx i0 z k) (by omega)))) ?_
            refine gg_iload_n (pc := 43) E dX2_cuts_43 rfl rfl ?_
            refine gg_iload_n (pc := 44) E dX2_cuts_44 rfl rfl ?_
            refine gg_callV (F := [_, _, _, _]) (As := [_, _]) (rest := []) (pc := 45) E ck_X4 (ct_X4_joins hl ) (cwV 2 E.2.2.2.2.1 (lw_V q1433 q1434 q1435 q177 q1436) rfl rfl rfl (by decide +kernel) ⟨by rw [hRf]; exact Nat.le_of_ble_eq_true rfl, by rw [hRl]; exact Nat.le_of_ble_eq_true rfl⟩) dX2_cuts_45 [] (by decide) rfl rfl (List.forall_mem_cons.mpr ⟨(gg_rm (List.mem_append_right _ (hP.2 (dx i0 z k) (by omega)))), (fun _ h => by cases h)⟩) (gg_rm (List.mem_append_right _ (hP.2 (dx i0 z k) (by omega)))) rfl rfl (Nat.le_of_ble_eq_true rfl) (by first | (rw [hRc]; exact Nat.le_of_ble_eq_true rfl) | (rw [hRc]; dsimp only; omega)) (by first | (rw [hRs]; exact Nat.le_of_ble_eq_true rfl) | (rw [hRs]; dsimp only; omega)) ?_ (fun X q C1 h => h.elim)
            rintro _ _ ⟨rfl, rfl⟩
            dsimp only [List.cons_append, List.nil_append, Option.toList]
            refine gg_ifP_eq (tgt := 25) (pc := 48) E dX2_cuts_48 (by decide) (fun c48 => ?_) (fun c48 => ?_)
            · refine gg_cv rfl (gg_leS (gg_leS (gg_leS (gg_leS gg_le0)))) rfl (by first | exact Nat.le_refl _ | omega | (dsimp only; omega)) (by first | exact Nat.le_refl _ | omega | (dsimp only; omega)) (ih25 (k + 1) z (.ref (nd (dx i0 z k))) (by omega) (by omega) (hz) (fun q => by have := hA q; have : k ≠ i0 := (fun e => by subst e; subst q; exact c48 (by exact hjo)); omega) (fun q => by have := hB q; omega))
            · have hkx := jo_uq hw hu hdx hi0 c48 hjo
              have hz0 : z = 0 := by
                rcases Nat.eq_zero_or_pos z with q | q
                · exact q
                · have hb := hB (by omega)
                  unfold dx sk at hkx
                  rw [if_neg (by omega), if_neg (by omega)] at hkx
                  omega
              have hkk : k = i0 := by
                unfold dx at hkx
                rw [if_pos hz0] at hkx
                exact hkx
              subst hz0
              obtain rfl : i0 = k := hkk.symm
              refine gg_aload_n (pc := 51) E dX2_cuts_51 rfl rfl ?_
              refine gg_callF (F := [_]) (As := []) (rest := []) (pc := 52) E ck_J28 (ct_J28_remove (k1 := i0) (n1 := nw - 0) hl (by omega) (by omega)) (gg_cwF 0 E (x := ⟨"java/util/Iterator", "remove", "()V"⟩) (by decide) nq2160 nq2158 nq1306 (lw_app (lw_in _ [2101, 2157, 2159, 188] (by decide +kernel) (by decide +kernel)) (lw_meth q2161)) (by decide +kernel) ⟨by rw [hRf]; exact Nat.le_of_ble_eq_true rfl, by rw [hRl]; exact Nat.le_of_ble_eq_true rfl⟩) dX2_cuts_52 [1, 2, 3] (by decide) rfl rfl (fun _ h => by cases h) (gg_i 3 rfl) rfl rfl (Nat.le_of_ble_eq_true rfl) (by first | (rw [hRc]; exact Nat.le_of_ble_eq_true rfl) | (rw [hRc]; dsimp only; omega)) (by first | (rw [hRs]; exact Nat.le_of_ble_eq_true rfl) | (rw [hRs]; dsimp only; omega)) ?_ (fun X q C1 h => h.elim)
              rintro _ _ ⟨rfl, rfl⟩
              dsimp only [List.cons_append, List.nil_append, Option.toList]
              refine gg_up3 ?_
              refine gg_up3 ?_
              refine gg_up3 ?_
              refine gg_goto (tgt := 25) (pc := 57) E dX2_cuts_57 (by decide) ?_
              refine gg_cv rfl (gg_leS (gg_leS (gg_leS (gg_leS gg_le0)))) rfl (by first | exact Nat.le_refl _ | omega | (dsimp only; omega)) (by first | exact Nat.le_refl _ | omega | (dsimp only; omega)) (ih25 (i0) 1 .null (by omega) (by omega) (by omega) (fun q => by cases q) (fun _ => Nat.le_refl _))
      refine gg_cv rfl (gg_leS (gg_leS (gg_leS (gg_leS gg_le0)))) rfl (by first | exact Nat.le_refl _ | omega | (dsimp only; omega)) (by first | exact Nat.le_refl _ | omega | (dsimp only; omega)) (L25 _ 0 0 .null (Nat.lt_succ_self _) (Nat.zero_le _) (Nat.zero_le _) (fun _ => Nat.zero_le _) (fun q => by cases q))
    · exact fun X q C1 hx => absurd hx.2.1 (by decide)

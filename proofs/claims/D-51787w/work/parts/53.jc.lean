set_option maxRecDepth 100000
theorem fits_b {v : Int32} (h : v = 0 ∨ v = 1) : fits .boolean (.int v) = true := by rcases h with rfl | rfl <;> rfl
theorem gg_aiB {g : gg_G} {N : Nat} {f f' : Nat → Int32} (h : ∀ k, k < N → f k = f' k) : gg_ai g N f = gg_ai g N f' := gg_ai_congr h
/-- the bars of so many notes -/
abbrev baN (no : Nat) : Nat := (no + 3) / 4
/-- dearer: whistled first -/
abbrev deaP (no nu no2 nu2 : Nat) : Prop := baN no2 < baN no ∨ baN no = baN no2 ∧ nu < nu2
/-- notes heard otherwise -/
def blT (nu no : Nat) (h : Nat → Int32) : Nat → (Nat → Int32)
  | 0 => h
  | i + 1 => upd (blT nu no h i) ((nu + i) % no) (m8 (blT nu no h i ((nu + i) % no) + 1))
set_option maxHeartbeats 4000000 in
theorem ct_X3_init {l : Launch} (hl : l.stackTraces = false) {g : gg_G}  {h nm : Nat} {br1 ea1 fe pu : Int32}  : gg_C l g yX3_init (ws_ yX3_init cX3_init 6 none) { frames := 1, cells := 0, slots := 0, locals := 16 } [.ref h, .ref nm, .int br1, .int ea1, .int fe, .int pu] [] [[(h, .inl (2, [.null, .int 0, .int 0, .int 0, .int 0, .int 0, .int 0]))]] (fun vv CC => vv = none ∧ CC = [[(h, .inl (2, [.ref nm, .int br1, .int ea1, .int fe, .int pu, .int 0, .int 0]))]]) gg_no := by
  refine gg_of (lv := [_, _, _, _, _, _]) (by decide) hl (Nat.le_of_ble_eq_true rfl) rfl ?_
  intro p e R s m args below meth c A Q hRf hRl hRc hRs E Fn hnm hex
  refine gg_aload_n (pc := 0) E dX3_init_0 rfl rfl ?_
  refine gg_objInit (pc := 1) E q638 dX3_init_1 (by rw [hRf]; exact Nat.le_of_ble_eq_true rfl) (by rw [hRl]; exact Nat.le_of_ble_eq_true rfl) ?_
  refine gg_aload_n (pc := 4) E dX3_init_4 rfl rfl ?_
  refine gg_aload_n (pc := 5) E dX3_init_5 rfl rfl ?_
  refine gg_putF (fs' := [_, _, _, _, _, _, _]) (M' := [_]) (pc := 6) E ck_X3 0 q639 rfl (by decide) hnm dX3_init_6 0 rfl rfl (rfl) rfl (Nat.le_of_ble_eq_true rfl) rfl rfl ?_
  refine gg_aload_n (pc := 9) E dX3_init_9 rfl rfl ?_
  refine gg_iload_n (pc := 10) E dX3_init_10 rfl rfl ?_
  refine gg_putF (fs' := [_, _, _, _, _, _, _]) (M' := [_]) (pc := 11) E ck_X3 1 q642 rfl (by decide) hnm dX3_init_11 0 rfl rfl (rfl) rfl (Nat.le_of_ble_eq_true rfl) rfl rfl ?_
  refine gg_aload_n (pc := 14) E dX3_init_14 rfl rfl ?_
  refine gg_iload_n (pc := 15) E dX3_init_15 rfl rfl ?_
  refine gg_putF (fs' := [_, _, _, _, _, _, _]) (M' := [_]) (pc := 16) E ck_X3 2 q645 rfl (by decide) hnm dX3_init_16 0 rfl rfl (rfl) rfl (Nat.le_of_ble_eq_true rfl) rfl rfl ?_
  refine gg_aload_n (pc := 19) E dX3_init_19 rfl rfl ?_
  refine gg_iload (pc := 20) E dX3_init_20 rfl ?_
  refine gg_putF (fs' := [_, _, _, _, _, _, _]) (M' := [_]) (pc := 22) E ck_X3 3 q648 rfl (by decide) hnm dX3_init_22 0 rfl rfl (rfl) rfl (Nat.le_of_ble_eq_true rfl) rfl rfl ?_
  refine gg_aload_n (pc := 25) E dX3_init_25 rfl rfl ?_
  refine gg_iload (pc := 26) E dX3_init_26 rfl ?_
  refine gg_put (fs' := [_, _, _, _, _, _, _]) (M' := [_]) (pc := 28) E ck_X3 4 q651 rfl (by decide) dX3_init_28 0 rfl rfl (rfl) rfl (Nat.le_of_ble_eq_true rfl) rfl rfl ?_
  refine gg_vret (pc := 31) E Fn rfl dX3_init_31 (by first | exact Nat.le_of_ble_eq_true rfl | (dsimp only; omega)) (by first | exact Nat.le_of_ble_eq_true rfl | (dsimp only; omega)) ?_
  exact ⟨rfl, rfl⟩
set_option maxHeartbeats 4000000 in
theorem ct_X3_copy {l : Launch} (hl : l.stackTraces = false) {g : gg_G}  {h nm : Nat} {br1 ea1 fe pu bu wh : Int32}  : gg_C l g yX3_copy (ws_ yX3_copy cX3_copy 2 (some (.object "WhistlePosts$Roof"))) { frames := 2, cells := 1, slots := 7, locals := 41 } [.ref h] [(h, .inl (2, [.ref nm, .int br1, .int ea1, .int fe, .int pu, .int bu, .int wh]))] [] (fun vv CC => ∃ (r2 : Nat), vv = some (.ref r2) ∧ CC = [[(r2, .inl (2, [.ref nm, .int br1, .int ea1, .int fe, .int pu, .int bu, .int wh]))]]) gg_no := by
  refine gg_of (lv := [_, _]) (by decide) hl (Nat.le_of_ble_eq_true rfl) rfl ?_
  intro p e R s m args below meth c A Q hRf hRl hRc hRs E Fn hnm hex
  refine gg_new (fs := [.null, .int 0, .int 0, .int 0, .int 0, .int 0, .int 0]) (pc := 0) E ck_X3 q2182 q633 q174 dX3_copy_0 (gg_fsX3) (by first | (rw [hRc]; exact Nat.le_of_ble_eq_true rfl) | (rw [hRc]; dsimp only; omega)) (by first | (rw [hRs]; exact Nat.le_of_ble_eq_true rfl) | (rw [hRs]; dsimp only; omega)) (fun _ => rfl) (fun a1 => ?_)
  dsimp only [List.cons_append, List.nil_append]
  refine gg_dup (pc := 3) E dX3_copy_3 rfl ?_
  refine gg_aload_n (pc := 4) E dX3_copy_4 rfl rfl ?_
  refine gg_get (pc := 5) E ck_X3 0 q639 rfl (by decide) dX3_copy_5 (gg_r 0 rfl) rfl ?_
  refine gg_aload_n (pc := 8) E dX3_copy_8 rfl rfl ?_
  refine gg_get (pc := 9) E ck_X3 1 q642 rfl (by decide) dX3_copy_9 (gg_r 0 rfl) rfl ?_
  refine gg_aload_n (pc := 12) E dX3_copy_12 rfl rfl ?_
  refine gg_get (pc := 13) E ck_X3 2 q645 rfl (by decide) dX3_copy_13 (gg_r 0 rfl) rfl ?_
  refine gg_aload_n (pc := 16) E dX3_copy_16 rfl rfl ?_
  refine gg_get (pc := 17) E ck_X3 3 q648 rfl (by decide) dX3_copy_17 (gg_r 0 rfl) rfl ?_
  refine gg_aload_n (pc := 20) E dX3_copy_20 rfl rfl ?_
  refine gg_get (pc := 21) E ck_X3 4 q651 rfl (by decide) dX3_copy_21 (gg_r 0 rfl) rfl ?_
  refine gg_callI (F := []) (As := [_, _, _, _, _]) (rest := [_]) (pc := 24) E (ct_X3_init hl ) (cwI 5 E.2.2.2.2.1 (lw_meth q637) rfl rfl rfl (E.2.2.2.2.1 _ q174) (E.2.2.2.2.1 _ q2183) (E.2.2.2.2.1 _ q636) rfl (by decide +kernel) ⟨by rw [hRf]; exact Nat.le_of_ble_eq_true rfl, by rw [hRl]; exact Nat.le_of_ble_eq_true rfl⟩) dX3_copy_24 [0] (by decide) rfl rfl (fun _ h => by cases h) rfl rfl (Nat.le_of_ble_eq_true rfl) (by first | (rw [hRc]; exact Nat.le_of_ble_eq_true rfl) | (rw [hRc]; dsimp only; omega)) (by first | (rw [hRs]; exact Nat.le_of_ble_eq_true rfl) | (rw [hRs]; dsimp only; omega)) ?_ (fun X q C1 h => h.elim)
  rintro _ _ ⟨rfl, rfl⟩
  dsimp only [List.cons_append, List.nil_append, Option.toList]
  refine gg_astore_n (lv' := [_, _]) (pc := 27) E dX3_copy_27 rfl (Nat.le_of_ble_eq_true rfl) rfl rfl ?_
  refine gg_aload_n (pc := 28) E dX3_copy_28 rfl rfl ?_
  refine gg_aload_n (pc := 29) E dX3_copy_29 rfl rfl ?_
  refine gg_get (pc := 30) E ck_X3 5 q654 rfl (by decide) dX3_copy_30 (gg_r 0 rfl) rfl ?_
  refine gg_put (fs' := [_, _, _, _, _, _, _]) (M' := [_]) (pc := 33) E ck_X3 5 q654 rfl (by decide) dX3_copy_33 0 rfl rfl (rfl) rfl (Nat.le_of_ble_eq_true rfl) rfl rfl ?_
  refine gg_aload_n (pc := 36) E dX3_copy_36 rfl rfl ?_
  refine gg_aload_n (pc := 37) E dX3_copy_37 rfl rfl ?_
  refine gg_get (pc := 38) E ck_X3 6 q657 rfl (by decide) dX3_copy_38 (gg_r 0 rfl) rfl ?_
  refine gg_put (fs' := [_, _, _, _, _, _, _]) (M' := [_]) (pc := 41) E ck_X3 6 q657 rfl (by decide) dX3_copy_41 0 rfl rfl (rfl) rfl (Nat.le_of_ble_eq_true rfl) rfl rfl ?_
  refine gg_aload_n (pc := 44) E dX3_copy_44 rfl rfl ?_
  refine gg_aret (pc := 45) E Fn rfl (Or.inl ⟨_, rfl⟩) (Or.inr ⟨_, rfl⟩) dX3_copy_45 (by first | exact Nat.le_of_ble_eq_true rfl | (dsimp only; omega)) (by first | exact Nat.le_of_ble_eq_true rfl | (dsimp only; omega)) ?_
  exact ⟨_, rfl, rfl⟩
set_option maxHeartbeats 4000000 in
theorem ct_X8_notes {l : Launch} (hl : l.stackTraces = false) {g : gg_G}  {t1 sn hd nu : Nat} {se go re wa a4 st1 en fa tr ho : Int32} {no : Nat} {sf : Nat → Int32}  : gg_C l g yX8_notes (ws_ yX8_notes cX8_notes 1 (some .int)) { frames := 0, cells := 0, slots := 0, locals := 0 } [.ref t1] [(t1, .inl (7, [.int (nI nu), .int se, .int go, .ref sn, .ref hd, .int re, .int wa, .int a4, .int st1, .int en, .int fa, .int tr, .int ho])), (sn, gg_ai g no sf)] [] (fun vv CC => vv = some (.int (nI no)) ∧ CC = []) gg_no := by
  refine gg_of (lv := [_]) (by decide) hl (Nat.le_of_ble_eq_true rfl) rfl ?_
  intro p e R s m args below meth c A Q hRf hRl hRc hRs E Fn hnm hex
  refine gg_aload_n (pc := 0) E dX8_notes_0 rfl rfl ?_
  refine gg_get (pc := 1) E ck_X8 3 q1577 rfl (by decide) dX8_notes_1 (gg_r 0 rfl) rfl ?_
  refine gg_alen (pc := 4) E 0 rfl dX8_notes_4 (gg_r 1 rfl) ?_
  refine gg_iret (pc := 5) E Fn rfl (rfl) dX8_notes_5 (by first | exact Nat.le_of_ble_eq_true rfl | (dsimp only; omega)) (by first | exact Nat.le_of_ble_eq_true rfl | (dsimp only; omega)) ?_
  exact ⟨rfl, rfl⟩
set_option maxHeartbeats 4000000 in
theorem ct_X8_bars {l : Launch} (hl : l.stackTraces = false) {g : gg_G}  {t1 sn hd nu : Nat} {se go re wa a4 st1 en fa tr ho : Int32} {no : Nat} {sf : Nat → Int32} (hno : no ≤ 1000) : gg_C l g yX8_bars (ws_ yX8_bars cX8_bars 1 (some .int)) { frames := 1, cells := 0, slots := 0, locals := 20 } [.ref t1] [(t1, .inl (7, [.int (nI nu), .int se, .int go, .ref sn, .ref hd, .int re, .int wa, .int a4, .int st1, .int en, .int fa, .int tr, .int ho])), (sn, gg_ai g no sf)] [] (fun vv CC => vv = some (.int (nI (baN no))) ∧ CC = []) gg_no := by
  refine gg_of (lv := [_]) (by decide) hl (Nat.le_of_ble_eq_true rfl) rfl ?_
  intro p e R s m args below meth c A Q hRf hRl hRc hRs E Fn hnm hex
  refine gg_aload_n (pc := 0) E dX8_bars_0 rfl rfl ?_
  refine gg_callV (F := []) (As := []) (rest := []) (pc := 1) E ck_X8 (ct_X8_notes hl ) (cwV 0 E.2.2.2.2.1 (lw_V q1673 q1660 q1661 q192 q1662) rfl rfl rfl (by decide +kernel) ⟨by rw [hRf]; exact Nat.le_of_ble_eq_true rfl, by rw [hRl]; exact Nat.le_of_ble_eq_true rfl⟩) dX8_bars_1 [] (by decide) rfl rfl (List.forall_mem_cons.mpr ⟨(gg_r 0 rfl), (List.forall_mem_cons.mpr ⟨(gg_r 1 rfl), (fun _ h => by cases h)⟩)⟩) (gg_r 0 rfl) rfl rfl (Nat.le_of_ble_eq_true rfl) (by first | (rw [hRc]; exact Nat.le_of_ble_eq_true rfl) | (rw [hRc]; dsimp only; omega)) (by first | (rw [hRs]; exact Nat.le_of_ble_eq_true rfl) | (rw [hRs]; dsimp only; omega)) ?_ (fun X q C1 h => h.elim)
  rintro _ _ ⟨rfl, rfl⟩
  dsimp only [List.cons_append, List.nil_append, Option.toList]
  refine gg_iconst (v := 4) (pc := 4) E dX8_bars_4 (by decide) ?_
  refine gg_iaddN (pc := 5) E no 4 rfl rfl dX8_bars_5 ?_
  refine gg_iconst (v := 1) (pc := 6) E dX8_bars_6 (by decide) ?_
  refine gg_isubN (pc := 7) E (no + 4) 1 rfl rfl (by omega) dX8_bars_7 ?_
  refine gg_iconst (v := 4) (pc := 8) E dX8_bars_8 (by decide) ?_
  refine gg_idivN (pc := 9) E ((no + 4) - 1) 4 rfl rfl (by omega) (by omega) (by omega) dX8_bars_9 ?_
  refine gg_iret (pc := 10) E Fn rfl (rfl) dX8_bars_10 (by first | exact Nat.le_of_ble_eq_true rfl | (dsimp only; omega)) (by first | exact Nat.le_of_ble_eq_true rfl | (dsimp only; omega)) ?_
  exact ⟨by rw [show no + 4 - 1 = no + 3 by omega], rfl⟩
set_option maxHeartbeats 4000000 in
theorem ct_X8_begins {l : Launch} (hl : l.stackTraces = false) {g : gg_G}  {t1 sn hd nu : Nat} {se go re wa a4 st1 en fa tr ho : Int32} {no : Nat} {sf hf : Nat → Int32} (hno : no ≤ 1000) : gg_C l g yX8_begins (ws_ yX8_begins cX8_begins 1 none) { frames := 1, cells := 0, slots := 0, locals := 60 } [.ref t1] [(t1, .inl (7, [.int (nI nu), .int se, .int go, .ref sn, .ref hd, .int re, .int wa, .int a4, .int st1, .int en, .int fa, .int tr, .int ho])), (sn, gg_ai g no sf)] [[(hd, gg_ai g no hf)]] (fun vv CC => vv = none ∧ CC = [[(hd, gg_ai g no sf)]]) gg_no := by
  refine gg_of (lv := [_]) (by decide) hl (Nat.le_of_ble_eq_true rfl) rfl ?_
  intro p e R s m args below meth c A Q hRf hRl hRc hRs E Fn hnm hex
  refine gg_aload_n (pc := 0) E dX8_begins_0 rfl rfl ?_
  refine gg_get (pc := 1) E ck_X8 3 q1577 rfl (by decide) dX8_begins_1 (gg_r 0 rfl) rfl ?_
  refine gg_iconst (v := 0) (pc := 4) E dX8_begins_4 (by decide) ?_
  refine gg_aload_n (pc := 5) E dX8_begins_5 rfl rfl ?_
  refine gg_get (pc := 6) E ck_X8 4 q1579 rfl (by decide) dX8_begins_6 (gg_r 0 rfl) rfl ?_
  refine gg_iconst (v := 0) (pc := 9) E dX8_begins_9 (by decide) ?_
  refine gg_aload_n (pc := 10) E dX8_begins_10 rfl rfl ?_
  refine gg_get (pc := 11) E ck_X8 3 q1577 rfl (by decide) dX8_begins_11 (gg_r 0 rfl) rfl ?_
  refine gg_alen (pc := 14) E 0 rfl dX8_begins_14 (gg_r 1 rfl) ?_
  refine gg_copyI (k := no) (M' := [_]) (pc := 15) E q1568 q363 q362 q167 dX8_begins_15 (gg_r 1 rfl) 0 rfl (by omega) (by omega) (by omega) (by rw [hRf]; exact Nat.le_of_ble_eq_true rfl) (by rw [hRl]; exact Nat.le_of_ble_eq_true rfl) rfl ?_
  refine gg_vret (pc := 18) E Fn rfl dX8_begins_18 (by first | exact Nat.le_of_ble_eq_true rfl | (dsimp only; omega)) (by first | exact Nat.le_of_ble_eq_true rfl | (dsimp only; omega)) ?_
  refine ⟨rfl, ?_⟩
  exact congrArg (fun z => [[(hd, z)]]) (gg_aiB fun k hk => (if_pos hk))
set_option maxHeartbeats 4000000 in
theorem ct_X8_unlike {l : Launch} (hl : l.stackTraces = false) {g : gg_G}  {t1 sn hd nu : Nat} {se go re wa a4 st1 en fa tr ho : Int32} {no : Nat} {sf hf : Nat → Int32} (hno : no ≤ 1000) : gg_C l g yX8_unlike (ws_ yX8_unlike cX8_unlike 3 (some .int)) { frames := 1, cells := 0, slots := 0, locals := 20 } [.ref t1] [(t1, .inl (7, [.int (nI nu), .int se, .int go, .ref sn, .ref hd, .int re, .int wa, .int a4, .int st1, .int en, .int fa, .int tr, .int ho])), (sn, gg_ai g no sf), (hd, gg_ai g no hf)] [] (fun vv CC => vv = some (.int (sm (fun i => if ¬ sf i = hf i then 1 else 0) no)) ∧ CC = []) gg_no := by
  refine gg_of (lv := [_, _, _]) (by decide) hl (Nat.le_of_ble_eq_true rfl) rfl ?_
  intro p e R s m args below meth c A Q hRf hRl hRc hRs E Fn hnm hex
  refine gg_iconst (v := 0) (pc := 0) E dX8_unlike_0 (by decide) ?_
  refine gg_istore_n (lv' := [_, _, _]) (pc := 1) E dX8_unlike_1 rfl (Nat.le_of_ble_eq_true rfl) rfl rfl ?_
  refine gg_iconst (v := 0) (pc := 2) E dX8_unlike_2 (by decide) ?_
  refine gg_istore_n (lv' := [_, _, _]) (pc := 3) E dX8_unlike_3 rfl (Nat.le_of_ble_eq_true rfl) rfl rfl ?_
  have L4 : ∀ (n : Nat) (i : Nat), no - i < n → (i ≤ no) → gg_W p l e R s m args below meth c g A 3 Q 0 0 [] [some (.ref t1), some (.int (sm (fun i => if ¬ sf i = hf i then 1 else 0) i)), some (.int (nI i))] [] 4 := by
    intro n4
    induction n4 with
    | zero => intro i hmz; exact absurd hmz (Nat.not_lt_zero _)
    | succ n4 ih4 =>
      intro i hm4 hi
      refine gg_iload_n (pc := 4) E dX8_unlike_4 rfl rfl ?_
      refine gg_aload_n (pc := 5) E dX8_unlike_5 rfl rfl ?_
      refine gg_get (pc := 6) E ck_X8 3 q1577 rfl (by decide) dX8_unlike_6 (gg_r 0 rfl) rfl ?_
      refine gg_alen (pc := 9) E 0 rfl dX8_unlike_9 (gg_r 1 rfl) ?_
      refine gg_icmpN_ge (tgt := 45) (pc := 10) E i no rfl rfl (by omega) (by omega) dX8_unlike_10 (by decide) (fun c10 => ?_) (fun c10 => ?_)
      · refine gg_iload_n (pc := 45) E dX8_unlike_45 rfl rfl ?_
        refine gg_iret (pc := 46) E Fn rfl (rfl) dX8_unlike_46 (by first | exact Nat.le_of_ble_eq_true rfl | (dsimp only; omega)) (by first | exact Nat.le_of_ble_eq_true rfl | (dsimp only; omega)) ?_
        obtain rfl : i = no := by omega
        exact ⟨rfl, rfl⟩
      · refine gg_iload_n (pc := 13) E dX8_unlike_13 rfl rfl ?_
        refine gg_aload_n (pc := 14) E dX8_unlike_14 rfl rfl ?_
        refine gg_get (pc := 15) E ck_X8 3 q1577 rfl (by decide) dX8_unlike_15 (gg_r 0 rfl) rfl ?_
        refine gg_iload_n (pc := 18) E dX8_unlike_18 rfl rfl ?_
        refine gg_ialdN (pc := 19) E i rfl (by omega) (by omega) dX8_unlike_19 (gg_r 1 rfl) ?_
        refine gg_aload_n (pc := 20) E dX8_unlike_20 rfl rfl ?_
        refine gg_get (pc := 21) E ck_X8 4 q1579 rfl (by decide) dX8_unlike_21 (gg_r 0 rfl) rfl ?_
        refine gg_iload_n (pc := 24) E dX8_unlike_24 rfl rfl ?_
        refine gg_ialdN (pc := 25) E i rfl (by omega) (by omega) dX8_unlike_25 (gg_r 2 rfl) ?_
        refine gg_icmpB_eq (pc := 26) E dX8_unlike_26 dX8_unlike_29 dX8_unlike_30 dX8_unlike_33 ?_
        refine gg_callSN (F := []) (As := [_]) (rest := [_]) (pc := 34) E (ct_X1_one hl ) ⟨va_cnB 1 E.2.2.2.2.1 (lw_meth q1632) rfl rfl rfl (E.2.2.2.2.2.1.2.1 _ nq1682) (E.2.2.2.2.1 _ q151) (by decide +kernel) ⟨by rw [hRf]; exact Nat.le_of_ble_eq_true rfl, by rw [hRl]; exact Nat.le_of_ble_eq_true rfl⟩, E.2.2.2.2.1 _ q1631, trivial⟩ dX8_unlike_34 [] (by decide) rfl rfl (fun _ h => by cases h) rfl rfl (Nat.le_of_ble_eq_true rfl) (by first | (rw [hRc]; exact Nat.le_of_ble_eq_true rfl) | (rw [hRc]; dsimp only; omega)) (by first | (rw [hRs]; exact Nat.le_of_ble_eq_true rfl) | (rw [hRs]; dsimp only; omega)) ?_ (fun X q C1 h => h.elim)
        rintro _ _ ⟨rfl, rfl⟩
        dsimp only [List.cons_append, List.nil_append, Option.toList]
        refine gg_iadd (pc := 37) E dX8_unlike_37 ?_
        refine gg_istore_n (lv' := [_, _, _]) (pc := 38) E dX8_unlike_38 rfl (Nat.le_of_ble_eq_true rfl) rfl rfl ?_
        refine gg_iincN (k := 1) (lv' := [_, _, _]) (pc := 39) E i dX8_unlike_39 rfl rfl rfl (Nat.le_of_ble_eq_true rfl) rfl rfl ?_
        refine gg_goto (tgt := 4) (pc := 42) E dX8_unlike_42 (by decide) ?_
        refine gg_cv rfl (gg_leS (gg_leS (gg_leS gg_le0))) rfl (by first | exact Nat.le_refl _ | (dsimp only; omega)) (by first | exact Nat.le_refl _ | (dsimp only; omega)) (ih4 (i + 1) (by omega) (by omega))
  refine gg_cv rfl (gg_leS (gg_leS (gg_leS gg_le0))) rfl (by first | exact Nat.le_refl _ | (dsimp only; omega)) (by first | exact Nat.le_refl _ | (dsimp only; omega)) (L4 _ 0 (Nat.lt_succ_self _) (Nat.zero_le _))
set_option maxHeartbeats 4000000 in
theorem ct_X8_blurs {l : Launch} (hl : l.stackTraces = false) {g : gg_G}  {t1 sn hd nu : Nat} {se go re wa a4 st1 en fa tr ho : Int32} {no : Nat} {sf hf : Nat → Int32} {w1 : Nat} (hno : no ≤ 1000) (hn1 : 1 ≤ no) (hnu : nu ≤ 1000) (hw : w1 ≤ 1000) : gg_C l g yX8_blurs (ws_ yX8_blurs cX8_blurs 4 none) { frames := 1, cells := 0, slots := 0, locals := 20 } [.ref t1, .int (nI w1)] [(t1, .inl (7, [.int (nI nu), .int se, .int go, .ref sn, .ref hd, .int re, .int wa, .int a4, .int st1, .int en, .int fa, .int tr, .int ho])), (sn, gg_ai g no sf)] [[(hd, gg_ai g no hf)]] (fun vv CC => vv = none ∧ CC = [[(hd, gg_ai g no (blT nu no hf w1))]]) gg_no := by
  refine gg_of (lv := [_, _, _, _]) (by decide) hl (Nat.le_of_ble_eq_true rfl) rfl ?_
  intro p e R s m args below meth c A Q hRf hRl hRc hRs E Fn hnm hex
  refine gg_iconst (v := 0) (pc := 0) E dX8_blurs_0 (by decide) ?_
  refine gg_istore_n (lv' := [_, _, _, _]) (pc := 1) E dX8_blurs_1 rfl (Nat.le_of_ble_eq_true rfl) rfl rfl ?_
  have L2 : ∀ (n : Nat) (i : Nat), w1 - i < n → (i ≤ w1) → gg_W p l e R s m args below meth c g A 4 Q 0 0 [[(hd, gg_ai g no (blT nu no hf i))]] [some (.ref t1), some (.int (nI w1)), some (.int (nI i)), none] [] 2 := by
    intro n2
    induction n2 with
    | zero => intro i hmz; exact absurd hmz (Nat.not_lt_zero _)
    | succ n2 ih2 =>
      intro i hm2 hi
      refine gg_iload_n (pc := 2) E dX8_blurs_2 rfl rfl ?_
      refine gg_iload_n (pc := 3) E dX8_blurs_3 rfl rfl ?_
      refine gg_icmpN_ge (tgt := 42) (pc := 4) E i w1 rfl rfl (by omega) (by omega) dX8_blurs_4 (by decide) (fun c4 => ?_) (fun c4 => ?_)
      · refine gg_vret (pc := 42) E Fn rfl dX8_blurs_42 (by first | exact Nat.le_of_ble_eq_true rfl | (dsimp only; omega)) (by first | exact Nat.le_of_ble_eq_true rfl | (dsimp only; omega)) ?_
        obtain rfl : i = w1 := by omega
        exact ⟨rfl, rfl⟩
      · refine gg_aload_n (pc := 7) E dX8_blurs_7 rfl rfl ?_
        refine gg_get (pc := 8) E ck_X8 0 q1569 rfl (by decide) dX8_blurs_8 (gg_r 0 rfl) rfl ?_
        refine gg_iload_n (pc := 11) E dX8_blurs_11 rfl rfl ?_
        refine gg_iaddN (pc := 12) E nu i rfl rfl dX8_blurs_12 ?_
        refine gg_aload_n (pc := 13) E dX8_blurs_13 rfl rfl ?_
        refine gg_callV (F := [_]) (As := []) (rest := [_]) (pc := 14) E ck_X8 (ct_X8_notes hl ) (cwV 0 E.2.2.2.2.1 (lw_V q1673 q1660 q1661 q192 q1662) rfl rfl rfl (by decide +kernel) ⟨by rw [hRf]; exact Nat.le_of_ble_eq_true rfl, by rw [hRl]; exact Nat.le_of_ble_eq_true rfl⟩) dX8_blurs_14 [] (by decide) rfl rfl (List.forall_mem_cons.mpr ⟨(gg_r 0 rfl), (List.forall_mem_cons.mpr ⟨(gg_r 1 rfl), (fun _ h => by cases h)⟩)⟩) (gg_r 0 rfl) rfl rfl (Nat.le_of_ble_eq_true rfl) (by first | (rw [hRc]; exact Nat.le_of_ble_eq_true rfl) | (rw [hRc]; dsimp only; omega)) (by first | (rw [hRs]; exact Nat.le_of_ble_eq_true rfl) | (rw [hRs]; dsimp only; omega)) ?_ (fun X q C1 h => h.elim)
        rintro _ _ ⟨rfl, rfl⟩
        dsimp only [List.cons_append, List.nil_append, Option.toList]
        refine gg_iremN (pc := 17) E (nu + i) no rfl rfl (by omega) (by omega) (by omega) dX8_blurs_17 ?_
        refine gg_istore_n (lv' := [_, _, _, _]) (pc := 18) E dX8_blurs_18 rfl (Nat.le_of_ble_eq_true rfl) rfl rfl ?_
        refine gg_aload_n (pc := 19) E dX8_blurs_19 rfl rfl ?_
        refine gg_get (pc := 20) E ck_X8 4 q1579 rfl (by decide) dX8_blurs_20 (gg_r 0 rfl) rfl ?_
        refine gg_iload_n (pc := 23) E dX8_blurs_23 rfl rfl ?_
        refine gg_aload_n (pc := 24) E dX8_blurs_24 rfl rfl ?_
        refine gg_get (pc := 25) E ck_X8 4 q1579 rfl (by decide) dX8_blurs_25 (gg_r 0 rfl) rfl ?_
        refine gg_iload_n (pc := 28) E dX8_blurs_28 rfl rfl ?_
        refine gg_ialdN (pc := 29) E ((nu + i) % no) rfl (Nat.mod_lt _ (by omega)) (by omega) dX8_blurs_29 (gg_i 0 rfl) ?_
        refine gg_iconst (v := 1) (pc := 30) E dX8_blurs_30 (by decide) ?_
        refine gg_iadd (pc := 31) E dX8_blurs_31 ?_
        refine gg_bipush (v := 8) (pc := 32) E dX8_blurs_32 (by decide) ?_
        refine gg_irem (pc := 34) E dX8_blurs_34 (by decide) ?_
        refine gg_iastN (M' := [_]) (pc := 35) E ((nu + i) % no) rfl (Nat.mod_lt _ (by omega)) (by omega) dX8_blurs_35 0 rfl rfl ?_
        refine gg_iincN (k := 1) (lv' := [_, _, _, _]) (pc := 36) E i dX8_blurs_36 rfl rfl rfl (Nat.le_of_ble_eq_true rfl) rfl rfl ?_
        refine gg_goto (tgt := 2) (pc := 39) E dX8_blurs_39 (by decide) ?_
        refine gg_cv rfl (gg_leS (gg_leS (gg_leS (gg_leN gg_le0)))) rfl (by first | exact Nat.le_refl _ | (dsimp only; omega)) (by first | exact Nat.le_refl _ | (dsimp only; omega)) (ih2 (i + 1) (by omega) (by omega))
  refine gg_cv rfl (gg_leS (gg_leS (gg_leS (gg_leN gg_le0)))) rfl (by first | exact Nat.le_refl _ | (dsimp only; omega)) (by first | exact Nat.le_refl _ | (dsimp only; omega)) (L2 _ 0 (Nat.lt_succ_self _) (Nat.zero_le _))
set_option maxHeartbeats 4000000 in
theorem ct_X8_backwards {l : Launch} (hl : l.stackTraces = false) {g : gg_G}  {t1 sn hd nu : Nat} {se go re wa a4 st1 en fa tr ho : Int32} {no : Nat} {sf : Nat → Int32} (hno : no ≤ 1000) : gg_C l g yX8_backwards (ws_ yX8_backwards cX8_backwards 3 (some (.array .int))) { frames := 1, cells := 1, slots := no, locals := 20 } [.ref t1] [(t1, .inl (7, [.int (nI nu), .int se, .int go, .ref sn, .ref hd, .int re, .int wa, .int a4, .int st1, .int en, .int fa, .int tr, .int ho])), (sn, gg_ai g no sf)] [] (fun vv CC => ∃ (b1 : Nat), vv = some (.ref b1) ∧ CC = [[(b1, gg_ai g no (fun j => sf (no - 1 - j)))]]) gg_no := by
  refine gg_of (lv := [_, _, _]) (by decide) hl (Nat.le_of_ble_eq_true rfl) rfl ?_
  intro p e R s m args below meth c A Q hRf hRl hRc hRs E Fn hnm hex
  refine gg_aload_n (pc := 0) E dX8_backwards_0 rfl rfl ?_
  refine gg_callV (F := []) (As := []) (rest := []) (pc := 1) E ck_X8 (ct_X8_notes hl ) (cwV 0 E.2.2.2.2.1 (lw_V q1673 q1660 q1661 q192 q1662) rfl rfl rfl (by decide +kernel) ⟨by rw [hRf]; exact Nat.le_of_ble_eq_true rfl, by rw [hRl]; exact Nat.le_of_ble_eq_true rfl⟩) dX8_backwards_1 [] (by decide) rfl rfl (List.forall_mem_cons.mpr ⟨(gg_r 0 rfl), (List.forall_mem_cons.mpr ⟨(gg_r 1 rfl), (fun _ h => by cases h)⟩)⟩) (gg_r 0 rfl) rfl rfl (Nat.le_of_ble_eq_true rfl) (by first | (rw [hRc]; exact Nat.le_of_ble_eq_true rfl) | (rw [hRc]; dsimp only; omega)) (by first | (rw [hRs]; exact Nat.le_of_ble_eq_true rfl) | (rw [hRs]; dsimp only; omega)) ?_ (fun X q C1 h => h.elim)
  rintro _ _ ⟨rfl, rfl⟩
  dsimp only [List.cons_append, List.nil_append, Option.toList]
  refine gg_newa (N := no) (pc := 4) E 0 (ty := .int) rfl rfl q631 dX8_backwards_4 (nI_pos (by omega)) (nI_clamp (by omega)) (show no * 4 ≤ 536870912 by omega) (by first | (rw [hRc]; exact Nat.le_of_ble_eq_true rfl) | (rw [hRc]; dsimp only; omega)) (by first | (rw [hRs]; exact Nat.le_of_ble_eq_true rfl) | (rw [hRs]; dsimp only; omega)) (fun _ => rfl) (fun a1 => ?_)
  dsimp only [List.cons_append, List.nil_append]
  refine gg_astore_n (lv' := [_, _, _]) (pc := 6) E dX8_backwards_6 rfl (Nat.le_of_ble_eq_true rfl) rfl rfl ?_
  refine gg_iconst (v := 0) (pc := 7) E dX8_backwards_7 (by decide) ?_
  refine gg_istore_n (lv' := [_, _, _]) (pc := 8) E dX8_backwards_8 rfl (Nat.le_of_ble_eq_true rfl) rfl rfl ?_
  have L9 : ∀ (n : Nat) (i : Nat), no - i < n → (i ≤ no) → gg_W p l e R s m args below meth c g A 3 Q (0 + 1) (0 + no) [[(a1, gg_ai g no (ub (fun _ => 0) 0 i (fun j => sf (no - 1 - j))))]] [some (.ref t1), some (.ref a1), some (.int (nI i))] [] 9 := by
    intro n9
    induction n9 with
    | zero => intro i hmz; exact absurd hmz (Nat.not_lt_zero _)
    | succ n9 ih9 =>
      intro i hm9 hi
      refine gg_iload_n (pc := 9) E dX8_backwards_9 rfl rfl ?_
      refine gg_aload_n (pc := 10) E dX8_backwards_10 rfl rfl ?_
      refine gg_alen (pc := 11) E 0 rfl dX8_backwards_11 (gg_i 0 rfl) ?_
      refine gg_icmpN_ge (tgt := 37) (pc := 12) E i no rfl rfl (by omega) (by omega) dX8_backwards_12 (by decide) (fun c12 => ?_) (fun c12 => ?_)
      · refine gg_aload_n (pc := 37) E dX8_backwards_37 rfl rfl ?_
        refine gg_aret (pc := 38) E Fn rfl (Or.inr ⟨_, rfl⟩) (Or.inr ⟨_, rfl⟩) dX8_backwards_38 (by first | exact Nat.le_of_ble_eq_true rfl | (dsimp only; omega)) (by first | exact Nat.le_of_ble_eq_true rfl | (dsimp only; omega)) ?_
        obtain rfl : i = no := by omega
        refine ⟨a1, rfl, ?_⟩
        exact congrArg (fun z => [[(a1, z)]]) (gg_aiB fun k hk => by rw [ub_in _ _ _ _ (Nat.zero_le _) (by omega)]; rfl)
      · refine gg_aload_n (pc := 15) E dX8_backwards_15 rfl rfl ?_
        refine gg_iload_n (pc := 16) E dX8_backwards_16 rfl rfl ?_
        refine gg_aload_n (pc := 17) E dX8_backwards_17 rfl rfl ?_
        refine gg_get (pc := 18) E ck_X8 3 q1577 rfl (by decide) dX8_backwards_18 (gg_r 0 rfl) rfl ?_
        refine gg_aload_n (pc := 21) E dX8_backwards_21 rfl rfl ?_
        refine gg_callV (F := [_]) (As := []) (rest := [_, _, _]) (pc := 22) E ck_X8 (ct_X8_notes hl ) (cwV 0 E.2.2.2.2.1 (lw_V q1673 q1660 q1661 q192 q1662) rfl rfl rfl (by decide +kernel) ⟨by rw [hRf]; exact Nat.le_of_ble_eq_true rfl, by rw [hRl]; exact Nat.le_of_ble_eq_true rfl⟩) dX8_backwards_22 [] (by decide) rfl rfl (List.forall_mem_cons.mpr ⟨(gg_r 0 rfl), (List.forall_mem_cons.mpr ⟨(gg_r 1 rfl), (fun _ h => by cases h)⟩)⟩) (gg_r 0 rfl) rfl rfl (Nat.le_of_ble_eq_true rfl) (by first | (rw [hRc]; exact Nat.le_of_ble_eq_true rfl) | (rw [hRc]; dsimp only; omega)) (by first | (rw [hRs]; exact Nat.le_of_ble_eq_true rfl) | (rw [hRs]; dsimp only; omega)) ?_ (fun X q C1 h => h.elim)
        rintro _ _ ⟨rfl, rfl⟩
        dsimp only [List.cons_append, List.nil_append, Option.toList]
        refine gg_iconst (v := 1) (pc := 25) E dX8_backwards_25 (by decide) ?_
        refine gg_isubN (pc := 26) E no 1 rfl rfl (by omega) dX8_backwards_26 ?_
        refine gg_iload_n (pc := 27) E dX8_backwards_27 rfl rfl ?_
        refine gg_isubN (pc := 28) E (no - 1) i rfl rfl (by omega) dX8_backwards_28 ?_
        refine gg_ialdN (pc := 29) E ((no - 1) - i) rfl (by omega) (by omega) dX8_backwards_29 (gg_r 1 rfl) ?_
        refine gg_iastN (M' := [_]) (pc := 30) E i rfl (by omega) (by omega) dX8_backwards_30 0 rfl rfl ?_
        refine gg_iincN (k := 1) (lv' := [_, _, _]) (pc := 31) E i dX8_backwards_31 rfl rfl rfl (Nat.le_of_ble_eq_true rfl) rfl rfl ?_
        refine gg_goto (tgt := 9) (pc := 34) E dX8_backwards_34 (by decide) ?_
        refine gg_cv ?_ (gg_leS (gg_leS (gg_leS gg_le0))) rfl (by first | exact Nat.le_refl _ | (dsimp only; omega)) (by first | exact Nat.le_refl _ | (dsimp only; omega)) (ih9 (i + 1) (by omega) (by omega))
        · rw [ub0_1 _ _ _ _ rfl]
  refine gg_cv ?_ (gg_leS (gg_leS (gg_leS gg_le0))) rfl (by first | exact Nat.le_refl _ | (dsimp only; omega)) (by first | exact Nat.le_refl _ | (dsimp only; omega)) (L9 _ 0 (Nat.lt_succ_self _) (Nat.zero_le _))
  · first | (rw [ub_0]; done) | (rw [ub_0]; rfl)
set_option maxHeartbeats 4000000 in
theorem ct_X8_isDearer {l : Launch} (hl : l.stackTraces = false) {g : gg_G}  {t1 sn hd nu : Nat} {se go re wa a4 st1 en fa tr ho : Int32} {no : Nat} {sf : Nat → Int32} {t2 sn2 hd2 nu2 no2 : Nat} {sf2 : Nat → Int32} {se2 go2 re2 wa2 a42 st2 en2 fa2 tr2 ho2 : Int32} (hno : no ≤ 1000) (hno2 : no2 ≤ 1000) (hnu : nu ≤ 1000) (hnu2 : nu2 ≤ 1000) : gg_C l g yX8_isDearer (ws_ yX8_isDearer cX8_isDearer 2 (some .boolean)) { frames := 2, cells := 0, slots := 0, locals := 40 } [.ref t1, .ref t2] [(t1, .inl (7, [.int (nI nu), .int se, .int go, .ref sn, .ref hd, .int re, .int wa, .int a4, .int st1, .int en, .int fa, .int tr, .int ho])), (sn, gg_ai g no sf), (t2, .inl (7, [.int (nI nu2), .int se2, .int go2, .ref sn2, .ref hd2, .int re2, .int wa2, .int a42, .int st2, .int en2, .int fa2, .int tr2, .int ho2])), (sn2, gg_ai g no2 sf2)] [] (fun vv CC => vv = some (.int (if deaP no nu no2 nu2 then 1 else 0)) ∧ CC = []) gg_no := by
  refine gg_of (lv := [_, _]) (by decide) hl (Nat.le_of_ble_eq_true rfl) rfl ?_
  intro p e R s m args below meth c A Q hRf hRl hRc hRs E Fn hnm hex
  have hb1 : baN no ≤ 1000 := by unfold baN; omega
  have hb2 : baN no2 ≤ 1000 := by unfold baN; omega
  refine gg_aload_n (pc := 0) E dX8_isDearer_0 rfl rfl ?_
  refine gg_callV (F := []) (As := []) (rest := []) (pc := 1) E ck_X8 (ct_X8_bars hl (by first | assumption | omega)) (cwV 0 E.2.2.2.2.1 (lw_V q1816 q1710 q1711 q192 q1712) rfl rfl rfl (by decide +kernel) ⟨by rw [hRf]; exact Nat.le_of_ble_eq_true rfl, by rw [hRl]; exact Nat.le_of_ble_eq_true rfl⟩) dX8_isDearer_1 [] (by decide) rfl rfl (List.forall_mem_cons.mpr ⟨(gg_r 0 rfl), (List.forall_mem_cons.mpr ⟨(gg_r 1 rfl), (fun _ h => by cases h)⟩)⟩) (gg_r 0 rfl) rfl rfl (Nat.le_of_ble_eq_true rfl) (by first | (rw [hRc]; exact Nat.le_of_ble_eq_true rfl) | (rw [hRc]; dsimp only; omega)) (by first | (rw [hRs]; exact Nat.le_of_ble_eq_true rfl) | (rw [hRs]; dsimp only; omega)) ?_ (fun X q C1 h => h.elim)
  rintro _ _ ⟨rfl, rfl⟩
  dsimp only [List.cons_append, List.nil_append, Option.toList]
  refine gg_aload_n (pc := 4) E dX8_isDearer_4 rfl rfl ?_
  refine gg_callV (F := []) (As := []) (rest := [_]) (pc := 5) E ck_X8 (ct_X8_bars hl (hno2)) (cwV 0 E.2.2.2.2.1 (lw_V q1816 q1710 q1711 q192 q1712) rfl rfl rfl (by decide +kernel) ⟨by rw [hRf]; exact Nat.le_of_ble_eq_true rfl, by rw [hRl]; exact Nat.le_of_ble_eq_true rfl⟩) dX8_isDearer_5 [] (by decide) rfl rfl (List.forall_mem_cons.mpr ⟨(gg_r 2 rfl), (List.forall_mem_cons.mpr ⟨(gg_r 3 rfl), (fun _ h => by cases h)⟩)⟩) (gg_r 2 rfl) rfl rfl (Nat.le_of_ble_eq_true rfl) (by first | (rw [hRc]; exact Nat.le_of_ble_eq_true rfl) | (rw [hRc]; dsimp only; omega)) (by first | (rw [hRs]; exact Nat.le_of_ble_eq_true rfl) | (rw [hRs]; dsimp only; omega)) ?_ (fun X q C1 h => h.elim)
  rintro _ _ ⟨rfl, rfl⟩
  dsimp only [List.cons_append, List.nil_append, Option.toList]
  refine gg_icmpN_eq (tgt := 30) (pc := 8) E (baN no) (baN no2) rfl rfl (by omega) (by omega) dX8_isDearer_8 (by decide) (fun c8 => ?_) (fun c8 => ?_)
  · refine gg_aload_n (pc := 30) E dX8_isDearer_30 rfl rfl ?_
    refine gg_get (pc := 31) E ck_X8 0 q1569 rfl (by decide) dX8_isDearer_31 (gg_r 0 rfl) rfl ?_
    refine gg_aload_n (pc := 34) E dX8_isDearer_34 rfl rfl ?_
    refine gg_get (pc := 35) E ck_X8 0 q1569 rfl (by decide) dX8_isDearer_35 (gg_r 2 rfl) rfl ?_
    refine gg_icmpN_ge (tgt := 45) (pc := 38) E nu nu2 rfl rfl (by omega) (by omega) dX8_isDearer_38 (by decide) (fun c38 => ?_) (fun c38 => ?_)
    · refine gg_iconst (v := 0) (pc := 45) E dX8_isDearer_45 (by decide) ?_
      refine gg_iret (pc := 46) E Fn rfl (gg_nz (by first | decide | assumption | exact gg_b01 | (split <;> decide))) dX8_isDearer_46 (by first | exact Nat.le_of_ble_eq_true rfl | (dsimp only; omega)) (by first | exact Nat.le_of_ble_eq_true rfl | (dsimp only; omega)) ?_
      exact ⟨by rw [if_neg (show ¬ deaP no nu no2 nu2 by unfold deaP; omega)], rfl⟩
    · refine gg_iconst (v := 1) (pc := 41) E dX8_isDearer_41 (by decide) ?_
      refine gg_goto (tgt := 46) (pc := 42) E dX8_isDearer_42 (by decide) ?_
      refine gg_iret (pc := 46) E Fn rfl (gg_nz (by first | decide | assumption | exact gg_b01 | (split <;> decide))) dX8_isDearer_46 (by first | exact Nat.le_of_ble_eq_true rfl | (dsimp only; omega)) (by first | exact Nat.le_of_ble_eq_true rfl | (dsimp only; omega)) ?_
      exact ⟨by rw [if_pos (show deaP no nu no2 nu2 by unfold deaP; omega)], rfl⟩
  · refine gg_aload_n (pc := 11) E dX8_isDearer_11 rfl rfl ?_
    refine gg_callV (F := []) (As := []) (rest := []) (pc := 12) E ck_X8 (ct_X8_bars hl (by first | assumption | omega)) (cwV 0 E.2.2.2.2.1 (lw_V q1816 q1710 q1711 q192 q1712) rfl rfl rfl (by decide +kernel) ⟨by rw [hRf]; exact Nat.le_of_ble_eq_true rfl, by rw [hRl]; exact Nat.le_of_ble_eq_true rfl⟩) dX8_isDearer_12 [] (by decide) rfl rfl (List.forall_mem_cons.mpr ⟨(gg_r 0 rfl), (List.forall_mem_cons.mpr ⟨(gg_r 1 rfl), (fun _ h => by cases h)⟩)⟩) (gg_r 0 rfl) rfl rfl (Nat.le_of_ble_eq_true rfl) (by first | (rw [hRc]; exact Nat.le_of_ble_eq_true rfl) | (rw [hRc]; dsimp only; omega)) (by first | (rw [hRs]; exact Nat.le_of_ble_eq_true rfl) | (rw [hRs]; dsimp only; omega)) ?_ (fun X q C1 h => h.elim)
    rintro _ _ ⟨rfl, rfl⟩
    dsimp only [List.cons_append, List.nil_append, Option.toList]
    refine gg_aload_n (pc := 15) E dX8_isDearer_15 rfl rfl ?_
    refine gg_callV (F := []) (As := []) (rest := [_]) (pc := 16) E ck_X8 (ct_X8_bars hl (hno2)) (cwV 0 E.2.2.2.2.1 (lw_V q1816 q1710 q1711 q192 q1712) rfl rfl rfl (by decide +kernel) ⟨by rw [hRf]; exact Nat.le_of_ble_eq_true rfl, by rw [hRl]; exact Nat.le_of_ble_eq_true rfl⟩) dX8_isDearer_16 [] (by decide) rfl rfl (List.forall_mem_cons.mpr ⟨(gg_r 2 rfl), (List.forall_mem_cons.mpr ⟨(gg_r 3 rfl), (fun _ h => by cases h)⟩)⟩) (gg_r 2 rfl) rfl rfl (Nat.le_of_ble_eq_true rfl) (by first | (rw [hRc]; exact Nat.le_of_ble_eq_true rfl) | (rw [hRc]; dsimp only; omega)) (by first | (rw [hRs]; exact Nat.le_of_ble_eq_true rfl) | (rw [hRs]; dsimp only; omega)) ?_ (fun X q C1 h => h.elim)
    rintro _ _ ⟨rfl, rfl⟩
    dsimp only [List.cons_append, List.nil_append, Option.toList]
    refine gg_icmpN_le (tgt := 26) (pc := 19) E (baN no) (baN no2) rfl rfl (by omega) (by omega) dX8_isDearer_19 (by decide) (fun c19 => ?_) (fun c19 => ?_)
    · refine gg_iconst (v := 0) (pc := 26) E dX8_isDearer_26 (by decide) ?_
      refine gg_goto (tgt := 46) (pc := 27) E dX8_isDearer_27 (by decide) ?_
      refine gg_iret (pc := 46) E Fn rfl (gg_nz (by first | decide | assumption | exact gg_b01 | (split <;> decide))) dX8_isDearer_46 (by first | exact Nat.le_of_ble_eq_true rfl | (dsimp only; omega)) (by first | exact Nat.le_of_ble_eq_true rfl | (dsimp only; omega)) ?_
      exact ⟨by rw [if_neg (show ¬ deaP no nu no2 nu2 by unfold deaP; omega)], rfl⟩
    · refine gg_iconst (v := 1) (pc := 22) E dX8_isDearer_22 (by decide) ?_
      refine gg_goto (tgt := 46) (pc := 23) E dX8_isDearer_23 (by decide) ?_
      refine gg_iret (pc := 46) E Fn rfl (gg_nz (by first | decide | assumption | exact gg_b01 | (split <;> decide))) dX8_isDearer_46 (by first | exact Nat.le_of_ble_eq_true rfl | (dsimp only; omega)) (by first | exact Nat.le_of_ble_eq_true rfl | (dsimp only; omega)) ?_
      exact ⟨by rw [if_pos (show deaP no nu no2 nu2 by unfold deaP; omega)], rfl⟩
set_option maxHeartbeats 4000000 in
theorem ct_X8_waitsAt {l : Launch} (hl : l.stackTraces = false) {g : gg_G}  {t1 sn hd nu : Nat} {se go re wa a4 st1 en fa tr ho : Int32} {k1 : Int32}  : gg_C l g yX8_waitsAt (ws_ yX8_waitsAt cX8_waitsAt 2 (some .boolean)) { frames := 0, cells := 0, slots := 0, locals := 0 } [.ref t1, .int k1] [(t1, .inl (7, [.int (nI nu), .int se, .int go, .ref sn, .ref hd, .int re, .int wa, .int a4, .int st1, .int en, .int fa, .int tr, .int ho]))] [] (fun vv CC => vv = some (.int (if st1 = 0 ∧ a4 = k1 then 1 else 0)) ∧ CC = []) gg_no := by
  refine gg_of (lv := [_, _]) (by decide) hl (Nat.le_of_ble_eq_true rfl) rfl ?_
  intro p e R s m args below meth c A Q hRf hRl hRc hRs E Fn hnm hex
  refine gg_aload_n (pc := 0) E dX8_waitsAt_0 rfl rfl ?_
  refine gg_get (pc := 1) E ck_X8 8 q1589 rfl (by decide) dX8_waitsAt_1 (gg_r 0 rfl) rfl ?_
  refine gg_if_ne (tgt := 19) (pc := 4) E dX8_waitsAt_4 (by decide) (fun c4 => ?_) (fun c4 => ?_)
  · refine gg_iconst (v := 0) (pc := 19) E dX8_waitsAt_19 (by decide) ?_
    refine gg_iret (pc := 20) E Fn rfl (gg_nz (by first | decide | assumption | exact gg_b01 | (split <;> decide))) dX8_waitsAt_20 (by first | exact Nat.le_of_ble_eq_true rfl | (dsimp only; omega)) (by first | exact Nat.le_of_ble_eq_true rfl | (dsimp only; omega)) ?_
    exact ⟨by rw [if_neg (fun q => c4 q.1)], rfl⟩
  · refine gg_aload_n (pc := 7) E dX8_waitsAt_7 rfl rfl ?_
    refine gg_get (pc := 8) E ck_X8 7 q1586 rfl (by decide) dX8_waitsAt_8 (gg_r 0 rfl) rfl ?_
    refine gg_iload_n (pc := 11) E dX8_waitsAt_11 rfl rfl ?_
    refine gg_icmp_ne (tgt := 19) (pc := 12) E dX8_waitsAt_12 (by decide) (fun c12 => ?_) (fun c12 => ?_)
    · refine gg_iconst (v := 0) (pc := 19) E dX8_waitsAt_19 (by decide) ?_
      refine gg_iret (pc := 20) E Fn rfl (gg_nz (by first | decide | assumption | exact gg_b01 | (split <;> decide))) dX8_waitsAt_20 (by first | exact Nat.le_of_ble_eq_true rfl | (dsimp only; omega)) (by first | exact Nat.le_of_ble_eq_true rfl | (dsimp only; omega)) ?_
      exact ⟨by rw [if_neg (fun q => c12 q.2)], rfl⟩
    · refine gg_iconst (v := 1) (pc := 15) E dX8_waitsAt_15 (by decide) ?_
      refine gg_goto (tgt := 20) (pc := 16) E dX8_waitsAt_16 (by decide) ?_
      refine gg_iret (pc := 20) E Fn rfl (gg_nz (by first | decide | assumption | exact gg_b01 | (split <;> decide))) dX8_waitsAt_20 (by first | exact Nat.le_of_ble_eq_true rfl | (dsimp only; omega)) (by first | exact Nat.le_of_ble_eq_true rfl | (dsimp only; omega)) ?_
      exact ⟨by rw [if_pos ⟨c4, c12⟩], rfl⟩
set_option maxHeartbeats 4000000 in
theorem ct_X8_init {l : Launch} (hl : l.stackTraces = false) {g : gg_G}  {t1 sn nu no : Nat} {se go re wa : Int32} {sf : Nat → Int32} (hno : no ≤ 1000) (hre : re = 0 ∨ re = 1) (hwa : wa = 0 ∨ wa = 1) : gg_C l g yX8_init (ws_ yX8_init cX8_init 7 none) { frames := 2, cells := 1, slots := no, locals := 80 } [.ref t1, .int (nI nu), .int se, .int go, .int re, .int wa, .ref sn] [(sn, gg_ai g no sf)] [[(t1, .inl (7, [.int 0, .int 0, .int 0, .null, .null, .int 0, .int 0, .int 0, .int 0, .int 0, .int 0, .int 0, .int 0]))]] (fun vv CC => ∃ (hd : Nat), vv = none ∧ CC = [[(t1, .inl (7, [.int (nI nu), .int se, .int go, .ref sn, .ref hd, .int re, .int wa, .int se, .int 0, .int (-1), .int 0, .int 0, .int 0]))], [(hd, gg_ai g no sf)]]) gg_no := by
  refine gg_of (lv := [_, _, _, _, _, _, _]) (by decide) hl (Nat.le_of_ble_eq_true rfl) rfl ?_
  intro p e R s m args below meth c A Q hRf hRl hRc hRs E Fn hnm hex
  refine gg_aload_n (pc := 0) E dX8_init_0 rfl rfl ?_
  refine gg_objInit (pc := 1) E q1563 dX8_init_1 (by rw [hRf]; exact Nat.le_of_ble_eq_true rfl) (by rw [hRl]; exact Nat.le_of_ble_eq_true rfl) ?_
  refine gg_aload_n (pc := 4) E dX8_init_4 rfl rfl ?_
  refine gg_iconst (v := (-1)) (pc := 5) E dX8_init_5 (by decide) ?_
  refine gg_put (fs' := [_, _, _, _, _, _, _, _, _, _, _, _, _]) (M' := [_]) (pc := 6) E ck_X8 9 q1592 rfl (by decide) dX8_init_6 0 rfl rfl (rfl) rfl (Nat.le_of_ble_eq_true rfl) rfl rfl ?_
  refine gg_aload_n (pc := 9) E dX8_init_9 rfl rfl ?_
  refine gg_iload_n (pc := 10) E dX8_init_10 rfl rfl ?_
  refine gg_putF (fs' := [_, _, _, _, _, _, _, _, _, _, _, _, _]) (M' := [_]) (pc := 11) E ck_X8 0 q1569 rfl (by decide) hnm dX8_init_11 0 rfl rfl (rfl) rfl (Nat.le_of_ble_eq_true rfl) rfl rfl ?_
  refine gg_aload_n (pc := 14) E dX8_init_14 rfl rfl ?_
  refine gg_iload_n (pc := 15) E dX8_init_15 rfl rfl ?_
  refine gg_putF (fs' := [_, _, _, _, _, _, _, _, _, _, _, _, _]) (M' := [_]) (pc := 16) E ck_X8 1 q1571 rfl (by decide) hnm dX8_init_16 0 rfl rfl (rfl) rfl (Nat.le_of_ble_eq_true rfl) rfl rfl ?_
  refine gg_aload_n (pc := 19) E dX8_init_19 rfl rfl ?_
  refine gg_iload_n (pc := 20) E dX8_init_20 rfl rfl ?_
  refine gg_putF (fs' := [_, _, _, _, _, _, _, _, _, _, _, _, _]) (M' := [_]) (pc := 21) E ck_X8 2 q1574 rfl (by decide) hnm dX8_init_21 0 rfl rfl (rfl) rfl (Nat.le_of_ble_eq_true rfl) rfl rfl ?_
  refine gg_aload_n (pc := 24) E dX8_init_24 rfl rfl ?_
  refine gg_iload (pc := 25) E dX8_init_25 rfl ?_
  refine gg_putF (fs' := [_, _, _, _, _, _, _, _, _, _, _, _, _]) (M' := [_]) (pc := 27) E ck_X8 5 q1581 rfl (by decide) hnm dX8_init_27 0 rfl rfl (gg_nz hre) (fits_b hre) (Nat.le_of_ble_eq_true rfl) rfl rfl ?_
  refine gg_aload_n (pc := 30) E dX8_init_30 rfl rfl ?_
  refine gg_iload (pc := 31) E dX8_init_31 rfl ?_
  refine gg_putF (fs' := [_, _, _, _, _, _, _, _, _, _, _, _, _]) (M' := [_]) (pc := 33) E ck_X8 6 q1583 rfl (by decide) hnm dX8_init_33 0 rfl rfl (gg_nz hwa) (fits_b hwa) (Nat.le_of_ble_eq_true rfl) rfl rfl ?_
  refine gg_aload_n (pc := 36) E dX8_init_36 rfl rfl ?_
  refine gg_aload (pc := 37) E dX8_init_37 rfl ?_
  refine gg_putF (fs' := [_, _, _, _, _, _, _, _, _, _, _, _, _]) (M' := [_]) (pc := 39) E ck_X8 3 q1577 rfl (by decide) hnm dX8_init_39 0 rfl rfl (rfl) rfl (Nat.le_of_ble_eq_true rfl) rfl rfl ?_
  refine gg_aload_n (pc := 42) E dX8_init_42 rfl rfl ?_
  refine gg_aload (pc := 43) E dX8_init_43 rfl ?_
  refine gg_alen (pc := 45) E 0 rfl dX8_init_45 (gg_r 0 rfl) ?_
  refine gg_newa (N := no) (pc := 46) E 0 (ty := .int) rfl rfl q631 dX8_init_46 (nI_pos (by omega)) (nI_clamp (by omega)) (show no * 4 ≤ 536870912 by omega) (by first | (rw [hRc]; exact Nat.le_of_ble_eq_true rfl) | (rw [hRc]; dsimp only; omega)) (by first | (rw [hRs]; exact Nat.le_of_ble_eq_true rfl) | (rw [hRs]; dsimp only; omega)) (fun _ => rfl) (fun a1 => ?_)
  dsimp only [List.cons_append, List.nil_append]
  refine gg_putF (fs' := [_, _, _, _, _, _, _, _, _, _, _, _, _]) (M' := [_, _]) (pc := 48) E ck_X8 4 q1579 rfl (by decide) hnm dX8_init_48 0 rfl rfl (rfl) rfl (Nat.le_of_ble_eq_true rfl) rfl rfl ?_
  refine gg_aload_n (pc := 51) E dX8_init_51 rfl rfl ?_
  refine gg_iload_n (pc := 52) E dX8_init_52 rfl rfl ?_
  refine gg_put (fs' := [_, _, _, _, _, _, _, _, _, _, _, _, _]) (M' := [_, _]) (pc := 53) E ck_X8 7 q1586 rfl (by decide) dX8_init_53 0 rfl rfl (rfl) rfl (Nat.le_of_ble_eq_true rfl) rfl rfl ?_
  refine gg_aload_n (pc := 56) E dX8_init_56 rfl rfl ?_
  refine gg_callV (F := [_]) (As := []) (rest := []) (pc := 57) E ck_X8 (ct_X8_begins hl (by first | assumption | omega)) (cwV 0 E.2.2.2.2.1 (lw_V q1564 q1565 q1566 q192 q1567) rfl rfl rfl (by decide +kernel) ⟨by rw [hRf]; exact Nat.le_of_ble_eq_true rfl, by rw [hRl]; exact Nat.le_of_ble_eq_true rfl⟩) dX8_init_57 [1] (by decide) rfl rfl (List.forall_mem_cons.mpr ⟨(gg_i 0 rfl), (List.forall_mem_cons.mpr ⟨(gg_r 0 rfl), (fun _ h => by cases h)⟩)⟩) (gg_i 0 rfl) rfl rfl (Nat.le_of_ble_eq_true rfl) (by first | (rw [hRc]; exact Nat.le_of_ble_eq_true rfl) | (rw [hRc]; dsimp only; omega)) (by first | (rw [hRs]; exact Nat.le_of_ble_eq_true rfl) | (rw [hRs]; dsimp only; omega)) ?_ (fun X q C1 h => h.elim)
  rintro _ _ ⟨rfl, rfl⟩
  dsimp only [List.cons_append, List.nil_append, Option.toList]
  refine gg_up1 ?_
  refine gg_vret (pc := 60) E Fn rfl dX8_init_60 (by first | exact Nat.le_of_ble_eq_true rfl | (dsimp only; omega)) (by first | exact Nat.le_of_ble_eq_true rfl | (dsimp only; omega)) ?_
  exact ⟨_, rfl, rfl⟩
set_option maxHeartbeats 4000000 in
theorem ct_X8_copy {l : Launch} (hl : l.stackTraces = false) {g : gg_G}  {t1 sn hd nu : Nat} {se go re wa a4 st1 en fa tr ho : Int32} {no : Nat} {sf hf : Nat → Int32} (hno : no ≤ 1000) (hre : re = 0 ∨ re = 1) (hwa : wa = 0 ∨ wa = 1) : gg_C l g yX8_copy (ws_ yX8_copy cX8_copy 2 (some (.object "WhistlePosts$Tune"))) { frames := 3, cells := 2, slots := 13 + no, locals := 106 } [.ref t1] [(t1, .inl (7, [.int (nI nu), .int se, .int go, .ref sn, .ref hd, .int re, .int wa, .int a4, .int st1, .int en, .int fa, .int tr, .int ho])), (sn, gg_ai g no sf), (hd, gg_ai g no hf)] [] (fun vv CC => ∃ (t3 h3 : Nat), vv = some (.ref t3) ∧ CC = [[(t3, .inl (7, [.int (nI nu), .int se, .int go, .ref sn, .ref h3, .int re, .int wa, .int a4, .int st1, .int en, .int fa, .int tr, .int ho]))], [(h3, gg_ai g no hf)]]) gg_no := by
  refine gg_of (lv := [_, _]) (by decide) hl (Nat.le_of_ble_eq_true rfl) rfl ?_
  intro p e R s m args below meth c A Q hRf hRl hRc hRs E Fn hnm hex
  refine gg_new (fs := [.int 0, .int 0, .int 0, .null, .null, .int 0, .int 0, .int 0, .int 0, .int 0, .int 0, .int 0, .int 0]) (pc := 0) E ck_X8 q2189 q1559 q192 dX8_copy_0 (gg_fsX8) (by first | (rw [hRc]; exact Nat.le_of_ble_eq_true rfl) | (rw [hRc]; dsimp only; omega)) (by first | (rw [hRs]; exact Nat.le_of_ble_eq_true rfl) | (rw [hRs]; dsimp only; omega)) (fun _ => rfl) (fun a1 => ?_)
  dsimp only [List.cons_append, List.nil_append]
  refine gg_dup (pc := 3) E dX8_copy_3 rfl ?_
  refine gg_aload_n (pc := 4) E dX8_copy_4 rfl rfl ?_
  refine gg_get (pc := 5) E ck_X8 0 q1569 rfl (by decide) dX8_copy_5 (gg_r 0 rfl) rfl ?_
  refine gg_aload_n (pc := 8) E dX8_copy_8 rfl rfl ?_
  refine gg_get (pc := 9) E ck_X8 1 q1571 rfl (by decide) dX8_copy_9 (gg_r 0 rfl) rfl ?_
  refine gg_aload_n (pc := 12) E dX8_copy_12 rfl rfl ?_
  refine gg_get (pc := 13) E ck_X8 2 q1574 rfl (by decide) dX8_copy_13 (gg_r 0 rfl) rfl ?_
  refine gg_aload_n (pc := 16) E dX8_copy_16 rfl rfl ?_
  refine gg_get (pc := 17) E ck_X8 5 q1581 rfl (by decide) dX8_copy_17 (gg_r 0 rfl) rfl ?_
  refine gg_aload_n (pc := 20) E dX8_copy_20 rfl rfl ?_
  refine gg_get (pc := 21) E ck_X8 6 q1583 rfl (by decide) dX8_copy_21 (gg_r 0 rfl) rfl ?_
  refine gg_aload_n (pc := 24) E dX8_copy_24 rfl rfl ?_
  refine gg_get (pc := 25) E ck_X8 3 q1577 rfl (by decide) dX8_copy_25 (gg_r 0 rfl) rfl ?_
  refine gg_callI (F := []) (As := [.int (nI nu), _, _, _, _, _]) (rest := [_]) (pc := 28) E (ct_X8_init hl (hno) (hre) (hwa)) (cwI 6 E.2.2.2.2.1 (lw_meth q1562) rfl rfl rfl (E.2.2.2.2.1 _ q192) (E.2.2.2.2.1 _ q2190) (E.2.2.2.2.1 _ q1561) rfl (by decide +kernel) ⟨by rw [hRf]; exact Nat.le_of_ble_eq_true rfl, by rw [hRl]; exact Nat.le_of_ble_eq_true rfl⟩) dX8_copy_28 [0] (by decide) rfl rfl (List.forall_mem_cons.mpr ⟨(gg_r 1 rfl), (fun _ h => by cases h)⟩) rfl rfl (Nat.le_of_ble_eq_true rfl) (by first | (rw [hRc]; exact Nat.le_of_ble_eq_true rfl) | (rw [hRc]; dsimp only; omega)) (by first | (rw [hRs]; exact Nat.le_of_ble_eq_true rfl) | (rw [hRs]; dsimp only; omega)) ?_ (fun X q C1 h => h.elim)
  rintro _ _ ⟨h3, rfl, rfl⟩
  dsimp only [List.cons_append, List.nil_append, Option.toList]
  refine gg_up1 ?_
  refine gg_up1 ?_
  refine gg_astore_n (lv' := [_, _]) (pc := 31) E dX8_copy_31 rfl (Nat.le_of_ble_eq_true rfl) rfl rfl ?_
  refine gg_aload_n (pc := 32) E dX8_copy_32 rfl rfl ?_
  refine gg_get (pc := 33) E ck_X8 4 q1579 rfl (by decide) dX8_copy_33 (gg_r 0 rfl) rfl ?_
  refine gg_iconst (v := 0) (pc := 36) E dX8_copy_36 (by decide) ?_
  refine gg_aload_n (pc := 37) E dX8_copy_37 rfl rfl ?_
  refine gg_get (pc := 38) E ck_X8 4 q1579 rfl (by decide) dX8_copy_38 (gg_i 0 rfl) rfl ?_
  refine gg_iconst (v := 0) (pc := 41) E dX8_copy_41 (by decide) ?_
  refine gg_aload_n (pc := 42) E dX8_copy_42 rfl rfl ?_
  refine gg_get (pc := 43) E ck_X8 4 q1579 rfl (by decide) dX8_copy_43 (gg_r 0 rfl) rfl ?_
  refine gg_alen (pc := 46) E 0 rfl dX8_copy_46 (gg_r 2 rfl) ?_
  refine gg_copyI (k := no) (M' := [_, _]) (pc := 47) E q1568 q363 q362 q167 dX8_copy_47 (gg_r 2 rfl) 1 rfl (by omega) (by omega) (by omega) (by rw [hRf]; exact Nat.le_of_ble_eq_true rfl) (by rw [hRl]; exact Nat.le_of_ble_eq_true rfl) rfl ?_
  refine gg_aload_n (pc := 50) E dX8_copy_50 rfl rfl ?_
  refine gg_aload_n (pc := 51) E dX8_copy_51 rfl rfl ?_
  refine gg_get (pc := 52) E ck_X8 7 q1586 rfl (by decide) dX8_copy_52 (gg_r 0 rfl) rfl ?_
  refine gg_put (fs' := [_, _, _, _, _, _, _, _, _, _, _, _, _]) (M' := [_, _]) (pc := 55) E ck_X8 7 q1586 rfl (by decide) dX8_copy_55 0 rfl rfl (rfl) rfl (Nat.le_of_ble_eq_true rfl) rfl rfl ?_
  refine gg_aload_n (pc := 58) E dX8_copy_58 rfl rfl ?_
  refine gg_aload_n (pc := 59) E dX8_copy_59 rfl rfl ?_
  refine gg_get (pc := 60) E ck_X8 8 q1589 rfl (by decide) dX8_copy_60 (gg_r 0 rfl) rfl ?_
  refine gg_put (fs' := [_, _, _, _, _, _, _, _, _, _, _, _, _]) (M' := [_, _]) (pc := 63) E ck_X8 8 q1589 rfl (by decide) dX8_copy_63 0 rfl rfl (rfl) rfl (Nat.le_of_ble_eq_true rfl) rfl rfl ?_
  refine gg_aload_n (pc := 66) E dX8_copy_66 rfl rfl ?_
  refine gg_aload_n (pc := 67) E dX8_copy_67 rfl rfl ?_
  refine gg_get (pc := 68) E ck_X8 9 q1592 rfl (by decide) dX8_copy_68 (gg_r 0 rfl) rfl ?_
  refine gg_put (fs' := [_, _, _, _, _, _, _, _, _, _, _, _, _]) (M' := [_, _]) (pc := 71) E ck_X8 9 q1592 rfl (by decide) dX8_copy_71 0 rfl rfl (rfl) rfl (Nat.le_of_ble_eq_true rfl) rfl rfl ?_
  refine gg_aload_n (pc := 74) E dX8_copy_74 rfl rfl ?_
  refine gg_aload_n (pc := 75) E dX8_copy_75 rfl rfl ?_
  refine gg_get (pc := 76) E ck_X8 10 q1595 rfl (by decide) dX8_copy_76 (gg_r 0 rfl) rfl ?_
  refine gg_put (fs' := [_, _, _, _, _, _, _, _, _, _, _, _, _]) (M' := [_, _]) (pc := 79) E ck_X8 10 q1595 rfl (by decide) dX8_copy_79 0 rfl rfl (rfl) rfl (Nat.le_of_ble_eq_true rfl) rfl rfl ?_
  refine gg_aload_n (pc := 82) E dX8_copy_82 rfl rfl ?_
  refine gg_aload_n (pc := 83) E dX8_copy_83 rfl rfl ?_
  refine gg_get (pc := 84) E ck_X8 11 q1597 rfl (by decide) dX8_copy_84 (gg_r 0 rfl) rfl ?_
  refine gg_put (fs' := [_, _, _, _, _, _, _, _, _, _, _, _, _]) (M' := [_, _]) (pc := 87) E ck_X8 11 q1597 rfl (by decide) dX8_copy_87 0 rfl rfl (rfl) rfl (Nat.le_of_ble_eq_true rfl) rfl rfl ?_
  refine gg_aload_n (pc := 90) E dX8_copy_90 rfl rfl ?_
  refine gg_aload_n (pc := 91) E dX8_copy_91 rfl rfl ?_
  refine gg_get (pc := 92) E ck_X8 12 q1600 rfl (by decide) dX8_copy_92 (gg_r 0 rfl) rfl ?_
  refine gg_put (fs' := [_, _, _, _, _, _, _, _, _, _, _, _, _]) (M' := [_, _]) (pc := 95) E ck_X8 12 q1600 rfl (by decide) dX8_copy_95 0 rfl rfl (rfl) rfl (Nat.le_of_ble_eq_true rfl) rfl rfl ?_
  refine gg_aload_n (pc := 98) E dX8_copy_98 rfl rfl ?_
  refine gg_aret (pc := 99) E Fn rfl (Or.inl ⟨_, rfl⟩) (Or.inr ⟨_, rfl⟩) dX8_copy_99 (by first | exact Nat.le_of_ble_eq_true rfl | (dsimp only; omega)) (by first | exact Nat.le_of_ble_eq_true rfl | (dsimp only; omega)) ?_
  exact ⟨_, h3, rfl, by rw [gg_aiB (fun k hk => (if_pos hk))]⟩

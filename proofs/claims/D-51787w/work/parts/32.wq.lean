set_option maxRecDepth 100000
/-- a byte -/
def b8 (k : Int32) : Int32 := k.toInt8.toInt32
theorem b8_b8 (k : Int32) : (b8 k).toInt8.toInt32 = b8 k := by
  unfold b8
  rw [Int8.toInt8_toInt32]
/-- what was said stands first in the output -/
def lo (o : Nat → Int32) (L : List Int32) : Nat → Int32 := fun k => if k < L.length then L.getD k 0 else o k
theorem lo_s (o : Nat → Int32) (L : List Int32) (b : Int32) : upd (lo o L) L.length b = lo o (L ++ [b]) := by
  funext k
  by_cases e : k = L.length
  · subst e
    rw [pk_us]
    unfold lo
    rw [if_pos (by rw [List.length_append]; simp), List.getD_eq_getElem?_getD, List.getElem?_append_right (Nat.le_refl _), Nat.sub_self]
    rfl
  · rw [pk_un e]
    unfold lo
    by_cases q : k < L.length
    · rw [if_pos q, if_pos (by rw [List.length_append]; omega), List.getD_eq_getElem?_getD, List.getD_eq_getElem?_getD, List.getElem?_append_left q]
    · rw [if_neg q, if_neg (by rw [List.length_append, List.length_singleton]; omega)]
theorem len_s (L : List Int32) (b : Int32) : (L ++ [b]).length = L.length + 1 := by rw [List.length_append, List.length_singleton]
/-- a list by its places -/
def tN (f : Nat → Int32) : Nat → List Int32
  | 0 => []
  | n + 1 => tN f n ++ [f n]
theorem tN_len (f : Nat → Int32) : ∀ n, (tN f n).length = n := by
  intro n
  induction n with
  | zero => rfl
  | succ n ih =>
    show (tN f n ++ [f n]).length = n + 1
    rw [len_s, ih]
theorem tN_s (L : List Int32) (f : Nat → Int32) (n : Nat) : L ++ tN f n ++ [f n] = L ++ tN f (n + 1) := List.append_assoc _ _ _
def tName (row : Nat → Int32) (k : Nat) : List Int32 := tN (fun i => b8 (row (25 + 13 * k + 1 + i))) (nl row k)
set_option maxHeartbeats 4000000 in
theorem ct_X5_says {l : Launch} (hl : l.stackTraces = false) {g : gg_G}  {h : Nat} {ad : Nat → Nat} {x : Nat → Int32} {o : Nat → Int32} {L : List Int32} {k : Int32} (hL : L.length < 300) : gg_C l g yX5_says (ws_ yX5_says cX5_says 2 none) { frames := 0, cells := 0, slots := 0, locals := 0 } [.ref h, .int k] [] [[(h, .inl (4, mo_f ad (upd x 27 (nI (L).length))))], [((ad 26), gg_ab g 300 (lo o L))]] (fun vv CC => vv = none ∧ CC = [[(h, .inl (4, mo_f ad (upd x 27 (nI (L ++ [b8 k]).length))))], [((ad 26), gg_ab g 300 (lo o (L ++ [b8 k])))]]) gg_no := by
  refine gg_of (lv := [_, _]) (by decide) hl (Nat.le_of_ble_eq_true rfl) rfl ?_
  intro p e R s m args below meth c A Q hRf hRl hRc hRs E Fn hnm hex
  refine gg_aload_n (pc := 0) E dX5_says_0 rfl rfl ?_
  refine gg_get (pc := 1) E ck_X5 26 q2885 rfl (by decide) dX5_says_1 (gg_i 0 rfl) rfl ?_
  refine gg_aload_n (pc := 4) E dX5_says_4 rfl rfl ?_
  refine gg_get (pc := 5) E ck_X5 27 q2886 rfl (by decide) dX5_says_5 (gg_i 0 rfl) rfl ?_
  refine gg_topI (y := nI L.length) pk_us ?_
  refine gg_iload_n (pc := 8) E dX5_says_8 rfl rfl ?_
  refine gg_i2b (pc := 9) E dX5_says_9 rfl ?_
  refine gg_bastN (M' := [_, _]) (pc := 10) E L.length rfl (by omega) (by omega) dX5_says_10 1 rfl rfl ?_
  refine gg_aload_n (pc := 11) E dX5_says_11 rfl rfl ?_
  refine gg_dup (pc := 12) E dX5_says_12 rfl ?_
  refine gg_get (pc := 13) E ck_X5 27 q2886 rfl (by decide) dX5_says_13 (gg_i 0 rfl) rfl ?_
  refine gg_topI (y := nI L.length) pk_us ?_
  refine gg_iconst (v := 1) (pc := 16) E dX5_says_16 (by decide) ?_
  refine gg_iaddN (pc := 17) E L.length 1 rfl rfl dX5_says_17 ?_
  refine gg_putM (M' := [_, _]) (pc := 18) E ck_X5 27 q2886 rfl (by decide) dX5_says_18 0 rfl rfl (rfl) rfl (Nat.le_of_ble_eq_true rfl) rfl rfl ?_
  refine gg_vret (pc := 21) E Fn rfl dX5_says_21 (by first | exact Nat.le_of_ble_eq_true rfl | (dsimp only; omega)) (by first | exact Nat.le_of_ble_eq_true rfl | (dsimp only; omega)) ?_
  refine ⟨rfl, ?_⟩
  rw [upd_2, show (k.toInt8.toInt32).toInt8.toInt32 = b8 k from b8_b8 k, lo_s, len_s]
set_option maxHeartbeats 4000000 in
theorem ct_X5_saysName {l : Launch} (hl : l.stackTraces = false) {g : gg_G}  {h : Nat} {ad : Nat → Nat} {x : Nat → Int32} {row : Nat → Int32} {o : Nat → Int32} {L : List Int32} {k : Nat} (hk : k < 10) (hn : row (25 + 13 * k) = nI (nl row k)) (hn6 : nl row k ≤ 6) (hL : L.length + nl row k ≤ 300) : gg_C l g yX5_saysName (ws_ yX5_saysName cX5_saysName 3 none) { frames := 1, cells := 0, slots := 0, locals := 21 } [.ref h, .int (nI k)] [((ad 0), gg_ai g 1030 row)] [[(h, .inl (4, mo_f ad (upd x 27 (nI (L).length))))], [((ad 26), gg_ab g 300 (lo o L))]] (fun vv CC => vv = none ∧ CC = [[(h, .inl (4, mo_f ad (upd x 27 (nI (L ++ tName row k).length))))], [((ad 26), gg_ab g 300 (lo o (L ++ tName row k)))]]) gg_no := by
  refine gg_of (lv := [_, _, _]) (by decide) hl (Nat.le_of_ble_eq_true rfl) rfl ?_
  intro p e R s m args below meth c A Q hRf hRl hRc hRs E Fn hnm hex
  refine gg_iconst (v := 0) (pc := 0) E dX5_saysName_0 (by decide) ?_
  refine gg_istore_n (lv' := [_, _, _]) (pc := 1) E dX5_saysName_1 rfl (Nat.le_of_ble_eq_true rfl) rfl rfl ?_
  have L2 : ∀ (n : Nat) (i : Nat), nl row k - i < n → (i ≤ nl row k) → gg_W p l e R s m args below meth c g A 3 Q 0 0 [[(h, .inl (4, mo_f ad (upd x 27 (nI (L ++ tN (fun i => b8 (row (25 + 13 * k + 1 + i))) i).length))))], [((ad 26), gg_ab g 300 (lo o (L ++ tN (fun i => b8 (row (25 + 13 * k + 1 + i))) i)))]] [some (.ref h), some (.int (nI k)), some (.int (nI i))] [] 2 := by
    intro n2
    induction n2 with
    | zero => intro i hmz; exact absurd hmz (Nat.not_lt_zero _)
    | succ n2 ih2 =>
      intro i hm2 hi
      refine gg_iload_n (pc := 2) E dX5_saysName_2 rfl rfl ?_
      refine gg_aload_n (pc := 3) E dX5_saysName_3 rfl rfl ?_
      refine gg_get (pc := 4) E ck_X5 0 q2859 rfl (by decide) dX5_saysName_4 (gg_i 0 rfl) rfl ?_
      refine gg_iload_n (pc := 7) E dX5_saysName_7 rfl rfl ?_
      refine gg_callS (F := [_, _]) (As := [.int (nI k)]) (rest := [_, _]) (pc := 8) E (ct_X5_r hl ) (va_cwS 1 E.2.2.2.2.1 (lw_S q2849 q2850 q179 q2851) rfl rfl rfl (by decide +kernel) ⟨by rw [hRf]; exact Nat.le_of_ble_eq_true rfl, by rw [hRl]; exact Nat.le_of_ble_eq_true rfl⟩) dX5_saysName_8 [] (by decide) rfl rfl (fun _ h => by cases h) rfl rfl (Nat.le_of_ble_eq_true rfl) (by first | (rw [hRc]; exact Nat.le_of_ble_eq_true rfl) | (rw [hRc]; dsimp only; omega)) (by first | (rw [hRs]; exact Nat.le_of_ble_eq_true rfl) | (rw [hRs]; dsimp only; omega)) ?_ (fun X q C1 h => h.elim)
      rintro _ _ ⟨rfl, rfl⟩
      dsimp only [List.cons_append, List.nil_append, Option.toList]
      refine gg_ialdN (pc := 11) E (25 + 13 * k) rfl (by omega) (by omega) dX5_saysName_11 (gg_r 0 rfl) ?_
      rw [hn]
      refine gg_icmpN_ge (tgt := 38) (pc := 12) E i (nl row k) rfl rfl (by omega) (by omega) dX5_saysName_12 (by decide) (fun c12 => ?_) (fun c12 => ?_)
      · refine gg_vret (pc := 38) E Fn rfl dX5_saysName_38 (by first | exact Nat.le_of_ble_eq_true rfl | (dsimp only; omega)) (by first | exact Nat.le_of_ble_eq_true rfl | (dsimp only; omega)) ?_
        obtain rfl : i = nl row k := by omega
        exact ⟨rfl, rfl⟩
      · refine gg_aload_n (pc := 15) E dX5_saysName_15 rfl rfl ?_
        refine gg_aload_n (pc := 16) E dX5_saysName_16 rfl rfl ?_
        refine gg_get (pc := 17) E ck_X5 0 q2859 rfl (by decide) dX5_saysName_17 (gg_i 0 rfl) rfl ?_
        refine gg_iload_n (pc := 20) E dX5_saysName_20 rfl rfl ?_
        refine gg_callS (F := [_, _]) (As := [.int (nI k)]) (rest := [_, _]) (pc := 21) E (ct_X5_r hl ) (va_cwS 1 E.2.2.2.2.1 (lw_S q2849 q2850 q179 q2851) rfl rfl rfl (by decide +kernel) ⟨by rw [hRf]; exact Nat.le_of_ble_eq_true rfl, by rw [hRl]; exact Nat.le_of_ble_eq_true rfl⟩) dX5_saysName_21 [] (by decide) rfl rfl (fun _ h => by cases h) rfl rfl (Nat.le_of_ble_eq_true rfl) (by first | (rw [hRc]; exact Nat.le_of_ble_eq_true rfl) | (rw [hRc]; dsimp only; omega)) (by first | (rw [hRs]; exact Nat.le_of_ble_eq_true rfl) | (rw [hRs]; dsimp only; omega)) ?_ (fun X q C1 h => h.elim)
        rintro _ _ ⟨rfl, rfl⟩
        dsimp only [List.cons_append, List.nil_append, Option.toList]
        refine gg_iconst (v := 1) (pc := 24) E dX5_saysName_24 (by decide) ?_
        refine gg_iaddN (pc := 25) E (25 + 13 * k) 1 rfl rfl dX5_saysName_25 ?_
        refine gg_iload_n (pc := 26) E dX5_saysName_26 rfl rfl ?_
        refine gg_iaddN (pc := 27) E ((25 + 13 * k) + 1) i rfl rfl dX5_saysName_27 ?_
        refine gg_ialdN (pc := 28) E ((25 + 13 * k) + 1 + i) rfl (by omega) (by omega) dX5_saysName_28 (gg_r 0 rfl) ?_
        refine gg_callV (F := []) (As := [_]) (rest := []) (pc := 29) E ck_X5 (ct_X5_says (L := L ++ tN (fun i => b8 (row (25 + 13 * k + 1 + i))) i) hl (by rw [List.length_append, tN_len]; omega)) (cwV 1 E.2.2.2.2.1 (lw_V q3434 q3436 qs147 q179 q3437) rfl rfl rfl (by decide +kernel) ⟨by rw [hRf]; exact Nat.le_of_ble_eq_true rfl, by rw [hRl]; exact Nat.le_of_ble_eq_true rfl⟩) dX5_saysName_29 [0, 1] (by decide) rfl rfl (fun _ h => by cases h) (gg_i 0 rfl) rfl rfl (Nat.le_of_ble_eq_true rfl) (by first | (rw [hRc]; exact Nat.le_of_ble_eq_true rfl) | (rw [hRc]; dsimp only; omega)) (by first | (rw [hRs]; exact Nat.le_of_ble_eq_true rfl) | (rw [hRs]; dsimp only; omega)) ?_ (fun X q C1 h => h.elim)
        rintro _ _ ⟨rfl, rfl⟩
        dsimp only [List.cons_append, List.nil_append, Option.toList]
        refine gg_up1 ?_
        refine gg_up1 ?_
        refine gg_iincN (k := 1) (lv' := [_, _, _]) (pc := 32) E i dX5_saysName_32 rfl rfl rfl (Nat.le_of_ble_eq_true rfl) rfl rfl ?_
        refine gg_goto (tgt := 2) (pc := 35) E dX5_saysName_35 (by decide) ?_
        refine gg_cv ?_ (gg_leS (gg_leS (gg_leS gg_le0))) rfl (by first | exact Nat.le_refl _ | (dsimp only; omega)) (by first | exact Nat.le_refl _ | (dsimp only; omega)) (ih2 (i + 1) (by omega) (by omega))
        · exact congrArg (fun z => [[(h, .inl (4, mo_f ad (upd x 27 (nI z.length))))], [(ad 26, gg_ab g 300 (lo o z))]]) (tN_s L (fun i => b8 (row (25 + 13 * k + 1 + i))) i)
  refine gg_cv ?_ (gg_leS (gg_leS (gg_leS gg_le0))) rfl (by first | exact Nat.le_refl _ | (dsimp only; omega)) (by first | exact Nat.le_refl _ | (dsimp only; omega)) (L2 _ 0 (Nat.lt_succ_self _) (Nat.zero_le _))
  · rw [show tN (fun i => b8 (row (25 + 13 * k + 1 + i))) 0 = [] from rfl, List.append_nil]
set_option maxHeartbeats 4000000 in
theorem ct_X5_outputByte {l : Launch} (hl : l.stackTraces = false) {g : gg_G}  {h : Nat} {ad : Nat → Nat} {x : Nat → Int32} {o : Nat → Int32} {L : List Int32} {ix : Int32} (hL : L.length ≤ 300) : gg_C l g yX5_outputByte (ws_ yX5_outputByte cX5_outputByte 2 (some .int)) { frames := 1, cells := 0, slots := 0, locals := 25 } [.ref h, .int ix] [((ad 26), gg_ab g 300 (lo o L))] [[(h, .inl (4, mo_f ad (upd x 27 (nI (L).length))))]] (fun vv CC => vv = some (.int (if 0 ≤ ix.toInt ∧ ix.toInt < L.length then L.getD (tn ix) 0 else -1)) ∧ CC = [[(h, .inl (4, mo_f ad (upd (upd x 27 (nI L.length)) 6 0)))]]) gg_no := by
  refine gg_of (lv := [_, _]) (by decide) hl (Nat.le_of_ble_eq_true rfl) rfl ?_
  intro p e R s m args below meth c A Q hRf hRl hRc hRs E Fn hnm hex
  refine gg_aload_n (pc := 0) E dX5_outputByte_0 rfl rfl ?_
  refine gg_iconst (v := 0) (pc := 1) E dX5_outputByte_1 (by decide) ?_
  refine gg_putM (M' := [_]) (pc := 2) E ck_X5 6 q2865 rfl (by decide) dX5_outputByte_2 0 rfl rfl (rfl) rfl (Nat.le_of_ble_eq_true rfl) rfl rfl ?_
  refine gg_iload_n (pc := 5) E dX5_outputByte_5 rfl rfl ?_
  refine gg_i2l (pc := 6) E dX5_outputByte_6 rfl ?_
  refine gg_lconst (v := 0) (pc := 7) E dX5_outputByte_7 (by decide) ?_
  refine gg_aload_n (pc := 8) E dX5_outputByte_8 rfl rfl ?_
  refine gg_get (pc := 9) E ck_X5 27 q2886 rfl (by decide) dX5_outputByte_9 (gg_i 0 rfl) rfl ?_
  refine gg_topI (y := nI L.length) ((pk_un (by omega)).trans pk_us) ?_
  refine gg_iconst (v := 1) (pc := 12) E dX5_outputByte_12 (by decide) ?_
  refine gg_isub (pc := 13) E dX5_outputByte_13 ?_
  refine gg_i2l (pc := 14) E dX5_outputByte_14 rfl ?_
  refine gg_callS (F := [_]) (As := [_, _, _]) (rest := []) (pc := 15) E (ct_X5_in hl ) (va_cwS 3 E.2.2.2.2.1 (lw_S q2961 q2962 q179 q2963) rfl rfl rfl (by decide +kernel) ⟨by rw [hRf]; exact Nat.le_of_ble_eq_true rfl, by rw [hRl]; exact Nat.le_of_ble_eq_true rfl⟩) dX5_outputByte_15 [] (by decide) rfl rfl (fun _ h => by cases h) rfl rfl (Nat.le_of_ble_eq_true rfl) (by first | (rw [hRc]; exact Nat.le_of_ble_eq_true rfl) | (rw [hRc]; dsimp only; omega)) (by first | (rw [hRs]; exact Nat.le_of_ble_eq_true rfl) | (rw [hRs]; dsimp only; omega)) ?_ (fun X q C1 h => h.elim)
  rintro _ _ ⟨rfl, rfl⟩
  dsimp only [List.cons_append, List.nil_append, Option.toList]
  refine gg_topI (y := if 0 ≤ ix.toInt ∧ ix.toInt < L.length then 1 else 0) (gg_ifc (in_rng0 (n := L.length) (by omega))) ?_
  refine gg_ifP_eq (tgt := 30) (pc := 18) E dX5_outputByte_18 (by decide) (fun c18 => ?_) (fun c18 => ?_)
  · refine gg_iconst (v := (-1)) (pc := 30) E dX5_outputByte_30 (by decide) ?_
    refine gg_iret (pc := 31) E Fn rfl (rfl) dX5_outputByte_31 (by first | exact Nat.le_of_ble_eq_true rfl | (dsimp only; omega)) (by first | exact Nat.le_of_ble_eq_true rfl | (dsimp only; omega)) ?_
    exact ⟨by rw [if_neg c18], rfl⟩
  · obtain ⟨u, hu, huq⟩ := k_nI c18
    subst huq
    refine gg_aload_n (pc := 21) E dX5_outputByte_21 rfl rfl ?_
    refine gg_get (pc := 22) E ck_X5 26 q2885 rfl (by decide) dX5_outputByte_22 (gg_i 0 rfl) rfl ?_
    refine gg_iload_n (pc := 25) E dX5_outputByte_25 rfl rfl ?_
    refine gg_baldN (pc := 26) E u rfl (by omega) (by omega) dX5_outputByte_26 (gg_r 0 rfl) ?_
    refine gg_goto (tgt := 31) (pc := 27) E dX5_outputByte_27 (by decide) ?_
    refine gg_iret (pc := 31) E Fn rfl (rfl) dX5_outputByte_31 (by first | exact Nat.le_of_ble_eq_true rfl | (dsimp only; omega)) (by first | exact Nat.le_of_ble_eq_true rfl | (dsimp only; omega)) ?_
    exact ⟨by rw [if_pos c18, tn_nI (j := u) (by omega)]; unfold lo; rw [if_pos (show u < L.length by omega)], rfl⟩

set_option maxRecDepth 100000
/-- a tune's bars -/
def br (row : Nat → Int32) (t : Nat) : Int32 := (row (220 + 27 * t + 2) + 3) / 4
/-- of the first i tunes, the one that goes first at roof k -/
noncomputable def fas (row : Nat → Int32) (nw k : Nat) : Nat → Option Nat
  | 0 => none
  | i + 1 => if (row (220 + 27 * i + 3) = 0 ∧ row (220 + 27 * i + 4) = nI k) ∧ (∀ b, fas row nw k i = some b → br row b < br row i) ∧ ¬ row (25 + 13 * ts row i + 10) < row (25 + 13 * k + 9) * br row i ∧ ¬ nxt row nw k (tg row i) = none then some i else fas row nw k i
theorem fa_t {row : Nat → Int32} {nw k i : Nat} (h : (row (220 + 27 * i + 3) = 0 ∧ row (220 + 27 * i + 4) = nI k) ∧ (∀ b, fas row nw k i = some b → br row b < br row i) ∧ ¬ row (25 + 13 * ts row i + 10) < row (25 + 13 * k + 9) * br row i ∧ ¬ nxt row nw k (tg row i) = none) : fas row nw k (i + 1) = some i := by
  unfold fas
  rw [if_pos h]
theorem fa_f {row : Nat → Int32} {nw k i : Nat} (h : ¬ ((row (220 + 27 * i + 3) = 0 ∧ row (220 + 27 * i + 4) = nI k) ∧ (∀ b, fas row nw k i = some b → br row b < br row i) ∧ ¬ row (25 + 13 * ts row i + 10) < row (25 + 13 * k + 9) * br row i ∧ ¬ nxt row nw k (tg row i) = none)) : fas row nw k i = fas row nw k (i + 1) := by
  conv => rhs; unfold fas
  rw [if_neg h]
theorem fas_lt {row : Nat → Int32} {nw k : Nat} : ∀ i b, fas row nw k i = some b → b < i := by
  intro i
  induction i with
  | zero => intro b h; cases h
  | succ i ih =>
    intro b h
    unfold fas at h
    split at h
    · cases h; omega
    · have := ih b h; omega
theorem nxt_lt {row : Nat → Int32} {nr nw v go x : Nat} (hw : Ww row nr nw) (h : nxt row nw v go = some x) : x < nr := by
  unfold nxt at h
  split at h
  · cases h
  · exact nxs_lt hw nw (Nat.le_refl _) x h
theorem dI_none_iff {o : Option Nat} (hb : ∀ x, o = some x → x < 2 ^ 31) : dI o = -1 ↔ o = none := by
  cases o with
  | none => exact ⟨fun _ => rfl, fun _ => rfl⟩
  | some x => exact ⟨fun h => absurd h (nI_nm1 (hb x rfl)), fun h => by cases h⟩
theorem nxt_m1 {row : Nat → Int32} {nr nw v go : Nat} (hw : Ww row nr nw) : dI (nxt row nw v go) = -1 ↔ nxt row nw v go = none := dI_none_iff fun x h => by
  have := nxt_lt hw h
  have := hw.2.2.1
  omega
theorem i64_0 : (0 : Int64) = (0 : Int32).toInt64 := by decide
theorem in_rng {k : Int32} {n : Nat} (hn : n < 2 ^ 31) (h1 : 1 ≤ n) : ((0 : Int64) ≤ k.toInt64 ∧ k.toInt64 ≤ (nI n - 1).toInt64) ↔ (0 ≤ k.toInt ∧ k.toInt < n) := by
  have e : nI n - 1 = nI (n - 1) := pk_sub (b := 1) h1
  rw [i64_0, i64_le, i64_le, e, Int32.le_iff_toInt_le, Int32.le_iff_toInt_le, nI_toInt (by omega)]
  have : (0 : Int32).toInt = 0 := by decide
  omega
theorem in_rng0 {k : Int32} {n : Nat} (hn : n < 2 ^ 31) : ((0 : Int64) ≤ k.toInt64 ∧ k.toInt64 ≤ (nI n - 1).toInt64) ↔ (0 ≤ k.toInt ∧ k.toInt < n) := by
  by_cases h1 : 1 ≤ n
  · exact in_rng hn h1
  · have e : n = 0 := by omega
    subst e
    rw [i64_0, i64_le, i64_le, Int32.le_iff_toInt_le, Int32.le_iff_toInt_le]
    have : (0 : Int32).toInt = 0 := by decide
    have : (nI 0 - 1).toInt = -1 := by decide
    omega
set_option maxHeartbeats 4000000 in
theorem ct_X5_in {l : Launch} (hl : l.stackTraces = false) {g : gg_G}  {a b k : Int64}  : gg_C l g yX5_in (ws_ yX5_in cX5_in 6 (some .boolean)) { frames := 0, cells := 0, slots := 0, locals := 0 } [.long a, .long b, .long k] [] [] (fun vv CC => vv = some (.int (if b ≤ a ∧ a ≤ k then 1 else 0)) ∧ CC = []) gg_no := by
  refine gg_of (lv := [_, _, _, _, _, _]) (by decide) hl (Nat.le_of_ble_eq_true rfl) rfl ?_
  intro p e R s m args below meth c A Q hRf hRl hRc hRs E Fn hnm hex
  refine gg_lload_n (pc := 0) E dX5_in_0 rfl rfl ?_
  refine gg_lload_n (pc := 1) E dX5_in_1 rfl rfl ?_
  refine gg_lcmp (pc := 2) E dX5_in_2 ?_
  refine gg_if_lt (tgt := 17) (pc := 3) E dX5_in_3 (by decide) (fun c3 => ?_) (fun c3 => ?_)
  · refine gg_iconst (v := 0) (pc := 17) E dX5_in_17 (by decide) ?_
    refine gg_iret (pc := 18) E Fn rfl (gg_nz (by first | decide | assumption | exact gg_b01 | (split <;> decide))) dX5_in_18 (by first | exact Nat.le_of_ble_eq_true rfl | (dsimp only; omega)) (by first | exact Nat.le_of_ble_eq_true rfl | (dsimp only; omega)) ?_
    refine ⟨?_, rfl⟩
    first | rw [if_neg (fun q => Int64.not_lt.mpr q.1 ((lg_cmp_lt a b).mp c3))] | rw [if_neg (fun q => absurd ((lg_cmp_gt a k).mp c10) (Int64.not_lt.mpr q.2))] | rw [if_pos ⟨Int64.not_lt.mp (fun q => c3 ((lg_cmp_lt a b).mpr q)), Int64.not_lt.mp (fun q => c10 ((lg_cmp_gt a k).mpr q))⟩]
  · refine gg_lload_n (pc := 6) E dX5_in_6 rfl rfl ?_
    refine gg_lload (pc := 7) E dX5_in_7 rfl ?_
    refine gg_lcmp (pc := 9) E dX5_in_9 ?_
    refine gg_if_gt (tgt := 17) (pc := 10) E dX5_in_10 (by decide) (fun c10 => ?_) (fun c10 => ?_)
    · refine gg_iconst (v := 0) (pc := 17) E dX5_in_17 (by decide) ?_
      refine gg_iret (pc := 18) E Fn rfl (gg_nz (by first | decide | assumption | exact gg_b01 | (split <;> decide))) dX5_in_18 (by first | exact Nat.le_of_ble_eq_true rfl | (dsimp only; omega)) (by first | exact Nat.le_of_ble_eq_true rfl | (dsimp only; omega)) ?_
      refine ⟨?_, rfl⟩
      first | rw [if_neg (fun q => Int64.not_lt.mpr q.1 ((lg_cmp_lt a b).mp c3))] | rw [if_neg (fun q => absurd ((lg_cmp_gt a k).mp c10) (Int64.not_lt.mpr q.2))] | rw [if_pos ⟨Int64.not_lt.mp (fun q => c3 ((lg_cmp_lt a b).mpr q)), Int64.not_lt.mp (fun q => c10 ((lg_cmp_gt a k).mpr q))⟩]
    · refine gg_iconst (v := 1) (pc := 13) E dX5_in_13 (by decide) ?_
      refine gg_goto (tgt := 18) (pc := 14) E dX5_in_14 (by decide) ?_
      refine gg_iret (pc := 18) E Fn rfl (gg_nz (by first | decide | assumption | exact gg_b01 | (split <;> decide))) dX5_in_18 (by first | exact Nat.le_of_ble_eq_true rfl | (dsimp only; omega)) (by first | exact Nat.le_of_ble_eq_true rfl | (dsimp only; omega)) ?_
      refine ⟨?_, rfl⟩
      first | rw [if_neg (fun q => Int64.not_lt.mpr q.1 ((lg_cmp_lt a b).mp c3))] | rw [if_neg (fun q => absurd ((lg_cmp_gt a k).mp c10) (Int64.not_lt.mpr q.2))] | rw [if_pos ⟨Int64.not_lt.mp (fun q => c3 ((lg_cmp_lt a b).mpr q)), Int64.not_lt.mp (fun q => c10 ((lg_cmp_gt a k).mpr q))⟩]
set_option maxHeartbeats 4000000 in
theorem ct_X5_may {l : Launch} (hl : l.stackTraces = false) {g : gg_G}  {h : Nat} {ad : Nat → Nat} {x : Nat → Int32} {a b k : Int32}  : gg_C l g yX5_may (ws_ yX5_may cX5_may 4 (some .boolean)) { frames := 0, cells := 0, slots := 0, locals := 0 } [.ref h, .int a, .int b, .int k] [] [[(h, .inl (4, mo_f ad x))]] (fun vv CC => vv = some (.int (if th a b k = 0 then 1 else 0)) ∧ CC = [[(h, .inl (4, mo_f ad (upd x 6 (th a b k))))]]) gg_no := by
  refine gg_of (lv := [_, _, _, _]) (by decide) hl (Nat.le_of_ble_eq_true rfl) rfl ?_
  intro p e R s m args below meth c A Q hRf hRl hRc hRs E Fn hnm hex
  refine gg_aload_n (pc := 0) E dX5_may_0 rfl rfl ?_
  refine gg_iload_n (pc := 1) E dX5_may_1 rfl rfl ?_
  refine gg_if_ne (tgt := 9) (pc := 2) E dX5_may_2 (by decide) (fun c2 => ?_) (fun c2 => ?_)
  · refine gg_iload_n (pc := 9) E dX5_may_9 rfl rfl ?_
    refine gg_if_ne (tgt := 17) (pc := 10) E dX5_may_10 (by decide) (fun c10 => ?_) (fun c10 => ?_)
    · refine gg_iload_n (pc := 17) E dX5_may_17 rfl rfl ?_
      refine gg_if_ne (tgt := 25) (pc := 18) E dX5_may_18 (by decide) (fun c18 => ?_) (fun c18 => ?_)
      · refine gg_iconst (v := 0) (pc := 25) E dX5_may_25 (by decide) ?_
        refine gg_topI (y := th a b k) (by unfold th; first | rw [if_pos c2] | rw [if_neg c2, if_pos c10] | rw [if_neg c2, if_neg c10, if_pos c18] | rw [if_neg c2, if_neg c10, if_neg c18]) ?_
        refine gg_putM (M' := [_]) (pc := 26) E ck_X5 6 q2865 rfl (by decide) dX5_may_26 0 rfl rfl (rfl) rfl (Nat.le_of_ble_eq_true rfl) rfl rfl ?_
        refine gg_aload_n (pc := 29) E dX5_may_29 rfl rfl ?_
        refine gg_get (pc := 30) E ck_X5 6 q2865 rfl (by decide) dX5_may_30 (gg_i 0 rfl) rfl ?_
        refine gg_ifB_ne (pc := 33) E dX5_may_33 dX5_may_36 dX5_may_37 dX5_may_40 ?_
        refine gg_iret (pc := 41) E Fn rfl (gg_nz (by first | decide | assumption | exact gg_b01 | (split <;> decide))) dX5_may_41 (by first | exact Nat.le_of_ble_eq_true rfl | (dsimp only; omega)) (by first | exact Nat.le_of_ble_eq_true rfl | (dsimp only; omega)) ?_
        exact ⟨rfl, rfl⟩
      · refine gg_iconst (v := 3) (pc := 21) E dX5_may_21 (by decide) ?_
        refine gg_goto (tgt := 26) (pc := 22) E dX5_may_22 (by decide) ?_
        refine gg_topI (y := th a b k) (by unfold th; first | rw [if_pos c2] | rw [if_neg c2, if_pos c10] | rw [if_neg c2, if_neg c10, if_pos c18] | rw [if_neg c2, if_neg c10, if_neg c18]) ?_
        refine gg_putM (M' := [_]) (pc := 26) E ck_X5 6 q2865 rfl (by decide) dX5_may_26 0 rfl rfl (rfl) rfl (Nat.le_of_ble_eq_true rfl) rfl rfl ?_
        refine gg_aload_n (pc := 29) E dX5_may_29 rfl rfl ?_
        refine gg_get (pc := 30) E ck_X5 6 q2865 rfl (by decide) dX5_may_30 (gg_i 0 rfl) rfl ?_
        refine gg_ifB_ne (pc := 33) E dX5_may_33 dX5_may_36 dX5_may_37 dX5_may_40 ?_
        refine gg_iret (pc := 41) E Fn rfl (gg_nz (by first | decide | assumption | exact gg_b01 | (split <;> decide))) dX5_may_41 (by first | exact Nat.le_of_ble_eq_true rfl | (dsimp only; omega)) (by first | exact Nat.le_of_ble_eq_true rfl | (dsimp only; omega)) ?_
        exact ⟨rfl, rfl⟩
    · refine gg_iconst (v := 2) (pc := 13) E dX5_may_13 (by decide) ?_
      refine gg_goto (tgt := 26) (pc := 14) E dX5_may_14 (by decide) ?_
      refine gg_topI (y := th a b k) (by unfold th; first | rw [if_pos c2] | rw [if_neg c2, if_pos c10] | rw [if_neg c2, if_neg c10, if_pos c18] | rw [if_neg c2, if_neg c10, if_neg c18]) ?_
      refine gg_putM (M' := [_]) (pc := 26) E ck_X5 6 q2865 rfl (by decide) dX5_may_26 0 rfl rfl (rfl) rfl (Nat.le_of_ble_eq_true rfl) rfl rfl ?_
      refine gg_aload_n (pc := 29) E dX5_may_29 rfl rfl ?_
      refine gg_get (pc := 30) E ck_X5 6 q2865 rfl (by decide) dX5_may_30 (gg_i 0 rfl) rfl ?_
      refine gg_ifB_ne (pc := 33) E dX5_may_33 dX5_may_36 dX5_may_37 dX5_may_40 ?_
      refine gg_iret (pc := 41) E Fn rfl (gg_nz (by first | decide | assumption | exact gg_b01 | (split <;> decide))) dX5_may_41 (by first | exact Nat.le_of_ble_eq_true rfl | (dsimp only; omega)) (by first | exact Nat.le_of_ble_eq_true rfl | (dsimp only; omega)) ?_
      exact ⟨rfl, rfl⟩
  · refine gg_iconst (v := 1) (pc := 5) E dX5_may_5 (by decide) ?_
    refine gg_goto (tgt := 26) (pc := 6) E dX5_may_6 (by decide) ?_
    refine gg_topI (y := th a b k) (by unfold th; first | rw [if_pos c2] | rw [if_neg c2, if_pos c10] | rw [if_neg c2, if_neg c10, if_pos c18] | rw [if_neg c2, if_neg c10, if_neg c18]) ?_
    refine gg_putM (M' := [_]) (pc := 26) E ck_X5 6 q2865 rfl (by decide) dX5_may_26 0 rfl rfl (rfl) rfl (Nat.le_of_ble_eq_true rfl) rfl rfl ?_
    refine gg_aload_n (pc := 29) E dX5_may_29 rfl rfl ?_
    refine gg_get (pc := 30) E ck_X5 6 q2865 rfl (by decide) dX5_may_30 (gg_i 0 rfl) rfl ?_
    refine gg_ifB_ne (pc := 33) E dX5_may_33 dX5_may_36 dX5_may_37 dX5_may_40 ?_
    refine gg_iret (pc := 41) E Fn rfl (gg_nz (by first | decide | assumption | exact gg_b01 | (split <;> decide))) dX5_may_41 (by first | exact Nat.le_of_ble_eq_true rfl | (dsimp only; omega)) (by first | exact Nat.le_of_ble_eq_true rfl | (dsimp only; omega)) ?_
    exact ⟨rfl, rfl⟩
set_option maxHeartbeats 4000000 in
theorem ct_X5_isRoof {l : Launch} (hl : l.stackTraces = false) {g : gg_G}  {h : Nat} {ad : Nat → Nat} {x : Nat → Int32} {row : Nat → Int32} {k : Int32} {nr : Nat} (hnr : row 0 = nI nr) (hr10 : nr ≤ 10) : gg_C l g yX5_isRoof (ws_ yX5_isRoof cX5_isRoof 2 (some .boolean)) { frames := 1, cells := 0, slots := 0, locals := 25 } [.ref h, .int k] [(h, .inl (4, mo_f ad x)), ((ad 0), gg_ai g 1030 row)] [] (fun vv CC => vv = some (.int (if 0 ≤ k.toInt ∧ k.toInt < nr then 1 else 0)) ∧ CC = []) gg_no := by
  refine gg_of (lv := [_, _]) (by decide) hl (Nat.le_of_ble_eq_true rfl) rfl ?_
  intro p e R s m args below meth c A Q hRf hRl hRc hRs E Fn hnm hex
  refine gg_iload_n (pc := 0) E dX5_isRoof_0 rfl rfl ?_
  refine gg_i2l (pc := 1) E dX5_isRoof_1 rfl ?_
  refine gg_lconst (v := 0) (pc := 2) E dX5_isRoof_2 (by decide) ?_
  refine gg_aload_n (pc := 3) E dX5_isRoof_3 rfl rfl ?_
  refine gg_get (pc := 4) E ck_X5 0 q2859 rfl (by decide) dX5_isRoof_4 (gg_r 0 rfl) rfl ?_
  refine gg_iconst (v := 0) (pc := 7) E dX5_isRoof_7 (by decide) ?_
  refine gg_ialdN (pc := 8) E 0 rfl (by omega) (by omega) dX5_isRoof_8 (gg_r 1 rfl) ?_
  rw [hnr]
  refine gg_iconst (v := 1) (pc := 9) E dX5_isRoof_9 (by decide) ?_
  refine gg_isub (pc := 10) E dX5_isRoof_10 ?_
  refine gg_i2l (pc := 11) E dX5_isRoof_11 rfl ?_
  refine gg_callS (F := []) (As := [_, _, _]) (rest := []) (pc := 12) E (ct_X5_in hl ) (va_cwS 3 E.2.2.2.2.1 (lw_S q2961 q2962 q179 q2963) rfl rfl rfl (by decide +kernel) ⟨by rw [hRf]; exact Nat.le_of_ble_eq_true rfl, by rw [hRl]; exact Nat.le_of_ble_eq_true rfl⟩) dX5_isRoof_12 [] (by decide) rfl rfl (fun _ h => by cases h) rfl rfl (Nat.le_of_ble_eq_true rfl) (by first | (rw [hRc]; exact Nat.le_of_ble_eq_true rfl) | (rw [hRc]; dsimp only; omega)) (by first | (rw [hRs]; exact Nat.le_of_ble_eq_true rfl) | (rw [hRs]; dsimp only; omega)) ?_ (fun X q C1 h => h.elim)
  rintro _ _ ⟨rfl, rfl⟩
  dsimp only [List.cons_append, List.nil_append, Option.toList]
  refine gg_iret (pc := 15) E Fn rfl (gg_nz (by first | decide | assumption | exact gg_b01 | (split <;> decide))) dX5_isRoof_15 (by first | exact Nat.le_of_ble_eq_true rfl | (dsimp only; omega)) (by first | exact Nat.le_of_ble_eq_true rfl | (dsimp only; omega)) ?_
  exact ⟨by simp only [in_rng0 (show nr < 2 ^ 31 by omega)], rfl⟩
set_option maxHeartbeats 4000000 in
theorem ct_X5_isTune {l : Launch} (hl : l.stackTraces = false) {g : gg_G}  {h : Nat} {ad : Nat → Nat} {x : Nat → Int32} {row : Nat → Int32} {k : Int32} {nt : Nat} (hnt : row 2 = nI nt) (ht30 : nt ≤ 30) : gg_C l g yX5_isTune (ws_ yX5_isTune cX5_isTune 2 (some .boolean)) { frames := 1, cells := 0, slots := 0, locals := 25 } [.ref h, .int k] [(h, .inl (4, mo_f ad x)), ((ad 0), gg_ai g 1030 row)] [] (fun vv CC => vv = some (.int (if 0 ≤ k.toInt ∧ k.toInt < nt then 1 else 0)) ∧ CC = []) gg_no := by
  refine gg_of (lv := [_, _]) (by decide) hl (Nat.le_of_ble_eq_true rfl) rfl ?_
  intro p e R s m args below meth c A Q hRf hRl hRc hRs E Fn hnm hex
  refine gg_iload_n (pc := 0) E dX5_isTune_0 rfl rfl ?_
  refine gg_i2l (pc := 1) E dX5_isTune_1 rfl ?_
  refine gg_lconst (v := 0) (pc := 2) E dX5_isTune_2 (by decide) ?_
  refine gg_aload_n (pc := 3) E dX5_isTune_3 rfl rfl ?_
  refine gg_get (pc := 4) E ck_X5 0 q2859 rfl (by decide) dX5_isTune_4 (gg_r 0 rfl) rfl ?_
  refine gg_iconst (v := 2) (pc := 7) E dX5_isTune_7 (by decide) ?_
  refine gg_ialdN (pc := 8) E 2 rfl (by omega) (by omega) dX5_isTune_8 (gg_r 1 rfl) ?_
  rw [hnt]
  refine gg_iconst (v := 1) (pc := 9) E dX5_isTune_9 (by decide) ?_
  refine gg_isub (pc := 10) E dX5_isTune_10 ?_
  refine gg_i2l (pc := 11) E dX5_isTune_11 rfl ?_
  refine gg_callS (F := []) (As := [_, _, _]) (rest := []) (pc := 12) E (ct_X5_in hl ) (va_cwS 3 E.2.2.2.2.1 (lw_S q2961 q2962 q179 q2963) rfl rfl rfl (by decide +kernel) ⟨by rw [hRf]; exact Nat.le_of_ble_eq_true rfl, by rw [hRl]; exact Nat.le_of_ble_eq_true rfl⟩) dX5_isTune_12 [] (by decide) rfl rfl (fun _ h => by cases h) rfl rfl (Nat.le_of_ble_eq_true rfl) (by first | (rw [hRc]; exact Nat.le_of_ble_eq_true rfl) | (rw [hRc]; dsimp only; omega)) (by first | (rw [hRs]; exact Nat.le_of_ble_eq_true rfl) | (rw [hRs]; dsimp only; omega)) ?_ (fun X q C1 h => h.elim)
  rintro _ _ ⟨rfl, rfl⟩
  dsimp only [List.cons_append, List.nil_append, Option.toList]
  refine gg_iret (pc := 15) E Fn rfl (gg_nz (by first | decide | assumption | exact gg_b01 | (split <;> decide))) dX5_isTune_15 (by first | exact Nat.le_of_ble_eq_true rfl | (dsimp only; omega)) (by first | exact Nat.le_of_ble_eq_true rfl | (dsimp only; omega)) ?_
  exact ⟨by simp only [in_rng0 (show nt < 2 ^ 31 by omega)], rfl⟩
set_option maxHeartbeats 4000000 in
theorem ct_X5_areRoofs {l : Launch} (hl : l.stackTraces = false) {g : gg_G}  {h : Nat} {ad : Nat → Nat} {x : Nat → Int32} {row : Nat → Int32} {k o : Int32} {nr : Nat} (hnr : row 0 = nI nr) (hr10 : nr ≤ 10) : gg_C l g yX5_areRoofs (ws_ yX5_areRoofs cX5_areRoofs 3 (some .boolean)) { frames := 2, cells := 0, slots := 0, locals := 46 } [.ref h, .int k, .int o] [(h, .inl (4, mo_f ad x)), ((ad 0), gg_ai g 1030 row)] [] (fun vv CC => vv = some (.int (if (0 ≤ k.toInt ∧ k.toInt < nr) ∧ 0 ≤ o.toInt ∧ o.toInt < nr then 1 else 0)) ∧ CC = []) gg_no := by
  refine gg_of (lv := [_, _, _]) (by decide) hl (Nat.le_of_ble_eq_true rfl) rfl ?_
  intro p e R s m args below meth c A Q hRf hRl hRc hRs E Fn hnm hex
  refine gg_aload_n (pc := 0) E dX5_areRoofs_0 rfl rfl ?_
  refine gg_iload_n (pc := 1) E dX5_areRoofs_1 rfl rfl ?_
  refine gg_callV (F := []) (As := [_]) (rest := []) (pc := 2) E ck_X5 (ct_X5_isRoof hl (by first | assumption | omega) (by first | assumption | omega)) (cwV 1 E.2.2.2.2.1 (lw_V q3266 q3268 qs131 q179 q3269) rfl rfl rfl (by decide +kernel) ⟨by rw [hRf]; exact Nat.le_of_ble_eq_true rfl, by rw [hRl]; exact Nat.le_of_ble_eq_true rfl⟩) dX5_areRoofs_2 [] (by decide) rfl rfl (List.forall_mem_cons.mpr ⟨(gg_r 0 rfl), (List.forall_mem_cons.mpr ⟨(gg_r 1 rfl), (fun _ h => by cases h)⟩)⟩) (gg_r 0 rfl) rfl rfl (Nat.le_of_ble_eq_true rfl) (by first | (rw [hRc]; exact Nat.le_of_ble_eq_true rfl) | (rw [hRc]; dsimp only; omega)) (by first | (rw [hRs]; exact Nat.le_of_ble_eq_true rfl) | (rw [hRs]; dsimp only; omega)) ?_ (fun X q C1 h => h.elim)
  rintro _ _ ⟨rfl, rfl⟩
  dsimp only [List.cons_append, List.nil_append, Option.toList]
  refine gg_ifP_eq (tgt := 20) (pc := 5) E dX5_areRoofs_5 (by decide) (fun c5 => ?_) (fun c5 => ?_)
  · refine gg_iconst (v := 0) (pc := 20) E dX5_areRoofs_20 (by decide) ?_
    refine gg_iret (pc := 21) E Fn rfl (gg_nz (by first | decide | assumption | exact gg_b01 | (split <;> decide))) dX5_areRoofs_21 (by first | exact Nat.le_of_ble_eq_true rfl | (dsimp only; omega)) (by first | exact Nat.le_of_ble_eq_true rfl | (dsimp only; omega)) ?_
    refine ⟨?_, rfl⟩
    first | rw [if_neg (fun q => c5 q.1)] | rw [if_neg (fun q => c13 q.2)] | rw [if_pos ⟨c5, c13⟩]
  · refine gg_aload_n (pc := 8) E dX5_areRoofs_8 rfl rfl ?_
    refine gg_iload_n (pc := 9) E dX5_areRoofs_9 rfl rfl ?_
    refine gg_callV (F := []) (As := [_]) (rest := []) (pc := 10) E ck_X5 (ct_X5_isRoof hl (by first | assumption | omega) (by first | assumption | omega)) (cwV 1 E.2.2.2.2.1 (lw_V q3266 q3268 qs131 q179 q3269) rfl rfl rfl (by decide +kernel) ⟨by rw [hRf]; exact Nat.le_of_ble_eq_true rfl, by rw [hRl]; exact Nat.le_of_ble_eq_true rfl⟩) dX5_areRoofs_10 [] (by decide) rfl rfl (List.forall_mem_cons.mpr ⟨(gg_r 0 rfl), (List.forall_mem_cons.mpr ⟨(gg_r 1 rfl), (fun _ h => by cases h)⟩)⟩) (gg_r 0 rfl) rfl rfl (Nat.le_of_ble_eq_true rfl) (by first | (rw [hRc]; exact Nat.le_of_ble_eq_true rfl) | (rw [hRc]; dsimp only; omega)) (by first | (rw [hRs]; exact Nat.le_of_ble_eq_true rfl) | (rw [hRs]; dsimp only; omega)) ?_ (fun X q C1 h => h.elim)
    rintro _ _ ⟨rfl, rfl⟩
    dsimp only [List.cons_append, List.nil_append, Option.toList]
    refine gg_ifP_eq (tgt := 20) (pc := 13) E dX5_areRoofs_13 (by decide) (fun c13 => ?_) (fun c13 => ?_)
    · refine gg_iconst (v := 0) (pc := 20) E dX5_areRoofs_20 (by decide) ?_
      refine gg_iret (pc := 21) E Fn rfl (gg_nz (by first | decide | assumption | exact gg_b01 | (split <;> decide))) dX5_areRoofs_21 (by first | exact Nat.le_of_ble_eq_true rfl | (dsimp only; omega)) (by first | exact Nat.le_of_ble_eq_true rfl | (dsimp only; omega)) ?_
      refine ⟨?_, rfl⟩
      first | rw [if_neg (fun q => c5 q.1)] | rw [if_neg (fun q => c13 q.2)] | rw [if_pos ⟨c5, c13⟩]
    · refine gg_iconst (v := 1) (pc := 16) E dX5_areRoofs_16 (by decide) ?_
      refine gg_goto (tgt := 21) (pc := 17) E dX5_areRoofs_17 (by decide) ?_
      refine gg_iret (pc := 21) E Fn rfl (gg_nz (by first | decide | assumption | exact gg_b01 | (split <;> decide))) dX5_areRoofs_21 (by first | exact Nat.le_of_ble_eq_true rfl | (dsimp only; omega)) (by first | exact Nat.le_of_ble_eq_true rfl | (dsimp only; omega)) ?_
      refine ⟨?_, rfl⟩
      first | rw [if_neg (fun q => c5 q.1)] | rw [if_neg (fun q => c13 q.2)] | rw [if_pos ⟨c5, c13⟩]
set_option maxHeartbeats 4000000 in
theorem ct_X5_firstAt {l : Launch} (hl : l.stackTraces = false) {g : gg_G}  {h : Nat} {ad : Nat → Nat} {x : Nat → Int32} {row : Nat → Int32} {sums : Nat → Int32} {nr nw nt k : Nat} (hw : Ww row nr nw) (ht : Tw row nr nt) (hk : k < 10) : gg_C l g yX5_firstAt (ws_ yX5_firstAt cX5_firstAt 5 (some .int)) { frames := 6, cells := 0, slots := 0, locals := 138 } [.ref h, .int (nI k)] [(h, .inl (4, mo_f ad x)), ((ad 0), gg_ai g 1030 row)] [[((ad 9), gg_ai g 10 sums)]] (fun vv CC => ∃ (sums1 : Nat → Int32), vv = some (.int (dI (fas row nw k nt))) ∧ CC = [[((ad 9), gg_ai g 10 sums1)]]) gg_no := by
  refine gg_of (lv := [_, _, _, _, _]) (by decide) hl (Nat.le_of_ble_eq_true rfl) rfl ?_
  intro p e R s m args below meth c A Q hRf hRl hRc hRs E Fn hnm hex
  have hnt := ht.1
  have ht30 := ht.2.1
  have hr10 := hw.2.2.1
  refine gg_iconst (v := (-1)) (pc := 0) E dX5_firstAt_0 (by decide) ?_
  refine gg_istore_n (lv' := [_, _, _, _, _]) (pc := 1) E dX5_firstAt_1 rfl (Nat.le_of_ble_eq_true rfl) rfl rfl ?_
  refine gg_iconst (v := 0) (pc := 2) E dX5_firstAt_2 (by decide) ?_
  refine gg_istore_n (lv' := [_, _, _, _, _]) (pc := 3) E dX5_firstAt_3 rfl (Nat.le_of_ble_eq_true rfl) rfl rfl ?_
  have L4 : ∀ (n : Nat) (i : Nat) (S : Nat → Int32), nt - i < n → (i ≤ nt) → gg_W p l e R s m args below meth c g A 5 Q 0 0 [[((ad 9), gg_ai g 10 S)]] [some (.ref h), some (.int (nI k)), some (.int (dI (fas row nw k i))), some (.int (nI i)), none] [] 4 := by
    intro n4
    induction n4 with
    | zero => intro i S hmz; exact absurd hmz (Nat.not_lt_zero _)
    | succ n4 ih4 =>
      intro i S hm4 hi
      refine gg_iload_n (pc := 4) E dX5_firstAt_4 rfl rfl ?_
      refine gg_aload_n (pc := 5) E dX5_firstAt_5 rfl rfl ?_
      refine gg_get (pc := 6) E ck_X5 0 q2859 rfl (by decide) dX5_firstAt_6 (gg_r 0 rfl) rfl ?_
      refine gg_iconst (v := 2) (pc := 9) E dX5_firstAt_9 (by decide) ?_
      refine gg_ialdN (pc := 10) E 2 rfl (by omega) (by omega) dX5_firstAt_10 (gg_r 1 rfl) ?_
      rw [hnt]
      refine gg_icmpN_ge (tgt := 102) (pc := 11) E i nt rfl rfl (by omega) (by omega) dX5_firstAt_11 (by decide) (fun c11 => ?_) (fun c11 => ?_)
      · refine gg_iload_n (pc := 102) E dX5_firstAt_102 rfl rfl ?_
        refine gg_iret (pc := 103) E Fn rfl (rfl) dX5_firstAt_103 (by first | exact Nat.le_of_ble_eq_true rfl | (dsimp only; omega)) (by first | exact Nat.le_of_ble_eq_true rfl | (dsimp only; omega)) ?_
        have e : i = nt := by omega
        subst e
        exact ⟨_, rfl, rfl⟩
      · obtain ⟨g1, g2, g3, g4, g5, g6, g7, g8, g9, g10⟩ := ht.2.2.2 i (by omega)
        refine gg_aload_n (pc := 14) E dX5_firstAt_14 rfl rfl ?_
        refine gg_iload_n (pc := 15) E dX5_firstAt_15 rfl rfl ?_
        refine gg_iload_n (pc := 16) E dX5_firstAt_16 rfl rfl ?_
        refine gg_callV (F := [_]) (As := [.int (nI i), _]) (rest := []) (pc := 17) E ck_X5 (ct_X5_waitsAt hl (by first | assumption | omega)) (cwV 2 E.2.2.2.2.1 (lw_V q3176 q3178 qs112 q179 q3179) rfl rfl rfl (by decide +kernel) ⟨by rw [hRf]; exact Nat.le_of_ble_eq_true rfl, by rw [hRl]; exact Nat.le_of_ble_eq_true rfl⟩) dX5_firstAt_17 [] (by decide) rfl rfl (List.forall_mem_cons.mpr ⟨(gg_r 0 rfl), (List.forall_mem_cons.mpr ⟨(gg_r 1 rfl), (fun _ h => by cases h)⟩)⟩) (gg_r 0 rfl) rfl rfl (Nat.le_of_ble_eq_true rfl) (by first | (rw [hRc]; exact Nat.le_of_ble_eq_true rfl) | (rw [hRc]; dsimp only; omega)) (by first | (rw [hRs]; exact Nat.le_of_ble_eq_true rfl) | (rw [hRs]; dsimp only; omega)) ?_ (fun X q C1 h => h.elim)
        rintro _ _ ⟨rfl, rfl⟩
        dsimp only [List.cons_append, List.nil_append, Option.toList]
        refine gg_ifP_eq (tgt := 96) (pc := 20) E dX5_firstAt_20 (by decide) (fun c20 => ?_) (fun c20 => ?_)
        · rw [fa_f (fun q => c20 q.1)]
          refine gg_iincN (k := 1) (lv' := [_, _, _, _, _]) (pc := 96) E i dX5_firstAt_96 rfl rfl rfl (Nat.le_of_ble_eq_true rfl) rfl rfl ?_
          refine gg_goto (tgt := 4) (pc := 99) E dX5_firstAt_99 (by decide) ?_
          refine gg_cv rfl (gg_leS (gg_leS (gg_leS (gg_leS (gg_leN gg_le0))))) rfl (by first | exact Nat.le_refl _ | (dsimp only; omega)) (by first | exact Nat.le_refl _ | (dsimp only; omega)) (ih4 (i + 1) _ (by omega) (by omega))
        · refine gg_iload_n (pc := 23) E dX5_firstAt_23 rfl rfl ?_
          refine gg_iconst (v := (-1)) (pc := 24) E dX5_firstAt_24 (by decide) ?_
          refine gg_icmp_eq (tgt := 44) (pc := 25) E dX5_firstAt_25 (by decide) (fun c25 => ?_) (fun c25 => ?_)
          · refine gg_aload_n (pc := 44) E dX5_firstAt_44 rfl rfl ?_
            refine gg_iload_n (pc := 45) E dX5_firstAt_45 rfl rfl ?_
            refine gg_callV (F := [_]) (As := [.int (nI i)]) (rest := []) (pc := 46) E ck_X5 (ct_X5_purseFor hl (by first | assumption | omega) (by first | assumption | omega) (by first | assumption | omega)) (cwV 1 E.2.2.2.2.1 (lw_V q3188 q3190 qs115 q179 q3191) rfl rfl rfl (by decide +kernel) ⟨by rw [hRf]; exact Nat.le_of_ble_eq_true rfl, by rw [hRl]; exact Nat.le_of_ble_eq_true rfl⟩) dX5_firstAt_46 [] (by decide) rfl rfl (List.forall_mem_cons.mpr ⟨(gg_r 0 rfl), (List.forall_mem_cons.mpr ⟨(gg_r 1 rfl), (fun _ h => by cases h)⟩)⟩) (gg_r 0 rfl) rfl rfl (Nat.le_of_ble_eq_true rfl) (by first | (rw [hRc]; exact Nat.le_of_ble_eq_true rfl) | (rw [hRc]; dsimp only; omega)) (by first | (rw [hRs]; exact Nat.le_of_ble_eq_true rfl) | (rw [hRs]; dsimp only; omega)) ?_ (fun X q C1 h => h.elim)
            rintro _ _ ⟨rfl, rfl⟩
            dsimp only [List.cons_append, List.nil_append, Option.toList]
            refine gg_aload_n (pc := 49) E dX5_firstAt_49 rfl rfl ?_
            refine gg_iload_n (pc := 50) E dX5_firstAt_50 rfl rfl ?_
            refine gg_iload_n (pc := 51) E dX5_firstAt_51 rfl rfl ?_
            refine gg_callV (F := [_]) (As := [.int (nI i), .int (nI k)]) (rest := [_]) (pc := 52) E ck_X5 (ct_X5_feeAt hl (by first | assumption | omega) (by first | assumption | omega)) (cwV 2 E.2.2.2.2.1 (lw_V q3192 q3194 qs116 q179 q3195) rfl rfl rfl (by decide +kernel) ⟨by rw [hRf]; exact Nat.le_of_ble_eq_true rfl, by rw [hRl]; exact Nat.le_of_ble_eq_true rfl⟩) dX5_firstAt_52 [] (by decide) rfl rfl (List.forall_mem_cons.mpr ⟨(gg_r 0 rfl), (List.forall_mem_cons.mpr ⟨(gg_r 1 rfl), (fun _ h => by cases h)⟩)⟩) (gg_r 0 rfl) rfl rfl (Nat.le_of_ble_eq_true rfl) (by first | (rw [hRc]; exact Nat.le_of_ble_eq_true rfl) | (rw [hRc]; dsimp only; omega)) (by first | (rw [hRs]; exact Nat.le_of_ble_eq_true rfl) | (rw [hRs]; dsimp only; omega)) ?_ (fun X q C1 h => h.elim)
            rintro _ _ ⟨rfl, rfl⟩
            dsimp only [List.cons_append, List.nil_append, Option.toList]
            refine gg_icmp_lt (tgt := 82) (pc := 55) E dX5_firstAt_55 (by decide) (fun c55 => ?_) (fun c55 => ?_)
            · refine gg_iconst (v := 0) (pc := 82) E dX5_firstAt_82 (by decide) ?_
              refine gg_istore (lv' := [_, _, _, _, _]) (pc := 83) E dX5_firstAt_83 (Nat.le_of_ble_eq_true rfl) rfl rfl ?_
              refine gg_iload (pc := 85) E dX5_firstAt_85 rfl ?_
              refine gg_ifN_eq (tgt := 94) (pc := 87) E 0 rfl (by decide) dX5_firstAt_87 (by decide) (fun _ => ?_) (fun q => absurd q (by decide))
              refine gg_iload_n (pc := 94) E dX5_firstAt_94 rfl rfl ?_
              refine gg_topI (y := dI (fas row nw k (i + 1))) (by first | exact congrArg dI (fa_t ⟨c20, (by first | (intro z hz; rw [hb] at hz; cases hz; exact c38) | (intro z hz; rw [hz] at c25; exact absurd c25 (nI_nm1 (by have := fas_lt i z hz; omega)))), c55, fun q => c87 ((nxt_m1 hw).mpr q)⟩).symm | exact congrArg dI (fa_f (fun q => q.2.2.1 c55)) | exact (congrArg dI hb.symm).trans (congrArg dI (fa_f (fun q => q.2.2.1 c55))) | exact congrArg dI (fa_f (fun q => c87 (fun z => q.2.2.2 ((nxt_m1 hw).mp z)))) | exact (congrArg dI hb.symm).trans (congrArg dI (fa_f (fun q => c87 (fun z => q.2.2.2 ((nxt_m1 hw).mp z))))) | exact congrArg dI (fa_f (fun q => q.2.2.2 ((nxt_m1 hw).mp c87))) | exact (congrArg dI hb.symm).trans (congrArg dI (fa_f (fun q => q.2.2.2 ((nxt_m1 hw).mp c87))))) ?_
              refine gg_istore_n (lv' := [_, _, _, _, _]) (pc := 95) E dX5_firstAt_95 rfl (Nat.le_of_ble_eq_true rfl) rfl rfl ?_
              
              refine gg_iincN (k := 1) (lv' := [_, _, _, _, _]) (pc := 96) E i dX5_firstAt_96 rfl rfl rfl (Nat.le_of_ble_eq_true rfl) rfl rfl ?_
              refine gg_goto (tgt := 4) (pc := 99) E dX5_firstAt_99 (by decide) ?_
              refine gg_cv rfl (gg_leS (gg_leS (gg_leS (gg_leS (gg_leN gg_le0))))) rfl (by first | exact Nat.le_refl _ | (dsimp only; omega)) (by first | exact Nat.le_refl _ | (dsimp only; omega)) (ih4 (i + 1) _ (by omega) (by omega))
            · refine gg_aload_n (pc := 58) E dX5_firstAt_58 rfl rfl ?_
              refine gg_iload_n (pc := 59) E dX5_firstAt_59 rfl rfl ?_
              refine gg_aload_n (pc := 60) E dX5_firstAt_60 rfl rfl ?_
              refine gg_get (pc := 61) E ck_X5 0 q2859 rfl (by decide) dX5_firstAt_61 (gg_r 0 rfl) rfl ?_
              refine gg_iload_n (pc := 64) E dX5_firstAt_64 rfl rfl ?_
              refine gg_callS (F := [_]) (As := [.int (nI i)]) (rest := [_, _, _]) (pc := 65) E (ct_X5_t hl ) (va_cwS 1 E.2.2.2.2.1 (lw_S q3121 q3122 q179 q3123) rfl rfl rfl (by decide +kernel) ⟨by rw [hRf]; exact Nat.le_of_ble_eq_true rfl, by rw [hRl]; exact Nat.le_of_ble_eq_true rfl⟩) dX5_firstAt_65 [] (by decide) rfl rfl (fun _ h => by cases h) rfl rfl (Nat.le_of_ble_eq_true rfl) (by first | (rw [hRc]; exact Nat.le_of_ble_eq_true rfl) | (rw [hRc]; dsimp only; omega)) (by first | (rw [hRs]; exact Nat.le_of_ble_eq_true rfl) | (rw [hRs]; dsimp only; omega)) ?_ (fun X q C1 h => h.elim)
              rintro _ _ ⟨rfl, rfl⟩
              dsimp only [List.cons_append, List.nil_append, Option.toList]
              refine gg_iconst (v := 1) (pc := 68) E dX5_firstAt_68 (by decide) ?_
              refine gg_iaddN (pc := 69) E (220 + 27 * i) 1 rfl rfl dX5_firstAt_69 ?_
              refine gg_ialdN (pc := 70) E ((220 + 27 * i) + 1) rfl (by omega) (by omega) dX5_firstAt_70 (gg_r 1 rfl) ?_
              rw [g2]
              refine gg_callV (F := []) (As := [.int (nI k), .int (nI (tg row i))]) (rest := []) (pc := 71) E ck_X5 (ct_X5_nextTo hl (hw) (by omega) (by omega)) (cwV 2 E.2.2.2.2.1 (lw_V q3196 q3198 qs117 q179 q3199) rfl rfl rfl (by decide +kernel) ⟨by rw [hRf]; exact Nat.le_of_ble_eq_true rfl, by rw [hRl]; exact Nat.le_of_ble_eq_true rfl⟩) dX5_firstAt_71 [0] (by decide) rfl rfl (List.forall_mem_cons.mpr ⟨(gg_r 0 rfl), (List.forall_mem_cons.mpr ⟨(gg_r 1 rfl), (fun _ h => by cases h)⟩)⟩) (gg_r 0 rfl) rfl rfl (Nat.le_of_ble_eq_true rfl) (by first | (rw [hRc]; exact Nat.le_of_ble_eq_true rfl) | (rw [hRc]; dsimp only; omega)) (by first | (rw [hRs]; exact Nat.le_of_ble_eq_true rfl) | (rw [hRs]; dsimp only; omega)) ?_ (fun X q C1 h => h.elim)
              rintro _ _ ⟨sums1_1, rfl, rfl⟩
              dsimp only [List.cons_append, List.nil_append, Option.toList]
              refine gg_iconst (v := (-1)) (pc := 74) E dX5_firstAt_74 (by decide) ?_
              refine gg_icmpB_eq (pc := 75) E dX5_firstAt_75 dX5_firstAt_78 dX5_firstAt_79 dX5_firstAt_82 ?_
              refine gg_istore (lv' := [_, _, _, _, _]) (pc := 83) E dX5_firstAt_83 (Nat.le_of_ble_eq_true rfl) rfl rfl ?_
              refine gg_iload (pc := 85) E dX5_firstAt_85 rfl ?_
              refine gg_ifP_eq (tgt := 94) (pc := 87) E dX5_firstAt_87 (by decide) (fun c87 => ?_) (fun c87 => ?_)
              · refine gg_iload_n (pc := 94) E dX5_firstAt_94 rfl rfl ?_
                refine gg_topI (y := dI (fas row nw k (i + 1))) (by first | exact congrArg dI (fa_t ⟨c20, (by first | (intro z hz; rw [hb] at hz; cases hz; exact c38) | (intro z hz; rw [hz] at c25; exact absurd c25 (nI_nm1 (by have := fas_lt i z hz; omega)))), c55, fun q => c87 ((nxt_m1 hw).mpr q)⟩).symm | exact congrArg dI (fa_f (fun q => q.2.2.1 c55)) | exact (congrArg dI hb.symm).trans (congrArg dI (fa_f (fun q => q.2.2.1 c55))) | exact congrArg dI (fa_f (fun q => c87 (fun z => q.2.2.2 ((nxt_m1 hw).mp z)))) | exact (congrArg dI hb.symm).trans (congrArg dI (fa_f (fun q => c87 (fun z => q.2.2.2 ((nxt_m1 hw).mp z))))) | exact congrArg dI (fa_f (fun q => q.2.2.2 ((nxt_m1 hw).mp c87))) | exact (congrArg dI hb.symm).trans (congrArg dI (fa_f (fun q => q.2.2.2 ((nxt_m1 hw).mp c87))))) ?_
                refine gg_istore_n (lv' := [_, _, _, _, _]) (pc := 95) E dX5_firstAt_95 rfl (Nat.le_of_ble_eq_true rfl) rfl rfl ?_
                
                refine gg_iincN (k := 1) (lv' := [_, _, _, _, _]) (pc := 96) E i dX5_firstAt_96 rfl rfl rfl (Nat.le_of_ble_eq_true rfl) rfl rfl ?_
                refine gg_goto (tgt := 4) (pc := 99) E dX5_firstAt_99 (by decide) ?_
                refine gg_cv rfl (gg_leS (gg_leS (gg_leS (gg_leS (gg_leN gg_le0))))) rfl (by first | exact Nat.le_refl _ | (dsimp only; omega)) (by first | exact Nat.le_refl _ | (dsimp only; omega)) (ih4 (i + 1) _ (by omega) (by omega))
              · refine gg_iload_n (pc := 90) E dX5_firstAt_90 rfl rfl ?_
                refine gg_goto (tgt := 95) (pc := 91) E dX5_firstAt_91 (by decide) ?_
                refine gg_topI (y := dI (fas row nw k (i + 1))) (by first | exact congrArg dI (fa_t ⟨c20, (by first | (intro z hz; rw [hb] at hz; cases hz; exact c38) | (intro z hz; rw [hz] at c25; exact absurd c25 (nI_nm1 (by have := fas_lt i z hz; omega)))), c55, fun q => c87 ((nxt_m1 hw).mpr q)⟩).symm | exact congrArg dI (fa_f (fun q => q.2.2.1 c55)) | exact (congrArg dI hb.symm).trans (congrArg dI (fa_f (fun q => q.2.2.1 c55))) | exact congrArg dI (fa_f (fun q => c87 (fun z => q.2.2.2 ((nxt_m1 hw).mp z)))) | exact (congrArg dI hb.symm).trans (congrArg dI (fa_f (fun q => c87 (fun z => q.2.2.2 ((nxt_m1 hw).mp z))))) | exact congrArg dI (fa_f (fun q => q.2.2.2 ((nxt_m1 hw).mp c87))) | exact (congrArg dI hb.symm).trans (congrArg dI (fa_f (fun q => q.2.2.2 ((nxt_m1 hw).mp c87))))) ?_
                refine gg_istore_n (lv' := [_, _, _, _, _]) (pc := 95) E dX5_firstAt_95 rfl (Nat.le_of_ble_eq_true rfl) rfl rfl ?_
                
                refine gg_iincN (k := 1) (lv' := [_, _, _, _, _]) (pc := 96) E i dX5_firstAt_96 rfl rfl rfl (Nat.le_of_ble_eq_true rfl) rfl rfl ?_
                refine gg_goto (tgt := 4) (pc := 99) E dX5_firstAt_99 (by decide) ?_
                refine gg_cv rfl (gg_leS (gg_leS (gg_leS (gg_leS (gg_leN gg_le0))))) rfl (by first | exact Nat.le_refl _ | (dsimp only; omega)) (by first | exact Nat.le_refl _ | (dsimp only; omega)) (ih4 (i + 1) _ (by omega) (by omega))
          · obtain ⟨b, hb⟩ := dI_nm1 c25
            have hbi := fas_lt i b hb
            rw [hb]
            refine gg_aload_n (pc := 28) E dX5_firstAt_28 rfl rfl ?_
            refine gg_iload_n (pc := 29) E dX5_firstAt_29 rfl rfl ?_
            refine gg_callV (F := [_]) (As := [.int (nI i)]) (rest := []) (pc := 30) E ck_X5 (ct_X5_bars hl (by first | assumption | omega)) (cwV 1 E.2.2.2.2.1 (lw_V q3180 q3182 qs113 q179 q3183) rfl rfl rfl (by decide +kernel) ⟨by rw [hRf]; exact Nat.le_of_ble_eq_true rfl, by rw [hRl]; exact Nat.le_of_ble_eq_true rfl⟩) dX5_firstAt_30 [] (by decide) rfl rfl (List.forall_mem_cons.mpr ⟨(gg_r 0 rfl), (List.forall_mem_cons.mpr ⟨(gg_r 1 rfl), (fun _ h => by cases h)⟩)⟩) (gg_r 0 rfl) rfl rfl (Nat.le_of_ble_eq_true rfl) (by first | (rw [hRc]; exact Nat.le_of_ble_eq_true rfl) | (rw [hRc]; dsimp only; omega)) (by first | (rw [hRs]; exact Nat.le_of_ble_eq_true rfl) | (rw [hRs]; dsimp only; omega)) ?_ (fun X q C1 h => h.elim)
            rintro _ _ ⟨rfl, rfl⟩
            dsimp only [List.cons_append, List.nil_append, Option.toList]
            refine gg_aload_n (pc := 33) E dX5_firstAt_33 rfl rfl ?_
            refine gg_iload_n (pc := 34) E dX5_firstAt_34 rfl rfl ?_
            refine gg_callV (F := [_]) (As := [.int (nI b)]) (rest := [_]) (pc := 35) E ck_X5 (ct_X5_bars hl (by first | assumption | omega)) (cwV 1 E.2.2.2.2.1 (lw_V q3180 q3182 qs113 q179 q3183) rfl rfl rfl (by decide +kernel) ⟨by rw [hRf]; exact Nat.le_of_ble_eq_true rfl, by rw [hRl]; exact Nat.le_of_ble_eq_true rfl⟩) dX5_firstAt_35 [] (by decide) rfl rfl (List.forall_mem_cons.mpr ⟨(gg_r 0 rfl), (List.forall_mem_cons.mpr ⟨(gg_r 1 rfl), (fun _ h => by cases h)⟩)⟩) (gg_r 0 rfl) rfl rfl (Nat.le_of_ble_eq_true rfl) (by first | (rw [hRc]; exact Nat.le_of_ble_eq_true rfl) | (rw [hRc]; dsimp only; omega)) (by first | (rw [hRs]; exact Nat.le_of_ble_eq_true rfl) | (rw [hRs]; dsimp only; omega)) ?_ (fun X q C1 h => h.elim)
            rintro _ _ ⟨rfl, rfl⟩
            dsimp only [List.cons_append, List.nil_append, Option.toList]
            refine gg_icmp_gt (tgt := 44) (pc := 38) E dX5_firstAt_38 (by decide) (fun c38 => ?_) (fun c38 => ?_)
            · refine gg_aload_n (pc := 44) E dX5_firstAt_44 rfl rfl ?_
              refine gg_iload_n (pc := 45) E dX5_firstAt_45 rfl rfl ?_
              refine gg_callV (F := [_]) (As := [.int (nI i)]) (rest := []) (pc := 46) E ck_X5 (ct_X5_purseFor hl (by first | assumption | omega) (by first | assumption | omega) (by first | assumption | omega)) (cwV 1 E.2.2.2.2.1 (lw_V q3188 q3190 qs115 q179 q3191) rfl rfl rfl (by decide +kernel) ⟨by rw [hRf]; exact Nat.le_of_ble_eq_true rfl, by rw [hRl]; exact Nat.le_of_ble_eq_true rfl⟩) dX5_firstAt_46 [] (by decide) rfl rfl (List.forall_mem_cons.mpr ⟨(gg_r 0 rfl), (List.forall_mem_cons.mpr ⟨(gg_r 1 rfl), (fun _ h => by cases h)⟩)⟩) (gg_r 0 rfl) rfl rfl (Nat.le_of_ble_eq_true rfl) (by first | (rw [hRc]; exact Nat.le_of_ble_eq_true rfl) | (rw [hRc]; dsimp only; omega)) (by first | (rw [hRs]; exact Nat.le_of_ble_eq_true rfl) | (rw [hRs]; dsimp only; omega)) ?_ (fun X q C1 h => h.elim)
              rintro _ _ ⟨rfl, rfl⟩
              dsimp only [List.cons_append, List.nil_append, Option.toList]
              refine gg_aload_n (pc := 49) E dX5_firstAt_49 rfl rfl ?_
              refine gg_iload_n (pc := 50) E dX5_firstAt_50 rfl rfl ?_
              refine gg_iload_n (pc := 51) E dX5_firstAt_51 rfl rfl ?_
              refine gg_callV (F := [_]) (As := [.int (nI i), .int (nI k)]) (rest := [_]) (pc := 52) E ck_X5 (ct_X5_feeAt hl (by first | assumption | omega) (by first | assumption | omega)) (cwV 2 E.2.2.2.2.1 (lw_V q3192 q3194 qs116 q179 q3195) rfl rfl rfl (by decide +kernel) ⟨by rw [hRf]; exact Nat.le_of_ble_eq_true rfl, by rw [hRl]; exact Nat.le_of_ble_eq_true rfl⟩) dX5_firstAt_52 [] (by decide) rfl rfl (List.forall_mem_cons.mpr ⟨(gg_r 0 rfl), (List.forall_mem_cons.mpr ⟨(gg_r 1 rfl), (fun _ h => by cases h)⟩)⟩) (gg_r 0 rfl) rfl rfl (Nat.le_of_ble_eq_true rfl) (by first | (rw [hRc]; exact Nat.le_of_ble_eq_true rfl) | (rw [hRc]; dsimp only; omega)) (by first | (rw [hRs]; exact Nat.le_of_ble_eq_true rfl) | (rw [hRs]; dsimp only; omega)) ?_ (fun X q C1 h => h.elim)
              rintro _ _ ⟨rfl, rfl⟩
              dsimp only [List.cons_append, List.nil_append, Option.toList]
              refine gg_icmp_lt (tgt := 82) (pc := 55) E dX5_firstAt_55 (by decide) (fun c55 => ?_) (fun c55 => ?_)
              · refine gg_iconst (v := 0) (pc := 82) E dX5_firstAt_82 (by decide) ?_
                refine gg_istore (lv' := [_, _, _, _, _]) (pc := 83) E dX5_firstAt_83 (Nat.le_of_ble_eq_true rfl) rfl rfl ?_
                refine gg_iload (pc := 85) E dX5_firstAt_85 rfl ?_
                refine gg_ifN_eq (tgt := 94) (pc := 87) E 0 rfl (by decide) dX5_firstAt_87 (by decide) (fun _ => ?_) (fun q => absurd q (by decide))
                refine gg_iload_n (pc := 94) E dX5_firstAt_94 rfl rfl ?_
                refine gg_topI (y := dI (fas row nw k (i + 1))) (by first | exact congrArg dI (fa_t ⟨c20, (by first | (intro z hz; rw [hb] at hz; cases hz; exact c38) | (intro z hz; rw [hz] at c25; exact absurd c25 (nI_nm1 (by have := fas_lt i z hz; omega)))), c55, fun q => c87 ((nxt_m1 hw).mpr q)⟩).symm | exact congrArg dI (fa_f (fun q => q.2.2.1 c55)) | exact (congrArg dI hb.symm).trans (congrArg dI (fa_f (fun q => q.2.2.1 c55))) | exact congrArg dI (fa_f (fun q => c87 (fun z => q.2.2.2 ((nxt_m1 hw).mp z)))) | exact (congrArg dI hb.symm).trans (congrArg dI (fa_f (fun q => c87 (fun z => q.2.2.2 ((nxt_m1 hw).mp z))))) | exact congrArg dI (fa_f (fun q => q.2.2.2 ((nxt_m1 hw).mp c87))) | exact (congrArg dI hb.symm).trans (congrArg dI (fa_f (fun q => q.2.2.2 ((nxt_m1 hw).mp c87))))) ?_
                refine gg_istore_n (lv' := [_, _, _, _, _]) (pc := 95) E dX5_firstAt_95 rfl (Nat.le_of_ble_eq_true rfl) rfl rfl ?_
                
                refine gg_iincN (k := 1) (lv' := [_, _, _, _, _]) (pc := 96) E i dX5_firstAt_96 rfl rfl rfl (Nat.le_of_ble_eq_true rfl) rfl rfl ?_
                refine gg_goto (tgt := 4) (pc := 99) E dX5_firstAt_99 (by decide) ?_
                refine gg_cv rfl (gg_leS (gg_leS (gg_leS (gg_leS (gg_leN gg_le0))))) rfl (by first | exact Nat.le_refl _ | (dsimp only; omega)) (by first | exact Nat.le_refl _ | (dsimp only; omega)) (ih4 (i + 1) _ (by omega) (by omega))
              · refine gg_aload_n (pc := 58) E dX5_firstAt_58 rfl rfl ?_
                refine gg_iload_n (pc := 59) E dX5_firstAt_59 rfl rfl ?_
                refine gg_aload_n (pc := 60) E dX5_firstAt_60 rfl rfl ?_
                refine gg_get (pc := 61) E ck_X5 0 q2859 rfl (by decide) dX5_firstAt_61 (gg_r 0 rfl) rfl ?_
                refine gg_iload_n (pc := 64) E dX5_firstAt_64 rfl rfl ?_
                refine gg_callS (F := [_]) (As := [.int (nI i)]) (rest := [_, _, _]) (pc := 65) E (ct_X5_t hl ) (va_cwS 1 E.2.2.2.2.1 (lw_S q3121 q3122 q179 q3123) rfl rfl rfl (by decide +kernel) ⟨by rw [hRf]; exact Nat.le_of_ble_eq_true rfl, by rw [hRl]; exact Nat.le_of_ble_eq_true rfl⟩) dX5_firstAt_65 [] (by decide) rfl rfl (fun _ h => by cases h) rfl rfl (Nat.le_of_ble_eq_true rfl) (by first | (rw [hRc]; exact Nat.le_of_ble_eq_true rfl) | (rw [hRc]; dsimp only; omega)) (by first | (rw [hRs]; exact Nat.le_of_ble_eq_true rfl) | (rw [hRs]; dsimp only; omega)) ?_ (fun X q C1 h => h.elim)
                rintro _ _ ⟨rfl, rfl⟩
                dsimp only [List.cons_append, List.nil_append, Option.toList]
                refine gg_iconst (v := 1) (pc := 68) E dX5_firstAt_68 (by decide) ?_
                refine gg_iaddN (pc := 69) E (220 + 27 * i) 1 rfl rfl dX5_firstAt_69 ?_
                refine gg_ialdN (pc := 70) E ((220 + 27 * i) + 1) rfl (by omega) (by omega) dX5_firstAt_70 (gg_r 1 rfl) ?_
                rw [g2]
                refine gg_callV (F := []) (As := [.int (nI k), .int (nI (tg row i))]) (rest := []) (pc := 71) E ck_X5 (ct_X5_nextTo hl (hw) (by omega) (by omega)) (cwV 2 E.2.2.2.2.1 (lw_V q3196 q3198 qs117 q179 q3199) rfl rfl rfl (by decide +kernel) ⟨by rw [hRf]; exact Nat.le_of_ble_eq_true rfl, by rw [hRl]; exact Nat.le_of_ble_eq_true rfl⟩) dX5_firstAt_71 [0] (by decide) rfl rfl (List.forall_mem_cons.mpr ⟨(gg_r 0 rfl), (List.forall_mem_cons.mpr ⟨(gg_r 1 rfl), (fun _ h => by cases h)⟩)⟩) (gg_r 0 rfl) rfl rfl (Nat.le_of_ble_eq_true rfl) (by first | (rw [hRc]; exact Nat.le_of_ble_eq_true rfl) | (rw [hRc]; dsimp only; omega)) (by first | (rw [hRs]; exact Nat.le_of_ble_eq_true rfl) | (rw [hRs]; dsimp only; omega)) ?_ (fun X q C1 h => h.elim)
                rintro _ _ ⟨sums1_2, rfl, rfl⟩
                dsimp only [List.cons_append, List.nil_append, Option.toList]
                refine gg_iconst (v := (-1)) (pc := 74) E dX5_firstAt_74 (by decide) ?_
                refine gg_icmpB_eq (pc := 75) E dX5_firstAt_75 dX5_firstAt_78 dX5_firstAt_79 dX5_firstAt_82 ?_
                refine gg_istore (lv' := [_, _, _, _, _]) (pc := 83) E dX5_firstAt_83 (Nat.le_of_ble_eq_true rfl) rfl rfl ?_
                refine gg_iload (pc := 85) E dX5_firstAt_85 rfl ?_
                refine gg_ifP_eq (tgt := 94) (pc := 87) E dX5_firstAt_87 (by decide) (fun c87 => ?_) (fun c87 => ?_)
                · refine gg_iload_n (pc := 94) E dX5_firstAt_94 rfl rfl ?_
                  refine gg_topI (y := dI (fas row nw k (i + 1))) (by first | exact congrArg dI (fa_t ⟨c20, (by first | (intro z hz; rw [hb] at hz; cases hz; exact c38) | (intro z hz; rw [hz] at c25; exact absurd c25 (nI_nm1 (by have := fas_lt i z hz; omega)))), c55, fun q => c87 ((nxt_m1 hw).mpr q)⟩).symm | exact congrArg dI (fa_f (fun q => q.2.2.1 c55)) | exact (congrArg dI hb.symm).trans (congrArg dI (fa_f (fun q => q.2.2.1 c55))) | exact congrArg dI (fa_f (fun q => c87 (fun z => q.2.2.2 ((nxt_m1 hw).mp z)))) | exact (congrArg dI hb.symm).trans (congrArg dI (fa_f (fun q => c87 (fun z => q.2.2.2 ((nxt_m1 hw).mp z))))) | exact congrArg dI (fa_f (fun q => q.2.2.2 ((nxt_m1 hw).mp c87))) | exact (congrArg dI hb.symm).trans (congrArg dI (fa_f (fun q => q.2.2.2 ((nxt_m1 hw).mp c87))))) ?_
                  refine gg_istore_n (lv' := [_, _, _, _, _]) (pc := 95) E dX5_firstAt_95 rfl (Nat.le_of_ble_eq_true rfl) rfl rfl ?_
                  
                  refine gg_iincN (k := 1) (lv' := [_, _, _, _, _]) (pc := 96) E i dX5_firstAt_96 rfl rfl rfl (Nat.le_of_ble_eq_true rfl) rfl rfl ?_
                  refine gg_goto (tgt := 4) (pc := 99) E dX5_firstAt_99 (by decide) ?_
                  refine gg_cv rfl (gg_leS (gg_leS (gg_leS (gg_leS (gg_leN gg_le0))))) rfl (by first | exact Nat.le_refl _ | (dsimp only; omega)) (by first | exact Nat.le_refl _ | (dsimp only; omega)) (ih4 (i + 1) _ (by omega) (by omega))
                · refine gg_iload_n (pc := 90) E dX5_firstAt_90 rfl rfl ?_
                  refine gg_goto (tgt := 95) (pc := 91) E dX5_firstAt_91 (by decide) ?_
                  refine gg_topI (y := dI (fas row nw k (i + 1))) (by first | exact congrArg dI (fa_t ⟨c20, (by first | (intro z hz; rw [hb] at hz; cases hz; exact c38) | (intro z hz; rw [hz] at c25; exact absurd c25 (nI_nm1 (by have := fas_lt i z hz; omega)))), c55, fun q => c87 ((nxt_m1 hw).mpr q)⟩).symm | exact congrArg dI (fa_f (fun q => q.2.2.1 c55)) | exact (congrArg dI hb.symm).trans (congrArg dI (fa_f (fun q => q.2.2.1 c55))) | exact congrArg dI (fa_f (fun q => c87 (fun z => q.2.2.2 ((nxt_m1 hw).mp z)))) | exact (congrArg dI hb.symm).trans (congrArg dI (fa_f (fun q => c87 (fun z => q.2.2.2 ((nxt_m1 hw).mp z))))) | exact congrArg dI (fa_f (fun q => q.2.2.2 ((nxt_m1 hw).mp c87))) | exact (congrArg dI hb.symm).trans (congrArg dI (fa_f (fun q => q.2.2.2 ((nxt_m1 hw).mp c87))))) ?_
                  refine gg_istore_n (lv' := [_, _, _, _, _]) (pc := 95) E dX5_firstAt_95 rfl (Nat.le_of_ble_eq_true rfl) rfl rfl ?_
                  
                  refine gg_iincN (k := 1) (lv' := [_, _, _, _, _]) (pc := 96) E i dX5_firstAt_96 rfl rfl rfl (Nat.le_of_ble_eq_true rfl) rfl rfl ?_
                  refine gg_goto (tgt := 4) (pc := 99) E dX5_firstAt_99 (by decide) ?_
                  refine gg_cv rfl (gg_leS (gg_leS (gg_leS (gg_leS (gg_leN gg_le0))))) rfl (by first | exact Nat.le_refl _ | (dsimp only; omega)) (by first | exact Nat.le_refl _ | (dsimp only; omega)) (ih4 (i + 1) _ (by omega) (by omega))
            · rw [show dI (some b) = dI (fas row nw k (i + 1)) from by rw [← fa_f (fun q => c38 (q.2.1 b hb)), hb]]
              refine gg_goto (tgt := 96) (pc := 41) E dX5_firstAt_41 (by decide) ?_
              
              refine gg_iincN (k := 1) (lv' := [_, _, _, _, _]) (pc := 96) E i dX5_firstAt_96 rfl rfl rfl (Nat.le_of_ble_eq_true rfl) rfl rfl ?_
              refine gg_goto (tgt := 4) (pc := 99) E dX5_firstAt_99 (by decide) ?_
              refine gg_cv rfl (gg_leS (gg_leS (gg_leS (gg_leS (gg_leN gg_le0))))) rfl (by first | exact Nat.le_refl _ | (dsimp only; omega)) (by first | exact Nat.le_refl _ | (dsimp only; omega)) (ih4 (i + 1) _ (by omega) (by omega))
  refine gg_cv rfl (gg_leS (gg_leS (gg_leS (gg_leS (gg_leN gg_le0))))) rfl (by first | exact Nat.le_refl _ | (dsimp only; omega)) (by first | exact Nat.le_refl _ | (dsimp only; omega)) (L4 _ 0 sums (Nat.lt_succ_self _) (Nat.zero_le _))

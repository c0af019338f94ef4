set_option maxRecDepth 100000
/-- an account -/
def cn (row : Nat → Int32) (w : Nat) (d : Int32) : Nat → Int32 := upd row (10 + w) (row (10 + w) + d)
theorem cn_out {row : Nat → Int32} {w j : Nat} {d : Int32} (h : j ≠ 10 + w) : cn row w d j = row j := pk_un h
/-- the notes are heard as they were sent -/
def he (row : Nat → Int32) (t : Nat) : Nat → Int32 := ub row (220 + 27 * t + 19) 8 (fun i => row (220 + 27 * t + 11 + i))
theorem he_out {row : Nat → Int32} {t j : Nat} (h : j < 220 + 27 * t + 19 ∨ 220 + 27 * t + 19 + 8 ≤ j) : he row t j = row j := ub_out _ _ _ _ h
theorem ub0_1 (f : Nat → Int32) (n : Nat) (v : Nat → Int32) (x : Int32) (hx : x = v n) : upd (ub f 0 n v) n x = ub f 0 (n + 1) v := by
  have e := ub_1 f 0 n v x hx
  rw [Nat.zero_add] at e
  exact e
theorem upd_2 (f : Nat → Int32) (k : Nat) (a b : Int32) : upd (upd f k a) k b = upd f k b := by
  funext j
  by_cases e : j = k
  · subst e; rw [pk_us, pk_us]
  · rw [pk_un e, pk_un e, pk_un e]
def cl0 : Nat → Int32 := fun k => if k = 4 then 3 else if k = 5 then 50 else if k = 6 then 1 else 0
/-- what is kept of the past when there is one more -/
def pst (past row : Nat → Int32) (pm : Nat) : Nat → Int32 := if pm = 8 then ub (ub past 0 7210 (fun k => past (k + 1030))) 7210 1030 row else ub past (1030 * pm) 1030 row
def psn (pm : Nat) : Nat := if pm = 8 then 8 else pm + 1
/-- a roof more -/
def nro (row : Nat → Int32) (nr len : Nat) (sp : Nat → Int32) (b e2 f pu : Int32) : Nat → Int32 := upd (upd (upd (upd (upd (upd (ub (upd row (25 + 13 * nr) (nI len)) (25 + 13 * nr + 1) len sp) (25 + 13 * nr + 7) b) (25 + 13 * nr + 8) e2) (25 + 13 * nr + 9) f) (25 + 13 * nr + 10) pu) 7 (row 7 + pu)) 0 (nI (nr + 1))
/-- a way more -/
def nwy (row : Nat → Int32) (nw : Nat) (a b f : Int32) : Nat → Int32 := upd (upd (upd (upd row (160 + 3 * nw) a) (160 + 3 * nw + 1) b) (160 + 3 * nw + 2) f) 1 (nI (nw + 1))
/-- a tune more -/
def nt1 (row : Nat → Int32) (nt mny : Nat) (se go re wa : Int32) : Nat → Int32 := upd (upd (upd (upd (upd (upd (upd (ub row (220 + 27 * nt) 27 (fun _ => 0)) (220 + 27 * nt + 0) se) (220 + 27 * nt + 1) go) (220 + 27 * nt + 2) (nI mny)) (220 + 27 * nt + 4) se) (220 + 27 * nt + 5) (-1)) (220 + 27 * nt + 6) re) (220 + 27 * nt + 7) wa
theorem nt1_lo {row : Nat → Int32} {nt mny j : Nat} {se go re wa : Int32} (h : j < 220 + 27 * nt ∨ 220 + 27 * nt + 27 ≤ j) : nt1 row nt mny se go re wa j = row j := by
  unfold nt1
  rw [pk_un (by omega), pk_un (by omega), pk_un (by omega), pk_un (by omega), pk_un (by omega), pk_un (by omega), pk_un (by omega), ub_out _ _ _ _ (by omega)]
def ntu (row : Nat → Int32) (nt mny : Nat) (su : Nat → Int32) (se go re wa : Int32) : Nat → Int32 := cn (cn (upd (he (ub (nt1 row nt mny se go re wa) (220 + 27 * nt + 11) mny su) nt) 2 (nI (nt + 1))) 1 1) 2 re
set_option maxHeartbeats 4000000 in
theorem ct_X5_counts {l : Launch} (hl : l.stackTraces = false) {g : gg_G}  {h : Nat} {ad : Nat → Nat} {x : Nat → Int32} {row : Nat → Int32} {w : Nat} {d : Int32} (hw : w < 11) : gg_C l g yX5_counts (ws_ yX5_counts cX5_counts 3 none) { frames := 0, cells := 0, slots := 0, locals := 0 } [.ref h, .int (nI w), .int d] [(h, .inl (4, mo_f ad x))] [[((ad 0), gg_ai g 1030 row)]] (fun vv CC => vv = none ∧ CC = [[((ad 0), gg_ai g 1030 (cn row w d))]]) gg_no := by
  refine gg_of (lv := [_, _, _]) (by decide) hl (Nat.le_of_ble_eq_true rfl) rfl ?_
  intro p e R s m args below meth c A Q hRf hRl hRc hRs E Fn hnm hex
  refine gg_aload_n (pc := 0) E dX5_counts_0 rfl rfl ?_
  refine gg_get (pc := 1) E ck_X5 0 q2859 rfl (by decide) dX5_counts_1 (gg_r 0 rfl) rfl ?_
  refine gg_bipush (v := 10) (pc := 4) E dX5_counts_4 (by decide) ?_
  refine gg_iload_n (pc := 6) E dX5_counts_6 rfl rfl ?_
  refine gg_iaddN (pc := 7) E 10 w rfl rfl dX5_counts_7 ?_
  refine gg_dup2_11 (pc := 8) E dX5_counts_8 rfl rfl ?_
  refine gg_ialdN (pc := 9) E (10 + w) rfl (by omega) (by omega) dX5_counts_9 (gg_i 0 rfl) ?_
  refine gg_iload_n (pc := 10) E dX5_counts_10 rfl rfl ?_
  refine gg_iadd (pc := 11) E dX5_counts_11 ?_
  refine gg_iastN (M' := [_]) (pc := 12) E (10 + w) rfl (by omega) (by omega) dX5_counts_12 0 rfl rfl ?_
  refine gg_vret (pc := 13) E Fn rfl dX5_counts_13 (by first | exact Nat.le_of_ble_eq_true rfl | (dsimp only; omega)) (by first | exact Nat.le_of_ble_eq_true rfl | (dsimp only; omega)) ?_
  exact ⟨rfl, rfl⟩
set_option maxHeartbeats 4000000 in
theorem ct_X5_clears {l : Launch} (hl : l.stackTraces = false) {g : gg_G}  {h : Nat} {ad : Nat → Nat} {x : Nat → Int32} {row : Nat → Int32}  : gg_C l g yX5_clears (ws_ yX5_clears cX5_clears 2 none) { frames := 0, cells := 0, slots := 0, locals := 0 } [.ref h] [(h, .inl (4, mo_f ad x))] [[((ad 0), gg_ai g 1030 row)]] (fun vv CC => vv = none ∧ CC = [[((ad 0), gg_ai g 1030 cl0)]]) gg_no := by
  refine gg_of (lv := [_, _]) (by decide) hl (Nat.le_of_ble_eq_true rfl) rfl ?_
  intro p e R s m args below meth c A Q hRf hRl hRc hRs E Fn hnm hex
  refine gg_iconst (v := 0) (pc := 0) E dX5_clears_0 (by decide) ?_
  refine gg_istore_n (lv' := [_, _]) (pc := 1) E dX5_clears_1 rfl (Nat.le_of_ble_eq_true rfl) rfl rfl ?_
  have L2 : ∀ (n : Nat) (i : Nat), 1030 - i < n → (i ≤ 1030) → gg_W p l e R s m args below meth c g A 2 Q 0 0 [[((ad 0), gg_ai g 1030 (ub row 0 i (fun _ => 0)))]] [some (.ref h), some (.int (nI i))] [] 2 := by
    intro n2
    induction n2 with
    | zero => intro i hmz; exact absurd hmz (Nat.not_lt_zero _)
    | succ n2 ih2 =>
      intro i hm2 hi
      refine gg_iload_n (pc := 2) E dX5_clears_2 rfl rfl ?_
      refine gg_sipush (v := 1030) (pc := 3) E dX5_clears_3 (by decide) ?_
      refine gg_icmpN_ge (tgt := 22) (pc := 6) E i 1030 rfl rfl (by omega) (by omega) dX5_clears_6 (by decide) (fun c6 => ?_) (fun c6 => ?_)
      · refine gg_aload_n (pc := 22) E dX5_clears_22 rfl rfl ?_
        refine gg_get (pc := 23) E ck_X5 0 q2859 rfl (by decide) dX5_clears_23 (gg_r 0 rfl) rfl ?_
        refine gg_iconst (v := 4) (pc := 26) E dX5_clears_26 (by decide) ?_
        refine gg_iconst (v := 3) (pc := 27) E dX5_clears_27 (by decide) ?_
        refine gg_iastN (M' := [_]) (pc := 28) E 4 rfl (by omega) (by omega) dX5_clears_28 0 rfl rfl ?_
        refine gg_aload_n (pc := 29) E dX5_clears_29 rfl rfl ?_
        refine gg_get (pc := 30) E ck_X5 0 q2859 rfl (by decide) dX5_clears_30 (gg_r 0 rfl) rfl ?_
        refine gg_iconst (v := 5) (pc := 33) E dX5_clears_33 (by decide) ?_
        refine gg_bipush (v := 50) (pc := 34) E dX5_clears_34 (by decide) ?_
        refine gg_iastN (M' := [_]) (pc := 36) E 5 rfl (by omega) (by omega) dX5_clears_36 0 rfl rfl ?_
        refine gg_aload_n (pc := 37) E dX5_clears_37 rfl rfl ?_
        refine gg_get (pc := 38) E ck_X5 0 q2859 rfl (by decide) dX5_clears_38 (gg_r 0 rfl) rfl ?_
        refine gg_bipush (v := 6) (pc := 41) E dX5_clears_41 (by decide) ?_
        refine gg_iconst (v := 1) (pc := 43) E dX5_clears_43 (by decide) ?_
        refine gg_iastN (M' := [_]) (pc := 44) E 6 rfl (by omega) (by omega) dX5_clears_44 0 rfl rfl ?_
        refine gg_vret (pc := 45) E Fn rfl dX5_clears_45 (by first | exact Nat.le_of_ble_eq_true rfl | (dsimp only; omega)) (by first | exact Nat.le_of_ble_eq_true rfl | (dsimp only; omega)) ?_
        obtain rfl : i = 1030 := by omega
        refine ⟨rfl, ?_⟩
        refine congrArg (fun z => [[(ad 0, z)]]) (gg_ai_congr fun k hk => ?_)
        by_cases h6 : k = 6
        · subst h6; rfl
        by_cases h5 : k = 5
        · subst h5; rfl
        by_cases h4 : k = 4
        · subst h4; rfl
        rw [pk_un h6, pk_un h5, pk_un h4, ub_in _ _ _ _ (by omega) (by omega)]
        unfold cl0
        rw [if_neg h4, if_neg h5, if_neg h6]
      · refine gg_aload_n (pc := 9) E dX5_clears_9 rfl rfl ?_
        refine gg_get (pc := 10) E ck_X5 0 q2859 rfl (by decide) dX5_clears_10 (gg_r 0 rfl) rfl ?_
        refine gg_iload_n (pc := 13) E dX5_clears_13 rfl rfl ?_
        refine gg_iconst (v := 0) (pc := 14) E dX5_clears_14 (by decide) ?_
        refine gg_iastN (M' := [_]) (pc := 15) E i rfl (by omega) (by omega) dX5_clears_15 0 rfl rfl ?_
        refine gg_iincN (k := 1) (lv' := [_, _]) (pc := 16) E i dX5_clears_16 rfl rfl rfl (Nat.le_of_ble_eq_true rfl) rfl rfl ?_
        refine gg_goto (tgt := 2) (pc := 19) E dX5_clears_19 (by decide) ?_
        refine gg_cv ?_ (gg_leS (gg_leS gg_le0)) rfl (by first | exact Nat.le_refl _ | (dsimp only; omega)) (by first | exact Nat.le_refl _ | (dsimp only; omega)) (ih2 (i + 1) (by omega) (by omega))
        · rw [ub0_1 _ _ _ _ rfl]
  refine gg_cv ?_ (gg_leS (gg_leS gg_le0)) rfl (by first | exact Nat.le_refl _ | (dsimp only; omega)) (by first | exact Nat.le_refl _ | (dsimp only; omega)) (L2 _ 0 (Nat.lt_succ_self _) (Nat.zero_le _))
  · rw [ub_0]
set_option maxHeartbeats 4000000 in
theorem ct_X5_copies {l : Launch} (hl : l.stackTraces = false) {g : gg_G}  {h : Nat} {ad : Nat → Nat} {x : Nat → Int32} {row : Nat → Int32} {to : Nat} {tf : Nat → Int32}  : gg_C l g yX5_copies (ws_ yX5_copies cX5_copies 3 none) { frames := 0, cells := 0, slots := 0, locals := 0 } [.ref h, .ref to] [(h, .inl (4, mo_f ad x)), ((ad 0), gg_ai g 1030 row)] [[(to, gg_ai g 1030 tf)]] (fun vv CC => vv = none ∧ CC = [[(to, gg_ai g 1030 row)]]) gg_no := by
  refine gg_of (lv := [_, _, _]) (by decide) hl (Nat.le_of_ble_eq_true rfl) rfl ?_
  intro p e R s m args below meth c A Q hRf hRl hRc hRs E Fn hnm hex
  refine gg_iconst (v := 0) (pc := 0) E dX5_copies_0 (by decide) ?_
  refine gg_istore_n (lv' := [_, _, _]) (pc := 1) E dX5_copies_1 rfl (Nat.le_of_ble_eq_true rfl) rfl rfl ?_
  have L2 : ∀ (n : Nat) (i : Nat), 1030 - i < n → (i ≤ 1030) → gg_W p l e R s m args below meth c g A 3 Q 0 0 [[(to, gg_ai g 1030 (ub tf 0 i row))]] [some (.ref h), some (.ref to), some (.int (nI i))] [] 2 := by
    intro n2
    induction n2 with
    | zero => intro i hmz; exact absurd hmz (Nat.not_lt_zero _)
    | succ n2 ih2 =>
      intro i hm2 hi
      refine gg_iload_n (pc := 2) E dX5_copies_2 rfl rfl ?_
      refine gg_sipush (v := 1030) (pc := 3) E dX5_copies_3 (by decide) ?_
      refine gg_icmpN_ge (tgt := 24) (pc := 6) E i 1030 rfl rfl (by omega) (by omega) dX5_copies_6 (by decide) (fun c6 => ?_) (fun c6 => ?_)
      · refine gg_vret (pc := 24) E Fn rfl dX5_copies_24 (by first | exact Nat.le_of_ble_eq_true rfl | (dsimp only; omega)) (by first | exact Nat.le_of_ble_eq_true rfl | (dsimp only; omega)) ?_
        obtain rfl : i = 1030 := by omega
        refine ⟨rfl, ?_⟩
        exact congrArg (fun z => [[(to, z)]]) (gg_ai_congr fun k hk => by rw [ub_in _ _ _ _ (by omega) (by omega)]; rfl)
      · refine gg_aload_n (pc := 9) E dX5_copies_9 rfl rfl ?_
        refine gg_iload_n (pc := 10) E dX5_copies_10 rfl rfl ?_
        refine gg_aload_n (pc := 11) E dX5_copies_11 rfl rfl ?_
        refine gg_get (pc := 12) E ck_X5 0 q2859 rfl (by decide) dX5_copies_12 (gg_r 0 rfl) rfl ?_
        refine gg_iload_n (pc := 15) E dX5_copies_15 rfl rfl ?_
        refine gg_ialdN (pc := 16) E i rfl (by omega) (by omega) dX5_copies_16 (gg_r 1 rfl) ?_
        refine gg_iastN (M' := [_]) (pc := 17) E i rfl (by omega) (by omega) dX5_copies_17 0 rfl rfl ?_
        refine gg_iincN (k := 1) (lv' := [_, _, _]) (pc := 18) E i dX5_copies_18 rfl rfl rfl (Nat.le_of_ble_eq_true rfl) rfl rfl ?_
        refine gg_goto (tgt := 2) (pc := 21) E dX5_copies_21 (by decide) ?_
        refine gg_cv ?_ (gg_leS (gg_leS (gg_leS gg_le0))) rfl (by first | exact Nat.le_refl _ | (dsimp only; omega)) (by first | exact Nat.le_refl _ | (dsimp only; omega)) (ih2 (i + 1) (by omega) (by omega))
        · rw [ub0_1 _ _ _ _ rfl]
  refine gg_cv ?_ (gg_leS (gg_leS (gg_leS gg_le0))) rfl (by first | exact Nat.le_refl _ | (dsimp only; omega)) (by first | exact Nat.le_refl _ | (dsimp only; omega)) (L2 _ 0 (Nat.lt_succ_self _) (Nat.zero_le _))
  · rw [ub_0]
set_option maxHeartbeats 4000000 in
theorem ct_X5_gives {l : Launch} (hl : l.stackTraces = false) {g : gg_G}  {h : Nat} {ad : Nat → Nat} {x : Nat → Int32} {row : Nat → Int32} {to : Nat} {tf : Nat → Int32} {v : Int32}  : gg_C l g yX5_gives (ws_ yX5_gives cX5_gives 4 (some .int)) { frames := 0, cells := 0, slots := 0, locals := 0 } [.ref h, .ref to, .int v] [(h, .inl (4, mo_f ad x)), (to, gg_ai g 1030 tf)] [[((ad 0), gg_ai g 1030 row)]] (fun vv CC => vv = some (.int v) ∧ CC = [[((ad 0), gg_ai g 1030 tf)]]) gg_no := by
  refine gg_of (lv := [_, _, _, _]) (by decide) hl (Nat.le_of_ble_eq_true rfl) rfl ?_
  intro p e R s m args below meth c A Q hRf hRl hRc hRs E Fn hnm hex
  refine gg_iconst (v := 0) (pc := 0) E dX5_gives_0 (by decide) ?_
  refine gg_istore_n (lv' := [_, _, _, _]) (pc := 1) E dX5_gives_1 rfl (Nat.le_of_ble_eq_true rfl) rfl rfl ?_
  have L2 : ∀ (n : Nat) (i : Nat), 1030 - i < n → (i ≤ 1030) → gg_W p l e R s m args below meth c g A 4 Q 0 0 [[((ad 0), gg_ai g 1030 (ub row 0 i tf))]] [some (.ref h), some (.ref to), some (.int v), some (.int (nI i))] [] 2 := by
    intro n2
    induction n2 with
    | zero => intro i hmz; exact absurd hmz (Nat.not_lt_zero _)
    | succ n2 ih2 =>
      intro i hm2 hi
      refine gg_iload_n (pc := 2) E dX5_gives_2 rfl rfl ?_
      refine gg_sipush (v := 1030) (pc := 3) E dX5_gives_3 (by decide) ?_
      refine gg_icmpN_ge (tgt := 24) (pc := 6) E i 1030 rfl rfl (by omega) (by omega) dX5_gives_6 (by decide) (fun c6 => ?_) (fun c6 => ?_)
      · refine gg_iload_n (pc := 24) E dX5_gives_24 rfl rfl ?_
        refine gg_iret (pc := 25) E Fn rfl (rfl) dX5_gives_25 (by first | exact Nat.le_of_ble_eq_true rfl | (dsimp only; omega)) (by first | exact Nat.le_of_ble_eq_true rfl | (dsimp only; omega)) ?_
        obtain rfl : i = 1030 := by omega
        refine ⟨rfl, ?_⟩
        exact congrArg (fun z => [[(ad 0, z)]]) (gg_ai_congr fun k hk => by rw [ub_in _ _ _ _ (by omega) (by omega)]; rfl)
      · refine gg_aload_n (pc := 9) E dX5_gives_9 rfl rfl ?_
        refine gg_get (pc := 10) E ck_X5 0 q2859 rfl (by decide) dX5_gives_10 (gg_r 0 rfl) rfl ?_
        refine gg_iload_n (pc := 13) E dX5_gives_13 rfl rfl ?_
        refine gg_aload_n (pc := 14) E dX5_gives_14 rfl rfl ?_
        refine gg_iload_n (pc := 15) E dX5_gives_15 rfl rfl ?_
        refine gg_ialdN (pc := 16) E i rfl (by omega) (by omega) dX5_gives_16 (gg_r 1 rfl) ?_
        refine gg_iastN (M' := [_]) (pc := 17) E i rfl (by omega) (by omega) dX5_gives_17 0 rfl rfl ?_
        refine gg_iincN (k := 1) (lv' := [_, _, _, _]) (pc := 18) E i dX5_gives_18 rfl rfl rfl (Nat.le_of_ble_eq_true rfl) rfl rfl ?_
        refine gg_goto (tgt := 2) (pc := 21) E dX5_gives_21 (by decide) ?_
        refine gg_cv ?_ (gg_leS (gg_leS (gg_leS (gg_leS gg_le0)))) rfl (by first | exact Nat.le_refl _ | (dsimp only; omega)) (by first | exact Nat.le_refl _ | (dsimp only; omega)) (ih2 (i + 1) (by omega) (by omega))
        · rw [ub0_1 _ _ _ _ rfl]
  refine gg_cv ?_ (gg_leS (gg_leS (gg_leS (gg_leS gg_le0)))) rfl (by first | exact Nat.le_refl _ | (dsimp only; omega)) (by first | exact Nat.le_refl _ | (dsimp only; omega)) (L2 _ 0 (Nat.lt_succ_self _) (Nat.zero_le _))
  · first | (rw [ub_0]; done) | (rw [ub_0]; rfl)
set_option maxHeartbeats 4000000 in
theorem ct_X5_remembers {l : Launch} (hl : l.stackTraces = false) {g : gg_G}  {h : Nat} {ad : Nat → Nat} {x : Nat → Int32} {row : Nat → Int32} {past : Nat → Int32} {pm : Nat} (hpm : x 4 = nI pm) (hp8 : pm ≤ 8) : gg_C l g yX5_remembers (ws_ yX5_remembers cX5_remembers 2 none) { frames := 0, cells := 0, slots := 0, locals := 0 } [.ref h] [((ad 0), gg_ai g 1030 row)] [[(h, .inl (4, mo_f ad x))], [((ad 3), gg_ai g 8240 past)]] (fun vv CC => vv = none ∧ CC = [[(h, .inl (4, mo_f ad (upd x 4 (nI (psn pm)))))], [((ad 3), gg_ai g 8240 (pst past row pm))]]) gg_no := by
  refine gg_of (lv := [_, _]) (by decide) hl (Nat.le_of_ble_eq_true rfl) rfl ?_
  intro p e R s m args below meth c A Q hRf hRl hRc hRs E Fn hnm hex
  refine gg_aload_n (pc := 0) E dX5_remembers_0 rfl rfl ?_
  refine gg_get (pc := 1) E ck_X5 4 q2863 rfl (by decide) dX5_remembers_1 (gg_i 0 rfl) rfl ?_
  refine gg_topI (y := nI pm) hpm ?_
  refine gg_bipush (v := 8) (pc := 4) E dX5_remembers_4 (by decide) ?_
  refine gg_icmpN_ne (tgt := 52) (pc := 6) E pm 8 rfl rfl (by omega) (by omega) dX5_remembers_6 (by decide) (fun c6 => ?_) (fun c6 => ?_)
  · refine gg_iconst (v := 0) (pc := 52) E dX5_remembers_52 (by decide) ?_
    refine gg_istore_n (lv' := [_, _]) (pc := 53) E dX5_remembers_53 rfl (Nat.le_of_ble_eq_true rfl) rfl rfl ?_
    have L54 : ∀ (n : Nat) (P : Nat → Int32) (q i : Nat) (X : Nat → Int32), 1030 - i < n → (X 4 = nI q) → (q ≤ 7) → (pst past row pm = ub P (1030 * q) 1030 row ∧ psn pm = q + 1) → (∀ z, upd X 4 z = upd x 4 z) → (i ≤ 1030) → gg_W p l e R s m args below meth c g A 2 Q 0 0 [[(h, .inl (4, mo_f ad X))], [((ad 3), gg_ai g 8240 (ub P (1030 * q) i row))]] [some (.ref h), some (.int (nI i))] [] 54 := by
      intro n54
      induction n54 with
      | zero => intro P q i X hmz; exact absurd hmz (Nat.not_lt_zero _)
      | succ n54 ih54 =>
        intro P q i X hm54 hQ hq7 hfin hX hi
        refine gg_iload_n (pc := 54) E dX5_remembers_54 rfl rfl ?_
        refine gg_sipush (v := 1030) (pc := 55) E dX5_remembers_55 (by decide) ?_
        refine gg_icmpN_ge (tgt := 88) (pc := 58) E i 1030 rfl rfl (by omega) (by omega) dX5_remembers_58 (by decide) (fun c58 => ?_) (fun c58 => ?_)
        · refine gg_aload_n (pc := 88) E dX5_remembers_88 rfl rfl ?_
          refine gg_dup (pc := 89) E dX5_remembers_89 rfl ?_
          refine gg_get (pc := 90) E ck_X5 4 q2863 rfl (by decide) dX5_remembers_90 (gg_i 0 rfl) rfl ?_
          refine gg_topI (y := nI q) hQ ?_
          refine gg_iconst (v := 1) (pc := 93) E dX5_remembers_93 (by decide) ?_
          refine gg_iaddN (pc := 94) E q 1 rfl rfl dX5_remembers_94 ?_
          refine gg_putM (M' := [_, _]) (pc := 95) E ck_X5 4 q2863 rfl (by decide) dX5_remembers_95 0 rfl rfl (rfl) rfl (Nat.le_of_ble_eq_true rfl) rfl rfl ?_
          refine gg_vret (pc := 98) E Fn rfl dX5_remembers_98 (by first | exact Nat.le_of_ble_eq_true rfl | (dsimp only; omega)) (by first | exact Nat.le_of_ble_eq_true rfl | (dsimp only; omega)) ?_
          obtain rfl : i = 1030 := by omega
          rw [hX, hfin.1, hfin.2]
          exact ⟨rfl, rfl⟩
        · refine gg_aload_n (pc := 61) E dX5_remembers_61 rfl rfl ?_
          refine gg_get (pc := 62) E ck_X5 3 q2862 rfl (by decide) dX5_remembers_62 (gg_i 0 rfl) rfl ?_
          refine gg_sipush (v := 1030) (pc := 65) E dX5_remembers_65 (by decide) ?_
          refine gg_aload_n (pc := 68) E dX5_remembers_68 rfl rfl ?_
          refine gg_get (pc := 69) E ck_X5 4 q2863 rfl (by decide) dX5_remembers_69 (gg_i 0 rfl) rfl ?_
          refine gg_topI (y := nI q) hQ ?_
          refine gg_imulN (pc := 72) E 1030 q rfl rfl dX5_remembers_72 ?_
          refine gg_iload_n (pc := 73) E dX5_remembers_73 rfl rfl ?_
          refine gg_iaddN (pc := 74) E (1030 * q) i rfl rfl dX5_remembers_74 ?_
          refine gg_aload_n (pc := 75) E dX5_remembers_75 rfl rfl ?_
          refine gg_get (pc := 76) E ck_X5 0 q2859 rfl (by decide) dX5_remembers_76 (gg_i 0 rfl) rfl ?_
          refine gg_iload_n (pc := 79) E dX5_remembers_79 rfl rfl ?_
          refine gg_ialdN (pc := 80) E i rfl (by omega) (by omega) dX5_remembers_80 (gg_r 0 rfl) ?_
          refine gg_iastN (M' := [_, _]) (pc := 81) E (1030 * q + i) rfl (by omega) (by omega) dX5_remembers_81 1 rfl rfl ?_
          refine gg_iincN (k := 1) (lv' := [_, _]) (pc := 82) E i dX5_remembers_82 rfl rfl rfl (Nat.le_of_ble_eq_true rfl) rfl rfl ?_
          refine gg_goto (tgt := 54) (pc := 85) E dX5_remembers_85 (by decide) ?_
          refine gg_cv ?_ (gg_leS (gg_leS gg_le0)) rfl (by first | exact Nat.le_refl _ | (dsimp only; omega)) (by first | exact Nat.le_refl _ | (dsimp only; omega)) (ih54 P q (i + 1) X (by omega) (hQ) (hq7) (hfin) (hX) (by omega))
          · rw [ub_1 _ _ _ _ _ rfl]
    refine gg_cv ?_ (gg_leS (gg_leS gg_le0)) rfl (by first | exact Nat.le_refl _ | (dsimp only; omega)) (by first | exact Nat.le_refl _ | (dsimp only; omega)) (L54 _ past pm 0 x (Nat.lt_succ_self _) (hpm) (by omega) (by unfold pst psn; rw [if_neg c6, if_neg c6]; exact ⟨rfl, rfl⟩) (fun _ => rfl) (Nat.zero_le _))
    · first | (rw [ub_0]; done) | (rw [ub_0]; rfl)
  · refine gg_sipush (v := 1030) (pc := 9) E dX5_remembers_9 (by decide) ?_
    refine gg_istore_n (lv' := [_, _]) (pc := 12) E dX5_remembers_12 rfl (Nat.le_of_ble_eq_true rfl) rfl rfl ?_
    have L13 : ∀ (n : Nat) (i : Nat), 8240 - i < n → (1030 ≤ i) → (i ≤ 8240) → gg_W p l e R s m args below meth c g A 2 Q 0 0 [[(h, .inl (4, mo_f ad x))], [((ad 3), gg_ai g 8240 (ub past 0 (i - 1030) (fun k => past (k + 1030))))]] [some (.ref h), some (.int (nI i))] [] 13 := by
      intro n13
      induction n13 with
      | zero => intro i hmz; exact absurd hmz (Nat.not_lt_zero _)
      | succ n13 ih13 =>
        intro i hm13 hi1 hi
        refine gg_iload_n (pc := 13) E dX5_remembers_13 rfl rfl ?_
        refine gg_sipush (v := 8240) (pc := 14) E dX5_remembers_14 (by decide) ?_
        refine gg_icmpN_ge (tgt := 42) (pc := 17) E i 8240 rfl rfl (by omega) (by omega) dX5_remembers_17 (by decide) (fun c17 => ?_) (fun c17 => ?_)
        · refine gg_aload_n (pc := 42) E dX5_remembers_42 rfl rfl ?_
          refine gg_dup (pc := 43) E dX5_remembers_43 rfl ?_
          refine gg_get (pc := 44) E ck_X5 4 q2863 rfl (by decide) dX5_remembers_44 (gg_i 0 rfl) rfl ?_
          refine gg_topI (y := nI pm) hpm ?_
          refine gg_iconst (v := 1) (pc := 47) E dX5_remembers_47 (by decide) ?_
          refine gg_isubN (pc := 48) E pm 1 rfl rfl (by omega) dX5_remembers_48 ?_
          refine gg_putM (M' := [_, _]) (pc := 49) E ck_X5 4 q2863 rfl (by decide) dX5_remembers_49 0 rfl rfl (rfl) rfl (Nat.le_of_ble_eq_true rfl) rfl rfl ?_
          refine gg_iconst (v := 0) (pc := 52) E dX5_remembers_52 (by decide) ?_
          refine gg_istore_n (lv' := [_, _]) (pc := 53) E dX5_remembers_53 rfl (Nat.le_of_ble_eq_true rfl) rfl rfl ?_
          have L54 : ∀ (n : Nat) (P : Nat → Int32) (q i : Nat) (X : Nat → Int32), 1030 - i < n → (X 4 = nI q) → (q ≤ 7) → (pst past row pm = ub P (1030 * q) 1030 row ∧ psn pm = q + 1) → (∀ z, upd X 4 z = upd x 4 z) → (i ≤ 1030) → gg_W p l e R s m args below meth c g A 2 Q 0 0 [[(h, .inl (4, mo_f ad X))], [((ad 3), gg_ai g 8240 (ub P (1030 * q) i row))]] [some (.ref h), some (.int (nI i))] [] 54 := by
            intro n54
            induction n54 with
            | zero => intro P q i X hmz; exact absurd hmz (Nat.not_lt_zero _)
            | succ n54 ih54 =>
              intro P q i X hm54 hQ hq7 hfin hX hi
              refine gg_iload_n (pc := 54) E dX5_remembers_54 rfl rfl ?_
              refine gg_sipush (v := 1030) (pc := 55) E dX5_remembers_55 (by decide) ?_
              refine gg_icmpN_ge (tgt := 88) (pc := 58) E i 1030 rfl rfl (by omega) (by omega) dX5_remembers_58 (by decide) (fun c58 => ?_) (fun c58 => ?_)
              · refine gg_aload_n (pc := 88) E dX5_remembers_88 rfl rfl ?_
                refine gg_dup (pc := 89) E dX5_remembers_89 rfl ?_
                refine gg_get (pc := 90) E ck_X5 4 q2863 rfl (by decide) dX5_remembers_90 (gg_i 0 rfl) rfl ?_
                refine gg_topI (y := nI q) hQ ?_
                refine gg_iconst (v := 1) (pc := 93) E dX5_remembers_93 (by decide) ?_
                refine gg_iaddN (pc := 94) E q 1 rfl rfl dX5_remembers_94 ?_
                refine gg_putM (M' := [_, _]) (pc := 95) E ck_X5 4 q2863 rfl (by decide) dX5_remembers_95 0 rfl rfl (rfl) rfl (Nat.le_of_ble_eq_true rfl) rfl rfl ?_
                refine gg_vret (pc := 98) E Fn rfl dX5_remembers_98 (by first | exact Nat.le_of_ble_eq_true rfl | (dsimp only; omega)) (by first | exact Nat.le_of_ble_eq_true rfl | (dsimp only; omega)) ?_
                obtain rfl : i = 1030 := by omega
                rw [hX, hfin.1, hfin.2]
                exact ⟨rfl, rfl⟩
              · refine gg_aload_n (pc := 61) E dX5_remembers_61 rfl rfl ?_
                refine gg_get (pc := 62) E ck_X5 3 q2862 rfl (by decide) dX5_remembers_62 (gg_i 0 rfl) rfl ?_
                refine gg_sipush (v := 1030) (pc := 65) E dX5_remembers_65 (by decide) ?_
                refine gg_aload_n (pc := 68) E dX5_remembers_68 rfl rfl ?_
                refine gg_get (pc := 69) E ck_X5 4 q2863 rfl (by decide) dX5_remembers_69 (gg_i 0 rfl) rfl ?_
                refine gg_topI (y := nI q) hQ ?_
                refine gg_imulN (pc := 72) E 1030 q rfl rfl dX5_remembers_72 ?_
                refine gg_iload_n (pc := 73) E dX5_remembers_73 rfl rfl ?_
                refine gg_iaddN (pc := 74) E (1030 * q) i rfl rfl dX5_remembers_74 ?_
                refine gg_aload_n (pc := 75) E dX5_remembers_75 rfl rfl ?_
                refine gg_get (pc := 76) E ck_X5 0 q2859 rfl (by decide) dX5_remembers_76 (gg_i 0 rfl) rfl ?_
                refine gg_iload_n (pc := 79) E dX5_remembers_79 rfl rfl ?_
                refine gg_ialdN (pc := 80) E i rfl (by omega) (by omega) dX5_remembers_80 (gg_r 0 rfl) ?_
                refine gg_iastN (M' := [_, _]) (pc := 81) E (1030 * q + i) rfl (by omega) (by omega) dX5_remembers_81 1 rfl rfl ?_
                refine gg_iincN (k := 1) (lv' := [_, _]) (pc := 82) E i dX5_remembers_82 rfl rfl rfl (Nat.le_of_ble_eq_true rfl) rfl rfl ?_
                refine gg_goto (tgt := 54) (pc := 85) E dX5_remembers_85 (by decide) ?_
                refine gg_cv ?_ (gg_leS (gg_leS gg_le0)) rfl (by first | exact Nat.le_refl _ | (dsimp only; omega)) (by first | exact Nat.le_refl _ | (dsimp only; omega)) (ih54 P q (i + 1) X (by omega) (hQ) (hq7) (hfin) (hX) (by omega))
                · rw [ub_1 _ _ _ _ _ rfl]
          obtain rfl : i = 8240 := by omega
          refine gg_cv ?_ (gg_leS (gg_leS gg_le0)) rfl (by first | exact Nat.le_refl _ | (dsimp only; omega)) (by first | exact Nat.le_refl _ | (dsimp only; omega)) (L54 _ (ub past 0 7210 (fun k => past (k + 1030))) (pm - 1) 0 _ (Nat.lt_succ_self _) (pk_us) (by omega) (by unfold pst psn; rw [if_pos c6, if_pos c6, c6]; exact ⟨rfl, rfl⟩) (fun z => upd_2 _ _ _ _) (Nat.zero_le _))
          · first | (rw [ub_0]; done) | (rw [ub_0]; rfl)
        · refine gg_aload_n (pc := 20) E dX5_remembers_20 rfl rfl ?_
          refine gg_get (pc := 21) E ck_X5 3 q2862 rfl (by decide) dX5_remembers_21 (gg_i 0 rfl) rfl ?_
          refine gg_iload_n (pc := 24) E dX5_remembers_24 rfl rfl ?_
          refine gg_sipush (v := 1030) (pc := 25) E dX5_remembers_25 (by decide) ?_
          refine gg_isubN (pc := 28) E i 1030 rfl rfl (by omega) dX5_remembers_28 ?_
          refine gg_aload_n (pc := 29) E dX5_remembers_29 rfl rfl ?_
          refine gg_get (pc := 30) E ck_X5 3 q2862 rfl (by decide) dX5_remembers_30 (gg_i 0 rfl) rfl ?_
          refine gg_iload_n (pc := 33) E dX5_remembers_33 rfl rfl ?_
          refine gg_ialdN (pc := 34) E i rfl (by omega) (by omega) dX5_remembers_34 (gg_i 1 rfl) ?_
          refine gg_topI (y := past i) (by repeat (first | rw [pk_us] | rw [pk_un (by omega)] | rw [ub_out _ _ _ _ (by omega)] | rw [cn_out (by omega)] | rw [he_out (by omega)])) ?_
          refine gg_iastN (M' := [_, _]) (pc := 35) E (i - 1030) rfl (by omega) (by omega) dX5_remembers_35 1 rfl rfl ?_
          refine gg_iincN (k := 1) (lv' := [_, _]) (pc := 36) E i dX5_remembers_36 rfl rfl rfl (Nat.le_of_ble_eq_true rfl) rfl rfl ?_
          refine gg_goto (tgt := 13) (pc := 39) E dX5_remembers_39 (by decide) ?_
          refine gg_cv ?_ (gg_leS (gg_leS gg_le0)) rfl (by first | exact Nat.le_refl _ | (dsimp only; omega)) (by first | exact Nat.le_refl _ | (dsimp only; omega)) (ih13 (i + 1) (by omega) (by omega) (by omega))
          · rw [show i + 1 - 1030 = (i - 1030) + 1 by omega, ub0_1 past (i - 1030) (fun k => past (k + 1030)) (past i) (show past i = past (i - 1030 + 1030) by rw [Nat.sub_add_cancel (by omega)])]
    refine gg_cv ?_ (gg_leS (gg_leS gg_le0)) rfl (by first | exact Nat.le_refl _ | (dsimp only; omega)) (by first | exact Nat.le_refl _ | (dsimp only; omega)) (L13 _ 1030 (Nat.lt_succ_self _) (Nat.le_refl _) (by omega))
    · rw [ub_0]
set_option maxHeartbeats 4000000 in
theorem ct_X5_newRoof {l : Launch} (hl : l.stackTraces = false) {g : gg_G}  {h : Nat} {ad : Nat → Nat} {x : Nat → Int32} {row : Nat → Int32} {sp : Nat → Int32} {nr len : Nat} {b e2 f pu : Int32} (hnr : row 0 = nI nr) (hnr9 : nr < 10) (hlen : x 8 = nI len) (hl6 : len ≤ 6) : gg_C l g yX5_newRoof (ws_ yX5_newRoof cX5_newRoof 7 none) { frames := 1, cells := 0, slots := 0, locals := 20 } [.ref h, .int b, .int e2, .int f, .int pu] [(h, .inl (4, mo_f ad x)), ((ad 7), gg_ai g 6 sp)] [[((ad 0), gg_ai g 1030 row)]] (fun vv CC => vv = none ∧ CC = [[((ad 0), gg_ai g 1030 (nro row nr len sp b e2 f pu))]]) gg_no := by
  refine gg_of (lv := [_, _, _, _, _, _, _]) (by decide) hl (Nat.le_of_ble_eq_true rfl) rfl ?_
  intro p e R s m args below meth c A Q hRf hRl hRc hRs E Fn hnm hex
  refine gg_aload_n (pc := 0) E dX5_newRoof_0 rfl rfl ?_
  refine gg_get (pc := 1) E ck_X5 0 q2859 rfl (by decide) dX5_newRoof_1 (gg_r 0 rfl) rfl ?_
  refine gg_iconst (v := 0) (pc := 4) E dX5_newRoof_4 (by decide) ?_
  refine gg_ialdN (pc := 5) E 0 rfl (by omega) (by omega) dX5_newRoof_5 (gg_i 0 rfl) ?_
  rw [hnr]
  refine gg_callS (F := [_]) (As := [.int (nI nr)]) (rest := []) (pc := 6) E (ct_X5_r hl ) (va_cwS 1 E.2.2.2.2.1 (lw_S q2849 q2850 q179 q2851) rfl rfl rfl (by decide +kernel) ⟨by rw [hRf]; exact Nat.le_of_ble_eq_true rfl, by rw [hRl]; exact Nat.le_of_ble_eq_true rfl⟩) dX5_newRoof_6 [] (by decide) rfl rfl (fun _ h => by cases h) rfl rfl (Nat.le_of_ble_eq_true rfl) (by first | (rw [hRc]; exact Nat.le_of_ble_eq_true rfl) | (rw [hRc]; dsimp only; omega)) (by first | (rw [hRs]; exact Nat.le_of_ble_eq_true rfl) | (rw [hRs]; dsimp only; omega)) ?_ (fun X q C1 h => h.elim)
  rintro _ _ ⟨rfl, rfl⟩
  dsimp only [List.cons_append, List.nil_append, Option.toList]
  refine gg_istore (lv' := [_, _, _, _, _, _, _]) (pc := 9) E dX5_newRoof_9 (Nat.le_of_ble_eq_true rfl) rfl rfl ?_
  refine gg_aload_n (pc := 11) E dX5_newRoof_11 rfl rfl ?_
  refine gg_get (pc := 12) E ck_X5 0 q2859 rfl (by decide) dX5_newRoof_12 (gg_r 0 rfl) rfl ?_
  refine gg_iload (pc := 15) E dX5_newRoof_15 rfl ?_
  refine gg_aload_n (pc := 17) E dX5_newRoof_17 rfl rfl ?_
  refine gg_get (pc := 18) E ck_X5 8 q2867 rfl (by decide) dX5_newRoof_18 (gg_r 0 rfl) rfl ?_
  refine gg_topI (y := nI len) hlen ?_
  refine gg_iastN (M' := [_]) (pc := 21) E (25 + 13 * nr) rfl (by omega) (by omega) dX5_newRoof_21 0 rfl rfl ?_
  refine gg_iconst (v := 0) (pc := 22) E dX5_newRoof_22 (by decide) ?_
  refine gg_istore (lv' := [_, _, _, _, _, _, _]) (pc := 23) E dX5_newRoof_23 (Nat.le_of_ble_eq_true rfl) rfl rfl ?_
  have L25 : ∀ (n : Nat) (i : Nat), len - i < n → (i ≤ len) → gg_W p l e R s m args below meth c g A 7 Q 0 0 [[((ad 0), gg_ai g 1030 (ub (upd row (25 + 13 * nr) (nI len)) (25 + 13 * nr + 1) i sp))]] [some (.ref h), some (.int b), some (.int e2), some (.int f), some (.int pu), some (.int (nI (25 + 13 * nr))), some (.int (nI i))] [] 25 := by
    intro n25
    induction n25 with
    | zero => intro i hmz; exact absurd hmz (Nat.not_lt_zero _)
    | succ n25 ih25 =>
      intro i hm25 hi
      refine gg_iload (pc := 25) E dX5_newRoof_25 rfl ?_
      refine gg_aload_n (pc := 27) E dX5_newRoof_27 rfl rfl ?_
      refine gg_get (pc := 28) E ck_X5 8 q2867 rfl (by decide) dX5_newRoof_28 (gg_r 0 rfl) rfl ?_
      refine gg_topI (y := nI len) hlen ?_
      refine gg_icmpN_ge (tgt := 59) (pc := 31) E i len rfl rfl (by omega) (by omega) dX5_newRoof_31 (by decide) (fun c31 => ?_) (fun c31 => ?_)
      · refine gg_aload_n (pc := 59) E dX5_newRoof_59 rfl rfl ?_
        refine gg_get (pc := 60) E ck_X5 0 q2859 rfl (by decide) dX5_newRoof_60 (gg_r 0 rfl) rfl ?_
        refine gg_iload (pc := 63) E dX5_newRoof_63 rfl ?_
        refine gg_bipush (v := 7) (pc := 65) E dX5_newRoof_65 (by decide) ?_
        refine gg_iaddN (pc := 67) E (25 + 13 * nr) 7 rfl rfl dX5_newRoof_67 ?_
        refine gg_iload_n (pc := 68) E dX5_newRoof_68 rfl rfl ?_
        refine gg_iastN (M' := [_]) (pc := 69) E ((25 + 13 * nr) + 7) rfl (by omega) (by omega) dX5_newRoof_69 0 rfl rfl ?_
        refine gg_aload_n (pc := 70) E dX5_newRoof_70 rfl rfl ?_
        refine gg_get (pc := 71) E ck_X5 0 q2859 rfl (by decide) dX5_newRoof_71 (gg_r 0 rfl) rfl ?_
        refine gg_iload (pc := 74) E dX5_newRoof_74 rfl ?_
        refine gg_bipush (v := 8) (pc := 76) E dX5_newRoof_76 (by decide) ?_
        refine gg_iaddN (pc := 78) E (25 + 13 * nr) 8 rfl rfl dX5_newRoof_78 ?_
        refine gg_iload_n (pc := 79) E dX5_newRoof_79 rfl rfl ?_
        refine gg_iastN (M' := [_]) (pc := 80) E ((25 + 13 * nr) + 8) rfl (by omega) (by omega) dX5_newRoof_80 0 rfl rfl ?_
        refine gg_aload_n (pc := 81) E dX5_newRoof_81 rfl rfl ?_
        refine gg_get (pc := 82) E ck_X5 0 q2859 rfl (by decide) dX5_newRoof_82 (gg_r 0 rfl) rfl ?_
        refine gg_iload (pc := 85) E dX5_newRoof_85 rfl ?_
        refine gg_bipush (v := 9) (pc := 87) E dX5_newRoof_87 (by decide) ?_
        refine gg_iaddN (pc := 89) E (25 + 13 * nr) 9 rfl rfl dX5_newRoof_89 ?_
        refine gg_iload_n (pc := 90) E dX5_newRoof_90 rfl rfl ?_
        refine gg_iastN (M' := [_]) (pc := 91) E ((25 + 13 * nr) + 9) rfl (by omega) (by omega) dX5_newRoof_91 0 rfl rfl ?_
        refine gg_aload_n (pc := 92) E dX5_newRoof_92 rfl rfl ?_
        refine gg_get (pc := 93) E ck_X5 0 q2859 rfl (by decide) dX5_newRoof_93 (gg_r 0 rfl) rfl ?_
        refine gg_iload (pc := 96) E dX5_newRoof_96 rfl ?_
        refine gg_bipush (v := 10) (pc := 98) E dX5_newRoof_98 (by decide) ?_
        refine gg_iaddN (pc := 100) E (25 + 13 * nr) 10 rfl rfl dX5_newRoof_100 ?_
        refine gg_iload (pc := 101) E dX5_newRoof_101 rfl ?_
        refine gg_iastN (M' := [_]) (pc := 103) E ((25 + 13 * nr) + 10) rfl (by omega) (by omega) dX5_newRoof_103 0 rfl rfl ?_
        refine gg_aload_n (pc := 104) E dX5_newRoof_104 rfl rfl ?_
        refine gg_get (pc := 105) E ck_X5 0 q2859 rfl (by decide) dX5_newRoof_105 (gg_r 0 rfl) rfl ?_
        refine gg_bipush (v := 7) (pc := 108) E dX5_newRoof_108 (by decide) ?_
        refine gg_dup2_11 (pc := 110) E dX5_newRoof_110 rfl rfl ?_
        refine gg_ialdN (pc := 111) E 7 rfl (by omega) (by omega) dX5_newRoof_111 (gg_i 0 rfl) ?_
        refine gg_topI (y := row 7) (by repeat (first | rw [pk_us] | rw [pk_un (by omega)] | rw [ub_out _ _ _ _ (by omega)] | rw [cn_out (by omega)] | rw [he_out (by omega)])) ?_
        refine gg_iload (pc := 112) E dX5_newRoof_112 rfl ?_
        refine gg_iadd (pc := 114) E dX5_newRoof_114 ?_
        refine gg_iastN (M' := [_]) (pc := 115) E 7 rfl (by omega) (by omega) dX5_newRoof_115 0 rfl rfl ?_
        refine gg_aload_n (pc := 116) E dX5_newRoof_116 rfl rfl ?_
        refine gg_get (pc := 117) E ck_X5 0 q2859 rfl (by decide) dX5_newRoof_117 (gg_r 0 rfl) rfl ?_
        refine gg_iconst (v := 0) (pc := 120) E dX5_newRoof_120 (by decide) ?_
        refine gg_dup2_11 (pc := 121) E dX5_newRoof_121 rfl rfl ?_
        refine gg_ialdN (pc := 122) E 0 rfl (by omega) (by omega) dX5_newRoof_122 (gg_i 0 rfl) ?_
        refine gg_topI (y := row 0) (by repeat (first | rw [pk_us] | rw [pk_un (by omega)] | rw [ub_out _ _ _ _ (by omega)] | rw [cn_out (by omega)] | rw [he_out (by omega)])) ?_
        rw [hnr]
        refine gg_iconst (v := 1) (pc := 123) E dX5_newRoof_123 (by decide) ?_
        refine gg_iaddN (pc := 124) E nr 1 rfl rfl dX5_newRoof_124 ?_
        refine gg_iastN (M' := [_]) (pc := 125) E 0 rfl (by omega) (by omega) dX5_newRoof_125 0 rfl rfl ?_
        refine gg_vret (pc := 126) E Fn rfl dX5_newRoof_126 (by first | exact Nat.le_of_ble_eq_true rfl | (dsimp only; omega)) (by first | exact Nat.le_of_ble_eq_true rfl | (dsimp only; omega)) ?_
        obtain rfl : i = len := by omega
        exact ⟨rfl, rfl⟩
      · refine gg_aload_n (pc := 34) E dX5_newRoof_34 rfl rfl ?_
        refine gg_get (pc := 35) E ck_X5 0 q2859 rfl (by decide) dX5_newRoof_35 (gg_r 0 rfl) rfl ?_
        refine gg_iload (pc := 38) E dX5_newRoof_38 rfl ?_
        refine gg_iconst (v := 1) (pc := 40) E dX5_newRoof_40 (by decide) ?_
        refine gg_iaddN (pc := 41) E (25 + 13 * nr) 1 rfl rfl dX5_newRoof_41 ?_
        refine gg_iload (pc := 42) E dX5_newRoof_42 rfl ?_
        refine gg_iaddN (pc := 44) E ((25 + 13 * nr) + 1) i rfl rfl dX5_newRoof_44 ?_
        refine gg_aload_n (pc := 45) E dX5_newRoof_45 rfl rfl ?_
        refine gg_get (pc := 46) E ck_X5 7 q2866 rfl (by decide) dX5_newRoof_46 (gg_r 0 rfl) rfl ?_
        refine gg_iload (pc := 49) E dX5_newRoof_49 rfl ?_
        refine gg_ialdN (pc := 51) E i rfl (by omega) (by omega) dX5_newRoof_51 (gg_r 1 rfl) ?_
        refine gg_iastN (M' := [_]) (pc := 52) E ((25 + 13 * nr) + 1 + i) rfl (by omega) (by omega) dX5_newRoof_52 0 rfl rfl ?_
        refine gg_iincN (k := 1) (lv' := [_, _, _, _, _, _, _]) (pc := 53) E i dX5_newRoof_53 rfl rfl rfl (Nat.le_of_ble_eq_true rfl) rfl rfl ?_
        refine gg_goto (tgt := 25) (pc := 56) E dX5_newRoof_56 (by decide) ?_
        refine gg_cv ?_ (gg_leS (gg_leS (gg_leS (gg_leS (gg_leS (gg_leS (gg_leS gg_le0))))))) rfl (by first | exact Nat.le_refl _ | (dsimp only; omega)) (by first | exact Nat.le_refl _ | (dsimp only; omega)) (ih25 (i + 1) (by omega) (by omega))
        · rw [ub_1 _ _ _ _ _ rfl]
  refine gg_cv ?_ (gg_leS (gg_leS (gg_leS (gg_leS (gg_leS (gg_leS (gg_leS gg_le0))))))) rfl (by first | exact Nat.le_refl _ | (dsimp only; omega)) (by first | exact Nat.le_refl _ | (dsimp only; omega)) (L25 _ 0 (Nat.lt_succ_self _) (Nat.zero_le _))
  · first | (rw [ub_0]; done) | (rw [ub_0]; rfl)
set_option maxHeartbeats 4000000 in
theorem ct_X5_newWay {l : Launch} (hl : l.stackTraces = false) {g : gg_G}  {h : Nat} {ad : Nat → Nat} {x : Nat → Int32} {row : Nat → Int32} {nw : Nat} {a b f : Int32} (hnw : row 1 = nI nw) (hnw19 : nw < 20) : gg_C l g yX5_newWay (ws_ yX5_newWay cX5_newWay 4 none) { frames := 1, cells := 0, slots := 0, locals := 20 } [.ref h, .int a, .int b, .int f] [(h, .inl (4, mo_f ad x))] [[((ad 0), gg_ai g 1030 row)]] (fun vv CC => vv = none ∧ CC = [[((ad 0), gg_ai g 1030 (nwy row nw a b f))]]) gg_no := by
  refine gg_of (lv := [_, _, _, _]) (by decide) hl (Nat.le_of_ble_eq_true rfl) rfl ?_
  intro p e R s m args below meth c A Q hRf hRl hRc hRs E Fn hnm hex
  refine gg_aload_n (pc := 0) E dX5_newWay_0 rfl rfl ?_
  refine gg_get (pc := 1) E ck_X5 0 q2859 rfl (by decide) dX5_newWay_1 (gg_r 0 rfl) rfl ?_
  refine gg_aload_n (pc := 4) E dX5_newWay_4 rfl rfl ?_
  refine gg_get (pc := 5) E ck_X5 0 q2859 rfl (by decide) dX5_newWay_5 (gg_r 0 rfl) rfl ?_
  refine gg_iconst (v := 1) (pc := 8) E dX5_newWay_8 (by decide) ?_
  refine gg_ialdN (pc := 9) E 1 rfl (by omega) (by omega) dX5_newWay_9 (gg_i 0 rfl) ?_
  rw [hnw]
  refine gg_callS (F := [_]) (As := [.int (nI nw)]) (rest := [_]) (pc := 10) E (ct_X5_w hl ) (va_cwS 1 E.2.2.2.2.1 (lw_S q2856 q2857 q179 q2858) rfl rfl rfl (by decide +kernel) ⟨by rw [hRf]; exact Nat.le_of_ble_eq_true rfl, by rw [hRl]; exact Nat.le_of_ble_eq_true rfl⟩) dX5_newWay_10 [] (by decide) rfl rfl (fun _ h => by cases h) rfl rfl (Nat.le_of_ble_eq_true rfl) (by first | (rw [hRc]; exact Nat.le_of_ble_eq_true rfl) | (rw [hRc]; dsimp only; omega)) (by first | (rw [hRs]; exact Nat.le_of_ble_eq_true rfl) | (rw [hRs]; dsimp only; omega)) ?_ (fun X q C1 h => h.elim)
  rintro _ _ ⟨rfl, rfl⟩
  dsimp only [List.cons_append, List.nil_append, Option.toList]
  refine gg_iload_n (pc := 13) E dX5_newWay_13 rfl rfl ?_
  refine gg_iastN (M' := [_]) (pc := 14) E (160 + 3 * nw) rfl (by omega) (by omega) dX5_newWay_14 0 rfl rfl ?_
  refine gg_aload_n (pc := 15) E dX5_newWay_15 rfl rfl ?_
  refine gg_get (pc := 16) E ck_X5 0 q2859 rfl (by decide) dX5_newWay_16 (gg_r 0 rfl) rfl ?_
  refine gg_aload_n (pc := 19) E dX5_newWay_19 rfl rfl ?_
  refine gg_get (pc := 20) E ck_X5 0 q2859 rfl (by decide) dX5_newWay_20 (gg_r 0 rfl) rfl ?_
  refine gg_iconst (v := 1) (pc := 23) E dX5_newWay_23 (by decide) ?_
  refine gg_ialdN (pc := 24) E 1 rfl (by omega) (by omega) dX5_newWay_24 (gg_i 0 rfl) ?_
  refine gg_topI (y := row 1) (by repeat (first | rw [pk_us] | rw [pk_un (by omega)] | rw [ub_out _ _ _ _ (by omega)] | rw [cn_out (by omega)] | rw [he_out (by omega)])) ?_
  rw [hnw]
  refine gg_callS (F := [_]) (As := [.int (nI nw)]) (rest := [_]) (pc := 25) E (ct_X5_w hl ) (va_cwS 1 E.2.2.2.2.1 (lw_S q2856 q2857 q179 q2858) rfl rfl rfl (by decide +kernel) ⟨by rw [hRf]; exact Nat.le_of_ble_eq_true rfl, by rw [hRl]; exact Nat.le_of_ble_eq_true rfl⟩) dX5_newWay_25 [] (by decide) rfl rfl (fun _ h => by cases h) rfl rfl (Nat.le_of_ble_eq_true rfl) (by first | (rw [hRc]; exact Nat.le_of_ble_eq_true rfl) | (rw [hRc]; dsimp only; omega)) (by first | (rw [hRs]; exact Nat.le_of_ble_eq_true rfl) | (rw [hRs]; dsimp only; omega)) ?_ (fun X q C1 h => h.elim)
  rintro _ _ ⟨rfl, rfl⟩
  dsimp only [List.cons_append, List.nil_append, Option.toList]
  refine gg_iconst (v := 1) (pc := 28) E dX5_newWay_28 (by decide) ?_
  refine gg_iaddN (pc := 29) E (160 + 3 * nw) 1 rfl rfl dX5_newWay_29 ?_
  refine gg_iload_n (pc := 30) E dX5_newWay_30 rfl rfl ?_
  refine gg_iastN (M' := [_]) (pc := 31) E ((160 + 3 * nw) + 1) rfl (by omega) (by omega) dX5_newWay_31 0 rfl rfl ?_
  refine gg_aload_n (pc := 32) E dX5_newWay_32 rfl rfl ?_
  refine gg_get (pc := 33) E ck_X5 0 q2859 rfl (by decide) dX5_newWay_33 (gg_r 0 rfl) rfl ?_
  refine gg_aload_n (pc := 36) E dX5_newWay_36 rfl rfl ?_
  refine gg_get (pc := 37) E ck_X5 0 q2859 rfl (by decide) dX5_newWay_37 (gg_r 0 rfl) rfl ?_
  refine gg_iconst (v := 1) (pc := 40) E dX5_newWay_40 (by decide) ?_
  refine gg_ialdN (pc := 41) E 1 rfl (by omega) (by omega) dX5_newWay_41 (gg_i 0 rfl) ?_
  refine gg_topI (y := row 1) (by repeat (first | rw [pk_us] | rw [pk_un (by omega)] | rw [ub_out _ _ _ _ (by omega)] | rw [cn_out (by omega)] | rw [he_out (by omega)])) ?_
  rw [hnw]
  refine gg_callS (F := [_]) (As := [.int (nI nw)]) (rest := [_]) (pc := 42) E (ct_X5_w hl ) (va_cwS 1 E.2.2.2.2.1 (lw_S q2856 q2857 q179 q2858) rfl rfl rfl (by decide +kernel) ⟨by rw [hRf]; exact Nat.le_of_ble_eq_true rfl, by rw [hRl]; exact Nat.le_of_ble_eq_true rfl⟩) dX5_newWay_42 [] (by decide) rfl rfl (fun _ h => by cases h) rfl rfl (Nat.le_of_ble_eq_true rfl) (by first | (rw [hRc]; exact Nat.le_of_ble_eq_true rfl) | (rw [hRc]; dsimp only; omega)) (by first | (rw [hRs]; exact Nat.le_of_ble_eq_true rfl) | (rw [hRs]; dsimp only; omega)) ?_ (fun X q C1 h => h.elim)
  rintro _ _ ⟨rfl, rfl⟩
  dsimp only [List.cons_append, List.nil_append, Option.toList]
  refine gg_iconst (v := 2) (pc := 45) E dX5_newWay_45 (by decide) ?_
  refine gg_iaddN (pc := 46) E (160 + 3 * nw) 2 rfl rfl dX5_newWay_46 ?_
  refine gg_iload_n (pc := 47) E dX5_newWay_47 rfl rfl ?_
  refine gg_iastN (M' := [_]) (pc := 48) E ((160 + 3 * nw) + 2) rfl (by omega) (by omega) dX5_newWay_48 0 rfl rfl ?_
  refine gg_aload_n (pc := 49) E dX5_newWay_49 rfl rfl ?_
  refine gg_get (pc := 50) E ck_X5 0 q2859 rfl (by decide) dX5_newWay_50 (gg_r 0 rfl) rfl ?_
  refine gg_iconst (v := 1) (pc := 53) E dX5_newWay_53 (by decide) ?_
  refine gg_dup2_11 (pc := 54) E dX5_newWay_54 rfl rfl ?_
  refine gg_ialdN (pc := 55) E 1 rfl (by omega) (by omega) dX5_newWay_55 (gg_i 0 rfl) ?_
  refine gg_topI (y := row 1) (by repeat (first | rw [pk_us] | rw [pk_un (by omega)] | rw [ub_out _ _ _ _ (by omega)] | rw [cn_out (by omega)] | rw [he_out (by omega)])) ?_
  rw [hnw]
  refine gg_iconst (v := 1) (pc := 56) E dX5_newWay_56 (by decide) ?_
  refine gg_iaddN (pc := 57) E nw 1 rfl rfl dX5_newWay_57 ?_
  refine gg_iastN (M' := [_]) (pc := 58) E 1 rfl (by omega) (by omega) dX5_newWay_58 0 rfl rfl ?_
  refine gg_vret (pc := 59) E Fn rfl dX5_newWay_59 (by first | exact Nat.le_of_ble_eq_true rfl | (dsimp only; omega)) (by first | exact Nat.le_of_ble_eq_true rfl | (dsimp only; omega)) ?_
  exact ⟨rfl, rfl⟩
set_option maxHeartbeats 4000000 in
theorem ct_X5_named {l : Launch} (hl : l.stackTraces = false) {g : gg_G}  {h : Nat} {ad : Nat → Nat} {x : Nat → Int32} {row : Nat → Int32} {sp : Nat → Int32} {nr len : Nat} (hnr : row 0 = nI nr) (hr10 : nr ≤ 10) (hlen : x 8 = nI len) (hl6 : len ≤ 6) : gg_C l g yX5_named (ws_ yX5_named cX5_named 4 (some .int)) { frames := 1, cells := 0, slots := 0, locals := 20 } [.ref h] [(h, .inl (4, mo_f ad x)), ((ad 0), gg_ai g 1030 row), ((ad 7), gg_ai g 6 sp)] [] (fun vv CC => vv = some (.int (fi (fun i => (row (25 + 13 * i) = nI len ∧ ∀ j, j < len → row (25 + 13 * i + 1 + j) = sp j)) nr)) ∧ CC = []) gg_no := by
  refine gg_of (lv := [_, _, _, _]) (by decide) hl (Nat.le_of_ble_eq_true rfl) rfl ?_
  intro p e R s m args below meth c A Q hRf hRl hRc hRs E Fn hnm hex
  refine gg_iconst (v := 0) (pc := 0) E dX5_named_0 (by decide) ?_
  refine gg_istore_n (lv' := [_, _, _, _]) (pc := 1) E dX5_named_1 rfl (Nat.le_of_ble_eq_true rfl) rfl rfl ?_
  have L2 : ∀ (n : Nat) (i : Nat), nr - i < n → (i ≤ nr) → (∀ i0, i0 < i → ¬ (row (25 + 13 * i0) = nI len ∧ ∀ j, j < len → row (25 + 13 * i0 + 1 + j) = sp j)) → gg_W p l e R s m args below meth c g A 4 Q 0 0 [] [some (.ref h), some (.int (nI i)), none, none] [] 2 := by
    intro n2
    induction n2 with
    | zero => intro i hmz; exact absurd hmz (Nat.not_lt_zero _)
    | succ n2 ih2 =>
      intro i hm2 hi hm
      refine gg_iload_n (pc := 2) E dX5_named_2 rfl rfl ?_
      refine gg_aload_n (pc := 3) E dX5_named_3 rfl rfl ?_
      refine gg_get (pc := 4) E ck_X5 0 q2859 rfl (by decide) dX5_named_4 (gg_r 0 rfl) rfl ?_
      refine gg_iconst (v := 0) (pc := 7) E dX5_named_7 (by decide) ?_
      refine gg_ialdN (pc := 8) E 0 rfl (by omega) (by omega) dX5_named_8 (gg_r 1 rfl) ?_
      rw [hnr]
      refine gg_icmpN_ge (tgt := 94) (pc := 9) E i nr rfl rfl (by omega) (by omega) dX5_named_9 (by decide) (fun c9 => ?_) (fun c9 => ?_)
      · refine gg_iconst (v := (-1)) (pc := 94) E dX5_named_94 (by decide) ?_
        refine gg_iret (pc := 95) E Fn rfl (rfl) dX5_named_95 (by first | exact Nat.le_of_ble_eq_true rfl | (dsimp only; omega)) (by first | exact Nat.le_of_ble_eq_true rfl | (dsimp only; omega)) ?_
        obtain rfl : i = nr := by omega
        exact ⟨by rw [fi_none hm], rfl⟩
      · refine gg_aload_n (pc := 12) E dX5_named_12 rfl rfl ?_
        refine gg_get (pc := 13) E ck_X5 0 q2859 rfl (by decide) dX5_named_13 (gg_r 0 rfl) rfl ?_
        refine gg_iload_n (pc := 16) E dX5_named_16 rfl rfl ?_
        refine gg_callS (F := []) (As := [.int (nI i)]) (rest := [_]) (pc := 17) E (ct_X5_r hl ) (va_cwS 1 E.2.2.2.2.1 (lw_S q2849 q2850 q179 q2851) rfl rfl rfl (by decide +kernel) ⟨by rw [hRf]; exact Nat.le_of_ble_eq_true rfl, by rw [hRl]; exact Nat.le_of_ble_eq_true rfl⟩) dX5_named_17 [] (by decide) rfl rfl (fun _ h => by cases h) rfl rfl (Nat.le_of_ble_eq_true rfl) (by first | (rw [hRc]; exact Nat.le_of_ble_eq_true rfl) | (rw [hRc]; dsimp only; omega)) (by first | (rw [hRs]; exact Nat.le_of_ble_eq_true rfl) | (rw [hRs]; dsimp only; omega)) ?_ (fun X q C1 h => h.elim)
        rintro _ _ ⟨rfl, rfl⟩
        dsimp only [List.cons_append, List.nil_append, Option.toList]
        refine gg_ialdN (pc := 20) E (25 + 13 * i) rfl (by omega) (by omega) dX5_named_20 (gg_r 1 rfl) ?_
        refine gg_aload_n (pc := 21) E dX5_named_21 rfl rfl ?_
        refine gg_get (pc := 22) E ck_X5 8 q2867 rfl (by decide) dX5_named_22 (gg_r 0 rfl) rfl ?_
        refine gg_topI (y := nI len) hlen ?_
        refine gg_icmpB_ne (pc := 25) E dX5_named_25 dX5_named_28 dX5_named_29 dX5_named_32 ?_
        refine gg_istore_n (lv' := [_, _, _, _]) (pc := 33) E dX5_named_33 rfl (Nat.le_of_ble_eq_true rfl) rfl rfl ?_
        refine gg_iconst (v := 0) (pc := 34) E dX5_named_34 (by decide) ?_
        refine gg_istore_n (lv' := [_, _, _, _]) (pc := 35) E dX5_named_35 rfl (Nat.le_of_ble_eq_true rfl) rfl rfl ?_
        have L36 : ∀ (n : Nat) (k : Nat), len - k < n → (k ≤ len) → gg_W p l e R s m args below meth c g A 4 Q 0 0 [] [some (.ref h), some (.int (nI i)), some (.int (if (row (25 + 13 * i) = nI len ∧ ∀ j, j < k → row (25 + 13 * i + 1 + j) = sp j) then 1 else 0)), some (.int (nI k))] [] 36 := by
          intro n36
          induction n36 with
          | zero => intro k hmz; exact absurd hmz (Nat.not_lt_zero _)
          | succ n36 ih36 =>
            intro k hm36 hk
            refine gg_iload_n (pc := 36) E dX5_named_36 rfl rfl ?_
            refine gg_aload_n (pc := 37) E dX5_named_37 rfl rfl ?_
            refine gg_get (pc := 38) E ck_X5 8 q2867 rfl (by decide) dX5_named_38 (gg_r 0 rfl) rfl ?_
            refine gg_topI (y := nI len) hlen ?_
            refine gg_icmpN_ge (tgt := 82) (pc := 41) E k len rfl rfl (by omega) (by omega) dX5_named_41 (by decide) (fun c41 => ?_) (fun c41 => ?_)
            · refine gg_iload_n (pc := 82) E dX5_named_82 rfl rfl ?_
              refine gg_ifP_eq (tgt := 88) (pc := 83) E dX5_named_83 (by decide) (fun c83 => ?_) (fun c83 => ?_)
              · refine gg_iincN (k := 1) (lv' := [_, _, _, _]) (pc := 88) E i dX5_named_88 rfl rfl rfl (Nat.le_of_ble_eq_true rfl) rfl rfl ?_
                refine gg_goto (tgt := 2) (pc := 91) E dX5_named_91 (by decide) ?_
                refine gg_cv rfl (gg_leS (gg_leS (gg_leN (gg_leN gg_le0)))) rfl (by first | exact Nat.le_refl _ | (dsimp only; omega)) (by first | exact Nat.le_refl _ | (dsimp only; omega)) (ih2 (i + 1) (by omega) (by omega) (all_s hm (fun q => c83 ⟨q.1, fun j hj => q.2 j (by omega)⟩)))
              · refine gg_iload_n (pc := 86) E dX5_named_86 rfl rfl ?_
                refine gg_iret (pc := 87) E Fn rfl (rfl) dX5_named_87 (by first | exact Nat.le_of_ble_eq_true rfl | (dsimp only; omega)) (by first | exact Nat.le_of_ble_eq_true rfl | (dsimp only; omega)) ?_
                exact ⟨by rw [fi_some (by omega) ⟨c83.1, fun j hj => c83.2 j (by omega)⟩ hm], rfl⟩
            · refine gg_iload_n (pc := 44) E dX5_named_44 rfl rfl ?_
              refine gg_ifP_eq (tgt := 82) (pc := 45) E dX5_named_45 (by decide) (fun c45 => ?_) (fun c45 => ?_)
              · refine gg_iload_n (pc := 82) E dX5_named_82 rfl rfl ?_
                refine gg_ifP_eq (tgt := 88) (pc := 83) E dX5_named_83 (by decide) (fun c83 => ?_) (fun c83 => ?_)
                · refine gg_iincN (k := 1) (lv' := [_, _, _, _]) (pc := 88) E i dX5_named_88 rfl rfl rfl (Nat.le_of_ble_eq_true rfl) rfl rfl ?_
                  refine gg_goto (tgt := 2) (pc := 91) E dX5_named_91 (by decide) ?_
                  refine gg_cv rfl (gg_leS (gg_leS (gg_leN (gg_leN gg_le0)))) rfl (by first | exact Nat.le_refl _ | (dsimp only; omega)) (by first | exact Nat.le_refl _ | (dsimp only; omega)) (ih2 (i + 1) (by omega) (by omega) (all_s hm (fun q => c83 ⟨q.1, fun j hj => q.2 j (by omega)⟩)))
                · refine gg_iload_n (pc := 86) E dX5_named_86 rfl rfl ?_
                  refine gg_iret (pc := 87) E Fn rfl (rfl) dX5_named_87 (by first | exact Nat.le_of_ble_eq_true rfl | (dsimp only; omega)) (by first | exact Nat.le_of_ble_eq_true rfl | (dsimp only; omega)) ?_
                  exact absurd c83 c45
              · refine gg_aload_n (pc := 48) E dX5_named_48 rfl rfl ?_
                refine gg_get (pc := 49) E ck_X5 0 q2859 rfl (by decide) dX5_named_49 (gg_r 0 rfl) rfl ?_
                refine gg_iload_n (pc := 52) E dX5_named_52 rfl rfl ?_
                refine gg_callS (F := []) (As := [.int (nI i)]) (rest := [_]) (pc := 53) E (ct_X5_r hl ) (va_cwS 1 E.2.2.2.2.1 (lw_S q2849 q2850 q179 q2851) rfl rfl rfl (by decide +kernel) ⟨by rw [hRf]; exact Nat.le_of_ble_eq_true rfl, by rw [hRl]; exact Nat.le_of_ble_eq_true rfl⟩) dX5_named_53 [] (by decide) rfl rfl (fun _ h => by cases h) rfl rfl (Nat.le_of_ble_eq_true rfl) (by first | (rw [hRc]; exact Nat.le_of_ble_eq_true rfl) | (rw [hRc]; dsimp only; omega)) (by first | (rw [hRs]; exact Nat.le_of_ble_eq_true rfl) | (rw [hRs]; dsimp only; omega)) ?_ (fun X q C1 h => h.elim)
                rintro _ _ ⟨rfl, rfl⟩
                dsimp only [List.cons_append, List.nil_append, Option.toList]
                refine gg_iconst (v := 1) (pc := 56) E dX5_named_56 (by decide) ?_
                refine gg_iaddN (pc := 57) E (25 + 13 * i) 1 rfl rfl dX5_named_57 ?_
                refine gg_iload_n (pc := 58) E dX5_named_58 rfl rfl ?_
                refine gg_iaddN (pc := 59) E ((25 + 13 * i) + 1) k rfl rfl dX5_named_59 ?_
                refine gg_ialdN (pc := 60) E ((25 + 13 * i) + 1 + k) rfl (by omega) (by omega) dX5_named_60 (gg_r 1 rfl) ?_
                refine gg_aload_n (pc := 61) E dX5_named_61 rfl rfl ?_
                refine gg_get (pc := 62) E ck_X5 7 q2866 rfl (by decide) dX5_named_62 (gg_r 0 rfl) rfl ?_
                refine gg_iload_n (pc := 65) E dX5_named_65 rfl rfl ?_
                refine gg_ialdN (pc := 66) E k rfl (by omega) (by omega) dX5_named_66 (gg_r 2 rfl) ?_
                refine gg_icmpB_ne (pc := 67) E dX5_named_67 dX5_named_70 dX5_named_71 dX5_named_74 ?_
                refine gg_istore_n (lv' := [_, _, _, _]) (pc := 75) E dX5_named_75 rfl (Nat.le_of_ble_eq_true rfl) rfl rfl ?_
                refine gg_iincN (k := 1) (lv' := [_, _, _, _]) (pc := 76) E k dX5_named_76 rfl rfl rfl (Nat.le_of_ble_eq_true rfl) rfl rfl ?_
                refine gg_goto (tgt := 36) (pc := 79) E dX5_named_79 (by decide) ?_
                refine gg_cv rfl ?_ rfl (by first | exact Nat.le_refl _ | (dsimp only; omega)) (by first | exact Nat.le_refl _ | (dsimp only; omega)) (ih36 (k + 1) (by omega) (by omega))
                · exact ⟨Or.inr rfl, Or.inr rfl, Or.inr (congrArg (fun z => some (Value.int z)) (gg_ifc ⟨fun q => ⟨c45.1, all_s c45.2 q⟩, fun q => q.2 k (by omega)⟩)), Or.inr rfl, trivial⟩
        refine gg_cv rfl ?_ rfl (by first | exact Nat.le_refl _ | (dsimp only; omega)) (by first | exact Nat.le_refl _ | (dsimp only; omega)) (L36 _ 0 (Nat.lt_succ_self _) (Nat.zero_le _))
        · exact ⟨Or.inr rfl, Or.inr rfl, Or.inr (congrArg (fun z => some (Value.int z)) (gg_ifc ⟨fun q => ⟨q, fun j hj => absurd hj (Nat.not_lt_zero j)⟩, fun q => q.1⟩)), Or.inr rfl, trivial⟩
  refine gg_cv rfl (gg_leS (gg_leS (gg_leN (gg_leN gg_le0)))) rfl (by first | exact Nat.le_refl _ | (dsimp only; omega)) (by first | exact Nat.le_refl _ | (dsimp only; omega)) (L2 _ 0 (Nat.lt_succ_self _) (Nat.zero_le _) (fun j hj => absurd hj (Nat.not_lt_zero j)))
set_option maxHeartbeats 4000000 in
theorem ct_X5_hearsAsSent {l : Launch} (hl : l.stackTraces = false) {g : gg_G}  {h : Nat} {ad : Nat → Nat} {x : Nat → Int32} {row : Nat → Int32} {t : Nat} (ht : t < 30) : gg_C l g yX5_hearsAsSent (ws_ yX5_hearsAsSent cX5_hearsAsSent 3 none) { frames := 1, cells := 0, slots := 0, locals := 20 } [.ref h, .int (nI t)] [(h, .inl (4, mo_f ad x))] [[((ad 0), gg_ai g 1030 row)]] (fun vv CC => vv = none ∧ CC = [[((ad 0), gg_ai g 1030 (he row t))]]) gg_no := by
  refine gg_of (lv := [_, _, _]) (by decide) hl (Nat.le_of_ble_eq_true rfl) rfl ?_
  intro p e R s m args below meth c A Q hRf hRl hRc hRs E Fn hnm hex
  refine gg_iconst (v := 0) (pc := 0) E dX5_hearsAsSent_0 (by decide) ?_
  refine gg_istore_n (lv' := [_, _, _]) (pc := 1) E dX5_hearsAsSent_1 rfl (Nat.le_of_ble_eq_true rfl) rfl rfl ?_
  have L2 : ∀ (n : Nat) (i : Nat), 8 - i < n → (i ≤ 8) → gg_W p l e R s m args below meth c g A 3 Q 0 0 [[((ad 0), gg_ai g 1030 (ub row (220 + 27 * t + 19) i (fun i => row (220 + 27 * t + 11 + i))))]] [some (.ref h), some (.int (nI t)), some (.int (nI i))] [] 2 := by
    intro n2
    induction n2 with
    | zero => intro i hmz; exact absurd hmz (Nat.not_lt_zero _)
    | succ n2 ih2 =>
      intro i hm2 hi
      refine gg_iload_n (pc := 2) E dX5_hearsAsSent_2 rfl rfl ?_
      refine gg_bipush (v := 8) (pc := 3) E dX5_hearsAsSent_3 (by decide) ?_
      refine gg_icmpN_ge (tgt := 42) (pc := 5) E i 8 rfl rfl (by omega) (by omega) dX5_hearsAsSent_5 (by decide) (fun c5 => ?_) (fun c5 => ?_)
      · refine gg_vret (pc := 42) E Fn rfl dX5_hearsAsSent_42 (by first | exact Nat.le_of_ble_eq_true rfl | (dsimp only; omega)) (by first | exact Nat.le_of_ble_eq_true rfl | (dsimp only; omega)) ?_
        obtain rfl : i = 8 := by omega
        exact ⟨rfl, rfl⟩
      · refine gg_aload_n (pc := 8) E dX5_hearsAsSent_8 rfl rfl ?_
        refine gg_get (pc := 9) E ck_X5 0 q2859 rfl (by decide) dX5_hearsAsSent_9 (gg_r 0 rfl) rfl ?_
        refine gg_iload_n (pc := 12) E dX5_hearsAsSent_12 rfl rfl ?_
        refine gg_callS (F := [_]) (As := [.int (nI t)]) (rest := [_]) (pc := 13) E (ct_X5_t hl ) (va_cwS 1 E.2.2.2.2.1 (lw_S q3121 q3122 q179 q3123) rfl rfl rfl (by decide +kernel) ⟨by rw [hRf]; exact Nat.le_of_ble_eq_true rfl, by rw [hRl]; exact Nat.le_of_ble_eq_true rfl⟩) dX5_hearsAsSent_13 [] (by decide) rfl rfl (fun _ h => by cases h) rfl rfl (Nat.le_of_ble_eq_true rfl) (by first | (rw [hRc]; exact Nat.le_of_ble_eq_true rfl) | (rw [hRc]; dsimp only; omega)) (by first | (rw [hRs]; exact Nat.le_of_ble_eq_true rfl) | (rw [hRs]; dsimp only; omega)) ?_ (fun X q C1 h => h.elim)
        rintro _ _ ⟨rfl, rfl⟩
        dsimp only [List.cons_append, List.nil_append, Option.toList]
        refine gg_bipush (v := 19) (pc := 16) E dX5_hearsAsSent_16 (by decide) ?_
        refine gg_iaddN (pc := 18) E (220 + 27 * t) 19 rfl rfl dX5_hearsAsSent_18 ?_
        refine gg_iload_n (pc := 19) E dX5_hearsAsSent_19 rfl rfl ?_
        refine gg_iaddN (pc := 20) E ((220 + 27 * t) + 19) i rfl rfl dX5_hearsAsSent_20 ?_
        refine gg_aload_n (pc := 21) E dX5_hearsAsSent_21 rfl rfl ?_
        refine gg_get (pc := 22) E ck_X5 0 q2859 rfl (by decide) dX5_hearsAsSent_22 (gg_r 0 rfl) rfl ?_
        refine gg_iload_n (pc := 25) E dX5_hearsAsSent_25 rfl rfl ?_
        refine gg_callS (F := [_]) (As := [.int (nI t)]) (rest := [_, _, _]) (pc := 26) E (ct_X5_t hl ) (va_cwS 1 E.2.2.2.2.1 (lw_S q3121 q3122 q179 q3123) rfl rfl rfl (by decide +kernel) ⟨by rw [hRf]; exact Nat.le_of_ble_eq_true rfl, by rw [hRl]; exact Nat.le_of_ble_eq_true rfl⟩) dX5_hearsAsSent_26 [] (by decide) rfl rfl (fun _ h => by cases h) rfl rfl (Nat.le_of_ble_eq_true rfl) (by first | (rw [hRc]; exact Nat.le_of_ble_eq_true rfl) | (rw [hRc]; dsimp only; omega)) (by first | (rw [hRs]; exact Nat.le_of_ble_eq_true rfl) | (rw [hRs]; dsimp only; omega)) ?_ (fun X q C1 h => h.elim)
        rintro _ _ ⟨rfl, rfl⟩
        dsimp only [List.cons_append, List.nil_append, Option.toList]
        refine gg_bipush (v := 11) (pc := 29) E dX5_hearsAsSent_29 (by decide) ?_
        refine gg_iaddN (pc := 31) E (220 + 27 * t) 11 rfl rfl dX5_hearsAsSent_31 ?_
        refine gg_iload_n (pc := 32) E dX5_hearsAsSent_32 rfl rfl ?_
        refine gg_iaddN (pc := 33) E ((220 + 27 * t) + 11) i rfl rfl dX5_hearsAsSent_33 ?_
        refine gg_ialdN (pc := 34) E ((220 + 27 * t) + 11 + i) rfl (by omega) (by omega) dX5_hearsAsSent_34 (gg_i 0 rfl) ?_
        refine gg_topI (y := row (220 + 27 * t + 11 + i)) (by repeat (first | rw [pk_us] | rw [pk_un (by omega)] | rw [ub_out _ _ _ _ (by omega)] | rw [cn_out (by omega)] | rw [he_out (by omega)])) ?_
        refine gg_iastN (M' := [_]) (pc := 35) E ((220 + 27 * t) + 19 + i) rfl (by omega) (by omega) dX5_hearsAsSent_35 0 rfl rfl ?_
        refine gg_iincN (k := 1) (lv' := [_, _, _]) (pc := 36) E i dX5_hearsAsSent_36 rfl rfl rfl (Nat.le_of_ble_eq_true rfl) rfl rfl ?_
        refine gg_goto (tgt := 2) (pc := 39) E dX5_hearsAsSent_39 (by decide) ?_
        refine gg_cv ?_ (gg_leS (gg_leS (gg_leS gg_le0))) rfl (by first | exact Nat.le_refl _ | (dsimp only; omega)) (by first | exact Nat.le_refl _ | (dsimp only; omega)) (ih2 (i + 1) (by omega) (by omega))
        · rw [ub_1 _ _ _ _ _ rfl]
  refine gg_cv ?_ (gg_leS (gg_leS (gg_leS gg_le0))) rfl (by first | exact Nat.le_refl _ | (dsimp only; omega)) (by first | exact Nat.le_refl _ | (dsimp only; omega)) (L2 _ 0 (Nat.lt_succ_self _) (Nat.zero_le _))
  · first | (rw [ub_0]; done) | (rw [ub_0]; rfl)
set_option maxHeartbeats 4000000 in
theorem ct_X5_oneR {l : Launch} (hl : l.stackTraces = false) {g : gg_G}  {z : Int32} (hz : z = 0 ∨ z = 1) : gg_C l g yX5_one (ws_ yX5_one cX5_one 1 (some .int)) { frames := 0, cells := 0, slots := 0, locals := 0 } [.int z] [] [] (fun vv CC => vv = some (.int z) ∧ CC = []) gg_no := by
  refine gg_of (lv := [_]) (by decide) hl (Nat.le_of_ble_eq_true rfl) rfl ?_
  intro p e R s m args below meth c A Q hRf hRl hRc hRs E Fn hnm hex
  refine gg_iload_n (pc := 0) E dX5_one_0 rfl rfl ?_
  refine gg_ifB_eq (pc := 1) E dX5_one_1 dX5_one_4 dX5_one_5 dX5_one_8 ?_
  refine gg_iret (pc := 9) E Fn rfl (rfl) dX5_one_9 (by first | exact Nat.le_of_ble_eq_true rfl | (dsimp only; omega)) (by first | exact Nat.le_of_ble_eq_true rfl | (dsimp only; omega)) ?_
  rcases hz with rfl | rfl <;> exact ⟨rfl, rfl⟩
set_option maxHeartbeats 4000000 in
theorem ct_X5_newTune {l : Launch} (hl : l.stackTraces = false) {g : gg_G}  {h : Nat} {ad : Nat → Nat} {x : Nat → Int32} {row : Nat → Int32} {su : Nat → Int32} {nt mny : Nat} {se go re wa : Int32} (hnt : row 2 = nI nt) (ht29 : nt < 30) (hmy : x 11 = nI mny) (hmy8 : mny ≤ 8) (hre : re = 0 ∨ re = 1) (hwa : wa = 0 ∨ wa = 1) : gg_C l g yX5_newTune (ws_ yX5_newTune cX5_newTune 8 (some .int)) { frames := 2, cells := 0, slots := 0, locals := 42 } [.ref h, .int se, .int go, .int re, .int wa] [(h, .inl (4, mo_f ad x)), ((ad 10), gg_ai g 8 su)] [[((ad 0), gg_ai g 1030 row)]] (fun vv CC => vv = some (.int (nI nt)) ∧ CC = [[((ad 0), gg_ai g 1030 (ntu row nt mny su se go re wa))]]) gg_no := by
  refine gg_of (lv := [_, _, _, _, _, _, _, _]) (by decide) hl (Nat.le_of_ble_eq_true rfl) rfl ?_
  intro p e R s m args below meth c A Q hRf hRl hRc hRs E Fn hnm hex
  refine gg_aload_n (pc := 0) E dX5_newTune_0 rfl rfl ?_
  refine gg_get (pc := 1) E ck_X5 0 q2859 rfl (by decide) dX5_newTune_1 (gg_r 0 rfl) rfl ?_
  refine gg_iconst (v := 2) (pc := 4) E dX5_newTune_4 (by decide) ?_
  refine gg_ialdN (pc := 5) E 2 rfl (by omega) (by omega) dX5_newTune_5 (gg_i 0 rfl) ?_
  rw [hnt]
  refine gg_istore (lv' := [_, _, _, _, _, _, _, _]) (pc := 6) E dX5_newTune_6 (Nat.le_of_ble_eq_true rfl) rfl rfl ?_
  refine gg_iload (pc := 8) E dX5_newTune_8 rfl ?_
  refine gg_callS (F := [_]) (As := [.int (nI nt)]) (rest := []) (pc := 10) E (ct_X5_t hl ) (va_cwS 1 E.2.2.2.2.1 (lw_S q3121 q3122 q179 q3123) rfl rfl rfl (by decide +kernel) ⟨by rw [hRf]; exact Nat.le_of_ble_eq_true rfl, by rw [hRl]; exact Nat.le_of_ble_eq_true rfl⟩) dX5_newTune_10 [] (by decide) rfl rfl (fun _ h => by cases h) rfl rfl (Nat.le_of_ble_eq_true rfl) (by first | (rw [hRc]; exact Nat.le_of_ble_eq_true rfl) | (rw [hRc]; dsimp only; omega)) (by first | (rw [hRs]; exact Nat.le_of_ble_eq_true rfl) | (rw [hRs]; dsimp only; omega)) ?_ (fun X q C1 h => h.elim)
  rintro _ _ ⟨rfl, rfl⟩
  dsimp only [List.cons_append, List.nil_append, Option.toList]
  refine gg_istore (lv' := [_, _, _, _, _, _, _, _]) (pc := 13) E dX5_newTune_13 (Nat.le_of_ble_eq_true rfl) rfl rfl ?_
  refine gg_iconst (v := 0) (pc := 15) E dX5_newTune_15 (by decide) ?_
  refine gg_istore (lv' := [_, _, _, _, _, _, _, _]) (pc := 16) E dX5_newTune_16 (Nat.le_of_ble_eq_true rfl) rfl rfl ?_
  have L18 : ∀ (n : Nat) (i : Nat), 27 - i < n → (i ≤ 27) → gg_W p l e R s m args below meth c g A 8 Q 0 0 [[((ad 0), gg_ai g 1030 (ub row (220 + 27 * nt) i (fun _ => 0)))]] [some (.ref h), some (.int se), some (.int go), some (.int re), some (.int wa), some (.int (nI nt)), some (.int (nI (220 + 27 * nt))), some (.int (nI i))] [] 18 := by
    intro n18
    induction n18 with
    | zero => intro i hmz; exact absurd hmz (Nat.not_lt_zero _)
    | succ n18 ih18 =>
      intro i hm18 hi
      refine gg_iload (pc := 18) E dX5_newTune_18 rfl ?_
      refine gg_bipush (v := 27) (pc := 20) E dX5_newTune_20 (by decide) ?_
      refine gg_icmpN_ge (tgt := 42) (pc := 22) E i 27 rfl rfl (by omega) (by omega) dX5_newTune_22 (by decide) (fun c22 => ?_) (fun c22 => ?_)
      · refine gg_aload_n (pc := 42) E dX5_newTune_42 rfl rfl ?_
        refine gg_get (pc := 43) E ck_X5 0 q2859 rfl (by decide) dX5_newTune_43 (gg_r 0 rfl) rfl ?_
        refine gg_iload (pc := 46) E dX5_newTune_46 rfl ?_
        refine gg_iconst (v := 0) (pc := 48) E dX5_newTune_48 (by decide) ?_
        refine gg_iaddN (pc := 49) E (220 + 27 * nt) 0 rfl rfl dX5_newTune_49 ?_
        refine gg_iload_n (pc := 50) E dX5_newTune_50 rfl rfl ?_
        refine gg_iastN (M' := [_]) (pc := 51) E ((220 + 27 * nt) + 0) rfl (by omega) (by omega) dX5_newTune_51 0 rfl rfl ?_
        refine gg_aload_n (pc := 52) E dX5_newTune_52 rfl rfl ?_
        refine gg_get (pc := 53) E ck_X5 0 q2859 rfl (by decide) dX5_newTune_53 (gg_r 0 rfl) rfl ?_
        refine gg_iload (pc := 56) E dX5_newTune_56 rfl ?_
        refine gg_iconst (v := 1) (pc := 58) E dX5_newTune_58 (by decide) ?_
        refine gg_iaddN (pc := 59) E (220 + 27 * nt) 1 rfl rfl dX5_newTune_59 ?_
        refine gg_iload_n (pc := 60) E dX5_newTune_60 rfl rfl ?_
        refine gg_iastN (M' := [_]) (pc := 61) E ((220 + 27 * nt) + 1) rfl (by omega) (by omega) dX5_newTune_61 0 rfl rfl ?_
        refine gg_aload_n (pc := 62) E dX5_newTune_62 rfl rfl ?_
        refine gg_get (pc := 63) E ck_X5 0 q2859 rfl (by decide) dX5_newTune_63 (gg_r 0 rfl) rfl ?_
        refine gg_iload (pc := 66) E dX5_newTune_66 rfl ?_
        refine gg_iconst (v := 2) (pc := 68) E dX5_newTune_68 (by decide) ?_
        refine gg_iaddN (pc := 69) E (220 + 27 * nt) 2 rfl rfl dX5_newTune_69 ?_
        refine gg_aload_n (pc := 70) E dX5_newTune_70 rfl rfl ?_
        refine gg_get (pc := 71) E ck_X5 11 q2870 rfl (by decide) dX5_newTune_71 (gg_r 0 rfl) rfl ?_
        refine gg_topI (y := nI mny) hmy ?_
        refine gg_iastN (M' := [_]) (pc := 74) E ((220 + 27 * nt) + 2) rfl (by omega) (by omega) dX5_newTune_74 0 rfl rfl ?_
        refine gg_aload_n (pc := 75) E dX5_newTune_75 rfl rfl ?_
        refine gg_get (pc := 76) E ck_X5 0 q2859 rfl (by decide) dX5_newTune_76 (gg_r 0 rfl) rfl ?_
        refine gg_iload (pc := 79) E dX5_newTune_79 rfl ?_
        refine gg_iconst (v := 4) (pc := 81) E dX5_newTune_81 (by decide) ?_
        refine gg_iaddN (pc := 82) E (220 + 27 * nt) 4 rfl rfl dX5_newTune_82 ?_
        refine gg_iload_n (pc := 83) E dX5_newTune_83 rfl rfl ?_
        refine gg_iastN (M' := [_]) (pc := 84) E ((220 + 27 * nt) + 4) rfl (by omega) (by omega) dX5_newTune_84 0 rfl rfl ?_
        refine gg_aload_n (pc := 85) E dX5_newTune_85 rfl rfl ?_
        refine gg_get (pc := 86) E ck_X5 0 q2859 rfl (by decide) dX5_newTune_86 (gg_r 0 rfl) rfl ?_
        refine gg_iload (pc := 89) E dX5_newTune_89 rfl ?_
        refine gg_iconst (v := 5) (pc := 91) E dX5_newTune_91 (by decide) ?_
        refine gg_iaddN (pc := 92) E (220 + 27 * nt) 5 rfl rfl dX5_newTune_92 ?_
        refine gg_iconst (v := (-1)) (pc := 93) E dX5_newTune_93 (by decide) ?_
        refine gg_iastN (M' := [_]) (pc := 94) E ((220 + 27 * nt) + 5) rfl (by omega) (by omega) dX5_newTune_94 0 rfl rfl ?_
        refine gg_aload_n (pc := 95) E dX5_newTune_95 rfl rfl ?_
        refine gg_get (pc := 96) E ck_X5 0 q2859 rfl (by decide) dX5_newTune_96 (gg_r 0 rfl) rfl ?_
        refine gg_iload (pc := 99) E dX5_newTune_99 rfl ?_
        refine gg_bipush (v := 6) (pc := 101) E dX5_newTune_101 (by decide) ?_
        refine gg_iaddN (pc := 103) E (220 + 27 * nt) 6 rfl rfl dX5_newTune_103 ?_
        refine gg_iload_n (pc := 104) E dX5_newTune_104 rfl rfl ?_
        refine gg_callS (F := [_]) (As := [_]) (rest := [_, _]) (pc := 105) E (ct_X5_oneR hl (hre)) (va_cwS 1 E.2.2.2.2.1 (lw_S q3124 q3125 q179 q3126) rfl rfl rfl (by decide +kernel) ⟨by rw [hRf]; exact Nat.le_of_ble_eq_true rfl, by rw [hRl]; exact Nat.le_of_ble_eq_true rfl⟩) dX5_newTune_105 [] (by decide) rfl rfl (fun _ h => by cases h) rfl rfl (Nat.le_of_ble_eq_true rfl) (by first | (rw [hRc]; exact Nat.le_of_ble_eq_true rfl) | (rw [hRc]; dsimp only; omega)) (by first | (rw [hRs]; exact Nat.le_of_ble_eq_true rfl) | (rw [hRs]; dsimp only; omega)) ?_ (fun X q C1 h => h.elim)
        rintro _ _ ⟨rfl, rfl⟩
        dsimp only [List.cons_append, List.nil_append, Option.toList]
        refine gg_iastN (M' := [_]) (pc := 108) E ((220 + 27 * nt) + 6) rfl (by omega) (by omega) dX5_newTune_108 0 rfl rfl ?_
        refine gg_aload_n (pc := 109) E dX5_newTune_109 rfl rfl ?_
        refine gg_get (pc := 110) E ck_X5 0 q2859 rfl (by decide) dX5_newTune_110 (gg_r 0 rfl) rfl ?_
        refine gg_iload (pc := 113) E dX5_newTune_113 rfl ?_
        refine gg_bipush (v := 7) (pc := 115) E dX5_newTune_115 (by decide) ?_
        refine gg_iaddN (pc := 117) E (220 + 27 * nt) 7 rfl rfl dX5_newTune_117 ?_
        refine gg_iload (pc := 118) E dX5_newTune_118 rfl ?_
        refine gg_callS (F := [_]) (As := [_]) (rest := [_, _]) (pc := 120) E (ct_X5_oneR hl (hwa)) (va_cwS 1 E.2.2.2.2.1 (lw_S q3124 q3125 q179 q3126) rfl rfl rfl (by decide +kernel) ⟨by rw [hRf]; exact Nat.le_of_ble_eq_true rfl, by rw [hRl]; exact Nat.le_of_ble_eq_true rfl⟩) dX5_newTune_120 [] (by decide) rfl rfl (fun _ h => by cases h) rfl rfl (Nat.le_of_ble_eq_true rfl) (by first | (rw [hRc]; exact Nat.le_of_ble_eq_true rfl) | (rw [hRc]; dsimp only; omega)) (by first | (rw [hRs]; exact Nat.le_of_ble_eq_true rfl) | (rw [hRs]; dsimp only; omega)) ?_ (fun X q C1 h => h.elim)
        rintro _ _ ⟨rfl, rfl⟩
        dsimp only [List.cons_append, List.nil_append, Option.toList]
        refine gg_iastN (M' := [_]) (pc := 123) E ((220 + 27 * nt) + 7) rfl (by omega) (by omega) dX5_newTune_123 0 rfl rfl ?_
        refine gg_iconst (v := 0) (pc := 124) E dX5_newTune_124 (by decide) ?_
        refine gg_istore (lv' := [_, _, _, _, _, _, _, _]) (pc := 125) E dX5_newTune_125 (Nat.le_of_ble_eq_true rfl) rfl rfl ?_
        have L127 : ∀ (n : Nat) (j : Nat), mny - j < n → (j ≤ mny) → gg_W p l e R s m args below meth c g A 8 Q 0 0 [[((ad 0), gg_ai g 1030 (ub (nt1 row nt mny se go re wa) (220 + 27 * nt + 11) j su))]] [some (.ref h), some (.int se), some (.int go), some (.int re), some (.int wa), some (.int (nI nt)), some (.int (nI (220 + 27 * nt))), some (.int (nI j))] [] 127 := by
          intro n127
          induction n127 with
          | zero => intro j hmz; exact absurd hmz (Nat.not_lt_zero _)
          | succ n127 ih127 =>
            intro j hm127 hj
            refine gg_iload (pc := 127) E dX5_newTune_127 rfl ?_
            refine gg_aload_n (pc := 129) E dX5_newTune_129 rfl rfl ?_
            refine gg_get (pc := 130) E ck_X5 11 q2870 rfl (by decide) dX5_newTune_130 (gg_r 0 rfl) rfl ?_
            refine gg_topI (y := nI mny) hmy ?_
            refine gg_icmpN_ge (tgt := 162) (pc := 133) E j mny rfl rfl (by omega) (by omega) dX5_newTune_133 (by decide) (fun c133 => ?_) (fun c133 => ?_)
            · refine gg_aload_n (pc := 162) E dX5_newTune_162 rfl rfl ?_
              refine gg_iload (pc := 163) E dX5_newTune_163 rfl ?_
              refine gg_callV (F := []) (As := [.int (nI nt)]) (rest := []) (pc := 165) E ck_X5 (ct_X5_hearsAsSent hl (by first | assumption | omega)) (cwV 1 E.2.2.2.2.1 (lw_V q3127 q3129 qs100 q179 q3130) rfl rfl rfl (by decide +kernel) ⟨by rw [hRf]; exact Nat.le_of_ble_eq_true rfl, by rw [hRl]; exact Nat.le_of_ble_eq_true rfl⟩) dX5_newTune_165 [0] (by decide) rfl rfl (List.forall_mem_cons.mpr ⟨(gg_r 0 rfl), (fun _ h => by cases h)⟩) (gg_r 0 rfl) rfl rfl (Nat.le_of_ble_eq_true rfl) (by first | (rw [hRc]; exact Nat.le_of_ble_eq_true rfl) | (rw [hRc]; dsimp only; omega)) (by first | (rw [hRs]; exact Nat.le_of_ble_eq_true rfl) | (rw [hRs]; dsimp only; omega)) ?_ (fun X q C1 h => h.elim)
              rintro _ _ ⟨rfl, rfl⟩
              dsimp only [List.cons_append, List.nil_append, Option.toList]
              refine gg_aload_n (pc := 168) E dX5_newTune_168 rfl rfl ?_
              refine gg_get (pc := 169) E ck_X5 0 q2859 rfl (by decide) dX5_newTune_169 (gg_r 0 rfl) rfl ?_
              refine gg_iconst (v := 2) (pc := 172) E dX5_newTune_172 (by decide) ?_
              refine gg_dup2_11 (pc := 173) E dX5_newTune_173 rfl rfl ?_
              refine gg_ialdN (pc := 174) E 2 rfl (by omega) (by omega) dX5_newTune_174 (gg_i 0 rfl) ?_
              refine gg_topI (y := row 2) (by rw [he_out (by omega), ub_out _ _ _ _ (by omega), nt1_lo (by omega)]) ?_
              rw [hnt]
              refine gg_iconst (v := 1) (pc := 175) E dX5_newTune_175 (by decide) ?_
              refine gg_iaddN (pc := 176) E nt 1 rfl rfl dX5_newTune_176 ?_
              refine gg_iastN (M' := [_]) (pc := 177) E 2 rfl (by omega) (by omega) dX5_newTune_177 0 rfl rfl ?_
              refine gg_aload_n (pc := 178) E dX5_newTune_178 rfl rfl ?_
              refine gg_iconst (v := 1) (pc := 179) E dX5_newTune_179 (by decide) ?_
              refine gg_iconst (v := 1) (pc := 180) E dX5_newTune_180 (by decide) ?_
              refine gg_callV (F := []) (As := [.int (nI 1), _]) (rest := []) (pc := 181) E ck_X5 (ct_X5_counts hl (by first | assumption | omega)) (cwV 2 E.2.2.2.2.1 (lw_V q3131 q3133 qs101 q179 q3134) rfl rfl rfl (by decide +kernel) ⟨by rw [hRf]; exact Nat.le_of_ble_eq_true rfl, by rw [hRl]; exact Nat.le_of_ble_eq_true rfl⟩) dX5_newTune_181 [0] (by decide) rfl rfl (List.forall_mem_cons.mpr ⟨(gg_r 0 rfl), (fun _ h => by cases h)⟩) (gg_r 0 rfl) rfl rfl (Nat.le_of_ble_eq_true rfl) (by first | (rw [hRc]; exact Nat.le_of_ble_eq_true rfl) | (rw [hRc]; dsimp only; omega)) (by first | (rw [hRs]; exact Nat.le_of_ble_eq_true rfl) | (rw [hRs]; dsimp only; omega)) ?_ (fun X q C1 h => h.elim)
              rintro _ _ ⟨rfl, rfl⟩
              dsimp only [List.cons_append, List.nil_append, Option.toList]
              refine gg_aload_n (pc := 184) E dX5_newTune_184 rfl rfl ?_
              refine gg_iconst (v := 2) (pc := 185) E dX5_newTune_185 (by decide) ?_
              refine gg_iload_n (pc := 186) E dX5_newTune_186 rfl rfl ?_
              refine gg_callS (F := [_]) (As := [_]) (rest := [_, _]) (pc := 187) E (ct_X5_oneR hl (hre)) (va_cwS 1 E.2.2.2.2.1 (lw_S q3124 q3125 q179 q3126) rfl rfl rfl (by decide +kernel) ⟨by rw [hRf]; exact Nat.le_of_ble_eq_true rfl, by rw [hRl]; exact Nat.le_of_ble_eq_true rfl⟩) dX5_newTune_187 [] (by decide) rfl rfl (fun _ h => by cases h) rfl rfl (Nat.le_of_ble_eq_true rfl) (by first | (rw [hRc]; exact Nat.le_of_ble_eq_true rfl) | (rw [hRc]; dsimp only; omega)) (by first | (rw [hRs]; exact Nat.le_of_ble_eq_true rfl) | (rw [hRs]; dsimp only; omega)) ?_ (fun X q C1 h => h.elim)
              rintro _ _ ⟨rfl, rfl⟩
              dsimp only [List.cons_append, List.nil_append, Option.toList]
              refine gg_callV (F := []) (As := [.int (nI 2), _]) (rest := []) (pc := 190) E ck_X5 (ct_X5_counts hl (by first | assumption | omega)) (cwV 2 E.2.2.2.2.1 (lw_V q3131 q3133 qs101 q179 q3134) rfl rfl rfl (by decide +kernel) ⟨by rw [hRf]; exact Nat.le_of_ble_eq_true rfl, by rw [hRl]; exact Nat.le_of_ble_eq_true rfl⟩) dX5_newTune_190 [0] (by decide) rfl rfl (List.forall_mem_cons.mpr ⟨(gg_r 0 rfl), (fun _ h => by cases h)⟩) (gg_r 0 rfl) rfl rfl (Nat.le_of_ble_eq_true rfl) (by first | (rw [hRc]; exact Nat.le_of_ble_eq_true rfl) | (rw [hRc]; dsimp only; omega)) (by first | (rw [hRs]; exact Nat.le_of_ble_eq_true rfl) | (rw [hRs]; dsimp only; omega)) ?_ (fun X q C1 h => h.elim)
              rintro _ _ ⟨rfl, rfl⟩
              dsimp only [List.cons_append, List.nil_append, Option.toList]
              refine gg_iload (pc := 193) E dX5_newTune_193 rfl ?_
              refine gg_iret (pc := 195) E Fn rfl (rfl) dX5_newTune_195 (by first | exact Nat.le_of_ble_eq_true rfl | (dsimp only; omega)) (by first | exact Nat.le_of_ble_eq_true rfl | (dsimp only; omega)) ?_
              obtain rfl : j = mny := by omega
              exact ⟨rfl, rfl⟩
            · refine gg_aload_n (pc := 136) E dX5_newTune_136 rfl rfl ?_
              refine gg_get (pc := 137) E ck_X5 0 q2859 rfl (by decide) dX5_newTune_137 (gg_r 0 rfl) rfl ?_
              refine gg_iload (pc := 140) E dX5_newTune_140 rfl ?_
              refine gg_bipush (v := 11) (pc := 142) E dX5_newTune_142 (by decide) ?_
              refine gg_iaddN (pc := 144) E (220 + 27 * nt) 11 rfl rfl dX5_newTune_144 ?_
              refine gg_iload (pc := 145) E dX5_newTune_145 rfl ?_
              refine gg_iaddN (pc := 147) E ((220 + 27 * nt) + 11) j rfl rfl dX5_newTune_147 ?_
              refine gg_aload_n (pc := 148) E dX5_newTune_148 rfl rfl ?_
              refine gg_get (pc := 149) E ck_X5 10 q2869 rfl (by decide) dX5_newTune_149 (gg_r 0 rfl) rfl ?_
              refine gg_iload (pc := 152) E dX5_newTune_152 rfl ?_
              refine gg_ialdN (pc := 154) E j rfl (by omega) (by omega) dX5_newTune_154 (gg_r 1 rfl) ?_
              refine gg_iastN (M' := [_]) (pc := 155) E ((220 + 27 * nt) + 11 + j) rfl (by omega) (by omega) dX5_newTune_155 0 rfl rfl ?_
              refine gg_iincN (k := 1) (lv' := [_, _, _, _, _, _, _, _]) (pc := 156) E j dX5_newTune_156 rfl rfl rfl (Nat.le_of_ble_eq_true rfl) rfl rfl ?_
              refine gg_goto (tgt := 127) (pc := 159) E dX5_newTune_159 (by decide) ?_
              refine gg_cv ?_ (gg_leS (gg_leS (gg_leS (gg_leS (gg_leS (gg_leS (gg_leS (gg_leS gg_le0)))))))) rfl (by first | exact Nat.le_refl _ | (dsimp only; omega)) (by first | exact Nat.le_refl _ | (dsimp only; omega)) (ih127 (j + 1) (by omega) (by omega))
              · rw [ub_1 _ _ _ _ _ rfl]
        refine gg_cv ?_ (gg_leS (gg_leS (gg_leS (gg_leS (gg_leS (gg_leS (gg_leS (gg_leS gg_le0)))))))) rfl (by first | exact Nat.le_refl _ | (dsimp only; omega)) (by first | exact Nat.le_refl _ | (dsimp only; omega)) (L127 _ 0 (Nat.lt_succ_self _) (Nat.zero_le _))
        · (obtain rfl : i = 27 := (by omega)); exact (congrArg (fun z => [[(ad 0, gg_ai g 1030 z)]]) (ub_0 _ _ _)).symm
      · refine gg_aload_n (pc := 25) E dX5_newTune_25 rfl rfl ?_
        refine gg_get (pc := 26) E ck_X5 0 q2859 rfl (by decide) dX5_newTune_26 (gg_r 0 rfl) rfl ?_
        refine gg_iload (pc := 29) E dX5_newTune_29 rfl ?_
        refine gg_iload (pc := 31) E dX5_newTune_31 rfl ?_
        refine gg_iaddN (pc := 33) E (220 + 27 * nt) i rfl rfl dX5_newTune_33 ?_
        refine gg_iconst (v := 0) (pc := 34) E dX5_newTune_34 (by decide) ?_
        refine gg_iastN (M' := [_]) (pc := 35) E ((220 + 27 * nt) + i) rfl (by omega) (by omega) dX5_newTune_35 0 rfl rfl ?_
        refine gg_iincN (k := 1) (lv' := [_, _, _, _, _, _, _, _]) (pc := 36) E i dX5_newTune_36 rfl rfl rfl (Nat.le_of_ble_eq_true rfl) rfl rfl ?_
        refine gg_goto (tgt := 18) (pc := 39) E dX5_newTune_39 (by decide) ?_
        refine gg_cv ?_ (gg_leS (gg_leS (gg_leS (gg_leS (gg_leS (gg_leS (gg_leS (gg_leS gg_le0)))))))) rfl (by first | exact Nat.le_refl _ | (dsimp only; omega)) (by first | exact Nat.le_refl _ | (dsimp only; omega)) (ih18 (i + 1) (by omega) (by omega))
        · rw [ub_1 _ _ _ _ _ rfl]
  refine gg_cv ?_ (gg_leS (gg_leS (gg_leS (gg_leS (gg_leS (gg_leS (gg_leS (gg_leS gg_le0)))))))) rfl (by first | exact Nat.le_refl _ | (dsimp only; omega)) (by first | exact Nat.le_refl _ | (dsimp only; omega)) (L18 _ 0 (Nat.lt_succ_self _) (Nat.zero_le _))
  · first | (rw [ub_0]; done) | (rw [ub_0]; rfl)

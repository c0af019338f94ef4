set_option maxRecDepth 100000
theorem tName_len (row : Nat → Int32) (k : Nat) : (tName row k).length = nl row k := tN_len _ _
theorem tNum_len (vn : Nat) : (tNum vn).length = dcn vn := tN_len _ _
theorem sm_01 {P : Nat → Prop} [DecidablePred P] : ∀ n, n < 2 ^ 30 → ∃ z, z ≤ n ∧ sm (fun i => if P i then 1 else 0) n = nI z := by
  intro n
  induction n with
  | zero => intro _; exact ⟨0, Nat.le_refl _, rfl⟩
  | succ n ih =>
    intro h
    obtain ⟨z, hz, e⟩ := ih (by omega)
    by_cases q : P n
    · refine ⟨z + 1, by omega, ?_⟩
      show sm (fun i => if P i then 1 else 0) n + (if P n then 1 else 0) = _
      rw [e, if_pos q, nI_1]
    · refine ⟨z, by omega, ?_⟩
      show sm (fun i => if P i then 1 else 0) n + (if P n then 1 else 0) = _
      rw [e, if_neg q, Int32.add_zero]
/-- how many wait at a roof -/
def wtn (row : Nat → Int32) (k nt : Nat) : Nat := (sm (fun i => if row (220 + 27 * i + 3) = 0 ∧ row (220 + 27 * i + 4) = nI k then 1 else 0) nt).toNatClampNeg
theorem wtn_ok {row : Nat → Int32} {k nt : Nat} (h : nt ≤ 30) : sm (fun i => if row (220 + 27 * i + 3) = 0 ∧ row (220 + 27 * i + 4) = nI k then 1 else 0) nt = nI (wtn row k nt) ∧ wtn row k nt ≤ 30 := by
  obtain ⟨z, hz, e⟩ := sm_01 (P := fun i => row (220 + 27 * i + 3) = 0 ∧ row (220 + 27 * i + 4) = nI k) nt (by omega)
  have e2 : wtn row k nt = z := by
    unfold wtn
    rw [e, nI_clamp (by omega)]
  rw [e2]
  exact ⟨e, by omega⟩
abbrev pur (row : Nat → Int32) (k : Nat) : Nat := (row (25 + 13 * k + 10)).toNatClampNeg
/-- no purse is below nothing, and none is too great to be said -/
def Pu (row : Nat → Int32) (nr : Nat) : Prop := ∀ k, k < nr → row (25 + 13 * k + 10) = nI (pur row k) ∧ pur row k ≤ 77777777
def tRoof (row : Nat → Int32) (nt k : Nat) : List Int32 := (if k = 0 then [] else [b8 32]) ++ (tName row k ++ ([b8 58] ++ (tNum (pur row k) ++ ((if row 3 < row (25 + 13 * k + 11) then [b8 33] else []) ++ (if wtn row k nt = 0 then [] else [b8 47] ++ tNum (wtn row k nt))))))
def tRoofs (row : Nat → Int32) (nt : Nat) : Nat → List Int32
  | 0 => []
  | i + 1 => tRoofs row nt i ++ tRoof row nt i
theorem lo_nil (o : Nat → Int32) : lo o [] = o := rfl
theorem tRoof_len {row : Nat → Int32} {nt k : Nat} (h : nl row k ≤ 6) : (tRoof row nt k).length ≤ 26 := by
  have h1 := dcn_8 (pur row k)
  have h2 := dcn_8 (wtn row k nt)
  unfold tRoof
  simp only [List.length_append, tName_len, tNum_len]
  have a1 : (if k = 0 then ([] : List Int32) else [b8 32]).length ≤ 1 := by split <;> simp
  have a2 : (if row 3 < row (25 + 13 * k + 11) then [b8 33] else ([] : List Int32)).length ≤ 1 := by split <;> simp
  have a3 : (if wtn row k nt = 0 then ([] : List Int32) else [b8 47] ++ tNum (wtn row k nt)).length ≤ 1 + dcn (wtn row k nt) := by
    split
    · simp
    · rw [List.length_append, tNum_len]
      simp
  have a4 : ([b8 58] : List Int32).length = 1 := rfl
  omega
theorem tRoofs_len {row : Nat → Int32} {nt : Nat} : ∀ i, (∀ k, k < i → nl row k ≤ 6) → (tRoofs row nt i).length ≤ 26 * i := by
  intro i
  induction i with
  | zero => intro _; exact Nat.le_refl _
  | succ i ih =>
    intro h
    have h1 := ih (fun k hk => h k (by omega))
    have h2 := tRoof_len (row := row) (nt := nt) (h i (Nat.lt_succ_self _))
    show (tRoofs row nt i ++ tRoof row nt i).length ≤ _
    rw [List.length_append]
    omega
set_option maxHeartbeats 4000000 in
theorem ct_X5_saysRoof {l : Launch} (hl : l.stackTraces = false) {g : gg_G}  {h : Nat} {ad : Nat → Nat} {x : Nat → Int32} {row : Nat → Int32} {o : Nat → Int32} {L : List Int32} {k : Nat} {nr nw nt : Nat} (hG : Gw row nr nw nt) (hP : Pu row nr) (hk : k < nr) (hL : L.length + 26 ≤ 300) : gg_C l g yX5_saysRoof (ws_ yX5_saysRoof cX5_saysRoof 2 none) { frames := 3, cells := 0, slots := 0, locals := 65 } [.ref h, .int (nI k)] [((ad 0), gg_ai g 1030 row)] [[(h, .inl (4, mo_f ad (upd x 27 (nI (L).length))))], [((ad 26), gg_ab g 300 (lo o L))]] (fun vv CC => vv = none ∧ CC = [[(h, .inl (4, mo_f ad (upd x 27 (nI (L ++ tRoof row nt k).length))))], [((ad 26), gg_ab g 300 (lo o (L ++ tRoof row nt k)))]]) gg_no := by
  refine gg_of (lv := [_, _]) (by decide) hl (Nat.le_of_ble_eq_true rfl) rfl ?_
  intro p e R s m args below meth c A Q hRf hRl hRc hRs E Fn hnm hex
  have hG0 := hG
  obtain ⟨hnr, hw, ht, hG4, hGS⟩ := hG
  have hnw := hw.1
  have hw20 := hw.2.1
  have hr10 := hw.2.2.1
  have hnt := ht.1
  have ht30 := ht.2.1
  have hG5 := hG4 k hk
  have hd1 := dcn_8 (pur row k)
  have hd2 := dcn_8 (wtn row k nt)
  obtain ⟨hpu, hpu7⟩ := hP k hk
  have hw30 := (wtn_ok (row := row) (k := k) ht30).2
  refine gg_iload_n (pc := 0) E dX5_saysRoof_0 rfl rfl ?_
  refine gg_ifN_le (tgt := 10) (pc := 1) E k rfl (by omega) dX5_saysRoof_1 (by decide) (fun c1 => ?_) (fun c1 => ?_)
  · refine gg_aload_n (pc := 10) E dX5_saysRoof_10 rfl rfl ?_
    refine gg_iload_n (pc := 11) E dX5_saysRoof_11 rfl rfl ?_
    refine gg_callV (F := []) (As := [.int (nI k)]) (rest := []) (pc := 12) E ck_X5 (ct_X5_saysName (L := L) hl (by omega) hG5.1.1 hG5.1.2.2 (by first | omega | (simp only [List.length_append, List.length_singleton, tName_len, tNum_len]; omega))) (cwV 1 E.2.2.2.2.1 (lw_V q3438 q3440 qs148 q179 q3441) rfl rfl rfl (by decide +kernel) ⟨by rw [hRf]; exact Nat.le_of_ble_eq_true rfl, by rw [hRl]; exact Nat.le_of_ble_eq_true rfl⟩) dX5_saysRoof_12 [0, 1] (by decide) rfl rfl (List.forall_mem_cons.mpr ⟨(gg_r 0 rfl), (fun _ h => by cases h)⟩) (gg_i 0 rfl) rfl rfl (Nat.le_of_ble_eq_true rfl) (by first | (rw [hRc]; exact Nat.le_of_ble_eq_true rfl) | (rw [hRc]; dsimp only; omega)) (by first | (rw [hRs]; exact Nat.le_of_ble_eq_true rfl) | (rw [hRs]; dsimp only; omega)) ?_ (fun X q C1 h => h.elim)
    rintro _ _ ⟨rfl, rfl⟩
    dsimp only [List.cons_append, List.nil_append, Option.toList]
    refine gg_up1 ?_
    refine gg_up1 ?_
    refine gg_aload_n (pc := 15) E dX5_saysRoof_15 rfl rfl ?_
    refine gg_bipush (v := 58) (pc := 16) E dX5_saysRoof_16 (by decide) ?_
    refine gg_callV (F := []) (As := [_]) (rest := []) (pc := 18) E ck_X5 (ct_X5_says (L := L ++ tName row k) hl (by first | omega | (simp only [List.length_append, List.length_singleton, tName_len, tNum_len]; omega))) (cwV 1 E.2.2.2.2.1 (lw_V q3434 q3436 qs147 q179 q3437) rfl rfl rfl (by decide +kernel) ⟨by rw [hRf]; exact Nat.le_of_ble_eq_true rfl, by rw [hRl]; exact Nat.le_of_ble_eq_true rfl⟩) dX5_saysRoof_18 [0, 1] (by decide) rfl rfl (fun _ h => by cases h) (gg_i 0 rfl) rfl rfl (Nat.le_of_ble_eq_true rfl) (by first | (rw [hRc]; exact Nat.le_of_ble_eq_true rfl) | (rw [hRc]; dsimp only; omega)) (by first | (rw [hRs]; exact Nat.le_of_ble_eq_true rfl) | (rw [hRs]; dsimp only; omega)) ?_ (fun X q C1 h => h.elim)
    rintro _ _ ⟨rfl, rfl⟩
    dsimp only [List.cons_append, List.nil_append, Option.toList]
    refine gg_up1 ?_
    refine gg_up1 ?_
    refine gg_aload_n (pc := 21) E dX5_saysRoof_21 rfl rfl ?_
    refine gg_aload_n (pc := 22) E dX5_saysRoof_22 rfl rfl ?_
    refine gg_get (pc := 23) E ck_X5 0 q2859 rfl (by decide) dX5_saysRoof_23 (gg_i 0 rfl) rfl ?_
    refine gg_iload_n (pc := 26) E dX5_saysRoof_26 rfl rfl ?_
    refine gg_callS (F := [_, _]) (As := [.int (nI k)]) (rest := [_, _]) (pc := 27) E (ct_X5_r hl ) (va_cwS 1 E.2.2.2.2.1 (lw_S q2849 q2850 q179 q2851) rfl rfl rfl (by decide +kernel) ⟨by rw [hRf]; exact Nat.le_of_ble_eq_true rfl, by rw [hRl]; exact Nat.le_of_ble_eq_true rfl⟩) dX5_saysRoof_27 [] (by decide) rfl rfl (fun _ h => by cases h) rfl rfl (Nat.le_of_ble_eq_true rfl) (by first | (rw [hRc]; exact Nat.le_of_ble_eq_true rfl) | (rw [hRc]; dsimp only; omega)) (by first | (rw [hRs]; exact Nat.le_of_ble_eq_true rfl) | (rw [hRs]; dsimp only; omega)) ?_ (fun X q C1 h => h.elim)
    rintro _ _ ⟨rfl, rfl⟩
    dsimp only [List.cons_append, List.nil_append, Option.toList]
    refine gg_bipush (v := 10) (pc := 30) E dX5_saysRoof_30 (by decide) ?_
    refine gg_iaddN (pc := 32) E (25 + 13 * k) 10 rfl rfl dX5_saysRoof_32 ?_
    refine gg_ialdN (pc := 33) E ((25 + 13 * k) + 10) rfl (by omega) (by omega) dX5_saysRoof_33 (gg_r 0 rfl) ?_
    rw [hpu]
    refine gg_callV (F := []) (As := [.int (nI (pur row k))]) (rest := []) (pc := 34) E ck_X5 (ct_X5_saysNumber (L := L ++ tName row k ++ [b8 58]) hl (by omega) (by first | omega | (simp only [List.length_append, List.length_singleton, tName_len, tNum_len]; omega))) (cwV 1 E.2.2.2.2.1 (lw_V q3442 q3444 qs149 q179 q3445) rfl rfl rfl (by decide +kernel) ⟨by rw [hRf]; exact Nat.le_of_ble_eq_true rfl, by rw [hRl]; exact Nat.le_of_ble_eq_true rfl⟩) dX5_saysRoof_34 [0, 1] (by decide) rfl rfl (fun _ h => by cases h) (gg_i 0 rfl) rfl rfl (Nat.le_of_ble_eq_true rfl) (by first | (rw [hRc]; exact Nat.le_of_ble_eq_true rfl) | (rw [hRc]; dsimp only; omega)) (by first | (rw [hRs]; exact Nat.le_of_ble_eq_true rfl) | (rw [hRs]; dsimp only; omega)) ?_ (fun X q C1 h => h.elim)
    rintro _ _ ⟨rfl, rfl⟩
    dsimp only [List.cons_append, List.nil_append, Option.toList]
    refine gg_up1 ?_
    refine gg_up1 ?_
    refine gg_aload_n (pc := 37) E dX5_saysRoof_37 rfl rfl ?_
    refine gg_iload_n (pc := 38) E dX5_saysRoof_38 rfl rfl ?_
    refine gg_aload_n (pc := 39) E dX5_saysRoof_39 rfl rfl ?_
    refine gg_get (pc := 40) E ck_X5 0 q2859 rfl (by decide) dX5_saysRoof_40 (gg_i 0 rfl) rfl ?_
    refine gg_iconst (v := 3) (pc := 43) E dX5_saysRoof_43 (by decide) ?_
    refine gg_ialdN (pc := 44) E 3 rfl (by omega) (by omega) dX5_saysRoof_44 (gg_r 0 rfl) ?_
    refine gg_callV (F := [_, _]) (As := [.int (nI k), _]) (rest := []) (pc := 45) E ck_X5 (ct_X5_isBusy hl (by omega)) (cwV 2 E.2.2.2.2.1 (lw_V q3168 q3170 qs110 q179 q3171) rfl rfl rfl (by decide +kernel) ⟨by rw [hRf]; exact Nat.le_of_ble_eq_true rfl, by rw [hRl]; exact Nat.le_of_ble_eq_true rfl⟩) dX5_saysRoof_45 [] (by decide) rfl rfl (List.forall_mem_cons.mpr ⟨(gg_i 0 rfl), (List.forall_mem_cons.mpr ⟨(gg_r 0 rfl), (fun _ h => by cases h)⟩)⟩) (gg_i 0 rfl) rfl rfl (Nat.le_of_ble_eq_true rfl) (by first | (rw [hRc]; exact Nat.le_of_ble_eq_true rfl) | (rw [hRc]; dsimp only; omega)) (by first | (rw [hRs]; exact Nat.le_of_ble_eq_true rfl) | (rw [hRs]; dsimp only; omega)) ?_ (fun X q C1 h => h.elim)
    rintro _ _ ⟨rfl, rfl⟩
    dsimp only [List.cons_append, List.nil_append, Option.toList]
    refine gg_ifP_eq (tgt := 57) (pc := 48) E dX5_saysRoof_48 (by decide) (fun c48 => ?_) (fun c48 => ?_)
    · refine gg_aload_n (pc := 57) E dX5_saysRoof_57 rfl rfl ?_
      refine gg_iload_n (pc := 58) E dX5_saysRoof_58 rfl rfl ?_
      refine gg_callV (F := [_, _]) (As := [_]) (rest := []) (pc := 59) E ck_X5 (ct_X5_waitingMany hl (hnt) (ht30)) (cwV 1 E.2.2.2.2.1 (lw_V q3275 q3277 qs132 q179 q3278) rfl rfl rfl (by decide +kernel) ⟨by rw [hRf]; exact Nat.le_of_ble_eq_true rfl, by rw [hRl]; exact Nat.le_of_ble_eq_true rfl⟩) dX5_saysRoof_59 [] (by decide) rfl rfl (List.forall_mem_cons.mpr ⟨(gg_i 0 rfl), (List.forall_mem_cons.mpr ⟨(gg_r 0 rfl), (fun _ h => by cases h)⟩)⟩) (gg_i 0 rfl) rfl rfl (Nat.le_of_ble_eq_true rfl) (by first | (rw [hRc]; exact Nat.le_of_ble_eq_true rfl) | (rw [hRc]; dsimp only; omega)) (by first | (rw [hRs]; exact Nat.le_of_ble_eq_true rfl) | (rw [hRs]; dsimp only; omega)) ?_ (fun X q C1 h => h.elim)
      rintro _ _ ⟨rfl, rfl⟩
      dsimp only [List.cons_append, List.nil_append, Option.toList]
      refine gg_topI (y := nI (wtn row k nt)) (wtn_ok ht30).1 ?_
      refine gg_ifN_le (tgt := 80) (pc := 62) E (wtn row k nt) rfl (by omega) dX5_saysRoof_62 (by decide) (fun c62 => ?_) (fun c62 => ?_)
      · refine gg_vret (pc := 80) E Fn rfl dX5_saysRoof_80 (by first | exact Nat.le_of_ble_eq_true rfl | (dsimp only; omega)) (by first | exact Nat.le_of_ble_eq_true rfl | (dsimp only; omega)) ?_
        have e : L ++ tName row k ++ [b8 58] ++ tNum (pur row k) = L ++ tRoof row nt k := by
          unfold tRoof
          rw [if_pos c1, if_neg c48, if_pos c62]
          simp only [List.append_assoc, List.append_nil, List.nil_append]
        rw [e]
        exact ⟨rfl, rfl⟩
      · refine gg_aload_n (pc := 65) E dX5_saysRoof_65 rfl rfl ?_
        refine gg_bipush (v := 47) (pc := 66) E dX5_saysRoof_66 (by decide) ?_
        refine gg_callV (F := []) (As := [_]) (rest := []) (pc := 68) E ck_X5 (ct_X5_says (L := L ++ tName row k ++ [b8 58] ++ tNum (pur row k)) hl (by first | omega | (simp only [List.length_append, List.length_singleton, tName_len, tNum_len]; omega))) (cwV 1 E.2.2.2.2.1 (lw_V q3434 q3436 qs147 q179 q3437) rfl rfl rfl (by decide +kernel) ⟨by rw [hRf]; exact Nat.le_of_ble_eq_true rfl, by rw [hRl]; exact Nat.le_of_ble_eq_true rfl⟩) dX5_saysRoof_68 [0, 1] (by decide) rfl rfl (fun _ h => by cases h) (gg_i 0 rfl) rfl rfl (Nat.le_of_ble_eq_true rfl) (by first | (rw [hRc]; exact Nat.le_of_ble_eq_true rfl) | (rw [hRc]; dsimp only; omega)) (by first | (rw [hRs]; exact Nat.le_of_ble_eq_true rfl) | (rw [hRs]; dsimp only; omega)) ?_ (fun X q C1 h => h.elim)
        rintro _ _ ⟨rfl, rfl⟩
        dsimp only [List.cons_append, List.nil_append, Option.toList]
        refine gg_up1 ?_
        refine gg_up1 ?_
        refine gg_aload_n (pc := 71) E dX5_saysRoof_71 rfl rfl ?_
        refine gg_aload_n (pc := 72) E dX5_saysRoof_72 rfl rfl ?_
        refine gg_iload_n (pc := 73) E dX5_saysRoof_73 rfl rfl ?_
        refine gg_callV (F := [_, _]) (As := [_]) (rest := [_]) (pc := 74) E ck_X5 (ct_X5_waitingMany hl (hnt) (ht30)) (cwV 1 E.2.2.2.2.1 (lw_V q3275 q3277 qs132 q179 q3278) rfl rfl rfl (by decide +kernel) ⟨by rw [hRf]; exact Nat.le_of_ble_eq_true rfl, by rw [hRl]; exact Nat.le_of_ble_eq_true rfl⟩) dX5_saysRoof_74 [] (by decide) rfl rfl (List.forall_mem_cons.mpr ⟨(gg_i 0 rfl), (List.forall_mem_cons.mpr ⟨(gg_r 0 rfl), (fun _ h => by cases h)⟩)⟩) (gg_i 0 rfl) rfl rfl (Nat.le_of_ble_eq_true rfl) (by first | (rw [hRc]; exact Nat.le_of_ble_eq_true rfl) | (rw [hRc]; dsimp only; omega)) (by first | (rw [hRs]; exact Nat.le_of_ble_eq_true rfl) | (rw [hRs]; dsimp only; omega)) ?_ (fun X q C1 h => h.elim)
        rintro _ _ ⟨rfl, rfl⟩
        dsimp only [List.cons_append, List.nil_append, Option.toList]
        refine gg_topI (y := nI (wtn row k nt)) (wtn_ok ht30).1 ?_
        refine gg_callV (F := []) (As := [.int (nI (wtn row k nt))]) (rest := []) (pc := 77) E ck_X5 (ct_X5_saysNumber (L := L ++ tName row k ++ [b8 58] ++ tNum (pur row k) ++ [b8 47]) hl (by omega) (by first | omega | (simp only [List.length_append, List.length_singleton, tName_len, tNum_len]; omega))) (cwV 1 E.2.2.2.2.1 (lw_V q3442 q3444 qs149 q179 q3445) rfl rfl rfl (by decide +kernel) ⟨by rw [hRf]; exact Nat.le_of_ble_eq_true rfl, by rw [hRl]; exact Nat.le_of_ble_eq_true rfl⟩) dX5_saysRoof_77 [0, 1] (by decide) rfl rfl (fun _ h => by cases h) (gg_i 0 rfl) rfl rfl (Nat.le_of_ble_eq_true rfl) (by first | (rw [hRc]; exact Nat.le_of_ble_eq_true rfl) | (rw [hRc]; dsimp only; omega)) (by first | (rw [hRs]; exact Nat.le_of_ble_eq_true rfl) | (rw [hRs]; dsimp only; omega)) ?_ (fun X q C1 h => h.elim)
        rintro _ _ ⟨rfl, rfl⟩
        dsimp only [List.cons_append, List.nil_append, Option.toList]
        refine gg_up1 ?_
        refine gg_up1 ?_
        refine gg_vret (pc := 80) E Fn rfl dX5_saysRoof_80 (by first | exact Nat.le_of_ble_eq_true rfl | (dsimp only; omega)) (by first | exact Nat.le_of_ble_eq_true rfl | (dsimp only; omega)) ?_
        have e : L ++ tName row k ++ [b8 58] ++ tNum (pur row k) ++ [b8 47] ++ tNum (wtn row k nt) = L ++ tRoof row nt k := by
          unfold tRoof
          rw [if_pos c1, if_neg c48, if_neg (show ¬ wtn row k nt = 0 by omega)]
          simp only [List.append_assoc, List.append_nil, List.nil_append]
        rw [e]
        exact ⟨rfl, rfl⟩
    · refine gg_aload_n (pc := 51) E dX5_saysRoof_51 rfl rfl ?_
      refine gg_bipush (v := 33) (pc := 52) E dX5_saysRoof_52 (by decide) ?_
      refine gg_callV (F := []) (As := [_]) (rest := []) (pc := 54) E ck_X5 (ct_X5_says (L := L ++ tName row k ++ [b8 58] ++ tNum (pur row k)) hl (by first | omega | (simp only [List.length_append, List.length_singleton, tName_len, tNum_len]; omega))) (cwV 1 E.2.2.2.2.1 (lw_V q3434 q3436 qs147 q179 q3437) rfl rfl rfl (by decide +kernel) ⟨by rw [hRf]; exact Nat.le_of_ble_eq_true rfl, by rw [hRl]; exact Nat.le_of_ble_eq_true rfl⟩) dX5_saysRoof_54 [0, 1] (by decide) rfl rfl (fun _ h => by cases h) (gg_i 0 rfl) rfl rfl (Nat.le_of_ble_eq_true rfl) (by first | (rw [hRc]; exact Nat.le_of_ble_eq_true rfl) | (rw [hRc]; dsimp only; omega)) (by first | (rw [hRs]; exact Nat.le_of_ble_eq_true rfl) | (rw [hRs]; dsimp only; omega)) ?_ (fun X q C1 h => h.elim)
      rintro _ _ ⟨rfl, rfl⟩
      dsimp only [List.cons_append, List.nil_append, Option.toList]
      refine gg_up1 ?_
      refine gg_up1 ?_
      refine gg_aload_n (pc := 57) E dX5_saysRoof_57 rfl rfl ?_
      refine gg_iload_n (pc := 58) E dX5_saysRoof_58 rfl rfl ?_
      refine gg_callV (F := [_, _]) (As := [_]) (rest := []) (pc := 59) E ck_X5 (ct_X5_waitingMany hl (hnt) (ht30)) (cwV 1 E.2.2.2.2.1 (lw_V q3275 q3277 qs132 q179 q3278) rfl rfl rfl (by decide +kernel) ⟨by rw [hRf]; exact Nat.le_of_ble_eq_true rfl, by rw [hRl]; exact Nat.le_of_ble_eq_true rfl⟩) dX5_saysRoof_59 [] (by decide) rfl rfl (List.forall_mem_cons.mpr ⟨(gg_i 0 rfl), (List.forall_mem_cons.mpr ⟨(gg_r 0 rfl), (fun _ h => by cases h)⟩)⟩) (gg_i 0 rfl) rfl rfl (Nat.le_of_ble_eq_true rfl) (by first | (rw [hRc]; exact Nat.le_of_ble_eq_true rfl) | (rw [hRc]; dsimp only; omega)) (by first | (rw [hRs]; exact Nat.le_of_ble_eq_true rfl) | (rw [hRs]; dsimp only; omega)) ?_ (fun X q C1 h => h.elim)
      rintro _ _ ⟨rfl, rfl⟩
      dsimp only [List.cons_append, List.nil_append, Option.toList]
      refine gg_topI (y := nI (wtn row k nt)) (wtn_ok ht30).1 ?_
      refine gg_ifN_le (tgt := 80) (pc := 62) E (wtn row k nt) rfl (by omega) dX5_saysRoof_62 (by decide) (fun c62 => ?_) (fun c62 => ?_)
      · refine gg_vret (pc := 80) E Fn rfl dX5_saysRoof_80 (by first | exact Nat.le_of_ble_eq_true rfl | (dsimp only; omega)) (by first | exact Nat.le_of_ble_eq_true rfl | (dsimp only; omega)) ?_
        have e : L ++ tName row k ++ [b8 58] ++ tNum (pur row k) ++ [b8 33] = L ++ tRoof row nt k := by
          unfold tRoof
          rw [if_pos c1, if_pos c48, if_pos c62]
          simp only [List.append_assoc, List.append_nil, List.nil_append]
        rw [e]
        exact ⟨rfl, rfl⟩
      · refine gg_aload_n (pc := 65) E dX5_saysRoof_65 rfl rfl ?_
        refine gg_bipush (v := 47) (pc := 66) E dX5_saysRoof_66 (by decide) ?_
        refine gg_callV (F := []) (As := [_]) (rest := []) (pc := 68) E ck_X5 (ct_X5_says (L := L ++ tName row k ++ [b8 58] ++ tNum (pur row k) ++ [b8 33]) hl (by first | omega | (simp only [List.length_append, List.length_singleton, tName_len, tNum_len]; omega))) (cwV 1 E.2.2.2.2.1 (lw_V q3434 q3436 qs147 q179 q3437) rfl rfl rfl (by decide +kernel) ⟨by rw [hRf]; exact Nat.le_of_ble_eq_true rfl, by rw [hRl]; exact Nat.le_of_ble_eq_true rfl⟩) dX5_saysRoof_68 [0, 1] (by decide) rfl rfl (fun _ h => by cases h) (gg_i 0 rfl) rfl rfl (Nat.le_of_ble_eq_true rfl) (by first | (rw [hRc]; exact Nat.le_of_ble_eq_true rfl) | (rw [hRc]; dsimp only; omega)) (by first | (rw [hRs]; exact Nat.le_of_ble_eq_true rfl) | (rw [hRs]; dsimp only; omega)) ?_ (fun X q C1 h => h.elim)
        rintro _ _ ⟨rfl, rfl⟩
        dsimp only [List.cons_append, List.nil_append, Option.toList]
        refine gg_up1 ?_
        refine gg_up1 ?_
        refine gg_aload_n (pc := 71) E dX5_saysRoof_71 rfl rfl ?_
        refine gg_aload_n (pc := 72) E dX5_saysRoof_72 rfl rfl ?_
        refine gg_iload_n (pc := 73) E dX5_saysRoof_73 rfl rfl ?_
        refine gg_callV (F := [_, _]) (As := [_]) (rest := [_]) (pc := 74) E ck_X5 (ct_X5_waitingMany hl (hnt) (ht30)) (cwV 1 E.2.2.2.2.1 (lw_V q3275 q3277 qs132 q179 q3278) rfl rfl rfl (by decide +kernel) ⟨by rw [hRf]; exact Nat.le_of_ble_eq_true rfl, by rw [hRl]; exact Nat.le_of_ble_eq_true rfl⟩) dX5_saysRoof_74 [] (by decide) rfl rfl (List.forall_mem_cons.mpr ⟨(gg_i 0 rfl), (List.forall_mem_cons.mpr ⟨(gg_r 0 rfl), (fun _ h => by cases h)⟩)⟩) (gg_i 0 rfl) rfl rfl (Nat.le_of_ble_eq_true rfl) (by first | (rw [hRc]; exact Nat.le_of_ble_eq_true rfl) | (rw [hRc]; dsimp only; omega)) (by first | (rw [hRs]; exact Nat.le_of_ble_eq_true rfl) | (rw [hRs]; dsimp only; omega)) ?_ (fun X q C1 h => h.elim)
        rintro _ _ ⟨rfl, rfl⟩
        dsimp only [List.cons_append, List.nil_append, Option.toList]
        refine gg_topI (y := nI (wtn row k nt)) (wtn_ok ht30).1 ?_
        refine gg_callV (F := []) (As := [.int (nI (wtn row k nt))]) (rest := []) (pc := 77) E ck_X5 (ct_X5_saysNumber (L := L ++ tName row k ++ [b8 58] ++ tNum (pur row k) ++ [b8 33] ++ [b8 47]) hl (by omega) (by first | omega | (simp only [List.length_append, List.length_singleton, tName_len, tNum_len]; omega))) (cwV 1 E.2.2.2.2.1 (lw_V q3442 q3444 qs149 q179 q3445) rfl rfl rfl (by decide +kernel) ⟨by rw [hRf]; exact Nat.le_of_ble_eq_true rfl, by rw [hRl]; exact Nat.le_of_ble_eq_true rfl⟩) dX5_saysRoof_77 [0, 1] (by decide) rfl rfl (fun _ h => by cases h) (gg_i 0 rfl) rfl rfl (Nat.le_of_ble_eq_true rfl) (by first | (rw [hRc]; exact Nat.le_of_ble_eq_true rfl) | (rw [hRc]; dsimp only; omega)) (by first | (rw [hRs]; exact Nat.le_of_ble_eq_true rfl) | (rw [hRs]; dsimp only; omega)) ?_ (fun X q C1 h => h.elim)
        rintro _ _ ⟨rfl, rfl⟩
        dsimp only [List.cons_append, List.nil_append, Option.toList]
        refine gg_up1 ?_
        refine gg_up1 ?_
        refine gg_vret (pc := 80) E Fn rfl dX5_saysRoof_80 (by first | exact Nat.le_of_ble_eq_true rfl | (dsimp only; omega)) (by first | exact Nat.le_of_ble_eq_true rfl | (dsimp only; omega)) ?_
        have e : L ++ tName row k ++ [b8 58] ++ tNum (pur row k) ++ [b8 33] ++ [b8 47] ++ tNum (wtn row k nt) = L ++ tRoof row nt k := by
          unfold tRoof
          rw [if_pos c1, if_pos c48, if_neg (show ¬ wtn row k nt = 0 by omega)]
          simp only [List.append_assoc, List.append_nil, List.nil_append]
        rw [e]
        exact ⟨rfl, rfl⟩
  · refine gg_aload_n (pc := 4) E dX5_saysRoof_4 rfl rfl ?_
    refine gg_bipush (v := 32) (pc := 5) E dX5_saysRoof_5 (by decide) ?_
    refine gg_callV (F := []) (As := [_]) (rest := []) (pc := 7) E ck_X5 (ct_X5_says (L := L) hl (by first | omega | (simp only [List.length_append, List.length_singleton, tName_len, tNum_len]; omega))) (cwV 1 E.2.2.2.2.1 (lw_V q3434 q3436 qs147 q179 q3437) rfl rfl rfl (by decide +kernel) ⟨by rw [hRf]; exact Nat.le_of_ble_eq_true rfl, by rw [hRl]; exact Nat.le_of_ble_eq_true rfl⟩) dX5_saysRoof_7 [0, 1] (by decide) rfl rfl (fun _ h => by cases h) (gg_i 0 rfl) rfl rfl (Nat.le_of_ble_eq_true rfl) (by first | (rw [hRc]; exact Nat.le_of_ble_eq_true rfl) | (rw [hRc]; dsimp only; omega)) (by first | (rw [hRs]; exact Nat.le_of_ble_eq_true rfl) | (rw [hRs]; dsimp only; omega)) ?_ (fun X q C1 h => h.elim)
    rintro _ _ ⟨rfl, rfl⟩
    dsimp only [List.cons_append, List.nil_append, Option.toList]
    refine gg_up1 ?_
    refine gg_up1 ?_
    refine gg_aload_n (pc := 10) E dX5_saysRoof_10 rfl rfl ?_
    refine gg_iload_n (pc := 11) E dX5_saysRoof_11 rfl rfl ?_
    refine gg_callV (F := []) (As := [.int (nI k)]) (rest := []) (pc := 12) E ck_X5 (ct_X5_saysName (L := L ++ [b8 32]) hl (by omega) hG5.1.1 hG5.1.2.2 (by first | omega | (simp only [List.length_append, List.length_singleton, tName_len, tNum_len]; omega))) (cwV 1 E.2.2.2.2.1 (lw_V q3438 q3440 qs148 q179 q3441) rfl rfl rfl (by decide +kernel) ⟨by rw [hRf]; exact Nat.le_of_ble_eq_true rfl, by rw [hRl]; exact Nat.le_of_ble_eq_true rfl⟩) dX5_saysRoof_12 [0, 1] (by decide) rfl rfl (List.forall_mem_cons.mpr ⟨(gg_r 0 rfl), (fun _ h => by cases h)⟩) (gg_i 0 rfl) rfl rfl (Nat.le_of_ble_eq_true rfl) (by first | (rw [hRc]; exact Nat.le_of_ble_eq_true rfl) | (rw [hRc]; dsimp only; omega)) (by first | (rw [hRs]; exact Nat.le_of_ble_eq_true rfl) | (rw [hRs]; dsimp only; omega)) ?_ (fun X q C1 h => h.elim)
    rintro _ _ ⟨rfl, rfl⟩
    dsimp only [List.cons_append, List.nil_append, Option.toList]
    refine gg_up1 ?_
    refine gg_up1 ?_
    refine gg_aload_n (pc := 15) E dX5_saysRoof_15 rfl rfl ?_
    refine gg_bipush (v := 58) (pc := 16) E dX5_saysRoof_16 (by decide) ?_
    refine gg_callV (F := []) (As := [_]) (rest := []) (pc := 18) E ck_X5 (ct_X5_says (L := L ++ [b8 32] ++ tName row k) hl (by first | omega | (simp only [List.length_append, List.length_singleton, tName_len, tNum_len]; omega))) (cwV 1 E.2.2.2.2.1 (lw_V q3434 q3436 qs147 q179 q3437) rfl rfl rfl (by decide +kernel) ⟨by rw [hRf]; exact Nat.le_of_ble_eq_true rfl, by rw [hRl]; exact Nat.le_of_ble_eq_true rfl⟩) dX5_saysRoof_18 [0, 1] (by decide) rfl rfl (fun _ h => by cases h) (gg_i 0 rfl) rfl rfl (Nat.le_of_ble_eq_true rfl) (by first | (rw [hRc]; exact Nat.le_of_ble_eq_true rfl) | (rw [hRc]; dsimp only; omega)) (by first | (rw [hRs]; exact Nat.le_of_ble_eq_true rfl) | (rw [hRs]; dsimp only; omega)) ?_ (fun X q C1 h => h.elim)
    rintro _ _ ⟨rfl, rfl⟩
    dsimp only [List.cons_append, List.nil_append, Option.toList]
    refine gg_up1 ?_
    refine gg_up1 ?_
    refine gg_aload_n (pc := 21) E dX5_saysRoof_21 rfl rfl ?_
    refine gg_aload_n (pc := 22) E dX5_saysRoof_22 rfl rfl ?_
    refine gg_get (pc := 23) E ck_X5 0 q2859 rfl (by decide) dX5_saysRoof_23 (gg_i 0 rfl) rfl ?_
    refine gg_iload_n (pc := 26) E dX5_saysRoof_26 rfl rfl ?_
    refine gg_callS (F := [_, _]) (As := [.int (nI k)]) (rest := [_, _]) (pc := 27) E (ct_X5_r hl ) (va_cwS 1 E.2.2.2.2.1 (lw_S q2849 q2850 q179 q2851) rfl rfl rfl (by decide +kernel) ⟨by rw [hRf]; exact Nat.le_of_ble_eq_true rfl, by rw [hRl]; exact Nat.le_of_ble_eq_true rfl⟩) dX5_saysRoof_27 [] (by decide) rfl rfl (fun _ h => by cases h) rfl rfl (Nat.le_of_ble_eq_true rfl) (by first | (rw [hRc]; exact Nat.le_of_ble_eq_true rfl) | (rw [hRc]; dsimp only; omega)) (by first | (rw [hRs]; exact Nat.le_of_ble_eq_true rfl) | (rw [hRs]; dsimp only; omega)) ?_ (fun X q C1 h => h.elim)
    rintro _ _ ⟨rfl, rfl⟩
    dsimp only [List.cons_append, List.nil_append, Option.toList]
    refine gg_bipush (v := 10) (pc := 30) E dX5_saysRoof_30 (by decide) ?_
    refine gg_iaddN (pc := 32) E (25 + 13 * k) 10 rfl rfl dX5_saysRoof_32 ?_
    refine gg_ialdN (pc := 33) E ((25 + 13 * k) + 10) rfl (by omega) (by omega) dX5_saysRoof_33 (gg_r 0 rfl) ?_
    rw [hpu]
    refine gg_callV (F := []) (As := [.int (nI (pur row k))]) (rest := []) (pc := 34) E ck_X5 (ct_X5_saysNumber (L := L ++ [b8 32] ++ tName row k ++ [b8 58]) hl (by omega) (by first | omega | (simp only [List.length_append, List.length_singleton, tName_len, tNum_len]; omega))) (cwV 1 E.2.2.2.2.1 (lw_V q3442 q3444 qs149 q179 q3445) rfl rfl rfl (by decide +kernel) ⟨by rw [hRf]; exact Nat.le_of_ble_eq_true rfl, by rw [hRl]; exact Nat.le_of_ble_eq_true rfl⟩) dX5_saysRoof_34 [0, 1] (by decide) rfl rfl (fun _ h => by cases h) (gg_i 0 rfl) rfl rfl (Nat.le_of_ble_eq_true rfl) (by first | (rw [hRc]; exact Nat.le_of_ble_eq_true rfl) | (rw [hRc]; dsimp only; omega)) (by first | (rw [hRs]; exact Nat.le_of_ble_eq_true rfl) | (rw [hRs]; dsimp only; omega)) ?_ (fun X q C1 h => h.elim)
    rintro _ _ ⟨rfl, rfl⟩
    dsimp only [List.cons_append, List.nil_append, Option.toList]
    refine gg_up1 ?_
    refine gg_up1 ?_
    refine gg_aload_n (pc := 37) E dX5_saysRoof_37 rfl rfl ?_
    refine gg_iload_n (pc := 38) E dX5_saysRoof_38 rfl rfl ?_
    refine gg_aload_n (pc := 39) E dX5_saysRoof_39 rfl rfl ?_
    refine gg_get (pc := 40) E ck_X5 0 q2859 rfl (by decide) dX5_saysRoof_40 (gg_i 0 rfl) rfl ?_
    refine gg_iconst (v := 3) (pc := 43) E dX5_saysRoof_43 (by decide) ?_
    refine gg_ialdN (pc := 44) E 3 rfl (by omega) (by omega) dX5_saysRoof_44 (gg_r 0 rfl) ?_
    refine gg_callV (F := [_, _]) (As := [.int (nI k), _]) (rest := []) (pc := 45) E ck_X5 (ct_X5_isBusy hl (by omega)) (cwV 2 E.2.2.2.2.1 (lw_V q3168 q3170 qs110 q179 q3171) rfl rfl rfl (by decide +kernel) ⟨by rw [hRf]; exact Nat.le_of_ble_eq_true rfl, by rw [hRl]; exact Nat.le_of_ble_eq_true rfl⟩) dX5_saysRoof_45 [] (by decide) rfl rfl (List.forall_mem_cons.mpr ⟨(gg_i 0 rfl), (List.forall_mem_cons.mpr ⟨(gg_r 0 rfl), (fun _ h => by cases h)⟩)⟩) (gg_i 0 rfl) rfl rfl (Nat.le_of_ble_eq_true rfl) (by first | (rw [hRc]; exact Nat.le_of_ble_eq_true rfl) | (rw [hRc]; dsimp only; omega)) (by first | (rw [hRs]; exact Nat.le_of_ble_eq_true rfl) | (rw [hRs]; dsimp only; omega)) ?_ (fun X q C1 h => h.elim)
    rintro _ _ ⟨rfl, rfl⟩
    dsimp only [List.cons_append, List.nil_append, Option.toList]
    refine gg_ifP_eq (tgt := 57) (pc := 48) E dX5_saysRoof_48 (by decide) (fun c48 => ?_) (fun c48 => ?_)
    · refine gg_aload_n (pc := 57) E dX5_saysRoof_57 rfl rfl ?_
      refine gg_iload_n (pc := 58) E dX5_saysRoof_58 rfl rfl ?_
      refine gg_callV (F := [_, _]) (As := [_]) (rest := []) (pc := 59) E ck_X5 (ct_X5_waitingMany hl (hnt) (ht30)) (cwV 1 E.2.2.2.2.1 (lw_V q3275 q3277 qs132 q179 q3278) rfl rfl rfl (by decide +kernel) ⟨by rw [hRf]; exact Nat.le_of_ble_eq_true rfl, by rw [hRl]; exact Nat.le_of_ble_eq_true rfl⟩) dX5_saysRoof_59 [] (by decide) rfl rfl (List.forall_mem_cons.mpr ⟨(gg_i 0 rfl), (List.forall_mem_cons.mpr ⟨(gg_r 0 rfl), (fun _ h => by cases h)⟩)⟩) (gg_i 0 rfl) rfl rfl (Nat.le_of_ble_eq_true rfl) (by first | (rw [hRc]; exact Nat.le_of_ble_eq_true rfl) | (rw [hRc]; dsimp only; omega)) (by first | (rw [hRs]; exact Nat.le_of_ble_eq_true rfl) | (rw [hRs]; dsimp only; omega)) ?_ (fun X q C1 h => h.elim)
      rintro _ _ ⟨rfl, rfl⟩
      dsimp only [List.cons_append, List.nil_append, Option.toList]
      refine gg_topI (y := nI (wtn row k nt)) (wtn_ok ht30).1 ?_
      refine gg_ifN_le (tgt := 80) (pc := 62) E (wtn row k nt) rfl (by omega) dX5_saysRoof_62 (by decide) (fun c62 => ?_) (fun c62 => ?_)
      · refine gg_vret (pc := 80) E Fn rfl dX5_saysRoof_80 (by first | exact Nat.le_of_ble_eq_true rfl | (dsimp only; omega)) (by first | exact Nat.le_of_ble_eq_true rfl | (dsimp only; omega)) ?_
        have e : L ++ [b8 32] ++ tName row k ++ [b8 58] ++ tNum (pur row k) = L ++ tRoof row nt k := by
          unfold tRoof
          rw [if_neg (show ¬ k = 0 by omega), if_neg c48, if_pos c62]
          simp only [List.append_assoc, List.append_nil, List.nil_append]
        rw [e]
        exact ⟨rfl, rfl⟩
      · refine gg_aload_n (pc := 65) E dX5_saysRoof_65 rfl rfl ?_
        refine gg_bipush (v := 47) (pc := 66) E dX5_saysRoof_66 (by decide) ?_
        refine gg_callV (F := []) (As := [_]) (rest := []) (pc := 68) E ck_X5 (ct_X5_says (L := L ++ [b8 32] ++ tName row k ++ [b8 58] ++ tNum (pur row k)) hl (by first | omega | (simp only [List.length_append, List.length_singleton, tName_len, tNum_len]; omega))) (cwV 1 E.2.2.2.2.1 (lw_V q3434 q3436 qs147 q179 q3437) rfl rfl rfl (by decide +kernel) ⟨by rw [hRf]; exact Nat.le_of_ble_eq_true rfl, by rw [hRl]; exact Nat.le_of_ble_eq_true rfl⟩) dX5_saysRoof_68 [0, 1] (by decide) rfl rfl (fun _ h => by cases h) (gg_i 0 rfl) rfl rfl (Nat.le_of_ble_eq_true rfl) (by first | (rw [hRc]; exact Nat.le_of_ble_eq_true rfl) | (rw [hRc]; dsimp only; omega)) (by first | (rw [hRs]; exact Nat.le_of_ble_eq_true rfl) | (rw [hRs]; dsimp only; omega)) ?_ (fun X q C1 h => h.elim)
        rintro _ _ ⟨rfl, rfl⟩
        dsimp only [List.cons_append, List.nil_append, Option.toList]
        refine gg_up1 ?_
        refine gg_up1 ?_
        refine gg_aload_n (pc := 71) E dX5_saysRoof_71 rfl rfl ?_
        refine gg_aload_n (pc := 72) E dX5_saysRoof_72 rfl rfl ?_
        refine gg_iload_n (pc := 73) E dX5_saysRoof_73 rfl rfl ?_
        refine gg_callV (F := [_, _]) (As := [_]) (rest := [_]) (pc := 74) E ck_X5 (ct_X5_waitingMany hl (hnt) (ht30)) (cwV 1 E.2.2.2.2.1 (lw_V q3275 q3277 qs132 q179 q3278) rfl rfl rfl (by decide +kernel) ⟨by rw [hRf]; exact Nat.le_of_ble_eq_true rfl, by rw [hRl]; exact Nat.le_of_ble_eq_true rfl⟩) dX5_saysRoof_74 [] (by decide) rfl rfl (List.forall_mem_cons.mpr ⟨(gg_i 0 rfl), (List.forall_mem_cons.mpr ⟨(gg_r 0 rfl), (fun _ h => by cases h)⟩)⟩) (gg_i 0 rfl) rfl rfl (Nat.le_of_ble_eq_true rfl) (by first | (rw [hRc]; exact Nat.le_of_ble_eq_true rfl) | (rw [hRc]; dsimp only; omega)) (by first | (rw [hRs]; exact Nat.le_of_ble_eq_true rfl) | (rw [hRs]; dsimp only; omega)) ?_ (fun X q C1 h => h.elim)
        rintro _ _ ⟨rfl, rfl⟩
        dsimp only [List.cons_append, List.nil_append, Option.toList]
        refine gg_topI (y := nI (wtn row k nt)) (wtn_ok ht30).1 ?_
        refine gg_callV (F := []) (As := [.int (nI (wtn row k nt))]) (rest := []) (pc := 77) E ck_X5 (ct_X5_saysNumber (L := L ++ [b8 32] ++ tName row k ++ [b8 58] ++ tNum (pur row k) ++ [b8 47]) hl (by omega) (by first | omega | (simp only [List.length_append, List.length_singleton, tName_len, tNum_len]; omega))) (cwV 1 E.2.2.2.2.1 (lw_V q3442 q3444 qs149 q179 q3445) rfl rfl rfl (by decide +kernel) ⟨by rw [hRf]; exact Nat.le_of_ble_eq_true rfl, by rw [hRl]; exact Nat.le_of_ble_eq_true rfl⟩) dX5_saysRoof_77 [0, 1] (by decide) rfl rfl (fun _ h => by cases h) (gg_i 0 rfl) rfl rfl (Nat.le_of_ble_eq_true rfl) (by first | (rw [hRc]; exact Nat.le_of_ble_eq_true rfl) | (rw [hRc]; dsimp only; omega)) (by first | (rw [hRs]; exact Nat.le_of_ble_eq_true rfl) | (rw [hRs]; dsimp only; omega)) ?_ (fun X q C1 h => h.elim)
        rintro _ _ ⟨rfl, rfl⟩
        dsimp only [List.cons_append, List.nil_append, Option.toList]
        refine gg_up1 ?_
        refine gg_up1 ?_
        refine gg_vret (pc := 80) E Fn rfl dX5_saysRoof_80 (by first | exact Nat.le_of_ble_eq_true rfl | (dsimp only; omega)) (by first | exact Nat.le_of_ble_eq_true rfl | (dsimp only; omega)) ?_
        have e : L ++ [b8 32] ++ tName row k ++ [b8 58] ++ tNum (pur row k) ++ [b8 47] ++ tNum (wtn row k nt) = L ++ tRoof row nt k := by
          unfold tRoof
          rw [if_neg (show ¬ k = 0 by omega), if_neg c48, if_neg (show ¬ wtn row k nt = 0 by omega)]
          simp only [List.append_assoc, List.append_nil, List.nil_append]
        rw [e]
        exact ⟨rfl, rfl⟩
    · refine gg_aload_n (pc := 51) E dX5_saysRoof_51 rfl rfl ?_
      refine gg_bipush (v := 33) (pc := 52) E dX5_saysRoof_52 (by decide) ?_
      refine gg_callV (F := []) (As := [_]) (rest := []) (pc := 54) E ck_X5 (ct_X5_says (L := L ++ [b8 32] ++ tName row k ++ [b8 58] ++ tNum (pur row k)) hl (by first | omega | (simp only [List.length_append, List.length_singleton, tName_len, tNum_len]; omega))) (cwV 1 E.2.2.2.2.1 (lw_V q3434 q3436 qs147 q179 q3437) rfl rfl rfl (by decide +kernel) ⟨by rw [hRf]; exact Nat.le_of_ble_eq_true rfl, by rw [hRl]; exact Nat.le_of_ble_eq_true rfl⟩) dX5_saysRoof_54 [0, 1] (by decide) rfl rfl (fun _ h => by cases h) (gg_i 0 rfl) rfl rfl (Nat.le_of_ble_eq_true rfl) (by first | (rw [hRc]; exact Nat.le_of_ble_eq_true rfl) | (rw [hRc]; dsimp only; omega)) (by first | (rw [hRs]; exact Nat.le_of_ble_eq_true rfl) | (rw [hRs]; dsimp only; omega)) ?_ (fun X q C1 h => h.elim)
      rintro _ _ ⟨rfl, rfl⟩
      dsimp only [List.cons_append, List.nil_append, Option.toList]
      refine gg_up1 ?_
      refine gg_up1 ?_
      refine gg_aload_n (pc := 57) E dX5_saysRoof_57 rfl rfl ?_
      refine gg_iload_n (pc := 58) E dX5_saysRoof_58 rfl rfl ?_
      refine gg_callV (F := [_, _]) (As := [_]) (rest := []) (pc := 59) E ck_X5 (ct_X5_waitingMany hl (hnt) (ht30)) (cwV 1 E.2.2.2.2.1 (lw_V q3275 q3277 qs132 q179 q3278) rfl rfl rfl (by decide +kernel) ⟨by rw [hRf]; exact Nat.le_of_ble_eq_true rfl, by rw [hRl]; exact Nat.le_of_ble_eq_true rfl⟩) dX5_saysRoof_59 [] (by decide) rfl rfl (List.forall_mem_cons.mpr ⟨(gg_i 0 rfl), (List.forall_mem_cons.mpr ⟨(gg_r 0 rfl), (fun _ h => by cases h)⟩)⟩) (gg_i 0 rfl) rfl rfl (Nat.le_of_ble_eq_true rfl) (by first | (rw [hRc]; exact Nat.le_of_ble_eq_true rfl) | (rw [hRc]; dsimp only; omega)) (by first | (rw [hRs]; exact Nat.le_of_ble_eq_true rfl) | (rw [hRs]; dsimp only; omega)) ?_ (fun X q C1 h => h.elim)
      rintro _ _ ⟨rfl, rfl⟩
      dsimp only [List.cons_append, List.nil_append, Option.toList]
      refine gg_topI (y := nI (wtn row k nt)) (wtn_ok ht30).1 ?_
      refine gg_ifN_le (tgt := 80) (pc := 62) E (wtn row k nt) rfl (by omega) dX5_saysRoof_62 (by decide) (fun c62 => ?_) (fun c62 => ?_)
      · refine gg_vret (pc := 80) E Fn rfl dX5_saysRoof_80 (by first | exact Nat.le_of_ble_eq_true rfl | (dsimp only; omega)) (by first | exact Nat.le_of_ble_eq_true rfl | (dsimp only; omega)) ?_
        have e : L ++ [b8 32] ++ tName row k ++ [b8 58] ++ tNum (pur row k) ++ [b8 33] = L ++ tRoof row nt k := by
          unfold tRoof
          rw [if_neg (show ¬ k = 0 by omega), if_pos c48, if_pos c62]
          simp only [List.append_assoc, List.append_nil, List.nil_append]
        rw [e]
        exact ⟨rfl, rfl⟩
      · refine gg_aload_n (pc := 65) E dX5_saysRoof_65 rfl rfl ?_
        refine gg_bipush (v := 47) (pc := 66) E dX5_saysRoof_66 (by decide) ?_
        refine gg_callV (F := []) (As := [_]) (rest := []) (pc := 68) E ck_X5 (ct_X5_says (L := L ++ [b8 32] ++ tName row k ++ [b8 58] ++ tNum (pur row k) ++ [b8 33]) hl (by first | omega | (simp only [List.length_append, List.length_singleton, tName_len, tNum_len]; omega))) (cwV 1 E.2.2.2.2.1 (lw_V q3434 q3436 qs147 q179 q3437) rfl rfl rfl (by decide +kernel) ⟨by rw [hRf]; exact Nat.le_of_ble_eq_true rfl, by rw [hRl]; exact Nat.le_of_ble_eq_true rfl⟩) dX5_saysRoof_68 [0, 1] (by decide) rfl rfl (fun _ h => by cases h) (gg_i 0 rfl) rfl rfl (Nat.le_of_ble_eq_true rfl) (by first | (rw [hRc]; exact Nat.le_of_ble_eq_true rfl) | (rw [hRc]; dsimp only; omega)) (by first | (rw [hRs]; exact Nat.le_of_ble_eq_true rfl) | (rw [hRs]; dsimp only; omega)) ?_ (fun X q C1 h => h.elim)
        rintro _ _ ⟨rfl, rfl⟩
        dsimp only [List.cons_append, List.nil_append, Option.toList]
        refine gg_up1 ?_
        refine gg_up1 ?_
        refine gg_aload_n (pc := 71) E dX5_saysRoof_71 rfl rfl ?_
        refine gg_aload_n (pc := 72) E dX5_saysRoof_72 rfl rfl ?_
        refine gg_iload_n (pc := 73) E dX5_saysRoof_73 rfl rfl ?_
        refine gg_callV (F := [_, _]) (As := [_]) (rest := [_]) (pc := 74) E ck_X5 (ct_X5_waitingMany hl (hnt) (ht30)) (cwV 1 E.2.2.2.2.1 (lw_V q3275 q3277 qs132 q179 q3278) rfl rfl rfl (by decide +kernel) ⟨by rw [hRf]; exact Nat.le_of_ble_eq_true rfl, by rw [hRl]; exact Nat.le_of_ble_eq_true rfl⟩) dX5_saysRoof_74 [] (by decide) rfl rfl (List.forall_mem_cons.mpr ⟨(gg_i 0 rfl), (List.forall_mem_cons.mpr ⟨(gg_r 0 rfl), (fun _ h => by cases h)⟩)⟩) (gg_i 0 rfl) rfl rfl (Nat.le_of_ble_eq_true rfl) (by first | (rw [hRc]; exact Nat.le_of_ble_eq_true rfl) | (rw [hRc]; dsimp only; omega)) (by first | (rw [hRs]; exact Nat.le_of_ble_eq_true rfl) | (rw [hRs]; dsimp only; omega)) ?_ (fun X q C1 h => h.elim)
        rintro _ _ ⟨rfl, rfl⟩
        dsimp only [List.cons_append, List.nil_append, Option.toList]
        refine gg_topI (y := nI (wtn row k nt)) (wtn_ok ht30).1 ?_
        refine gg_callV (F := []) (As := [.int (nI (wtn row k nt))]) (rest := []) (pc := 77) E ck_X5 (ct_X5_saysNumber (L := L ++ [b8 32] ++ tName row k ++ [b8 58] ++ tNum (pur row k) ++ [b8 33] ++ [b8 47]) hl (by omega) (by first | omega | (simp only [List.length_append, List.length_singleton, tName_len, tNum_len]; omega))) (cwV 1 E.2.2.2.2.1 (lw_V q3442 q3444 qs149 q179 q3445) rfl rfl rfl (by decide +kernel) ⟨by rw [hRf]; exact Nat.le_of_ble_eq_true rfl, by rw [hRl]; exact Nat.le_of_ble_eq_true rfl⟩) dX5_saysRoof_77 [0, 1] (by decide) rfl rfl (fun _ h => by cases h) (gg_i 0 rfl) rfl rfl (Nat.le_of_ble_eq_true rfl) (by first | (rw [hRc]; exact Nat.le_of_ble_eq_true rfl) | (rw [hRc]; dsimp only; omega)) (by first | (rw [hRs]; exact Nat.le_of_ble_eq_true rfl) | (rw [hRs]; dsimp only; omega)) ?_ (fun X q C1 h => h.elim)
        rintro _ _ ⟨rfl, rfl⟩
        dsimp only [List.cons_append, List.nil_append, Option.toList]
        refine gg_up1 ?_
        refine gg_up1 ?_
        refine gg_vret (pc := 80) E Fn rfl dX5_saysRoof_80 (by first | exact Nat.le_of_ble_eq_true rfl | (dsimp only; omega)) (by first | exact Nat.le_of_ble_eq_true rfl | (dsimp only; omega)) ?_
        have e : L ++ [b8 32] ++ tName row k ++ [b8 58] ++ tNum (pur row k) ++ [b8 33] ++ [b8 47] ++ tNum (wtn row k nt) = L ++ tRoof row nt k := by
          unfold tRoof
          rw [if_neg (show ¬ k = 0 by omega), if_pos c48, if_neg (show ¬ wtn row k nt = 0 by omega)]
          simp only [List.append_assoc, List.append_nil, List.nil_append]
        rw [e]
        exact ⟨rfl, rfl⟩
set_option maxHeartbeats 4000000 in
theorem ct_X5_printRoofs {l : Launch} (hl : l.stackTraces = false) {g : gg_G}  {h : Nat} {ad : Nat → Nat} {x : Nat → Int32} {row : Nat → Int32} {o : Nat → Int32} {nr nw nt : Nat} (hG : Gw row nr nw nt) (hP : Pu row nr) : gg_C l g yX5_printRoofs (ws_ yX5_printRoofs cX5_printRoofs 2 (some .int)) { frames := 4, cells := 0, slots := 0, locals := 86 } [.ref h] [((ad 0), gg_ai g 1030 row)] [[(h, .inl (4, mo_f ad x))], [((ad 26), gg_ab g 300 o)]] (fun vv CC => vv = some (.int (nI (tRoofs row nt nr).length)) ∧ CC = [[(h, .inl (4, mo_f ad (upd (upd x 6 0) 27 (nI (tRoofs row nt nr).length))))], [((ad 26), gg_ab g 300 (lo o (tRoofs row nt nr)))]]) gg_no := by
  refine gg_of (lv := [_, _]) (by decide) hl (Nat.le_of_ble_eq_true rfl) rfl ?_
  intro p e R s m args below meth c A Q hRf hRl hRc hRs E Fn hnm hex
  have hG0 := hG
  obtain ⟨hnr, hw, ht, hG4, hGS⟩ := hG
  have hnw := hw.1
  have hw20 := hw.2.1
  have hr10 := hw.2.2.1
  have hnt := ht.1
  have ht30 := ht.2.1
  refine gg_aload_n (pc := 0) E dX5_printRoofs_0 rfl rfl ?_
  refine gg_iconst (v := 0) (pc := 1) E dX5_printRoofs_1 (by decide) ?_
  refine gg_putM (M' := [_, _]) (pc := 2) E ck_X5 6 q2865 rfl (by decide) dX5_printRoofs_2 0 rfl rfl (rfl) rfl (Nat.le_of_ble_eq_true rfl) rfl rfl ?_
  refine gg_aload_n (pc := 5) E dX5_printRoofs_5 rfl rfl ?_
  refine gg_iconst (v := 0) (pc := 6) E dX5_printRoofs_6 (by decide) ?_
  refine gg_putM (M' := [_, _]) (pc := 7) E ck_X5 27 q2886 rfl (by decide) dX5_printRoofs_7 0 rfl rfl (rfl) rfl (Nat.le_of_ble_eq_true rfl) rfl rfl ?_
  refine gg_iconst (v := 0) (pc := 10) E dX5_printRoofs_10 (by decide) ?_
  refine gg_istore_n (lv' := [_, _]) (pc := 11) E dX5_printRoofs_11 rfl (Nat.le_of_ble_eq_true rfl) rfl rfl ?_
  have L12 : ∀ (n : Nat) (i : Nat), nr - i < n → (i ≤ nr) → gg_W p l e R s m args below meth c g A 2 Q 0 0 [[(h, .inl (4, mo_f ad (upd (upd x 6 0) 27 (nI (tRoofs row nt i).length))))], [((ad 26), gg_ab g 300 (lo o (tRoofs row nt i)))]] [some (.ref h), some (.int (nI i))] [] 12 := by
    intro n12
    induction n12 with
    | zero => intro i hmz; exact absurd hmz (Nat.not_lt_zero _)
    | succ n12 ih12 =>
      intro i hm12 hi
      refine gg_iload_n (pc := 12) E dX5_printRoofs_12 rfl rfl ?_
      refine gg_aload_n (pc := 13) E dX5_printRoofs_13 rfl rfl ?_
      refine gg_get (pc := 14) E ck_X5 0 q2859 rfl (by decide) dX5_printRoofs_14 (gg_i 0 rfl) rfl ?_
      refine gg_iconst (v := 0) (pc := 17) E dX5_printRoofs_17 (by decide) ?_
      refine gg_ialdN (pc := 18) E 0 rfl (by omega) (by omega) dX5_printRoofs_18 (gg_r 0 rfl) ?_
      rw [hnr]
      refine gg_icmpN_ge (tgt := 33) (pc := 19) E i nr rfl rfl (by omega) (by omega) dX5_printRoofs_19 (by decide) (fun c19 => ?_) (fun c19 => ?_)
      · refine gg_aload_n (pc := 33) E dX5_printRoofs_33 rfl rfl ?_
        refine gg_get (pc := 34) E ck_X5 27 q2886 rfl (by decide) dX5_printRoofs_34 (gg_i 0 rfl) rfl ?_
        refine gg_iret (pc := 37) E Fn rfl (rfl) dX5_printRoofs_37 (by first | exact Nat.le_of_ble_eq_true rfl | (dsimp only; omega)) (by first | exact Nat.le_of_ble_eq_true rfl | (dsimp only; omega)) ?_
        obtain rfl : i = nr := by omega
        exact ⟨rfl, rfl⟩
      · refine gg_aload_n (pc := 22) E dX5_printRoofs_22 rfl rfl ?_
        refine gg_iload_n (pc := 23) E dX5_printRoofs_23 rfl rfl ?_
        refine gg_callV (F := []) (As := [.int (nI i)]) (rest := []) (pc := 24) E ck_X5 (ct_X5_saysRoof (L := tRoofs row nt i) hl hG0 hP (by omega) (by have := tRoofs_len (row := row) (nt := nt) i (fun k hk => (hG4 k (by omega)).1.2.2); omega)) (cwV 1 E.2.2.2.2.1 (lw_V q3430 q3432 qs146 q179 q3433) rfl rfl rfl (by decide +kernel) ⟨by rw [hRf]; exact Nat.le_of_ble_eq_true rfl, by rw [hRl]; exact Nat.le_of_ble_eq_true rfl⟩) dX5_printRoofs_24 [0, 1] (by decide) rfl rfl (List.forall_mem_cons.mpr ⟨(gg_r 0 rfl), (fun _ h => by cases h)⟩) (gg_i 0 rfl) rfl rfl (Nat.le_of_ble_eq_true rfl) (by first | (rw [hRc]; exact Nat.le_of_ble_eq_true rfl) | (rw [hRc]; dsimp only; omega)) (by first | (rw [hRs]; exact Nat.le_of_ble_eq_true rfl) | (rw [hRs]; dsimp only; omega)) ?_ (fun X q C1 h => h.elim)
        rintro _ _ ⟨rfl, rfl⟩
        dsimp only [List.cons_append, List.nil_append, Option.toList]
        refine gg_up1 ?_
        refine gg_up1 ?_
        refine gg_iincN (k := 1) (lv' := [_, _]) (pc := 27) E i dX5_printRoofs_27 rfl rfl rfl (Nat.le_of_ble_eq_true rfl) rfl rfl ?_
        refine gg_goto (tgt := 12) (pc := 30) E dX5_printRoofs_30 (by decide) ?_
        refine gg_cv rfl (gg_leS (gg_leS gg_le0)) rfl (by first | exact Nat.le_refl _ | (dsimp only; omega)) (by first | exact Nat.le_refl _ | (dsimp only; omega)) (ih12 (i + 1) (by omega) (by omega))
  refine gg_cv rfl (gg_leS (gg_leS gg_le0)) rfl (by first | exact Nat.le_refl _ | (dsimp only; omega)) (by first | exact Nat.le_refl _ | (dsimp only; omega)) (L12 _ 0 (Nat.lt_succ_self _) (Nat.zero_le _))

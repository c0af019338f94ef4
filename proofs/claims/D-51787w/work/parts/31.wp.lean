set_option maxRecDepth 100000
theorem upd_cm {f : Nat → Int32} {a b : Nat} {x y : Int32} (h : a ≠ b) : upd (upd f a x) b y = upd (upd f b y) a x := by
  funext k
  by_cases e : k = b
  · subst e
    rw [pk_us, pk_un (fun q => h q.symm), pk_us]
  · rw [pk_un e]
    by_cases e2 : k = a
    · subst e2
      rw [pk_us, pk_us]
    · rw [pk_un e2, pk_un e2, pk_un e]
abbrev cSend (nr nt : Nat) (k o no : Int32) : Prop := (isR nr k ∧ isR nr o) ∧ (¬ k = o ∧ (0 ≤ no.toInt ∧ no.toInt ≤ 77777777) ∧ ton (tn no) (dcn (tn no)) 0) ∧ nt < 30
def dgs (nn : Nat) : Nat → Int32 := fun k => nI (dgt nn (dcn nn) k)
theorem Chg_no11 {C : Prop} {x row past : Nat → Int32} {t z : Int32} {pm : Nat} {R : Nat → Int32} (h : ¬ C) : Chg C x row past (upd (upd x 11 z) 6 t) row past t pm R := Or.inr ⟨h, rfl, rfl, z, upd_cm (by omega)⟩
theorem Chg_yes11 {C : Prop} {x row past : Nat → Int32} {t z : Int32} {pm : Nat} {R R' : Nat → Int32} (h : C) (e : R' = R) : Chg C x row past (upd (upd (upd x 11 z) 6 t) 4 (nI (psn pm))) R' (pst past row pm) t pm R := Or.inl ⟨h, e, rfl, z, by rw [upd_cm (a := 11) (b := 6) (by omega), upd_cm (a := 11) (b := 4) (by omega)]⟩
set_option maxHeartbeats 4000000 in
theorem ct_X5_send {l : Launch} (hl : l.stackTraces = false) {g : gg_G}  {h : Nat} {ad : Nat → Nat} {x : Nat → Int32} {row : Nat → Int32} {past : Nat → Int32}  {su : Nat → Int32} {k o no wa : Int32} {pm : Nat} {nr nw nt : Nat} (hG : Gw row nr nw nt) (hpm : x 4 = nI pm) (hp8 : pm ≤ 8) (hwa : wa = 0 ∨ wa = 1) : gg_C l g yX5_send (ws_ yX5_send cX5_send 6 (some .int)) { frames := 3, cells := 0, slots := 0, locals := 69 } [.ref h, .int k, .int o, .int no, .int wa] [] [[(h, .inl (4, mo_f ad x))], [((ad 0), gg_ai g 1030 row)], [((ad 3), gg_ai g 8240 past)], [((ad 10), gg_ai g 8 su)]] (fun vv CC => ∃ (X1 R1 P1 U : Nat → Int32), (Chg (cSend nr nt k o no) x row past X1 R1 P1 (th (if (0 ≤ k.toInt ∧ k.toInt < nr) ∧ 0 ≤ o.toInt ∧ o.toInt < nr then 1 else 0) (if ¬ k = o ∧ (0 ≤ no.toInt ∧ no.toInt ≤ 77777777) ∧ ton (tn no) (dcn (tn no)) 0 then 1 else 0) (if nt < 30 then 1 else 0)) pm (ntu row nt (dcn (tn no)) (dgs (tn no)) k o 0 wa)) ∧ vv = some (.int (if cSend nr nt k o no then nI nt else 0)) ∧ CC = [[(h, .inl (4, mo_f ad X1))], [((ad 0), gg_ai g 1030 R1)], [((ad 3), gg_ai g 8240 P1)], [((ad 10), gg_ai g 8 U)]]) gg_no := by
  refine gg_of (lv := [_, _, _, _, _, _]) (by decide) hl (Nat.le_of_ble_eq_true rfl) rfl ?_
  intro p e R s m args below meth c A Q hRf hRl hRc hRs E Fn hnm hex
  have hG0 := hG
  obtain ⟨hnr, hw, ht, hG4, hGS⟩ := hG
  have hnw := hw.1
  have hw20 := hw.2.1
  have hr10 := hw.2.2.1
  have hnt := ht.1
  have ht30 := ht.2.1
  refine gg_iload_n (pc := 0) E dX5_send_0 rfl rfl ?_
  refine gg_iload_n (pc := 1) E dX5_send_1 rfl rfl ?_
  refine gg_icmp_eq (tgt := 29) (pc := 2) E dX5_send_2 (by decide) (fun c2 => ?_) (fun c2 => ?_)
  · refine gg_iconst (v := 0) (pc := 29) E dX5_send_29 (by decide) ?_
    refine gg_topI (y := if ¬ k = o ∧ (0 ≤ no.toInt ∧ no.toInt ≤ 77777777) ∧ ton (tn no) (dcn (tn no)) 0 then 1 else 0) (if_neg (fun q => q.1 c2)).symm ?_
    refine gg_istore (lv' := [_, _, _, _, _, _]) (pc := 30) E dX5_send_30 (Nat.le_of_ble_eq_true rfl) rfl rfl ?_
    refine gg_aload_n (pc := 32) E dX5_send_32 rfl rfl ?_
    refine gg_aload_n (pc := 33) E dX5_send_33 rfl rfl ?_
    refine gg_iload_n (pc := 34) E dX5_send_34 rfl rfl ?_
    refine gg_iload_n (pc := 35) E dX5_send_35 rfl rfl ?_
    refine gg_callV (F := [_, _, _, _]) (As := [_, _]) (rest := [_]) (pc := 36) E ck_X5 (ct_X5_areRoofs hl (by first | assumption | omega) (by first | assumption | omega)) (cwV 2 E.2.2.2.2.1 (lw_V q3292 q3294 qs134 q179 q3295) rfl rfl rfl (by decide +kernel) ⟨by rw [hRf]; exact Nat.le_of_ble_eq_true rfl, by rw [hRl]; exact Nat.le_of_ble_eq_true rfl⟩) dX5_send_36 [] (by decide) rfl rfl (List.forall_mem_cons.mpr ⟨(gg_i 0 rfl), (List.forall_mem_cons.mpr ⟨(gg_i 1 rfl), (fun _ h => by cases h)⟩)⟩) (gg_i 0 rfl) rfl rfl (Nat.le_of_ble_eq_true rfl) (by first | (rw [hRc]; exact Nat.le_of_ble_eq_true rfl) | (rw [hRc]; dsimp only; omega)) (by first | (rw [hRs]; exact Nat.le_of_ble_eq_true rfl) | (rw [hRs]; dsimp only; omega)) ?_ (fun X q C1 h => h.elim)
    rintro _ _ ⟨rfl, rfl⟩
    dsimp only [List.cons_append, List.nil_append, Option.toList]
    refine gg_iload (pc := 39) E dX5_send_39 rfl ?_
    refine gg_aload_n (pc := 41) E dX5_send_41 rfl rfl ?_
    refine gg_get (pc := 42) E ck_X5 0 q2859 rfl (by decide) dX5_send_42 (gg_i 0 rfl) rfl ?_
    refine gg_iconst (v := 2) (pc := 45) E dX5_send_45 (by decide) ?_
    refine gg_ialdN (pc := 46) E 2 rfl (by omega) (by omega) dX5_send_46 (gg_i 1 rfl) ?_
    rw [hnt]
    refine gg_bipush (v := 30) (pc := 47) E dX5_send_47 (by decide) ?_
    refine gg_icmpB_ge (pc := 49) E dX5_send_49 dX5_send_52 dX5_send_53 dX5_send_56 ?_
    refine gg_topI (y := if nt < 30 then 1 else 0) (gg_ifc (by rw [show (30 : Int32) = nI 30 from rfl, nI_leI (by omega) (by omega)]; omega)) ?_
    refine gg_callV (F := [_, _, _]) (As := [_, _, _]) (rest := []) (pc := 57) E ck_X5 (ct_X5_may hl ) (cwV 3 E.2.2.2.2.1 (lw_V q3241 q3243 qs127 q179 q3244) rfl rfl rfl (by decide +kernel) ⟨by rw [hRf]; exact Nat.le_of_ble_eq_true rfl, by rw [hRl]; exact Nat.le_of_ble_eq_true rfl⟩) dX5_send_57 [0] (by decide) rfl rfl (fun _ h => by cases h) (gg_i 0 rfl) rfl rfl (Nat.le_of_ble_eq_true rfl) (by first | (rw [hRc]; exact Nat.le_of_ble_eq_true rfl) | (rw [hRc]; dsimp only; omega)) (by first | (rw [hRs]; exact Nat.le_of_ble_eq_true rfl) | (rw [hRs]; dsimp only; omega)) ?_ (fun X q C1 h => h.elim)
    rintro _ _ ⟨rfl, rfl⟩
    dsimp only [List.cons_append, List.nil_append, Option.toList]
    refine gg_ifP_ne (tgt := 65) (pc := 60) E dX5_send_60 (by decide) (fun c60 => ?_) (fun c60 => ?_)
    · exact absurd c2 (th_3.mp c60).2.1.1
    refine gg_iconst (v := 0) (pc := 63) E dX5_send_63 (by decide) ?_
    refine gg_iret (pc := 64) E Fn rfl (rfl) dX5_send_64 (by first | exact Nat.le_of_ble_eq_true rfl | (dsimp only; omega)) (by first | exact Nat.le_of_ble_eq_true rfl | (dsimp only; omega)) ?_
    exact ⟨_, _, _, su, Chg_no (fun q => c60 (th_3.mpr q)), by rw [if_neg (fun q => c60 (th_3.mpr q))], rfl⟩
  · refine gg_iload_n (pc := 5) E dX5_send_5 rfl rfl ?_
    refine gg_i2l (pc := 6) E dX5_send_6 rfl ?_
    refine gg_lconst (v := 0) (pc := 7) E dX5_send_7 (by decide) ?_
    refine gg_ldc2 (pc := 8) E q3399 dX5_send_8 ?_
    refine gg_callS (F := [_, _, _, _]) (As := [_, _, _]) (rest := []) (pc := 11) E (ct_X5_in hl ) (va_cwS 3 E.2.2.2.2.1 (lw_S q2961 q2962 q179 q2963) rfl rfl rfl (by decide +kernel) ⟨by rw [hRf]; exact Nat.le_of_ble_eq_true rfl, by rw [hRl]; exact Nat.le_of_ble_eq_true rfl⟩) dX5_send_11 [] (by decide) rfl rfl (fun _ h => by cases h) rfl rfl (Nat.le_of_ble_eq_true rfl) (by first | (rw [hRc]; exact Nat.le_of_ble_eq_true rfl) | (rw [hRc]; dsimp only; omega)) (by first | (rw [hRs]; exact Nat.le_of_ble_eq_true rfl) | (rw [hRs]; dsimp only; omega)) ?_ (fun X q C1 h => h.elim)
    rintro _ _ ⟨rfl, rfl⟩
    dsimp only [List.cons_append, List.nil_append, Option.toList]
    refine gg_topI (y := if 0 ≤ no.toInt ∧ no.toInt ≤ 77777777 then 1 else 0) (gg_ifc (in_ab (by decide) (by decide))) ?_
    refine gg_ifP_eq (tgt := 29) (pc := 14) E dX5_send_14 (by decide) (fun c14 => ?_) (fun c14 => ?_)
    · refine gg_iconst (v := 0) (pc := 29) E dX5_send_29 (by decide) ?_
      refine gg_topI (y := if ¬ k = o ∧ (0 ≤ no.toInt ∧ no.toInt ≤ 77777777) ∧ ton (tn no) (dcn (tn no)) 0 then 1 else 0) (if_neg (fun q => c14 q.2.1)).symm ?_
      refine gg_istore (lv' := [_, _, _, _, _, _]) (pc := 30) E dX5_send_30 (Nat.le_of_ble_eq_true rfl) rfl rfl ?_
      refine gg_aload_n (pc := 32) E dX5_send_32 rfl rfl ?_
      refine gg_aload_n (pc := 33) E dX5_send_33 rfl rfl ?_
      refine gg_iload_n (pc := 34) E dX5_send_34 rfl rfl ?_
      refine gg_iload_n (pc := 35) E dX5_send_35 rfl rfl ?_
      refine gg_callV (F := [_, _, _, _]) (As := [_, _]) (rest := [_]) (pc := 36) E ck_X5 (ct_X5_areRoofs hl (by first | assumption | omega) (by first | assumption | omega)) (cwV 2 E.2.2.2.2.1 (lw_V q3292 q3294 qs134 q179 q3295) rfl rfl rfl (by decide +kernel) ⟨by rw [hRf]; exact Nat.le_of_ble_eq_true rfl, by rw [hRl]; exact Nat.le_of_ble_eq_true rfl⟩) dX5_send_36 [] (by decide) rfl rfl (List.forall_mem_cons.mpr ⟨(gg_i 0 rfl), (List.forall_mem_cons.mpr ⟨(gg_i 1 rfl), (fun _ h => by cases h)⟩)⟩) (gg_i 0 rfl) rfl rfl (Nat.le_of_ble_eq_true rfl) (by first | (rw [hRc]; exact Nat.le_of_ble_eq_true rfl) | (rw [hRc]; dsimp only; omega)) (by first | (rw [hRs]; exact Nat.le_of_ble_eq_true rfl) | (rw [hRs]; dsimp only; omega)) ?_ (fun X q C1 h => h.elim)
      rintro _ _ ⟨rfl, rfl⟩
      dsimp only [List.cons_append, List.nil_append, Option.toList]
      refine gg_iload (pc := 39) E dX5_send_39 rfl ?_
      refine gg_aload_n (pc := 41) E dX5_send_41 rfl rfl ?_
      refine gg_get (pc := 42) E ck_X5 0 q2859 rfl (by decide) dX5_send_42 (gg_i 0 rfl) rfl ?_
      refine gg_iconst (v := 2) (pc := 45) E dX5_send_45 (by decide) ?_
      refine gg_ialdN (pc := 46) E 2 rfl (by omega) (by omega) dX5_send_46 (gg_i 1 rfl) ?_
      rw [hnt]
      refine gg_bipush (v := 30) (pc := 47) E dX5_send_47 (by decide) ?_
      refine gg_icmpB_ge (pc := 49) E dX5_send_49 dX5_send_52 dX5_send_53 dX5_send_56 ?_
      refine gg_topI (y := if nt < 30 then 1 else 0) (gg_ifc (by rw [show (30 : Int32) = nI 30 from rfl, nI_leI (by omega) (by omega)]; omega)) ?_
      refine gg_callV (F := [_, _, _]) (As := [_, _, _]) (rest := []) (pc := 57) E ck_X5 (ct_X5_may hl ) (cwV 3 E.2.2.2.2.1 (lw_V q3241 q3243 qs127 q179 q3244) rfl rfl rfl (by decide +kernel) ⟨by rw [hRf]; exact Nat.le_of_ble_eq_true rfl, by rw [hRl]; exact Nat.le_of_ble_eq_true rfl⟩) dX5_send_57 [0] (by decide) rfl rfl (fun _ h => by cases h) (gg_i 0 rfl) rfl rfl (Nat.le_of_ble_eq_true rfl) (by first | (rw [hRc]; exact Nat.le_of_ble_eq_true rfl) | (rw [hRc]; dsimp only; omega)) (by first | (rw [hRs]; exact Nat.le_of_ble_eq_true rfl) | (rw [hRs]; dsimp only; omega)) ?_ (fun X q C1 h => h.elim)
      rintro _ _ ⟨rfl, rfl⟩
      dsimp only [List.cons_append, List.nil_append, Option.toList]
      refine gg_ifP_ne (tgt := 65) (pc := 60) E dX5_send_60 (by decide) (fun c60 => ?_) (fun c60 => ?_)
      · exact absurd (th_3.mp c60).2.1.2.1 c14
      refine gg_iconst (v := 0) (pc := 63) E dX5_send_63 (by decide) ?_
      refine gg_iret (pc := 64) E Fn rfl (rfl) dX5_send_64 (by first | exact Nat.le_of_ble_eq_true rfl | (dsimp only; omega)) (by first | exact Nat.le_of_ble_eq_true rfl | (dsimp only; omega)) ?_
      exact ⟨_, _, _, su, Chg_no (fun q => c60 (th_3.mpr q)), by rw [if_neg (fun q => c60 (th_3.mpr q))], rfl⟩
    · obtain ⟨nn, hnn, hnnq⟩ := k_nI (n := 77777778) (k := no) (by omega)
      subst hnnq
      refine gg_aload_n (pc := 17) E dX5_send_17 rfl rfl ?_
      refine gg_iload_n (pc := 18) E dX5_send_18 rfl rfl ?_
      refine gg_callV (F := [_, _]) (As := [.int (nI nn)]) (rest := []) (pc := 19) E ck_X5 (ct_X5_sings hl (by omega)) (cwV 1 E.2.2.2.2.1 (lw_V q3400 q3402 qs145 q179 q3403) rfl rfl rfl (by decide +kernel) ⟨by rw [hRf]; exact Nat.le_of_ble_eq_true rfl, by rw [hRl]; exact Nat.le_of_ble_eq_true rfl⟩) dX5_send_19 [0, 3] (by decide) rfl rfl (fun _ h => by cases h) (gg_i 0 rfl) rfl rfl (Nat.le_of_ble_eq_true rfl) (by first | (rw [hRc]; exact Nat.le_of_ble_eq_true rfl) | (rw [hRc]; dsimp only; omega)) (by first | (rw [hRs]; exact Nat.le_of_ble_eq_true rfl) | (rw [hRs]; dsimp only; omega)) ?_ (fun X q C1 h => h.elim)
      rintro _ _ ⟨rfl, rfl⟩
      dsimp only [List.cons_append, List.nil_append, Option.toList]
      refine gg_up1 ?_
      refine gg_up3 ?_
      refine gg_ifP_eq (tgt := 29) (pc := 22) E dX5_send_22 (by decide) (fun c22 => ?_) (fun c22 => ?_)
      · refine gg_iconst (v := 0) (pc := 29) E dX5_send_29 (by decide) ?_
        refine gg_topI (y := if ¬ k = o ∧ (0 ≤ (nI nn).toInt ∧ (nI nn).toInt ≤ 77777777) ∧ ton (tn (nI nn)) (dcn (tn (nI nn))) 0 then 1 else 0) (if_neg (fun q => c22 (by have := q.2.2; rw [tn_nI (j := nn) (by omega)] at this; exact this))).symm ?_
        refine gg_istore (lv' := [_, _, _, _, _, _]) (pc := 30) E dX5_send_30 (Nat.le_of_ble_eq_true rfl) rfl rfl ?_
        refine gg_aload_n (pc := 32) E dX5_send_32 rfl rfl ?_
        refine gg_aload_n (pc := 33) E dX5_send_33 rfl rfl ?_
        refine gg_iload_n (pc := 34) E dX5_send_34 rfl rfl ?_
        refine gg_iload_n (pc := 35) E dX5_send_35 rfl rfl ?_
        refine gg_callV (F := [_, _, _, _]) (As := [_, _]) (rest := [_]) (pc := 36) E ck_X5 (ct_X5_areRoofs hl (by first | assumption | omega) (by first | assumption | omega)) (cwV 2 E.2.2.2.2.1 (lw_V q3292 q3294 qs134 q179 q3295) rfl rfl rfl (by decide +kernel) ⟨by rw [hRf]; exact Nat.le_of_ble_eq_true rfl, by rw [hRl]; exact Nat.le_of_ble_eq_true rfl⟩) dX5_send_36 [] (by decide) rfl rfl (List.forall_mem_cons.mpr ⟨(gg_i 0 rfl), (List.forall_mem_cons.mpr ⟨(gg_i 1 rfl), (fun _ h => by cases h)⟩)⟩) (gg_i 0 rfl) rfl rfl (Nat.le_of_ble_eq_true rfl) (by first | (rw [hRc]; exact Nat.le_of_ble_eq_true rfl) | (rw [hRc]; dsimp only; omega)) (by first | (rw [hRs]; exact Nat.le_of_ble_eq_true rfl) | (rw [hRs]; dsimp only; omega)) ?_ (fun X q C1 h => h.elim)
        rintro _ _ ⟨rfl, rfl⟩
        dsimp only [List.cons_append, List.nil_append, Option.toList]
        refine gg_iload (pc := 39) E dX5_send_39 rfl ?_
        refine gg_aload_n (pc := 41) E dX5_send_41 rfl rfl ?_
        refine gg_get (pc := 42) E ck_X5 0 q2859 rfl (by decide) dX5_send_42 (gg_i 0 rfl) rfl ?_
        refine gg_iconst (v := 2) (pc := 45) E dX5_send_45 (by decide) ?_
        refine gg_ialdN (pc := 46) E 2 rfl (by omega) (by omega) dX5_send_46 (gg_i 1 rfl) ?_
        rw [hnt]
        refine gg_bipush (v := 30) (pc := 47) E dX5_send_47 (by decide) ?_
        refine gg_icmpB_ge (pc := 49) E dX5_send_49 dX5_send_52 dX5_send_53 dX5_send_56 ?_
        refine gg_topI (y := if nt < 30 then 1 else 0) (gg_ifc (by rw [show (30 : Int32) = nI 30 from rfl, nI_leI (by omega) (by omega)]; omega)) ?_
        refine gg_callV (F := [_, _, _]) (As := [_, _, _]) (rest := []) (pc := 57) E ck_X5 (ct_X5_may hl ) (cwV 3 E.2.2.2.2.1 (lw_V q3241 q3243 qs127 q179 q3244) rfl rfl rfl (by decide +kernel) ⟨by rw [hRf]; exact Nat.le_of_ble_eq_true rfl, by rw [hRl]; exact Nat.le_of_ble_eq_true rfl⟩) dX5_send_57 [0] (by decide) rfl rfl (fun _ h => by cases h) (gg_i 0 rfl) rfl rfl (Nat.le_of_ble_eq_true rfl) (by first | (rw [hRc]; exact Nat.le_of_ble_eq_true rfl) | (rw [hRc]; dsimp only; omega)) (by first | (rw [hRs]; exact Nat.le_of_ble_eq_true rfl) | (rw [hRs]; dsimp only; omega)) ?_ (fun X q C1 h => h.elim)
        rintro _ _ ⟨rfl, rfl⟩
        dsimp only [List.cons_append, List.nil_append, Option.toList]
        refine gg_ifP_ne (tgt := 65) (pc := 60) E dX5_send_60 (by decide) (fun c60 => ?_) (fun c60 => ?_)
        · exact absurd (by have := (th_3.mp c60).2.1.2.2; rw [tn_nI (j := nn) (by omega)] at this; exact this) c22
        refine gg_iconst (v := 0) (pc := 63) E dX5_send_63 (by decide) ?_
        refine gg_iret (pc := 64) E Fn rfl (rfl) dX5_send_64 (by first | exact Nat.le_of_ble_eq_true rfl | (dsimp only; omega)) (by first | exact Nat.le_of_ble_eq_true rfl | (dsimp only; omega)) ?_
        exact ⟨_, _, _, _, Chg_no11 (fun q => c60 (th_3.mpr q)), by rw [if_neg (fun q => c60 (th_3.mpr q))], rfl⟩
      · refine gg_iconst (v := 1) (pc := 25) E dX5_send_25 (by decide) ?_
        refine gg_goto (tgt := 30) (pc := 26) E dX5_send_26 (by decide) ?_
        refine gg_topI (y := if ¬ k = o ∧ (0 ≤ (nI nn).toInt ∧ (nI nn).toInt ≤ 77777777) ∧ ton (tn (nI nn)) (dcn (tn (nI nn))) 0 then 1 else 0) (if_pos ⟨c2, c14, by rw [tn_nI (j := nn) (by omega)]; exact c22⟩).symm ?_
        refine gg_istore (lv' := [_, _, _, _, _, _]) (pc := 30) E dX5_send_30 (Nat.le_of_ble_eq_true rfl) rfl rfl ?_
        refine gg_aload_n (pc := 32) E dX5_send_32 rfl rfl ?_
        refine gg_aload_n (pc := 33) E dX5_send_33 rfl rfl ?_
        refine gg_iload_n (pc := 34) E dX5_send_34 rfl rfl ?_
        refine gg_iload_n (pc := 35) E dX5_send_35 rfl rfl ?_
        refine gg_callV (F := [_, _, _, _]) (As := [_, _]) (rest := [_]) (pc := 36) E ck_X5 (ct_X5_areRoofs hl (by first | assumption | omega) (by first | assumption | omega)) (cwV 2 E.2.2.2.2.1 (lw_V q3292 q3294 qs134 q179 q3295) rfl rfl rfl (by decide +kernel) ⟨by rw [hRf]; exact Nat.le_of_ble_eq_true rfl, by rw [hRl]; exact Nat.le_of_ble_eq_true rfl⟩) dX5_send_36 [] (by decide) rfl rfl (List.forall_mem_cons.mpr ⟨(gg_i 0 rfl), (List.forall_mem_cons.mpr ⟨(gg_i 1 rfl), (fun _ h => by cases h)⟩)⟩) (gg_i 0 rfl) rfl rfl (Nat.le_of_ble_eq_true rfl) (by first | (rw [hRc]; exact Nat.le_of_ble_eq_true rfl) | (rw [hRc]; dsimp only; omega)) (by first | (rw [hRs]; exact Nat.le_of_ble_eq_true rfl) | (rw [hRs]; dsimp only; omega)) ?_ (fun X q C1 h => h.elim)
        rintro _ _ ⟨rfl, rfl⟩
        dsimp only [List.cons_append, List.nil_append, Option.toList]
        refine gg_iload (pc := 39) E dX5_send_39 rfl ?_
        refine gg_aload_n (pc := 41) E dX5_send_41 rfl rfl ?_
        refine gg_get (pc := 42) E ck_X5 0 q2859 rfl (by decide) dX5_send_42 (gg_i 0 rfl) rfl ?_
        refine gg_iconst (v := 2) (pc := 45) E dX5_send_45 (by decide) ?_
        refine gg_ialdN (pc := 46) E 2 rfl (by omega) (by omega) dX5_send_46 (gg_i 1 rfl) ?_
        rw [hnt]
        refine gg_bipush (v := 30) (pc := 47) E dX5_send_47 (by decide) ?_
        refine gg_icmpB_ge (pc := 49) E dX5_send_49 dX5_send_52 dX5_send_53 dX5_send_56 ?_
        refine gg_topI (y := if nt < 30 then 1 else 0) (gg_ifc (by rw [show (30 : Int32) = nI 30 from rfl, nI_leI (by omega) (by omega)]; omega)) ?_
        refine gg_callV (F := [_, _, _]) (As := [_, _, _]) (rest := []) (pc := 57) E ck_X5 (ct_X5_may hl ) (cwV 3 E.2.2.2.2.1 (lw_V q3241 q3243 qs127 q179 q3244) rfl rfl rfl (by decide +kernel) ⟨by rw [hRf]; exact Nat.le_of_ble_eq_true rfl, by rw [hRl]; exact Nat.le_of_ble_eq_true rfl⟩) dX5_send_57 [0] (by decide) rfl rfl (fun _ h => by cases h) (gg_i 0 rfl) rfl rfl (Nat.le_of_ble_eq_true rfl) (by first | (rw [hRc]; exact Nat.le_of_ble_eq_true rfl) | (rw [hRc]; dsimp only; omega)) (by first | (rw [hRs]; exact Nat.le_of_ble_eq_true rfl) | (rw [hRs]; dsimp only; omega)) ?_ (fun X q C1 h => h.elim)
        rintro _ _ ⟨rfl, rfl⟩
        dsimp only [List.cons_append, List.nil_append, Option.toList]
        refine gg_ifP_ne (tgt := 65) (pc := 60) E dX5_send_60 (by decide) (fun c60 => ?_) (fun c60 => ?_)
        · obtain ⟨j, hj, hjq⟩ := k_nI (th_3.mp c60).1.1
          subst hjq
          obtain ⟨j2, hj2, hj2q⟩ := k_nI (th_3.mp c60).1.2
          subst hj2q
          refine gg_aload_n (pc := 65) E dX5_send_65 rfl rfl ?_
          refine gg_callV (F := [_, _]) (As := []) (rest := []) (pc := 66) E ck_X5 (ct_X5_remembers hl ((pk_un (by omega)).trans ((pk_un (by omega)).trans hpm)) (hp8)) (cwV 0 E.2.2.2.2.1 (lw_V q3105 q3107 qs96 q179 q3108) rfl rfl rfl (by decide +kernel) ⟨by rw [hRf]; exact Nat.le_of_ble_eq_true rfl, by rw [hRl]; exact Nat.le_of_ble_eq_true rfl⟩) dX5_send_66 [0, 2] (by decide) rfl rfl (List.forall_mem_cons.mpr ⟨(gg_i 0 rfl), (fun _ h => by cases h)⟩) (gg_i 0 rfl) rfl rfl (Nat.le_of_ble_eq_true rfl) (by first | (rw [hRc]; exact Nat.le_of_ble_eq_true rfl) | (rw [hRc]; dsimp only; omega)) (by first | (rw [hRs]; exact Nat.le_of_ble_eq_true rfl) | (rw [hRs]; dsimp only; omega)) ?_ (fun X q C1 h => h.elim)
          rintro _ _ ⟨rfl, rfl⟩
          dsimp only [List.cons_append, List.nil_append, Option.toList]
          refine gg_up1 ?_
          refine gg_up2 ?_
          refine gg_aload_n (pc := 69) E dX5_send_69 rfl rfl ?_
          refine gg_iload_n (pc := 70) E dX5_send_70 rfl rfl ?_
          refine gg_iload_n (pc := 71) E dX5_send_71 rfl rfl ?_
          refine gg_iconst (v := 0) (pc := 72) E dX5_send_72 (by decide) ?_
          refine gg_iload (pc := 73) E dX5_send_73 rfl ?_
          refine gg_callV (F := [_, _, _]) (As := [_, _, _, _]) (rest := []) (pc := 75) E ck_X5 (ct_X5_newTune (nt := nt) (mny := dcn nn) hl hnt (th_3.mp c60).2.2 ((pk_un (by omega)).trans ((pk_un (by omega)).trans pk_us)) (dcn_8 nn).2 (Or.inl rfl) hwa) (cwV 4 E.2.2.2.2.1 (lw_V q3117 q3119 qs99 q179 q3120) rfl rfl rfl (by decide +kernel) ⟨by rw [hRf]; exact Nat.le_of_ble_eq_true rfl, by rw [hRl]; exact Nat.le_of_ble_eq_true rfl⟩) dX5_send_75 [1] (by decide) rfl rfl (List.forall_mem_cons.mpr ⟨(gg_i 0 rfl), (List.forall_mem_cons.mpr ⟨(gg_i 2 rfl), (fun _ h => by cases h)⟩)⟩) (gg_i 0 rfl) rfl rfl (Nat.le_of_ble_eq_true rfl) (by first | (rw [hRc]; exact Nat.le_of_ble_eq_true rfl) | (rw [hRc]; dsimp only; omega)) (by first | (rw [hRs]; exact Nat.le_of_ble_eq_true rfl) | (rw [hRs]; dsimp only; omega)) ?_ (fun X q C1 h => h.elim)
          rintro _ _ ⟨rfl, rfl⟩
          dsimp only [List.cons_append, List.nil_append, Option.toList]
          refine gg_up1 ?_
          refine gg_iret (pc := 78) E Fn rfl (rfl) dX5_send_78 (by first | exact Nat.le_of_ble_eq_true rfl | (dsimp only; omega)) (by first | exact Nat.le_of_ble_eq_true rfl | (dsimp only; omega)) ?_
          exact ⟨_, _, _, _, Chg_yes11 (th_3.mp c60) (by rw [tn_nI (j := nn) (by omega)]; exact ntu_su fun i hi => by unfold dg dgs; rw [if_pos ⟨Nat.zero_le _, hi⟩]), by rw [if_pos (show cSend nr nt (nI j) (nI j2) (nI nn) from th_3.mp c60)], rfl⟩
        · refine gg_iconst (v := 0) (pc := 63) E dX5_send_63 (by decide) ?_
          refine gg_iret (pc := 64) E Fn rfl (rfl) dX5_send_64 (by first | exact Nat.le_of_ble_eq_true rfl | (dsimp only; omega)) (by first | exact Nat.le_of_ble_eq_true rfl | (dsimp only; omega)) ?_
          exact ⟨_, _, _, _, Chg_no11 (fun q => c60 (th_3.mpr q)), by rw [if_neg (fun q => c60 (th_3.mpr q))], rfl⟩

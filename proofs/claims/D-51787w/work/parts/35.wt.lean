set_option maxRecDepth 100000
/-- the notes of a tune as they are heard, marked where they were sent otherwise -/
def tT (row : Nat → Int32) (t : Nat) : Nat → List Int32
  | 0 => []
  | i + 1 => tT row t i ++ ([b8 (48 + row (220 + 27 * t + 19 + i))] ++ (if row (220 + 27 * t + 19 + i) = row (220 + 27 * t + 11 + i) then [] else [b8 39]))
theorem tT_e {row : Nat → Int32} {t i : Nat} (h : row (220 + 27 * t + 19 + i) = row (220 + 27 * t + 11 + i)) : tT row t i ++ [b8 (48 + row (220 + 27 * t + 19 + i))] = tT row t (i + 1) := by
  show _ = tT row t i ++ ([b8 (48 + row (220 + 27 * t + 19 + i))] ++ (if row (220 + 27 * t + 19 + i) = row (220 + 27 * t + 11 + i) then [] else [b8 39]))
  rw [if_pos h, List.append_nil]
theorem tT_n {row : Nat → Int32} {t i : Nat} (h : ¬ row (220 + 27 * t + 19 + i) = row (220 + 27 * t + 11 + i)) : tT row t i ++ [b8 (48 + row (220 + 27 * t + 19 + i))] ++ [b8 39] = tT row t (i + 1) := by
  show _ = tT row t i ++ ([b8 (48 + row (220 + 27 * t + 19 + i))] ++ (if row (220 + 27 * t + 19 + i) = row (220 + 27 * t + 11 + i) then [] else [b8 39]))
  rw [if_neg h, List.append_assoc]
theorem tT_len (row : Nat → Int32) (t : Nat) : ∀ i, (tT row t i).length ≤ 2 * i := by
  intro i
  induction i with
  | zero => exact Nat.le_refl _
  | succ i ih =>
    by_cases h : row (220 + 27 * t + 19 + i) = row (220 + 27 * t + 11 + i)
    · rw [← tT_e h, List.length_append, List.length_singleton]
      omega
    · rw [← tT_n h, List.length_append, List.length_append, List.length_singleton, List.length_singleton]
      omega
def tTune (row : Nat → Int32) (t : Nat) : List Int32 := tT row t (tno row t) ++ [b8 62] ++ tName row (tg row t)
set_option maxHeartbeats 4000000 in
theorem ct_X5_printTune {l : Launch} (hl : l.stackTraces = false) {g : gg_G}  {h : Nat} {ad : Nat → Nat} {x : Nat → Int32} {row : Nat → Int32} {o : Nat → Int32} {k : Int32} {nr nw nt : Nat} (hG : Gw row nr nw nt) : gg_C l g yX5_printTune (ws_ yX5_printTune cX5_printTune 4 (some .int)) { frames := 2, cells := 0, slots := 0, locals := 46 } [.ref h, .int k] [((ad 0), gg_ai g 1030 row)] [[(h, .inl (4, mo_f ad x))], [((ad 26), gg_ab g 300 o)]] (fun vv CC => vv = some (.int (if (0 ≤ k.toInt ∧ k.toInt < nt) then nI (tTune row (tn k)).length else 0)) ∧ CC = [[(h, .inl (4, mo_f ad (if (0 ≤ k.toInt ∧ k.toInt < nt) then upd (upd x 6 0) 27 (nI (tTune row (tn k)).length) else upd x 6 1)))], [((ad 26), gg_ab g 300 (if (0 ≤ k.toInt ∧ k.toInt < nt) then lo o (tTune row (tn k)) else o))]]) gg_no := by
  refine gg_of (lv := [_, _, _, _]) (by decide) hl (Nat.le_of_ble_eq_true rfl) rfl ?_
  intro p e R s m args below meth c A Q hRf hRl hRc hRs E Fn hnm hex
  have hG0 := hG
  obtain ⟨hnr, hw, ht, hG4, hGS⟩ := hG
  have hnw := hw.1
  have hw20 := hw.2.1
  have hr10 := hw.2.2.1
  have hnt := ht.1
  have ht30 := ht.2.1
  refine gg_aload_n (pc := 0) E dX5_printTune_0 rfl rfl ?_
  refine gg_aload_n (pc := 1) E dX5_printTune_1 rfl rfl ?_
  refine gg_iload_n (pc := 2) E dX5_printTune_2 rfl rfl ?_
  refine gg_callV (F := [_, _]) (As := [_]) (rest := [_]) (pc := 3) E ck_X5 (ct_X5_isTune hl (by first | assumption | omega) (by first | assumption | omega)) (cwV 1 E.2.2.2.2.1 (lw_V q3304 q3306 qs135 q179 q3307) rfl rfl rfl (by decide +kernel) ⟨by rw [hRf]; exact Nat.le_of_ble_eq_true rfl, by rw [hRl]; exact Nat.le_of_ble_eq_true rfl⟩) dX5_printTune_3 [] (by decide) rfl rfl (List.forall_mem_cons.mpr ⟨(gg_i 0 rfl), (List.forall_mem_cons.mpr ⟨(gg_r 0 rfl), (fun _ h => by cases h)⟩)⟩) (gg_i 0 rfl) rfl rfl (Nat.le_of_ble_eq_true rfl) (by first | (rw [hRc]; exact Nat.le_of_ble_eq_true rfl) | (rw [hRc]; dsimp only; omega)) (by first | (rw [hRs]; exact Nat.le_of_ble_eq_true rfl) | (rw [hRs]; dsimp only; omega)) ?_ (fun X q C1 h => h.elim)
  rintro _ _ ⟨rfl, rfl⟩
  dsimp only [List.cons_append, List.nil_append, Option.toList]
  refine gg_iconst (v := 1) (pc := 6) E dX5_printTune_6 (by decide) ?_
  refine gg_iconst (v := 1) (pc := 7) E dX5_printTune_7 (by decide) ?_
  refine gg_callV (F := [_]) (As := [_, _, _]) (rest := []) (pc := 8) E ck_X5 (ct_X5_may hl ) (cwV 3 E.2.2.2.2.1 (lw_V q3241 q3243 qs127 q179 q3244) rfl rfl rfl (by decide +kernel) ⟨by rw [hRf]; exact Nat.le_of_ble_eq_true rfl, by rw [hRl]; exact Nat.le_of_ble_eq_true rfl⟩) dX5_printTune_8 [0] (by decide) rfl rfl (fun _ h => by cases h) (gg_i 0 rfl) rfl rfl (Nat.le_of_ble_eq_true rfl) (by first | (rw [hRc]; exact Nat.le_of_ble_eq_true rfl) | (rw [hRc]; dsimp only; omega)) (by first | (rw [hRs]; exact Nat.le_of_ble_eq_true rfl) | (rw [hRs]; dsimp only; omega)) ?_ (fun X q C1 h => h.elim)
  rintro _ _ ⟨rfl, rfl⟩
  dsimp only [List.cons_append, List.nil_append, Option.toList]
  refine gg_ifP_ne (tgt := 16) (pc := 11) E dX5_printTune_11 (by decide) (fun c11 => ?_) (fun c11 => ?_)
  · have hc0 := th_1.mp c11
    rw [c11]
    obtain ⟨t, htt, htq⟩ := k_nI hc0
    subst htq
    obtain ⟨g1, g2, g3, g4, g5, g6, g7, g8, g9, g10⟩ := ht.2.2.2 t (by omega)
    have hG5 := hG4 (tg row t) (by omega)
    refine gg_aload_n (pc := 16) E dX5_printTune_16 rfl rfl ?_
    refine gg_iconst (v := 0) (pc := 17) E dX5_printTune_17 (by decide) ?_
    refine gg_putM (M' := [_, _]) (pc := 18) E ck_X5 27 q2886 rfl (by decide) dX5_printTune_18 0 rfl rfl (rfl) rfl (Nat.le_of_ble_eq_true rfl) rfl rfl ?_
    refine gg_iload_n (pc := 21) E dX5_printTune_21 rfl rfl ?_
    refine gg_callS (F := [_, _]) (As := [.int (nI t)]) (rest := []) (pc := 22) E (ct_X5_t hl ) (va_cwS 1 E.2.2.2.2.1 (lw_S q3121 q3122 q179 q3123) rfl rfl rfl (by decide +kernel) ⟨by rw [hRf]; exact Nat.le_of_ble_eq_true rfl, by rw [hRl]; exact Nat.le_of_ble_eq_true rfl⟩) dX5_printTune_22 [] (by decide) rfl rfl (fun _ h => by cases h) rfl rfl (Nat.le_of_ble_eq_true rfl) (by first | (rw [hRc]; exact Nat.le_of_ble_eq_true rfl) | (rw [hRc]; dsimp only; omega)) (by first | (rw [hRs]; exact Nat.le_of_ble_eq_true rfl) | (rw [hRs]; dsimp only; omega)) ?_ (fun X q C1 h => h.elim)
    rintro _ _ ⟨rfl, rfl⟩
    dsimp only [List.cons_append, List.nil_append, Option.toList]
    refine gg_istore_n (lv' := [_, _, _, _]) (pc := 25) E dX5_printTune_25 rfl (Nat.le_of_ble_eq_true rfl) rfl rfl ?_
    refine gg_iconst (v := 0) (pc := 26) E dX5_printTune_26 (by decide) ?_
    refine gg_istore_n (lv' := [_, _, _, _]) (pc := 27) E dX5_printTune_27 rfl (Nat.le_of_ble_eq_true rfl) rfl rfl ?_
    have L28 : ∀ (n : Nat) (i : Nat), tno row t - i < n → (i ≤ tno row t) → gg_W p l e R s m args below meth c g A 4 Q 0 0 [[(h, .inl (4, mo_f ad (upd (upd x 6 0) 27 (nI (tT row t i).length))))], [((ad 26), gg_ab g 300 (lo o (tT row t i)))]] [some (.ref h), some (.int (nI t)), some (.int (nI (220 + 27 * t))), some (.int (nI i))] [] 28 := by
      intro n28
      induction n28 with
      | zero => intro i hmz; exact absurd hmz (Nat.not_lt_zero _)
      | succ n28 ih28 =>
        intro i hm28 hi
        refine gg_iload_n (pc := 28) E dX5_printTune_28 rfl rfl ?_
        refine gg_aload_n (pc := 29) E dX5_printTune_29 rfl rfl ?_
        refine gg_get (pc := 30) E ck_X5 0 q2859 rfl (by decide) dX5_printTune_30 (gg_i 0 rfl) rfl ?_
        refine gg_iload_n (pc := 33) E dX5_printTune_33 rfl rfl ?_
        refine gg_iconst (v := 2) (pc := 34) E dX5_printTune_34 (by decide) ?_
        refine gg_iaddN (pc := 35) E (220 + 27 * t) 2 rfl rfl dX5_printTune_35 ?_
        refine gg_ialdN (pc := 36) E ((220 + 27 * t) + 2) rfl (by omega) (by omega) dX5_printTune_36 (gg_r 0 rfl) ?_
        rw [g3]
        refine gg_icmpN_ge (tgt := 95) (pc := 37) E i (tno row t) rfl rfl (by omega) (by omega) dX5_printTune_37 (by decide) (fun c37 => ?_) (fun c37 => ?_)
        · refine gg_aload_n (pc := 95) E dX5_printTune_95 rfl rfl ?_
          refine gg_bipush (v := 62) (pc := 96) E dX5_printTune_96 (by decide) ?_
          refine gg_callV (F := []) (As := [_]) (rest := []) (pc := 98) E ck_X5 (ct_X5_says (L := tT row t i) hl (by have := tT_len row t i; omega)) (cwV 1 E.2.2.2.2.1 (lw_V q3434 q3436 qs147 q179 q3437) rfl rfl rfl (by decide +kernel) ⟨by rw [hRf]; exact Nat.le_of_ble_eq_true rfl, by rw [hRl]; exact Nat.le_of_ble_eq_true rfl⟩) dX5_printTune_98 [0, 1] (by decide) rfl rfl (fun _ h => by cases h) (gg_i 0 rfl) rfl rfl (Nat.le_of_ble_eq_true rfl) (by first | (rw [hRc]; exact Nat.le_of_ble_eq_true rfl) | (rw [hRc]; dsimp only; omega)) (by first | (rw [hRs]; exact Nat.le_of_ble_eq_true rfl) | (rw [hRs]; dsimp only; omega)) ?_ (fun X q C1 h => h.elim)
          rintro _ _ ⟨rfl, rfl⟩
          dsimp only [List.cons_append, List.nil_append, Option.toList]
          refine gg_up1 ?_
          refine gg_up1 ?_
          refine gg_aload_n (pc := 101) E dX5_printTune_101 rfl rfl ?_
          refine gg_aload_n (pc := 102) E dX5_printTune_102 rfl rfl ?_
          refine gg_get (pc := 103) E ck_X5 0 q2859 rfl (by decide) dX5_printTune_103 (gg_i 0 rfl) rfl ?_
          refine gg_iload_n (pc := 106) E dX5_printTune_106 rfl rfl ?_
          refine gg_iconst (v := 1) (pc := 107) E dX5_printTune_107 (by decide) ?_
          refine gg_iaddN (pc := 108) E (220 + 27 * t) 1 rfl rfl dX5_printTune_108 ?_
          refine gg_ialdN (pc := 109) E ((220 + 27 * t) + 1) rfl (by omega) (by omega) dX5_printTune_109 (gg_r 0 rfl) ?_
          rw [g2]
          refine gg_callV (F := []) (As := [.int (nI (tg row t))]) (rest := []) (pc := 110) E ck_X5 (ct_X5_saysName (L := tT row t i ++ [b8 62]) hl (by omega) hG5.1.1 hG5.1.2.2 (by have := tT_len row t i; simp only [List.length_append, List.length_singleton]; omega)) (cwV 1 E.2.2.2.2.1 (lw_V q3438 q3440 qs148 q179 q3441) rfl rfl rfl (by decide +kernel) ⟨by rw [hRf]; exact Nat.le_of_ble_eq_true rfl, by rw [hRl]; exact Nat.le_of_ble_eq_true rfl⟩) dX5_printTune_110 [0, 1] (by decide) rfl rfl (List.forall_mem_cons.mpr ⟨(gg_r 0 rfl), (fun _ h => by cases h)⟩) (gg_i 0 rfl) rfl rfl (Nat.le_of_ble_eq_true rfl) (by first | (rw [hRc]; exact Nat.le_of_ble_eq_true rfl) | (rw [hRc]; dsimp only; omega)) (by first | (rw [hRs]; exact Nat.le_of_ble_eq_true rfl) | (rw [hRs]; dsimp only; omega)) ?_ (fun X q C1 h => h.elim)
          rintro _ _ ⟨rfl, rfl⟩
          dsimp only [List.cons_append, List.nil_append, Option.toList]
          refine gg_up1 ?_
          refine gg_up1 ?_
          refine gg_aload_n (pc := 113) E dX5_printTune_113 rfl rfl ?_
          refine gg_get (pc := 114) E ck_X5 27 q2886 rfl (by decide) dX5_printTune_114 (gg_i 0 rfl) rfl ?_
          refine gg_iret (pc := 117) E Fn rfl (rfl) dX5_printTune_117 (by first | exact Nat.le_of_ble_eq_true rfl | (dsimp only; omega)) (by first | exact Nat.le_of_ble_eq_true rfl | (dsimp only; omega)) ?_
          have e : i = tno row t := by omega
          simp only [if_pos hc0]
          rw [tn_nI (j := t) (by omega)]
          unfold tTune
          rw [← e]
          exact ⟨rfl, rfl⟩
        · refine gg_aload_n (pc := 40) E dX5_printTune_40 rfl rfl ?_
          refine gg_bipush (v := 48) (pc := 41) E dX5_printTune_41 (by decide) ?_
          refine gg_aload_n (pc := 43) E dX5_printTune_43 rfl rfl ?_
          refine gg_get (pc := 44) E ck_X5 0 q2859 rfl (by decide) dX5_printTune_44 (gg_i 0 rfl) rfl ?_
          refine gg_iload_n (pc := 47) E dX5_printTune_47 rfl rfl ?_
          refine gg_bipush (v := 19) (pc := 48) E dX5_printTune_48 (by decide) ?_
          refine gg_iaddN (pc := 50) E (220 + 27 * t) 19 rfl rfl dX5_printTune_50 ?_
          refine gg_iload_n (pc := 51) E dX5_printTune_51 rfl rfl ?_
          refine gg_iaddN (pc := 52) E ((220 + 27 * t) + 19) i rfl rfl dX5_printTune_52 ?_
          refine gg_ialdN (pc := 53) E ((220 + 27 * t) + 19 + i) rfl (by omega) (by omega) dX5_printTune_53 (gg_r 0 rfl) ?_
          refine gg_iadd (pc := 54) E dX5_printTune_54 ?_
          refine gg_callV (F := []) (As := [_]) (rest := []) (pc := 55) E ck_X5 (ct_X5_says (L := tT row t i) hl (by have := tT_len row t i; omega)) (cwV 1 E.2.2.2.2.1 (lw_V q3434 q3436 qs147 q179 q3437) rfl rfl rfl (by decide +kernel) ⟨by rw [hRf]; exact Nat.le_of_ble_eq_true rfl, by rw [hRl]; exact Nat.le_of_ble_eq_true rfl⟩) dX5_printTune_55 [0, 1] (by decide) rfl rfl (fun _ h => by cases h) (gg_i 0 rfl) rfl rfl (Nat.le_of_ble_eq_true rfl) (by first | (rw [hRc]; exact Nat.le_of_ble_eq_true rfl) | (rw [hRc]; dsimp only; omega)) (by first | (rw [hRs]; exact Nat.le_of_ble_eq_true rfl) | (rw [hRs]; dsimp only; omega)) ?_ (fun X q C1 h => h.elim)
          rintro _ _ ⟨rfl, rfl⟩
          dsimp only [List.cons_append, List.nil_append, Option.toList]
          refine gg_up1 ?_
          refine gg_up1 ?_
          refine gg_aload_n (pc := 58) E dX5_printTune_58 rfl rfl ?_
          refine gg_get (pc := 59) E ck_X5 0 q2859 rfl (by decide) dX5_printTune_59 (gg_i 0 rfl) rfl ?_
          refine gg_iload_n (pc := 62) E dX5_printTune_62 rfl rfl ?_
          refine gg_bipush (v := 19) (pc := 63) E dX5_printTune_63 (by decide) ?_
          refine gg_iaddN (pc := 65) E (220 + 27 * t) 19 rfl rfl dX5_printTune_65 ?_
          refine gg_iload_n (pc := 66) E dX5_printTune_66 rfl rfl ?_
          refine gg_iaddN (pc := 67) E ((220 + 27 * t) + 19) i rfl rfl dX5_printTune_67 ?_
          refine gg_ialdN (pc := 68) E ((220 + 27 * t) + 19 + i) rfl (by omega) (by omega) dX5_printTune_68 (gg_r 0 rfl) ?_
          refine gg_aload_n (pc := 69) E dX5_printTune_69 rfl rfl ?_
          refine gg_get (pc := 70) E ck_X5 0 q2859 rfl (by decide) dX5_printTune_70 (gg_i 0 rfl) rfl ?_
          refine gg_iload_n (pc := 73) E dX5_printTune_73 rfl rfl ?_
          refine gg_bipush (v := 11) (pc := 74) E dX5_printTune_74 (by decide) ?_
          refine gg_iaddN (pc := 76) E (220 + 27 * t) 11 rfl rfl dX5_printTune_76 ?_
          refine gg_iload_n (pc := 77) E dX5_printTune_77 rfl rfl ?_
          refine gg_iaddN (pc := 78) E ((220 + 27 * t) + 11) i rfl rfl dX5_printTune_78 ?_
          refine gg_ialdN (pc := 79) E ((220 + 27 * t) + 11 + i) rfl (by omega) (by omega) dX5_printTune_79 (gg_r 0 rfl) ?_
          refine gg_icmp_eq (tgt := 89) (pc := 80) E dX5_printTune_80 (by decide) (fun c80 => ?_) (fun c80 => ?_)
          · refine gg_iincN (k := 1) (lv' := [_, _, _, _]) (pc := 89) E i dX5_printTune_89 rfl rfl rfl (Nat.le_of_ble_eq_true rfl) rfl rfl ?_
            refine gg_goto (tgt := 28) (pc := 92) E dX5_printTune_92 (by decide) ?_
            refine gg_cv ?_ (gg_leS (gg_leS (gg_leS (gg_leS gg_le0)))) rfl (by first | exact Nat.le_refl _ | (dsimp only; omega)) (by first | exact Nat.le_refl _ | (dsimp only; omega)) (ih28 (i + 1) (by omega) (by omega))
            · exact congrArg (fun z => [[(h, .inl (4, mo_f ad (upd (upd x 6 0) 27 (nI z.length))))], [(ad 26, gg_ab g 300 (lo o z))]]) (tT_e c80)
          · refine gg_aload_n (pc := 83) E dX5_printTune_83 rfl rfl ?_
            refine gg_bipush (v := 39) (pc := 84) E dX5_printTune_84 (by decide) ?_
            refine gg_callV (F := []) (As := [_]) (rest := []) (pc := 86) E ck_X5 (ct_X5_says (L := tT row t i ++ [b8 (48 + row (220 + 27 * t + 19 + i))]) hl (by have := tT_len row t i; simp only [List.length_append, List.length_singleton]; omega)) (cwV 1 E.2.2.2.2.1 (lw_V q3434 q3436 qs147 q179 q3437) rfl rfl rfl (by decide +kernel) ⟨by rw [hRf]; exact Nat.le_of_ble_eq_true rfl, by rw [hRl]; exact Nat.le_of_ble_eq_true rfl⟩) dX5_printTune_86 [0, 1] (by decide) rfl rfl (fun _ h => by cases h) (gg_i 0 rfl) rfl rfl (Nat.le_of_ble_eq_true rfl) (by first | (rw [hRc]; exact Nat.le_of_ble_eq_true rfl) | (rw [hRc]; dsimp only; omega)) (by first | (rw [hRs]; exact Nat.le_of_ble_eq_true rfl) | (rw [hRs]; dsimp only; omega)) ?_ (fun X q C1 h => h.elim)
            rintro _ _ ⟨rfl, rfl⟩
            dsimp only [List.cons_append, List.nil_append, Option.toList]
            refine gg_up1 ?_
            refine gg_up1 ?_
            refine gg_iincN (k := 1) (lv' := [_, _, _, _]) (pc := 89) E i dX5_printTune_89 rfl rfl rfl (Nat.le_of_ble_eq_true rfl) rfl rfl ?_
            refine gg_goto (tgt := 28) (pc := 92) E dX5_printTune_92 (by decide) ?_
            refine gg_cv ?_ (gg_leS (gg_leS (gg_leS (gg_leS gg_le0)))) rfl (by first | exact Nat.le_refl _ | (dsimp only; omega)) (by first | exact Nat.le_refl _ | (dsimp only; omega)) (ih28 (i + 1) (by omega) (by omega))
            · exact congrArg (fun z => [[(h, .inl (4, mo_f ad (upd (upd x 6 0) 27 (nI z.length))))], [(ad 26, gg_ab g 300 (lo o z))]]) (tT_n c80)
    refine gg_cv rfl (gg_leS (gg_leS (gg_leS (gg_leS gg_le0)))) rfl (by first | exact Nat.le_refl _ | (dsimp only; omega)) (by first | exact Nat.le_refl _ | (dsimp only; omega)) (L28 _ 0 (Nat.lt_succ_self _) (Nat.zero_le _))
  · refine gg_iconst (v := 0) (pc := 14) E dX5_printTune_14 (by decide) ?_
    refine gg_iret (pc := 15) E Fn rfl (rfl) dX5_printTune_15 (by first | exact Nat.le_of_ble_eq_true rfl | (dsimp only; omega)) (by first | exact Nat.le_of_ble_eq_true rfl | (dsimp only; omega)) ?_
    have hc0 : ¬ (0 ≤ k.toInt ∧ k.toInt < nt) := fun q => c11 (th_1.mpr q)
    refine ⟨by rw [if_neg hc0], ?_⟩
    rw [if_neg hc0, if_neg hc0, if_neg hc0] <;> rfl

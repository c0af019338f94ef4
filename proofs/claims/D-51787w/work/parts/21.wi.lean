set_option maxRecDepth 100000
def qAgree (row : Nat → Int32) (nr nt : Nat) : Int32 := if ((row 11 = row 2 ∧ sm (fun i => if row (220 + 27 * i + 3) = 2 then 1 else 0) nt = row 15) ∧ (sm (fun i => if row (220 + 27 * i + 3) = 3 then 1 else 0) nt = row 18 ∧ sm (fun i => row (25 + 13 * i + 10)) nr = row 7 + row 20) ∧ row 16 ≤ row 15 ∧ sm (fun i => row (220 + 27 * i + 9)) nt = row 13) then 1 else 0
theorem sw_at {row : Nat → Int32} {t : Nat} (h : Sw row t) (h2 : row (220 + 27 * t + 3) = 2) : ta row t = tg row t := by
  obtain ⟨st, s1, s2, s3, s4, s5⟩ := h
  rw [s1] at h2
  exact s3 ((nI_eq (b := 2) (by omega) (by omega)).mp h2)
set_option maxHeartbeats 4000000 in
theorem ct_X5_areTunes {l : Launch} (hl : l.stackTraces = false) {g : gg_G}  {h : Nat} {ad : Nat → Nat} {x : Nat → Int32} {row : Nat → Int32} {nr nw nt : Nat} (hG : Gw row nr nw nt) : gg_C l g yX5_areTunes (ws_ yX5_areTunes cX5_areTunes 4 (some .boolean)) { frames := 2, cells := 0, slots := 0, locals := 46 } [.ref h] [(h, .inl (4, mo_f ad x)), ((ad 0), gg_ai g 1030 row)] [] (fun vv CC => vv = some (.int (if sm (fun i => row (220 + 27 * i + 9)) nt = row 13 then 1 else 0)) ∧ CC = []) gg_no := by
  refine gg_of (lv := [_, _, _, _]) (by decide) hl (Nat.le_of_ble_eq_true rfl) rfl ?_
  intro p e R s m args below meth c A Q hRf hRl hRc hRs E Fn hnm hex
  have hG0 := hG
  obtain ⟨hnr, hw, ht, hG4, hGS⟩ := hG
  have hnw := hw.1
  have hw20 := hw.2.1
  have hr10 := hw.2.2.1
  have hnt := ht.1
  have ht30 := ht.2.1
  refine gg_iconst (v := 0) (pc := 0) E dX5_areTunes_0 (by decide) ?_
  refine gg_istore_n (lv' := [_, _, _, _]) (pc := 1) E dX5_areTunes_1 rfl (Nat.le_of_ble_eq_true rfl) rfl rfl ?_
  refine gg_iconst (v := 0) (pc := 2) E dX5_areTunes_2 (by decide) ?_
  refine gg_istore_n (lv' := [_, _, _, _]) (pc := 3) E dX5_areTunes_3 rfl (Nat.le_of_ble_eq_true rfl) rfl rfl ?_
  have L4 : ∀ (n : Nat) (i : Nat), nt - i < n → (i ≤ nt) → gg_W p l e R s m args below meth c g A 4 Q 0 0 [] [some (.ref h), some (.int (sm (fun i => row (220 + 27 * i + 9)) i)), some (.int (nI i)), none] [] 4 := by
    intro n4
    induction n4 with
    | zero => intro i hmz; exact absurd hmz (Nat.not_lt_zero _)
    | succ n4 ih4 =>
      intro i hm4 hi
      refine gg_iload_n (pc := 4) E dX5_areTunes_4 rfl rfl ?_
      refine gg_aload_n (pc := 5) E dX5_areTunes_5 rfl rfl ?_
      refine gg_get (pc := 6) E ck_X5 0 q2859 rfl (by decide) dX5_areTunes_6 (gg_r 0 rfl) rfl ?_
      refine gg_iconst (v := 2) (pc := 9) E dX5_areTunes_9 (by decide) ?_
      refine gg_ialdN (pc := 10) E 2 rfl (by omega) (by omega) dX5_areTunes_10 (gg_r 1 rfl) ?_
      rw [hnt]
      refine gg_icmpN_ge (tgt := 85) (pc := 11) E i nt rfl rfl (by omega) (by omega) dX5_areTunes_11 (by decide) (fun c11 => ?_) (fun c11 => ?_)
      · refine gg_iload_n (pc := 85) E dX5_areTunes_85 rfl rfl ?_
        refine gg_aload_n (pc := 86) E dX5_areTunes_86 rfl rfl ?_
        refine gg_get (pc := 87) E ck_X5 0 q2859 rfl (by decide) dX5_areTunes_87 (gg_r 0 rfl) rfl ?_
        refine gg_bipush (v := 13) (pc := 90) E dX5_areTunes_90 (by decide) ?_
        refine gg_ialdN (pc := 92) E 13 rfl (by omega) (by omega) dX5_areTunes_92 (gg_r 1 rfl) ?_
        refine gg_icmpB_ne (pc := 93) E dX5_areTunes_93 dX5_areTunes_96 dX5_areTunes_97 dX5_areTunes_100 ?_
        refine gg_iret (pc := 101) E Fn rfl (gg_nz (by first | decide | assumption | exact gg_b01 | (split <;> decide))) dX5_areTunes_101 (by first | exact Nat.le_of_ble_eq_true rfl | (dsimp only; omega)) (by first | exact Nat.le_of_ble_eq_true rfl | (dsimp only; omega)) ?_
        obtain rfl : i = nt := by omega
        exact ⟨rfl, rfl⟩
      · obtain ⟨g1, g2, g3, g4, g5, g6, g7, g8, g9, g10⟩ := ht.2.2.2 i (by omega)
        refine gg_iload_n (pc := 14) E dX5_areTunes_14 rfl rfl ?_
        refine gg_callS (F := []) (As := [.int (nI i)]) (rest := []) (pc := 15) E (ct_X5_t hl ) (va_cwS 1 E.2.2.2.2.1 (lw_S q3121 q3122 q179 q3123) rfl rfl rfl (by decide +kernel) ⟨by rw [hRf]; exact Nat.le_of_ble_eq_true rfl, by rw [hRl]; exact Nat.le_of_ble_eq_true rfl⟩) dX5_areTunes_15 [] (by decide) rfl rfl (fun _ h => by cases h) rfl rfl (Nat.le_of_ble_eq_true rfl) (by first | (rw [hRc]; exact Nat.le_of_ble_eq_true rfl) | (rw [hRc]; dsimp only; omega)) (by first | (rw [hRs]; exact Nat.le_of_ble_eq_true rfl) | (rw [hRs]; dsimp only; omega)) ?_ (fun X q C1 h => h.elim)
        rintro _ _ ⟨rfl, rfl⟩
        dsimp only [List.cons_append, List.nil_append, Option.toList]
        refine gg_istore_n (lv' := [_, _, _, _]) (pc := 18) E dX5_areTunes_18 rfl (Nat.le_of_ble_eq_true rfl) rfl rfl ?_
        refine gg_iload_n (pc := 19) E dX5_areTunes_19 rfl rfl ?_
        refine gg_aload_n (pc := 20) E dX5_areTunes_20 rfl rfl ?_
        refine gg_get (pc := 21) E ck_X5 0 q2859 rfl (by decide) dX5_areTunes_21 (gg_r 0 rfl) rfl ?_
        refine gg_iload_n (pc := 24) E dX5_areTunes_24 rfl rfl ?_
        refine gg_bipush (v := 9) (pc := 25) E dX5_areTunes_25 (by decide) ?_
        refine gg_iaddN (pc := 27) E (220 + 27 * i) 9 rfl rfl dX5_areTunes_27 ?_
        refine gg_ialdN (pc := 28) E ((220 + 27 * i) + 9) rfl (by omega) (by omega) dX5_areTunes_28 (gg_r 1 rfl) ?_
        refine gg_iadd (pc := 29) E dX5_areTunes_29 ?_
        refine gg_istore_n (lv' := [_, _, _, _]) (pc := 30) E dX5_areTunes_30 rfl (Nat.le_of_ble_eq_true rfl) rfl rfl ?_
        refine gg_aload_n (pc := 31) E dX5_areTunes_31 rfl rfl ?_
        refine gg_aload_n (pc := 32) E dX5_areTunes_32 rfl rfl ?_
        refine gg_get (pc := 33) E ck_X5 0 q2859 rfl (by decide) dX5_areTunes_33 (gg_r 0 rfl) rfl ?_
        refine gg_iload_n (pc := 36) E dX5_areTunes_36 rfl rfl ?_
        refine gg_iconst (v := 4) (pc := 37) E dX5_areTunes_37 (by decide) ?_
        refine gg_iaddN (pc := 38) E (220 + 27 * i) 4 rfl rfl dX5_areTunes_38 ?_
        refine gg_ialdN (pc := 39) E ((220 + 27 * i) + 4) rfl (by omega) (by omega) dX5_areTunes_39 (gg_r 1 rfl) ?_
        rw [g4]
        refine gg_callV (F := []) (As := [_]) (rest := []) (pc := 40) E ck_X5 (ct_X5_isRoof hl (by first | assumption | omega) (by first | assumption | omega)) (cwV 1 E.2.2.2.2.1 (lw_V q3266 q3268 qs131 q179 q3269) rfl rfl rfl (by decide +kernel) ⟨by rw [hRf]; exact Nat.le_of_ble_eq_true rfl, by rw [hRl]; exact Nat.le_of_ble_eq_true rfl⟩) dX5_areTunes_40 [] (by decide) rfl rfl (List.forall_mem_cons.mpr ⟨(gg_r 0 rfl), (List.forall_mem_cons.mpr ⟨(gg_r 1 rfl), (fun _ h => by cases h)⟩)⟩) (gg_r 0 rfl) rfl rfl (Nat.le_of_ble_eq_true rfl) (by first | (rw [hRc]; exact Nat.le_of_ble_eq_true rfl) | (rw [hRc]; dsimp only; omega)) (by first | (rw [hRs]; exact Nat.le_of_ble_eq_true rfl) | (rw [hRs]; dsimp only; omega)) ?_ (fun X q C1 h => h.elim)
        rintro _ _ ⟨rfl, rfl⟩
        dsimp only [List.cons_append, List.nil_append, Option.toList]
        refine gg_ifP_eq (tgt := 77) (pc := 43) E dX5_areTunes_43 (by decide) (fun c43 => ?_) (fun c43 => ?_)
        · exact absurd ⟨by rw [nI_toInt (by omega)]; omega, by rw [nI_toInt (by omega)]; omega⟩ c43
        refine gg_aload_n (pc := 46) E dX5_areTunes_46 rfl rfl ?_
        refine gg_get (pc := 47) E ck_X5 0 q2859 rfl (by decide) dX5_areTunes_47 (gg_r 0 rfl) rfl ?_
        refine gg_iload_n (pc := 50) E dX5_areTunes_50 rfl rfl ?_
        refine gg_iconst (v := 3) (pc := 51) E dX5_areTunes_51 (by decide) ?_
        refine gg_iaddN (pc := 52) E (220 + 27 * i) 3 rfl rfl dX5_areTunes_52 ?_
        refine gg_ialdN (pc := 53) E ((220 + 27 * i) + 3) rfl (by omega) (by omega) dX5_areTunes_53 (gg_r 1 rfl) ?_
        refine gg_iconst (v := 2) (pc := 54) E dX5_areTunes_54 (by decide) ?_
        refine gg_icmp_ne (tgt := 79) (pc := 55) E dX5_areTunes_55 (by decide) (fun c55 => ?_) (fun c55 => ?_)
        · refine gg_iincN (k := 1) (lv' := [_, _, _, _]) (pc := 79) E i dX5_areTunes_79 rfl rfl rfl (Nat.le_of_ble_eq_true rfl) rfl rfl ?_
          refine gg_goto (tgt := 4) (pc := 82) E dX5_areTunes_82 (by decide) ?_
          refine gg_cv rfl (gg_leS (gg_leS (gg_leS (gg_leN gg_le0)))) rfl (by first | exact Nat.le_refl _ | (dsimp only; omega)) (by first | exact Nat.le_refl _ | (dsimp only; omega)) (ih4 (i + 1) (by omega) (by omega))
        · refine gg_aload_n (pc := 58) E dX5_areTunes_58 rfl rfl ?_
          refine gg_get (pc := 59) E ck_X5 0 q2859 rfl (by decide) dX5_areTunes_59 (gg_r 0 rfl) rfl ?_
          refine gg_iload_n (pc := 62) E dX5_areTunes_62 rfl rfl ?_
          refine gg_iconst (v := 4) (pc := 63) E dX5_areTunes_63 (by decide) ?_
          refine gg_iaddN (pc := 64) E (220 + 27 * i) 4 rfl rfl dX5_areTunes_64 ?_
          refine gg_ialdN (pc := 65) E ((220 + 27 * i) + 4) rfl (by omega) (by omega) dX5_areTunes_65 (gg_r 1 rfl) ?_
          refine gg_aload_n (pc := 66) E dX5_areTunes_66 rfl rfl ?_
          refine gg_get (pc := 67) E ck_X5 0 q2859 rfl (by decide) dX5_areTunes_67 (gg_r 0 rfl) rfl ?_
          refine gg_iload_n (pc := 70) E dX5_areTunes_70 rfl rfl ?_
          refine gg_iconst (v := 1) (pc := 71) E dX5_areTunes_71 (by decide) ?_
          refine gg_iaddN (pc := 72) E (220 + 27 * i) 1 rfl rfl dX5_areTunes_72 ?_
          refine gg_ialdN (pc := 73) E ((220 + 27 * i) + 1) rfl (by omega) (by omega) dX5_areTunes_73 (gg_r 1 rfl) ?_
          refine gg_icmp_eq (tgt := 79) (pc := 74) E dX5_areTunes_74 (by decide) (fun c74 => ?_) (fun c74 => ?_)
          rotate_left
          · exact absurd (by rw [g4, g2, sw_at (hGS i (by omega)) c55]) c74
          refine gg_iincN (k := 1) (lv' := [_, _, _, _]) (pc := 79) E i dX5_areTunes_79 rfl rfl rfl (Nat.le_of_ble_eq_true rfl) rfl rfl ?_
          refine gg_goto (tgt := 4) (pc := 82) E dX5_areTunes_82 (by decide) ?_
          refine gg_cv rfl (gg_leS (gg_leS (gg_leS (gg_leN gg_le0)))) rfl (by first | exact Nat.le_refl _ | (dsimp only; omega)) (by first | exact Nat.le_refl _ | (dsimp only; omega)) (ih4 (i + 1) (by omega) (by omega))
  refine gg_cv rfl (gg_leS (gg_leS (gg_leS (gg_leN gg_le0)))) rfl (by first | exact Nat.le_refl _ | (dsimp only; omega)) (by first | exact Nat.le_refl _ | (dsimp only; omega)) (L4 _ 0 (Nat.lt_succ_self _) (Nat.zero_le _))
set_option maxHeartbeats 4000000 in
theorem ct_X5_agree {l : Launch} (hl : l.stackTraces = false) {g : gg_G}  {h : Nat} {ad : Nat → Nat} {x : Nat → Int32} {row : Nat → Int32} {sums : Nat → Int32} {near don : Nat → Int32}  {nr nw nt : Nat} (hG : Gw row nr nw nt) : gg_C l g yX5_agree (ws_ yX5_agree cX5_agree 2 (some .boolean)) { frames := 5, cells := 0, slots := 0, locals := 112 } [.ref h] [((ad 0), gg_ai g 1030 row)] [[(h, .inl (4, mo_f ad x))], [((ad 9), gg_ai g 10 sums)], [((ad 24), gg_ai g 10 near)], [((ad 25), gg_az g 10 don)]] (fun vv CC => ∃ (S N Z : Nat → Int32), vv = some (.int (qAgree row nr nt)) ∧ CC = [[(h, .inl (4, mo_f ad (upd x 6 0)))], [((ad 9), gg_ai g 10 S)], [((ad 24), gg_ai g 10 N)], [((ad 25), gg_az g 10 Z)]]) gg_no := by
  refine gg_of (lv := [_, _]) (by decide) hl (Nat.le_of_ble_eq_true rfl) rfl ?_
  intro p e R s m args below meth c A Q hRf hRl hRc hRs E Fn hnm hex
  have hG0 := hG
  obtain ⟨hnr, hw, ht, hG4, hGS⟩ := hG
  have hnw := hw.1
  have hw20 := hw.2.1
  have hr10 := hw.2.2.1
  have hnt := ht.1
  have ht30 := ht.2.1
  refine gg_aload_n (pc := 0) E dX5_agree_0 rfl rfl ?_
  refine gg_iconst (v := 0) (pc := 1) E dX5_agree_1 (by decide) ?_
  refine gg_putM (M' := [_, _, _, _]) (pc := 2) E ck_X5 6 q2865 rfl (by decide) dX5_agree_2 0 rfl rfl (rfl) rfl (Nat.le_of_ble_eq_true rfl) rfl rfl ?_
  refine gg_aload_n (pc := 5) E dX5_agree_5 rfl rfl ?_
  refine gg_get (pc := 6) E ck_X5 0 q2859 rfl (by decide) dX5_agree_6 (gg_i 0 rfl) rfl ?_
  refine gg_bipush (v := 11) (pc := 9) E dX5_agree_9 (by decide) ?_
  refine gg_ialdN (pc := 11) E 11 rfl (by omega) (by omega) dX5_agree_11 (gg_r 0 rfl) ?_
  refine gg_aload_n (pc := 12) E dX5_agree_12 rfl rfl ?_
  refine gg_get (pc := 13) E ck_X5 0 q2859 rfl (by decide) dX5_agree_13 (gg_i 0 rfl) rfl ?_
  refine gg_iconst (v := 2) (pc := 16) E dX5_agree_16 (by decide) ?_
  refine gg_ialdN (pc := 17) E 2 rfl (by omega) (by omega) dX5_agree_17 (gg_r 0 rfl) ?_
  refine gg_icmp_ne (tgt := 40) (pc := 18) E dX5_agree_18 (by decide) (fun c18 => ?_) (fun c18 => ?_)
  · refine gg_iconst (v := 0) (pc := 40) E dX5_agree_40 (by decide) ?_
    refine gg_istore_n (lv' := [_, _]) (pc := 41) E dX5_agree_41 rfl (Nat.le_of_ble_eq_true rfl) rfl rfl ?_
    refine gg_iload_n (pc := 42) E dX5_agree_42 rfl rfl ?_
    refine gg_ifN_eq (tgt := 87) (pc := 43) E 0 rfl (by decide) dX5_agree_43 (by decide) (fun _ => ?_) (fun q => absurd q (by decide))
    refine gg_iconst (v := 0) (pc := 87) E dX5_agree_87 (by decide) ?_
    refine gg_istore_n (lv' := [_, _]) (pc := 88) E dX5_agree_88 rfl (Nat.le_of_ble_eq_true rfl) rfl rfl ?_
    refine gg_iload_n (pc := 89) E dX5_agree_89 rfl rfl ?_
    refine gg_ifN_eq (tgt := 128) (pc := 90) E 0 rfl (by decide) dX5_agree_90 (by decide) (fun _ => ?_) (fun q => absurd q (by decide))
    refine gg_iconst (v := 0) (pc := 128) E dX5_agree_128 (by decide) ?_
    refine gg_iret (pc := 129) E Fn rfl (gg_nz (by first | decide | assumption | exact gg_b01 | (split <;> decide))) dX5_agree_129 (by first | exact Nat.le_of_ble_eq_true rfl | (dsimp only; omega)) (by first | exact Nat.le_of_ble_eq_true rfl | (dsimp only; omega)) ?_
    exact ⟨sums, near, don, (congrArg (fun z => some (Value.int z)) (if_neg (fun q => c18 q.1.1)).symm), rfl⟩
  · refine gg_aload_n (pc := 21) E dX5_agree_21 rfl rfl ?_
    refine gg_iconst (v := 2) (pc := 22) E dX5_agree_22 (by decide) ?_
    refine gg_callV (F := [_, _, _, _]) (As := [_]) (rest := []) (pc := 23) E ck_X5 (ct_X5_those hl (by first | assumption | omega) (by first | assumption | omega)) (cwV 1 E.2.2.2.2.1 (lw_V q3245 q3247 qs128 q179 q3248) rfl rfl rfl (by decide +kernel) ⟨by rw [hRf]; exact Nat.le_of_ble_eq_true rfl, by rw [hRl]; exact Nat.le_of_ble_eq_true rfl⟩) dX5_agree_23 [] (by decide) rfl rfl (List.forall_mem_cons.mpr ⟨(gg_i 0 rfl), (List.forall_mem_cons.mpr ⟨(gg_r 0 rfl), (fun _ h => by cases h)⟩)⟩) (gg_i 0 rfl) rfl rfl (Nat.le_of_ble_eq_true rfl) (by first | (rw [hRc]; exact Nat.le_of_ble_eq_true rfl) | (rw [hRc]; dsimp only; omega)) (by first | (rw [hRs]; exact Nat.le_of_ble_eq_true rfl) | (rw [hRs]; dsimp only; omega)) ?_ (fun X q C1 h => h.elim)
    rintro _ _ ⟨rfl, rfl⟩
    dsimp only [List.cons_append, List.nil_append, Option.toList]
    refine gg_aload_n (pc := 26) E dX5_agree_26 rfl rfl ?_
    refine gg_get (pc := 27) E ck_X5 0 q2859 rfl (by decide) dX5_agree_27 (gg_i 0 rfl) rfl ?_
    refine gg_bipush (v := 15) (pc := 30) E dX5_agree_30 (by decide) ?_
    refine gg_ialdN (pc := 32) E 15 rfl (by omega) (by omega) dX5_agree_32 (gg_r 0 rfl) ?_
    refine gg_icmp_ne (tgt := 40) (pc := 33) E dX5_agree_33 (by decide) (fun c33 => ?_) (fun c33 => ?_)
    · refine gg_iconst (v := 0) (pc := 40) E dX5_agree_40 (by decide) ?_
      refine gg_istore_n (lv' := [_, _]) (pc := 41) E dX5_agree_41 rfl (Nat.le_of_ble_eq_true rfl) rfl rfl ?_
      refine gg_iload_n (pc := 42) E dX5_agree_42 rfl rfl ?_
      refine gg_ifN_eq (tgt := 87) (pc := 43) E 0 rfl (by decide) dX5_agree_43 (by decide) (fun _ => ?_) (fun q => absurd q (by decide))
      refine gg_iconst (v := 0) (pc := 87) E dX5_agree_87 (by decide) ?_
      refine gg_istore_n (lv' := [_, _]) (pc := 88) E dX5_agree_88 rfl (Nat.le_of_ble_eq_true rfl) rfl rfl ?_
      refine gg_iload_n (pc := 89) E dX5_agree_89 rfl rfl ?_
      refine gg_ifN_eq (tgt := 128) (pc := 90) E 0 rfl (by decide) dX5_agree_90 (by decide) (fun _ => ?_) (fun q => absurd q (by decide))
      refine gg_iconst (v := 0) (pc := 128) E dX5_agree_128 (by decide) ?_
      refine gg_iret (pc := 129) E Fn rfl (gg_nz (by first | decide | assumption | exact gg_b01 | (split <;> decide))) dX5_agree_129 (by first | exact Nat.le_of_ble_eq_true rfl | (dsimp only; omega)) (by first | exact Nat.le_of_ble_eq_true rfl | (dsimp only; omega)) ?_
      exact ⟨sums, near, don, (congrArg (fun z => some (Value.int z)) (if_neg (fun q => c33 q.1.2)).symm), rfl⟩
    · refine gg_iconst (v := 1) (pc := 36) E dX5_agree_36 (by decide) ?_
      refine gg_goto (tgt := 41) (pc := 37) E dX5_agree_37 (by decide) ?_
      refine gg_istore_n (lv' := [_, _]) (pc := 41) E dX5_agree_41 rfl (Nat.le_of_ble_eq_true rfl) rfl rfl ?_
      refine gg_iload_n (pc := 42) E dX5_agree_42 rfl rfl ?_
      refine gg_ifN_eq (tgt := 87) (pc := 43) E 1 rfl (by decide) dX5_agree_43 (by decide) (fun q => absurd q (by decide)) (fun _ => ?_)
      refine gg_aload_n (pc := 46) E dX5_agree_46 rfl rfl ?_
      refine gg_iconst (v := 3) (pc := 47) E dX5_agree_47 (by decide) ?_
      refine gg_callV (F := [_, _, _, _]) (As := [_]) (rest := []) (pc := 48) E ck_X5 (ct_X5_those hl (by first | assumption | omega) (by first | assumption | omega)) (cwV 1 E.2.2.2.2.1 (lw_V q3245 q3247 qs128 q179 q3248) rfl rfl rfl (by decide +kernel) ⟨by rw [hRf]; exact Nat.le_of_ble_eq_true rfl, by rw [hRl]; exact Nat.le_of_ble_eq_true rfl⟩) dX5_agree_48 [] (by decide) rfl rfl (List.forall_mem_cons.mpr ⟨(gg_i 0 rfl), (List.forall_mem_cons.mpr ⟨(gg_r 0 rfl), (fun _ h => by cases h)⟩)⟩) (gg_i 0 rfl) rfl rfl (Nat.le_of_ble_eq_true rfl) (by first | (rw [hRc]; exact Nat.le_of_ble_eq_true rfl) | (rw [hRc]; dsimp only; omega)) (by first | (rw [hRs]; exact Nat.le_of_ble_eq_true rfl) | (rw [hRs]; dsimp only; omega)) ?_ (fun X q C1 h => h.elim)
      rintro _ _ ⟨rfl, rfl⟩
      dsimp only [List.cons_append, List.nil_append, Option.toList]
      refine gg_aload_n (pc := 51) E dX5_agree_51 rfl rfl ?_
      refine gg_get (pc := 52) E ck_X5 0 q2859 rfl (by decide) dX5_agree_52 (gg_i 0 rfl) rfl ?_
      refine gg_bipush (v := 18) (pc := 55) E dX5_agree_55 (by decide) ?_
      refine gg_ialdN (pc := 57) E 18 rfl (by omega) (by omega) dX5_agree_57 (gg_r 0 rfl) ?_
      refine gg_icmp_ne (tgt := 87) (pc := 58) E dX5_agree_58 (by decide) (fun c58 => ?_) (fun c58 => ?_)
      · refine gg_iconst (v := 0) (pc := 87) E dX5_agree_87 (by decide) ?_
        refine gg_istore_n (lv' := [_, _]) (pc := 88) E dX5_agree_88 rfl (Nat.le_of_ble_eq_true rfl) rfl rfl ?_
        refine gg_iload_n (pc := 89) E dX5_agree_89 rfl rfl ?_
        refine gg_ifN_eq (tgt := 128) (pc := 90) E 0 rfl (by decide) dX5_agree_90 (by decide) (fun _ => ?_) (fun q => absurd q (by decide))
        refine gg_iconst (v := 0) (pc := 128) E dX5_agree_128 (by decide) ?_
        refine gg_iret (pc := 129) E Fn rfl (gg_nz (by first | decide | assumption | exact gg_b01 | (split <;> decide))) dX5_agree_129 (by first | exact Nat.le_of_ble_eq_true rfl | (dsimp only; omega)) (by first | exact Nat.le_of_ble_eq_true rfl | (dsimp only; omega)) ?_
        exact ⟨sums, near, don, (congrArg (fun z => some (Value.int z)) (if_neg (fun q => c58 q.2.1.1)).symm), rfl⟩
      · refine gg_aload_n (pc := 61) E dX5_agree_61 rfl rfl ?_
        refine gg_callV (F := [_, _, _, _]) (As := []) (rest := []) (pc := 62) E ck_X5 (ct_X5_purses hl (by first | assumption | omega) (by first | assumption | omega)) (cwV 0 E.2.2.2.2.1 (lw_V q3253 q3255 qs130 q179 q3256) rfl rfl rfl (by decide +kernel) ⟨by rw [hRf]; exact Nat.le_of_ble_eq_true rfl, by rw [hRl]; exact Nat.le_of_ble_eq_true rfl⟩) dX5_agree_62 [] (by decide) rfl rfl (List.forall_mem_cons.mpr ⟨(gg_i 0 rfl), (List.forall_mem_cons.mpr ⟨(gg_r 0 rfl), (fun _ h => by cases h)⟩)⟩) (gg_i 0 rfl) rfl rfl (Nat.le_of_ble_eq_true rfl) (by first | (rw [hRc]; exact Nat.le_of_ble_eq_true rfl) | (rw [hRc]; dsimp only; omega)) (by first | (rw [hRs]; exact Nat.le_of_ble_eq_true rfl) | (rw [hRs]; dsimp only; omega)) ?_ (fun X q C1 h => h.elim)
        rintro _ _ ⟨rfl, rfl⟩
        dsimp only [List.cons_append, List.nil_append, Option.toList]
        refine gg_aload_n (pc := 65) E dX5_agree_65 rfl rfl ?_
        refine gg_get (pc := 66) E ck_X5 0 q2859 rfl (by decide) dX5_agree_66 (gg_i 0 rfl) rfl ?_
        refine gg_bipush (v := 7) (pc := 69) E dX5_agree_69 (by decide) ?_
        refine gg_ialdN (pc := 71) E 7 rfl (by omega) (by omega) dX5_agree_71 (gg_r 0 rfl) ?_
        refine gg_aload_n (pc := 72) E dX5_agree_72 rfl rfl ?_
        refine gg_get (pc := 73) E ck_X5 0 q2859 rfl (by decide) dX5_agree_73 (gg_i 0 rfl) rfl ?_
        refine gg_bipush (v := 20) (pc := 76) E dX5_agree_76 (by decide) ?_
        refine gg_ialdN (pc := 78) E 20 rfl (by omega) (by omega) dX5_agree_78 (gg_r 0 rfl) ?_
        refine gg_iadd (pc := 79) E dX5_agree_79 ?_
        refine gg_icmp_ne (tgt := 87) (pc := 80) E dX5_agree_80 (by decide) (fun c80 => ?_) (fun c80 => ?_)
        · refine gg_iconst (v := 0) (pc := 87) E dX5_agree_87 (by decide) ?_
          refine gg_istore_n (lv' := [_, _]) (pc := 88) E dX5_agree_88 rfl (Nat.le_of_ble_eq_true rfl) rfl rfl ?_
          refine gg_iload_n (pc := 89) E dX5_agree_89 rfl rfl ?_
          refine gg_ifN_eq (tgt := 128) (pc := 90) E 0 rfl (by decide) dX5_agree_90 (by decide) (fun _ => ?_) (fun q => absurd q (by decide))
          refine gg_iconst (v := 0) (pc := 128) E dX5_agree_128 (by decide) ?_
          refine gg_iret (pc := 129) E Fn rfl (gg_nz (by first | decide | assumption | exact gg_b01 | (split <;> decide))) dX5_agree_129 (by first | exact Nat.le_of_ble_eq_true rfl | (dsimp only; omega)) (by first | exact Nat.le_of_ble_eq_true rfl | (dsimp only; omega)) ?_
          exact ⟨sums, near, don, (congrArg (fun z => some (Value.int z)) (if_neg (fun q => c80 q.2.1.2)).symm), rfl⟩
        · refine gg_iconst (v := 1) (pc := 83) E dX5_agree_83 (by decide) ?_
          refine gg_goto (tgt := 88) (pc := 84) E dX5_agree_84 (by decide) ?_
          refine gg_istore_n (lv' := [_, _]) (pc := 88) E dX5_agree_88 rfl (Nat.le_of_ble_eq_true rfl) rfl rfl ?_
          refine gg_iload_n (pc := 89) E dX5_agree_89 rfl rfl ?_
          refine gg_ifN_eq (tgt := 128) (pc := 90) E 1 rfl (by decide) dX5_agree_90 (by decide) (fun q => absurd q (by decide)) (fun _ => ?_)
          refine gg_aload_n (pc := 93) E dX5_agree_93 rfl rfl ?_
          refine gg_get (pc := 94) E ck_X5 0 q2859 rfl (by decide) dX5_agree_94 (gg_i 0 rfl) rfl ?_
          refine gg_bipush (v := 16) (pc := 97) E dX5_agree_97 (by decide) ?_
          refine gg_ialdN (pc := 99) E 16 rfl (by omega) (by omega) dX5_agree_99 (gg_r 0 rfl) ?_
          refine gg_aload_n (pc := 100) E dX5_agree_100 rfl rfl ?_
          refine gg_get (pc := 101) E ck_X5 0 q2859 rfl (by decide) dX5_agree_101 (gg_i 0 rfl) rfl ?_
          refine gg_bipush (v := 15) (pc := 104) E dX5_agree_104 (by decide) ?_
          refine gg_ialdN (pc := 106) E 15 rfl (by omega) (by omega) dX5_agree_106 (gg_r 0 rfl) ?_
          refine gg_icmp_gt (tgt := 128) (pc := 107) E dX5_agree_107 (by decide) (fun c107 => ?_) (fun c107 => ?_)
          · refine gg_iconst (v := 0) (pc := 128) E dX5_agree_128 (by decide) ?_
            refine gg_iret (pc := 129) E Fn rfl (gg_nz (by first | decide | assumption | exact gg_b01 | (split <;> decide))) dX5_agree_129 (by first | exact Nat.le_of_ble_eq_true rfl | (dsimp only; omega)) (by first | exact Nat.le_of_ble_eq_true rfl | (dsimp only; omega)) ?_
            exact ⟨sums, near, don, (congrArg (fun z => some (Value.int z)) (if_neg (fun q => Int32.not_lt.mpr q.2.2.1 c107)).symm), rfl⟩
          · refine gg_aload_n (pc := 110) E dX5_agree_110 rfl rfl ?_
            refine gg_callV (F := [_, _, _, _]) (As := []) (rest := []) (pc := 111) E ck_X5 (ct_X5_areTunes hl (hG0)) (cwV 0 E.2.2.2.2.1 (lw_V q3371 q3373 qs141 q179 q3374) rfl rfl rfl (by decide +kernel) ⟨by rw [hRf]; exact Nat.le_of_ble_eq_true rfl, by rw [hRl]; exact Nat.le_of_ble_eq_true rfl⟩) dX5_agree_111 [] (by decide) rfl rfl (List.forall_mem_cons.mpr ⟨(gg_i 0 rfl), (List.forall_mem_cons.mpr ⟨(gg_r 0 rfl), (fun _ h => by cases h)⟩)⟩) (gg_i 0 rfl) rfl rfl (Nat.le_of_ble_eq_true rfl) (by first | (rw [hRc]; exact Nat.le_of_ble_eq_true rfl) | (rw [hRc]; dsimp only; omega)) (by first | (rw [hRs]; exact Nat.le_of_ble_eq_true rfl) | (rw [hRs]; dsimp only; omega)) ?_ (fun X q C1 h => h.elim)
            rintro _ _ ⟨rfl, rfl⟩
            dsimp only [List.cons_append, List.nil_append, Option.toList]
            refine gg_ifP_eq (tgt := 128) (pc := 114) E dX5_agree_114 (by decide) (fun c114 => ?_) (fun c114 => ?_)
            · refine gg_iconst (v := 0) (pc := 128) E dX5_agree_128 (by decide) ?_
              refine gg_iret (pc := 129) E Fn rfl (gg_nz (by first | decide | assumption | exact gg_b01 | (split <;> decide))) dX5_agree_129 (by first | exact Nat.le_of_ble_eq_true rfl | (dsimp only; omega)) (by first | exact Nat.le_of_ble_eq_true rfl | (dsimp only; omega)) ?_
              exact ⟨sums, near, don, (congrArg (fun z => some (Value.int z)) (if_neg (fun q => c114 q.2.2.2)).symm), rfl⟩
            · refine gg_aload_n (pc := 117) E dX5_agree_117 rfl rfl ?_
              refine gg_callV (F := [_]) (As := []) (rest := []) (pc := 118) E ck_X5 (ct_X5_areRoutes hl (hG0)) (cwV 0 E.2.2.2.2.1 (lw_V q3375 q3377 qs142 q179 q3378) rfl rfl rfl (by decide +kernel) ⟨by rw [hRf]; exact Nat.le_of_ble_eq_true rfl, by rw [hRl]; exact Nat.le_of_ble_eq_true rfl⟩) dX5_agree_118 [1, 2, 3] (by decide) rfl rfl (List.forall_mem_cons.mpr ⟨(gg_i 0 rfl), (List.forall_mem_cons.mpr ⟨(gg_r 0 rfl), (fun _ h => by cases h)⟩)⟩) (gg_i 0 rfl) rfl rfl (Nat.le_of_ble_eq_true rfl) (by first | (rw [hRc]; exact Nat.le_of_ble_eq_true rfl) | (rw [hRc]; dsimp only; omega)) (by first | (rw [hRs]; exact Nat.le_of_ble_eq_true rfl) | (rw [hRs]; dsimp only; omega)) ?_ (fun X q C1 h => h.elim)
              rintro _ _ ⟨S_1, N_2, Z_3, rfl, rfl⟩
              dsimp only [List.cons_append, List.nil_append, Option.toList]
              refine gg_up3 ?_
              refine gg_up3 ?_
              refine gg_up3 ?_
              refine gg_ifN_eq (tgt := 128) (pc := 121) E 1 rfl (by decide) dX5_agree_121 (by decide) (fun q => absurd q (by decide)) (fun _ => ?_)
              refine gg_iconst (v := 1) (pc := 124) E dX5_agree_124 (by decide) ?_
              refine gg_goto (tgt := 129) (pc := 125) E dX5_agree_125 (by decide) ?_
              refine gg_iret (pc := 129) E Fn rfl (gg_nz (by first | decide | assumption | exact gg_b01 | (split <;> decide))) dX5_agree_129 (by first | exact Nat.le_of_ble_eq_true rfl | (dsimp only; omega)) (by first | exact Nat.le_of_ble_eq_true rfl | (dsimp only; omega)) ?_
              exact ⟨_, _, _, (congrArg (fun z => some (Value.int z)) (if_pos ⟨⟨c18, c33⟩, ⟨c58, c80⟩, Int32.not_lt.mp c107, c114⟩).symm), rfl⟩
set_option maxHeartbeats 4000000 in
theorem ct_X5_meanPurse {l : Launch} (hl : l.stackTraces = false) {g : gg_G}  {h : Nat} {ad : Nat → Nat} {x : Nat → Int32} {row : Nat → Int32} {nr : Nat} (hnr : row 0 = nI nr) (hr10 : nr ≤ 10) (hn64 : vf_n64 (FP.ddiv (FP.i2d (sm (fun i => row (25 + 13 * i + 10)) nr)) (FP.i2d (row 0)))) : gg_C l g yX5_meanPurse (ws_ yX5_meanPurse cX5_meanPurse 1 (some .double)) { frames := 2, cells := 0, slots := 0, locals := 42 } [.ref h] [((ad 0), gg_ai g 1030 row)] [[(h, .inl (4, mo_f ad x))]] (fun vv CC => vv = some (.double (FP.ddiv (FP.i2d (sm (fun i => row (25 + 13 * i + 10)) nr)) (FP.i2d (row 0)))) ∧ CC = [[(h, .inl (4, mo_f ad (upd x 6 0)))]]) gg_no := by
  refine gg_of (lv := [_]) (by decide) hl (Nat.le_of_ble_eq_true rfl) rfl ?_
  intro p e R s m args below meth c A Q hRf hRl hRc hRs E Fn hnm hex
  refine gg_aload_n (pc := 0) E dX5_meanPurse_0 rfl rfl ?_
  refine gg_iconst (v := 0) (pc := 1) E dX5_meanPurse_1 (by decide) ?_
  refine gg_putM (M' := [_]) (pc := 2) E ck_X5 6 q2865 rfl (by decide) dX5_meanPurse_2 0 rfl rfl (rfl) rfl (Nat.le_of_ble_eq_true rfl) rfl rfl ?_
  refine gg_aload_n (pc := 5) E dX5_meanPurse_5 rfl rfl ?_
  refine gg_callV (F := [_]) (As := []) (rest := []) (pc := 6) E ck_X5 (ct_X5_purses hl (by first | assumption | omega) (by first | assumption | omega)) (cwV 0 E.2.2.2.2.1 (lw_V q3253 q3255 qs130 q179 q3256) rfl rfl rfl (by decide +kernel) ⟨by rw [hRf]; exact Nat.le_of_ble_eq_true rfl, by rw [hRl]; exact Nat.le_of_ble_eq_true rfl⟩) dX5_meanPurse_6 [] (by decide) rfl rfl (List.forall_mem_cons.mpr ⟨(gg_i 0 rfl), (List.forall_mem_cons.mpr ⟨(gg_r 0 rfl), (fun _ h => by cases h)⟩)⟩) (gg_i 0 rfl) rfl rfl (Nat.le_of_ble_eq_true rfl) (by first | (rw [hRc]; exact Nat.le_of_ble_eq_true rfl) | (rw [hRc]; dsimp only; omega)) (by first | (rw [hRs]; exact Nat.le_of_ble_eq_true rfl) | (rw [hRs]; dsimp only; omega)) ?_ (fun X q C1 h => h.elim)
  rintro _ _ ⟨rfl, rfl⟩
  dsimp only [List.cons_append, List.nil_append, Option.toList]
  refine gg_i2d (pc := 9) E dX5_meanPurse_9 ?_
  refine gg_aload_n (pc := 10) E dX5_meanPurse_10 rfl rfl ?_
  refine gg_get (pc := 11) E ck_X5 0 q2859 rfl (by decide) dX5_meanPurse_11 (gg_i 0 rfl) rfl ?_
  refine gg_iconst (v := 0) (pc := 14) E dX5_meanPurse_14 (by decide) ?_
  refine gg_ialdN (pc := 15) E 0 rfl (by omega) (by omega) dX5_meanPurse_15 (gg_r 0 rfl) ?_
  refine gg_i2d (pc := 16) E dX5_meanPurse_16 ?_
  refine gg_ddiv (pc := 17) E dX5_meanPurse_17 (by assumption) ?_
  refine gg_dret (pc := 18) E Fn rfl dX5_meanPurse_18 (by first | exact Nat.le_of_ble_eq_true rfl | (dsimp only; omega)) (by first | exact Nat.le_of_ble_eq_true rfl | (dsimp only; omega)) ?_
  exact ⟨rfl, rfl⟩
set_option maxHeartbeats 4000000 in
theorem ct_X5_rightPart {l : Launch} (hl : l.stackTraces = false) {g : gg_G}  {h : Nat} {ad : Nat → Nat} {x : Nat → Int32} {row : Nat → Int32} (hn32 : ¬ row 15 = 0 → vf_n32 (FP.fdiv (FP.i2f (row 16)) (FP.i2f (row 15)))) : gg_C l g yX5_rightPart (ws_ yX5_rightPart cX5_rightPart 2 (some .float)) { frames := 0, cells := 0, slots := 0, locals := 0 } [.ref h] [((ad 0), gg_ai g 1030 row)] [[(h, .inl (4, mo_f ad x))]] (fun vv CC => vv = some (.float (if row 15 = 0 then FP.fconst0 else FP.fdiv (FP.i2f (row 16)) (FP.i2f (row 15)))) ∧ CC = [[(h, .inl (4, mo_f ad (upd x 6 0)))]]) gg_no := by
  refine gg_of (lv := [_, _]) (by decide) hl (Nat.le_of_ble_eq_true rfl) rfl ?_
  intro p e R s m args below meth c A Q hRf hRl hRc hRs E Fn hnm hex
  refine gg_aload_n (pc := 0) E dX5_rightPart_0 rfl rfl ?_
  refine gg_iconst (v := 0) (pc := 1) E dX5_rightPart_1 (by decide) ?_
  refine gg_putM (M' := [_]) (pc := 2) E ck_X5 6 q2865 rfl (by decide) dX5_rightPart_2 0 rfl rfl (rfl) rfl (Nat.le_of_ble_eq_true rfl) rfl rfl ?_
  refine gg_aload_n (pc := 5) E dX5_rightPart_5 rfl rfl ?_
  refine gg_get (pc := 6) E ck_X5 0 q2859 rfl (by decide) dX5_rightPart_6 (gg_i 0 rfl) rfl ?_
  refine gg_bipush (v := 15) (pc := 9) E dX5_rightPart_9 (by decide) ?_
  refine gg_ialdN (pc := 11) E 15 rfl (by omega) (by omega) dX5_rightPart_11 (gg_r 0 rfl) ?_
  refine gg_istore_n (lv' := [_, _]) (pc := 12) E dX5_rightPart_12 rfl (Nat.le_of_ble_eq_true rfl) rfl rfl ?_
  refine gg_iload_n (pc := 13) E dX5_rightPart_13 rfl rfl ?_
  refine gg_if_ne (tgt := 21) (pc := 14) E dX5_rightPart_14 (by decide) (fun c14 => ?_) (fun c14 => ?_)
  · refine gg_aload_n (pc := 21) E dX5_rightPart_21 rfl rfl ?_
    refine gg_get (pc := 22) E ck_X5 0 q2859 rfl (by decide) dX5_rightPart_22 (gg_i 0 rfl) rfl ?_
    refine gg_bipush (v := 16) (pc := 25) E dX5_rightPart_25 (by decide) ?_
    refine gg_ialdN (pc := 27) E 16 rfl (by omega) (by omega) dX5_rightPart_27 (gg_r 0 rfl) ?_
    refine gg_i2f (pc := 28) E dX5_rightPart_28 ?_
    refine gg_iload_n (pc := 29) E dX5_rightPart_29 rfl rfl ?_
    refine gg_i2f (pc := 30) E dX5_rightPart_30 ?_
    refine gg_fdiv (pc := 31) E dX5_rightPart_31 (hn32 c14) ?_
    refine gg_fret (pc := 32) E Fn rfl dX5_rightPart_32 (by first | exact Nat.le_of_ble_eq_true rfl | (dsimp only; omega)) (by first | exact Nat.le_of_ble_eq_true rfl | (dsimp only; omega)) ?_
    exact ⟨by rw [if_neg c14], rfl⟩
  · refine gg_fconst0 (pc := 17) E dX5_rightPart_17 ?_
    refine gg_goto (tgt := 32) (pc := 18) E dX5_rightPart_18 (by decide) ?_
    refine gg_fret (pc := 32) E Fn rfl dX5_rightPart_32 (by first | exact Nat.le_of_ble_eq_true rfl | (dsimp only; omega)) (by first | exact Nat.le_of_ble_eq_true rfl | (dsimp only; omega)) ?_
    exact ⟨by rw [if_pos c14], rfl⟩

set_option maxRecDepth 100000
def spY (x : Nat → Int32) (n : Nat) : Nat → Int32 := nd x (if x 18 = 1 ∧ n ≤ 6 then 1 else 0) 1
def spn (x : Nat → Int32) (n : Nat) : Nat := if spY x n 20 = 0 then n else 0
theorem spn_6 {x : Nat → Int32} {n : Nat} : spn x n ≤ 6 ∧ spn x n ≤ n := by
  unfold spn
  by_cases q : spY x n 20 = 0
  · rw [if_pos q]
    by_cases r : x 18 = 1 ∧ n ≤ 6
    · exact ⟨r.2, Nat.le_refl _⟩
    · exfalso
      unfold spY nd at q
      rw [if_neg r] at q
      by_cases z : x 20 = 0
      · rw [if_pos ⟨z, rfl⟩, pk_un (by omega), pk_us] at q
        exact absurd q (by decide)
      · rw [if_neg (fun w => z w.1)] at q
        exact z q
  · rw [if_neg q]
    omega
set_option maxHeartbeats 4000000 in
theorem ct_X5_spells {l : Launch} (hl : l.stackTraces = false) {g : gg_G}  {h : Nat} {ad : Nat → Nat} {x : Nat → Int32} {b sp : Nat → Int32} {p0 f0 : Nat} (hp : x 17 = nI p0) (hf : x 16 = nI f0) (hfp : f0 ≤ p0) (hpb : p0 ≤ 800) : gg_C l g yX5_spells (ws_ yX5_spells cX5_spells 2 none) { frames := 1, cells := 0, slots := 0, locals := 22 } [.ref h] [((ad 12), gg_ab g 800 b)] [[(h, .inl (4, mo_f ad x))], [((ad 7), gg_ai g 6 sp)]] (fun vv CC => vv = none ∧ CC = [[(h, .inl (4, mo_f ad (upd (spY x (p0 - f0)) 8 (nI (spn x (p0 - f0))))))], [((ad 7), gg_ai g 6 (ub sp 0 (spn x (p0 - f0)) (fun i => b (f0 + i))))]]) gg_no := by
  refine gg_of (lv := [_, _]) (by decide) hl (Nat.le_of_ble_eq_true rfl) rfl ?_
  intro p e R s m args below meth c A Q hRf hRl hRc hRs E Fn hnm hex
  have hs6 := (spn_6 (x := x) (n := p0 - f0)).1
  have hsn := (spn_6 (x := x) (n := p0 - f0)).2
  refine gg_aload_n (pc := 0) E dX5_spells_0 rfl rfl ?_
  refine gg_aload_n (pc := 1) E dX5_spells_1 rfl rfl ?_
  refine gg_get (pc := 2) E ck_X5 18 q2877 rfl (by decide) dX5_spells_2 (gg_i 0 rfl) rfl ?_
  refine gg_iconst (v := 1) (pc := 5) E dX5_spells_5 (by decide) ?_
  refine gg_icmp_ne (tgt := 27) (pc := 6) E dX5_spells_6 (by decide) (fun c6 => ?_) (fun c6 => ?_)
  · refine gg_iconst (v := 0) (pc := 27) E dX5_spells_27 (by decide) ?_
    refine gg_topI (y := if x 18 = 1 ∧ p0 - f0 ≤ 6 then 1 else 0) (if_neg (fun q => c6 q.1)).symm ?_
    refine gg_iconst (v := 1) (pc := 28) E dX5_spells_28 (by decide) ?_
    refine gg_callV (F := [_]) (As := [_, _]) (rest := []) (pc := 29) E ck_X5 (ct_X5_need hl ) (cwV 2 E.2.2.2.2.1 (lw_V q3013 q3015 qs78 q179 q3016) rfl rfl rfl (by decide +kernel) ⟨by rw [hRf]; exact Nat.le_of_ble_eq_true rfl, by rw [hRl]; exact Nat.le_of_ble_eq_true rfl⟩) dX5_spells_29 [0] (by decide) rfl rfl (fun _ h => by cases h) (gg_i 0 rfl) rfl rfl (Nat.le_of_ble_eq_true rfl) (by first | (rw [hRc]; exact Nat.le_of_ble_eq_true rfl) | (rw [hRc]; dsimp only; omega)) (by first | (rw [hRs]; exact Nat.le_of_ble_eq_true rfl) | (rw [hRs]; dsimp only; omega)) ?_ (fun X q C1 h => h.elim)
    rintro _ _ ⟨rfl, rfl⟩
    dsimp only [List.cons_append, List.nil_append, Option.toList]
    refine gg_aload_n (pc := 32) E dX5_spells_32 rfl rfl ?_
    refine gg_aload_n (pc := 33) E dX5_spells_33 rfl rfl ?_
    refine gg_get (pc := 34) E ck_X5 20 q2879 rfl (by decide) dX5_spells_34 (gg_i 0 rfl) rfl ?_
    refine gg_if_ne (tgt := 52) (pc := 37) E dX5_spells_37 (by decide) (fun c37 => ?_) (fun c37 => ?_)
    · refine gg_iconst (v := 0) (pc := 52) E dX5_spells_52 (by decide) ?_
      refine gg_topI (y := nI (spn x (p0 - f0))) (congrArg nI (if_neg c37)).symm ?_
      refine gg_putM (M' := [_, _]) (pc := 53) E ck_X5 8 q2867 rfl (by decide) dX5_spells_53 0 rfl rfl (rfl) rfl (Nat.le_of_ble_eq_true rfl) rfl rfl ?_
      refine gg_iconst (v := 0) (pc := 56) E dX5_spells_56 (by decide) ?_
      refine gg_istore_n (lv' := [_, _]) (pc := 57) E dX5_spells_57 rfl (Nat.le_of_ble_eq_true rfl) rfl rfl ?_
      have L58 : ∀ (n : Nat) (i : Nat), spn x (p0 - f0) - i < n → (i ≤ spn x (p0 - f0)) → gg_W p l e R s m args below meth c g A 2 Q 0 0 [[(h, .inl (4, mo_f ad (upd (spY x (p0 - f0)) 8 (nI (spn x (p0 - f0))))))], [((ad 7), gg_ai g 6 (ub sp 0 i (fun i => b (f0 + i))))]] [some (.ref h), some (.int (nI i))] [] 58 := by
        intro n58
        induction n58 with
        | zero => intro i hmz; exact absurd hmz (Nat.not_lt_zero _)
        | succ n58 ih58 =>
          intro i hm58 hi
          refine gg_iload_n (pc := 58) E dX5_spells_58 rfl rfl ?_
          refine gg_aload_n (pc := 59) E dX5_spells_59 rfl rfl ?_
          refine gg_get (pc := 60) E ck_X5 8 q2867 rfl (by decide) dX5_spells_60 (gg_i 0 rfl) rfl ?_
          refine gg_topI (y := nI (spn x (p0 - f0))) pk_us ?_
          refine gg_icmpN_ge (tgt := 89) (pc := 63) E i (spn x (p0 - f0)) rfl rfl (by omega) (by omega) dX5_spells_63 (by decide) (fun c63 => ?_) (fun c63 => ?_)
          · refine gg_vret (pc := 89) E Fn rfl dX5_spells_89 (by first | exact Nat.le_of_ble_eq_true rfl | (dsimp only; omega)) (by first | exact Nat.le_of_ble_eq_true rfl | (dsimp only; omega)) ?_
            have e : i = spn x (p0 - f0) := by omega
            subst e
            exact ⟨rfl, rfl⟩
          · refine gg_aload_n (pc := 66) E dX5_spells_66 rfl rfl ?_
            refine gg_get (pc := 67) E ck_X5 7 q2866 rfl (by decide) dX5_spells_67 (gg_i 0 rfl) rfl ?_
            refine gg_iload_n (pc := 70) E dX5_spells_70 rfl rfl ?_
            refine gg_aload_n (pc := 71) E dX5_spells_71 rfl rfl ?_
            refine gg_get (pc := 72) E ck_X5 12 q2871 rfl (by decide) dX5_spells_72 (gg_i 0 rfl) rfl ?_
            refine gg_aload_n (pc := 75) E dX5_spells_75 rfl rfl ?_
            refine gg_get (pc := 76) E ck_X5 16 q2875 rfl (by decide) dX5_spells_76 (gg_i 0 rfl) rfl ?_
            refine gg_topI (y := nI f0) ((pk_un (by omega)).trans ((nd_out (by omega) (by omega)).trans hf)) ?_
            refine gg_iload_n (pc := 79) E dX5_spells_79 rfl rfl ?_
            refine gg_iaddN (pc := 80) E f0 i rfl rfl dX5_spells_80 ?_
            refine gg_baldN (pc := 81) E (f0 + i) rfl (by omega) (by omega) dX5_spells_81 (gg_r 0 rfl) ?_
            refine gg_iastN (M' := [_, _]) (pc := 82) E i rfl (by omega) (by omega) dX5_spells_82 1 rfl rfl ?_
            refine gg_iincN (k := 1) (lv' := [_, _]) (pc := 83) E i dX5_spells_83 rfl rfl rfl (Nat.le_of_ble_eq_true rfl) rfl rfl ?_
            refine gg_goto (tgt := 58) (pc := 86) E dX5_spells_86 (by decide) ?_
            refine gg_cv ?_ (gg_leS (gg_leS gg_le0)) rfl (by first | exact Nat.le_refl _ | (dsimp only; omega)) (by first | exact Nat.le_refl _ | (dsimp only; omega)) (ih58 (i + 1) (by omega) (by omega))
            · rw [ub0_1 _ _ _ _ rfl]
      refine gg_cv ?_ (gg_leS (gg_leS gg_le0)) rfl (by first | exact Nat.le_refl _ | (dsimp only; omega)) (by first | exact Nat.le_refl _ | (dsimp only; omega)) (L58 _ 0 (Nat.lt_succ_self _) (Nat.zero_le _))
      · first | (rw [ub_0]; done) | (rw [ub_0]; rfl)
    · refine gg_aload_n (pc := 40) E dX5_spells_40 rfl rfl ?_
      refine gg_get (pc := 41) E ck_X5 17 q2876 rfl (by decide) dX5_spells_41 (gg_i 0 rfl) rfl ?_
      refine gg_topI (y := nI p0) ((nd_out (by omega) (by omega)).trans hp) ?_
      refine gg_aload_n (pc := 44) E dX5_spells_44 rfl rfl ?_
      refine gg_get (pc := 45) E ck_X5 16 q2875 rfl (by decide) dX5_spells_45 (gg_i 0 rfl) rfl ?_
      refine gg_topI (y := nI f0) ((nd_out (by omega) (by omega)).trans hf) ?_
      refine gg_isubN (pc := 48) E p0 f0 rfl rfl (by omega) dX5_spells_48 ?_
      refine gg_goto (tgt := 53) (pc := 49) E dX5_spells_49 (by decide) ?_
      refine gg_topI (y := nI (spn x (p0 - f0))) (congrArg nI (if_pos c37)).symm ?_
      refine gg_putM (M' := [_, _]) (pc := 53) E ck_X5 8 q2867 rfl (by decide) dX5_spells_53 0 rfl rfl (rfl) rfl (Nat.le_of_ble_eq_true rfl) rfl rfl ?_
      refine gg_iconst (v := 0) (pc := 56) E dX5_spells_56 (by decide) ?_
      refine gg_istore_n (lv' := [_, _]) (pc := 57) E dX5_spells_57 rfl (Nat.le_of_ble_eq_true rfl) rfl rfl ?_
      have L58 : ∀ (n : Nat) (i : Nat), spn x (p0 - f0) - i < n → (i ≤ spn x (p0 - f0)) → gg_W p l e R s m args below meth c g A 2 Q 0 0 [[(h, .inl (4, mo_f ad (upd (spY x (p0 - f0)) 8 (nI (spn x (p0 - f0))))))], [((ad 7), gg_ai g 6 (ub sp 0 i (fun i => b (f0 + i))))]] [some (.ref h), some (.int (nI i))] [] 58 := by
        intro n58
        induction n58 with
        | zero => intro i hmz; exact absurd hmz (Nat.not_lt_zero _)
        | succ n58 ih58 =>
          intro i hm58 hi
          refine gg_iload_n (pc := 58) E dX5_spells_58 rfl rfl ?_
          refine gg_aload_n (pc := 59) E dX5_spells_59 rfl rfl ?_
          refine gg_get (pc := 60) E ck_X5 8 q2867 rfl (by decide) dX5_spells_60 (gg_i 0 rfl) rfl ?_
          refine gg_topI (y := nI (spn x (p0 - f0))) pk_us ?_
          refine gg_icmpN_ge (tgt := 89) (pc := 63) E i (spn x (p0 - f0)) rfl rfl (by omega) (by omega) dX5_spells_63 (by decide) (fun c63 => ?_) (fun c63 => ?_)
          · refine gg_vret (pc := 89) E Fn rfl dX5_spells_89 (by first | exact Nat.le_of_ble_eq_true rfl | (dsimp only; omega)) (by first | exact Nat.le_of_ble_eq_true rfl | (dsimp only; omega)) ?_
            have e : i = spn x (p0 - f0) := by omega
            subst e
            exact ⟨rfl, rfl⟩
          · refine gg_aload_n (pc := 66) E dX5_spells_66 rfl rfl ?_
            refine gg_get (pc := 67) E ck_X5 7 q2866 rfl (by decide) dX5_spells_67 (gg_i 0 rfl) rfl ?_
            refine gg_iload_n (pc := 70) E dX5_spells_70 rfl rfl ?_
            refine gg_aload_n (pc := 71) E dX5_spells_71 rfl rfl ?_
            refine gg_get (pc := 72) E ck_X5 12 q2871 rfl (by decide) dX5_spells_72 (gg_i 0 rfl) rfl ?_
            refine gg_aload_n (pc := 75) E dX5_spells_75 rfl rfl ?_
            refine gg_get (pc := 76) E ck_X5 16 q2875 rfl (by decide) dX5_spells_76 (gg_i 0 rfl) rfl ?_
            refine gg_topI (y := nI f0) ((pk_un (by omega)).trans ((nd_out (by omega) (by omega)).trans hf)) ?_
            refine gg_iload_n (pc := 79) E dX5_spells_79 rfl rfl ?_
            refine gg_iaddN (pc := 80) E f0 i rfl rfl dX5_spells_80 ?_
            refine gg_baldN (pc := 81) E (f0 + i) rfl (by omega) (by omega) dX5_spells_81 (gg_r 0 rfl) ?_
            refine gg_iastN (M' := [_, _]) (pc := 82) E i rfl (by omega) (by omega) dX5_spells_82 1 rfl rfl ?_
            refine gg_iincN (k := 1) (lv' := [_, _]) (pc := 83) E i dX5_spells_83 rfl rfl rfl (Nat.le_of_ble_eq_true rfl) rfl rfl ?_
            refine gg_goto (tgt := 58) (pc := 86) E dX5_spells_86 (by decide) ?_
            refine gg_cv ?_ (gg_leS (gg_leS gg_le0)) rfl (by first | exact Nat.le_refl _ | (dsimp only; omega)) (by first | exact Nat.le_refl _ | (dsimp only; omega)) (ih58 (i + 1) (by omega) (by omega))
            · rw [ub0_1 _ _ _ _ rfl]
      refine gg_cv ?_ (gg_leS (gg_leS gg_le0)) rfl (by first | exact Nat.le_refl _ | (dsimp only; omega)) (by first | exact Nat.le_refl _ | (dsimp only; omega)) (L58 _ 0 (Nat.lt_succ_self _) (Nat.zero_le _))
      · first | (rw [ub_0]; done) | (rw [ub_0]; rfl)
  · refine gg_aload_n (pc := 9) E dX5_spells_9 rfl rfl ?_
    refine gg_get (pc := 10) E ck_X5 17 q2876 rfl (by decide) dX5_spells_10 (gg_i 0 rfl) rfl ?_
    refine gg_topI (y := nI p0) hp ?_
    refine gg_aload_n (pc := 13) E dX5_spells_13 rfl rfl ?_
    refine gg_get (pc := 14) E ck_X5 16 q2875 rfl (by decide) dX5_spells_14 (gg_i 0 rfl) rfl ?_
    refine gg_topI (y := nI f0) hf ?_
    refine gg_isubN (pc := 17) E p0 f0 rfl rfl (by omega) dX5_spells_17 ?_
    refine gg_bipush (v := 6) (pc := 18) E dX5_spells_18 (by decide) ?_
    refine gg_icmpB_gt (pc := 20) E dX5_spells_20 dX5_spells_23 dX5_spells_24 dX5_spells_27 ?_
    refine gg_topI (y := if x 18 = 1 ∧ p0 - f0 ≤ 6 then 1 else 0) (gg_ifc ⟨fun q => ⟨c6, by rw [show (6 : Int32) = nI 6 from rfl, nI_ltI (by omega) (by omega)] at q; omega⟩, fun q => by rw [show (6 : Int32) = nI 6 from rfl, nI_ltI (by omega) (by omega)]; omega⟩) ?_
    refine gg_iconst (v := 1) (pc := 28) E dX5_spells_28 (by decide) ?_
    refine gg_callV (F := [_]) (As := [_, _]) (rest := []) (pc := 29) E ck_X5 (ct_X5_need hl ) (cwV 2 E.2.2.2.2.1 (lw_V q3013 q3015 qs78 q179 q3016) rfl rfl rfl (by decide +kernel) ⟨by rw [hRf]; exact Nat.le_of_ble_eq_true rfl, by rw [hRl]; exact Nat.le_of_ble_eq_true rfl⟩) dX5_spells_29 [0] (by decide) rfl rfl (fun _ h => by cases h) (gg_i 0 rfl) rfl rfl (Nat.le_of_ble_eq_true rfl) (by first | (rw [hRc]; exact Nat.le_of_ble_eq_true rfl) | (rw [hRc]; dsimp only; omega)) (by first | (rw [hRs]; exact Nat.le_of_ble_eq_true rfl) | (rw [hRs]; dsimp only; omega)) ?_ (fun X q C1 h => h.elim)
    rintro _ _ ⟨rfl, rfl⟩
    dsimp only [List.cons_append, List.nil_append, Option.toList]
    refine gg_aload_n (pc := 32) E dX5_spells_32 rfl rfl ?_
    refine gg_aload_n (pc := 33) E dX5_spells_33 rfl rfl ?_
    refine gg_get (pc := 34) E ck_X5 20 q2879 rfl (by decide) dX5_spells_34 (gg_i 0 rfl) rfl ?_
    refine gg_if_ne (tgt := 52) (pc := 37) E dX5_spells_37 (by decide) (fun c37 => ?_) (fun c37 => ?_)
    · refine gg_iconst (v := 0) (pc := 52) E dX5_spells_52 (by decide) ?_
      refine gg_topI (y := nI (spn x (p0 - f0))) (congrArg nI (if_neg c37)).symm ?_
      refine gg_putM (M' := [_, _]) (pc := 53) E ck_X5 8 q2867 rfl (by decide) dX5_spells_53 0 rfl rfl (rfl) rfl (Nat.le_of_ble_eq_true rfl) rfl rfl ?_
      refine gg_iconst (v := 0) (pc := 56) E dX5_spells_56 (by decide) ?_
      refine gg_istore_n (lv' := [_, _]) (pc := 57) E dX5_spells_57 rfl (Nat.le_of_ble_eq_true rfl) rfl rfl ?_
      have L58 : ∀ (n : Nat) (i : Nat), spn x (p0 - f0) - i < n → (i ≤ spn x (p0 - f0)) → gg_W p l e R s m args below meth c g A 2 Q 0 0 [[(h, .inl (4, mo_f ad (upd (spY x (p0 - f0)) 8 (nI (spn x (p0 - f0))))))], [((ad 7), gg_ai g 6 (ub sp 0 i (fun i => b (f0 + i))))]] [some (.ref h), some (.int (nI i))] [] 58 := by
        intro n58
        induction n58 with
        | zero => intro i hmz; exact absurd hmz (Nat.not_lt_zero _)
        | succ n58 ih58 =>
          intro i hm58 hi
          refine gg_iload_n (pc := 58) E dX5_spells_58 rfl rfl ?_
          refine gg_aload_n (pc := 59) E dX5_spells_59 rfl rfl ?_
          refine gg_get (pc := 60) E ck_X5 8 q2867 rfl (by decide) dX5_spells_60 (gg_i 0 rfl) rfl ?_
          refine gg_topI (y := nI (spn x (p0 - f0))) pk_us ?_
          refine gg_icmpN_ge (tgt := 89) (pc := 63) E i (spn x (p0 - f0)) rfl rfl (by omega) (by omega) dX5_spells_63 (by decide) (fun c63 => ?_) (fun c63 => ?_)
          · refine gg_vret (pc := 89) E Fn rfl dX5_spells_89 (by first | exact Nat.le_of_ble_eq_true rfl | (dsimp only; omega)) (by first | exact Nat.le_of_ble_eq_true rfl | (dsimp only; omega)) ?_
            have e : i = spn x (p0 - f0) := by omega
            subst e
            exact ⟨rfl, rfl⟩
          · refine gg_aload_n (pc := 66) E dX5_spells_66 rfl rfl ?_
            refine gg_get (pc := 67) E ck_X5 7 q2866 rfl (by decide) dX5_spells_67 (gg_i 0 rfl) rfl ?_
            refine gg_iload_n (pc := 70) E dX5_spells_70 rfl rfl ?_
            refine gg_aload_n (pc := 71) E dX5_spells_71 rfl rfl ?_
            refine gg_get (pc := 72) E ck_X5 12 q2871 rfl (by decide) dX5_spells_72 (gg_i 0 rfl) rfl ?_
            refine gg_aload_n (pc := 75) E dX5_spells_75 rfl rfl ?_
            refine gg_get (pc := 76) E ck_X5 16 q2875 rfl (by decide) dX5_spells_76 (gg_i 0 rfl) rfl ?_
            refine gg_topI (y := nI f0) ((pk_un (by omega)).trans ((nd_out (by omega) (by omega)).trans hf)) ?_
            refine gg_iload_n (pc := 79) E dX5_spells_79 rfl rfl ?_
            refine gg_iaddN (pc := 80) E f0 i rfl rfl dX5_spells_80 ?_
            refine gg_baldN (pc := 81) E (f0 + i) rfl (by omega) (by omega) dX5_spells_81 (gg_r 0 rfl) ?_
            refine gg_iastN (M' := [_, _]) (pc := 82) E i rfl (by omega) (by omega) dX5_spells_82 1 rfl rfl ?_
            refine gg_iincN (k := 1) (lv' := [_, _]) (pc := 83) E i dX5_spells_83 rfl rfl rfl (Nat.le_of_ble_eq_true rfl) rfl rfl ?_
            refine gg_goto (tgt := 58) (pc := 86) E dX5_spells_86 (by decide) ?_
            refine gg_cv ?_ (gg_leS (gg_leS gg_le0)) rfl (by first | exact Nat.le_refl _ | (dsimp only; omega)) (by first | exact Nat.le_refl _ | (dsimp only; omega)) (ih58 (i + 1) (by omega) (by omega))
            · rw [ub0_1 _ _ _ _ rfl]
      refine gg_cv ?_ (gg_leS (gg_leS gg_le0)) rfl (by first | exact Nat.le_refl _ | (dsimp only; omega)) (by first | exact Nat.le_refl _ | (dsimp only; omega)) (L58 _ 0 (Nat.lt_succ_self _) (Nat.zero_le _))
      · first | (rw [ub_0]; done) | (rw [ub_0]; rfl)
    · refine gg_aload_n (pc := 40) E dX5_spells_40 rfl rfl ?_
      refine gg_get (pc := 41) E ck_X5 17 q2876 rfl (by decide) dX5_spells_41 (gg_i 0 rfl) rfl ?_
      refine gg_topI (y := nI p0) ((nd_out (by omega) (by omega)).trans hp) ?_
      refine gg_aload_n (pc := 44) E dX5_spells_44 rfl rfl ?_
      refine gg_get (pc := 45) E ck_X5 16 q2875 rfl (by decide) dX5_spells_45 (gg_i 0 rfl) rfl ?_
      refine gg_topI (y := nI f0) ((nd_out (by omega) (by omega)).trans hf) ?_
      refine gg_isubN (pc := 48) E p0 f0 rfl rfl (by omega) dX5_spells_48 ?_
      refine gg_goto (tgt := 53) (pc := 49) E dX5_spells_49 (by decide) ?_
      refine gg_topI (y := nI (spn x (p0 - f0))) (congrArg nI (if_pos c37)).symm ?_
      refine gg_putM (M' := [_, _]) (pc := 53) E ck_X5 8 q2867 rfl (by decide) dX5_spells_53 0 rfl rfl (rfl) rfl (Nat.le_of_ble_eq_true rfl) rfl rfl ?_
      refine gg_iconst (v := 0) (pc := 56) E dX5_spells_56 (by decide) ?_
      refine gg_istore_n (lv' := [_, _]) (pc := 57) E dX5_spells_57 rfl (Nat.le_of_ble_eq_true rfl) rfl rfl ?_
      have L58 : ∀ (n : Nat) (i : Nat), spn x (p0 - f0) - i < n → (i ≤ spn x (p0 - f0)) → gg_W p l e R s m args below meth c g A 2 Q 0 0 [[(h, .inl (4, mo_f ad (upd (spY x (p0 - f0)) 8 (nI (spn x (p0 - f0))))))], [((ad 7), gg_ai g 6 (ub sp 0 i (fun i => b (f0 + i))))]] [some (.ref h), some (.int (nI i))] [] 58 := by
        intro n58
        induction n58 with
        | zero => intro i hmz; exact absurd hmz (Nat.not_lt_zero _)
        | succ n58 ih58 =>
          intro i hm58 hi
          refine gg_iload_n (pc := 58) E dX5_spells_58 rfl rfl ?_
          refine gg_aload_n (pc := 59) E dX5_spells_59 rfl rfl ?_
          refine gg_get (pc := 60) E ck_X5 8 q2867 rfl (by decide) dX5_spells_60 (gg_i 0 rfl) rfl ?_
          refine gg_topI (y := nI (spn x (p0 - f0))) pk_us ?_
          refine gg_icmpN_ge (tgt := 89) (pc := 63) E i (spn x (p0 - f0)) rfl rfl (by omega) (by omega) dX5_spells_63 (by decide) (fun c63 => ?_) (fun c63 => ?_)
          · refine gg_vret (pc := 89) E Fn rfl dX5_spells_89 (by first | exact Nat.le_of_ble_eq_true rfl | (dsimp only; omega)) (by first | exact Nat.le_of_ble_eq_true rfl | (dsimp only; omega)) ?_
            have e : i = spn x (p0 - f0) := by omega
            subst e
            exact ⟨rfl, rfl⟩
          · refine gg_aload_n (pc := 66) E dX5_spells_66 rfl rfl ?_
            refine gg_get (pc := 67) E ck_X5 7 q2866 rfl (by decide) dX5_spells_67 (gg_i 0 rfl) rfl ?_
            refine gg_iload_n (pc := 70) E dX5_spells_70 rfl rfl ?_
            refine gg_aload_n (pc := 71) E dX5_spells_71 rfl rfl ?_
            refine gg_get (pc := 72) E ck_X5 12 q2871 rfl (by decide) dX5_spells_72 (gg_i 0 rfl) rfl ?_
            refine gg_aload_n (pc := 75) E dX5_spells_75 rfl rfl ?_
            refine gg_get (pc := 76) E ck_X5 16 q2875 rfl (by decide) dX5_spells_76 (gg_i 0 rfl) rfl ?_
            refine gg_topI (y := nI f0) ((pk_un (by omega)).trans ((nd_out (by omega) (by omega)).trans hf)) ?_
            refine gg_iload_n (pc := 79) E dX5_spells_79 rfl rfl ?_
            refine gg_iaddN (pc := 80) E f0 i rfl rfl dX5_spells_80 ?_
            refine gg_baldN (pc := 81) E (f0 + i) rfl (by omega) (by omega) dX5_spells_81 (gg_r 0 rfl) ?_
            refine gg_iastN (M' := [_, _]) (pc := 82) E i rfl (by omega) (by omega) dX5_spells_82 1 rfl rfl ?_
            refine gg_iincN (k := 1) (lv' := [_, _]) (pc := 83) E i dX5_spells_83 rfl rfl rfl (Nat.le_of_ble_eq_true rfl) rfl rfl ?_
            refine gg_goto (tgt := 58) (pc := 86) E dX5_spells_86 (by decide) ?_
            refine gg_cv ?_ (gg_leS (gg_leS gg_le0)) rfl (by first | exact Nat.le_refl _ | (dsimp only; omega)) (by first | exact Nat.le_refl _ | (dsimp only; omega)) (ih58 (i + 1) (by omega) (by omega))
            · rw [ub0_1 _ _ _ _ rfl]
      refine gg_cv ?_ (gg_leS (gg_leS gg_le0)) rfl (by first | exact Nat.le_refl _ | (dsimp only; omega)) (by first | exact Nat.le_refl _ | (dsimp only; omega)) (L58 _ 0 (Nat.lt_succ_self _) (Nat.zero_le _))
      · first | (rw [ub_0]; done) | (rw [ub_0]; rfl)

set_option maxRecDepth 100000
theorem dcn_eq2 {vn k : Nat} (h : vn ≤ 77777777) (hk : k ≤ 7) (h1 : vn / 10 ^ k ≤ 9) (h2 : k = 0 ∨ 10 ^ k ≤ vn) : k + 1 = dcn vn := by
  refine dcn_eq h (by omega) (by omega) ?_ ?_
  · rw [Nat.pow_succ, ← Nat.div_div_eq_div_mul]
    exact Nat.div_eq_of_lt (by omega)
  · intro j a b
    rcases h2 with h2 | h2
    · omega
    · have : 10 ^ j ≤ 10 ^ k := Nat.pow_le_pow_right (by omega) (by omega)
      have := Nat.div_pos (Nat.le_trans this h2) (Nat.pow_pos (n := j) (show 0 < 10 by omega))
      omega
theorem by_next {m i : Nat} (h : i < m) : 10 ^ (m - 1 - i) / 10 = if i + 1 < m then 10 ^ (m - 1 - (i + 1)) else 0 := by
  by_cases q : i + 1 < m
  · rw [if_pos q, show m - 1 - i = (m - 1 - (i + 1)) + 1 by omega, Nat.pow_succ, Nat.mul_div_cancel _ (by omega)]
  · rw [if_neg q, show m - 1 - i = 0 by omega]
theorem p10 {j : Nat} (h : j ≤ 7) : 0 < 10 ^ j ∧ 10 ^ j ≤ 10000000 := ⟨Nat.pow_pos (by omega), Nat.pow_le_pow_right (n := 10) (by omega) h⟩
def tNum (vn : Nat) : List Int32 := tN (fun i => b8 (nI (48 + dgt vn (dcn vn) i))) (dcn vn)
set_option maxHeartbeats 4000000 in
theorem ct_X5_saysNumber {l : Launch} (hl : l.stackTraces = false) {g : gg_G}  {h : Nat} {ad : Nat → Nat} {x : Nat → Int32} {o : Nat → Int32} {L : List Int32} {vn : Nat} (hvn : vn ≤ 77777777) (hL : L.length + dcn vn ≤ 300) : gg_C l g yX5_saysNumber (ws_ yX5_saysNumber cX5_saysNumber 3 none) { frames := 1, cells := 0, slots := 0, locals := 21 } [.ref h, .int (nI vn)] [] [[(h, .inl (4, mo_f ad (upd x 27 (nI (L).length))))], [((ad 26), gg_ab g 300 (lo o L))]] (fun vv CC => vv = none ∧ CC = [[(h, .inl (4, mo_f ad (upd x 27 (nI (L ++ tNum vn).length))))], [((ad 26), gg_ab g 300 (lo o (L ++ tNum vn)))]]) gg_no := by
  refine gg_of (lv := [_, _, _]) (by decide) hl (Nat.le_of_ble_eq_true rfl) rfl ?_
  intro p e R s m args below meth c A Q hRf hRl hRc hRs E Fn hnm hex
  have hd8 := dcn_8 vn
  refine gg_iconst (v := 1) (pc := 0) E dX5_saysNumber_0 (by decide) ?_
  refine gg_istore_n (lv' := [_, _, _]) (pc := 1) E dX5_saysNumber_1 rfl (Nat.le_of_ble_eq_true rfl) rfl rfl ?_
  have L2 : ∀ (n : Nat) (k : Nat), 8 - k < n → (k ≤ 7) → (k = 0 ∨ 10 ^ k ≤ vn) → gg_W p l e R s m args below meth c g A 3 Q 0 0 [[(h, .inl (4, mo_f ad (upd x 27 (nI (L).length))))], [((ad 26), gg_ab g 300 (lo o L))]] [some (.ref h), some (.int (nI vn)), some (.int (nI (10 ^ k)))] [] 2 := by
    intro n2
    induction n2 with
    | zero => intro k hmz; exact absurd hmz (Nat.not_lt_zero _)
    | succ n2 ih2 =>
      intro k hm2 hk7 hkm
      obtain ⟨hp0, hp7⟩ := p10 hk7
      have hvd : vn / 10 ^ k ≤ vn := Nat.div_le_self _ _
      refine gg_iload_n (pc := 2) E dX5_saysNumber_2 rfl rfl ?_
      refine gg_iload_n (pc := 3) E dX5_saysNumber_3 rfl rfl ?_
      refine gg_idivN (pc := 4) E vn (10 ^ k) rfl rfl (by omega) (by omega) (by omega) dX5_saysNumber_4 ?_
      refine gg_bipush (v := 9) (pc := 5) E dX5_saysNumber_5 (by decide) ?_
      refine gg_icmpN_le (tgt := 18) (pc := 7) E (vn / (10 ^ k)) 9 rfl rfl (by omega) (by omega) dX5_saysNumber_7 (by decide) (fun c7 => ?_) (fun c7 => ?_)
      · have L18 : ∀ (n : Nat) (i : Nat), dcn vn - i < n → (i ≤ dcn vn) → gg_W p l e R s m args below meth c g A 3 Q 0 0 [[(h, .inl (4, mo_f ad (upd x 27 (nI (L ++ tN (fun i => b8 (nI (48 + dgt vn (dcn vn) i))) i).length))))], [((ad 26), gg_ab g 300 (lo o (L ++ tN (fun i => b8 (nI (48 + dgt vn (dcn vn) i))) i)))]] [some (.ref h), some (.int (nI vn)), some (.int (nI (if i < dcn vn then 10 ^ (dcn vn - 1 - i) else 0)))] [] 18 := by
          intro n18
          induction n18 with
          | zero => intro i hmz; exact absurd hmz (Nat.not_lt_zero _)
          | succ n18 ih18 =>
            intro i hm18 hi
            have hby : (if i < dcn vn then 10 ^ (dcn vn - 1 - i) else 0) ≤ 10000000 := by
              split
              · exact (p10 (by omega)).2
              · omega
            refine gg_iload_n (pc := 18) E dX5_saysNumber_18 rfl rfl ?_
            refine gg_ifN_le (tgt := 43) (pc := 19) E (if i < dcn vn then 10 ^ (dcn vn - 1 - i) else 0) rfl (by omega) dX5_saysNumber_19 (by decide) (fun c19 => ?_) (fun c19 => ?_)
            · refine gg_vret (pc := 43) E Fn rfl dX5_saysNumber_43 (by first | exact Nat.le_of_ble_eq_true rfl | (dsimp only; omega)) (by first | exact Nat.le_of_ble_eq_true rfl | (dsimp only; omega)) ?_
              have hie : i = dcn vn := by
                rcases Nat.lt_or_ge i (dcn vn) with z | z
                · rw [if_pos z] at c19
                  have := (p10 (j := dcn vn - 1 - i) (by omega)).1
                  omega
                · omega
              subst hie
              exact ⟨rfl, rfl⟩
            · have him : i < dcn vn := by
                rcases Nat.lt_or_ge i (dcn vn) with z | z
                · exact z
                · rw [if_neg (by omega)] at c19
                  omega
              rw [if_pos him]
              obtain ⟨hq0, hq7⟩ := p10 (j := dcn vn - 1 - i) (by omega)
              have hqd : vn / 10 ^ (dcn vn - 1 - i) ≤ vn := Nat.div_le_self _ _
              refine gg_aload_n (pc := 22) E dX5_saysNumber_22 rfl rfl ?_
              refine gg_bipush (v := 48) (pc := 23) E dX5_saysNumber_23 (by decide) ?_
              refine gg_iload_n (pc := 25) E dX5_saysNumber_25 rfl rfl ?_
              refine gg_iload_n (pc := 26) E dX5_saysNumber_26 rfl rfl ?_
              refine gg_idivN (pc := 27) E vn (10 ^ (dcn vn - 1 - i)) rfl rfl (by omega) (by omega) (by omega) dX5_saysNumber_27 ?_
              refine gg_bipush (v := 10) (pc := 28) E dX5_saysNumber_28 (by decide) ?_
              refine gg_iremN (pc := 30) E (vn / (10 ^ (dcn vn - 1 - i))) 10 rfl rfl (by omega) (by omega) (by omega) dX5_saysNumber_30 ?_
              refine gg_iaddN (pc := 31) E 48 ((vn / (10 ^ (dcn vn - 1 - i))) % 10) rfl rfl dX5_saysNumber_31 ?_
              refine gg_topI (y := nI (48 + dgt vn (dcn vn) i)) rfl ?_
              refine gg_callV (F := []) (As := [_]) (rest := []) (pc := 32) E ck_X5 (ct_X5_says (L := L ++ tN (fun i => b8 (nI (48 + dgt vn (dcn vn) i))) i) hl (by rw [List.length_append, tN_len]; omega)) (cwV 1 E.2.2.2.2.1 (lw_V q3434 q3436 qs147 q179 q3437) rfl rfl rfl (by decide +kernel) ⟨by rw [hRf]; exact Nat.le_of_ble_eq_true rfl, by rw [hRl]; exact Nat.le_of_ble_eq_true rfl⟩) dX5_saysNumber_32 [0, 1] (by decide) rfl rfl (fun _ h => by cases h) (gg_i 0 rfl) rfl rfl (Nat.le_of_ble_eq_true rfl) (by first | (rw [hRc]; exact Nat.le_of_ble_eq_true rfl) | (rw [hRc]; dsimp only; omega)) (by first | (rw [hRs]; exact Nat.le_of_ble_eq_true rfl) | (rw [hRs]; dsimp only; omega)) ?_ (fun X q C1 h => h.elim)
              rintro _ _ ⟨rfl, rfl⟩
              dsimp only [List.cons_append, List.nil_append, Option.toList]
              refine gg_up1 ?_
              refine gg_up1 ?_
              refine gg_iload_n (pc := 35) E dX5_saysNumber_35 rfl rfl ?_
              refine gg_bipush (v := 10) (pc := 36) E dX5_saysNumber_36 (by decide) ?_
              refine gg_idivN (pc := 38) E (10 ^ (dcn vn - 1 - i)) 10 rfl rfl (by omega) (by omega) (by omega) dX5_saysNumber_38 ?_
              refine gg_topI (y := nI (if i + 1 < dcn vn then 10 ^ (dcn vn - 1 - (i + 1)) else 0)) (congrArg nI (by_next him)) ?_
              refine gg_istore_n (lv' := [_, _, _]) (pc := 39) E dX5_saysNumber_39 rfl (Nat.le_of_ble_eq_true rfl) rfl rfl ?_
              refine gg_goto (tgt := 18) (pc := 40) E dX5_saysNumber_40 (by decide) ?_
              refine gg_cv ?_ (gg_leS (gg_leS (gg_leS gg_le0))) rfl (by first | exact Nat.le_refl _ | (dsimp only; omega)) (by first | exact Nat.le_refl _ | (dsimp only; omega)) (ih18 (i + 1) (by omega) (by omega))
              · exact congrArg (fun z => [[(h, .inl (4, mo_f ad (upd x 27 (nI z.length))))], [(ad 26, gg_ab g 300 (lo o z))]]) (tN_s L (fun i => b8 (nI (48 + dgt vn (dcn vn) i))) i)
        refine gg_cv ?_ ?_ rfl (by first | exact Nat.le_refl _ | (dsimp only; omega)) (by first | exact Nat.le_refl _ | (dsimp only; omega)) (L18 _ 0 (Nat.lt_succ_self _) (Nat.zero_le _))
        · rw [show tN (fun i => b8 (nI (48 + dgt vn (dcn vn) i))) 0 = [] from rfl, List.append_nil]
        · exact ⟨Or.inr rfl, Or.inr rfl, Or.inr (by rw [if_pos (by omega), ← dcn_eq2 hvn hk7 c7 hkm]; rfl), trivial⟩
      · have hk6 : k < 7 := by
          rcases Nat.lt_or_ge k 7 with z | z
          · exact z
          · have z7 : k = 7 := by omega
            subst z7
            have : vn / 10 ^ 7 ≤ 7 := by
              rw [show 10 ^ 7 = 10000000 from rfl]
              omega
            omega
        have hk10 : 10 ^ (k + 1) ≤ vn := by
          rw [Nat.pow_succ, Nat.mul_comm]
          exact Nat.le_trans (Nat.mul_le_mul_right _ (show 10 ≤ vn / 10 ^ k by omega)) (Nat.div_mul_le_self vn (10 ^ k))
        refine gg_iload_n (pc := 10) E dX5_saysNumber_10 rfl rfl ?_
        refine gg_bipush (v := 10) (pc := 11) E dX5_saysNumber_11 (by decide) ?_
        refine gg_imulN (pc := 13) E (10 ^ k) 10 rfl rfl dX5_saysNumber_13 ?_
        refine gg_topI (y := nI (10 ^ (k + 1))) (by rw [Nat.pow_succ]) ?_
        refine gg_istore_n (lv' := [_, _, _]) (pc := 14) E dX5_saysNumber_14 rfl (Nat.le_of_ble_eq_true rfl) rfl rfl ?_
        refine gg_goto (tgt := 2) (pc := 15) E dX5_saysNumber_15 (by decide) ?_
        refine gg_cv rfl (gg_leS (gg_leS (gg_leS gg_le0))) rfl (by first | exact Nat.le_refl _ | (dsimp only; omega)) (by first | exact Nat.le_refl _ | (dsimp only; omega)) (ih2 (k + 1) (by omega) (by omega) (Or.inr hk10))
  refine gg_cv rfl (gg_leS (gg_leS (gg_leS gg_le0))) rfl (by first | exact Nat.le_refl _ | (dsimp only; omega)) (by first | exact Nat.le_refl _ | (dsimp only; omega)) (L2 _ 0 (Nat.lt_succ_self _) (by omega) (Or.inl rfl))

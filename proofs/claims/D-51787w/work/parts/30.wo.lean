set_option maxRecDepth 100000
theorem dec_m1 (x : Int32) : x + Int32.ofInt (-1) = x - 1 := by
  have : Int32.ofInt (-1) = -1 := by decide
  rw [this, Int32.sub_eq_add_neg]
/-- how many digits -/
def dcn (nn : Nat) : Nat := if nn < 10 then 1 else if nn < 100 then 2 else if nn < 1000 then 3 else if nn < 10000 then 4 else if nn < 100000 then 5 else if nn < 1000000 then 6 else if nn < 10000000 then 7 else 8
theorem dcn_8 (nn : Nat) : 1 ≤ dcn nn ∧ dcn nn ≤ 8 := by
  unfold dcn
  repeat' split
  all_goals omega
theorem dcn_eq {nn k : Nat} (h : nn ≤ 77777777) (h1 : 1 ≤ k) (h8 : k ≤ 8) (h0 : nn / 10 ^ k = 0) (hm : ∀ j, 1 ≤ j → j < k → nn / 10 ^ j ≠ 0) : k = dcn nn := by
  unfold dcn
  have hp : ∀ j, 1 ≤ j → j < k → 10 ^ j ≤ nn := by
    intro j a b
    have := hm j a b
    rcases Nat.lt_or_ge nn (10 ^ j) with q | q
    · exact absurd (Nat.div_eq_of_lt q) this
    · exact q
  have hq : nn < 10 ^ k := by
    rcases Nat.lt_or_ge nn (10 ^ k) with q | q
    · exact q
    · have := Nat.div_pos q (Nat.pow_pos (by omega))
      omega
  have hl : k = 1 ∨ 10 ^ (k - 1) ≤ nn := by
    by_cases e : k = 1
    · exact Or.inl e
    · exact Or.inr (hp (k - 1) (by omega) (by omega))
  rcases (show k = 1 ∨ k = 2 ∨ k = 3 ∨ k = 4 ∨ k = 5 ∨ k = 6 ∨ k = 7 ∨ k = 8 by omega) with rfl | rfl | rfl | rfl | rfl | rfl | rfl | rfl
  all_goals
    simp only [Nat.reducePow, Nat.reduceSub] at hq hl
    repeat' split
    all_goals omega
/-- digit i of m, from the left -/
def dgt (nn m i : Nat) : Nat := nn / 10 ^ (m - 1 - i) % 10
def dg (su : Nat → Int32) (nn m i : Nat) : Nat → Int32 := fun k => if i ≤ k ∧ k < m then nI (dgt nn m k) else su k
theorem dg_m (su : Nat → Int32) (nn m : Nat) : dg su nn m m = su := by
  funext k
  unfold dg
  rw [if_neg (by omega)]
theorem dg_s {su : Nat → Int32} {nn m i : Nat} (h : i < m) : upd (dg su nn m (i + 1)) i (nI (dgt nn m i)) = dg su nn m i := by
  funext k
  by_cases e : k = i
  · subst e
    rw [pk_us]
    unfold dg
    rw [if_pos ⟨Nat.le_refl _, h⟩]
  · rw [pk_un e]
    unfold dg
    by_cases q : i ≤ k ∧ k < m
    · rw [if_pos (show i + 1 ≤ k ∧ k < m by omega), if_pos q]
    · rw [if_neg (show ¬ (i + 1 ≤ k ∧ k < m) by omega), if_neg q]
abbrev ton (nn m i : Nat) : Prop := ∀ k, k < m → i ≤ k → dgt nn m k < 8
theorem ton_m {nn m i : Nat} (h : m ≤ i) : ton nn m i := fun k a b => by omega
set_option maxHeartbeats 4000000 in
theorem ct_X5_sings {l : Launch} (hl : l.stackTraces = false) {g : gg_G}  {h : Nat} {ad : Nat → Nat} {x : Nat → Int32} {su : Nat → Int32} {nn : Nat} (hnn : nn ≤ 77777777) : gg_C l g yX5_sings (ws_ yX5_sings cX5_sings 5 (some .boolean)) { frames := 0, cells := 0, slots := 0, locals := 0 } [.ref h, .int (nI nn)] [] [[(h, .inl (4, mo_f ad x))], [((ad 10), gg_ai g 8 su)]] (fun vv CC => vv = some (.int (if ton nn (dcn nn) 0 then 1 else 0)) ∧ CC = [[(h, .inl (4, mo_f ad (upd x 11 (nI (dcn nn)))))], [((ad 10), gg_ai g 8 (dg su nn (dcn nn) 0))]]) gg_no := by
  refine gg_of (lv := [_, _, _, _, _]) (by decide) hl (Nat.le_of_ble_eq_true rfl) rfl ?_
  intro p e R s m args below meth c A Q hRf hRl hRc hRs E Fn hnm hex
  have hd8 := dcn_8 nn
  refine gg_aload_n (pc := 0) E dX5_sings_0 rfl rfl ?_
  refine gg_iconst (v := 1) (pc := 1) E dX5_sings_1 (by decide) ?_
  refine gg_putM (M' := [_, _]) (pc := 2) E ck_X5 11 q2870 rfl (by decide) dX5_sings_2 0 rfl rfl (rfl) rfl (Nat.le_of_ble_eq_true rfl) rfl rfl ?_
  refine gg_iload_n (pc := 5) E dX5_sings_5 rfl rfl ?_
  refine gg_bipush (v := 10) (pc := 6) E dX5_sings_6 (by decide) ?_
  refine gg_idivN (pc := 8) E nn 10 rfl rfl (by omega) (by omega) (by omega) dX5_sings_8 ?_
  refine gg_istore_n (lv' := [_, _, _, _, _]) (pc := 9) E dX5_sings_9 rfl (Nat.le_of_ble_eq_true rfl) rfl rfl ?_
  have L10 : ∀ (n : Nat) (k : Nat), 9 - k < n → (1 ≤ k) → (k ≤ 8) → (∀ j, 1 ≤ j → j < k → nn / 10 ^ j ≠ 0) → gg_W p l e R s m args below meth c g A 5 Q 0 0 [[(h, .inl (4, mo_f ad (upd x 11 (nI k))))], [((ad 10), gg_ai g 8 su)]] [some (.ref h), some (.int (nI nn)), some (.int (nI (nn / 10 ^ k))), none, none] [] 10 := by
    intro n10
    induction n10 with
    | zero => intro k hmz; exact absurd hmz (Nat.not_lt_zero _)
    | succ n10 ih10 =>
      intro k hm10 hk1 hk8 hkm
      have hdv : nn / 10 ^ k ≤ nn := Nat.div_le_self _ _
      refine gg_iload_n (pc := 10) E dX5_sings_10 rfl rfl ?_
      refine gg_ifN_le (tgt := 32) (pc := 11) E (nn / 10 ^ k) rfl (by omega) dX5_sings_11 (by decide) (fun c11 => ?_) (fun c11 => ?_)
      · obtain rfl : k = dcn nn := dcn_eq hnn hk1 hk8 (by omega) hkm
        refine gg_iload_n (pc := 32) E dX5_sings_32 rfl rfl ?_
        refine gg_istore_n (lv' := [_, _, _, _, _]) (pc := 33) E dX5_sings_33 rfl (Nat.le_of_ble_eq_true rfl) rfl rfl ?_
        refine gg_iconst (v := 1) (pc := 34) E dX5_sings_34 (by decide) ?_
        refine gg_istore_n (lv' := [_, _, _, _, _]) (pc := 35) E dX5_sings_35 rfl (Nat.le_of_ble_eq_true rfl) rfl rfl ?_
        refine gg_aload_n (pc := 36) E dX5_sings_36 rfl rfl ?_
        refine gg_get (pc := 37) E ck_X5 11 q2870 rfl (by decide) dX5_sings_37 (gg_i 0 rfl) rfl ?_
        refine gg_topI (y := nI (dcn nn)) pk_us ?_
        refine gg_iconst (v := 1) (pc := 40) E dX5_sings_40 (by decide) ?_
        refine gg_isub (pc := 41) E dX5_sings_41 ?_
        refine gg_istore (lv' := [_, _, _, _, _]) (pc := 42) E dX5_sings_42 (Nat.le_of_ble_eq_true rfl) rfl rfl ?_
        have L44 : ∀ (n : Nat) (i : Nat), i < n → (i ≤ dcn nn) → gg_W p l e R s m args below meth c g A 5 Q 0 0 [[(h, .inl (4, mo_f ad (upd x 11 (nI (dcn nn)))))], [((ad 10), gg_ai g 8 (dg su nn (dcn nn) i))]] [some (.ref h), some (.int (nI nn)), some (.int (nI (nn / 10 ^ (dcn nn - i)))), some (.int (if ton nn (dcn nn) i then 1 else 0)), some (.int (nI i - 1))] [] 44 := by
          intro n44
          induction n44 with
          | zero => intro i hmz; exact absurd hmz (Nat.not_lt_zero _)
          | succ n44 ih44 =>
            intro i hm44 hi
            have hdv : nn / 10 ^ (dcn nn - i) ≤ nn := Nat.div_le_self _ _
            refine gg_iload (pc := 44) E dX5_sings_44 rfl ?_
            refine gg_if_lt (tgt := 93) (pc := 46) E dX5_sings_46 (by decide) (fun c46 => ?_) (fun c46 => ?_)
            · refine gg_iload_n (pc := 93) E dX5_sings_93 rfl rfl ?_
              refine gg_iret (pc := 94) E Fn rfl (gg_nz (by first | decide | assumption | exact gg_b01 | (split <;> decide))) dX5_sings_94 (by first | exact Nat.le_of_ble_eq_true rfl | (dsimp only; omega)) (by first | exact Nat.le_of_ble_eq_true rfl | (dsimp only; omega)) ?_
              have hi0 : i = 0 := by
                rcases Nat.eq_zero_or_pos i with z | z
                · exact z
                · obtain ⟨i1, rfl⟩ : ∃ i1, i = i1 + 1 := ⟨i - 1, by omega⟩
                  rw [nI_pred i1] at c46
                  exact absurd c46 (nI_pos (by omega))
              subst hi0
              exact ⟨rfl, rfl⟩
            · have hi1 : 1 ≤ i := by
                rcases Nat.eq_zero_or_pos i with z | z
                · subst z
                  exact absurd (by decide) c46
                · exact z
              obtain ⟨i1, rfl⟩ : ∃ i1, i = i1 + 1 := ⟨i - 1, by omega⟩
              rw [show nI (i1 + 1) - 1 = nI i1 from nI_pred i1, show dcn nn - (i1 + 1) = dcn nn - 1 - i1 by omega]
              have hdv2 : nn / 10 ^ (dcn nn - 1 - i1) ≤ nn := Nat.div_le_self _ _
              have hdg : dgt nn (dcn nn) i1 < 10 := Nat.mod_lt _ (by omega)
              refine gg_aload_n (pc := 49) E dX5_sings_49 rfl rfl ?_
              refine gg_get (pc := 50) E ck_X5 10 q2869 rfl (by decide) dX5_sings_50 (gg_i 0 rfl) rfl ?_
              refine gg_iload (pc := 53) E dX5_sings_53 rfl ?_
              refine gg_iload_n (pc := 55) E dX5_sings_55 rfl rfl ?_
              refine gg_bipush (v := 10) (pc := 56) E dX5_sings_56 (by decide) ?_
              refine gg_iremN (pc := 58) E (nn / 10 ^ (dcn nn - 1 - i1)) 10 rfl rfl (by omega) (by omega) (by omega) dX5_sings_58 ?_
              refine gg_topI (y := nI (dgt nn (dcn nn) i1)) rfl ?_
              refine gg_iastN (M' := [_, _]) (pc := 59) E i1 rfl (by omega) (by omega) dX5_sings_59 1 rfl rfl ?_
              refine gg_iload_n (pc := 60) E dX5_sings_60 rfl rfl ?_
              refine gg_ifP_eq (tgt := 80) (pc := 61) E dX5_sings_61 (by decide) (fun c61 => ?_) (fun c61 => ?_)
              · refine gg_iconst (v := 0) (pc := 80) E dX5_sings_80 (by decide) ?_
                refine gg_topI (y := if ton nn (dcn nn) i1 then 1 else 0) (if_neg (fun q => c61 (fun k a b => q k a (by omega)))).symm ?_
                refine gg_istore_n (lv' := [_, _, _, _, _]) (pc := 81) E dX5_sings_81 rfl (Nat.le_of_ble_eq_true rfl) rfl rfl ?_
                refine gg_iload_n (pc := 82) E dX5_sings_82 rfl rfl ?_
                refine gg_bipush (v := 10) (pc := 83) E dX5_sings_83 (by decide) ?_
                refine gg_idivN (pc := 85) E (nn / 10 ^ (dcn nn - 1 - i1)) 10 rfl rfl (by omega) (by omega) (by omega) dX5_sings_85 ?_
                refine gg_topI (y := nI (nn / 10 ^ (dcn nn - i1))) (by rw [Nat.div_div_eq_div_mul, show dcn nn - i1 = (dcn nn - 1 - i1) + 1 by omega, Nat.pow_succ]) ?_
                refine gg_istore_n (lv' := [_, _, _, _, _]) (pc := 86) E dX5_sings_86 rfl (Nat.le_of_ble_eq_true rfl) rfl rfl ?_
                refine gg_iinc (lv' := [_, _, _, _, _]) (pc := 87) E dX5_sings_87 rfl rfl (Nat.le_of_ble_eq_true rfl) rfl rfl ?_
                refine gg_goto (tgt := 44) (pc := 90) E dX5_sings_90 (by decide) ?_
                refine gg_cv ?_ ?_ rfl (by first | exact Nat.le_refl _ | (dsimp only; omega)) (by first | exact Nat.le_refl _ | (dsimp only; omega)) (ih44 i1 (by omega) (by omega))
                · rw [dg_s (by omega)]
                · exact ⟨Or.inr rfl, Or.inr rfl, Or.inr rfl, Or.inr rfl, Or.inr (congrArg (fun z => some (Value.int z)) (dec_m1 _)), trivial⟩
              · refine gg_aload_n (pc := 64) E dX5_sings_64 rfl rfl ?_
                refine gg_get (pc := 65) E ck_X5 10 q2869 rfl (by decide) dX5_sings_65 (gg_i 0 rfl) rfl ?_
                refine gg_iload (pc := 68) E dX5_sings_68 rfl ?_
                refine gg_ialdN (pc := 70) E i1 rfl (by omega) (by omega) dX5_sings_70 (gg_i 1 rfl) ?_
                refine gg_topI (y := nI (dgt nn (dcn nn) i1)) (by exact pk_us) ?_
                refine gg_bipush (v := 8) (pc := 71) E dX5_sings_71 (by decide) ?_
                refine gg_icmpN_ge (tgt := 80) (pc := 73) E (dgt nn (dcn nn) i1) 8 rfl rfl (by omega) (by omega) dX5_sings_73 (by decide) (fun c73 => ?_) (fun c73 => ?_)
                · refine gg_iconst (v := 0) (pc := 80) E dX5_sings_80 (by decide) ?_
                  refine gg_topI (y := if ton nn (dcn nn) i1 then 1 else 0) (if_neg (fun q => absurd (q i1 (by omega) (Nat.le_refl _)) (Nat.not_lt.mpr c73))).symm ?_
                  refine gg_istore_n (lv' := [_, _, _, _, _]) (pc := 81) E dX5_sings_81 rfl (Nat.le_of_ble_eq_true rfl) rfl rfl ?_
                  refine gg_iload_n (pc := 82) E dX5_sings_82 rfl rfl ?_
                  refine gg_bipush (v := 10) (pc := 83) E dX5_sings_83 (by decide) ?_
                  refine gg_idivN (pc := 85) E (nn / 10 ^ (dcn nn - 1 - i1)) 10 rfl rfl (by omega) (by omega) (by omega) dX5_sings_85 ?_
                  refine gg_topI (y := nI (nn / 10 ^ (dcn nn - i1))) (by rw [Nat.div_div_eq_div_mul, show dcn nn - i1 = (dcn nn - 1 - i1) + 1 by omega, Nat.pow_succ]) ?_
                  refine gg_istore_n (lv' := [_, _, _, _, _]) (pc := 86) E dX5_sings_86 rfl (Nat.le_of_ble_eq_true rfl) rfl rfl ?_
                  refine gg_iinc (lv' := [_, _, _, _, _]) (pc := 87) E dX5_sings_87 rfl rfl (Nat.le_of_ble_eq_true rfl) rfl rfl ?_
                  refine gg_goto (tgt := 44) (pc := 90) E dX5_sings_90 (by decide) ?_
                  refine gg_cv ?_ ?_ rfl (by first | exact Nat.le_refl _ | (dsimp only; omega)) (by first | exact Nat.le_refl _ | (dsimp only; omega)) (ih44 i1 (by omega) (by omega))
                  · rw [dg_s (by omega)]
                  · exact ⟨Or.inr rfl, Or.inr rfl, Or.inr rfl, Or.inr rfl, Or.inr (congrArg (fun z => some (Value.int z)) (dec_m1 _)), trivial⟩
                · refine gg_iconst (v := 1) (pc := 76) E dX5_sings_76 (by decide) ?_
                  refine gg_goto (tgt := 81) (pc := 77) E dX5_sings_77 (by decide) ?_
                  refine gg_topI (y := if ton nn (dcn nn) i1 then 1 else 0) (if_pos (fun k a b => (Nat.lt_or_ge i1 k).elim (fun z => c61 k a (by omega)) (fun z => by rw [show k = i1 by omega]; exact c73))).symm ?_
                  refine gg_istore_n (lv' := [_, _, _, _, _]) (pc := 81) E dX5_sings_81 rfl (Nat.le_of_ble_eq_true rfl) rfl rfl ?_
                  refine gg_iload_n (pc := 82) E dX5_sings_82 rfl rfl ?_
                  refine gg_bipush (v := 10) (pc := 83) E dX5_sings_83 (by decide) ?_
                  refine gg_idivN (pc := 85) E (nn / 10 ^ (dcn nn - 1 - i1)) 10 rfl rfl (by omega) (by omega) (by omega) dX5_sings_85 ?_
                  refine gg_topI (y := nI (nn / 10 ^ (dcn nn - i1))) (by rw [Nat.div_div_eq_div_mul, show dcn nn - i1 = (dcn nn - 1 - i1) + 1 by omega, Nat.pow_succ]) ?_
                  refine gg_istore_n (lv' := [_, _, _, _, _]) (pc := 86) E dX5_sings_86 rfl (Nat.le_of_ble_eq_true rfl) rfl rfl ?_
                  refine gg_iinc (lv' := [_, _, _, _, _]) (pc := 87) E dX5_sings_87 rfl rfl (Nat.le_of_ble_eq_true rfl) rfl rfl ?_
                  refine gg_goto (tgt := 44) (pc := 90) E dX5_sings_90 (by decide) ?_
                  refine gg_cv ?_ ?_ rfl (by first | exact Nat.le_refl _ | (dsimp only; omega)) (by first | exact Nat.le_refl _ | (dsimp only; omega)) (ih44 i1 (by omega) (by omega))
                  · rw [dg_s (by omega)]
                  · exact ⟨Or.inr rfl, Or.inr rfl, Or.inr rfl, Or.inr rfl, Or.inr (congrArg (fun z => some (Value.int z)) (dec_m1 _)), trivial⟩
        refine gg_cv ?_ ?_ rfl (by first | exact Nat.le_refl _ | (dsimp only; omega)) (by first | exact Nat.le_refl _ | (dsimp only; omega)) (L44 _ (dcn nn) (Nat.lt_succ_self _) (Nat.le_refl _))
        · rw [dg_m]
        · rw [Nat.sub_self, if_pos (ton_m (Nat.le_refl _))]; exact ⟨Or.inr rfl, Or.inr rfl, Or.inr (by rw [Nat.pow_zero, Nat.div_one]), Or.inr rfl, Or.inr rfl, trivial⟩
      · have hk7 : k < 8 := by
          rcases Nat.lt_or_ge k 8 with z | z
          · exact z
          · have z8 : k = 8 := by omega
            subst z8
            rw [Nat.div_eq_of_lt (by omega)] at c11
            omega
        refine gg_aload_n (pc := 14) E dX5_sings_14 rfl rfl ?_
        refine gg_dup (pc := 15) E dX5_sings_15 rfl ?_
        refine gg_get (pc := 16) E ck_X5 11 q2870 rfl (by decide) dX5_sings_16 (gg_i 0 rfl) rfl ?_
        refine gg_topI (y := nI k) pk_us ?_
        refine gg_iconst (v := 1) (pc := 19) E dX5_sings_19 (by decide) ?_
        refine gg_iaddN (pc := 20) E k 1 rfl rfl dX5_sings_20 ?_
        refine gg_putM (M' := [_, _]) (pc := 21) E ck_X5 11 q2870 rfl (by decide) dX5_sings_21 0 rfl rfl (rfl) rfl (Nat.le_of_ble_eq_true rfl) rfl rfl ?_
        refine gg_iload_n (pc := 24) E dX5_sings_24 rfl rfl ?_
        refine gg_bipush (v := 10) (pc := 25) E dX5_sings_25 (by decide) ?_
        refine gg_idivN (pc := 27) E (nn / 10 ^ k) 10 rfl rfl (by omega) (by omega) (by omega) dX5_sings_27 ?_
        refine gg_topI (y := nI (nn / 10 ^ (k + 1))) (by rw [Nat.div_div_eq_div_mul]; rfl) ?_
        refine gg_istore_n (lv' := [_, _, _, _, _]) (pc := 28) E dX5_sings_28 rfl (Nat.le_of_ble_eq_true rfl) rfl rfl ?_
        refine gg_goto (tgt := 10) (pc := 29) E dX5_sings_29 (by decide) ?_
        refine gg_cv ?_ (gg_leS (gg_leS (gg_leS (gg_leN (gg_leN gg_le0))))) rfl (by first | exact Nat.le_refl _ | (dsimp only; omega)) (by first | exact Nat.le_refl _ | (dsimp only; omega)) (ih10 (k + 1) (by omega) (by omega) (by omega) (fun j a b => (Nat.lt_or_ge j k).elim (fun z => hkm j a z) (fun z => by rw [show j = k by omega]; omega)))
        · first | (rw [upd_2]; done) | (rw [upd_2]; rfl)
  refine gg_cv rfl (gg_leS (gg_leS (gg_leS (gg_leN (gg_leN gg_le0))))) rfl (by first | exact Nat.le_refl _ | (dsimp only; omega)) (by first | exact Nat.le_refl _ | (dsimp only; omega)) (L10 _ 1 (Nat.lt_succ_self _) (Nat.le_refl _) (by omega) (fun j a b => by omega))

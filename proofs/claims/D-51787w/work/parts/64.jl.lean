set_option maxRecDepth 100000
theorem lsF_0 {f : Nat → Nat} : lsF f 0 = fun _ => none := by
  funext k
  unfold lsF
  rw [if_neg (by omega)]
theorem lsF_pop {f : Nat → Nat} {n : Nat} : va_up (lsF f (n + 1)) n none = lsF f n := by
  funext k
  unfold va_up lsF
  by_cases e : k = n
  · rw [if_pos e, if_neg (by omega)]
  · rw [if_neg e]
    by_cases h : k < n
    · rw [if_pos h, if_pos (by omega)]
    · rw [if_neg h, if_neg (by omega)]
set_option maxHeartbeats 4000000 in
theorem ct_J31_init {l : Launch} (hl : l.stackTraces = false) {g : gg_G}  {h : Nat}  : gg_C l g yJ31_init (ws_ yJ31_init cJ31_init 1 none) { frames := 2, cells := 0, slots := 0, locals := 36 } [.ref h] [] [] (fun vv CC => vv = none ∧ CC = []) gg_no := by
  refine gg_of (lv := [_]) (by decide) hl (Nat.le_of_ble_eq_true rfl) rfl ?_
  intro p e R s m args below meth c A Q hRf hRl hRc hRs E Fn hnm hex
  refine gg_aload_n (pc := 0) E dJ31_init_0 rfl rfl ?_
  refine gg_callI (F := []) (As := []) (rest := []) (pc := 1) E (ct_J0_init hl ) (cwI 0 E.2.2.2.2.1 (lw_meth q232) rfl rfl rfl (E.2.2.2.2.1 _ q153) (E.2.2.2.2.1 _ q1743) (E.2.2.2.2.1 _ q231) rfl (by decide +kernel) ⟨by rw [hRf]; exact Nat.le_of_ble_eq_true rfl, by rw [hRl]; exact Nat.le_of_ble_eq_true rfl⟩) dJ31_init_1 [] (by decide) rfl rfl (fun _ h => by cases h) rfl rfl (Nat.le_of_ble_eq_true rfl) (by first | (rw [hRc]; exact Nat.le_of_ble_eq_true rfl) | (rw [hRc]; dsimp only; omega)) (by first | (rw [hRs]; exact Nat.le_of_ble_eq_true rfl) | (rw [hRs]; dsimp only; omega)) ?_ (fun X q C1 h => h.elim)
  rintro _ _ ⟨rfl, rfl⟩
  dsimp only [List.cons_append, List.nil_append, Option.toList]
  refine gg_vret (pc := 4) E Fn rfl dJ31_init_4 (by first | exact Nat.le_of_ble_eq_true rfl | (dsimp only; omega)) (by first | exact Nat.le_of_ble_eq_true rfl | (dsimp only; omega)) ?_
  exact ⟨rfl, rfl⟩
set_option maxHeartbeats 4000000 in
theorem ct_J32_init_2 {l : Launch} (hl : l.stackTraces = false) {g : gg_G}  {h cm0 : Nat}  : gg_C l g yJ32_init_2 (ws_ yJ32_init_2 cJ32_init_2 3 none) { frames := 8, cells := 1, slots := 11, locals := 140 } [.ref h, .int (nI 11), .ref cm0] [] [[(h, .inl (20, [.null, .int 0, .null, .int 0]))]] (fun vv CC => ∃ (ea : Nat), vv = none ∧ CC = [[(h, .inl (20, [.ref ea, .int 0, .ref cm0, .int 0]))], [(ea, gg_ao g 4 11 (fun _ => none))]]) gg_no := by
  refine gg_of (lv := [_, _, _]) (by decide) hl (Nat.le_of_ble_eq_true rfl) rfl ?_
  intro p e R s m args below meth c A Q hRf hRl hRc hRs E Fn hnm hex
  refine gg_aload_n (pc := 0) E dJ32_init_2_0 rfl rfl ?_
  refine gg_callI (F := [_]) (As := []) (rest := []) (pc := 1) E (ct_J31_init hl ) (cwI 0 E.2.2.2.2.1 (lw_meth q1742) rfl rfl rfl (E.2.2.2.2.1 _ q193) (E.2.2.2.2.1 _ q1740) (E.2.2.2.2.1 _ q1741) rfl (by decide +kernel) ⟨by rw [hRf]; exact Nat.le_of_ble_eq_true rfl, by rw [hRl]; exact Nat.le_of_ble_eq_true rfl⟩) dJ32_init_2_1 [] (by decide) rfl rfl (fun _ h => by cases h) rfl rfl (Nat.le_of_ble_eq_true rfl) (by first | (rw [hRc]; exact Nat.le_of_ble_eq_true rfl) | (rw [hRc]; dsimp only; omega)) (by first | (rw [hRs]; exact Nat.le_of_ble_eq_true rfl) | (rw [hRs]; dsimp only; omega)) ?_ (fun X q C1 h => h.elim)
  rintro _ _ ⟨rfl, rfl⟩
  dsimp only [List.cons_append, List.nil_append, Option.toList]
  refine gg_iload_n (pc := 4) E dJ32_init_2_4 rfl rfl ?_
  refine gg_iconst (v := 1) (pc := 5) E dJ32_init_2_5 (by decide) ?_
  refine gg_icmpN_ge (tgt := 17) (pc := 6) E 11 1 rfl rfl (by omega) (by omega) dJ32_init_2_6 (by decide) (fun c6 => ?_) (fun c6 => ?_)
  rotate_left
  · exact absurd c6 (by omega)
  refine gg_aload_n (pc := 17) E dJ32_init_2_17 rfl rfl ?_
  refine gg_iload_n (pc := 18) E dJ32_init_2_18 rfl rfl ?_
  refine gg_anew (N := 11) (pc := 19) E 4 rfl q1749 nq235 dJ32_init_2_19 (by decide) (by decide) (by decide) (by first | (rw [hRc]; exact Nat.le_of_ble_eq_true rfl) | (rw [hRc]; dsimp only; omega)) (by first | (rw [hRs]; exact Nat.le_of_ble_eq_true rfl) | (rw [hRs]; dsimp only; omega)) (fun _ => rfl) (fun a1 => ?_)
  dsimp only [List.cons_append, List.nil_append]
  refine gg_put (fs' := [_, _, _, _]) (M' := [_, _]) (pc := 22) E ck_J32 0 q1750 rfl (by decide) dJ32_init_2_22 0 rfl rfl (rfl) rfl (Nat.le_of_ble_eq_true rfl) rfl rfl ?_
  refine gg_aload_n (pc := 25) E dJ32_init_2_25 rfl rfl ?_
  refine gg_aload_n (pc := 26) E dJ32_init_2_26 rfl rfl ?_
  refine gg_putF (fs' := [_, _, _, _]) (M' := [_, _]) (pc := 27) E ck_J32 2 q1752 rfl (by decide) hnm dJ32_init_2_27 0 rfl rfl (rfl) rfl (Nat.le_of_ble_eq_true rfl) rfl rfl ?_
  refine gg_vret (pc := 30) E Fn rfl dJ32_init_2_30 (by first | exact Nat.le_of_ble_eq_true rfl | (dsimp only; omega)) (by first | exact Nat.le_of_ble_eq_true rfl | (dsimp only; omega)) ?_
  exact ⟨_, rfl, rfl⟩
set_option maxHeartbeats 4000000 in
theorem ct_J32_init {l : Launch} (hl : l.stackTraces = false) {g : gg_G}  {h cm0 : Nat}  : gg_C l g yJ32_init (ws_ yJ32_init cJ32_init 2 none) { frames := 9, cells := 1, slots := 11, locals := 162 } [.ref h, .ref cm0] [] [[(h, .inl (20, [.null, .int 0, .null, .int 0]))]] (fun vv CC => ∃ (ea : Nat), vv = none ∧ CC = [[(h, .inl (20, [.ref ea, .int 0, .ref cm0, .int 0]))], [(ea, gg_ao g 4 11 (fun _ => none))]]) gg_no := by
  refine gg_of (lv := [_, _]) (by decide) hl (Nat.le_of_ble_eq_true rfl) rfl ?_
  intro p e R s m args below meth c A Q hRf hRl hRc hRs E Fn hnm hex
  refine gg_aload_n (pc := 0) E dJ32_init_0 rfl rfl ?_
  refine gg_bipush (v := 11) (pc := 1) E dJ32_init_1 (by decide) ?_
  refine gg_aload_n (pc := 3) E dJ32_init_3 rfl rfl ?_
  refine gg_callI (F := []) (As := [_, _]) (rest := []) (pc := 4) E (ct_J32_init_2 hl ) (cwI 2 E.2.2.2.2.1 (lw_meth q1739) rfl rfl rfl (E.2.2.2.2.1 _ q194) (E.2.2.2.2.1 _ q1737) (E.2.2.2.2.1 _ q1738) rfl (by decide +kernel) ⟨by rw [hRf]; exact Nat.le_of_ble_eq_true rfl, by rw [hRl]; exact Nat.le_of_ble_eq_true rfl⟩) dJ32_init_4 [0] (by decide) rfl rfl (fun _ h => by cases h) rfl rfl (Nat.le_of_ble_eq_true rfl) (by first | (rw [hRc]; exact Nat.le_of_ble_eq_true rfl) | (rw [hRc]; dsimp only; omega)) (by first | (rw [hRs]; exact Nat.le_of_ble_eq_true rfl) | (rw [hRs]; dsimp only; omega)) ?_ (fun X q C1 h => h.elim)
  rintro _ _ ⟨ea, rfl, rfl⟩
  dsimp only [List.cons_append, List.nil_append, Option.toList]
  refine gg_up1 ?_
  refine gg_up1 ?_
  refine gg_vret (pc := 7) E Fn rfl dJ32_init_7 (by first | exact Nat.le_of_ble_eq_true rfl | (dsimp only; omega)) (by first | exact Nat.le_of_ble_eq_true rfl | (dsimp only; omega)) ?_
  exact ⟨ea, rfl, rfl⟩
set_option maxHeartbeats 4000000 in
theorem ct_J32_size {l : Launch} (hl : l.stackTraces = false) {g : gg_G}  {h ea cm0 n1 : Nat} {mc1 : Int32}  : gg_C l g yJ32_size (ws_ yJ32_size cJ32_size 1 (some .int)) { frames := 0, cells := 0, slots := 0, locals := 0 } [.ref h] [(h, .inl (20, [.ref ea, .int (nI n1), .ref cm0, .int mc1]))] [] (fun vv CC => vv = some (.int (nI n1)) ∧ CC = []) gg_no := by
  refine gg_of (lv := [_]) (by decide) hl (Nat.le_of_ble_eq_true rfl) rfl ?_
  intro p e R s m args below meth c A Q hRf hRl hRc hRs E Fn hnm hex
  refine gg_aload_n (pc := 0) E dJ32_size_0 rfl rfl ?_
  refine gg_get (pc := 1) E ck_J32 1 q1751 rfl (by decide) dJ32_size_1 (gg_r 0 rfl) rfl ?_
  refine gg_iret (pc := 4) E Fn rfl (rfl) dJ32_size_4 (by first | exact Nat.le_of_ble_eq_true rfl | (dsimp only; omega)) (by first | exact Nat.le_of_ble_eq_true rfl | (dsimp only; omega)) ?_
  exact ⟨rfl, rfl⟩
set_option maxHeartbeats 4000000 in
theorem ct_J32_siftUp {l : Launch} (hl : l.stackTraces = false) {g : gg_G}  {h : Nat} {mc1 : Int32} {ea cm0 cap n1 x1 N : Nat} {so ro fa Qa : Nat → Nat} (hn : n1 < cap) (hcap : cap ≤ 90) (hkey : ∀ k, k < N → ro k < 10 ∧ fa k ≤ 1000) (hx1 : x1 < N) (hQ : ∀ j, j < n1 → Qa j < N) (hHp : Hp (kyS ro fa) Qa n1) : gg_C l g yJ32_siftUp (ws_ yJ32_siftUp cJ32_siftUp 3 none) { frames := 7, cells := 0, slots := 0, locals := 165 } [.ref h, .int (nI n1), .ref (so x1)] ([(h, .inl (20, [.ref ea, .int (nI n1), .ref cm0, .int mc1])), (cm0, .inl (8, []))] ++ (mp (stN so ro fa) N)) [[(ea, gg_ao g 4 cap (lsF (fun j => so (Qa j)) (n1)))]] (fun vv CC => ∃ (Q3 : Nat → Nat), (Hp (kyS ro fa) Q3 (n1 + 1) ∧ (∀ i, Qi Q3 (n1 + 1) i ↔ Qi Qa n1 i ∨ i = x1) ∧ (Qj Qa n1 → ¬ Qi Qa n1 x1 → Qj Q3 (n1 + 1))) ∧ vv = none ∧ CC = [[(ea, gg_ao g 4 cap (lsF (fun j => so (Q3 j)) (n1 + 1)))]]) gg_no := by
  refine gg_of (lv := [_, _, _]) (by decide) hl (Nat.le_of_ble_eq_true rfl) rfl ?_
  intro p e R s m args below meth c A Q hRf hRl hRc hRs E Fn hnm hex
  refine gg_aload_n (pc := 0) E dJ32_siftUp_0 rfl rfl ?_
  refine gg_get (pc := 1) E ck_J32 2 q1752 rfl (by decide) dJ32_siftUp_1 (gg_r 0 rfl) rfl ?_
  refine gg_ifnull (pc := 4) E dJ32_siftUp_4 ?_
  refine gg_iload_n (pc := 7) E dJ32_siftUp_7 rfl rfl ?_
  refine gg_aload_n (pc := 8) E dJ32_siftUp_8 rfl rfl ?_
  refine gg_aload_n (pc := 9) E dJ32_siftUp_9 rfl rfl ?_
  refine gg_get (pc := 10) E ck_J32 0 q1750 rfl (by decide) dJ32_siftUp_10 (gg_r 0 rfl) rfl ?_
  refine gg_aload_n (pc := 13) E dJ32_siftUp_13 rfl rfl ?_
  refine gg_get (pc := 14) E ck_J32 2 q1752 rfl (by decide) dJ32_siftUp_14 (gg_r 0 rfl) rfl ?_
  refine gg_callS (F := []) (As := [.int (nI n1), _, _, _]) (rest := []) (pc := 17) E (ct_J32_siftUpUsingComparator hl (by first | assumption | omega) (by first | assumption | omega) (by first | assumption | omega) (by first | assumption | omega) (by first | assumption | omega) (by first | assumption | omega)) (va_cwS 4 E.2.2.2.2.1 (lw_S q1794 q1795 q194 q1796) rfl rfl rfl (by decide +kernel) ⟨by rw [hRf]; exact Nat.le_of_ble_eq_true rfl, by rw [hRl]; exact Nat.le_of_ble_eq_true rfl⟩) dJ32_siftUp_17 [0] (by decide) rfl rfl (List.forall_mem_append.mpr ⟨(List.forall_mem_cons.mpr ⟨(gg_r 1 rfl), (fun _ h => by cases h)⟩), (fun q hq => gg_rm (List.mem_append_right _ (hq)))⟩) rfl rfl (Nat.le_of_ble_eq_true rfl) (by first | (rw [hRc]; exact Nat.le_of_ble_eq_true rfl) | (rw [hRc]; dsimp only; omega)) (by first | (rw [hRs]; exact Nat.le_of_ble_eq_true rfl) | (rw [hRs]; dsimp only; omega)) ?_ (fun X q C1 h => h.elim)
  rintro _ _ ⟨Q3, hp, rfl, rfl⟩
  dsimp only [List.cons_append, List.nil_append, Option.toList]
  refine gg_goto (tgt := 32) (pc := 20) E dJ32_siftUp_20 (by decide) ?_
  refine gg_vret (pc := 32) E Fn rfl dJ32_siftUp_32 (by first | exact Nat.le_of_ble_eq_true rfl | (dsimp only; omega)) (by first | exact Nat.le_of_ble_eq_true rfl | (dsimp only; omega)) ?_
  exact ⟨Q3, hp, rfl, rfl⟩
set_option maxHeartbeats 4000000 in
theorem ct_J32_offer {l : Launch} (hl : l.stackTraces = false) {g : gg_G}  {h : Nat} {mc1 : Int32} {ea cm0 cap n1 x1 N : Nat} {so ro fa Qa : Nat → Nat} (hn : n1 < cap) (hcap : cap ≤ 90) (hkey : ∀ k, k < N → ro k < 10 ∧ fa k ≤ 1000) (hx1 : x1 < N) (hQ : ∀ j, j < n1 → Qa j < N) (hHp : Hp (kyS ro fa) Qa n1) : gg_C l g yJ32_offer (ws_ yJ32_offer cJ32_offer 3 (some .boolean)) { frames := 8, cells := 0, slots := 0, locals := 187 } [.ref h, .ref (so x1)] ([(cm0, .inl (8, []))] ++ (mp (stN so ro fa) N)) [[(h, .inl (20, [.ref ea, .int (nI n1), .ref cm0, .int mc1]))], [(ea, gg_ao g 4 cap (lsF (fun j => so (Qa j)) (n1)))]] (fun vv CC => ∃ (Q3 : Nat → Nat), (Hp (kyS ro fa) Q3 (n1 + 1) ∧ (∀ i, Qi Q3 (n1 + 1) i ↔ Qi Qa n1 i ∨ i = x1) ∧ (Qj Qa n1 → ¬ Qi Qa n1 x1 → Qj Q3 (n1 + 1))) ∧ vv = some (.int 1) ∧ CC = [[(h, .inl (20, [.ref ea, .int (nI (n1 + 1)), .ref cm0, .int (mc1 + 1)]))], [(ea, gg_ao g 4 cap (lsF (fun j => so (Q3 j)) (n1 + 1)))]]) gg_no := by
  refine gg_of (lv := [_, _, _]) (by decide) hl (Nat.le_of_ble_eq_true rfl) rfl ?_
  intro p e R s m args below meth c A Q hRf hRl hRc hRs E Fn hnm hex
  refine gg_aload_n (pc := 0) E dJ32_offer_0 rfl rfl ?_
  refine gg_ifnonnull (tgt := 12) (pc := 1) E dJ32_offer_1 (by decide) ?_
  refine gg_aload_n (pc := 12) E dJ32_offer_12 rfl rfl ?_
  refine gg_dup (pc := 13) E dJ32_offer_13 rfl ?_
  refine gg_get (pc := 14) E ck_J32 3 q1753 rfl (by decide) dJ32_offer_14 (gg_i 0 rfl) rfl ?_
  refine gg_iconst (v := 1) (pc := 17) E dJ32_offer_17 (by decide) ?_
  refine gg_iadd (pc := 18) E dJ32_offer_18 ?_
  refine gg_put (fs' := [_, _, _, _]) (M' := [_, _]) (pc := 19) E ck_J32 3 q1753 rfl (by decide) dJ32_offer_19 0 rfl rfl (rfl) rfl (Nat.le_of_ble_eq_true rfl) rfl rfl ?_
  refine gg_aload_n (pc := 22) E dJ32_offer_22 rfl rfl ?_
  refine gg_get (pc := 23) E ck_J32 1 q1751 rfl (by decide) dJ32_offer_23 (gg_i 0 rfl) rfl ?_
  refine gg_istore_n (lv' := [_, _, _]) (pc := 26) E dJ32_offer_26 rfl (Nat.le_of_ble_eq_true rfl) rfl rfl ?_
  refine gg_iload_n (pc := 27) E dJ32_offer_27 rfl rfl ?_
  refine gg_aload_n (pc := 28) E dJ32_offer_28 rfl rfl ?_
  refine gg_get (pc := 29) E ck_J32 0 q1750 rfl (by decide) dJ32_offer_29 (gg_i 0 rfl) rfl ?_
  refine gg_alen (pc := 32) E 4 rfl dJ32_offer_32 (gg_i 1 rfl) ?_
  refine gg_icmpN_lt (tgt := 43) (pc := 33) E n1 cap rfl rfl (by omega) (by omega) dJ32_offer_33 (by decide) (fun c33 => ?_) (fun c33 => ?_)
  rotate_left
  · exact absurd hn (by omega)
  refine gg_aload_n (pc := 43) E dJ32_offer_43 rfl rfl ?_
  refine gg_iload_n (pc := 44) E dJ32_offer_44 rfl rfl ?_
  refine gg_aload_n (pc := 45) E dJ32_offer_45 rfl rfl ?_
  refine gg_callV (F := [_]) (As := [.int (nI n1), _]) (rest := []) (pc := 46) E ck_J32 (ct_J32_siftUp hl (by first | assumption | omega) (by first | assumption | omega) (by first | assumption | omega) (by first | assumption | omega) (by first | assumption | omega) (by first | assumption | omega)) (cwV 2 E.2.2.2.2.1 (lw_V q1790 q1792 qs39 q194 q1793) rfl rfl rfl (by decide +kernel) ⟨by rw [hRf]; exact Nat.le_of_ble_eq_true rfl, by rw [hRl]; exact Nat.le_of_ble_eq_true rfl⟩) dJ32_offer_46 [1] (by decide) rfl rfl (List.forall_mem_append.mpr ⟨(List.forall_mem_cons.mpr ⟨(gg_i 0 rfl), (List.forall_mem_cons.mpr ⟨(gg_r 0 rfl), (fun _ h => by cases h)⟩)⟩), (fun q hq => gg_rm (List.mem_append_right _ (hq)))⟩) (gg_i 0 rfl) rfl rfl (Nat.le_of_ble_eq_true rfl) (by first | (rw [hRc]; exact Nat.le_of_ble_eq_true rfl) | (rw [hRc]; dsimp only; omega)) (by first | (rw [hRs]; exact Nat.le_of_ble_eq_true rfl) | (rw [hRs]; dsimp only; omega)) ?_ (fun X q C1 h => h.elim)
  rintro _ _ ⟨Q3, hp, rfl, rfl⟩
  dsimp only [List.cons_append, List.nil_append, Option.toList]
  refine gg_up1 ?_
  refine gg_aload_n (pc := 49) E dJ32_offer_49 rfl rfl ?_
  refine gg_iload_n (pc := 50) E dJ32_offer_50 rfl rfl ?_
  refine gg_iconst (v := 1) (pc := 51) E dJ32_offer_51 (by decide) ?_
  refine gg_iaddN (pc := 52) E n1 1 rfl rfl dJ32_offer_52 ?_
  refine gg_put (fs' := [_, _, _, _]) (M' := [_, _]) (pc := 53) E ck_J32 1 q1751 rfl (by decide) dJ32_offer_53 0 rfl rfl (rfl) rfl (Nat.le_of_ble_eq_true rfl) rfl rfl ?_
  refine gg_iconst (v := 1) (pc := 56) E dJ32_offer_56 (by decide) ?_
  refine gg_iret (pc := 57) E Fn rfl (gg_nz (by first | decide | assumption | exact gg_b01 | (split <;> decide))) dJ32_offer_57 (by first | exact Nat.le_of_ble_eq_true rfl | (dsimp only; omega)) (by first | exact Nat.le_of_ble_eq_true rfl | (dsimp only; omega)) ?_
  exact ⟨Q3, hp, rfl, rfl⟩
set_option maxHeartbeats 4000000 in
theorem ct_J32_add {l : Launch} (hl : l.stackTraces = false) {g : gg_G}  {h : Nat} {mc1 : Int32} {ea cm0 cap n1 x1 N : Nat} {so ro fa Qa : Nat → Nat} (hn : n1 < cap) (hcap : cap ≤ 90) (hkey : ∀ k, k < N → ro k < 10 ∧ fa k ≤ 1000) (hx1 : x1 < N) (hQ : ∀ j, j < n1 → Qa j < N) (hHp : Hp (kyS ro fa) Qa n1) : gg_C l g yJ32_add (ws_ yJ32_add cJ32_add 2 (some .boolean)) { frames := 9, cells := 0, slots := 0, locals := 209 } [.ref h, .ref (so x1)] ([(cm0, .inl (8, []))] ++ (mp (stN so ro fa) N)) [[(h, .inl (20, [.ref ea, .int (nI n1), .ref cm0, .int mc1]))], [(ea, gg_ao g 4 cap (lsF (fun j => so (Qa j)) (n1)))]] (fun vv CC => ∃ (Q3 : Nat → Nat), (Hp (kyS ro fa) Q3 (n1 + 1) ∧ (∀ i, Qi Q3 (n1 + 1) i ↔ Qi Qa n1 i ∨ i = x1) ∧ (Qj Qa n1 → ¬ Qi Qa n1 x1 → Qj Q3 (n1 + 1))) ∧ vv = some (.int 1) ∧ CC = [[(h, .inl (20, [.ref ea, .int (nI (n1 + 1)), .ref cm0, .int (mc1 + 1)]))], [(ea, gg_ao g 4 cap (lsF (fun j => so (Q3 j)) (n1 + 1)))]]) gg_no := by
  refine gg_of (lv := [_, _]) (by decide) hl (Nat.le_of_ble_eq_true rfl) rfl ?_
  intro p e R s m args below meth c A Q hRf hRl hRc hRs E Fn hnm hex
  refine gg_aload_n (pc := 0) E dJ32_add_0 rfl rfl ?_
  refine gg_aload_n (pc := 1) E dJ32_add_1 rfl rfl ?_
  refine gg_callV (F := []) (As := [_]) (rest := []) (pc := 2) E ck_J32 (ct_J32_offer hl (by first | assumption | omega) (by first | assumption | omega) (by first | assumption | omega) (by first | assumption | omega) (by first | assumption | omega) (by first | assumption | omega)) (cwV 1 E.2.2.2.2.1 (lw_V q1780 q1781 q1782 q194 q1783) rfl rfl rfl (by decide +kernel) ⟨by rw [hRf]; exact Nat.le_of_ble_eq_true rfl, by rw [hRl]; exact Nat.le_of_ble_eq_true rfl⟩) dJ32_add_2 [0, 1] (by decide) rfl rfl (List.forall_mem_append.mpr ⟨(List.forall_mem_cons.mpr ⟨(gg_r 0 rfl), (fun _ h => by cases h)⟩), (fun q hq => gg_rm (List.mem_append_right _ (hq)))⟩) (gg_i 0 rfl) rfl rfl (Nat.le_of_ble_eq_true rfl) (by first | (rw [hRc]; exact Nat.le_of_ble_eq_true rfl) | (rw [hRc]; dsimp only; omega)) (by first | (rw [hRs]; exact Nat.le_of_ble_eq_true rfl) | (rw [hRs]; dsimp only; omega)) ?_ (fun X q C1 h => h.elim)
  rintro _ _ ⟨Q3, hp, rfl, rfl⟩
  dsimp only [List.cons_append, List.nil_append, Option.toList]
  refine gg_up1 ?_
  refine gg_up1 ?_
  refine gg_iret (pc := 5) E Fn rfl (gg_nz (by first | decide | assumption | exact gg_b01 | (split <;> decide))) dJ32_add_5 (by first | exact Nat.le_of_ble_eq_true rfl | (dsimp only; omega)) (by first | exact Nat.le_of_ble_eq_true rfl | (dsimp only; omega)) ?_
  exact ⟨Q3, hp, rfl, rfl⟩
set_option maxHeartbeats 4000000 in
theorem ct_J32_poll {l : Launch} (hl : l.stackTraces = false) {g : gg_G}  {h : Nat} {mc1 : Int32} {ea cm0 cap n1 N : Nat} {so ro fa Qa : Nat → Nat} (hn : n1 < cap) (hcap : cap ≤ 90) (hkey : ∀ k, k < N → ro k < 10 ∧ fa k ≤ 1000) (hQ : ∀ j, j < n1 + 1 → Qa j < N) (hHp : Hp (kyS ro fa) Qa (n1 + 1)) : gg_C l g yJ32_poll (ws_ yJ32_poll cJ32_poll 6 (some (.object "java/lang/Object"))) { frames := 7, cells := 0, slots := 0, locals := 168 } [.ref h] ([(cm0, .inl (8, []))] ++ (mp (stN so ro fa) N)) [[(h, .inl (20, [.ref ea, .int (nI (n1 + 1)), .ref cm0, .int mc1]))], [(ea, gg_ao g 4 cap (lsF (fun j => so (Qa j)) (n1 + 1)))]] (fun vv CC => ∃ (Q3 : Nat → Nat), (Hp (kyS ro fa) Q3 n1 ∧ (∀ i, Qi Q3 n1 i ↔ Qi (llU Qa 0 (Qa n1)) n1 i) ∧ (Qj (llU Qa 0 (Qa n1)) n1 → Qj Q3 n1)) ∧ vv = some (.ref (so (Qa 0))) ∧ CC = [[(h, .inl (20, [.ref ea, .int (nI n1), .ref cm0, .int (mc1 + 1)]))], [(ea, gg_ao g 4 cap (lsF (fun j => so (Q3 j)) (n1)))]]) gg_no := by
  refine gg_of (lv := [_, _, _, _, _, _]) (by decide) hl (Nat.le_of_ble_eq_true rfl) rfl ?_
  intro p e R s m args below meth c A Q hRf hRl hRc hRs E Fn hnm hex
  refine gg_aload_n (pc := 0) E dJ32_poll_0 rfl rfl ?_
  refine gg_get (pc := 1) E ck_J32 0 q1750 rfl (by decide) dJ32_poll_1 (gg_i 0 rfl) rfl ?_
  refine gg_dup (pc := 4) E dJ32_poll_4 rfl ?_
  refine gg_astore_n (lv' := [_, _, _, _, _, _]) (pc := 5) E dJ32_poll_5 rfl (Nat.le_of_ble_eq_true rfl) rfl rfl ?_
  refine gg_iconst (v := 0) (pc := 6) E dJ32_poll_6 (by decide) ?_
  refine gg_aaldN (pc := 7) E 4 rfl 0 rfl (by omega) (by omega) dJ32_poll_7 (gg_i 1 rfl) ?_
  refine gg_topV (show va_rf (lsF (fun j => so (Qa j)) (n1 + 1) 0) = .ref (so (Qa 0)) from by rw [lsF_at (by omega)]; rfl) ?_
  refine gg_dup (pc := 8) E dJ32_poll_8 rfl ?_
  refine gg_astore_n (lv' := [_, _, _, _, _, _]) (pc := 9) E dJ32_poll_9 rfl (Nat.le_of_ble_eq_true rfl) rfl rfl ?_
  refine gg_ifnull (pc := 10) E dJ32_poll_10 ?_
  refine gg_aload_n (pc := 13) E dJ32_poll_13 rfl rfl ?_
  refine gg_dup (pc := 14) E dJ32_poll_14 rfl ?_
  refine gg_get (pc := 15) E ck_J32 3 q1753 rfl (by decide) dJ32_poll_15 (gg_i 0 rfl) rfl ?_
  refine gg_iconst (v := 1) (pc := 18) E dJ32_poll_18 (by decide) ?_
  refine gg_iadd (pc := 19) E dJ32_poll_19 ?_
  refine gg_put (fs' := [_, _, _, _]) (M' := [_, _]) (pc := 20) E ck_J32 3 q1753 rfl (by decide) dJ32_poll_20 0 rfl rfl (rfl) rfl (Nat.le_of_ble_eq_true rfl) rfl rfl ?_
  refine gg_aload_n (pc := 23) E dJ32_poll_23 rfl rfl ?_
  refine gg_aload_n (pc := 24) E dJ32_poll_24 rfl rfl ?_
  refine gg_dup (pc := 25) E dJ32_poll_25 rfl ?_
  refine gg_get (pc := 26) E ck_J32 1 q1751 rfl (by decide) dJ32_poll_26 (gg_i 0 rfl) rfl ?_
  refine gg_iconst (v := 1) (pc := 29) E dJ32_poll_29 (by decide) ?_
  refine gg_isubN (pc := 30) E (n1 + 1) 1 rfl rfl (by omega) dJ32_poll_30 ?_
  refine gg_topI (y := nI n1) rfl ?_
  refine gg_dup_x1 (pc := 31) E dJ32_poll_31 rfl rfl ?_
  refine gg_put (fs' := [_, _, _, _]) (M' := [_, _]) (pc := 32) E ck_J32 1 q1751 rfl (by decide) dJ32_poll_32 0 rfl rfl (rfl) rfl (Nat.le_of_ble_eq_true rfl) rfl rfl ?_
  refine gg_dup (pc := 35) E dJ32_poll_35 rfl ?_
  refine gg_istore_n (lv' := [_, _, _, _, _, _]) (pc := 36) E dJ32_poll_36 rfl (Nat.le_of_ble_eq_true rfl) rfl rfl ?_
  refine gg_aaldN (pc := 37) E 4 rfl n1 rfl (by omega) (by omega) dJ32_poll_37 (gg_i 1 rfl) ?_
  refine gg_topV (show va_rf (lsF (fun j => so (Qa j)) (n1 + 1) n1) = .ref (so (Qa n1)) from by rw [lsF_at (by omega)]; rfl) ?_
  refine gg_astore (lv' := [_, _, _, _, _, _]) (pc := 38) E dJ32_poll_38 (Nat.le_of_ble_eq_true rfl) rfl rfl ?_
  refine gg_aload_n (pc := 40) E dJ32_poll_40 rfl rfl ?_
  refine gg_iload_n (pc := 41) E dJ32_poll_41 rfl rfl ?_
  refine gg_null (pc := 42) E dJ32_poll_42 ?_
  refine gg_aastNN (M' := [_, _]) (pc := 43) E 4 rfl n1 rfl (by omega) (by omega) dJ32_poll_43 1 rfl rfl ?_
  refine gg_cel (y := gg_ao g 4 cap (lsF (fun j => so (Qa j)) n1)) 1 rfl (congrArg (gg_ao g 4 cap) lsF_pop) rfl ?_
  refine gg_iload_n (pc := 44) E dJ32_poll_44 rfl rfl ?_
  refine gg_ifN_le (tgt := 79) (pc := 45) E n1 rfl (by omega) dJ32_poll_45 (by decide) (fun c45 => ?_) (fun c45 => ?_)
  · refine gg_aload_n (pc := 79) E dJ32_poll_79 rfl rfl ?_
    refine gg_aret (pc := 80) E Fn rfl (Or.inl ⟨_, rfl⟩) (Or.inr ⟨_, rfl⟩) dJ32_poll_80 (by first | exact Nat.le_of_ble_eq_true rfl | (dsimp only; omega)) (by first | exact Nat.le_of_ble_eq_true rfl | (dsimp only; omega)) ?_
    obtain rfl : n1 = 0 := by omega
    exact ⟨(llU Qa 0 (Qa 0)), ⟨fun j h0 hj => by omega, fun i => Iff.rfl, id⟩, rfl, by rw [lsF_0, lsF_0]; rfl⟩
  · refine gg_aload_n (pc := 48) E dJ32_poll_48 rfl rfl ?_
    refine gg_get (pc := 49) E ck_J32 2 q1752 rfl (by decide) dJ32_poll_49 (gg_i 0 rfl) rfl ?_
    refine gg_dup (pc := 52) E dJ32_poll_52 rfl ?_
    refine gg_astore (lv' := [_, _, _, _, _, _]) (pc := 53) E dJ32_poll_53 (Nat.le_of_ble_eq_true rfl) rfl rfl ?_
    refine gg_ifnonnull (tgt := 69) (pc := 55) E dJ32_poll_55 (by decide) ?_
    refine gg_iconst (v := 0) (pc := 69) E dJ32_poll_69 (by decide) ?_
    refine gg_aload (pc := 70) E dJ32_poll_70 rfl ?_
    refine gg_aload_n (pc := 72) E dJ32_poll_72 rfl rfl ?_
    refine gg_iload_n (pc := 73) E dJ32_poll_73 rfl rfl ?_
    refine gg_aload (pc := 74) E dJ32_poll_74 rfl ?_
    refine gg_callS (F := [_]) (As := [_, _, _, .int (nI n1), _]) (rest := []) (pc := 76) E (ct_J32_siftDownUsingComparator (Qa := Qa) hl hn (by omega) hcap hkey (hQ n1 (by omega)) (fun j hj => hQ j (by omega)) hHp rfl) (va_cwS 5 E.2.2.2.2.1 (lw_S q2057 q2058 q194 q2059) rfl rfl rfl (by decide +kernel) ⟨by rw [hRf]; exact Nat.le_of_ble_eq_true rfl, by rw [hRl]; exact Nat.le_of_ble_eq_true rfl⟩) dJ32_poll_76 [1] (by decide) rfl rfl (List.forall_mem_append.mpr ⟨(List.forall_mem_cons.mpr ⟨(gg_r 0 rfl), (fun _ h => by cases h)⟩), (fun q hq => gg_rm (List.mem_append_right _ (hq)))⟩) rfl rfl (Nat.le_of_ble_eq_true rfl) (by first | (rw [hRc]; exact Nat.le_of_ble_eq_true rfl) | (rw [hRc]; dsimp only; omega)) (by first | (rw [hRs]; exact Nat.le_of_ble_eq_true rfl) | (rw [hRs]; dsimp only; omega)) ?_ (fun X q C1 h => h.elim)
    rintro _ _ ⟨Q3, hp, rfl, rfl⟩
    dsimp only [List.cons_append, List.nil_append, Option.toList]
    refine gg_up1 ?_
    refine gg_aload_n (pc := 79) E dJ32_poll_79 rfl rfl ?_
    refine gg_aret (pc := 80) E Fn rfl (Or.inl ⟨_, rfl⟩) (Or.inr ⟨_, rfl⟩) dJ32_poll_80 (by first | exact Nat.le_of_ble_eq_true rfl | (dsimp only; omega)) (by first | exact Nat.le_of_ble_eq_true rfl | (dsimp only; omega)) ?_
    exact ⟨Q3, hp, rfl, rfl⟩
set_option maxHeartbeats 4000000 in
theorem ct_J32_peek {l : Launch} (hl : l.stackTraces = false) {g : gg_G}  {h : Nat} {mc1 : Int32} {ea cm0 cap n1 N : Nat} {so ro fa Qa : Nat → Nat} (hn : n1 < cap) (hcap : cap ≤ 90) : gg_C l g yJ32_peek (ws_ yJ32_peek cJ32_peek 1 (some (.object "java/lang/Object"))) { frames := 0, cells := 0, slots := 0, locals := 0 } [.ref h] [(h, .inl (20, [.ref ea, .int (nI (n1 + 1)), .ref cm0, .int mc1])), (ea, gg_ao g 4 cap (lsF (fun j => so (Qa j)) (n1 + 1)))] [] (fun vv CC => vv = some (.ref (so (Qa 0))) ∧ CC = []) gg_no := by
  refine gg_of (lv := [_]) (by decide) hl (Nat.le_of_ble_eq_true rfl) rfl ?_
  intro p e R s m args below meth c A Q hRf hRl hRc hRs E Fn hnm hex
  refine gg_aload_n (pc := 0) E dJ32_peek_0 rfl rfl ?_
  refine gg_get (pc := 1) E ck_J32 0 q1750 rfl (by decide) dJ32_peek_1 (gg_r 0 rfl) rfl ?_
  refine gg_iconst (v := 0) (pc := 4) E dJ32_peek_4 (by decide) ?_
  refine gg_aaldN (pc := 5) E 4 rfl 0 rfl (by omega) (by omega) dJ32_peek_5 (gg_r 1 rfl) ?_
  refine gg_topV (show va_rf (lsF (fun j => so (Qa j)) (n1 + 1) 0) = .ref (so (Qa 0)) from by rw [lsF_at (by omega)]; rfl) ?_
  refine gg_aret (pc := 6) E Fn rfl (Or.inl ⟨_, rfl⟩) (Or.inr ⟨_, rfl⟩) dJ32_peek_6 (by first | exact Nat.le_of_ble_eq_true rfl | (dsimp only; omega)) (by first | exact Nat.le_of_ble_eq_true rfl | (dsimp only; omega)) ?_
  exact ⟨rfl, rfl⟩
set_option maxHeartbeats 4000000 in
theorem ct_J0_isEmptyQ {l : Launch} (hl : l.stackTraces = false) {g : gg_G}  {h ea cm0 n1 : Nat} {mc1 : Int32} (hn : n1 ≤ 1000) : gg_C l g yJ0_isEmpty (ws_ yJ0_isEmpty cJ0_isEmpty 1 (some .boolean)) { frames := 2, cells := 0, slots := 0, locals := 40 } [.ref h] [(h, .inl (20, [.ref ea, .int (nI n1), .ref cm0, .int mc1]))] [] (fun vv CC => vv = some (.int (if n1 = 0 then 1 else 0)) ∧ CC = []) gg_no := by
  refine gg_of (lv := [_]) (by decide) hl (Nat.le_of_ble_eq_true rfl) rfl ?_
  intro p e R s m args below meth c A Q hRf hRl hRc hRs E Fn hnm hex
  refine gg_aload_n (pc := 0) E dJ0_isEmpty_0 rfl rfl ?_
  refine gg_callU (F := []) (As := []) (rest := []) (pc := 1) E ck_J32 (ct_J32_size hl ) (gg_cwO (own := "java/util/AbstractCollection") (C := "java/util/PriorityQueue") (index := 7) (x := ⟨"java/util/AbstractCollection", "size", "()I"⟩) (owner := "java/util/AbstractCollection") 0 E.2.2.2.2.1 (lw_app (lw_in _ [2042, 3475, 3479, 2048, 194] (by decide +kernel) (by decide +kernel)) (lw_meth q2049)) rfl rfl rfl (va_Nw.use rfl (E.2.2.2.2.2.1.2.1 _ (gg_nwi q1294 rfl))) (by decide +kernel) ⟨by rw [hRf]; exact Nat.le_of_ble_eq_true rfl, by rw [hRl]; exact Nat.le_of_ble_eq_true rfl⟩) dJ0_isEmpty_1 [] (by decide) rfl rfl (List.forall_mem_cons.mpr ⟨(gg_r 0 rfl), (fun _ h => by cases h)⟩) (gg_r 0 rfl) rfl rfl (Nat.le_of_ble_eq_true rfl) (by first | (rw [hRc]; exact Nat.le_of_ble_eq_true rfl) | (rw [hRc]; dsimp only; omega)) (by first | (rw [hRs]; exact Nat.le_of_ble_eq_true rfl) | (rw [hRs]; dsimp only; omega)) ?_ (fun X q C1 h => h.elim)
  rintro _ _ ⟨rfl, rfl⟩
  dsimp only [List.cons_append, List.nil_append, Option.toList]
  refine gg_ifN_ne (tgt := 11) (pc := 4) E n1 rfl (by omega) dJ0_isEmpty_4 (by decide) (fun c4 => ?_) (fun c4 => ?_)
  · refine gg_iconst (v := 0) (pc := 11) E dJ0_isEmpty_11 (by decide) ?_
    refine gg_iret (pc := 12) E Fn rfl (gg_nz (by first | decide | assumption | exact gg_b01 | (split <;> decide))) dJ0_isEmpty_12 (by first | exact Nat.le_of_ble_eq_true rfl | (dsimp only; omega)) (by first | exact Nat.le_of_ble_eq_true rfl | (dsimp only; omega)) ?_
    exact ⟨by rw [if_neg (by omega)], rfl⟩
  · refine gg_iconst (v := 1) (pc := 7) E dJ0_isEmpty_7 (by decide) ?_
    refine gg_goto (tgt := 12) (pc := 8) E dJ0_isEmpty_8 (by decide) ?_
    refine gg_iret (pc := 12) E Fn rfl (gg_nz (by first | decide | assumption | exact gg_b01 | (split <;> decide))) dJ0_isEmpty_12 (by first | exact Nat.le_of_ble_eq_true rfl | (dsimp only; omega)) (by first | exact Nat.le_of_ble_eq_true rfl | (dsimp only; omega)) ?_
    exact ⟨by rw [if_pos (by omega)], rfl⟩

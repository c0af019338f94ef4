set_option maxRecDepth 100000
/-! ===== Strings: alike, hash ===== -/
/-- the first n bytes are alike -/
abbrev eqP (n1 : Nat) (f1 : Nat → Int32) (n2 : Nat) (f2 : Nat → Int32) : Prop := n1 = n2 ∧ ∀ j, j < n1 → f1 j = f2 j
noncomputable def eqS (n1 : Nat) (f1 : Nat → Int32) (n2 : Nat) (f2 : Nat → Int32) : Int32 := @ite Int32 (eqP n1 f1 n2 f2) (Classical.propDecidable _) 1 0
theorem eqS_y {n1 n2 : Nat} {f1 f2 : Nat → Int32} (h : eqP n1 f1 n2 f2) : eqS n1 f1 n2 f2 = 1 := @if_pos _ (Classical.propDecidable _) h Int32 1 0
theorem eqS_n {n1 n2 : Nat} {f1 f2 : Nat → Int32} (h : ¬ eqP n1 f1 n2 f2) : eqS n1 f1 n2 f2 = 0 := @if_neg _ (Classical.propDecidable _) h Int32 1 0
theorem eqS_01 {n1 n2 : Nat} {f1 f2 : Nat → Int32} : eqS n1 f1 n2 f2 = 0 ∨ eqS n1 f1 n2 f2 = 1 := by
  by_cases h : eqP n1 f1 n2 f2
  · exact Or.inr (eqS_y h)
  · exact Or.inl (eqS_n h)
theorem eqS_1 {n1 n2 : Nat} {f1 f2 : Nat → Int32} (h : ¬ eqS n1 f1 n2 f2 = 0) : eqP n1 f1 n2 f2 := Classical.byContradiction fun q => h (eqS_n q)
theorem eqS_0 {n1 n2 : Nat} {f1 f2 : Nat → Int32} (h : eqS n1 f1 n2 f2 = 0) : ¬ eqP n1 f1 n2 f2 := fun q => by rw [eqS_y q] at h; exact absurd h (by decide)
/-- a String's hash -/
def hsF (f : Nat → Int32) : Nat → Int32
  | 0 => 0
  | n + 1 => 31 * hsF f n + (f n &&& 255)
set_option maxHeartbeats 4000000 in
theorem ct_J15_equals {l : Launch} (hl : l.stackTraces = false) {g : gg_G}  {v1 n1 : Nat} {f1 : Nat → Int32} {v2 n2 : Nat} {f2 : Nat → Int32} (hn1 : n1 < 2 ^ 30) (hn2 : n2 < 2 ^ 30) : gg_C l g yJ15_equals (ws_ yJ15_equals cJ15_equals 3 (some .boolean)) { frames := 0, cells := 0, slots := 0, locals := 0 } [.ref v1, .ref v2] [(v1, gg_ab g n1 f1), (v2, gg_ab g n2 f2)] [] (fun vv CC => vv = some (.int (eqS n1 f1 n2 f2)) ∧ CC = []) gg_no := by
  refine gg_of (lv := [_, _, _]) (by decide) hl (Nat.le_of_ble_eq_true rfl) rfl ?_
  intro p e R s m args below meth c A Q hRf hRl hRc hRs E Fn hnm hex
  refine gg_aload_n (pc := 0) E dJ15_equals_0 rfl rfl ?_
  refine gg_alen (pc := 1) E 1 rfl dJ15_equals_1 (gg_r 0 rfl) ?_
  refine gg_aload_n (pc := 2) E dJ15_equals_2 rfl rfl ?_
  refine gg_alen (pc := 3) E 1 rfl dJ15_equals_3 (gg_r 1 rfl) ?_
  refine gg_icmpN_ne (tgt := 34) (pc := 4) E n1 n2 rfl rfl (by omega) (by omega) dJ15_equals_4 (by decide) (fun c4 => ?_) (fun c4 => ?_)
  · refine gg_iconst (v := 0) (pc := 34) E dJ15_equals_34 (by decide) ?_
    refine gg_iret (pc := 35) E Fn rfl (gg_nz (by first | decide | assumption | exact gg_b01 | (split <;> decide))) dJ15_equals_35 (by first | exact Nat.le_of_ble_eq_true rfl | (dsimp only; omega)) (by first | exact Nat.le_of_ble_eq_true rfl | (dsimp only; omega)) ?_
    exact ⟨by rw [eqS_n (fun q => c4 q.1)], rfl⟩
  · refine gg_iconst (v := 0) (pc := 7) E dJ15_equals_7 (by decide) ?_
    refine gg_istore_n (lv' := [_, _, _]) (pc := 8) E dJ15_equals_8 rfl (Nat.le_of_ble_eq_true rfl) rfl rfl ?_
    have L9 : ∀ (n : Nat) (j : Nat), n1 - j < n → (j ≤ n1) → (∀ i, i < j → f1 i = f2 i) → gg_W p l e R s m args below meth c g A 3 Q 0 0 [] [some (.ref v1), some (.ref v2), some (.int (nI j))] [] 9 := by
      intro n9
      induction n9 with
      | zero => intro j hmz; exact absurd hmz (Nat.not_lt_zero _)
      | succ n9 ih9 =>
        intro j hm9 hj hal
        refine gg_iload_n (pc := 9) E dJ15_equals_9 rfl rfl ?_
        refine gg_aload_n (pc := 10) E dJ15_equals_10 rfl rfl ?_
        refine gg_alen (pc := 11) E 1 rfl dJ15_equals_11 (gg_r 0 rfl) ?_
        refine gg_icmpN_ge (tgt := 32) (pc := 12) E j n1 rfl rfl (by omega) (by omega) dJ15_equals_12 (by decide) (fun c12 => ?_) (fun c12 => ?_)
        · refine gg_iconst (v := 1) (pc := 32) E dJ15_equals_32 (by decide) ?_
          refine gg_iret (pc := 33) E Fn rfl (gg_nz (by first | decide | assumption | exact gg_b01 | (split <;> decide))) dJ15_equals_33 (by first | exact Nat.le_of_ble_eq_true rfl | (dsimp only; omega)) (by first | exact Nat.le_of_ble_eq_true rfl | (dsimp only; omega)) ?_
          exact ⟨by rw [eqS_y ⟨c4, fun i hi => hal i (by omega)⟩], rfl⟩
        · refine gg_aload_n (pc := 15) E dJ15_equals_15 rfl rfl ?_
          refine gg_iload_n (pc := 16) E dJ15_equals_16 rfl rfl ?_
          refine gg_baldN (pc := 17) E j rfl (by omega) (by omega) dJ15_equals_17 (gg_r 0 rfl) ?_
          refine gg_aload_n (pc := 18) E dJ15_equals_18 rfl rfl ?_
          refine gg_iload_n (pc := 19) E dJ15_equals_19 rfl rfl ?_
          refine gg_baldN (pc := 20) E j rfl (by omega) (by omega) dJ15_equals_20 (gg_r 1 rfl) ?_
          refine gg_icmp_eq (tgt := 26) (pc := 21) E dJ15_equals_21 (by decide) (fun c21 => ?_) (fun c21 => ?_)
          · refine gg_iincN (k := 1) (lv' := [_, _, _]) (pc := 26) E j dJ15_equals_26 rfl rfl rfl (Nat.le_of_ble_eq_true rfl) rfl rfl ?_
            refine gg_goto (tgt := 9) (pc := 29) E dJ15_equals_29 (by decide) ?_
            refine gg_cv rfl (gg_leS (gg_leS (gg_leS gg_le0))) rfl (by first | exact Nat.le_refl _ | omega | (dsimp only; omega)) (by first | exact Nat.le_refl _ | omega | (dsimp only; omega)) (ih9 (j + 1) (by omega) (by omega) (fun i hi => by rcases Nat.lt_or_ge i j with q | q; (· exact hal i q); (· obtain rfl : j = i := (by omega); exact c21)))
          · refine gg_iconst (v := 0) (pc := 24) E dJ15_equals_24 (by decide) ?_
            refine gg_iret (pc := 25) E Fn rfl (gg_nz (by first | decide | assumption | exact gg_b01 | (split <;> decide))) dJ15_equals_25 (by first | exact Nat.le_of_ble_eq_true rfl | (dsimp only; omega)) (by first | exact Nat.le_of_ble_eq_true rfl | (dsimp only; omega)) ?_
            exact ⟨by rw [eqS_n (fun q => c21 (q.2 j (by omega)))], rfl⟩
    refine gg_cv rfl (gg_leS (gg_leS (gg_leS gg_le0))) rfl (by first | exact Nat.le_refl _ | omega | (dsimp only; omega)) (by first | exact Nat.le_refl _ | omega | (dsimp only; omega)) (L9 _ 0 (Nat.lt_succ_self _) (Nat.zero_le _) (fun i h => absurd h (Nat.not_lt_zero i)))
set_option maxHeartbeats 4000000 in
theorem ct_J9_equals {l : Launch} (hl : l.stackTraces = false) {g : gg_G}  {s1 v1 n1 : Nat} {f1 : Nat → Int32} {h1 z1 : Int32} {s2 v2 n2 : Nat} {f2 : Nat → Int32} {h2 z2 : Int32} (hn1 : n1 < 2 ^ 30) (hn2 : n2 < 2 ^ 30) : gg_C l g yJ9_equals (ws_ yJ9_equals cJ9_equals 3 (some .boolean)) { frames := 1, cells := 0, slots := 0, locals := 22 } [.ref s1, .ref s2] [(s1, .inl (13, [.ref v1, .int 0, .int h1, .int z1])), (v1, gg_ab g n1 f1), (s2, .inl (13, [.ref v2, .int 0, .int h2, .int z2])), (v2, gg_ab g n2 f2)] [] (fun vv CC => vv = some (.int (eqS n1 f1 n2 f2)) ∧ CC = []) gg_no := by
  refine gg_of (lv := [_, _, _]) (by decide) hl (Nat.le_of_ble_eq_true rfl) rfl ?_
  intro p e R s m args below meth c A Q hRf hRl hRc hRs E Fn hnm hex
  refine gg_aload_n (pc := 0) E dJ9_equals_0 rfl rfl ?_
  refine gg_aload_n (pc := 1) E dJ9_equals_1 rfl rfl ?_
  refine gg_acmp_ne (rx := (some s1)) (ry := (some s2)) (tgt := 7) (pc := 2) E dJ9_equals_2 (by decide) (fun c2 => ?_) (fun c2 => ?_)
  · refine gg_aload_n (pc := 7) E dJ9_equals_7 rfl rfl ?_
    refine gg_inst (pc := 8) E ck_J9 q1030 (Or.inl rfl) dJ9_equals_8 (gg_r 2 rfl) ?_
    refine gg_ifN_eq (tgt := 54) (pc := 11) E 1 rfl (by decide) dJ9_equals_11 (by decide) (fun q => absurd q (by decide)) (fun _ => ?_)
    refine gg_aload_n (pc := 14) E dJ9_equals_14 rfl rfl ?_
    refine gg_cast (pc := 15) E ck_J9 q1030 (Or.inl rfl) dJ9_equals_15 (gg_r 2 rfl) ?_
    refine gg_astore_n (lv' := [_, _, _]) (pc := 18) E dJ9_equals_18 rfl (Nat.le_of_ble_eq_true rfl) rfl rfl ?_
    refine gg_gets (pc := 19) E 6 rfl q403 dJ9_equals_19 ?_
    refine gg_ifN_eq (tgt := 36) (pc := 22) E 1 rfl (by decide) dJ9_equals_22 (by decide) (fun q => absurd q (by decide)) (fun _ => ?_)
    refine gg_aload_n (pc := 25) E dJ9_equals_25 rfl rfl ?_
    refine gg_get (pc := 26) E ck_J9 1 q545 rfl (by decide) dJ9_equals_26 (gg_r 0 rfl) rfl ?_
    refine gg_aload_n (pc := 29) E dJ9_equals_29 rfl rfl ?_
    refine gg_get (pc := 30) E ck_J9 1 q545 rfl (by decide) dJ9_equals_30 (gg_r 2 rfl) rfl ?_
    refine gg_icmpN_ne (tgt := 54) (pc := 33) E 0 0 rfl rfl (by omega) (by omega) dJ9_equals_33 (by decide) (fun c33 => ?_) (fun c33 => ?_)
    · exact absurd rfl c33
    refine gg_aload_n (pc := 36) E dJ9_equals_36 rfl rfl ?_
    refine gg_get (pc := 37) E ck_J9 0 q544 rfl (by decide) dJ9_equals_37 (gg_r 0 rfl) rfl ?_
    refine gg_aload_n (pc := 40) E dJ9_equals_40 rfl rfl ?_
    refine gg_get (pc := 41) E ck_J9 0 q544 rfl (by decide) dJ9_equals_41 (gg_r 2 rfl) rfl ?_
    refine gg_callS (F := []) (As := [_, _]) (rest := []) (pc := 44) E (ct_J15_equals hl (hn1) (hn2)) (va_cwS 2 E.2.2.2.2.1 (lw_S q1031 q1032 q169 q1033) rfl rfl rfl (by decide +kernel) ⟨by rw [hRf]; exact Nat.le_of_ble_eq_true rfl, by rw [hRl]; exact Nat.le_of_ble_eq_true rfl⟩) dJ9_equals_44 [] (by decide) rfl rfl (List.forall_mem_cons.mpr ⟨(gg_r 1 rfl), (List.forall_mem_cons.mpr ⟨(gg_r 3 rfl), (fun _ h => by cases h)⟩)⟩) rfl rfl (Nat.le_of_ble_eq_true rfl) (by first | (rw [hRc]; exact Nat.le_of_ble_eq_true rfl) | (rw [hRc]; dsimp only; omega)) (by first | (rw [hRs]; exact Nat.le_of_ble_eq_true rfl) | (rw [hRs]; dsimp only; omega)) ?_ (fun X q C1 h => h.elim)
    rintro _ _ ⟨rfl, rfl⟩
    dsimp only [List.cons_append, List.nil_append, Option.toList]
    refine gg_if_eq (tgt := 54) (pc := 47) E dJ9_equals_47 (by decide) (fun c47 => ?_) (fun c47 => ?_)
    · refine gg_iconst (v := 0) (pc := 54) E dJ9_equals_54 (by decide) ?_
      refine gg_iret (pc := 55) E Fn rfl (gg_nz (by first | decide | assumption | exact gg_b01 | (split <;> decide))) dJ9_equals_55 (by first | exact Nat.le_of_ble_eq_true rfl | (dsimp only; omega)) (by first | exact Nat.le_of_ble_eq_true rfl | (dsimp only; omega)) ?_
      exact ⟨by rw [c47], rfl⟩
    · refine gg_iconst (v := 1) (pc := 50) E dJ9_equals_50 (by decide) ?_
      refine gg_goto (tgt := 55) (pc := 51) E dJ9_equals_51 (by decide) ?_
      refine gg_iret (pc := 55) E Fn rfl (gg_nz (by first | decide | assumption | exact gg_b01 | (split <;> decide))) dJ9_equals_55 (by first | exact Nat.le_of_ble_eq_true rfl | (dsimp only; omega)) (by first | exact Nat.le_of_ble_eq_true rfl | (dsimp only; omega)) ?_
      exact ⟨by rw [eqS_y (eqS_1 c47)], rfl⟩
  · obtain rfl : s1 = s2 := Option.some.inj c2
    refine gg_sameO E ck_J9 (gg_r 0 rfl) (gg_r 2 rfl) (fun hvv => ?_)
    obtain rfl : v1 = v2 := Value.ref.inj (hvv 0 (by decide))
    refine gg_sameB E (gg_r 1 rfl) (gg_r 3 rfl) (fun heq => ?_)
    refine gg_iconst (v := 1) (pc := 5) E dJ9_equals_5 (by decide) ?_
    refine gg_iret (pc := 6) E Fn rfl (gg_nz (by first | decide | assumption | exact gg_b01 | (split <;> decide))) dJ9_equals_6 (by first | exact Nat.le_of_ble_eq_true rfl | (dsimp only; omega)) (by first | exact Nat.le_of_ble_eq_true rfl | (dsimp only; omega)) ?_
    exact ⟨by rw [eqS_y heq], rfl⟩
set_option maxHeartbeats 4000000 in
theorem ct_J11_signedHashCode {l : Launch} (hl : l.stackTraces = false) {g : gg_G}  {v1 n1 : Nat} {f1 : Nat → Int32} (hn1 : n1 < 2 ^ 30) : gg_C l g yJ11_signedHashCode (ws_ yJ11_signedHashCode cJ11_signedHashCode 6 (some .int)) { frames := 0, cells := 0, slots := 0, locals := 0 } [.int 0, .ref v1, .int (nI 0), .int (nI n1)] [(v1, gg_ab g n1 f1)] [] (fun vv CC => vv = some (.int (hsF f1 n1)) ∧ CC = []) gg_no := by
  refine gg_of (lv := [_, _, _, _, _, _]) (by decide) hl (Nat.le_of_ble_eq_true rfl) rfl ?_
  intro p e R s m args below meth c A Q hRf hRl hRc hRs E Fn hnm hex
  refine gg_iload_n (pc := 0) E dJ11_signedHashCode_0 rfl rfl ?_
  refine gg_iload_n (pc := 1) E dJ11_signedHashCode_1 rfl rfl ?_
  refine gg_iaddN (pc := 2) E 0 n1 rfl rfl dJ11_signedHashCode_2 ?_
  refine gg_istore (lv' := [_, _, _, _, _, _]) (pc := 3) E dJ11_signedHashCode_3 (Nat.le_of_ble_eq_true rfl) rfl rfl ?_
  refine gg_iload_n (pc := 5) E dJ11_signedHashCode_5 rfl rfl ?_
  refine gg_istore (lv' := [_, _, _, _, _, _]) (pc := 6) E dJ11_signedHashCode_6 (Nat.le_of_ble_eq_true rfl) rfl rfl ?_
  have L8 : ∀ (n : Nat) (j : Nat), n1 - j < n → (j ≤ n1) → gg_W p l e R s m args below meth c g A 6 Q 0 0 [] [some (.int (hsF f1 j)), some (.ref v1), some (.int (nI 0)), some (.int (nI n1)), some (.int (nI (0 + n1))), some (.int (nI j))] [] 8 := by
    intro n8
    induction n8 with
    | zero => intro j hmz; exact absurd hmz (Nat.not_lt_zero _)
    | succ n8 ih8 =>
      intro j hm8 hj
      refine gg_iload (pc := 8) E dJ11_signedHashCode_8 rfl ?_
      refine gg_iload (pc := 10) E dJ11_signedHashCode_10 rfl ?_
      refine gg_icmpN_ge (tgt := 35) (pc := 12) E j (0 + n1) rfl rfl (by omega) (by omega) dJ11_signedHashCode_12 (by decide) (fun c12 => ?_) (fun c12 => ?_)
      · refine gg_iload_n (pc := 35) E dJ11_signedHashCode_35 rfl rfl ?_
        refine gg_iret (pc := 36) E Fn rfl (rfl) dJ11_signedHashCode_36 (by first | exact Nat.le_of_ble_eq_true rfl | (dsimp only; omega)) (by first | exact Nat.le_of_ble_eq_true rfl | (dsimp only; omega)) ?_
        obtain rfl : n1 = j := by omega
        exact ⟨rfl, rfl⟩
      · refine gg_bipush (v := 31) (pc := 15) E dJ11_signedHashCode_15 (by decide) ?_
        refine gg_iload_n (pc := 17) E dJ11_signedHashCode_17 rfl rfl ?_
        refine gg_imul (pc := 18) E dJ11_signedHashCode_18 ?_
        refine gg_aload_n (pc := 19) E dJ11_signedHashCode_19 rfl rfl ?_
        refine gg_iload (pc := 20) E dJ11_signedHashCode_20 rfl ?_
        refine gg_baldN (pc := 22) E j rfl (by omega) (by omega) dJ11_signedHashCode_22 (gg_r 0 rfl) ?_
        refine gg_sipush (v := 255) (pc := 23) E dJ11_signedHashCode_23 (by decide) ?_
        refine gg_iand (pc := 26) E dJ11_signedHashCode_26 ?_
        refine gg_iadd (pc := 27) E dJ11_signedHashCode_27 ?_
        refine gg_istore_n (lv' := [_, _, _, _, _, _]) (pc := 28) E dJ11_signedHashCode_28 rfl (Nat.le_of_ble_eq_true rfl) rfl rfl ?_
        refine gg_iincN (k := 1) (lv' := [_, _, _, _, _, _]) (pc := 29) E j dJ11_signedHashCode_29 rfl rfl rfl (Nat.le_of_ble_eq_true rfl) rfl rfl ?_
        refine gg_goto (tgt := 8) (pc := 32) E dJ11_signedHashCode_32 (by decide) ?_
        refine gg_cv rfl (gg_leS (gg_leS (gg_leS (gg_leS (gg_leS (gg_leS gg_le0)))))) rfl (by first | exact Nat.le_refl _ | omega | (dsimp only; omega)) (by first | exact Nat.le_refl _ | omega | (dsimp only; omega)) (ih8 (j + 1) (by omega) (by omega))
  refine gg_cv rfl (gg_leS (gg_leS (gg_leS (gg_leS (gg_leS (gg_leS gg_le0)))))) rfl (by first | exact Nat.le_refl _ | omega | (dsimp only; omega)) (by first | exact Nat.le_refl _ | omega | (dsimp only; omega)) (L8 _ 0 (Nat.lt_succ_self _) (Nat.zero_le _))
set_option maxHeartbeats 4000000 in
theorem ct_J11_vectorizedHashCode {l : Launch} (hl : l.stackTraces = false) {g : gg_G}  {v1 n1 : Nat} {f1 : Nat → Int32} (hn1 : n1 < 2 ^ 30) : gg_C l g yJ11_vectorizedHashCode (ws_ yJ11_vectorizedHashCode cJ11_vectorizedHashCode 5 (some .int)) { frames := 8, cells := 0, slots := 0, locals := 140 } [.ref v1, .int (nI 0), .int (nI n1), .int 0, .int 4] [(v1, gg_ab g n1 f1)] [] (fun vv CC => vv = some (.int (hsF f1 n1)) ∧ CC = []) gg_no := by
  refine gg_of (lv := [_, _, _, _, _]) (by decide) hl (Nat.le_of_ble_eq_true rfl) rfl ?_
  intro p e R s m args below meth c A Q hRf hRl hRc hRs E Fn hnm hex
  refine gg_iload (pc := 0) E dJ11_vectorizedHashCode_0 rfl ?_
  refine gg_tableIn (off := 42) (tgt := 44) (pc := 2) E dJ11_vectorizedHashCode_2 (by decide) (by decide) rfl (by decide) ?_
  refine gg_iload_n (pc := 44) E dJ11_vectorizedHashCode_44 rfl rfl ?_
  refine gg_aload_n (pc := 45) E dJ11_vectorizedHashCode_45 rfl rfl ?_
  refine gg_castB (pc := 46) E q978 dJ11_vectorizedHashCode_46 (gg_r 0 rfl) ?_
  refine gg_iload_n (pc := 49) E dJ11_vectorizedHashCode_49 rfl rfl ?_
  refine gg_iload_n (pc := 50) E dJ11_vectorizedHashCode_50 rfl rfl ?_
  refine gg_callS (F := []) (As := [_, _, _, .int (nI n1)]) (rest := []) (pc := 51) E (ct_J11_signedHashCode hl hn1) (va_cwS 4 E.2.2.2.2.1 (lw_S q979 q980 q164 q981) rfl rfl rfl (by decide +kernel) ⟨by rw [hRf]; exact Nat.le_of_ble_eq_true rfl, by rw [hRl]; exact Nat.le_of_ble_eq_true rfl⟩) dJ11_vectorizedHashCode_51 [] (by decide) rfl rfl (List.forall_mem_cons.mpr ⟨(gg_r 0 rfl), (fun _ h => by cases h)⟩) rfl rfl (Nat.le_of_ble_eq_true rfl) (by first | (rw [hRc]; exact Nat.le_of_ble_eq_true rfl) | (rw [hRc]; dsimp only; omega)) (by first | (rw [hRs]; exact Nat.le_of_ble_eq_true rfl) | (rw [hRs]; dsimp only; omega)) ?_ (fun X q C1 h => h.elim)
  rintro _ _ ⟨rfl, rfl⟩
  dsimp only [List.cons_append, List.nil_append, Option.toList]
  refine gg_goto (tgt := 157) (pc := 54) E dJ11_vectorizedHashCode_54 (by decide) ?_
  refine gg_iret (pc := 157) E Fn rfl (rfl) dJ11_vectorizedHashCode_157 (by first | exact Nat.le_of_ble_eq_true rfl | (dsimp only; omega)) (by first | exact Nat.le_of_ble_eq_true rfl | (dsimp only; omega)) ?_
  exact ⟨rfl, rfl⟩
set_option maxHeartbeats 4000000 in
theorem ct_J15_hashCode {l : Launch} (hl : l.stackTraces = false) {g : gg_G}  {v1 n1 : Nat} {f1 : Nat → Int32} (hn1 : n1 < 2 ^ 30) : gg_C l g yJ15_hashCode (ws_ yJ15_hashCode cJ15_hashCode 1 (some .int)) { frames := 9, cells := 0, slots := 0, locals := 164 } [.ref v1] [(v1, gg_ab g n1 f1)] [] (fun vv CC => vv = some (.int (hsF f1 n1)) ∧ CC = []) gg_no := by
  refine gg_of (lv := [_]) (by decide) hl (Nat.le_of_ble_eq_true rfl) rfl ?_
  intro p e R s m args below meth c A Q hRf hRl hRc hRs E Fn hnm hex
  refine gg_aload_n (pc := 0) E dJ15_hashCode_0 rfl rfl ?_
  refine gg_alen (pc := 1) E 1 rfl dJ15_hashCode_1 (gg_r 0 rfl) ?_
  by_cases s2_0 : nI n1 = 0
  · refine gg_lookup (off := 26) (tgt := 28) (pc := 2) E dJ15_hashCode_2 (by decide) (by show Op.lookupswitch.offset [(0, 26), (1, 30)] 40 _ = _; rw [s2_0]; decide) (by decide) ?_
    refine gg_iconst (v := 0) (pc := 28) E dJ15_hashCode_28 (by decide) ?_
    refine gg_goto (tgt := 51) (pc := 29) E dJ15_hashCode_29 (by decide) ?_
    refine gg_iret (pc := 51) E Fn rfl (rfl) dJ15_hashCode_51 (by first | exact Nat.le_of_ble_eq_true rfl | (dsimp only; omega)) (by first | exact Nat.le_of_ble_eq_true rfl | (dsimp only; omega)) ?_
    exact ⟨by have hn : n1 = 0 := (nI_eq (a := n1) (b := 0) (by omega) (by decide)).mp s2_0; subst hn; rfl, rfl⟩
  by_cases s2_1 : nI n1 = 1
  · refine gg_lookup (off := 30) (tgt := 32) (pc := 2) E dJ15_hashCode_2 (by decide) (by show Op.lookupswitch.offset [(0, 26), (1, 30)] 40 _ = _; rw [lv_osw s2_0 (by decide)]; rw [s2_1]; decide) (by decide) ?_
    refine gg_aload_n (pc := 32) E dJ15_hashCode_32 rfl rfl ?_
    refine gg_iconst (v := 0) (pc := 33) E dJ15_hashCode_33 (by decide) ?_
    refine gg_baldN (pc := 34) E 0 rfl (by have := (nI_eq (a := n1) (b := 1) (by omega) (by decide)).mp s2_1; omega) (by omega) dJ15_hashCode_34 (gg_r 0 rfl) ?_
    refine gg_sipush (v := 255) (pc := 35) E dJ15_hashCode_35 (by decide) ?_
    refine gg_iand (pc := 38) E dJ15_hashCode_38 ?_
    refine gg_goto (tgt := 51) (pc := 39) E dJ15_hashCode_39 (by decide) ?_
    refine gg_iret (pc := 51) E Fn rfl (rfl) dJ15_hashCode_51 (by first | exact Nat.le_of_ble_eq_true rfl | (dsimp only; omega)) (by first | exact Nat.le_of_ble_eq_true rfl | (dsimp only; omega)) ?_
    exact ⟨by have hn : n1 = 1 := (nI_eq (a := n1) (b := 1) (by omega) (by decide)).mp s2_1; subst hn; show _ = some (Value.int (31 * 0 + (f1 0 &&& 255))); rw [Int32.mul_zero, Int32.zero_add], rfl⟩
  refine gg_lookup (off := 40) (tgt := 42) (pc := 2) E dJ15_hashCode_2 (by decide) (by show Op.lookupswitch.offset [(0, 26), (1, 30)] 40 _ = _; rw [lv_osw s2_0 (by decide)]; rw [lv_osw s2_1 (by decide)]; rfl) (by decide) ?_
  refine gg_aload_n (pc := 42) E dJ15_hashCode_42 rfl rfl ?_
  refine gg_iconst (v := 0) (pc := 43) E dJ15_hashCode_43 (by decide) ?_
  refine gg_aload_n (pc := 44) E dJ15_hashCode_44 rfl rfl ?_
  refine gg_alen (pc := 45) E 1 rfl dJ15_hashCode_45 (gg_r 0 rfl) ?_
  refine gg_iconst (v := 0) (pc := 46) E dJ15_hashCode_46 (by decide) ?_
  refine gg_iconst (v := 4) (pc := 47) E dJ15_hashCode_47 (by decide) ?_
  refine gg_callS (F := []) (As := [_, _, .int (nI n1), _, _]) (rest := []) (pc := 48) E (ct_J11_vectorizedHashCode hl hn1) (va_cwS 5 E.2.2.2.2.1 (lw_S q975 q976 q164 q977) rfl rfl rfl (by decide +kernel) ⟨by rw [hRf]; exact Nat.le_of_ble_eq_true rfl, by rw [hRl]; exact Nat.le_of_ble_eq_true rfl⟩) dJ15_hashCode_48 [] (by decide) rfl rfl (List.forall_mem_cons.mpr ⟨(gg_r 0 rfl), (fun _ h => by cases h)⟩) rfl rfl (Nat.le_of_ble_eq_true rfl) (by first | (rw [hRc]; exact Nat.le_of_ble_eq_true rfl) | (rw [hRc]; dsimp only; omega)) (by first | (rw [hRs]; exact Nat.le_of_ble_eq_true rfl) | (rw [hRs]; dsimp only; omega)) ?_ (fun X q C1 h => h.elim)
  rintro _ _ ⟨rfl, rfl⟩
  dsimp only [List.cons_append, List.nil_append, Option.toList]
  refine gg_iret (pc := 51) E Fn rfl (rfl) dJ15_hashCode_51 (by first | exact Nat.le_of_ble_eq_true rfl | (dsimp only; omega)) (by first | exact Nat.le_of_ble_eq_true rfl | (dsimp only; omega)) ?_
  exact ⟨rfl, rfl⟩
set_option maxHeartbeats 4000000 in
theorem ct_J9_hashCode {l : Launch} (hl : l.stackTraces = false) {g : gg_G}  {s1 v1 n1 : Nat} {f1 : Nat → Int32} {h1 z1 : Int32} (hn1 : n1 < 2 ^ 30) (hh : h1 = hsF f1 n1 ∨ (h1 = 0 ∧ z1 = 0)) : gg_C l g yJ9_hashCode (ws_ yJ9_hashCode cJ9_hashCode 2 (some .int)) { frames := 10, cells := 0, slots := 0, locals := 184 } [.ref s1] [(v1, gg_ab g n1 f1)] [[(s1, .inl (13, [.ref v1, .int 0, .int h1, .int z1]))]] (fun vv CC => ∃ (h2 z2 : Int32), (h2 = hsF f1 n1 ∨ (h2 = 0 ∧ z2 = 0)) ∧ vv = some (.int (hsF f1 n1)) ∧ CC = [[(s1, .inl (13, [.ref v1, .int 0, .int h2, .int z2]))]]) gg_no := by
  refine gg_of (lv := [_, _]) (by decide) hl (Nat.le_of_ble_eq_true rfl) rfl ?_
  intro p e R s m args below meth c A Q hRf hRl hRc hRs E Fn hnm hex
  refine gg_aload_n (pc := 0) E dJ9_hashCode_0 rfl rfl ?_
  refine gg_get (pc := 1) E ck_J9 2 q546 rfl (by decide) dJ9_hashCode_1 (gg_i 0 rfl) rfl ?_
  refine gg_istore_n (lv' := [_, _]) (pc := 4) E dJ9_hashCode_4 rfl (Nat.le_of_ble_eq_true rfl) rfl rfl ?_
  refine gg_iload_n (pc := 5) E dJ9_hashCode_5 rfl rfl ?_
  refine gg_if_ne (tgt := 58) (pc := 6) E dJ9_hashCode_6 (by decide) (fun c6 => ?_) (fun c6 => ?_)
  · refine gg_iload_n (pc := 58) E dJ9_hashCode_58 rfl rfl ?_
    refine gg_iret (pc := 59) E Fn rfl (rfl) dJ9_hashCode_59 (by first | exact Nat.le_of_ble_eq_true rfl | (dsimp only; omega)) (by first | exact Nat.le_of_ble_eq_true rfl | (dsimp only; omega)) ?_
    exact ⟨h1, z1, hh, by rw [show hsF f1 n1 = h1 from (hh.resolve_right (fun q => c6 q.1)).symm], rfl⟩
  · refine gg_aload_n (pc := 9) E dJ9_hashCode_9 rfl rfl ?_
    refine gg_get (pc := 10) E ck_J9 3 q547 rfl (by decide) dJ9_hashCode_10 (gg_i 0 rfl) rfl ?_
    refine gg_if_ne (tgt := 58) (pc := 13) E dJ9_hashCode_13 (by decide) (fun c13 => ?_) (fun c13 => ?_)
    · refine gg_iload_n (pc := 58) E dJ9_hashCode_58 rfl rfl ?_
      refine gg_iret (pc := 59) E Fn rfl (rfl) dJ9_hashCode_59 (by first | exact Nat.le_of_ble_eq_true rfl | (dsimp only; omega)) (by first | exact Nat.le_of_ble_eq_true rfl | (dsimp only; omega)) ?_
      exact ⟨h1, z1, hh, by rw [show hsF f1 n1 = 0 from (hh.resolve_right (fun q => c13 q.2)).symm.trans c6, c6], rfl⟩
    · refine gg_aload_n (pc := 16) E dJ9_hashCode_16 rfl rfl ?_
      refine gg_callV (F := [_]) (As := []) (rest := []) (pc := 17) E ck_J9 (ct_J9_isLatin1 hl ) (cwV 0 E.2.2.2.2.1 (lw_V q968 q969 q970 q162 q971) rfl rfl rfl (by decide +kernel) ⟨by rw [hRf]; exact Nat.le_of_ble_eq_true rfl, by rw [hRl]; exact Nat.le_of_ble_eq_true rfl⟩) dJ9_hashCode_17 [] (by decide) rfl rfl (List.forall_mem_cons.mpr ⟨(gg_i 0 rfl), (fun _ h => by cases h)⟩) (gg_i 0 rfl) rfl rfl (Nat.le_of_ble_eq_true rfl) (by first | (rw [hRc]; exact Nat.le_of_ble_eq_true rfl) | (rw [hRc]; dsimp only; omega)) (by first | (rw [hRs]; exact Nat.le_of_ble_eq_true rfl) | (rw [hRs]; dsimp only; omega)) ?_ (fun X q C1 h => h.elim)
      rintro _ _ ⟨rfl, rfl⟩
      dsimp only [List.cons_append, List.nil_append, Option.toList]
      refine gg_ifN_eq (tgt := 33) (pc := 20) E 1 rfl (by decide) dJ9_hashCode_20 (by decide) (fun q => absurd q (by decide)) (fun _ => ?_)
      refine gg_aload_n (pc := 23) E dJ9_hashCode_23 rfl rfl ?_
      refine gg_get (pc := 24) E ck_J9 0 q544 rfl (by decide) dJ9_hashCode_24 (gg_i 0 rfl) rfl ?_
      refine gg_callS (F := [_]) (As := [_]) (rest := []) (pc := 27) E (ct_J15_hashCode hl hn1) (va_cwS 1 E.2.2.2.2.1 (lw_S q972 q973 q169 q974) rfl rfl rfl (by decide +kernel) ⟨by rw [hRf]; exact Nat.le_of_ble_eq_true rfl, by rw [hRl]; exact Nat.le_of_ble_eq_true rfl⟩) dJ9_hashCode_27 [] (by decide) rfl rfl (List.forall_mem_cons.mpr ⟨(gg_r 0 rfl), (fun _ h => by cases h)⟩) rfl rfl (Nat.le_of_ble_eq_true rfl) (by first | (rw [hRc]; exact Nat.le_of_ble_eq_true rfl) | (rw [hRc]; dsimp only; omega)) (by first | (rw [hRs]; exact Nat.le_of_ble_eq_true rfl) | (rw [hRs]; dsimp only; omega)) ?_ (fun X q C1 h => h.elim)
      rintro _ _ ⟨rfl, rfl⟩
      dsimp only [List.cons_append, List.nil_append, Option.toList]
      refine gg_goto (tgt := 40) (pc := 30) E dJ9_hashCode_30 (by decide) ?_
      refine gg_istore_n (lv' := [_, _]) (pc := 40) E dJ9_hashCode_40 rfl (Nat.le_of_ble_eq_true rfl) rfl rfl ?_
      refine gg_iload_n (pc := 41) E dJ9_hashCode_41 rfl rfl ?_
      refine gg_if_ne (tgt := 53) (pc := 42) E dJ9_hashCode_42 (by decide) (fun c42 => ?_) (fun c42 => ?_)
      · refine gg_aload_n (pc := 53) E dJ9_hashCode_53 rfl rfl ?_
        refine gg_iload_n (pc := 54) E dJ9_hashCode_54 rfl rfl ?_
        refine gg_put (fs' := [_, _, _, _]) (M' := [_]) (pc := 55) E ck_J9 2 q546 rfl (by decide) dJ9_hashCode_55 0 rfl rfl (rfl) rfl (Nat.le_of_ble_eq_true rfl) rfl rfl ?_
        refine gg_iload_n (pc := 58) E dJ9_hashCode_58 rfl rfl ?_
        refine gg_iret (pc := 59) E Fn rfl (rfl) dJ9_hashCode_59 (by first | exact Nat.le_of_ble_eq_true rfl | (dsimp only; omega)) (by first | exact Nat.le_of_ble_eq_true rfl | (dsimp only; omega)) ?_
        exact ⟨hsF f1 n1, z1, Or.inl rfl, rfl, rfl⟩
      · refine gg_aload_n (pc := 45) E dJ9_hashCode_45 rfl rfl ?_
        refine gg_iconst (v := 1) (pc := 46) E dJ9_hashCode_46 (by decide) ?_
        refine gg_put (fs' := [_, _, _, _]) (M' := [_]) (pc := 47) E ck_J9 3 q547 rfl (by decide) dJ9_hashCode_47 0 rfl rfl (rfl) rfl (Nat.le_of_ble_eq_true rfl) rfl rfl ?_
        refine gg_goto (tgt := 58) (pc := 50) E dJ9_hashCode_50 (by decide) ?_
        refine gg_iload_n (pc := 58) E dJ9_hashCode_58 rfl rfl ?_
        refine gg_iret (pc := 59) E Fn rfl (rfl) dJ9_hashCode_59 (by first | exact Nat.le_of_ble_eq_true rfl | (dsimp only; omega)) (by first | exact Nat.le_of_ble_eq_true rfl | (dsimp only; omega)) ?_
        exact ⟨h1, 1, Or.inl (by rw [c6, c42]), by rw [c42], rfl⟩
set_option maxHeartbeats 4000000 in
theorem ct_J9_hashCodeR {l : Launch} (hl : l.stackTraces = false) {g : gg_G}  {s1 v1 n1 : Nat} {f1 : Nat → Int32} {h1 z1 : Int32} (hn1 : n1 < 2 ^ 30) (hh : h1 = hsF f1 n1) (hz : h1 = 0 → ¬ z1 = 0) : gg_C l g yJ9_hashCode (ws_ yJ9_hashCode cJ9_hashCode 2 (some .int)) { frames := 10, cells := 0, slots := 0, locals := 184 } [.ref s1] [(s1, .inl (13, [.ref v1, .int 0, .int h1, .int z1])), (v1, gg_ab g n1 f1)] [] (fun vv CC => vv = some (.int (hsF f1 n1)) ∧ CC = []) gg_no := by
  refine gg_of (lv := [_, _]) (by decide) hl (Nat.le_of_ble_eq_true rfl) rfl ?_
  intro p e R s m args below meth c A Q hRf hRl hRc hRs E Fn hnm hex
  refine gg_aload_n (pc := 0) E dJ9_hashCode_0 rfl rfl ?_
  refine gg_get (pc := 1) E ck_J9 2 q546 rfl (by decide) dJ9_hashCode_1 (gg_r 0 rfl) rfl ?_
  refine gg_istore_n (lv' := [_, _]) (pc := 4) E dJ9_hashCode_4 rfl (Nat.le_of_ble_eq_true rfl) rfl rfl ?_
  refine gg_iload_n (pc := 5) E dJ9_hashCode_5 rfl rfl ?_
  refine gg_if_ne (tgt := 58) (pc := 6) E dJ9_hashCode_6 (by decide) (fun c6 => ?_) (fun c6 => ?_)
  · refine gg_iload_n (pc := 58) E dJ9_hashCode_58 rfl rfl ?_
    refine gg_iret (pc := 59) E Fn rfl (rfl) dJ9_hashCode_59 (by first | exact Nat.le_of_ble_eq_true rfl | (dsimp only; omega)) (by first | exact Nat.le_of_ble_eq_true rfl | (dsimp only; omega)) ?_
    exact ⟨by rw [← hh], rfl⟩
  · refine gg_aload_n (pc := 9) E dJ9_hashCode_9 rfl rfl ?_
    refine gg_get (pc := 10) E ck_J9 3 q547 rfl (by decide) dJ9_hashCode_10 (gg_r 0 rfl) rfl ?_
    refine gg_if_ne (tgt := 58) (pc := 13) E dJ9_hashCode_13 (by decide) (fun c13 => ?_) (fun c13 => ?_)
    rotate_left
    · exact absurd c13 (hz c6)
    refine gg_iload_n (pc := 58) E dJ9_hashCode_58 rfl rfl ?_
    refine gg_iret (pc := 59) E Fn rfl (rfl) dJ9_hashCode_59 (by first | exact Nat.le_of_ble_eq_true rfl | (dsimp only; omega)) (by first | exact Nat.le_of_ble_eq_true rfl | (dsimp only; omega)) ?_
    exact ⟨by rw [← hh], rfl⟩

set_option maxRecDepth 100000
/-! ===== a node is unlinked ===== -/
/-- the nodes while node k goes: what k holds, what its neighbours point to -/
def uN (nd im : Nat → Nat) (n k : Nat) (it nx pv P B : Value) (j : Nat) : Nat × gg_E := if j = k then (nd k, .inl (16, [it, nx, pv])) else if j + 1 = k then (nd j, .inl (16, [.ref (im j), P, va_rf (if 0 < j then some (nd (j - 1)) else none)])) else if j = k + 1 then (nd j, .inl (16, [.ref (im j), va_rf (if j + 1 < n then some (nd (j + 1)) else none), B])) else llN nd im n j
theorem uN_k {nd im : Nat → Nat} {n k : Nat} {it nx pv P B : Value} : uN nd im n k it nx pv P B k = (nd k, .inl (16, [it, nx, pv])) := if_pos rfl
theorem uN_p {nd im : Nat → Nat} {n k : Nat} {it nx pv P B : Value} (h : 0 < k) : uN nd im n k it nx pv P B (k - 1) = (nd (k - 1), .inl (16, [.ref (im (k - 1)), P, va_rf (if 0 < k - 1 then some (nd (k - 1 - 1)) else none)])) := by
  unfold uN
  rw [if_neg (by omega), if_pos (by omega)]
theorem uN_n {nd im : Nat → Nat} {n k : Nat} {it nx pv P B : Value} : uN nd im n k it nx pv P B (k + 1) = (nd (k + 1), .inl (16, [.ref (im (k + 1)), va_rf (if k + 1 + 1 < n then some (nd (k + 1 + 1)) else none), B])) := by
  unfold uN
  rw [if_neg (by omega), if_neg (by omega), if_pos rfl]
theorem uN_ok {nd im : Nat → Nat} {n k : Nat} {it nx pv it' nx' pv' P B : Value} {j : Nat} (h : j ≠ k) : uN nd im n k it' nx' pv' P B j = uN nd im n k it nx pv P B j := by
  unfold uN
  rw [if_neg h, if_neg h]
theorem uN_op {nd im : Nat → Nat} {n k : Nat} {it nx pv P P' B : Value} {j : Nat} (h : j ≠ k - 1) (h0 : 0 < k) : uN nd im n k it nx pv P' B j = uN nd im n k it nx pv P B j := by
  unfold uN
  by_cases e : j = k
  · rw [if_pos e, if_pos e]
  · rw [if_neg e, if_neg e, if_neg (show ¬ j + 1 = k by omega), if_neg (show ¬ j + 1 = k by omega)]
theorem uN_on {nd im : Nat → Nat} {n k : Nat} {it nx pv P B B' : Value} {j : Nat} (h : j ≠ k + 1) : uN nd im n k it nx pv P B' j = uN nd im n k it nx pv P B j := by
  unfold uN
  by_cases e : j = k
  · rw [if_pos e, if_pos e]
  · by_cases e2 : j + 1 = k
    · rw [if_neg e, if_neg e, if_pos e2, if_pos e2]
    · rw [if_neg e, if_neg e, if_neg e2, if_neg e2, if_neg h, if_neg h]
theorem uN_0 {nd im : Nat → Nat} {n k : Nat} (hk : k < n) : llS nd im n = mp (uN nd im n k (.ref (im k)) (va_rf (if k + 1 < n then some (nd (k + 1)) else none)) (va_rf (if 0 < k then some (nd (k - 1)) else none)) (.ref (nd k)) (.ref (nd k))) n := by
  unfold llS
  refine mp_eq fun j hj => ?_
  unfold uN
  by_cases e : j = k
  · subst e
    rw [if_pos rfl]
  · by_cases e2 : j + 1 = k
    · subst e2
      rw [if_neg e, if_pos rfl]
      unfold llN
      rw [if_pos hk]
      rfl
    · by_cases e3 : j = k + 1
      · subst e3
        rw [if_neg e, if_neg e2, if_pos rfl]
        unfold llN
        rw [if_pos (show 0 < k + 1 by omega), Nat.add_sub_cancel]
        rfl
      · rw [if_neg e, if_neg e2, if_neg e3]
theorem uN_end {nd im : Nat → Nat} {n k : Nat} {it nx pv : Value} (hk : k < n) : mpo (uN nd im n k it nx pv (va_rf (if k + 1 < n then some (nd (k + 1)) else none)) (va_rf (if 0 < k then some (nd (k - 1)) else none))) n k = llS (fun j => nd (sk k j)) (fun j => im (sk k j)) (n - 1) := by
  refine mpo_del hk fun j hj => ?_
  unfold llN
  dsimp only
  by_cases h : j < k
  · have s0 : sk k j = j := if_pos h
    have s2 : sk k (j - 1) = j - 1 := if_pos (by omega)
    rw [s0, s2]
    unfold uN
    rw [if_neg (show ¬ j = k by omega)]
    by_cases e : j + 1 = k
    · have s1 : sk k (j + 1) = k + 1 := by
        unfold sk
        rw [if_neg (by omega)]
        omega
      rw [if_pos e, s1]
      by_cases c : k + 1 < n
      · rw [if_pos (show j + 1 < n - 1 by omega), if_pos c]
      · rw [if_neg (show ¬ j + 1 < n - 1 by omega), if_neg c]
    · have s1 : sk k (j + 1) = j + 1 := if_pos (by omega)
      rw [if_neg e, if_neg (show ¬ j = k + 1 by omega), s1]
      unfold llN
      rw [if_pos (show j + 1 < n - 1 by omega), if_pos (show j + 1 < n by omega)]
  · have s0 : sk k j = j + 1 := if_neg h
    have s1 : sk k (j + 1) = j + 1 + 1 := if_neg (by omega)
    rw [s0, s1]
    unfold uN
    rw [if_neg (show ¬ j + 1 = k by omega), if_neg (show ¬ j + 1 + 1 = k by omega)]
    by_cases e : j = k
    · subst e
      rw [if_pos rfl]
      by_cases c : j + 1 < n - 1
      · rw [if_pos c, if_pos (show j + 1 + 1 < n by omega)]
        by_cases z : 0 < j
        · rw [if_pos z, if_pos z, show sk j (j - 1) = j - 1 from if_pos (by omega)]
        · rw [if_neg z, if_neg z]
      · rw [if_neg c, if_neg (show ¬ j + 1 + 1 < n by omega)]
        by_cases z : 0 < j
        · rw [if_pos z, if_pos z, show sk j (j - 1) = j - 1 from if_pos (by omega)]
        · rw [if_neg z, if_neg z]
    · have s2 : sk k (j - 1) = j := by
        unfold sk
        rw [if_neg (by omega)]
        omega
      rw [if_neg (show ¬ j + 1 = k + 1 by omega), s2]
      unfold llN
      rw [if_pos (show 0 < j by omega), if_pos (show 0 < j + 1 by omega), Nat.add_sub_cancel]
      by_cases c : j + 1 < n - 1
      · rw [if_pos c, if_pos (show j + 1 + 1 < n by omega)]
      · rw [if_neg c, if_neg (show ¬ j + 1 + 1 < n by omega)]
theorem uN_fix {nd im : Nat → Nat} {n k : Nat} {it nx pv P P' B B' : Value} (hP : 0 < k → P = P') (hB : k + 1 < n → B = B') : mp (uN nd im n k it nx pv P B) n = mp (uN nd im n k it nx pv P' B') n := by
  refine mp_eq fun j hj => ?_
  unfold uN
  by_cases e : j = k
  · rw [if_pos e, if_pos e]
  · by_cases e2 : j + 1 = k
    · rw [if_neg e, if_neg e, if_pos e2, if_pos e2, hP (by omega)]
    · by_cases e3 : j = k + 1
      · rw [if_neg e, if_neg e, if_neg e2, if_neg e2, if_pos e3, if_pos e3, hB (by omega)]
      · rw [if_neg e, if_neg e, if_neg e2, if_neg e2, if_neg e3, if_neg e3]
theorem un_F {nd : Nat → Nat} {n k : Nat} (hk : k < n) : llF (fun j => nd (sk k j)) (n - 1) = if 0 < k then llF nd n else va_rf (if k + 1 < n then some (nd (k + 1)) else none) := by
  unfold llF
  by_cases h : 0 < k
  · rw [if_pos h, if_pos (show 0 < n - 1 by omega), if_pos (show 0 < n by omega)]
    dsimp only
    rw [show sk k 0 = 0 from if_pos h]
  · rw [if_neg h]
    by_cases c : k + 1 < n
    · rw [if_pos c, if_pos (show 0 < n - 1 by omega)]
      dsimp only
      rw [show sk k 0 = k + 1 by unfold sk; rw [if_neg h]; omega]
    · rw [if_neg c, if_neg (show ¬ 0 < n - 1 by omega)]
theorem un_L {nd : Nat → Nat} {n k : Nat} (hk : k < n) : llL (fun j => nd (sk k j)) (n - 1) = if k + 1 < n then llL nd n else va_rf (if 0 < k then some (nd (k - 1)) else none) := by
  unfold llL
  by_cases h : k + 1 < n
  · rw [if_pos h, if_pos (show 0 < n - 1 by omega), if_pos (show 0 < n by omega)]
    dsimp only
    rw [show sk k (n - 1 - 1) = n - 1 by unfold sk; rw [if_neg (by omega)]; omega]
  · rw [if_neg h]
    by_cases c : 0 < k
    · rw [if_pos c, if_pos (show 0 < n - 1 by omega)]
      dsimp only
      rw [show sk k (n - 1 - 1) = k - 1 by unfold sk; rw [if_pos (by omega)]; omega]
    · rw [if_neg c, if_neg (show ¬ 0 < n - 1 by omega)]

set_option maxHeartbeats 4000000 in
theorem ct_J19_unlink {l : Launch} (hl : l.stackTraces = false) {g : gg_G}  {h n1 k1 : Nat} {mc1 : Int32} {nd im : Nat → Nat} (hk : k1 < n1) (hn : n1 ≤ 1000) : gg_C l g yJ19_unlink (ws_ yJ19_unlink cJ19_unlink 5 (some (.object "java/lang/Object"))) { frames := 0, cells := 0, slots := 0, locals := 0 } [.ref h, .ref (nd k1)] [] [[(h, .inl (15, [.int mc1, .int (nI n1), llF nd n1, llL nd n1]))], (llS nd im n1)] (fun vv CC => vv = some (.ref (im k1)) ∧ CC = [[(h, .inl (15, [.int (mc1 + 1), .int (nI (n1 - 1)), llF (fun j => nd (sk k1 j)) (n1 - 1), llL (fun j => nd (sk k1 j)) (n1 - 1)]))], (llS (fun j => nd (sk k1 j)) (fun j => im (sk k1 j)) (n1 - 1))]) gg_no := by
  refine gg_of (lv := [_, _, _, _, _]) (by decide) hl (Nat.le_of_ble_eq_true rfl) rfl ?_
  intro p e R s m args below meth c A Q hRf hRl hRc hRs E Fn hnm hex
  by_cases hz : 0 < k1
  · by_cases hy : k1 + 1 < n1
    · refine gg_aload_n (pc := 0) E dJ19_unlink_0 rfl rfl ?_
      refine gg_get (pc := 1) E ck_J20 0 q768 rfl (by decide) dJ19_unlink_1 (gg_j 1 rfl (mp_mem (by omega))) rfl ?_
      refine gg_astore_n (lv' := [_, _, _, _, _]) (pc := 4) E dJ19_unlink_4 rfl (Nat.le_of_ble_eq_true rfl) rfl rfl ?_
      refine gg_aload_n (pc := 5) E dJ19_unlink_5 rfl rfl ?_
      refine gg_get (pc := 6) E ck_J20 1 q771 rfl (by decide) dJ19_unlink_6 (gg_j 1 rfl (mp_mem (by omega))) rfl ?_
      refine gg_topV (show va_rf (if k1 + 1 < n1 then some (nd (k1 + 1)) else none) = .ref (nd (k1 + 1)) from by rw [if_pos hy]; rfl) ?_
      refine gg_astore_n (lv' := [_, _, _, _, _]) (pc := 9) E dJ19_unlink_9 rfl (Nat.le_of_ble_eq_true rfl) rfl rfl ?_
      refine gg_aload_n (pc := 10) E dJ19_unlink_10 rfl rfl ?_
      refine gg_get (pc := 11) E ck_J20 2 q773 rfl (by decide) dJ19_unlink_11 (gg_j 1 rfl (mp_mem (by omega))) rfl ?_
      refine gg_topV (show va_rf (if 0 < k1 then some (nd (k1 - 1)) else none) = .ref (nd (k1 - 1)) from by rw [if_pos hz]; rfl) ?_
      refine gg_astore (lv' := [_, _, _, _, _]) (pc := 14) E dJ19_unlink_14 (Nat.le_of_ble_eq_true rfl) rfl rfl ?_
      refine gg_seg (S' := mp (uN nd im n1 k1 (.ref (im k1)) (va_rf (if k1 + 1 < n1 then some (nd (k1 + 1)) else none)) (va_rf (if 0 < k1 then some (nd (k1 - 1)) else none)) (.ref (nd k1)) (.ref (nd k1))) n1) (M' := [_, _]) 1 rfl (uN_0 hk) rfl ?_
      refine gg_aload (pc := 16) E dJ19_unlink_16 rfl ?_
      refine gg_ifnonnull (tgt := 29) (pc := 18) E dJ19_unlink_18 (by decide) ?_
      refine gg_aload (pc := 29) E dJ19_unlink_29 rfl ?_
      refine gg_aload_n (pc := 31) E dJ19_unlink_31 rfl rfl ?_
      refine gg_putS (F := (uN nd im n1 k1 (.ref (im k1)) (va_rf (if k1 + 1 < n1 then some (nd (k1 + 1)) else none)) (va_rf (if 0 < k1 then some (nd (k1 - 1)) else none)) (.ref (nd k1)) (.ref (nd k1)))) (F' := (uN nd im n1 k1 (.ref (im k1)) (va_rf (if k1 + 1 < n1 then some (nd (k1 + 1)) else none)) (va_rf (if 0 < k1 then some (nd (k1 - 1)) else none)) (.ref (nd (k1 + 1))) (.ref (nd k1)))) (n := n1) (i0 := (k1 - 1)) (M' := [_, _]) (pc := 32) E ck_J20 1 q771 rfl (by decide) dJ19_unlink_32 1 rfl (by omega) (uN_p hz) rfl rfl rfl (Nat.le_of_ble_eq_true rfl) rfl (uN_p hz) (fun j _ hne => uN_op hne hz) rfl ?_
      refine gg_aload_n (pc := 35) E dJ19_unlink_35 rfl rfl ?_
      refine gg_null (pc := 36) E dJ19_unlink_36 ?_
      refine gg_putS (F := (uN nd im n1 k1 (.ref (im k1)) (va_rf (if k1 + 1 < n1 then some (nd (k1 + 1)) else none)) (va_rf (if 0 < k1 then some (nd (k1 - 1)) else none)) (.ref (nd (k1 + 1))) (.ref (nd k1)))) (F' := (uN nd im n1 k1 (.ref (im k1)) (va_rf (if k1 + 1 < n1 then some (nd (k1 + 1)) else none)) .null (.ref (nd (k1 + 1))) (.ref (nd k1)))) (n := n1) (i0 := k1) (M' := [_, _]) (pc := 37) E ck_J20 2 q773 rfl (by decide) dJ19_unlink_37 1 rfl (by omega) (uN_k) rfl rfl rfl (Nat.le_of_ble_eq_true rfl) rfl (uN_k) (fun j _ hne => uN_ok hne) rfl ?_
      refine gg_aload_n (pc := 40) E dJ19_unlink_40 rfl rfl ?_
      refine gg_ifnonnull (tgt := 53) (pc := 41) E dJ19_unlink_41 (by decide) ?_
      refine gg_aload_n (pc := 53) E dJ19_unlink_53 rfl rfl ?_
      refine gg_aload (pc := 54) E dJ19_unlink_54 rfl ?_
      refine gg_putS (F := (uN nd im n1 k1 (.ref (im k1)) (va_rf (if k1 + 1 < n1 then some (nd (k1 + 1)) else none)) .null (.ref (nd (k1 + 1))) (.ref (nd k1)))) (F' := (uN nd im n1 k1 (.ref (im k1)) (va_rf (if k1 + 1 < n1 then some (nd (k1 + 1)) else none)) .null (.ref (nd (k1 + 1))) (.ref (nd (k1 - 1))))) (n := n1) (i0 := (k1 + 1)) (M' := [_, _]) (pc := 56) E ck_J20 2 q773 rfl (by decide) dJ19_unlink_56 1 rfl (by omega) (uN_n) rfl rfl rfl (Nat.le_of_ble_eq_true rfl) rfl (uN_n) (fun j _ hne => uN_on hne) rfl ?_
      refine gg_aload_n (pc := 59) E dJ19_unlink_59 rfl rfl ?_
      refine gg_null (pc := 60) E dJ19_unlink_60 ?_
      refine gg_putS (F := (uN nd im n1 k1 (.ref (im k1)) (va_rf (if k1 + 1 < n1 then some (nd (k1 + 1)) else none)) .null (.ref (nd (k1 + 1))) (.ref (nd (k1 - 1))))) (F' := (uN nd im n1 k1 (.ref (im k1)) .null .null (.ref (nd (k1 + 1))) (.ref (nd (k1 - 1))))) (n := n1) (i0 := k1) (M' := [_, _]) (pc := 61) E ck_J20 1 q771 rfl (by decide) dJ19_unlink_61 1 rfl (by omega) (uN_k) rfl rfl rfl (Nat.le_of_ble_eq_true rfl) rfl (uN_k) (fun j _ hne => uN_ok hne) rfl ?_
      refine gg_aload_n (pc := 64) E dJ19_unlink_64 rfl rfl ?_
      refine gg_null (pc := 65) E dJ19_unlink_65 ?_
      refine gg_putS (F := (uN nd im n1 k1 (.ref (im k1)) .null .null (.ref (nd (k1 + 1))) (.ref (nd (k1 - 1))))) (F' := (uN nd im n1 k1 .null .null .null (.ref (nd (k1 + 1))) (.ref (nd (k1 - 1))))) (n := n1) (i0 := k1) (M' := [_, _]) (pc := 66) E ck_J20 0 q768 rfl (by decide) dJ19_unlink_66 1 rfl (by omega) (uN_k) rfl rfl rfl (Nat.le_of_ble_eq_true rfl) rfl (uN_k) (fun j _ hne => uN_ok hne) rfl ?_
      refine gg_aload_n (pc := 69) E dJ19_unlink_69 rfl rfl ?_
      refine gg_dup (pc := 70) E dJ19_unlink_70 rfl ?_
      refine gg_get (pc := 71) E ck_J19 1 q586 rfl (by decide) dJ19_unlink_71 (gg_i 0 rfl) rfl ?_
      refine gg_iconst (v := 1) (pc := 74) E dJ19_unlink_74 (by decide) ?_
      refine gg_isubN (pc := 75) E n1 1 rfl rfl (by omega) dJ19_unlink_75 ?_
      refine gg_put (fs' := [_, _, _, _]) (M' := [_, _]) (pc := 76) E ck_J19 1 q586 rfl (by decide) dJ19_unlink_76 0 rfl rfl (rfl) rfl (Nat.le_of_ble_eq_true rfl) rfl rfl ?_
      refine gg_aload_n (pc := 79) E dJ19_unlink_79 rfl rfl ?_
      refine gg_dup (pc := 80) E dJ19_unlink_80 rfl ?_
      refine gg_getU (pc := 81) E ck_J19 0 q568 q564 rfl (by decide) dJ19_unlink_81 (gg_i 0 rfl) rfl ?_
      refine gg_iconst (v := 1) (pc := 84) E dJ19_unlink_84 (by decide) ?_
      refine gg_iadd (pc := 85) E dJ19_unlink_85 ?_
      refine gg_putU (fs' := [_, _, _, _]) (M' := [_, _]) (pc := 86) E ck_J19 0 q568 q564 rfl (by decide) dJ19_unlink_86 0 rfl rfl (rfl) rfl (Nat.le_of_ble_eq_true rfl) rfl rfl ?_
      refine gg_seg (S' := mp (uN nd im n1 k1 .null .null .null (va_rf (if k1 + 1 < n1 then some (nd (k1 + 1)) else none)) (va_rf (if 0 < k1 then some (nd (k1 - 1)) else none))) n1) (M' := [_, _]) 1 rfl (uN_fix (fun h0 => by rw [if_pos hy] <;> rfl) (fun h0 => by rw [if_pos hz] <;> rfl)) rfl ?_
      refine gg_opn (k := k1) (M' := [_, _, _]) 1 rfl hk rfl ?_
      refine gg_let (M1 := [_, _]) (x := [(uN nd im n1 k1 .null .null .null (va_rf (if k1 + 1 < n1 then some (nd (k1 + 1)) else none)) (va_rf (if 0 < k1 then some (nd (k1 - 1)) else none))) k1]) rfl rfl ?_
      refine gg_seg (S' := llS (fun j => nd (sk k1 j)) (fun j => im (sk k1 j)) (n1 - 1)) (M' := [_, _]) 1 rfl (uN_end hk) rfl ?_
      refine gg_aload_n (pc := 89) E dJ19_unlink_89 rfl rfl ?_
      refine gg_aret (pc := 90) E Fn rfl (Or.inl ⟨_, rfl⟩) (Or.inr ⟨_, rfl⟩) dJ19_unlink_90 (by first | exact Nat.le_of_ble_eq_true rfl | (dsimp only; omega)) (by first | exact Nat.le_of_ble_eq_true rfl | (dsimp only; omega)) ?_
      exact ⟨rfl, by rw [un_F hk, un_L hk, if_pos hz, if_pos hy] <;> rfl⟩
    · refine gg_aload_n (pc := 0) E dJ19_unlink_0 rfl rfl ?_
      refine gg_get (pc := 1) E ck_J20 0 q768 rfl (by decide) dJ19_unlink_1 (gg_j 1 rfl (mp_mem (by omega))) rfl ?_
      refine gg_astore_n (lv' := [_, _, _, _, _]) (pc := 4) E dJ19_unlink_4 rfl (Nat.le_of_ble_eq_true rfl) rfl rfl ?_
      refine gg_aload_n (pc := 5) E dJ19_unlink_5 rfl rfl ?_
      refine gg_get (pc := 6) E ck_J20 1 q771 rfl (by decide) dJ19_unlink_6 (gg_j 1 rfl (mp_mem (by omega))) rfl ?_
      refine gg_topV (show va_rf (if k1 + 1 < n1 then some (nd (k1 + 1)) else none) = .null from by rw [if_neg hy]; rfl) ?_
      refine gg_astore_nN (lv' := [_, _, _, _, _]) (pc := 9) E dJ19_unlink_9 rfl (Nat.le_of_ble_eq_true rfl) rfl rfl ?_
      refine gg_aload_n (pc := 10) E dJ19_unlink_10 rfl rfl ?_
      refine gg_get (pc := 11) E ck_J20 2 q773 rfl (by decide) dJ19_unlink_11 (gg_j 1 rfl (mp_mem (by omega))) rfl ?_
      refine gg_topV (show va_rf (if 0 < k1 then some (nd (k1 - 1)) else none) = .ref (nd (k1 - 1)) from by rw [if_pos hz]; rfl) ?_
      refine gg_astore (lv' := [_, _, _, _, _]) (pc := 14) E dJ19_unlink_14 (Nat.le_of_ble_eq_true rfl) rfl rfl ?_
      refine gg_seg (S' := mp (uN nd im n1 k1 (.ref (im k1)) (va_rf (if k1 + 1 < n1 then some (nd (k1 + 1)) else none)) (va_rf (if 0 < k1 then some (nd (k1 - 1)) else none)) (.ref (nd k1)) (.ref (nd k1))) n1) (M' := [_, _]) 1 rfl (uN_0 hk) rfl ?_
      refine gg_aload (pc := 16) E dJ19_unlink_16 rfl ?_
      refine gg_ifnonnull (tgt := 29) (pc := 18) E dJ19_unlink_18 (by decide) ?_
      refine gg_aload (pc := 29) E dJ19_unlink_29 rfl ?_
      refine gg_aload_nN (pc := 31) E dJ19_unlink_31 rfl rfl ?_
      refine gg_putS (F := (uN nd im n1 k1 (.ref (im k1)) (va_rf (if k1 + 1 < n1 then some (nd (k1 + 1)) else none)) (va_rf (if 0 < k1 then some (nd (k1 - 1)) else none)) (.ref (nd k1)) (.ref (nd k1)))) (F' := (uN nd im n1 k1 (.ref (im k1)) (va_rf (if k1 + 1 < n1 then some (nd (k1 + 1)) else none)) (va_rf (if 0 < k1 then some (nd (k1 - 1)) else none)) .null (.ref (nd k1)))) (n := n1) (i0 := (k1 - 1)) (M' := [_, _]) (pc := 32) E ck_J20 1 q771 rfl (by decide) dJ19_unlink_32 1 rfl (by omega) (uN_p hz) rfl rfl rfl (Nat.le_of_ble_eq_true rfl) rfl (uN_p hz) (fun j _ hne => uN_op hne hz) rfl ?_
      refine gg_aload_n (pc := 35) E dJ19_unlink_35 rfl rfl ?_
      refine gg_null (pc := 36) E dJ19_unlink_36 ?_
      refine gg_putS (F := (uN nd im n1 k1 (.ref (im k1)) (va_rf (if k1 + 1 < n1 then some (nd (k1 + 1)) else none)) (va_rf (if 0 < k1 then some (nd (k1 - 1)) else none)) .null (.ref (nd k1)))) (F' := (uN nd im n1 k1 (.ref (im k1)) (va_rf (if k1 + 1 < n1 then some (nd (k1 + 1)) else none)) .null .null (.ref (nd k1)))) (n := n1) (i0 := k1) (M' := [_, _]) (pc := 37) E ck_J20 2 q773 rfl (by decide) dJ19_unlink_37 1 rfl (by omega) (uN_k) rfl rfl rfl (Nat.le_of_ble_eq_true rfl) rfl (uN_k) (fun j _ hne => uN_ok hne) rfl ?_
      refine gg_aload_nN (pc := 40) E dJ19_unlink_40 rfl rfl ?_
      refine gg_ifnonnullN (pc := 41) E dJ19_unlink_41 ?_
      refine gg_aload_n (pc := 44) E dJ19_unlink_44 rfl rfl ?_
      refine gg_aload (pc := 45) E dJ19_unlink_45 rfl ?_
      refine gg_put (fs' := [_, _, _, _]) (M' := [_, _]) (pc := 47) E ck_J19 3 q589 rfl (by decide) dJ19_unlink_47 0 rfl rfl (rfl) rfl (Nat.le_of_ble_eq_true rfl) rfl rfl ?_
      refine gg_goto (tgt := 64) (pc := 50) E dJ19_unlink_50 (by decide) ?_
      refine gg_aload_n (pc := 64) E dJ19_unlink_64 rfl rfl ?_
      refine gg_null (pc := 65) E dJ19_unlink_65 ?_
      refine gg_putS (F := (uN nd im n1 k1 (.ref (im k1)) (va_rf (if k1 + 1 < n1 then some (nd (k1 + 1)) else none)) .null .null (.ref (nd k1)))) (F' := (uN nd im n1 k1 .null (va_rf (if k1 + 1 < n1 then some (nd (k1 + 1)) else none)) .null .null (.ref (nd k1)))) (n := n1) (i0 := k1) (M' := [_, _]) (pc := 66) E ck_J20 0 q768 rfl (by decide) dJ19_unlink_66 1 rfl (by omega) (uN_k) rfl rfl rfl (Nat.le_of_ble_eq_true rfl) rfl (uN_k) (fun j _ hne => uN_ok hne) rfl ?_
      refine gg_aload_n (pc := 69) E dJ19_unlink_69 rfl rfl ?_
      refine gg_dup (pc := 70) E dJ19_unlink_70 rfl ?_
      refine gg_get (pc := 71) E ck_J19 1 q586 rfl (by decide) dJ19_unlink_71 (gg_i 0 rfl) rfl ?_
      refine gg_iconst (v := 1) (pc := 74) E dJ19_unlink_74 (by decide) ?_
      refine gg_isubN (pc := 75) E n1 1 rfl rfl (by omega) dJ19_unlink_75 ?_
      refine gg_put (fs' := [_, _, _, _]) (M' := [_, _]) (pc := 76) E ck_J19 1 q586 rfl (by decide) dJ19_unlink_76 0 rfl rfl (rfl) rfl (Nat.le_of_ble_eq_true rfl) rfl rfl ?_
      refine gg_aload_n (pc := 79) E dJ19_unlink_79 rfl rfl ?_
      refine gg_dup (pc := 80) E dJ19_unlink_80 rfl ?_
      refine gg_getU (pc := 81) E ck_J19 0 q568 q564 rfl (by decide) dJ19_unlink_81 (gg_i 0 rfl) rfl ?_
      refine gg_iconst (v := 1) (pc := 84) E dJ19_unlink_84 (by decide) ?_
      refine gg_iadd (pc := 85) E dJ19_unlink_85 ?_
      refine gg_putU (fs' := [_, _, _, _]) (M' := [_, _]) (pc := 86) E ck_J19 0 q568 q564 rfl (by decide) dJ19_unlink_86 0 rfl rfl (rfl) rfl (Nat.le_of_ble_eq_true rfl) rfl rfl ?_
      refine gg_seg (S' := mp (uN nd im n1 k1 .null (va_rf (if k1 + 1 < n1 then some (nd (k1 + 1)) else none)) .null (va_rf (if k1 + 1 < n1 then some (nd (k1 + 1)) else none)) (va_rf (if 0 < k1 then some (nd (k1 - 1)) else none))) n1) (M' := [_, _]) 1 rfl (uN_fix (fun h0 => by rw [if_neg hy] <;> rfl) (fun h0 => absurd h0 hy)) rfl ?_
      refine gg_opn (k := k1) (M' := [_, _, _]) 1 rfl hk rfl ?_
      refine gg_let (M1 := [_, _]) (x := [(uN nd im n1 k1 .null (va_rf (if k1 + 1 < n1 then some (nd (k1 + 1)) else none)) .null (va_rf (if k1 + 1 < n1 then some (nd (k1 + 1)) else none)) (va_rf (if 0 < k1 then some (nd (k1 - 1)) else none))) k1]) rfl rfl ?_
      refine gg_seg (S' := llS (fun j => nd (sk k1 j)) (fun j => im (sk k1 j)) (n1 - 1)) (M' := [_, _]) 1 rfl (uN_end hk) rfl ?_
      refine gg_aload_n (pc := 89) E dJ19_unlink_89 rfl rfl ?_
      refine gg_aret (pc := 90) E Fn rfl (Or.inl ⟨_, rfl⟩) (Or.inr ⟨_, rfl⟩) dJ19_unlink_90 (by first | exact Nat.le_of_ble_eq_true rfl | (dsimp only; omega)) (by first | exact Nat.le_of_ble_eq_true rfl | (dsimp only; omega)) ?_
      exact ⟨rfl, by rw [un_F hk, un_L hk, if_pos hz, if_neg hy, if_pos hz] <;> rfl⟩
  · by_cases hy : k1 + 1 < n1
    · refine gg_aload_n (pc := 0) E dJ19_unlink_0 rfl rfl ?_
      refine gg_get (pc := 1) E ck_J20 0 q768 rfl (by decide) dJ19_unlink_1 (gg_j 1 rfl (mp_mem (by omega))) rfl ?_
      refine gg_astore_n (lv' := [_, _, _, _, _]) (pc := 4) E dJ19_unlink_4 rfl (Nat.le_of_ble_eq_true rfl) rfl rfl ?_
      refine gg_aload_n (pc := 5) E dJ19_unlink_5 rfl rfl ?_
      refine gg_get (pc := 6) E ck_J20 1 q771 rfl (by decide) dJ19_unlink_6 (gg_j 1 rfl (mp_mem (by omega))) rfl ?_
      refine gg_topV (show va_rf (if k1 + 1 < n1 then some (nd (k1 + 1)) else none) = .ref (nd (k1 + 1)) from by rw [if_pos hy]; rfl) ?_
      refine gg_astore_n (lv' := [_, _, _, _, _]) (pc := 9) E dJ19_unlink_9 rfl (Nat.le_of_ble_eq_true rfl) rfl rfl ?_
      refine gg_aload_n (pc := 10) E dJ19_unlink_10 rfl rfl ?_
      refine gg_get (pc := 11) E ck_J20 2 q773 rfl (by decide) dJ19_unlink_11 (gg_j 1 rfl (mp_mem (by omega))) rfl ?_
      refine gg_topV (show va_rf (if 0 < k1 then some (nd (k1 - 1)) else none) = .null from by rw [if_neg hz]; rfl) ?_
      refine gg_astoreN (lv' := [_, _, _, _, _]) (pc := 14) E dJ19_unlink_14 (Nat.le_of_ble_eq_true rfl) rfl rfl ?_
      refine gg_seg (S' := mp (uN nd im n1 k1 (.ref (im k1)) (va_rf (if k1 + 1 < n1 then some (nd (k1 + 1)) else none)) (va_rf (if 0 < k1 then some (nd (k1 - 1)) else none)) (.ref (nd k1)) (.ref (nd k1))) n1) (M' := [_, _]) 1 rfl (uN_0 hk) rfl ?_
      refine gg_aloadN (pc := 16) E dJ19_unlink_16 rfl ?_
      refine gg_ifnonnullN (pc := 18) E dJ19_unlink_18 ?_
      refine gg_aload_n (pc := 21) E dJ19_unlink_21 rfl rfl ?_
      refine gg_aload_n (pc := 22) E dJ19_unlink_22 rfl rfl ?_
      refine gg_put (fs' := [_, _, _, _]) (M' := [_, _]) (pc := 23) E ck_J19 2 q588 rfl (by decide) dJ19_unlink_23 0 rfl rfl (rfl) rfl (Nat.le_of_ble_eq_true rfl) rfl rfl ?_
      refine gg_goto (tgt := 40) (pc := 26) E dJ19_unlink_26 (by decide) ?_
      refine gg_aload_n (pc := 40) E dJ19_unlink_40 rfl rfl ?_
      refine gg_ifnonnull (tgt := 53) (pc := 41) E dJ19_unlink_41 (by decide) ?_
      refine gg_aload_n (pc := 53) E dJ19_unlink_53 rfl rfl ?_
      refine gg_aloadN (pc := 54) E dJ19_unlink_54 rfl ?_
      refine gg_putS (F := (uN nd im n1 k1 (.ref (im k1)) (va_rf (if k1 + 1 < n1 then some (nd (k1 + 1)) else none)) (va_rf (if 0 < k1 then some (nd (k1 - 1)) else none)) (.ref (nd k1)) (.ref (nd k1)))) (F' := (uN nd im n1 k1 (.ref (im k1)) (va_rf (if k1 + 1 < n1 then some (nd (k1 + 1)) else none)) (va_rf (if 0 < k1 then some (nd (k1 - 1)) else none)) (.ref (nd k1)) .null)) (n := n1) (i0 := (k1 + 1)) (M' := [_, _]) (pc := 56) E ck_J20 2 q773 rfl (by decide) dJ19_unlink_56 1 rfl (by omega) (uN_n) rfl rfl rfl (Nat.le_of_ble_eq_true rfl) rfl (uN_n) (fun j _ hne => uN_on hne) rfl ?_
      refine gg_aload_n (pc := 59) E dJ19_unlink_59 rfl rfl ?_
      refine gg_null (pc := 60) E dJ19_unlink_60 ?_
      refine gg_putS (F := (uN nd im n1 k1 (.ref (im k1)) (va_rf (if k1 + 1 < n1 then some (nd (k1 + 1)) else none)) (va_rf (if 0 < k1 then some (nd (k1 - 1)) else none)) (.ref (nd k1)) .null)) (F' := (uN nd im n1 k1 (.ref (im k1)) .null (va_rf (if 0 < k1 then some (nd (k1 - 1)) else none)) (.ref (nd k1)) .null)) (n := n1) (i0 := k1) (M' := [_, _]) (pc := 61) E ck_J20 1 q771 rfl (by decide) dJ19_unlink_61 1 rfl (by omega) (uN_k) rfl rfl rfl (Nat.le_of_ble_eq_true rfl) rfl (uN_k) (fun j _ hne => uN_ok hne) rfl ?_
      refine gg_aload_n (pc := 64) E dJ19_unlink_64 rfl rfl ?_
      refine gg_null (pc := 65) E dJ19_unlink_65 ?_
      refine gg_putS (F := (uN nd im n1 k1 (.ref (im k1)) .null (va_rf (if 0 < k1 then some (nd (k1 - 1)) else none)) (.ref (nd k1)) .null)) (F' := (uN nd im n1 k1 .null .null (va_rf (if 0 < k1 then some (nd (k1 - 1)) else none)) (.ref (nd k1)) .null)) (n := n1) (i0 := k1) (M' := [_, _]) (pc := 66) E ck_J20 0 q768 rfl (by decide) dJ19_unlink_66 1 rfl (by omega) (uN_k) rfl rfl rfl (Nat.le_of_ble_eq_true rfl) rfl (uN_k) (fun j _ hne => uN_ok hne) rfl ?_
      refine gg_aload_n (pc := 69) E dJ19_unlink_69 rfl rfl ?_
      refine gg_dup (pc := 70) E dJ19_unlink_70 rfl ?_
      refine gg_get (pc := 71) E ck_J19 1 q586 rfl (by decide) dJ19_unlink_71 (gg_i 0 rfl) rfl ?_
      refine gg_iconst (v := 1) (pc := 74) E dJ19_unlink_74 (by decide) ?_
      refine gg_isubN (pc := 75) E n1 1 rfl rfl (by omega) dJ19_unlink_75 ?_
      refine gg_put (fs' := [_, _, _, _]) (M' := [_, _]) (pc := 76) E ck_J19 1 q586 rfl (by decide) dJ19_unlink_76 0 rfl rfl (rfl) rfl (Nat.le_of_ble_eq_true rfl) rfl rfl ?_
      refine gg_aload_n (pc := 79) E dJ19_unlink_79 rfl rfl ?_
      refine gg_dup (pc := 80) E dJ19_unlink_80 rfl ?_
      refine gg_getU (pc := 81) E ck_J19 0 q568 q564 rfl (by decide) dJ19_unlink_81 (gg_i 0 rfl) rfl ?_
      refine gg_iconst (v := 1) (pc := 84) E dJ19_unlink_84 (by decide) ?_
      refine gg_iadd (pc := 85) E dJ19_unlink_85 ?_
      refine gg_putU (fs' := [_, _, _, _]) (M' := [_, _]) (pc := 86) E ck_J19 0 q568 q564 rfl (by decide) dJ19_unlink_86 0 rfl rfl (rfl) rfl (Nat.le_of_ble_eq_true rfl) rfl rfl ?_
      refine gg_seg (S' := mp (uN nd im n1 k1 .null .null (va_rf (if 0 < k1 then some (nd (k1 - 1)) else none)) (va_rf (if k1 + 1 < n1 then some (nd (k1 + 1)) else none)) (va_rf (if 0 < k1 then some (nd (k1 - 1)) else none))) n1) (M' := [_, _]) 1 rfl (uN_fix (fun h0 => absurd h0 hz) (fun h0 => by rw [if_neg hz] <;> rfl)) rfl ?_
      refine gg_opn (k := k1) (M' := [_, _, _]) 1 rfl hk rfl ?_
      refine gg_let (M1 := [_, _]) (x := [(uN nd im n1 k1 .null .null (va_rf (if 0 < k1 then some (nd (k1 - 1)) else none)) (va_rf (if k1 + 1 < n1 then some (nd (k1 + 1)) else none)) (va_rf (if 0 < k1 then some (nd (k1 - 1)) else none))) k1]) rfl rfl ?_
      refine gg_seg (S' := llS (fun j => nd (sk k1 j)) (fun j => im (sk k1 j)) (n1 - 1)) (M' := [_, _]) 1 rfl (uN_end hk) rfl ?_
      refine gg_aload_n (pc := 89) E dJ19_unlink_89 rfl rfl ?_
      refine gg_aret (pc := 90) E Fn rfl (Or.inl ⟨_, rfl⟩) (Or.inr ⟨_, rfl⟩) dJ19_unlink_90 (by first | exact Nat.le_of_ble_eq_true rfl | (dsimp only; omega)) (by first | exact Nat.le_of_ble_eq_true rfl | (dsimp only; omega)) ?_
      exact ⟨rfl, by rw [un_F hk, un_L hk, if_neg hz, if_pos hy, if_pos hy] <;> rfl⟩
    · refine gg_aload_n (pc := 0) E dJ19_unlink_0 rfl rfl ?_
      refine gg_get (pc := 1) E ck_J20 0 q768 rfl (by decide) dJ19_unlink_1 (gg_j 1 rfl (mp_mem (by omega))) rfl ?_
      refine gg_astore_n (lv' := [_, _, _, _, _]) (pc := 4) E dJ19_unlink_4 rfl (Nat.le_of_ble_eq_true rfl) rfl rfl ?_
      refine gg_aload_n (pc := 5) E dJ19_unlink_5 rfl rfl ?_
      refine gg_get (pc := 6) E ck_J20 1 q771 rfl (by decide) dJ19_unlink_6 (gg_j 1 rfl (mp_mem (by omega))) rfl ?_
      refine gg_topV (show va_rf (if k1 + 1 < n1 then some (nd (k1 + 1)) else none) = .null from by rw [if_neg hy]; rfl) ?_
      refine gg_astore_nN (lv' := [_, _, _, _, _]) (pc := 9) E dJ19_unlink_9 rfl (Nat.le_of_ble_eq_true rfl) rfl rfl ?_
      refine gg_aload_n (pc := 10) E dJ19_unlink_10 rfl rfl ?_
      refine gg_get (pc := 11) E ck_J20 2 q773 rfl (by decide) dJ19_unlink_11 (gg_j 1 rfl (mp_mem (by omega))) rfl ?_
      refine gg_topV (show va_rf (if 0 < k1 then some (nd (k1 - 1)) else none) = .null from by rw [if_neg hz]; rfl) ?_
      refine gg_astoreN (lv' := [_, _, _, _, _]) (pc := 14) E dJ19_unlink_14 (Nat.le_of_ble_eq_true rfl) rfl rfl ?_
      refine gg_seg (S' := mp (uN nd im n1 k1 (.ref (im k1)) (va_rf (if k1 + 1 < n1 then some (nd (k1 + 1)) else none)) (va_rf (if 0 < k1 then some (nd (k1 - 1)) else none)) (.ref (nd k1)) (.ref (nd k1))) n1) (M' := [_, _]) 1 rfl (uN_0 hk) rfl ?_
      refine gg_aloadN (pc := 16) E dJ19_unlink_16 rfl ?_
      refine gg_ifnonnullN (pc := 18) E dJ19_unlink_18 ?_
      refine gg_aload_n (pc := 21) E dJ19_unlink_21 rfl rfl ?_
      refine gg_aload_nN (pc := 22) E dJ19_unlink_22 rfl rfl ?_
      refine gg_put (fs' := [_, _, _, _]) (M' := [_, _]) (pc := 23) E ck_J19 2 q588 rfl (by decide) dJ19_unlink_23 0 rfl rfl (rfl) rfl (Nat.le_of_ble_eq_true rfl) rfl rfl ?_
      refine gg_goto (tgt := 40) (pc := 26) E dJ19_unlink_26 (by decide) ?_
      refine gg_aload_nN (pc := 40) E dJ19_unlink_40 rfl rfl ?_
      refine gg_ifnonnullN (pc := 41) E dJ19_unlink_41 ?_
      refine gg_aload_n (pc := 44) E dJ19_unlink_44 rfl rfl ?_
      refine gg_aloadN (pc := 45) E dJ19_unlink_45 rfl ?_
      refine gg_put (fs' := [_, _, _, _]) (M' := [_, _]) (pc := 47) E ck_J19 3 q589 rfl (by decide) dJ19_unlink_47 0 rfl rfl (rfl) rfl (Nat.le_of_ble_eq_true rfl) rfl rfl ?_
      refine gg_goto (tgt := 64) (pc := 50) E dJ19_unlink_50 (by decide) ?_
      refine gg_aload_n (pc := 64) E dJ19_unlink_64 rfl rfl ?_
      refine gg_null (pc := 65) E dJ19_unlink_65 ?_
      refine gg_putS (F := (uN nd im n1 k1 (.ref (im k1)) (va_rf (if k1 + 1 < n1 then some (nd (k1 + 1)) else none)) (va_rf (if 0 < k1 then some (nd (k1 - 1)) else none)) (.ref (nd k1)) (.ref (nd k1)))) (F' := (uN nd im n1 k1 .null (va_rf (if k1 + 1 < n1 then some (nd (k1 + 1)) else none)) (va_rf (if 0 < k1 then some (nd (k1 - 1)) else none)) (.ref (nd k1)) (.ref (nd k1)))) (n := n1) (i0 := k1) (M' := [_, _]) (pc := 66) E ck_J20 0 q768 rfl (by decide) dJ19_unlink_66 1 rfl (by omega) (uN_k) rfl rfl rfl (Nat.le_of_ble_eq_true rfl) rfl (uN_k) (fun j _ hne => uN_ok hne) rfl ?_
      refine gg_aload_n (pc := 69) E dJ19_unlink_69 rfl rfl ?_
      refine gg_dup (pc := 70) E dJ19_unlink_70 rfl ?_
      refine gg_get (pc := 71) E ck_J19 1 q586 rfl (by decide) dJ19_unlink_71 (gg_i 0 rfl) rfl ?_
      refine gg_iconst (v := 1) (pc := 74) E dJ19_unlink_74 (by decide) ?_
      refine gg_isubN (pc := 75) E n1 1 rfl rfl (by omega) dJ19_unlink_75 ?_
      refine gg_put (fs' := [_, _, _, _]) (M' := [_, _]) (pc := 76) E ck_J19 1 q586 rfl (by decide) dJ19_unlink_76 0 rfl rfl (rfl) rfl (Nat.le_of_ble_eq_true rfl) rfl rfl ?_
      refine gg_aload_n (pc := 79) E dJ19_unlink_79 rfl rfl ?_
      refine gg_dup (pc := 80) E dJ19_unlink_80 rfl ?_
      refine gg_getU (pc := 81) E ck_J19 0 q568 q564 rfl (by decide) dJ19_unlink_81 (gg_i 0 rfl) rfl ?_
      refine gg_iconst (v := 1) (pc := 84) E dJ19_unlink_84 (by decide) ?_
      refine gg_iadd (pc := 85) E dJ19_unlink_85 ?_
      refine gg_putU (fs' := [_, _, _, _]) (M' := [_, _]) (pc := 86) E ck_J19 0 q568 q564 rfl (by decide) dJ19_unlink_86 0 rfl rfl (rfl) rfl (Nat.le_of_ble_eq_true rfl) rfl rfl ?_
      refine gg_seg (S' := mp (uN nd im n1 k1 .null (va_rf (if k1 + 1 < n1 then some (nd (k1 + 1)) else none)) (va_rf (if 0 < k1 then some (nd (k1 - 1)) else none)) (va_rf (if k1 + 1 < n1 then some (nd (k1 + 1)) else none)) (va_rf (if 0 < k1 then some (nd (k1 - 1)) else none))) n1) (M' := [_, _]) 1 rfl (uN_fix (fun h0 => absurd h0 hz) (fun h0 => absurd h0 hy)) rfl ?_
      refine gg_opn (k := k1) (M' := [_, _, _]) 1 rfl hk rfl ?_
      refine gg_let (M1 := [_, _]) (x := [(uN nd im n1 k1 .null (va_rf (if k1 + 1 < n1 then some (nd (k1 + 1)) else none)) (va_rf (if 0 < k1 then some (nd (k1 - 1)) else none)) (va_rf (if k1 + 1 < n1 then some (nd (k1 + 1)) else none)) (va_rf (if 0 < k1 then some (nd (k1 - 1)) else none))) k1]) rfl rfl ?_
      refine gg_seg (S' := llS (fun j => nd (sk k1 j)) (fun j => im (sk k1 j)) (n1 - 1)) (M' := [_, _]) 1 rfl (uN_end hk) rfl ?_
      refine gg_aload_n (pc := 89) E dJ19_unlink_89 rfl rfl ?_
      refine gg_aret (pc := 90) E Fn rfl (Or.inl ⟨_, rfl⟩) (Or.inr ⟨_, rfl⟩) dJ19_unlink_90 (by first | exact Nat.le_of_ble_eq_true rfl | (dsimp only; omega)) (by first | exact Nat.le_of_ble_eq_true rfl | (dsimp only; omega)) ?_
      exact ⟨rfl, by rw [un_F hk, un_L hk, if_neg hz, if_neg hy, if_neg hy, if_neg hz] <;> rfl⟩

set_option maxRecDepth 100000
/-! ===== the iterator takes a way away; a queue's array grows ===== -/
theorem rm_n {nd : Nat → Nat} {n k : Nat} (hk : k < n) : (if k < n - 1 then some (nd (sk k k)) else none) = if k + 1 < n then some (nd (k + 1)) else none := by
  have e : sk k k = k + 1 := if_neg (Nat.lt_irrefl k)
  rw [e]
  by_cases h : k + 1 < n
  · rw [if_pos h, if_pos (by omega)]
  · rw [if_neg h, if_neg (by omega)]
theorem rm_ne {nd im : Nat → Nat} {n k : Nat} (hk : k < n) (h : ((llS nd im n).map Prod.fst).Nodup) : ¬ (if k + 1 < n then some (nd (k + 1)) else none) = some (nd k) := by
  intro q
  by_cases c : k + 1 < n
  · rw [if_pos c] at q
    have := mp_ndI h c hk (Option.some.inj q)
    omega
  · rw [if_neg c] at q
    cases q
theorem mx_n {a b : Nat} (ha : a < 2 ^ 31) (hb : b < 2 ^ 31) (h : a ≤ b) : mx (nI a) (nI b) = nI b := by
  unfold mx
  by_cases e : a = b
  · subst e
    split <;> rfl
  · rw [if_pos ((nI_ltI ha hb).mpr (by omega))]
theorem mn_n {a b : Nat} (ha : a < 2 ^ 31) (hb : b < 2 ^ 31) (h : a ≤ b) : mn (nI a) (nI b) = nI a := by
  unfold mn
  rw [if_neg (fun q => by have := (nI_ltI hb ha).mp q; omega)]
theorem gr_f {F : Nat → Nat} {n cap : Nat} (h : n = cap) : (fun j => if j < cap then lsF F n j else none) = lsF F n := by
  funext j
  subst h
  unfold lsF
  by_cases q : j < n
  · rw [if_pos q]
  · rw [if_neg q, if_neg q]
set_option maxHeartbeats 4000000 in
theorem ct_J28_remove {l : Launch} (hl : l.stackTraces = false) {g : gg_G}  {h i1 n1 k1 : Nat} {mc1 : Int32} {nd im : Nat → Nat} (hk : k1 < n1) (hn : n1 ≤ 1000) : gg_C l g yJ28_remove (ws_ yJ28_remove cJ28_remove 2 none) { frames := 8, cells := 0, slots := 0, locals := 140 } [.ref i1] [] [[(h, .inl (15, [.int mc1, .int (nI n1), llF nd n1, llL nd n1]))], (llS nd im n1), [(i1, .inl (19, [.ref (nd k1), va_rf (if k1 + 1 < n1 then some (nd (k1 + 1)) else none), .int (nI (k1 + 1)), .int mc1, .ref h]))]] (fun vv CC => vv = none ∧ CC = [[(h, .inl (15, [.int (mc1 + 1), .int (nI (n1 - 1)), llF (fun j => nd (sk k1 j)) (n1 - 1), llL (fun j => nd (sk k1 j)) (n1 - 1)]))], (llS (fun j => nd (sk k1 j)) (fun j => im (sk k1 j)) (n1 - 1)), [(i1, .inl (19, [.null, va_rf (if k1 < n1 - 1 then some ((fun j => nd (sk k1 j)) k1) else none), .int (nI k1), .int (mc1 + 1), .ref h]))]]) gg_no := by
  refine gg_of (lv := [_, _]) (by decide) hl (Nat.le_of_ble_eq_true rfl) rfl ?_
  intro p e R s m args below meth c A Q hRf hRl hRc hRs E Fn hnm hex
  refine gg_dst 1 rfl (fun hnd => ?_)
  refine gg_aload_n (pc := 0) E dJ28_remove_0 rfl rfl ?_
  refine gg_callV (F := [_, _, _]) (As := []) (rest := []) (pc := 1) E ck_J28 (ct_J28_checkForComodification hl ) (cwV 0 E.2.2.2.2.1 (lw_V q1425 q1426 q1427 q188 q1428) rfl rfl rfl (by decide +kernel) ⟨by rw [hRf]; exact Nat.le_of_ble_eq_true rfl, by rw [hRl]; exact Nat.le_of_ble_eq_true rfl⟩) dJ28_remove_1 [] (by decide) rfl rfl (List.forall_mem_cons.mpr ⟨(gg_i 2 rfl), (List.forall_mem_cons.mpr ⟨(gg_i 0 rfl), (fun _ h => by cases h)⟩)⟩) (gg_i 2 rfl) rfl rfl (Nat.le_of_ble_eq_true rfl) (by first | (rw [hRc]; exact Nat.le_of_ble_eq_true rfl) | (rw [hRc]; dsimp only; omega)) (by first | (rw [hRs]; exact Nat.le_of_ble_eq_true rfl) | (rw [hRs]; dsimp only; omega)) ?_ (fun X q C1 h => h.elim)
  rintro _ _ ⟨rfl, rfl⟩
  dsimp only [List.cons_append, List.nil_append, Option.toList]
  refine gg_aload_n (pc := 4) E dJ28_remove_4 rfl rfl ?_
  refine gg_get (pc := 5) E ck_J28 0 q1265 rfl (by decide) dJ28_remove_5 (gg_i 2 rfl) rfl ?_
  refine gg_ifnonnull (tgt := 19) (pc := 8) E dJ28_remove_8 (by decide) ?_
  refine gg_aload_n (pc := 19) E dJ28_remove_19 rfl rfl ?_
  refine gg_get (pc := 20) E ck_J28 0 q1265 rfl (by decide) dJ28_remove_20 (gg_i 2 rfl) rfl ?_
  refine gg_get (pc := 23) E ck_J20 1 q770 rfl (by decide) dJ28_remove_23 (gg_j 1 rfl (mp_mem (by omega))) rfl ?_
  refine gg_astoreV_n (lv' := [_, _]) (pc := 26) E dJ28_remove_26 rfl (Nat.le_of_ble_eq_true rfl) rfl rfl ?_
  refine gg_aload_n (pc := 27) E dJ28_remove_27 rfl rfl ?_
  refine gg_get (pc := 28) E ck_J28 4 q1269 rfl (by decide) dJ28_remove_28 (gg_i 2 rfl) rfl ?_
  refine gg_aload_n (pc := 31) E dJ28_remove_31 rfl rfl ?_
  refine gg_get (pc := 32) E ck_J28 0 q1265 rfl (by decide) dJ28_remove_32 (gg_i 2 rfl) rfl ?_
  refine gg_callV (F := [_]) (As := [_]) (rest := []) (pc := 35) E ck_J19 (ct_J19_unlink hl (hk) (hn)) (cwV 1 E.2.2.2.2.1 (lw_V q2164 q2126 q2127 q173 q2128) rfl rfl rfl (by decide +kernel) ⟨by rw [hRf]; exact Nat.le_of_ble_eq_true rfl, by rw [hRl]; exact Nat.le_of_ble_eq_true rfl⟩) dJ28_remove_35 [0, 1] (by decide) rfl rfl (fun _ h => by cases h) (gg_i 0 rfl) rfl rfl (Nat.le_of_ble_eq_true rfl) (by first | (rw [hRc]; exact Nat.le_of_ble_eq_true rfl) | (rw [hRc]; dsimp only; omega)) (by first | (rw [hRs]; exact Nat.le_of_ble_eq_true rfl) | (rw [hRs]; dsimp only; omega)) ?_ (fun X q C1 h => h.elim)
  rintro _ _ ⟨rfl, rfl⟩
  dsimp only [List.cons_append, List.nil_append, Option.toList]
  refine gg_up1 ?_
  refine gg_up1 ?_
  refine gg_pop (pc := 38) E dJ28_remove_38 rfl ?_
  refine gg_aload_n (pc := 39) E dJ28_remove_39 rfl rfl ?_
  refine gg_get (pc := 40) E ck_J28 1 q1266 rfl (by decide) dJ28_remove_40 (gg_i 2 rfl) rfl ?_
  refine gg_aload_n (pc := 43) E dJ28_remove_43 rfl rfl ?_
  refine gg_get (pc := 44) E ck_J28 0 q1265 rfl (by decide) dJ28_remove_44 (gg_i 2 rfl) rfl ?_
  refine gg_acmp_ne (rx := (if k1 + 1 < n1 then some (nd (k1 + 1)) else none)) (ry := (some (nd k1))) (tgt := 58) (pc := 47) E dJ28_remove_47 (by decide) (fun c47 => ?_) (fun c47 => ?_)
  rotate_left
  · exact absurd c47 (rm_ne hk hnd)
  refine gg_aload_n (pc := 58) E dJ28_remove_58 rfl rfl ?_
  refine gg_dup (pc := 59) E dJ28_remove_59 rfl ?_
  refine gg_get (pc := 60) E ck_J28 2 q1267 rfl (by decide) dJ28_remove_60 (gg_i 2 rfl) rfl ?_
  refine gg_iconst (v := 1) (pc := 63) E dJ28_remove_63 (by decide) ?_
  refine gg_isubN (pc := 64) E (k1 + 1) 1 rfl rfl (by omega) dJ28_remove_64 ?_
  refine gg_put (fs' := [_, _, _, _, _]) (M' := [_, _, _]) (pc := 65) E ck_J28 2 q1267 rfl (by decide) dJ28_remove_65 2 rfl rfl (rfl) rfl (Nat.le_of_ble_eq_true rfl) rfl rfl ?_
  refine gg_aload_n (pc := 68) E dJ28_remove_68 rfl rfl ?_
  refine gg_null (pc := 69) E dJ28_remove_69 ?_
  refine gg_put (fs' := [_, _, _, _, _]) (M' := [_, _, _]) (pc := 70) E ck_J28 0 q1265 rfl (by decide) dJ28_remove_70 2 rfl rfl (rfl) rfl (Nat.le_of_ble_eq_true rfl) rfl rfl ?_
  refine gg_aload_n (pc := 73) E dJ28_remove_73 rfl rfl ?_
  refine gg_dup (pc := 74) E dJ28_remove_74 rfl ?_
  refine gg_get (pc := 75) E ck_J28 3 q1268 rfl (by decide) dJ28_remove_75 (gg_i 2 rfl) rfl ?_
  refine gg_iconst (v := 1) (pc := 78) E dJ28_remove_78 (by decide) ?_
  refine gg_iadd (pc := 79) E dJ28_remove_79 ?_
  refine gg_put (fs' := [_, _, _, _, _]) (M' := [_, _, _]) (pc := 80) E ck_J28 3 q1268 rfl (by decide) dJ28_remove_80 2 rfl rfl (rfl) rfl (Nat.le_of_ble_eq_true rfl) rfl rfl ?_
  refine gg_vret (pc := 83) E Fn rfl dJ28_remove_83 (by first | exact Nat.le_of_ble_eq_true rfl | (dsimp only; omega)) (by first | exact Nat.le_of_ble_eq_true rfl | (dsimp only; omega)) ?_
  refine ⟨rfl, ?_⟩
  dsimp only
  rw [rm_n hk]
  rfl
set_option maxHeartbeats 4000000 in
theorem ct_J11_newLength {l : Launch} (hl : l.stackTraces = false) {g : gg_G}  {n0 g1 p1 : Nat} (h1 : g1 ≤ p1) (h2 : n0 + p1 ≤ 100000) (h3 : 1 ≤ p1) : gg_C l g yJ11_newLength (ws_ yJ11_newLength cJ11_newLength 4 (some .int)) { frames := 1, cells := 0, slots := 0, locals := 21 } [.int (nI n0), .int (nI g1), .int (nI p1)] [] [] (fun vv CC => vv = some (.int (nI (n0 + p1))) ∧ CC = []) gg_no := by
  refine gg_of (lv := [_, _, _, _]) (by decide) hl (Nat.le_of_ble_eq_true rfl) rfl ?_
  intro p e R s m args below meth c A Q hRf hRl hRc hRs E Fn hnm hex
  refine gg_iload_n (pc := 0) E dJ11_newLength_0 rfl rfl ?_
  refine gg_iload_n (pc := 1) E dJ11_newLength_1 rfl rfl ?_
  refine gg_iload_n (pc := 2) E dJ11_newLength_2 rfl rfl ?_
  refine gg_mmax (pc := 3) E q340 q341 q165 q342 dJ11_newLength_3 (by rw [hRf]; exact Nat.le_of_ble_eq_true rfl) (by rw [hRl]; exact Nat.le_of_ble_eq_true rfl) (by rw [hRc]; first | exact Nat.le_of_ble_eq_true rfl | (dsimp only; omega)) (by rw [hRs]; first | exact Nat.le_of_ble_eq_true rfl | (dsimp only; omega)) ?_
  refine gg_topI (y := nI p1) (mx_n (by omega) (by omega) h1) ?_
  refine gg_iaddN (pc := 6) E n0 p1 rfl rfl dJ11_newLength_6 ?_
  refine gg_istore_n (lv' := [_, _, _, _]) (pc := 7) E dJ11_newLength_7 rfl (Nat.le_of_ble_eq_true rfl) rfl rfl ?_
  refine gg_iconst (v := 0) (pc := 8) E dJ11_newLength_8 (by decide) ?_
  refine gg_iload_n (pc := 9) E dJ11_newLength_9 rfl rfl ?_
  refine gg_icmpN_ge (tgt := 21) (pc := 10) E 0 (n0 + p1) rfl rfl (by omega) (by omega) dJ11_newLength_10 (by decide) (fun c10 => ?_) (fun c10 => ?_)
  · exact absurd c10 (by omega)
  refine gg_iload_n (pc := 13) E dJ11_newLength_13 rfl rfl ?_
  refine gg_ldc (pc := 14) E q343 dJ11_newLength_14 ?_
  refine gg_icmp_gt (tgt := 21) (pc := 16) E dJ11_newLength_16 (by decide) (fun c16 => ?_) (fun c16 => ?_)
  · exact absurd c16 (Int32.not_lt.mpr ((nI_leI (b := 2147483639) (by omega) (by omega)).mpr (by omega)))
  refine gg_iload_n (pc := 19) E dJ11_newLength_19 rfl rfl ?_
  refine gg_iret (pc := 20) E Fn rfl (rfl) dJ11_newLength_20 (by first | exact Nat.le_of_ble_eq_true rfl | (dsimp only; omega)) (by first | exact Nat.le_of_ble_eq_true rfl | (dsimp only; omega)) ?_
  exact ⟨rfl, rfl⟩
set_option maxHeartbeats 4000000 in
theorem ct_J13_copyOf_3 {l : Launch} (hl : l.stackTraces = false) {g : gg_G} {ci NN : Nat} {Cn : String} {TT : u_T} {tyy : Nat → FieldType} {b1 n0 k1 : Nat} {f : Nat → Option Nat} {SG : gg_S} (hel : ∀ j y, j < n0 → f j = some y → ∃ fs, ((y, .inl (ci, fs)) : Nat × gg_E) ∈ SG) (ck : gg_ck ci Cn TT NN tyy) (hca : Cond.castable Cn "java/lang/Object" ∈ gg_nw) (h1 : n0 ≤ k1) (h2 : k1 ≤ 100000) : gg_C l g yJ13_copyOf_3 (ws_ yJ13_copyOf_3 cJ13_copyOf_3 4 (some (.array (.object "java/lang/Object")))) { frames := 1, cells := 1, slots := k1, locals := 60 } [.ref b1, .int (nI k1), .ref (g.2.2.1 9)] ([(b1, gg_ao g 4 n0 f)] ++ SG) [] (fun vv CC => ∃ (a3 : Nat), vv = some (.ref a3) ∧ CC = [[(a3, gg_ao g 4 k1 (fun j => if j < n0 then f j else none))]]) gg_no := by
  refine gg_of (lv := [_, _, _, _]) (by decide) hl (Nat.le_of_ble_eq_true rfl) rfl ?_
  intro p e R s m args below meth c A Q hRf hRl hRc hRs E Fn hnm hex
  refine gg_aload_n (pc := 0) E dJ13_copyOf_3_0 rfl rfl ?_
  refine gg_ldcM (pc := 1) E q747 (gg_mi E) dJ13_copyOf_3_1 ?_
  refine gg_acmp_ne (rx := (some (g.2.2.1 9))) (ry := (some (g.2.2.1 9))) (tgt := 13) (pc := 3) E dJ13_copyOf_3_3 (by decide) (fun c3 => ?_) (fun c3 => ?_)
  · exact absurd rfl c3
  refine gg_iload_n (pc := 6) E dJ13_copyOf_3_6 rfl rfl ?_
  refine gg_anew (N := k1) (pc := 7) E 4 rfl q748 nq235 dJ13_copyOf_3_7 (nI_pos (by omega)) (nI_clamp (by omega)) (by omega) (by first | (rw [hRc]; exact Nat.le_of_ble_eq_true rfl) | (rw [hRc]; dsimp only; omega)) (by first | (rw [hRs]; exact Nat.le_of_ble_eq_true rfl) | (rw [hRs]; dsimp only; omega)) (fun _ => rfl) (fun a1 => ?_)
  dsimp only [List.cons_append, List.nil_append]
  refine gg_goto (tgt := 24) (pc := 10) E dJ13_copyOf_3_10 (by decide) ?_
  refine gg_astore_n (lv' := [_, _, _, _]) (pc := 24) E dJ13_copyOf_3_24 rfl (Nat.le_of_ble_eq_true rfl) rfl rfl ?_
  refine gg_aload_n (pc := 25) E dJ13_copyOf_3_25 rfl rfl ?_
  refine gg_iconst (v := 0) (pc := 26) E dJ13_copyOf_3_26 (by decide) ?_
  refine gg_aload_n (pc := 27) E dJ13_copyOf_3_27 rfl rfl ?_
  refine gg_iconst (v := 0) (pc := 28) E dJ13_copyOf_3_28 (by decide) ?_
  refine gg_aload_n (pc := 29) E dJ13_copyOf_3_29 rfl rfl ?_
  refine gg_alen (pc := 30) E 4 rfl dJ13_copyOf_3_30 (gg_r 0 rfl) ?_
  refine gg_iload_n (pc := 31) E dJ13_copyOf_3_31 rfl rfl ?_
  refine gg_mmin (pc := 32) E q358 q359 q165 q360 dJ13_copyOf_3_32 (by rw [hRf]; exact Nat.le_of_ble_eq_true rfl) (by rw [hRl]; exact Nat.le_of_ble_eq_true rfl) (by rw [hRc]; first | exact Nat.le_of_ble_eq_true rfl | (dsimp only; omega)) (by rw [hRs]; first | exact Nat.le_of_ble_eq_true rfl | (dsimp only; omega)) ?_
  refine gg_topI (y := nI n0) (mn_n (by omega) (by omega) h1) ?_
  refine gg_copyR (k := n0) (M' := [_]) (pc := 35) E q361 q363 q362 q167 dJ13_copyOf_3_35 (gg_r 0 rfl) 0 rfl (fun j hj y hy => by obtain ⟨fs, hm⟩ := hel j y hj hy; exact gg_isaO E (gg_rm (List.mem_append_right _ hm)) ck hca) (by omega) (by omega) (by omega) (by rw [hRf]; exact Nat.le_of_ble_eq_true rfl) (by rw [hRl]; exact Nat.le_of_ble_eq_true rfl) rfl ?_
  refine gg_aload_n (pc := 38) E dJ13_copyOf_3_38 rfl rfl ?_
  refine gg_aret (pc := 39) E Fn rfl (Or.inr ⟨_, rfl⟩) (Or.inr ⟨_, rfl⟩) dJ13_copyOf_3_39 (by first | exact Nat.le_of_ble_eq_true rfl | (dsimp only; omega)) (by first | exact Nat.le_of_ble_eq_true rfl | (dsimp only; omega)) ?_
  exact ⟨_, rfl, rfl⟩
set_option maxHeartbeats 4000000 in
theorem ct_J13_copyOf_2 {l : Launch} (hl : l.stackTraces = false) {g : gg_G} {ci NN : Nat} {Cn : String} {TT : u_T} {tyy : Nat → FieldType} {b1 n0 k1 : Nat} {f : Nat → Option Nat} {SG : gg_S} (hel : ∀ j y, j < n0 → f j = some y → ∃ fs, ((y, .inl (ci, fs)) : Nat × gg_E) ∈ SG) (ck : gg_ck ci Cn TT NN tyy) (hca : Cond.castable Cn "java/lang/Object" ∈ gg_nw) (h1 : n0 ≤ k1) (h2 : k1 ≤ 100000) : gg_C l g yJ13_copyOf_2 (ws_ yJ13_copyOf_2 cJ13_copyOf_2 2 (some (.array (.object "java/lang/Object")))) { frames := 2, cells := 1, slots := k1, locals := 83 } [.ref b1, .int (nI k1)] ([(b1, gg_ao g 4 n0 f)] ++ SG) [] (fun vv CC => ∃ (a3 : Nat), vv = some (.ref a3) ∧ CC = [[(a3, gg_ao g 4 k1 (fun j => if j < n0 then f j else none))]]) gg_no := by
  refine gg_of (lv := [_, _]) (by decide) hl (Nat.le_of_ble_eq_true rfl) rfl ?_
  intro p e R s m args below meth c A Q hRf hRl hRc hRs E Fn hnm hex
  refine gg_aload_n (pc := 0) E dJ13_copyOf_2_0 rfl rfl ?_
  refine gg_iload_n (pc := 1) E dJ13_copyOf_2_1 rfl rfl ?_
  refine gg_aload_n (pc := 2) E dJ13_copyOf_2_2 rfl rfl ?_
  refine gg_getC (pc := 3) E q707 (gg_nwi q3527 rfl) q3526 q708 q743 dJ13_copyOf_2_3 (gg_r 0 rfl) (by rw [hRf]; exact Nat.le_of_ble_eq_true rfl) (by rw [hRl]; exact Nat.le_of_ble_eq_true rfl) ?_
  refine gg_callS (F := []) (As := [_, .int (nI k1), _]) (rest := []) (pc := 6) E (ct_J13_copyOf_3 hl hel ck hca h1 h2) (va_cwS 3 E.2.2.2.2.1 (lw_S q744 q745 q166 q746) rfl rfl rfl (by decide +kernel) ⟨by rw [hRf]; exact Nat.le_of_ble_eq_true rfl, by rw [hRl]; exact Nat.le_of_ble_eq_true rfl⟩) dJ13_copyOf_2_6 [] (by decide) rfl rfl (List.forall_mem_append.mpr ⟨(List.forall_mem_cons.mpr ⟨(gg_r 0 rfl), (fun _ h => by cases h)⟩), (fun q hq => gg_rm (List.mem_append_right _ (hq)))⟩) rfl rfl (Nat.le_of_ble_eq_true rfl) (by first | (rw [hRc]; exact Nat.le_of_ble_eq_true rfl) | (rw [hRc]; dsimp only; omega)) (by first | (rw [hRs]; exact Nat.le_of_ble_eq_true rfl) | (rw [hRs]; dsimp only; omega)) ?_ (fun X q C1 h => h.elim)
  rintro _ _ ⟨a3, rfl, rfl⟩
  dsimp only [List.cons_append, List.nil_append, Option.toList]
  refine gg_aret (pc := 9) E Fn rfl (Or.inr ⟨_, rfl⟩) (Or.inr ⟨_, rfl⟩) dJ13_copyOf_2_9 (by first | exact Nat.le_of_ble_eq_true rfl | (dsimp only; omega)) (by first | exact Nat.le_of_ble_eq_true rfl | (dsimp only; omega)) ?_
  exact ⟨a3, rfl, rfl⟩
set_option maxHeartbeats 4000000 in
theorem ct_J32_grow {l : Launch} (hl : l.stackTraces = false) {g : gg_G} {ci NN : Nat} {Cn : String} {TT : u_T} {tyy : Nat → FieldType} {h ea cm0 n0 n1 m1 : Nat} {mc1 : Int32} {f : Nat → Option Nat} {SG : gg_S} (hel : ∀ j y, j < n0 → f j = some y → ∃ fs, ((y, .inl (ci, fs)) : Nat × gg_E) ∈ SG) (ck : gg_ck ci Cn TT NN tyy) (hca : Cond.castable Cn "java/lang/Object" ∈ gg_nw) (h1 : n0 < 64) (h2 : m1 = n0 + 1) : gg_C l g yJ32_grow (ws_ yJ32_grow cJ32_grow 4 none) { frames := 3, cells := 1, slots := n0 + (n0 + 2), locals := 104 } [.ref h, .int (nI m1)] ([] ++ SG) [[(h, .inl (20, [.ref ea, .int (nI n1), .ref cm0, .int mc1]))], [(ea, gg_ao g 4 n0 f)]] (fun vv CC => ∃ (e2 : Nat), vv = none ∧ CC = [[(h, .inl (20, [.ref e2, .int (nI n1), .ref cm0, .int mc1]))], [(e2, gg_ao g 4 (n0 + (n0 + 2)) (fun j => if j < n0 then f j else none))]]) gg_no := by
  refine gg_of (lv := [_, _, _, _]) (by decide) hl (Nat.le_of_ble_eq_true rfl) rfl ?_
  intro p e R s m args below meth c A Q hRf hRl hRc hRs E Fn hnm hex
  refine gg_aload_n (pc := 0) E dJ32_grow_0 rfl rfl ?_
  refine gg_get (pc := 1) E ck_J32 0 q1750 rfl (by decide) dJ32_grow_1 (gg_i 0 rfl) rfl ?_
  refine gg_alen (pc := 4) E 4 rfl dJ32_grow_4 (gg_i 1 rfl) ?_
  refine gg_istore_n (lv' := [_, _, _, _]) (pc := 5) E dJ32_grow_5 rfl (Nat.le_of_ble_eq_true rfl) rfl rfl ?_
  refine gg_iload_n (pc := 6) E dJ32_grow_6 rfl rfl ?_
  refine gg_iload_n (pc := 7) E dJ32_grow_7 rfl rfl ?_
  refine gg_iload_n (pc := 8) E dJ32_grow_8 rfl rfl ?_
  refine gg_isubN (pc := 9) E m1 n0 rfl rfl (by omega) dJ32_grow_9 ?_
  refine gg_iload_n (pc := 10) E dJ32_grow_10 rfl rfl ?_
  refine gg_bipush (v := 64) (pc := 11) E dJ32_grow_11 (by decide) ?_
  refine gg_icmpN_ge (tgt := 22) (pc := 13) E n0 64 rfl rfl (by omega) (by omega) dJ32_grow_13 (by decide) (fun c13 => ?_) (fun c13 => ?_)
  · exact absurd c13 (by omega)
  refine gg_iload_n (pc := 16) E dJ32_grow_16 rfl rfl ?_
  refine gg_iconst (v := 2) (pc := 17) E dJ32_grow_17 (by decide) ?_
  refine gg_iaddN (pc := 18) E n0 2 rfl rfl dJ32_grow_18 ?_
  refine gg_goto (tgt := 25) (pc := 19) E dJ32_grow_19 (by decide) ?_
  refine gg_callS (F := [_, _]) (As := [.int (nI n0), .int (nI (m1 - n0)), .int (nI (n0 + 2))]) (rest := []) (pc := 25) E (ct_J11_newLength hl (by omega) (by omega) (by omega)) (va_cwS 3 E.2.2.2.2.1 (lw_S q1788 q338 q164 q339) rfl rfl rfl (by decide +kernel) ⟨by rw [hRf]; exact Nat.le_of_ble_eq_true rfl, by rw [hRl]; exact Nat.le_of_ble_eq_true rfl⟩) dJ32_grow_25 [] (by decide) rfl rfl (fun _ h => by cases h) rfl rfl (Nat.le_of_ble_eq_true rfl) (by first | (rw [hRc]; exact Nat.le_of_ble_eq_true rfl) | (rw [hRc]; dsimp only; omega)) (by first | (rw [hRs]; exact Nat.le_of_ble_eq_true rfl) | (rw [hRs]; dsimp only; omega)) ?_ (fun X q C1 h => h.elim)
  rintro _ _ ⟨rfl, rfl⟩
  dsimp only [List.cons_append, List.nil_append, Option.toList]
  refine gg_istore_n (lv' := [_, _, _, _]) (pc := 28) E dJ32_grow_28 rfl (Nat.le_of_ble_eq_true rfl) rfl rfl ?_
  refine gg_aload_n (pc := 29) E dJ32_grow_29 rfl rfl ?_
  refine gg_aload_n (pc := 30) E dJ32_grow_30 rfl rfl ?_
  refine gg_get (pc := 31) E ck_J32 0 q1750 rfl (by decide) dJ32_grow_31 (gg_i 0 rfl) rfl ?_
  refine gg_iload_n (pc := 34) E dJ32_grow_34 rfl rfl ?_
  refine gg_callS (F := [_, _]) (As := [_, .int (nI (n0 + (n0 + 2)))]) (rest := [_]) (pc := 35) E (ct_J13_copyOf_2 (SG := SG) hl hel ck hca (by omega) (by omega)) (va_cwS 2 E.2.2.2.2.1 (lw_S q1789 q705 q166 q706) rfl rfl rfl (by decide +kernel) ⟨by rw [hRf]; exact Nat.le_of_ble_eq_true rfl, by rw [hRl]; exact Nat.le_of_ble_eq_true rfl⟩) dJ32_grow_35 [] (by decide) rfl rfl (List.forall_mem_append.mpr ⟨(List.forall_mem_cons.mpr ⟨(gg_i 1 rfl), (fun _ h => by cases h)⟩), (fun q hq => gg_rm (List.mem_append_right _ (hq)))⟩) rfl rfl (Nat.le_of_ble_eq_true rfl) (by first | (rw [hRc]; exact Nat.le_of_ble_eq_true rfl) | (rw [hRc]; dsimp only; omega)) (by first | (rw [hRs]; exact Nat.le_of_ble_eq_true rfl) | (rw [hRs]; dsimp only; omega)) ?_ (fun X q C1 h => h.elim)
  rintro _ _ ⟨e2, rfl, rfl⟩
  dsimp only [List.cons_append, List.nil_append, Option.toList]
  refine gg_up2 ?_
  refine gg_put (fs' := [_, _, _, _]) (M' := [_, _, _]) (pc := 38) E ck_J32 0 q1750 rfl (by decide) dJ32_grow_38 0 rfl rfl (rfl) rfl (Nat.le_of_ble_eq_true rfl) rfl rfl ?_
  refine gg_up2 ?_
  refine gg_up2 ?_
  refine gg_let rfl rfl ?_
  refine gg_up1 ?_
  refine gg_vret (pc := 41) E Fn rfl dJ32_grow_41 (by first | exact Nat.le_of_ble_eq_true rfl | (dsimp only; omega)) (by first | exact Nat.le_of_ble_eq_true rfl | (dsimp only; omega)) ?_
  exact ⟨e2, rfl, rfl⟩
set_option maxHeartbeats 4000000 in
theorem ct_J32_offerG {l : Launch} (hl : l.stackTraces = false) {g : gg_G}  {h : Nat} {mc1 : Int32} {ea cm0 cap n1 x1 N : Nat} {so ro fa Qa : Nat → Nat} (hn : n1 = cap) (hc64 : cap < 42) (hcap : cap ≤ 90) (hkey : ∀ k, k < N → ro k < 10 ∧ fa k ≤ 1000) (hx1 : x1 < N) (hQ : ∀ j, j < n1 → Qa j < N) (hHp : Hp (kyS ro fa) Qa n1) : gg_C l g yJ32_offer (ws_ yJ32_offer cJ32_offer 3 (some .boolean)) { frames := 8, cells := 1, slots := (cap + (cap + 2)), locals := 187 } [.ref h, .ref (so x1)] ([(cm0, .inl (8, []))] ++ (mp (stN so ro fa) N)) [[(h, .inl (20, [.ref ea, .int (nI n1), .ref cm0, .int mc1]))], [(ea, gg_ao g 4 cap (lsF (fun j => so (Qa j)) (n1)))]] (fun vv CC => ∃ (e2 : Nat) (Q3 : Nat → Nat), (Hp (kyS ro fa) Q3 (n1 + 1) ∧ (∀ i, Qi Q3 (n1 + 1) i ↔ Qi Qa n1 i ∨ i = x1) ∧ (Qj Qa n1 → ¬ Qi Qa n1 x1 → Qj Q3 (n1 + 1))) ∧ vv = some (.int 1) ∧ CC = [[(h, .inl (20, [.ref e2, .int (nI (n1 + 1)), .ref cm0, .int (mc1 + 1)]))], [(e2, gg_ao g 4 (cap + (cap + 2)) (lsF (fun j => so (Q3 j)) (n1 + 1)))]]) gg_no := by
  refine gg_of (lv := [_, _, _]) (by decide) hl (Nat.le_of_ble_eq_true rfl) rfl ?_
  intro p e R s m args below meth c A Q hRf hRl hRc hRs E Fn hnm hex
  refine gg_aload_n (pc := 0) E dJ32_offer_0 rfl rfl ?_
  refine gg_ifnonnull (tgt := 12) (pc := 1) E dJ32_offer_1 (by decide) ?_
  refine gg_aload_n (pc := 12) E dJ32_offer_12 rfl rfl ?_
  refine gg_dup (pc := 13) E dJ32_offer_13 rfl ?_
  refine gg_get (pc := 14) E ck_J32 3 q1753 rfl (by decide) dJ32_offer_14 (gg_i 0 rfl) rfl ?_
  refine gg_iconst (v := 1) (pc := 17) E dJ32_offer_17 (by decide) ?_
  refine gg_iadd (pc := 18) E dJ32_offer_18 ?_
  refine gg_put (fs' := [_, _, _, _]) (M' := [_, _]) (pc := 19) E ck_J32 3 q1753 rfl (by decide) dJ32_offer_19 0 rfl rfl (rfl) rfl (Nat.le_of_ble_eq_true rfl) rfl rfl ?_
  refine gg_aload_n (pc := 22) E dJ32_offer_22 rfl rfl ?_
  refine gg_get (pc := 23) E ck_J32 1 q1751 rfl (by decide) dJ32_offer_23 (gg_i 0 rfl) rfl ?_
  refine gg_istore_n (lv' := [_, _, _]) (pc := 26) E dJ32_offer_26 rfl (Nat.le_of_ble_eq_true rfl) rfl rfl ?_
  refine gg_iload_n (pc := 27) E dJ32_offer_27 rfl rfl ?_
  refine gg_aload_n (pc := 28) E dJ32_offer_28 rfl rfl ?_
  refine gg_get (pc := 29) E ck_J32 0 q1750 rfl (by decide) dJ32_offer_29 (gg_i 0 rfl) rfl ?_
  refine gg_alen (pc := 32) E 4 rfl dJ32_offer_32 (gg_i 1 rfl) ?_
  refine gg_icmpN_lt (tgt := 43) (pc := 33) E n1 cap rfl rfl (by omega) (by omega) dJ32_offer_33 (by decide) (fun c33 => ?_) (fun c33 => ?_)
  · exact absurd c33 (by omega)
  refine gg_aload_n (pc := 36) E dJ32_offer_36 rfl rfl ?_
  refine gg_iload_n (pc := 37) E dJ32_offer_37 rfl rfl ?_
  refine gg_iconst (v := 1) (pc := 38) E dJ32_offer_38 (by decide) ?_
  refine gg_iaddN (pc := 39) E n1 1 rfl rfl dJ32_offer_39 ?_
  refine gg_callV (F := []) (As := [.int (nI (n1 + 1))]) (rest := []) (pc := 40) E ck_J32 (ct_J32_grow (n0 := cap) (SG := mp (stN so ro fa) N) hl (fun j y hj hy => by subst hn; rw [lsF_at hj] at hy; cases hy; exact ⟨_, by exact mp_mem (hQ j hj)⟩) ck_X10 (gg_nwi q3516 rfl) (by omega) (by omega)) (cwV 1 E.2.2.2.2.1 (lw_V q1784 q1786 qs38 q194 q1787) rfl rfl rfl (by decide +kernel) ⟨by rw [hRf]; exact Nat.le_of_ble_eq_true rfl, by rw [hRl]; exact Nat.le_of_ble_eq_true rfl⟩) dJ32_offer_40 [0, 1] (by decide) rfl rfl (List.forall_mem_append.mpr ⟨(fun _ h => by cases h), (fun q hq => gg_rm (List.mem_append_right _ (hq)))⟩) (gg_i 0 rfl) rfl rfl (Nat.le_of_ble_eq_true rfl) (by first | (rw [hRc]; exact Nat.le_of_ble_eq_true rfl) | (rw [hRc]; dsimp only; omega)) (by first | (rw [hRs]; exact Nat.le_of_ble_eq_true rfl) | (rw [hRs]; dsimp only; omega)) ?_ (fun X q C1 h => h.elim)
  rintro _ _ ⟨e2, rfl, rfl⟩
  dsimp only [List.cons_append, List.nil_append, Option.toList]
  refine gg_up1 ?_
  refine gg_up1 ?_
  refine gg_cel (y := gg_ao g 4 (cap + (cap + 2)) (lsF (fun j => so (Qa j)) n1)) 1 rfl (congrArg (gg_ao g 4 (cap + (cap + 2))) (gr_f hn)) rfl ?_
  refine gg_aload_n (pc := 43) E dJ32_offer_43 rfl rfl ?_
  refine gg_iload_n (pc := 44) E dJ32_offer_44 rfl rfl ?_
  refine gg_aload_n (pc := 45) E dJ32_offer_45 rfl rfl ?_
  refine gg_callV (F := [_]) (As := [.int (nI n1), _]) (rest := []) (pc := 46) E ck_J32 (ct_J32_siftUp (cap := (cap + (cap + 2))) (Qa := Qa) hl (by omega) (by omega) hkey hx1 hQ hHp) (cwV 2 E.2.2.2.2.1 (lw_V q1790 q1792 qs39 q194 q1793) rfl rfl rfl (by decide +kernel) ⟨by rw [hRf]; exact Nat.le_of_ble_eq_true rfl, by rw [hRl]; exact Nat.le_of_ble_eq_true rfl⟩) dJ32_offer_46 [1] (by decide) rfl rfl (List.forall_mem_append.mpr ⟨(List.forall_mem_cons.mpr ⟨(gg_i 0 rfl), (List.forall_mem_cons.mpr ⟨(gg_r 0 rfl), (fun _ h => by cases h)⟩)⟩), (fun q hq => gg_rm (List.mem_append_right _ (hq)))⟩) (gg_i 0 rfl) rfl rfl (Nat.le_of_ble_eq_true rfl) (by first | (rw [hRc]; exact Nat.le_of_ble_eq_true rfl) | (rw [hRc]; dsimp only; omega)) (by first | (rw [hRs]; exact Nat.le_of_ble_eq_true rfl) | (rw [hRs]; dsimp only; omega)) ?_ (fun X q C1 h => h.elim)
  rintro _ _ ⟨Q3, hp, rfl, rfl⟩
  dsimp only [List.cons_append, List.nil_append, Option.toList]
  refine gg_up1 ?_
  refine gg_aload_n (pc := 49) E dJ32_offer_49 rfl rfl ?_
  refine gg_iload_n (pc := 50) E dJ32_offer_50 rfl rfl ?_
  refine gg_iconst (v := 1) (pc := 51) E dJ32_offer_51 (by decide) ?_
  refine gg_iaddN (pc := 52) E n1 1 rfl rfl dJ32_offer_52 ?_
  refine gg_put (fs' := [_, _, _, _]) (M' := [_, _]) (pc := 53) E ck_J32 1 q1751 rfl (by decide) dJ32_offer_53 0 rfl rfl (rfl) rfl (Nat.le_of_ble_eq_true rfl) rfl rfl ?_
  refine gg_iconst (v := 1) (pc := 56) E dJ32_offer_56 (by decide) ?_
  refine gg_iret (pc := 57) E Fn rfl (gg_nz (by first | decide | assumption | exact gg_b01 | (split <;> decide))) dJ32_offer_57 (by first | exact Nat.le_of_ble_eq_true rfl | (dsimp only; omega)) (by first | exact Nat.le_of_ble_eq_true rfl | (dsimp only; omega)) ?_
  exact ⟨e2, Q3, hp, rfl, rfl⟩
set_option maxHeartbeats 4000000 in
theorem ct_J32_addG {l : Launch} (hl : l.stackTraces = false) {g : gg_G}  {h : Nat} {mc1 : Int32} {ea cm0 cap n1 x1 N : Nat} {so ro fa Qa : Nat → Nat} (hn : n1 = cap) (hc64 : cap < 42) (hcap : cap ≤ 90) (hkey : ∀ k, k < N → ro k < 10 ∧ fa k ≤ 1000) (hx1 : x1 < N) (hQ : ∀ j, j < n1 → Qa j < N) (hHp : Hp (kyS ro fa) Qa n1) : gg_C l g yJ32_add (ws_ yJ32_add cJ32_add 2 (some .boolean)) { frames := 9, cells := 1, slots := (cap + (cap + 2)), locals := 209 } [.ref h, .ref (so x1)] ([(cm0, .inl (8, []))] ++ (mp (stN so ro fa) N)) [[(h, .inl (20, [.ref ea, .int (nI n1), .ref cm0, .int mc1]))], [(ea, gg_ao g 4 cap (lsF (fun j => so (Qa j)) (n1)))]] (fun vv CC => ∃ (e2 : Nat) (Q3 : Nat → Nat), (Hp (kyS ro fa) Q3 (n1 + 1) ∧ (∀ i, Qi Q3 (n1 + 1) i ↔ Qi Qa n1 i ∨ i = x1) ∧ (Qj Qa n1 → ¬ Qi Qa n1 x1 → Qj Q3 (n1 + 1))) ∧ vv = some (.int 1) ∧ CC = [[(h, .inl (20, [.ref e2, .int (nI (n1 + 1)), .ref cm0, .int (mc1 + 1)]))], [(e2, gg_ao g 4 (cap + (cap + 2)) (lsF (fun j => so (Q3 j)) (n1 + 1)))]]) gg_no := by
  refine gg_of (lv := [_, _]) (by decide) hl (Nat.le_of_ble_eq_true rfl) rfl ?_
  intro p e R s m args below meth c A Q hRf hRl hRc hRs E Fn hnm hex
  refine gg_aload_n (pc := 0) E dJ32_add_0 rfl rfl ?_
  refine gg_aload_n (pc := 1) E dJ32_add_1 rfl rfl ?_
  refine gg_callV (F := []) (As := [_]) (rest := []) (pc := 2) E ck_J32 (ct_J32_offerG hl hn hc64 hcap hkey hx1 hQ hHp) (cwV 1 E.2.2.2.2.1 (lw_V q1780 q1781 q1782 q194 q1783) rfl rfl rfl (by decide +kernel) ⟨by rw [hRf]; exact Nat.le_of_ble_eq_true rfl, by rw [hRl]; exact Nat.le_of_ble_eq_true rfl⟩) dJ32_add_2 [0, 1] (by decide) rfl rfl (List.forall_mem_append.mpr ⟨(List.forall_mem_cons.mpr ⟨(gg_r 0 rfl), (fun _ h => by cases h)⟩), (fun q hq => gg_rm (List.mem_append_right _ (hq)))⟩) (gg_i 0 rfl) rfl rfl (Nat.le_of_ble_eq_true rfl) (by first | (rw [hRc]; exact Nat.le_of_ble_eq_true rfl) | (rw [hRc]; dsimp only; omega)) (by first | (rw [hRs]; exact Nat.le_of_ble_eq_true rfl) | (rw [hRs]; dsimp only; omega)) ?_ (fun X q C1 h => h.elim)
  rintro _ _ ⟨e2, Q3, hp, rfl, rfl⟩
  dsimp only [List.cons_append, List.nil_append, Option.toList]
  refine gg_up1 ?_
  refine gg_up1 ?_
  refine gg_iret (pc := 5) E Fn rfl (gg_nz (by first | decide | assumption | exact gg_b01 | (split <;> decide))) dJ32_add_5 (by first | exact Nat.le_of_ble_eq_true rfl | (dsimp only; omega)) (by first | exact Nat.le_of_ble_eq_true rfl | (dsimp only; omega)) ?_
  exact ⟨e2, Q3, hp, rfl, rfl⟩

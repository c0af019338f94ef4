set_option maxRecDepth 100000
set_option maxHeartbeats 4000000 in
theorem ct_J0_init {l : Launch} (hl : l.stackTraces = false) {g : gg_G}  {h : Nat}  : gg_C l g yJ0_init (ws_ yJ0_init cJ0_init 1 none) { frames := 1, cells := 0, slots := 0, locals := 16 } [.ref h] [] [] (fun vv CC => vv = none ∧ CC = []) gg_no := by
  refine gg_of (lv := [_]) (by decide) hl (Nat.le_of_ble_eq_true rfl) rfl ?_
  intro p e R s m args below meth c A Q hRf hRl hRc hRs E Fn hnm hex
  refine gg_aload_n (pc := 0) E dJ0_init_0 rfl rfl ?_
  refine gg_objInit (pc := 1) E q233 dJ0_init_1 (by rw [hRf]; exact Nat.le_of_ble_eq_true rfl) (by rw [hRl]; exact Nat.le_of_ble_eq_true rfl) ?_
  refine gg_vret (pc := 4) E Fn rfl dJ0_init_4 (by first | exact Nat.le_of_ble_eq_true rfl | (dsimp only; omega)) (by first | exact Nat.le_of_ble_eq_true rfl | (dsimp only; omega)) ?_
  exact ⟨rfl, rfl⟩
set_option maxHeartbeats 4000000 in
theorem ct_J1_init {l : Launch} (hl : l.stackTraces = false) {g : gg_G}  {h : Nat} {mc1 : Int32} {v1 v2 : Value}  : gg_C l g yJ1_init (ws_ yJ1_init cJ1_init 1 none) { frames := 2, cells := 0, slots := 0, locals := 36 } [.ref h] [] [[(h, .inl (11, [.int mc1, v1, v2]))]] (fun vv CC => vv = none ∧ CC = [[(h, .inl (11, [.int 0, v1, v2]))]]) gg_no := by
  refine gg_of (lv := [_]) (by decide) hl (Nat.le_of_ble_eq_true rfl) rfl ?_
  intro p e R s m args below meth c A Q hRf hRl hRc hRs E Fn hnm hex
  refine gg_aload_n (pc := 0) E dJ1_init_0 rfl rfl ?_
  refine gg_callI (F := [_]) (As := []) (rest := []) (pc := 1) E (ct_J0_init hl ) (cwI 0 E.2.2.2.2.1 (lw_meth q232) rfl rfl rfl (E.2.2.2.2.1 _ q153) (E.2.2.2.2.1 _ q230) (E.2.2.2.2.1 _ q231) rfl (by decide +kernel) ⟨by rw [hRf]; exact Nat.le_of_ble_eq_true rfl, by rw [hRl]; exact Nat.le_of_ble_eq_true rfl⟩) dJ1_init_1 [] (by decide) rfl rfl (fun _ h => by cases h) rfl rfl (Nat.le_of_ble_eq_true rfl) (by first | (rw [hRc]; exact Nat.le_of_ble_eq_true rfl) | (rw [hRc]; dsimp only; omega)) (by first | (rw [hRs]; exact Nat.le_of_ble_eq_true rfl) | (rw [hRs]; dsimp only; omega)) ?_ (fun X q C1 h => h.elim)
  rintro _ _ ⟨rfl, rfl⟩
  dsimp only [List.cons_append, List.nil_append, Option.toList]
  refine gg_aload_n (pc := 4) E dJ1_init_4 rfl rfl ?_
  refine gg_iconst (v := 0) (pc := 5) E dJ1_init_5 (by decide) ?_
  refine gg_put (fs' := [_, _, _]) (M' := [_]) (pc := 6) E ck_J2 0 q562 rfl (by decide) dJ1_init_6 0 rfl rfl (rfl) rfl (Nat.le_of_ble_eq_true rfl) rfl rfl ?_
  refine gg_vret (pc := 9) E Fn rfl dJ1_init_9 (by first | exact Nat.le_of_ble_eq_true rfl | (dsimp only; omega)) (by first | exact Nat.le_of_ble_eq_true rfl | (dsimp only; omega)) ?_
  exact ⟨rfl, rfl⟩
set_option maxHeartbeats 4000000 in
theorem ct_J1_initL {l : Launch} (hl : l.stackTraces = false) {g : gg_G}  {h : Nat} {mc1 : Int32} {v1 v2 v3 : Value}  : gg_C l g yJ1_init (ws_ yJ1_init cJ1_init 1 none) { frames := 2, cells := 0, slots := 0, locals := 36 } [.ref h] [] [[(h, .inl (15, [.int mc1, v1, v2, v3]))]] (fun vv CC => vv = none ∧ CC = [[(h, .inl (15, [.int 0, v1, v2, v3]))]]) gg_no := by
  refine gg_of (lv := [_]) (by decide) hl (Nat.le_of_ble_eq_true rfl) rfl ?_
  intro p e R s m args below meth c A Q hRf hRl hRc hRs E Fn hnm hex
  refine gg_aload_n (pc := 0) E dJ1_init_0 rfl rfl ?_
  refine gg_callI (F := [_]) (As := []) (rest := []) (pc := 1) E (ct_J0_init hl ) (cwI 0 E.2.2.2.2.1 (lw_meth q232) rfl rfl rfl (E.2.2.2.2.1 _ q153) (E.2.2.2.2.1 _ q230) (E.2.2.2.2.1 _ q231) rfl (by decide +kernel) ⟨by rw [hRf]; exact Nat.le_of_ble_eq_true rfl, by rw [hRl]; exact Nat.le_of_ble_eq_true rfl⟩) dJ1_init_1 [] (by decide) rfl rfl (fun _ h => by cases h) rfl rfl (Nat.le_of_ble_eq_true rfl) (by first | (rw [hRc]; exact Nat.le_of_ble_eq_true rfl) | (rw [hRc]; dsimp only; omega)) (by first | (rw [hRs]; exact Nat.le_of_ble_eq_true rfl) | (rw [hRs]; dsimp only; omega)) ?_ (fun X q C1 h => h.elim)
  rintro _ _ ⟨rfl, rfl⟩
  dsimp only [List.cons_append, List.nil_append, Option.toList]
  refine gg_aload_n (pc := 4) E dJ1_init_4 rfl rfl ?_
  refine gg_iconst (v := 0) (pc := 5) E dJ1_init_5 (by decide) ?_
  refine gg_put (fs' := [_, _, _, _]) (M' := [_]) (pc := 6) E ck_J19 0 q562 rfl (by decide) dJ1_init_6 0 rfl rfl (rfl) rfl (Nat.le_of_ble_eq_true rfl) rfl rfl ?_
  refine gg_vret (pc := 9) E Fn rfl dJ1_init_9 (by first | exact Nat.le_of_ble_eq_true rfl | (dsimp only; omega)) (by first | exact Nat.le_of_ble_eq_true rfl | (dsimp only; omega)) ?_
  exact ⟨rfl, rfl⟩
set_option maxHeartbeats 4000000 in
theorem ct_J2_init {l : Launch} (hl : l.stackTraces = false) {g : gg_G}  {h cap : Nat} (hc0 : 0 < cap) (hcm : cap ≤ 1000) : gg_C l g yJ2_init (ws_ yJ2_init cJ2_init 2 none) { frames := 8, cells := 1, slots := cap, locals := 140 } [.ref h, .int (nI cap)] [] [[(h, .inl (11, [.int 0, .null, .int 0]))]] (fun vv CC => ∃ (ea : Nat), vv = none ∧ CC = [[(h, .inl (11, [.int 0, .ref ea, .int (nI 0)]))], [(ea, gg_ao g 4 cap (fun _ => none))]]) gg_no := by
  refine gg_of (lv := [_, _]) (by decide) hl (Nat.le_of_ble_eq_true rfl) rfl ?_
  intro p e R s m args below meth c A Q hRf hRl hRc hRs E Fn hnm hex
  refine gg_aload_n (pc := 0) E dJ2_init_0 rfl rfl ?_
  refine gg_callI (F := []) (As := []) (rest := []) (pc := 1) E (ct_J1_init hl ) (cwI 0 E.2.2.2.2.1 (lw_meth q229) rfl rfl rfl (E.2.2.2.2.1 _ q154) (E.2.2.2.2.1 _ q227) (E.2.2.2.2.1 _ q228) rfl (by decide +kernel) ⟨by rw [hRf]; exact Nat.le_of_ble_eq_true rfl, by rw [hRl]; exact Nat.le_of_ble_eq_true rfl⟩) dJ2_init_1 [0] (by decide) rfl rfl (fun _ h => by cases h) rfl rfl (Nat.le_of_ble_eq_true rfl) (by first | (rw [hRc]; exact Nat.le_of_ble_eq_true rfl) | (rw [hRc]; dsimp only; omega)) (by first | (rw [hRs]; exact Nat.le_of_ble_eq_true rfl) | (rw [hRs]; dsimp only; omega)) ?_ (fun X q C1 h => h.elim)
  rintro _ _ ⟨rfl, rfl⟩
  dsimp only [List.cons_append, List.nil_append, Option.toList]
  refine gg_iload_n (pc := 4) E dJ2_init_4 rfl rfl ?_
  refine gg_ifN_le (tgt := 19) (pc := 5) E cap rfl (by omega) dJ2_init_5 (by decide) (fun c5 => ?_) (fun c5 => ?_)
  · exact absurd c5 (by omega)
  refine gg_aload_n (pc := 8) E dJ2_init_8 rfl rfl ?_
  refine gg_iload_n (pc := 9) E dJ2_init_9 rfl rfl ?_
  refine gg_anew (N := cap) (pc := 10) E 4 rfl q234 nq235 dJ2_init_10 (nI_pos (by omega)) (nI_clamp (by omega)) (by omega) (by first | (rw [hRc]; exact Nat.le_of_ble_eq_true rfl) | (rw [hRc]; dsimp only; omega)) (by first | (rw [hRs]; exact Nat.le_of_ble_eq_true rfl) | (rw [hRs]; dsimp only; omega)) (fun _ => rfl) (fun a1 => ?_)
  dsimp only [List.cons_append, List.nil_append]
  refine gg_put (fs' := [_, _, _]) (M' := [_, _]) (pc := 13) E ck_J2 1 q558 rfl (by decide) dJ2_init_13 0 rfl rfl (rfl) rfl (Nat.le_of_ble_eq_true rfl) rfl rfl ?_
  refine gg_goto (tgt := 60) (pc := 16) E dJ2_init_16 (by decide) ?_
  refine gg_vret (pc := 60) E Fn rfl dJ2_init_60 (by first | exact Nat.le_of_ble_eq_true rfl | (dsimp only; omega)) (by first | exact Nat.le_of_ble_eq_true rfl | (dsimp only; omega)) ?_
  exact ⟨_, rfl, rfl⟩
set_option maxHeartbeats 4000000 in
theorem ct_J2_add_2 {l : Launch} (hl : l.stackTraces = false) {g : gg_G} {ci NN : Nat} {Cn : String} {TT : u_T} {tyy : Nat → FieldType} {h ea cap n1 : Nat} {mc1 : Int32} {f : Nat → Option Nat} {xo : Nat} {fs : List Value} (hn : n1 < cap) (hcm : cap ≤ 1000) (ck : gg_ck ci Cn TT NN tyy) (hca : Cond.castable Cn "java/lang/Object" ∈ gg_nw) : gg_C l g yJ2_add_2 (ws_ yJ2_add_2 cJ2_add_2 4 none) { frames := 0, cells := 0, slots := 0, locals := 0 } [.ref h, .ref xo, .ref ea, .int (nI n1)] [(xo, .inl (ci, fs))] [[(h, .inl (11, [.int mc1, .ref ea, .int (nI n1)]))], [(ea, gg_ao g 4 cap f)]] (fun vv CC => vv = none ∧ CC = [[(h, .inl (11, [.int mc1, .ref ea, .int (nI (n1 + 1))]))], [(ea, gg_ao g 4 cap (va_up f n1 (some xo)))]]) gg_no := by
  refine gg_of (lv := [_, _, _, _]) (by decide) hl (Nat.le_of_ble_eq_true rfl) rfl ?_
  intro p e R s m args below meth c A Q hRf hRl hRc hRs E Fn hnm hex
  refine gg_iload_n (pc := 0) E dJ2_add_2_0 rfl rfl ?_
  refine gg_aload_n (pc := 1) E dJ2_add_2_1 rfl rfl ?_
  refine gg_alen (pc := 2) E 4 rfl dJ2_add_2_2 (gg_i 1 rfl) ?_
  refine gg_icmpN_ne (tgt := 11) (pc := 3) E n1 cap rfl rfl (by omega) (by omega) dJ2_add_2_3 (by decide) (fun c3 => ?_) (fun c3 => ?_)
  rotate_left
  · exact absurd c3 (by omega)
  refine gg_aload_n (pc := 11) E dJ2_add_2_11 rfl rfl ?_
  refine gg_iload_n (pc := 12) E dJ2_add_2_12 rfl rfl ?_
  refine gg_aload_n (pc := 13) E dJ2_add_2_13 rfl rfl ?_
  refine gg_aastRN (M' := [_, _]) (pc := 14) E 4 rfl n1 rfl (by omega) (by omega) dJ2_add_2_14 1 rfl (gg_isaO E (gg_r 0 rfl) ck hca) rfl ?_
  refine gg_aload_n (pc := 15) E dJ2_add_2_15 rfl rfl ?_
  refine gg_iload_n (pc := 16) E dJ2_add_2_16 rfl rfl ?_
  refine gg_iconst (v := 1) (pc := 17) E dJ2_add_2_17 (by decide) ?_
  refine gg_iaddN (pc := 18) E n1 1 rfl rfl dJ2_add_2_18 ?_
  refine gg_put (fs' := [_, _, _]) (M' := [_, _]) (pc := 19) E ck_J2 2 q561 rfl (by decide) dJ2_add_2_19 0 rfl rfl (rfl) rfl (Nat.le_of_ble_eq_true rfl) rfl rfl ?_
  refine gg_vret (pc := 22) E Fn rfl dJ2_add_2_22 (by first | exact Nat.le_of_ble_eq_true rfl | (dsimp only; omega)) (by first | exact Nat.le_of_ble_eq_true rfl | (dsimp only; omega)) ?_
  exact ⟨rfl, rfl⟩
set_option maxHeartbeats 4000000 in
theorem ct_J2_add {l : Launch} (hl : l.stackTraces = false) {g : gg_G} {ci NN : Nat} {Cn : String} {TT : u_T} {tyy : Nat → FieldType} {h ea cap n1 : Nat} {mc1 : Int32} {f : Nat → Option Nat} {xo : Nat} {fs : List Value} (hn : n1 < cap) (hcm : cap ≤ 1000) (ck : gg_ck ci Cn TT NN tyy) (hca : Cond.castable Cn "java/lang/Object" ∈ gg_nw) : gg_C l g yJ2_add (ws_ yJ2_add cJ2_add 2 (some .boolean)) { frames := 1, cells := 0, slots := 0, locals := 23 } [.ref h, .ref xo] [(xo, .inl (ci, fs))] [[(h, .inl (11, [.int mc1, .ref ea, .int (nI n1)]))], [(ea, gg_ao g 4 cap f)]] (fun vv CC => vv = some (.int 1) ∧ CC = [[(h, .inl (11, [.int (mc1 + 1), .ref ea, .int (nI (n1 + 1))]))], [(ea, gg_ao g 4 cap (va_up f n1 (some xo)))]]) gg_no := by
  refine gg_of (lv := [_, _]) (by decide) hl (Nat.le_of_ble_eq_true rfl) rfl ?_
  intro p e R s m args below meth c A Q hRf hRl hRc hRs E Fn hnm hex
  refine gg_aload_n (pc := 0) E dJ2_add_0 rfl rfl ?_
  refine gg_dup (pc := 1) E dJ2_add_1 rfl ?_
  refine gg_getU (pc := 2) E ck_J2 0 q569 q566 rfl (by decide) dJ2_add_2 (gg_i 0 rfl) rfl ?_
  refine gg_iconst (v := 1) (pc := 5) E dJ2_add_5 (by decide) ?_
  refine gg_iadd (pc := 6) E dJ2_add_6 ?_
  refine gg_putU (fs' := [_, _, _]) (M' := [_, _]) (pc := 7) E ck_J2 0 q569 q566 rfl (by decide) dJ2_add_7 0 rfl rfl (rfl) rfl (Nat.le_of_ble_eq_true rfl) rfl rfl ?_
  refine gg_aload_n (pc := 10) E dJ2_add_10 rfl rfl ?_
  refine gg_aload_n (pc := 11) E dJ2_add_11 rfl rfl ?_
  refine gg_aload_n (pc := 12) E dJ2_add_12 rfl rfl ?_
  refine gg_get (pc := 13) E ck_J2 1 q558 rfl (by decide) dJ2_add_13 (gg_i 0 rfl) rfl ?_
  refine gg_aload_n (pc := 16) E dJ2_add_16 rfl rfl ?_
  refine gg_get (pc := 17) E ck_J2 2 q561 rfl (by decide) dJ2_add_17 (gg_i 0 rfl) rfl ?_
  refine gg_callV (F := []) (As := [_, _, .int (nI n1)]) (rest := []) (pc := 20) E ck_J2 (ct_J2_add_2 hl hn hcm ck hca) (cwV 3 E.2.2.2.2.1 (lw_V q689 q691 qs1 q155 q692) rfl rfl rfl (by decide +kernel) ⟨by rw [hRf]; exact Nat.le_of_ble_eq_true rfl, by rw [hRl]; exact Nat.le_of_ble_eq_true rfl⟩) dJ2_add_20 [0, 1] (by decide) rfl rfl (List.forall_mem_cons.mpr ⟨(gg_r 0 rfl), (fun _ h => by cases h)⟩) (gg_i 0 rfl) rfl rfl (Nat.le_of_ble_eq_true rfl) (by first | (rw [hRc]; exact Nat.le_of_ble_eq_true rfl) | (rw [hRc]; dsimp only; omega)) (by first | (rw [hRs]; exact Nat.le_of_ble_eq_true rfl) | (rw [hRs]; dsimp only; omega)) ?_ (fun X q C1 h => h.elim)
  rintro _ _ ⟨rfl, rfl⟩
  dsimp only [List.cons_append, List.nil_append, Option.toList]
  refine gg_up1 ?_
  refine gg_up1 ?_
  refine gg_iconst (v := 1) (pc := 23) E dJ2_add_23 (by decide) ?_
  refine gg_iret (pc := 24) E Fn rfl (gg_nz (by first | decide | assumption | exact gg_b01 | (split <;> decide))) dJ2_add_24 (by first | exact Nat.le_of_ble_eq_true rfl | (dsimp only; omega)) (by first | exact Nat.le_of_ble_eq_true rfl | (dsimp only; omega)) ?_
  exact ⟨rfl, rfl⟩
set_option maxHeartbeats 4000000 in
theorem ct_J2_size {l : Launch} (hl : l.stackTraces = false) {g : gg_G}  {h ea n1 : Nat} {mc1 : Int32}  : gg_C l g yJ2_size (ws_ yJ2_size cJ2_size 1 (some .int)) { frames := 0, cells := 0, slots := 0, locals := 0 } [.ref h] [(h, .inl (11, [.int mc1, .ref ea, .int (nI n1)]))] [] (fun vv CC => vv = some (.int (nI n1)) ∧ CC = []) gg_no := by
  refine gg_of (lv := [_]) (by decide) hl (Nat.le_of_ble_eq_true rfl) rfl ?_
  intro p e R s m args below meth c A Q hRf hRl hRc hRs E Fn hnm hex
  refine gg_aload_n (pc := 0) E dJ2_size_0 rfl rfl ?_
  refine gg_get (pc := 1) E ck_J2 2 q561 rfl (by decide) dJ2_size_1 (gg_r 0 rfl) rfl ?_
  refine gg_iret (pc := 4) E Fn rfl (rfl) dJ2_size_4 (by first | exact Nat.le_of_ble_eq_true rfl | (dsimp only; omega)) (by first | exact Nat.le_of_ble_eq_true rfl | (dsimp only; omega)) ?_
  exact ⟨rfl, rfl⟩
set_option maxHeartbeats 4000000 in
theorem ct_J23_checkIndex {l : Launch} (hl : l.stackTraces = false) {g : gg_G}  {j sl : Nat} (hj : j < sl) (hsl : sl < 2 ^ 31) : gg_C l g yJ23_checkIndex (ws_ yJ23_checkIndex cJ23_checkIndex 2 (some .int)) { frames := 1, cells := 0, slots := 0, locals := 22 } [.int (nI j), .int (nI sl)] [] [] (fun vv CC => vv = some (.int (nI j)) ∧ CC = []) gg_no := by
  refine gg_of (lv := [_, _]) (by decide) hl (Nat.le_of_ble_eq_true rfl) rfl ?_
  intro p e R s m args below meth c A Q hRf hRl hRc hRs E Fn hnm hex
  refine gg_iload_n (pc := 0) E dJ23_checkIndex_0 rfl rfl ?_
  refine gg_iload_n (pc := 1) E dJ23_checkIndex_1 rfl rfl ?_
  refine gg_null (pc := 2) E dJ23_checkIndex_2 ?_
  refine gg_callS (F := []) (As := [.int (nI j), .int (nI sl), _]) (rest := []) (pc := 3) E (ct_J14_checkIndex (r9 := none) hl hj hsl) (va_cwS 3 E.2.2.2.2.1 (lw_S q1112 q924 q168 q925) rfl rfl rfl (by decide +kernel) ⟨by rw [hRf]; exact Nat.le_of_ble_eq_true rfl, by rw [hRl]; exact Nat.le_of_ble_eq_true rfl⟩) dJ23_checkIndex_3 [] (by decide) rfl rfl (fun _ h => by cases h) rfl rfl (Nat.le_of_ble_eq_true rfl) (by first | (rw [hRc]; exact Nat.le_of_ble_eq_true rfl) | (rw [hRc]; dsimp only; omega)) (by first | (rw [hRs]; exact Nat.le_of_ble_eq_true rfl) | (rw [hRs]; dsimp only; omega)) ?_ (fun X q C1 h => h.elim)
  rintro _ _ ⟨rfl, rfl⟩
  dsimp only [List.cons_append, List.nil_append, Option.toList]
  refine gg_iret (pc := 6) E Fn rfl (rfl) dJ23_checkIndex_6 (by first | exact Nat.le_of_ble_eq_true rfl | (dsimp only; omega)) (by first | exact Nat.le_of_ble_eq_true rfl | (dsimp only; omega)) ?_
  exact ⟨rfl, rfl⟩
set_option maxHeartbeats 4000000 in
theorem ct_J2_elementData {l : Launch} (hl : l.stackTraces = false) {g : gg_G}  {h ea cap n1 : Nat} {mc1 : Int32} {f : Nat → Option Nat} {j r1 : Nat} (hj : j < n1) (hnc : n1 ≤ cap) (hcm : cap ≤ 1000) (hf : f j = some r1) : gg_C l g yJ2_elementData (ws_ yJ2_elementData cJ2_elementData 2 (some (.object "java/lang/Object"))) { frames := 0, cells := 0, slots := 0, locals := 0 } [.ref h, .int (nI j)] [(h, .inl (11, [.int mc1, .ref ea, .int (nI n1)])), (ea, gg_ao g 4 cap f)] [] (fun vv CC => vv = some (.ref r1) ∧ CC = []) gg_no := by
  refine gg_of (lv := [_, _]) (by decide) hl (Nat.le_of_ble_eq_true rfl) rfl ?_
  intro p e R s m args below meth c A Q hRf hRl hRc hRs E Fn hnm hex
  refine gg_aload_n (pc := 0) E dJ2_elementData_0 rfl rfl ?_
  refine gg_get (pc := 1) E ck_J2 1 q558 rfl (by decide) dJ2_elementData_1 (gg_r 0 rfl) rfl ?_
  refine gg_iload_n (pc := 4) E dJ2_elementData_4 rfl rfl ?_
  refine gg_aaldN (pc := 5) E 4 rfl j rfl (by omega) (by omega) dJ2_elementData_5 (gg_r 1 rfl) ?_
  refine gg_topV (show va_rf (f j) = .ref r1 from by rw [hf]; rfl) ?_
  refine gg_aret (pc := 6) E Fn rfl (Or.inl ⟨_, rfl⟩) (Or.inr ⟨_, rfl⟩) dJ2_elementData_6 (by first | exact Nat.le_of_ble_eq_true rfl | (dsimp only; omega)) (by first | exact Nat.le_of_ble_eq_true rfl | (dsimp only; omega)) ?_
  exact ⟨rfl, rfl⟩
set_option maxHeartbeats 4000000 in
theorem ct_J2_get {l : Launch} (hl : l.stackTraces = false) {g : gg_G}  {h ea cap n1 : Nat} {mc1 : Int32} {f : Nat → Option Nat} {j r1 : Nat} (hj : j < n1) (hnc : n1 ≤ cap) (hcm : cap ≤ 1000) (hf : f j = some r1) : gg_C l g yJ2_get (ws_ yJ2_get cJ2_get 2 (some (.object "java/lang/Object"))) { frames := 2, cells := 0, slots := 0, locals := 43 } [.ref h, .int (nI j)] [(h, .inl (11, [.int mc1, .ref ea, .int (nI n1)])), (ea, gg_ao g 4 cap f)] [] (fun vv CC => vv = some (.ref r1) ∧ CC = []) gg_no := by
  refine gg_of (lv := [_, _]) (by decide) hl (Nat.le_of_ble_eq_true rfl) rfl ?_
  intro p e R s m args below meth c A Q hRf hRl hRc hRs E Fn hnm hex
  refine gg_iload_n (pc := 0) E dJ2_get_0 rfl rfl ?_
  refine gg_aload_n (pc := 1) E dJ2_get_1 rfl rfl ?_
  refine gg_get (pc := 2) E ck_J2 2 q561 rfl (by decide) dJ2_get_2 (gg_r 0 rfl) rfl ?_
  refine gg_callS (F := []) (As := [.int (nI j), .int (nI n1)]) (rest := []) (pc := 5) E (ct_J23_checkIndex hl (hj) (by omega)) (va_cwS 2 E.2.2.2.2.1 (lw_S q1109 q1110 q182 q1111) rfl rfl rfl (by decide +kernel) ⟨by rw [hRf]; exact Nat.le_of_ble_eq_true rfl, by rw [hRl]; exact Nat.le_of_ble_eq_true rfl⟩) dJ2_get_5 [] (by decide) rfl rfl (fun _ h => by cases h) rfl rfl (Nat.le_of_ble_eq_true rfl) (by first | (rw [hRc]; exact Nat.le_of_ble_eq_true rfl) | (rw [hRc]; dsimp only; omega)) (by first | (rw [hRs]; exact Nat.le_of_ble_eq_true rfl) | (rw [hRs]; dsimp only; omega)) ?_ (fun X q C1 h => h.elim)
  rintro _ _ ⟨rfl, rfl⟩
  dsimp only [List.cons_append, List.nil_append, Option.toList]
  refine gg_pop (pc := 8) E dJ2_get_8 rfl ?_
  refine gg_aload_n (pc := 9) E dJ2_get_9 rfl rfl ?_
  refine gg_iload_n (pc := 10) E dJ2_get_10 rfl rfl ?_
  refine gg_callV (F := []) (As := [.int (nI j)]) (rest := []) (pc := 11) E ck_J2 (ct_J2_elementData hl (by first | assumption | omega) (by first | assumption | omega) (by first | assumption | omega) (by first | assumption | omega)) (cwV 1 E.2.2.2.2.1 (lw_V q1113 q1114 q1115 q155 q1116) rfl rfl rfl (by decide +kernel) ⟨by rw [hRf]; exact Nat.le_of_ble_eq_true rfl, by rw [hRl]; exact Nat.le_of_ble_eq_true rfl⟩) dJ2_get_11 [] (by decide) rfl rfl (List.forall_mem_cons.mpr ⟨(gg_r 0 rfl), (List.forall_mem_cons.mpr ⟨(gg_r 1 rfl), (fun _ h => by cases h)⟩)⟩) (gg_r 0 rfl) rfl rfl (Nat.le_of_ble_eq_true rfl) (by first | (rw [hRc]; exact Nat.le_of_ble_eq_true rfl) | (rw [hRc]; dsimp only; omega)) (by first | (rw [hRs]; exact Nat.le_of_ble_eq_true rfl) | (rw [hRs]; dsimp only; omega)) ?_ (fun X q C1 h => h.elim)
  rintro _ _ ⟨rfl, rfl⟩
  dsimp only [List.cons_append, List.nil_append, Option.toList]
  refine gg_aret (pc := 14) E Fn rfl (Or.inl ⟨_, rfl⟩) (Or.inr ⟨_, rfl⟩) dJ2_get_14 (by first | exact Nat.le_of_ble_eq_true rfl | (dsimp only; omega)) (by first | exact Nat.le_of_ble_eq_true rfl | (dsimp only; omega)) ?_
  exact ⟨rfl, rfl⟩
set_option maxHeartbeats 4000000 in
theorem ct_J26_init {l : Launch} (hl : l.stackTraces = false) {g : gg_G}  {h i1 ea n1 : Nat} {mc1 : Int32}  : gg_C l g yJ26_init (ws_ yJ26_init cJ26_init 2 none) { frames := 1, cells := 0, slots := 0, locals := 16 } [.ref i1, .ref h] [(h, .inl (11, [.int mc1, .ref ea, .int (nI n1)]))] [[(i1, .inl (18, [.int 0, .int 0, .int 0, .null]))]] (fun vv CC => vv = none ∧ CC = [[(i1, .inl (18, [.int 0, .int (-1), .int mc1, .ref h]))]]) gg_no := by
  refine gg_of (lv := [_, _]) (by decide) hl (Nat.le_of_ble_eq_true rfl) rfl ?_
  intro p e R s m args below meth c A Q hRf hRl hRc hRs E Fn hnm hex
  refine gg_aload_n (pc := 0) E dJ26_init_0 rfl rfl ?_
  refine gg_aload_n (pc := 1) E dJ26_init_1 rfl rfl ?_
  refine gg_putF (fs' := [_, _, _, _]) (M' := [_]) (pc := 2) E ck_J26 3 q1235 rfl (by decide) hnm dJ26_init_2 0 rfl rfl (rfl) rfl (Nat.le_of_ble_eq_true rfl) rfl rfl ?_
  refine gg_aload_n (pc := 5) E dJ26_init_5 rfl rfl ?_
  refine gg_objInit (pc := 6) E q1228 dJ26_init_6 (by rw [hRf]; exact Nat.le_of_ble_eq_true rfl) (by rw [hRl]; exact Nat.le_of_ble_eq_true rfl) ?_
  refine gg_aload_n (pc := 9) E dJ26_init_9 rfl rfl ?_
  refine gg_iconst (v := (-1)) (pc := 10) E dJ26_init_10 (by decide) ?_
  refine gg_put (fs' := [_, _, _, _]) (M' := [_]) (pc := 11) E ck_J26 1 q1233 rfl (by decide) dJ26_init_11 0 rfl rfl (rfl) rfl (Nat.le_of_ble_eq_true rfl) rfl rfl ?_
  refine gg_aload_n (pc := 14) E dJ26_init_14 rfl rfl ?_
  refine gg_aload_n (pc := 15) E dJ26_init_15 rfl rfl ?_
  refine gg_get (pc := 16) E ck_J26 3 q1235 rfl (by decide) dJ26_init_16 (gg_i 0 rfl) rfl ?_
  refine gg_getU (pc := 19) E ck_J2 0 q565 q566 rfl (by decide) dJ26_init_19 (gg_r 0 rfl) rfl ?_
  refine gg_put (fs' := [_, _, _, _]) (M' := [_]) (pc := 22) E ck_J26 2 q1234 rfl (by decide) dJ26_init_22 0 rfl rfl (rfl) rfl (Nat.le_of_ble_eq_true rfl) rfl rfl ?_
  refine gg_vret (pc := 25) E Fn rfl dJ26_init_25 (by first | exact Nat.le_of_ble_eq_true rfl | (dsimp only; omega)) (by first | exact Nat.le_of_ble_eq_true rfl | (dsimp only; omega)) ?_
  exact ⟨rfl, rfl⟩
set_option maxHeartbeats 4000000 in
theorem ct_J2_iterator {l : Launch} (hl : l.stackTraces = false) {g : gg_G}  {h ea n1 : Nat} {mc1 : Int32}  : gg_C l g yJ2_iterator (ws_ yJ2_iterator cJ2_iterator 1 (some (.object "java/util/Iterator"))) { frames := 2, cells := 1, slots := 4, locals := 37 } [.ref h] [(h, .inl (11, [.int mc1, .ref ea, .int (nI n1)]))] [] (fun vv CC => ∃ (i1 : Nat), vv = some (.ref i1) ∧ CC = [[(i1, .inl (18, [.int 0, .int (-1), .int mc1, .ref h]))]]) gg_no := by
  refine gg_of (lv := [_]) (by decide) hl (Nat.le_of_ble_eq_true rfl) rfl ?_
  intro p e R s m args below meth c A Q hRf hRl hRc hRs E Fn hnm hex
  refine gg_new (fs := [.int 0, .int 0, .int 0, .null]) (pc := 0) E ck_J26 q2380 q2381 q186 dJ2_iterator_0 (gg_fsJ26) (by first | (rw [hRc]; exact Nat.le_of_ble_eq_true rfl) | (rw [hRc]; dsimp only; omega)) (by first | (rw [hRs]; exact Nat.le_of_ble_eq_true rfl) | (rw [hRs]; dsimp only; omega)) (fun _ => rfl) (fun a1 => ?_)
  dsimp only [List.cons_append, List.nil_append]
  refine gg_dup (pc := 3) E dJ2_iterator_3 rfl ?_
  refine gg_aload_n (pc := 4) E dJ2_iterator_4 rfl rfl ?_
  refine gg_callI (F := []) (As := [_]) (rest := [_]) (pc := 5) E (ct_J26_init hl ) (cwI 1 E.2.2.2.2.1 (lw_meth q1227) rfl rfl rfl (E.2.2.2.2.1 _ q186) (E.2.2.2.2.1 _ q2382) (E.2.2.2.2.1 _ q1226) rfl (by decide +kernel) ⟨by rw [hRf]; exact Nat.le_of_ble_eq_true rfl, by rw [hRl]; exact Nat.le_of_ble_eq_true rfl⟩) dJ2_iterator_5 [0] (by decide) rfl rfl (List.forall_mem_cons.mpr ⟨(gg_r 0 rfl), (fun _ h => by cases h)⟩) rfl rfl (Nat.le_of_ble_eq_true rfl) (by first | (rw [hRc]; exact Nat.le_of_ble_eq_true rfl) | (rw [hRc]; dsimp only; omega)) (by first | (rw [hRs]; exact Nat.le_of_ble_eq_true rfl) | (rw [hRs]; dsimp only; omega)) ?_ (fun X q C1 h => h.elim)
  rintro _ _ ⟨rfl, rfl⟩
  dsimp only [List.cons_append, List.nil_append, Option.toList]
  refine gg_aret (pc := 8) E Fn rfl (Or.inl ⟨_, rfl⟩) (Or.inr ⟨_, rfl⟩) dJ2_iterator_8 (by first | exact Nat.le_of_ble_eq_true rfl | (dsimp only; omega)) (by first | exact Nat.le_of_ble_eq_true rfl | (dsimp only; omega)) ?_
  exact ⟨_, rfl, rfl⟩
set_option maxHeartbeats 4000000 in
theorem ct_J26_hasNext {l : Launch} (hl : l.stackTraces = false) {g : gg_G}  {h i1 ea n1 c1 : Nat} {mc1 la : Int32} (hc : c1 < 2 ^ 31) (hn : n1 < 2 ^ 31) : gg_C l g yJ26_hasNext (ws_ yJ26_hasNext cJ26_hasNext 1 (some .boolean)) { frames := 0, cells := 0, slots := 0, locals := 0 } [.ref i1] [(i1, .inl (18, [.int (nI c1), .int la, .int mc1, .ref h])), (h, .inl (11, [.int mc1, .ref ea, .int (nI n1)]))] [] (fun vv CC => vv = some (.int (if ¬ c1 = n1 then 1 else 0)) ∧ CC = []) gg_no := by
  refine gg_of (lv := [_]) (by decide) hl (Nat.le_of_ble_eq_true rfl) rfl ?_
  intro p e R s m args below meth c A Q hRf hRl hRc hRs E Fn hnm hex
  refine gg_aload_n (pc := 0) E dJ26_hasNext_0 rfl rfl ?_
  refine gg_get (pc := 1) E ck_J26 0 q1232 rfl (by decide) dJ26_hasNext_1 (gg_r 0 rfl) rfl ?_
  refine gg_aload_n (pc := 4) E dJ26_hasNext_4 rfl rfl ?_
  refine gg_get (pc := 5) E ck_J26 3 q1235 rfl (by decide) dJ26_hasNext_5 (gg_r 0 rfl) rfl ?_
  refine gg_getN (pc := 8) E ck_J2 2 nq560 rfl (by decide) dJ26_hasNext_8 (gg_r 1 rfl) rfl ?_
  refine gg_icmpB_eq (pc := 11) E dJ26_hasNext_11 dJ26_hasNext_14 dJ26_hasNext_15 dJ26_hasNext_18 ?_
  refine gg_topI (y := if ¬ c1 = n1 then 1 else 0) (gg_ifc (not_congr (nI_eq (by omega) (by omega)))) ?_
  refine gg_iret (pc := 19) E Fn rfl (gg_nz (by first | decide | assumption | exact gg_b01 | (split <;> decide))) dJ26_hasNext_19 (by first | exact Nat.le_of_ble_eq_true rfl | (dsimp only; omega)) (by first | exact Nat.le_of_ble_eq_true rfl | (dsimp only; omega)) ?_
  exact ⟨rfl, rfl⟩
set_option maxHeartbeats 4000000 in
theorem ct_J26_checkForComodification {l : Launch} (hl : l.stackTraces = false) {g : gg_G}  {h i1 ea n1 : Nat} {mc1 cu la : Int32}  : gg_C l g yJ26_checkForComodification (ws_ yJ26_checkForComodification cJ26_checkForComodification 1 none) { frames := 8, cells := 0, slots := 0, locals := 140 } [.ref i1] [(i1, .inl (18, [.int cu, .int la, .int mc1, .ref h])), (h, .inl (11, [.int mc1, .ref ea, .int (nI n1)]))] [] (fun vv CC => vv = none ∧ CC = []) gg_no := by
  refine gg_of (lv := [_]) (by decide) hl (Nat.le_of_ble_eq_true rfl) rfl ?_
  intro p e R s m args below meth c A Q hRf hRl hRc hRs E Fn hnm hex
  refine gg_aload_n (pc := 0) E dJ26_checkForComodification_0 rfl rfl ?_
  refine gg_get (pc := 1) E ck_J26 3 q1235 rfl (by decide) dJ26_checkForComodification_1 (gg_r 0 rfl) rfl ?_
  refine gg_getU (pc := 4) E ck_J2 0 q565 q566 rfl (by decide) dJ26_checkForComodification_4 (gg_r 1 rfl) rfl ?_
  refine gg_aload_n (pc := 7) E dJ26_checkForComodification_7 rfl rfl ?_
  refine gg_get (pc := 8) E ck_J26 2 q1234 rfl (by decide) dJ26_checkForComodification_8 (gg_r 0 rfl) rfl ?_
  refine gg_icmp_eq (tgt := 22) (pc := 11) E dJ26_checkForComodification_11 (by decide) (fun c11 => ?_) (fun c11 => ?_)
  rotate_left
  · exact absurd rfl c11
  refine gg_vret (pc := 22) E Fn rfl dJ26_checkForComodification_22 (by first | exact Nat.le_of_ble_eq_true rfl | (dsimp only; omega)) (by first | exact Nat.le_of_ble_eq_true rfl | (dsimp only; omega)) ?_
  exact ⟨rfl, rfl⟩
set_option maxHeartbeats 4000000 in
theorem ct_J26_next {l : Launch} (hl : l.stackTraces = false) {g : gg_G}  {h ea cap n1 : Nat} {mc1 : Int32} {f : Nat → Option Nat} {i1 c1 r1 : Nat} {la : Int32} (hj : c1 < n1) (hnc : n1 ≤ cap) (hcm : cap ≤ 1000) (hf : f c1 = some r1) : gg_C l g yJ26_next (ws_ yJ26_next cJ26_next 3 (some (.object "java/lang/Object"))) { frames := 9, cells := 0, slots := 0, locals := 160 } [.ref i1] [(h, .inl (11, [.int mc1, .ref ea, .int (nI n1)])), (ea, gg_ao g 4 cap f)] [[(i1, .inl (18, [.int (nI c1), .int la, .int mc1, .ref h]))]] (fun vv CC => vv = some (.ref r1) ∧ CC = [[(i1, .inl (18, [.int (nI (c1 + 1)), .int (nI c1), .int mc1, .ref h]))]]) gg_no := by
  refine gg_of (lv := [_, _, _]) (by decide) hl (Nat.le_of_ble_eq_true rfl) rfl ?_
  intro p e R s m args below meth c A Q hRf hRl hRc hRs E Fn hnm hex
  refine gg_aload_n (pc := 0) E dJ26_next_0 rfl rfl ?_
  refine gg_callV (F := [_]) (As := []) (rest := []) (pc := 1) E ck_J26 (ct_J26_checkForComodification hl ) (cwV 0 E.2.2.2.2.1 (lw_V q1401 q1402 q1403 q186 q1406) rfl rfl rfl (by decide +kernel) ⟨by rw [hRf]; exact Nat.le_of_ble_eq_true rfl, by rw [hRl]; exact Nat.le_of_ble_eq_true rfl⟩) dJ26_next_1 [] (by decide) rfl rfl (List.forall_mem_cons.mpr ⟨(gg_i 0 rfl), (List.forall_mem_cons.mpr ⟨(gg_r 0 rfl), (fun _ h => by cases h)⟩)⟩) (gg_i 0 rfl) rfl rfl (Nat.le_of_ble_eq_true rfl) (by first | (rw [hRc]; exact Nat.le_of_ble_eq_true rfl) | (rw [hRc]; dsimp only; omega)) (by first | (rw [hRs]; exact Nat.le_of_ble_eq_true rfl) | (rw [hRs]; dsimp only; omega)) ?_ (fun X q C1 h => h.elim)
  rintro _ _ ⟨rfl, rfl⟩
  dsimp only [List.cons_append, List.nil_append, Option.toList]
  refine gg_aload_n (pc := 4) E dJ26_next_4 rfl rfl ?_
  refine gg_get (pc := 5) E ck_J26 0 q1232 rfl (by decide) dJ26_next_5 (gg_i 0 rfl) rfl ?_
  refine gg_istore_n (lv' := [_, _, _]) (pc := 8) E dJ26_next_8 rfl (Nat.le_of_ble_eq_true rfl) rfl rfl ?_
  refine gg_iload_n (pc := 9) E dJ26_next_9 rfl rfl ?_
  refine gg_aload_n (pc := 10) E dJ26_next_10 rfl rfl ?_
  refine gg_get (pc := 11) E ck_J26 3 q1235 rfl (by decide) dJ26_next_11 (gg_i 0 rfl) rfl ?_
  refine gg_getN (pc := 14) E ck_J2 2 nq560 rfl (by decide) dJ26_next_14 (gg_r 0 rfl) rfl ?_
  refine gg_icmpN_lt (tgt := 28) (pc := 17) E c1 n1 rfl rfl (by omega) (by omega) dJ26_next_17 (by decide) (fun c17 => ?_) (fun c17 => ?_)
  rotate_left
  · exact absurd hj (by omega)
  refine gg_aload_n (pc := 28) E dJ26_next_28 rfl rfl ?_
  refine gg_get (pc := 29) E ck_J26 3 q1235 rfl (by decide) dJ26_next_29 (gg_i 0 rfl) rfl ?_
  refine gg_get (pc := 32) E ck_J2 1 q559 rfl (by decide) dJ26_next_32 (gg_r 0 rfl) rfl ?_
  refine gg_astore_n (lv' := [_, _, _]) (pc := 35) E dJ26_next_35 rfl (Nat.le_of_ble_eq_true rfl) rfl rfl ?_
  refine gg_iload_n (pc := 36) E dJ26_next_36 rfl rfl ?_
  refine gg_aload_n (pc := 37) E dJ26_next_37 rfl rfl ?_
  refine gg_alen (pc := 38) E 4 rfl dJ26_next_38 (gg_r 1 rfl) ?_
  refine gg_icmpN_lt (tgt := 50) (pc := 39) E c1 cap rfl rfl (by omega) (by omega) dJ26_next_39 (by decide) (fun c39 => ?_) (fun c39 => ?_)
  rotate_left
  · exact absurd hj (by omega)
  refine gg_aload_n (pc := 50) E dJ26_next_50 rfl rfl ?_
  refine gg_iload_n (pc := 51) E dJ26_next_51 rfl rfl ?_
  refine gg_iconst (v := 1) (pc := 52) E dJ26_next_52 (by decide) ?_
  refine gg_iaddN (pc := 53) E c1 1 rfl rfl dJ26_next_53 ?_
  refine gg_put (fs' := [_, _, _, _]) (M' := [_]) (pc := 54) E ck_J26 0 q1232 rfl (by decide) dJ26_next_54 0 rfl rfl (rfl) rfl (Nat.le_of_ble_eq_true rfl) rfl rfl ?_
  refine gg_aload_n (pc := 57) E dJ26_next_57 rfl rfl ?_
  refine gg_aload_n (pc := 58) E dJ26_next_58 rfl rfl ?_
  refine gg_iload_n (pc := 59) E dJ26_next_59 rfl rfl ?_
  refine gg_dup_x1 (pc := 60) E dJ26_next_60 rfl rfl ?_
  refine gg_put (fs' := [_, _, _, _]) (M' := [_]) (pc := 61) E ck_J26 1 q1233 rfl (by decide) dJ26_next_61 0 rfl rfl (rfl) rfl (Nat.le_of_ble_eq_true rfl) rfl rfl ?_
  refine gg_aaldN (pc := 64) E 4 rfl c1 rfl (by omega) (by omega) dJ26_next_64 (gg_r 1 rfl) ?_
  refine gg_topV (show va_rf (f c1) = .ref r1 from by rw [hf]; rfl) ?_
  refine gg_aret (pc := 65) E Fn rfl (Or.inl ⟨_, rfl⟩) (Or.inr ⟨_, rfl⟩) dJ26_next_65 (by first | exact Nat.le_of_ble_eq_true rfl | (dsimp only; omega)) (by first | exact Nat.le_of_ble_eq_true rfl | (dsimp only; omega)) ?_
  exact ⟨rfl, rfl⟩

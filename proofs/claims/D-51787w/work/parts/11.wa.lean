set_option maxRecDepth 100000
set_option maxHeartbeats 4000000 in
theorem ct_X4_first {l : Launch} (hl : l.stackTraces = false) {g : gg_G}  {h : Nat} {f s2 d : Int32}  : gg_C l g yX4_first (ws_ yX4_first cX4_first 1 (some .int)) { frames := 0, cells := 0, slots := 0, locals := 0 } [.ref h] [(h, .inl (3, [.int f, .int s2, .int d]))] [] (fun vv CC => vv = some (.int f) ∧ CC = []) gg_no := by
  refine gg_of (lv := [_]) (by decide) hl (Nat.le_of_ble_eq_true rfl) rfl ?_
  intro p e R s m args below meth c A Q hRf hRl hRc hRs E Fn hnm hex
  refine gg_aload_n (pc := 0) E dX4_first_0 rfl rfl ?_
  refine gg_get (pc := 1) E ck_X4 0 q793 rfl (by decide) dX4_first_1 (gg_r 0 rfl) rfl ?_
  refine gg_iret (pc := 4) E Fn rfl (rfl) dX4_first_4 (by first | exact Nat.le_of_ble_eq_true rfl | (dsimp only; omega)) (by first | exact Nat.le_of_ble_eq_true rfl | (dsimp only; omega)) ?_
  exact ⟨rfl, rfl⟩
set_option maxHeartbeats 4000000 in
theorem ct_X4_second {l : Launch} (hl : l.stackTraces = false) {g : gg_G}  {h : Nat} {f s2 d : Int32}  : gg_C l g yX4_second (ws_ yX4_second cX4_second 1 (some .int)) { frames := 0, cells := 0, slots := 0, locals := 0 } [.ref h] [(h, .inl (3, [.int f, .int s2, .int d]))] [] (fun vv CC => vv = some (.int s2) ∧ CC = []) gg_no := by
  refine gg_of (lv := [_]) (by decide) hl (Nat.le_of_ble_eq_true rfl) rfl ?_
  intro p e R s m args below meth c A Q hRf hRl hRc hRs E Fn hnm hex
  refine gg_aload_n (pc := 0) E dX4_second_0 rfl rfl ?_
  refine gg_get (pc := 1) E ck_X4 1 q794 rfl (by decide) dX4_second_1 (gg_r 0 rfl) rfl ?_
  refine gg_iret (pc := 4) E Fn rfl (rfl) dX4_second_4 (by first | exact Nat.le_of_ble_eq_true rfl | (dsimp only; omega)) (by first | exact Nat.le_of_ble_eq_true rfl | (dsimp only; omega)) ?_
  exact ⟨rfl, rfl⟩
set_option maxHeartbeats 4000000 in
theorem ct_X4_far {l : Launch} (hl : l.stackTraces = false) {g : gg_G}  {h : Nat} {f s2 d : Int32}  : gg_C l g yX4_far (ws_ yX4_far cX4_far 1 (some .int)) { frames := 0, cells := 0, slots := 0, locals := 0 } [.ref h] [(h, .inl (3, [.int f, .int s2, .int d]))] [] (fun vv CC => vv = some (.int d) ∧ CC = []) gg_no := by
  refine gg_of (lv := [_]) (by decide) hl (Nat.le_of_ble_eq_true rfl) rfl ?_
  intro p e R s m args below meth c A Q hRf hRl hRc hRs E Fn hnm hex
  refine gg_aload_n (pc := 0) E dX4_far_0 rfl rfl ?_
  refine gg_get (pc := 1) E ck_X4 2 q795 rfl (by decide) dX4_far_1 (gg_r 0 rfl) rfl ?_
  refine gg_iret (pc := 4) E Fn rfl (rfl) dX4_far_4 (by first | exact Nat.le_of_ble_eq_true rfl | (dsimp only; omega)) (by first | exact Nat.le_of_ble_eq_true rfl | (dsimp only; omega)) ?_
  exact ⟨rfl, rfl⟩
set_option maxHeartbeats 4000000 in
theorem ct_X4_joins {l : Launch} (hl : l.stackTraces = false) {g : gg_G}  {h : Nat} {f s2 d : Int32} {a b : Int32}  : gg_C l g yX4_joins (ws_ yX4_joins cX4_joins 3 (some .boolean)) { frames := 0, cells := 0, slots := 0, locals := 0 } [.ref h, .int a, .int b] [(h, .inl (3, [.int f, .int s2, .int d]))] [] (fun vv CC => vv = some (.int (if f = a ∧ s2 = b ∨ f = b ∧ s2 = a then 1 else 0)) ∧ CC = []) gg_no := by
  refine gg_of (lv := [_, _, _]) (by decide) hl (Nat.le_of_ble_eq_true rfl) rfl ?_
  intro p e R s m args below meth c A Q hRf hRl hRc hRs E Fn hnm hex
  refine gg_aload_n (pc := 0) E dX4_joins_0 rfl rfl ?_
  refine gg_get (pc := 1) E ck_X4 0 q793 rfl (by decide) dX4_joins_1 (gg_r 0 rfl) rfl ?_
  refine gg_iload_n (pc := 4) E dX4_joins_4 rfl rfl ?_
  refine gg_icmp_ne (tgt := 16) (pc := 5) E dX4_joins_5 (by decide) (fun c5 => ?_) (fun c5 => ?_)
  · refine gg_aload_n (pc := 16) E dX4_joins_16 rfl rfl ?_
    refine gg_get (pc := 17) E ck_X4 0 q793 rfl (by decide) dX4_joins_17 (gg_r 0 rfl) rfl ?_
    refine gg_iload_n (pc := 20) E dX4_joins_20 rfl rfl ?_
    refine gg_icmp_ne (tgt := 36) (pc := 21) E dX4_joins_21 (by decide) (fun c21 => ?_) (fun c21 => ?_)
    · refine gg_iconst (v := 0) (pc := 36) E dX4_joins_36 (by decide) ?_
      refine gg_iret (pc := 37) E Fn rfl (gg_nz (by first | decide | assumption | exact gg_b01 | (split <;> decide))) dX4_joins_37 (by first | exact Nat.le_of_ble_eq_true rfl | (dsimp only; omega)) (by first | exact Nat.le_of_ble_eq_true rfl | (dsimp only; omega)) ?_
      exact ⟨by simp_all, rfl⟩
    · refine gg_aload_n (pc := 24) E dX4_joins_24 rfl rfl ?_
      refine gg_get (pc := 25) E ck_X4 1 q794 rfl (by decide) dX4_joins_25 (gg_r 0 rfl) rfl ?_
      refine gg_iload_n (pc := 28) E dX4_joins_28 rfl rfl ?_
      refine gg_icmpB_ne (pc := 29) E dX4_joins_29 dX4_joins_32 dX4_joins_33 dX4_joins_36 ?_
      refine gg_iret (pc := 37) E Fn rfl (gg_nz (by first | decide | assumption | exact gg_b01 | (split <;> decide))) dX4_joins_37 (by first | exact Nat.le_of_ble_eq_true rfl | (dsimp only; omega)) (by first | exact Nat.le_of_ble_eq_true rfl | (dsimp only; omega)) ?_
      exact ⟨by simp_all, rfl⟩
  · refine gg_aload_n (pc := 8) E dX4_joins_8 rfl rfl ?_
    refine gg_get (pc := 9) E ck_X4 1 q794 rfl (by decide) dX4_joins_9 (gg_r 0 rfl) rfl ?_
    refine gg_iload_n (pc := 12) E dX4_joins_12 rfl rfl ?_
    refine gg_icmp_eq (tgt := 32) (pc := 13) E dX4_joins_13 (by decide) (fun c13 => ?_) (fun c13 => ?_)
    · refine gg_iconst (v := 1) (pc := 32) E dX4_joins_32 (by decide) ?_
      refine gg_goto (tgt := 37) (pc := 33) E dX4_joins_33 (by decide) ?_
      refine gg_iret (pc := 37) E Fn rfl (gg_nz (by first | decide | assumption | exact gg_b01 | (split <;> decide))) dX4_joins_37 (by first | exact Nat.le_of_ble_eq_true rfl | (dsimp only; omega)) (by first | exact Nat.le_of_ble_eq_true rfl | (dsimp only; omega)) ?_
      exact ⟨by simp_all, rfl⟩
    · refine gg_aload_n (pc := 16) E dX4_joins_16 rfl rfl ?_
      refine gg_get (pc := 17) E ck_X4 0 q793 rfl (by decide) dX4_joins_17 (gg_r 0 rfl) rfl ?_
      refine gg_iload_n (pc := 20) E dX4_joins_20 rfl rfl ?_
      refine gg_icmp_ne (tgt := 36) (pc := 21) E dX4_joins_21 (by decide) (fun c21 => ?_) (fun c21 => ?_)
      · refine gg_iconst (v := 0) (pc := 36) E dX4_joins_36 (by decide) ?_
        refine gg_iret (pc := 37) E Fn rfl (gg_nz (by first | decide | assumption | exact gg_b01 | (split <;> decide))) dX4_joins_37 (by first | exact Nat.le_of_ble_eq_true rfl | (dsimp only; omega)) (by first | exact Nat.le_of_ble_eq_true rfl | (dsimp only; omega)) ?_
        exact ⟨by simp_all, rfl⟩
      · refine gg_aload_n (pc := 24) E dX4_joins_24 rfl rfl ?_
        refine gg_get (pc := 25) E ck_X4 1 q794 rfl (by decide) dX4_joins_25 (gg_r 0 rfl) rfl ?_
        refine gg_iload_n (pc := 28) E dX4_joins_28 rfl rfl ?_
        refine gg_icmpB_ne (pc := 29) E dX4_joins_29 dX4_joins_32 dX4_joins_33 dX4_joins_36 ?_
        refine gg_iret (pc := 37) E Fn rfl (gg_nz (by first | decide | assumption | exact gg_b01 | (split <;> decide))) dX4_joins_37 (by first | exact Nat.le_of_ble_eq_true rfl | (dsimp only; omega)) (by first | exact Nat.le_of_ble_eq_true rfl | (dsimp only; omega)) ?_
        exact ⟨by simp_all, rfl⟩
set_option maxHeartbeats 4000000 in
theorem ct_X4_ends {l : Launch} (hl : l.stackTraces = false) {g : gg_G}  {h : Nat} {f s2 d : Int32} {a : Int32}  : gg_C l g yX4_ends (ws_ yX4_ends cX4_ends 2 (some .boolean)) { frames := 0, cells := 0, slots := 0, locals := 0 } [.ref h, .int a] [(h, .inl (3, [.int f, .int s2, .int d]))] [] (fun vv CC => vv = some (.int (if f = a ∨ s2 = a then 1 else 0)) ∧ CC = []) gg_no := by
  refine gg_of (lv := [_, _]) (by decide) hl (Nat.le_of_ble_eq_true rfl) rfl ?_
  intro p e R s m args below meth c A Q hRf hRl hRc hRs E Fn hnm hex
  refine gg_aload_n (pc := 0) E dX4_ends_0 rfl rfl ?_
  refine gg_get (pc := 1) E ck_X4 0 q793 rfl (by decide) dX4_ends_1 (gg_r 0 rfl) rfl ?_
  refine gg_iload_n (pc := 4) E dX4_ends_4 rfl rfl ?_
  refine gg_icmp_eq (tgt := 16) (pc := 5) E dX4_ends_5 (by decide) (fun c5 => ?_) (fun c5 => ?_)
  · refine gg_iconst (v := 1) (pc := 16) E dX4_ends_16 (by decide) ?_
    refine gg_goto (tgt := 21) (pc := 17) E dX4_ends_17 (by decide) ?_
    refine gg_iret (pc := 21) E Fn rfl (gg_nz (by first | decide | assumption | exact gg_b01 | (split <;> decide))) dX4_ends_21 (by first | exact Nat.le_of_ble_eq_true rfl | (dsimp only; omega)) (by first | exact Nat.le_of_ble_eq_true rfl | (dsimp only; omega)) ?_
    exact ⟨by simp_all, rfl⟩
  · refine gg_aload_n (pc := 8) E dX4_ends_8 rfl rfl ?_
    refine gg_get (pc := 9) E ck_X4 1 q794 rfl (by decide) dX4_ends_9 (gg_r 0 rfl) rfl ?_
    refine gg_iload_n (pc := 12) E dX4_ends_12 rfl rfl ?_
    refine gg_icmpB_ne (pc := 13) E dX4_ends_13 dX4_ends_16 dX4_ends_17 dX4_ends_20 ?_
    refine gg_iret (pc := 21) E Fn rfl (gg_nz (by first | decide | assumption | exact gg_b01 | (split <;> decide))) dX4_ends_21 (by first | exact Nat.le_of_ble_eq_true rfl | (dsimp only; omega)) (by first | exact Nat.le_of_ble_eq_true rfl | (dsimp only; omega)) ?_
    exact ⟨by simp_all, rfl⟩
set_option maxHeartbeats 4000000 in
theorem ct_X4_beyond {l : Launch} (hl : l.stackTraces = false) {g : gg_G}  {h : Nat} {f s2 d : Int32} {a : Int32}  : gg_C l g yX4_beyond (ws_ yX4_beyond cX4_beyond 2 (some .int)) { frames := 0, cells := 0, slots := 0, locals := 0 } [.ref h, .int a] [(h, .inl (3, [.int f, .int s2, .int d]))] [] (fun vv CC => vv = some (.int (if f = a then s2 else f)) ∧ CC = []) gg_no := by
  refine gg_of (lv := [_, _]) (by decide) hl (Nat.le_of_ble_eq_true rfl) rfl ?_
  intro p e R s m args below meth c A Q hRf hRl hRc hRs E Fn hnm hex
  refine gg_aload_n (pc := 0) E dX4_beyond_0 rfl rfl ?_
  refine gg_get (pc := 1) E ck_X4 0 q793 rfl (by decide) dX4_beyond_1 (gg_r 0 rfl) rfl ?_
  refine gg_iload_n (pc := 4) E dX4_beyond_4 rfl rfl ?_
  refine gg_icmp_ne (tgt := 15) (pc := 5) E dX4_beyond_5 (by decide) (fun c5 => ?_) (fun c5 => ?_)
  · refine gg_aload_n (pc := 15) E dX4_beyond_15 rfl rfl ?_
    refine gg_get (pc := 16) E ck_X4 0 q793 rfl (by decide) dX4_beyond_16 (gg_r 0 rfl) rfl ?_
    refine gg_iret (pc := 19) E Fn rfl (rfl) dX4_beyond_19 (by first | exact Nat.le_of_ble_eq_true rfl | (dsimp only; omega)) (by first | exact Nat.le_of_ble_eq_true rfl | (dsimp only; omega)) ?_
    exact ⟨by simp_all, rfl⟩
  · refine gg_aload_n (pc := 8) E dX4_beyond_8 rfl rfl ?_
    refine gg_get (pc := 9) E ck_X4 1 q794 rfl (by decide) dX4_beyond_9 (gg_r 0 rfl) rfl ?_
    refine gg_goto (tgt := 19) (pc := 12) E dX4_beyond_12 (by decide) ?_
    refine gg_iret (pc := 19) E Fn rfl (rfl) dX4_beyond_19 (by first | exact Nat.le_of_ble_eq_true rfl | (dsimp only; omega)) (by first | exact Nat.le_of_ble_eq_true rfl | (dsimp only; omega)) ?_
    exact ⟨by simp_all, rfl⟩
set_option maxHeartbeats 4000000 in
theorem ct_J21_init {l : Launch} (hl : l.stackTraces = false) {g : gg_G}  {h : Nat}  : gg_C l g yJ21_init (ws_ yJ21_init cJ21_init 1 none) { frames := 1, cells := 0, slots := 0, locals := 16 } [.ref h] [] [] (fun vv CC => vv = none ∧ CC = []) gg_no := by
  refine gg_of (lv := [_]) (by decide) hl (Nat.le_of_ble_eq_true rfl) rfl ?_
  intro p e R s m args below meth c A Q hRf hRl hRc hRs E Fn hnm hex
  refine gg_aload_n (pc := 0) E dJ21_init_0 rfl rfl ?_
  refine gg_objInit (pc := 1) E q792 dJ21_init_1 (by rw [hRf]; exact Nat.le_of_ble_eq_true rfl) (by rw [hRl]; exact Nat.le_of_ble_eq_true rfl) ?_
  refine gg_vret (pc := 4) E Fn rfl dJ21_init_4 (by first | exact Nat.le_of_ble_eq_true rfl | (dsimp only; omega)) (by first | exact Nat.le_of_ble_eq_true rfl | (dsimp only; omega)) ?_
  exact ⟨rfl, rfl⟩
set_option maxHeartbeats 4000000 in
theorem ct_X4_init {l : Launch} (hl : l.stackTraces = false) {g : gg_G}  {h : Nat} {f s2 d : Int32}  : gg_C l g yX4_init (ws_ yX4_init cX4_init 4 none) { frames := 2, cells := 0, slots := 0, locals := 36 } [.ref h, .int f, .int s2, .int d] [] [[(h, .inl (3, [.int 0, .int 0, .int 0]))]] (fun vv CC => vv = none ∧ CC = [[(h, .inl (3, [.int f, .int s2, .int d]))]]) gg_no := by
  refine gg_of (lv := [_, _, _, _]) (by decide) hl (Nat.le_of_ble_eq_true rfl) rfl ?_
  intro p e R s m args below meth c A Q hRf hRl hRc hRs E Fn hnm hex
  refine gg_aload_n (pc := 0) E dX4_init_0 rfl rfl ?_
  refine gg_callI (F := [_]) (As := []) (rest := []) (pc := 1) E (ct_J21_init hl ) (cwI 0 E.2.2.2.2.1 (lw_meth q791) rfl rfl rfl (E.2.2.2.2.1 _ q176) (E.2.2.2.2.1 _ q789) (E.2.2.2.2.1 _ q790) rfl (by decide +kernel) ⟨by rw [hRf]; exact Nat.le_of_ble_eq_true rfl, by rw [hRl]; exact Nat.le_of_ble_eq_true rfl⟩) dX4_init_1 [] (by decide) rfl rfl (fun _ h => by cases h) rfl rfl (Nat.le_of_ble_eq_true rfl) (by first | (rw [hRc]; exact Nat.le_of_ble_eq_true rfl) | (rw [hRc]; dsimp only; omega)) (by first | (rw [hRs]; exact Nat.le_of_ble_eq_true rfl) | (rw [hRs]; dsimp only; omega)) ?_ (fun X q C1 h => h.elim)
  rintro _ _ ⟨rfl, rfl⟩
  dsimp only [List.cons_append, List.nil_append, Option.toList]
  refine gg_aload_n (pc := 4) E dX4_init_4 rfl rfl ?_
  refine gg_iload_n (pc := 5) E dX4_init_5 rfl rfl ?_
  refine gg_putF (fs' := [_, _, _]) (M' := [_]) (pc := 6) E ck_X4 0 q793 rfl (by decide) hnm dX4_init_6 0 rfl rfl (rfl) rfl (Nat.le_of_ble_eq_true rfl) rfl rfl ?_
  refine gg_aload_n (pc := 9) E dX4_init_9 rfl rfl ?_
  refine gg_iload_n (pc := 10) E dX4_init_10 rfl rfl ?_
  refine gg_putF (fs' := [_, _, _]) (M' := [_]) (pc := 11) E ck_X4 1 q794 rfl (by decide) hnm dX4_init_11 0 rfl rfl (rfl) rfl (Nat.le_of_ble_eq_true rfl) rfl rfl ?_
  refine gg_aload_n (pc := 14) E dX4_init_14 rfl rfl ?_
  refine gg_iload_n (pc := 15) E dX4_init_15 rfl rfl ?_
  refine gg_putF (fs' := [_, _, _]) (M' := [_]) (pc := 16) E ck_X4 2 q795 rfl (by decide) hnm dX4_init_16 0 rfl rfl (rfl) rfl (Nat.le_of_ble_eq_true rfl) rfl rfl ?_
  refine gg_vret (pc := 19) E Fn rfl dX4_init_19 (by first | exact Nat.le_of_ble_eq_true rfl | (dsimp only; omega)) (by first | exact Nat.le_of_ble_eq_true rfl | (dsimp only; omega)) ?_
  exact ⟨rfl, rfl⟩
set_option maxHeartbeats 4000000 in
theorem ct_X10_roof {l : Launch} (hl : l.stackTraces = false) {g : gg_G}  {h : Nat} {r d : Int32}  : gg_C l g yX10_roof (ws_ yX10_roof cX10_roof 1 (some .int)) { frames := 0, cells := 0, slots := 0, locals := 0 } [.ref h] [(h, .inl (9, [.int r, .int d]))] [] (fun vv CC => vv = some (.int r) ∧ CC = []) gg_no := by
  refine gg_of (lv := [_]) (by decide) hl (Nat.le_of_ble_eq_true rfl) rfl ?_
  intro p e R s m args below meth c A Q hRf hRl hRc hRs E Fn hnm hex
  refine gg_aload_n (pc := 0) E dX10_roof_0 rfl rfl ?_
  refine gg_get (pc := 1) E ck_X10 0 q1769 rfl (by decide) dX10_roof_1 (gg_r 0 rfl) rfl ?_
  refine gg_iret (pc := 4) E Fn rfl (rfl) dX10_roof_4 (by first | exact Nat.le_of_ble_eq_true rfl | (dsimp only; omega)) (by first | exact Nat.le_of_ble_eq_true rfl | (dsimp only; omega)) ?_
  exact ⟨rfl, rfl⟩
set_option maxHeartbeats 4000000 in
theorem ct_X10_far {l : Launch} (hl : l.stackTraces = false) {g : gg_G}  {h : Nat} {r d : Int32}  : gg_C l g yX10_far (ws_ yX10_far cX10_far 1 (some .int)) { frames := 0, cells := 0, slots := 0, locals := 0 } [.ref h] [(h, .inl (9, [.int r, .int d]))] [] (fun vv CC => vv = some (.int d) ∧ CC = []) gg_no := by
  refine gg_of (lv := [_]) (by decide) hl (Nat.le_of_ble_eq_true rfl) rfl ?_
  intro p e R s m args below meth c A Q hRf hRl hRc hRs E Fn hnm hex
  refine gg_aload_n (pc := 0) E dX10_far_0 rfl rfl ?_
  refine gg_get (pc := 1) E ck_X10 1 q1770 rfl (by decide) dX10_far_1 (gg_r 0 rfl) rfl ?_
  refine gg_iret (pc := 4) E Fn rfl (rfl) dX10_far_4 (by first | exact Nat.le_of_ble_eq_true rfl | (dsimp only; omega)) (by first | exact Nat.le_of_ble_eq_true rfl | (dsimp only; omega)) ?_
  exact ⟨rfl, rfl⟩
set_option maxHeartbeats 4000000 in
theorem ct_X10_init {l : Launch} (hl : l.stackTraces = false) {g : gg_G}  {h : Nat} {r d : Int32}  : gg_C l g yX10_init (ws_ yX10_init cX10_init 3 none) { frames := 2, cells := 0, slots := 0, locals := 36 } [.ref h, .int r, .int d] [] [[(h, .inl (9, [.int 0, .int 0]))]] (fun vv CC => vv = none ∧ CC = [[(h, .inl (9, [.int r, .int d]))]]) gg_no := by
  refine gg_of (lv := [_, _, _]) (by decide) hl (Nat.le_of_ble_eq_true rfl) rfl ?_
  intro p e R s m args below meth c A Q hRf hRl hRc hRs E Fn hnm hex
  refine gg_aload_n (pc := 0) E dX10_init_0 rfl rfl ?_
  refine gg_callI (F := [_]) (As := []) (rest := []) (pc := 1) E (ct_J21_init hl ) (cwI 0 E.2.2.2.2.1 (lw_meth q791) rfl rfl rfl (E.2.2.2.2.1 _ q176) (E.2.2.2.2.1 _ q1768) (E.2.2.2.2.1 _ q790) rfl (by decide +kernel) ⟨by rw [hRf]; exact Nat.le_of_ble_eq_true rfl, by rw [hRl]; exact Nat.le_of_ble_eq_true rfl⟩) dX10_init_1 [] (by decide) rfl rfl (fun _ h => by cases h) rfl rfl (Nat.le_of_ble_eq_true rfl) (by first | (rw [hRc]; exact Nat.le_of_ble_eq_true rfl) | (rw [hRc]; dsimp only; omega)) (by first | (rw [hRs]; exact Nat.le_of_ble_eq_true rfl) | (rw [hRs]; dsimp only; omega)) ?_ (fun X q C1 h => h.elim)
  rintro _ _ ⟨rfl, rfl⟩
  dsimp only [List.cons_append, List.nil_append, Option.toList]
  refine gg_aload_n (pc := 4) E dX10_init_4 rfl rfl ?_
  refine gg_iload_n (pc := 5) E dX10_init_5 rfl rfl ?_
  refine gg_putF (fs' := [_, _]) (M' := [_]) (pc := 6) E ck_X10 0 q1769 rfl (by decide) hnm dX10_init_6 0 rfl rfl (rfl) rfl (Nat.le_of_ble_eq_true rfl) rfl rfl ?_
  refine gg_aload_n (pc := 9) E dX10_init_9 rfl rfl ?_
  refine gg_iload_n (pc := 10) E dX10_init_10 rfl rfl ?_
  refine gg_putF (fs' := [_, _]) (M' := [_]) (pc := 11) E ck_X10 1 q1770 rfl (by decide) hnm dX10_init_11 0 rfl rfl (rfl) rfl (Nat.le_of_ble_eq_true rfl) rfl rfl ?_
  refine gg_vret (pc := 14) E Fn rfl dX10_init_14 (by first | exact Nat.le_of_ble_eq_true rfl | (dsimp only; omega)) (by first | exact Nat.le_of_ble_eq_true rfl | (dsimp only; omega)) ?_
  exact ⟨rfl, rfl⟩
set_option maxHeartbeats 4000000 in
theorem ct_X1_one {l : Launch} (hl : l.stackTraces = false) {g : gg_G} {P : Prop} [Decidable P]   : gg_C l g yX1_one (ws_ yX1_one cX1_one 1 (some .int)) { frames := 0, cells := 0, slots := 0, locals := 0 } [.int (if P then 1 else 0)] [] [] (fun vv CC => vv = some (.int (if P then 1 else 0)) ∧ CC = []) gg_no := by
  refine gg_of (lv := [_]) (by decide) hl (Nat.le_of_ble_eq_true rfl) rfl ?_
  intro p e R s m args below meth c A Q hRf hRl hRc hRs E Fn hnm hex
  refine gg_iload_n (pc := 0) E dX1_one_0 rfl rfl ?_
  refine gg_ifB_eq (pc := 1) E dX1_one_1 dX1_one_4 dX1_one_5 dX1_one_8 ?_
  refine gg_iret (pc := 9) E Fn rfl (rfl) dX1_one_9 (by first | exact Nat.le_of_ble_eq_true rfl | (dsimp only; omega)) (by first | exact Nat.le_of_ble_eq_true rfl | (dsimp only; omega)) ?_
  exact ⟨by simp only [gg_bn], rfl⟩
set_option maxHeartbeats 4000000 in
theorem ct_X5_one {l : Launch} (hl : l.stackTraces = false) {g : gg_G} {P : Prop} [Decidable P]   : gg_C l g yX5_one (ws_ yX5_one cX5_one 1 (some .int)) { frames := 0, cells := 0, slots := 0, locals := 0 } [.int (if P then 1 else 0)] [] [] (fun vv CC => vv = some (.int (if P then 1 else 0)) ∧ CC = []) gg_no := by
  refine gg_of (lv := [_]) (by decide) hl (Nat.le_of_ble_eq_true rfl) rfl ?_
  intro p e R s m args below meth c A Q hRf hRl hRc hRs E Fn hnm hex
  refine gg_iload_n (pc := 0) E dX5_one_0 rfl rfl ?_
  refine gg_ifB_eq (pc := 1) E dX5_one_1 dX5_one_4 dX5_one_5 dX5_one_8 ?_
  refine gg_iret (pc := 9) E Fn rfl (rfl) dX5_one_9 (by first | exact Nat.le_of_ble_eq_true rfl | (dsimp only; omega)) (by first | exact Nat.le_of_ble_eq_true rfl | (dsimp only; omega)) ?_
  exact ⟨by simp only [gg_bn], rfl⟩

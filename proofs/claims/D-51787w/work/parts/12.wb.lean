set_option maxRecDepth 100000
/-- the reference's object: its fields by their numbers -/
abbrev mo_f (ad : Nat → Nat) (x : Nat → Int32) : List Value := [.ref (ad 0), .ref (ad 1), .ref (ad 2), .ref (ad 3), .int (x 4), .int (x 5), .int (x 6), .ref (ad 7), .int (x 8), .ref (ad 9), .ref (ad 10), .int (x 11), .ref (ad 12), .int (x 13), .int (x 14), .int (x 15), .int (x 16), .int (x 17), .int (x 18), .int (x 19), .int (x 20), .int (x 21), .ref (ad 22), .int (x 23), .ref (ad 24), .ref (ad 25), .ref (ad 26), .int (x 27)]
section MOf
variable {p : Program} {l : Launch} {e : Env} {R : Room} {s : State} {m : MethodId} {args : Array Value} {below : List Frame} {meth : Method} {c : Code} {g : gg_G} {A : Nat → Prop} {ro : gg_S} {nL : Nat} {Q : State → Prop} {kc ns : Nat} {M : List gg_S} {lv : List (Option Value)} {st : List Value} {pc : Nat} {cc : ByteArray} {own : String}
theorem gg_putM (E : gg_V p l s m args meth c cc nL own g A ro) {N : Nat} {C : String} {T : u_T} {ty : Nat → FieldType} (ck : gg_ck 4 C T N ty) {index : Nat} (k : Nat) {ref nm ds : String} {a : Nat} {ad : Nat → Nat} {X : Nat → Int32} {x : Int32} {tv : FieldType} {M' : List gg_S} (q : Cond.fieldLink own index ref nm ds ∈ lw_all) (hT : T k = (ref, nm, ds, false)) (hk : k < N) (hdg : decode cc pc = .ok (.putfield index, 3)) (i : Nat) (hm : M[i]? = some [(a, .inl (4, mo_f ad X))]) (hd : parseFieldDescriptor ds = some tv) (hn : narrow tv (.int x) = .int x) (hfit : fits tv (.int x) = true) (hl : k < (mo_f ad X).length) (hs : (mo_f ad X).set k (.int x) = mo_f ad (upd X k x)) (hM : M.set i [(a, .inl (4, mo_f ad (upd X k x)))] = M') (K : gg_W p l e R s m args below meth c g A nL Q kc ns M' lv st (pc + 3)) : gg_W p l e R s m args below meth c g A nL Q kc ns M lv (.int x :: .ref a :: st) pc := gg_put E ck k q hT hk hdg i hm hd hn hfit hl hs hM K
end MOf
set_option maxHeartbeats 4000000 in
theorem ct_X5_r {l : Launch} (hl : l.stackTraces = false) {g : gg_G}  {k : Nat}  : gg_C l g yX5_r (ws_ yX5_r cX5_r 1 (some .int)) { frames := 0, cells := 0, slots := 0, locals := 0 } [.int (nI k)] [] [] (fun vv CC => vv = some (.int (nI (25 + 13 * k))) ∧ CC = []) gg_no := by
  refine gg_of (lv := [_]) (by decide) hl (Nat.le_of_ble_eq_true rfl) rfl ?_
  intro p e R s m args below meth c A Q hRf hRl hRc hRs E Fn hnm hex
  refine gg_bipush (v := 25) (pc := 0) E dX5_r_0 (by decide) ?_
  refine gg_bipush (v := 13) (pc := 2) E dX5_r_2 (by decide) ?_
  refine gg_iload_n (pc := 4) E dX5_r_4 rfl rfl ?_
  refine gg_imulN (pc := 5) E 13 k rfl rfl dX5_r_5 ?_
  refine gg_iaddN (pc := 6) E 25 (13 * k) rfl rfl dX5_r_6 ?_
  refine gg_iret (pc := 7) E Fn rfl (rfl) dX5_r_7 (by first | exact Nat.le_of_ble_eq_true rfl | (dsimp only; omega)) (by first | exact Nat.le_of_ble_eq_true rfl | (dsimp only; omega)) ?_
  exact ⟨rfl, rfl⟩
set_option maxHeartbeats 4000000 in
theorem ct_X5_w {l : Launch} (hl : l.stackTraces = false) {g : gg_G}  {k : Nat}  : gg_C l g yX5_w (ws_ yX5_w cX5_w 1 (some .int)) { frames := 0, cells := 0, slots := 0, locals := 0 } [.int (nI k)] [] [] (fun vv CC => vv = some (.int (nI (160 + 3 * k))) ∧ CC = []) gg_no := by
  refine gg_of (lv := [_]) (by decide) hl (Nat.le_of_ble_eq_true rfl) rfl ?_
  intro p e R s m args below meth c A Q hRf hRl hRc hRs E Fn hnm hex
  refine gg_sipush (v := 160) (pc := 0) E dX5_w_0 (by decide) ?_
  refine gg_iconst (v := 3) (pc := 3) E dX5_w_3 (by decide) ?_
  refine gg_iload_n (pc := 4) E dX5_w_4 rfl rfl ?_
  refine gg_imulN (pc := 5) E 3 k rfl rfl dX5_w_5 ?_
  refine gg_iaddN (pc := 6) E 160 (3 * k) rfl rfl dX5_w_6 ?_
  refine gg_iret (pc := 7) E Fn rfl (rfl) dX5_w_7 (by first | exact Nat.le_of_ble_eq_true rfl | (dsimp only; omega)) (by first | exact Nat.le_of_ble_eq_true rfl | (dsimp only; omega)) ?_
  exact ⟨rfl, rfl⟩
set_option maxHeartbeats 4000000 in
theorem ct_X5_t {l : Launch} (hl : l.stackTraces = false) {g : gg_G}  {k : Nat}  : gg_C l g yX5_t (ws_ yX5_t cX5_t 1 (some .int)) { frames := 0, cells := 0, slots := 0, locals := 0 } [.int (nI k)] [] [] (fun vv CC => vv = some (.int (nI (220 + 27 * k))) ∧ CC = []) gg_no := by
  refine gg_of (lv := [_]) (by decide) hl (Nat.le_of_ble_eq_true rfl) rfl ?_
  intro p e R s m args below meth c A Q hRf hRl hRc hRs E Fn hnm hex
  refine gg_sipush (v := 220) (pc := 0) E dX5_t_0 (by decide) ?_
  refine gg_bipush (v := 27) (pc := 3) E dX5_t_3 (by decide) ?_
  refine gg_iload_n (pc := 5) E dX5_t_5 rfl rfl ?_
  refine gg_imulN (pc := 6) E 27 k rfl rfl dX5_t_6 ?_
  refine gg_iaddN (pc := 7) E 220 (27 * k) rfl rfl dX5_t_7 ?_
  refine gg_iret (pc := 8) E Fn rfl (rfl) dX5_t_8 (by first | exact Nat.le_of_ble_eq_true rfl | (dsimp only; omega)) (by first | exact Nat.le_of_ble_eq_true rfl | (dsimp only; omega)) ?_
  exact ⟨rfl, rfl⟩
set_option maxHeartbeats 4000000 in
theorem ct_X5_ends {l : Launch} (hl : l.stackTraces = false) {g : gg_G}  {h : Nat} {ad : Nat → Nat} {x : Nat → Int32} {row : Nat → Int32} {i : Nat} {a : Int32} (hi : i < 20) : gg_C l g yX5_ends (ws_ yX5_ends cX5_ends 3 (some .boolean)) { frames := 1, cells := 0, slots := 0, locals := 20 } [.ref h, .int (nI i), .int a] [(h, .inl (4, mo_f ad x)), ((ad 0), gg_ai g 1030 row)] [] (fun vv CC => vv = some (.int (if row (160 + 3 * i) = a ∨ row (160 + 3 * i + 1) = a then 1 else 0)) ∧ CC = []) gg_no := by
  refine gg_of (lv := [_, _, _]) (by decide) hl (Nat.le_of_ble_eq_true rfl) rfl ?_
  intro p e R s m args below meth c A Q hRf hRl hRc hRs E Fn hnm hex
  refine gg_aload_n (pc := 0) E dX5_ends_0 rfl rfl ?_
  refine gg_get (pc := 1) E ck_X5 0 q2859 rfl (by decide) dX5_ends_1 (gg_r 0 rfl) rfl ?_
  refine gg_iload_n (pc := 4) E dX5_ends_4 rfl rfl ?_
  refine gg_callS (F := []) (As := [.int (nI i)]) (rest := [_]) (pc := 5) E (ct_X5_w hl ) (va_cwS 1 E.2.2.2.2.1 (lw_S q2856 q2857 q179 q2858) rfl rfl rfl (by decide +kernel) ⟨by rw [hRf]; exact Nat.le_of_ble_eq_true rfl, by rw [hRl]; exact Nat.le_of_ble_eq_true rfl⟩) dX5_ends_5 [] (by decide) rfl rfl (fun _ h => by cases h) rfl rfl (Nat.le_of_ble_eq_true rfl) (by first | (rw [hRc]; exact Nat.le_of_ble_eq_true rfl) | (rw [hRc]; dsimp only; omega)) (by first | (rw [hRs]; exact Nat.le_of_ble_eq_true rfl) | (rw [hRs]; dsimp only; omega)) ?_ (fun X q C1 h => h.elim)
  rintro _ _ ⟨rfl, rfl⟩
  dsimp only [List.cons_append, List.nil_append, Option.toList]
  refine gg_ialdN (pc := 8) E (160 + 3 * i) rfl (by omega) (by omega) dX5_ends_8 (gg_r 1 rfl) ?_
  refine gg_iload_n (pc := 9) E dX5_ends_9 rfl rfl ?_
  refine gg_icmp_eq (tgt := 28) (pc := 10) E dX5_ends_10 (by decide) (fun c10 => ?_) (fun c10 => ?_)
  · refine gg_iconst (v := 1) (pc := 28) E dX5_ends_28 (by decide) ?_
    refine gg_goto (tgt := 33) (pc := 29) E dX5_ends_29 (by decide) ?_
    refine gg_iret (pc := 33) E Fn rfl (gg_nz (by first | decide | assumption | exact gg_b01 | (split <;> decide))) dX5_ends_33 (by first | exact Nat.le_of_ble_eq_true rfl | (dsimp only; omega)) (by first | exact Nat.le_of_ble_eq_true rfl | (dsimp only; omega)) ?_
    exact ⟨by simp_all, rfl⟩
  · refine gg_aload_n (pc := 13) E dX5_ends_13 rfl rfl ?_
    refine gg_get (pc := 14) E ck_X5 0 q2859 rfl (by decide) dX5_ends_14 (gg_r 0 rfl) rfl ?_
    refine gg_iload_n (pc := 17) E dX5_ends_17 rfl rfl ?_
    refine gg_callS (F := []) (As := [.int (nI i)]) (rest := [_]) (pc := 18) E (ct_X5_w hl ) (va_cwS 1 E.2.2.2.2.1 (lw_S q2856 q2857 q179 q2858) rfl rfl rfl (by decide +kernel) ⟨by rw [hRf]; exact Nat.le_of_ble_eq_true rfl, by rw [hRl]; exact Nat.le_of_ble_eq_true rfl⟩) dX5_ends_18 [] (by decide) rfl rfl (fun _ h => by cases h) rfl rfl (Nat.le_of_ble_eq_true rfl) (by first | (rw [hRc]; exact Nat.le_of_ble_eq_true rfl) | (rw [hRc]; dsimp only; omega)) (by first | (rw [hRs]; exact Nat.le_of_ble_eq_true rfl) | (rw [hRs]; dsimp only; omega)) ?_ (fun X q C1 h => h.elim)
    rintro _ _ ⟨rfl, rfl⟩
    dsimp only [List.cons_append, List.nil_append, Option.toList]
    refine gg_iconst (v := 1) (pc := 21) E dX5_ends_21 (by decide) ?_
    refine gg_iaddN (pc := 22) E (160 + 3 * i) 1 rfl rfl dX5_ends_22 ?_
    refine gg_ialdN (pc := 23) E ((160 + 3 * i) + 1) rfl (by omega) (by omega) dX5_ends_23 (gg_r 1 rfl) ?_
    refine gg_iload_n (pc := 24) E dX5_ends_24 rfl rfl ?_
    refine gg_icmpB_ne (pc := 25) E dX5_ends_25 dX5_ends_28 dX5_ends_29 dX5_ends_32 ?_
    refine gg_iret (pc := 33) E Fn rfl (gg_nz (by first | decide | assumption | exact gg_b01 | (split <;> decide))) dX5_ends_33 (by first | exact Nat.le_of_ble_eq_true rfl | (dsimp only; omega)) (by first | exact Nat.le_of_ble_eq_true rfl | (dsimp only; omega)) ?_
    exact ⟨by simp_all, rfl⟩
set_option maxHeartbeats 4000000 in
theorem ct_X5_otherEnd {l : Launch} (hl : l.stackTraces = false) {g : gg_G}  {h : Nat} {ad : Nat → Nat} {x : Nat → Int32} {row : Nat → Int32} {i : Nat} {a : Int32} (hi : i < 20) : gg_C l g yX5_otherEnd (ws_ yX5_otherEnd cX5_otherEnd 3 (some .int)) { frames := 1, cells := 0, slots := 0, locals := 20 } [.ref h, .int (nI i), .int a] [(h, .inl (4, mo_f ad x)), ((ad 0), gg_ai g 1030 row)] [] (fun vv CC => vv = some (.int (row (160 + 3 * i) + row (160 + 3 * i + 1) - a)) ∧ CC = []) gg_no := by
  refine gg_of (lv := [_, _, _]) (by decide) hl (Nat.le_of_ble_eq_true rfl) rfl ?_
  intro p e R s m args below meth c A Q hRf hRl hRc hRs E Fn hnm hex
  refine gg_aload_n (pc := 0) E dX5_otherEnd_0 rfl rfl ?_
  refine gg_get (pc := 1) E ck_X5 0 q2859 rfl (by decide) dX5_otherEnd_1 (gg_r 0 rfl) rfl ?_
  refine gg_iload_n (pc := 4) E dX5_otherEnd_4 rfl rfl ?_
  refine gg_callS (F := []) (As := [.int (nI i)]) (rest := [_]) (pc := 5) E (ct_X5_w hl ) (va_cwS 1 E.2.2.2.2.1 (lw_S q2856 q2857 q179 q2858) rfl rfl rfl (by decide +kernel) ⟨by rw [hRf]; exact Nat.le_of_ble_eq_true rfl, by rw [hRl]; exact Nat.le_of_ble_eq_true rfl⟩) dX5_otherEnd_5 [] (by decide) rfl rfl (fun _ h => by cases h) rfl rfl (Nat.le_of_ble_eq_true rfl) (by first | (rw [hRc]; exact Nat.le_of_ble_eq_true rfl) | (rw [hRc]; dsimp only; omega)) (by first | (rw [hRs]; exact Nat.le_of_ble_eq_true rfl) | (rw [hRs]; dsimp only; omega)) ?_ (fun X q C1 h => h.elim)
  rintro _ _ ⟨rfl, rfl⟩
  dsimp only [List.cons_append, List.nil_append, Option.toList]
  refine gg_ialdN (pc := 8) E (160 + 3 * i) rfl (by omega) (by omega) dX5_otherEnd_8 (gg_r 1 rfl) ?_
  refine gg_aload_n (pc := 9) E dX5_otherEnd_9 rfl rfl ?_
  refine gg_get (pc := 10) E ck_X5 0 q2859 rfl (by decide) dX5_otherEnd_10 (gg_r 0 rfl) rfl ?_
  refine gg_iload_n (pc := 13) E dX5_otherEnd_13 rfl rfl ?_
  refine gg_callS (F := []) (As := [.int (nI i)]) (rest := [_, _]) (pc := 14) E (ct_X5_w hl ) (va_cwS 1 E.2.2.2.2.1 (lw_S q2856 q2857 q179 q2858) rfl rfl rfl (by decide +kernel) ⟨by rw [hRf]; exact Nat.le_of_ble_eq_true rfl, by rw [hRl]; exact Nat.le_of_ble_eq_true rfl⟩) dX5_otherEnd_14 [] (by decide) rfl rfl (fun _ h => by cases h) rfl rfl (Nat.le_of_ble_eq_true rfl) (by first | (rw [hRc]; exact Nat.le_of_ble_eq_true rfl) | (rw [hRc]; dsimp only; omega)) (by first | (rw [hRs]; exact Nat.le_of_ble_eq_true rfl) | (rw [hRs]; dsimp only; omega)) ?_ (fun X q C1 h => h.elim)
  rintro _ _ ⟨rfl, rfl⟩
  dsimp only [List.cons_append, List.nil_append, Option.toList]
  refine gg_iconst (v := 1) (pc := 17) E dX5_otherEnd_17 (by decide) ?_
  refine gg_iaddN (pc := 18) E (160 + 3 * i) 1 rfl rfl dX5_otherEnd_18 ?_
  refine gg_ialdN (pc := 19) E ((160 + 3 * i) + 1) rfl (by omega) (by omega) dX5_otherEnd_19 (gg_r 1 rfl) ?_
  refine gg_iadd (pc := 20) E dX5_otherEnd_20 ?_
  refine gg_iload_n (pc := 21) E dX5_otherEnd_21 rfl rfl ?_
  refine gg_isub (pc := 22) E dX5_otherEnd_22 ?_
  refine gg_iret (pc := 23) E Fn rfl (rfl) dX5_otherEnd_23 (by first | exact Nat.le_of_ble_eq_true rfl | (dsimp only; omega)) (by first | exact Nat.le_of_ble_eq_true rfl | (dsimp only; omega)) ?_
  exact ⟨rfl, rfl⟩
set_option maxHeartbeats 4000000 in
theorem ct_X5_isBusy {l : Launch} (hl : l.stackTraces = false) {g : gg_G}  {h : Nat} {ad : Nat → Nat} {x : Nat → Int32} {row : Nat → Int32} {k : Nat} {t : Int32} (hk : k < 10) : gg_C l g yX5_isBusy (ws_ yX5_isBusy cX5_isBusy 3 (some .boolean)) { frames := 1, cells := 0, slots := 0, locals := 20 } [.ref h, .int (nI k), .int t] [(h, .inl (4, mo_f ad x)), ((ad 0), gg_ai g 1030 row)] [] (fun vv CC => vv = some (.int (if t < row (25 + 13 * k + 11) then 1 else 0)) ∧ CC = []) gg_no := by
  refine gg_of (lv := [_, _, _]) (by decide) hl (Nat.le_of_ble_eq_true rfl) rfl ?_
  intro p e R s m args below meth c A Q hRf hRl hRc hRs E Fn hnm hex
  refine gg_aload_n (pc := 0) E dX5_isBusy_0 rfl rfl ?_
  refine gg_get (pc := 1) E ck_X5 0 q2859 rfl (by decide) dX5_isBusy_1 (gg_r 0 rfl) rfl ?_
  refine gg_iload_n (pc := 4) E dX5_isBusy_4 rfl rfl ?_
  refine gg_callS (F := []) (As := [.int (nI k)]) (rest := [_]) (pc := 5) E (ct_X5_r hl ) (va_cwS 1 E.2.2.2.2.1 (lw_S q2849 q2850 q179 q2851) rfl rfl rfl (by decide +kernel) ⟨by rw [hRf]; exact Nat.le_of_ble_eq_true rfl, by rw [hRl]; exact Nat.le_of_ble_eq_true rfl⟩) dX5_isBusy_5 [] (by decide) rfl rfl (fun _ h => by cases h) rfl rfl (Nat.le_of_ble_eq_true rfl) (by first | (rw [hRc]; exact Nat.le_of_ble_eq_true rfl) | (rw [hRc]; dsimp only; omega)) (by first | (rw [hRs]; exact Nat.le_of_ble_eq_true rfl) | (rw [hRs]; dsimp only; omega)) ?_ (fun X q C1 h => h.elim)
  rintro _ _ ⟨rfl, rfl⟩
  dsimp only [List.cons_append, List.nil_append, Option.toList]
  refine gg_bipush (v := 11) (pc := 8) E dX5_isBusy_8 (by decide) ?_
  refine gg_iaddN (pc := 10) E (25 + 13 * k) 11 rfl rfl dX5_isBusy_10 ?_
  refine gg_ialdN (pc := 11) E ((25 + 13 * k) + 11) rfl (by omega) (by omega) dX5_isBusy_11 (gg_r 1 rfl) ?_
  refine gg_iload_n (pc := 12) E dX5_isBusy_12 rfl rfl ?_
  refine gg_icmpB_le (pc := 13) E dX5_isBusy_13 dX5_isBusy_16 dX5_isBusy_17 dX5_isBusy_20 ?_
  refine gg_iret (pc := 21) E Fn rfl (gg_nz (by first | decide | assumption | exact gg_b01 | (split <;> decide))) dX5_isBusy_21 (by first | exact Nat.le_of_ble_eq_true rfl | (dsimp only; omega)) (by first | exact Nat.le_of_ble_eq_true rfl | (dsimp only; omega)) ?_
  exact ⟨by simp_all, rfl⟩
set_option maxHeartbeats 4000000 in
theorem ct_X5_barsOf {l : Launch} (hl : l.stackTraces = false) {g : gg_G}  {h : Nat} {k : Int32}  : gg_C l g yX5_barsOf (ws_ yX5_barsOf cX5_barsOf 2 (some .int)) { frames := 0, cells := 0, slots := 0, locals := 0 } [.ref h, .int k] [] [] (fun vv CC => vv = some (.int ((k + 3) / 4)) ∧ CC = []) gg_no := by
  refine gg_of (lv := [_, _]) (by decide) hl (Nat.le_of_ble_eq_true rfl) rfl ?_
  intro p e R s m args below meth c A Q hRf hRl hRc hRs E Fn hnm hex
  refine gg_iload_n (pc := 0) E dX5_barsOf_0 rfl rfl ?_
  refine gg_iconst (v := 3) (pc := 1) E dX5_barsOf_1 (by decide) ?_
  refine gg_iadd (pc := 2) E dX5_barsOf_2 ?_
  refine gg_iconst (v := 4) (pc := 3) E dX5_barsOf_3 (by decide) ?_
  refine gg_idiv (pc := 4) E dX5_barsOf_4 (by decide) ?_
  refine gg_iret (pc := 5) E Fn rfl (rfl) dX5_barsOf_5 (by first | exact Nat.le_of_ble_eq_true rfl | (dsimp only; omega)) (by first | exact Nat.le_of_ble_eq_true rfl | (dsimp only; omega)) ?_
  exact ⟨rfl, rfl⟩
set_option maxHeartbeats 4000000 in
theorem ct_X5_bars {l : Launch} (hl : l.stackTraces = false) {g : gg_G}  {h : Nat} {ad : Nat → Nat} {x : Nat → Int32} {row : Nat → Int32} {i : Nat} (hi : i < 30) : gg_C l g yX5_bars (ws_ yX5_bars cX5_bars 2 (some .int)) { frames := 1, cells := 0, slots := 0, locals := 21 } [.ref h, .int (nI i)] [(h, .inl (4, mo_f ad x)), ((ad 0), gg_ai g 1030 row)] [] (fun vv CC => vv = some (.int ((row (220 + 27 * i + 2) + 3) / 4)) ∧ CC = []) gg_no := by
  refine gg_of (lv := [_, _]) (by decide) hl (Nat.le_of_ble_eq_true rfl) rfl ?_
  intro p e R s m args below meth c A Q hRf hRl hRc hRs E Fn hnm hex
  refine gg_aload_n (pc := 0) E dX5_bars_0 rfl rfl ?_
  refine gg_aload_n (pc := 1) E dX5_bars_1 rfl rfl ?_
  refine gg_get (pc := 2) E ck_X5 0 q2859 rfl (by decide) dX5_bars_2 (gg_r 0 rfl) rfl ?_
  refine gg_iload_n (pc := 5) E dX5_bars_5 rfl rfl ?_
  refine gg_callS (F := []) (As := [.int (nI i)]) (rest := [_, _]) (pc := 6) E (ct_X5_t hl ) (va_cwS 1 E.2.2.2.2.1 (lw_S q3121 q3122 q179 q3123) rfl rfl rfl (by decide +kernel) ⟨by rw [hRf]; exact Nat.le_of_ble_eq_true rfl, by rw [hRl]; exact Nat.le_of_ble_eq_true rfl⟩) dX5_bars_6 [] (by decide) rfl rfl (fun _ h => by cases h) rfl rfl (Nat.le_of_ble_eq_true rfl) (by first | (rw [hRc]; exact Nat.le_of_ble_eq_true rfl) | (rw [hRc]; dsimp only; omega)) (by first | (rw [hRs]; exact Nat.le_of_ble_eq_true rfl) | (rw [hRs]; dsimp only; omega)) ?_ (fun X q C1 h => h.elim)
  rintro _ _ ⟨rfl, rfl⟩
  dsimp only [List.cons_append, List.nil_append, Option.toList]
  refine gg_iconst (v := 2) (pc := 9) E dX5_bars_9 (by decide) ?_
  refine gg_iaddN (pc := 10) E (220 + 27 * i) 2 rfl rfl dX5_bars_10 ?_
  refine gg_ialdN (pc := 11) E ((220 + 27 * i) + 2) rfl (by omega) (by omega) dX5_bars_11 (gg_r 1 rfl) ?_
  refine gg_callV (F := []) (As := [_]) (rest := []) (pc := 12) E ck_X5 (ct_X5_barsOf hl ) (cwV 1 E.2.2.2.2.1 (lw_V q3184 q3186 qs114 q179 q3187) rfl rfl rfl (by decide +kernel) ⟨by rw [hRf]; exact Nat.le_of_ble_eq_true rfl, by rw [hRl]; exact Nat.le_of_ble_eq_true rfl⟩) dX5_bars_12 [] (by decide) rfl rfl (fun _ h => by cases h) (gg_r 0 rfl) rfl rfl (Nat.le_of_ble_eq_true rfl) (by first | (rw [hRc]; exact Nat.le_of_ble_eq_true rfl) | (rw [hRc]; dsimp only; omega)) (by first | (rw [hRs]; exact Nat.le_of_ble_eq_true rfl) | (rw [hRs]; dsimp only; omega)) ?_ (fun X q C1 h => h.elim)
  rintro _ _ ⟨rfl, rfl⟩
  dsimp only [List.cons_append, List.nil_append, Option.toList]
  refine gg_iret (pc := 15) E Fn rfl (rfl) dX5_bars_15 (by first | exact Nat.le_of_ble_eq_true rfl | (dsimp only; omega)) (by first | exact Nat.le_of_ble_eq_true rfl | (dsimp only; omega)) ?_
  exact ⟨rfl, rfl⟩
set_option maxHeartbeats 4000000 in
theorem ct_X5_waitsAt {l : Launch} (hl : l.stackTraces = false) {g : gg_G}  {h : Nat} {ad : Nat → Nat} {x : Nat → Int32} {row : Nat → Int32} {i : Nat} {a : Int32} (hi : i < 30) : gg_C l g yX5_waitsAt (ws_ yX5_waitsAt cX5_waitsAt 3 (some .boolean)) { frames := 1, cells := 0, slots := 0, locals := 20 } [.ref h, .int (nI i), .int a] [(h, .inl (4, mo_f ad x)), ((ad 0), gg_ai g 1030 row)] [] (fun vv CC => vv = some (.int (if row (220 + 27 * i + 3) = 0 ∧ row (220 + 27 * i + 4) = a then 1 else 0)) ∧ CC = []) gg_no := by
  refine gg_of (lv := [_, _, _]) (by decide) hl (Nat.le_of_ble_eq_true rfl) rfl ?_
  intro p e R s m args below meth c A Q hRf hRl hRc hRs E Fn hnm hex
  refine gg_aload_n (pc := 0) E dX5_waitsAt_0 rfl rfl ?_
  refine gg_get (pc := 1) E ck_X5 0 q2859 rfl (by decide) dX5_waitsAt_1 (gg_r 0 rfl) rfl ?_
  refine gg_iload_n (pc := 4) E dX5_waitsAt_4 rfl rfl ?_
  refine gg_callS (F := []) (As := [.int (nI i)]) (rest := [_]) (pc := 5) E (ct_X5_t hl ) (va_cwS 1 E.2.2.2.2.1 (lw_S q3121 q3122 q179 q3123) rfl rfl rfl (by decide +kernel) ⟨by rw [hRf]; exact Nat.le_of_ble_eq_true rfl, by rw [hRl]; exact Nat.le_of_ble_eq_true rfl⟩) dX5_waitsAt_5 [] (by decide) rfl rfl (fun _ h => by cases h) rfl rfl (Nat.le_of_ble_eq_true rfl) (by first | (rw [hRc]; exact Nat.le_of_ble_eq_true rfl) | (rw [hRc]; dsimp only; omega)) (by first | (rw [hRs]; exact Nat.le_of_ble_eq_true rfl) | (rw [hRs]; dsimp only; omega)) ?_ (fun X q C1 h => h.elim)
  rintro _ _ ⟨rfl, rfl⟩
  dsimp only [List.cons_append, List.nil_append, Option.toList]
  refine gg_iconst (v := 3) (pc := 8) E dX5_waitsAt_8 (by decide) ?_
  refine gg_iaddN (pc := 9) E (220 + 27 * i) 3 rfl rfl dX5_waitsAt_9 ?_
  refine gg_ialdN (pc := 10) E ((220 + 27 * i) + 3) rfl (by omega) (by omega) dX5_waitsAt_10 (gg_r 1 rfl) ?_
  refine gg_if_ne (tgt := 33) (pc := 11) E dX5_waitsAt_11 (by decide) (fun c11 => ?_) (fun c11 => ?_)
  · refine gg_iconst (v := 0) (pc := 33) E dX5_waitsAt_33 (by decide) ?_
    refine gg_iret (pc := 34) E Fn rfl (gg_nz (by first | decide | assumption | exact gg_b01 | (split <;> decide))) dX5_waitsAt_34 (by first | exact Nat.le_of_ble_eq_true rfl | (dsimp only; omega)) (by first | exact Nat.le_of_ble_eq_true rfl | (dsimp only; omega)) ?_
    exact ⟨by simp_all, rfl⟩
  · refine gg_aload_n (pc := 14) E dX5_waitsAt_14 rfl rfl ?_
    refine gg_get (pc := 15) E ck_X5 0 q2859 rfl (by decide) dX5_waitsAt_15 (gg_r 0 rfl) rfl ?_
    refine gg_iload_n (pc := 18) E dX5_waitsAt_18 rfl rfl ?_
    refine gg_callS (F := []) (As := [.int (nI i)]) (rest := [_]) (pc := 19) E (ct_X5_t hl ) (va_cwS 1 E.2.2.2.2.1 (lw_S q3121 q3122 q179 q3123) rfl rfl rfl (by decide +kernel) ⟨by rw [hRf]; exact Nat.le_of_ble_eq_true rfl, by rw [hRl]; exact Nat.le_of_ble_eq_true rfl⟩) dX5_waitsAt_19 [] (by decide) rfl rfl (fun _ h => by cases h) rfl rfl (Nat.le_of_ble_eq_true rfl) (by first | (rw [hRc]; exact Nat.le_of_ble_eq_true rfl) | (rw [hRc]; dsimp only; omega)) (by first | (rw [hRs]; exact Nat.le_of_ble_eq_true rfl) | (rw [hRs]; dsimp only; omega)) ?_ (fun X q C1 h => h.elim)
    rintro _ _ ⟨rfl, rfl⟩
    dsimp only [List.cons_append, List.nil_append, Option.toList]
    refine gg_iconst (v := 4) (pc := 22) E dX5_waitsAt_22 (by decide) ?_
    refine gg_iaddN (pc := 23) E (220 + 27 * i) 4 rfl rfl dX5_waitsAt_23 ?_
    refine gg_ialdN (pc := 24) E ((220 + 27 * i) + 4) rfl (by omega) (by omega) dX5_waitsAt_24 (gg_r 1 rfl) ?_
    refine gg_iload_n (pc := 25) E dX5_waitsAt_25 rfl rfl ?_
    refine gg_icmpB_ne (pc := 26) E dX5_waitsAt_26 dX5_waitsAt_29 dX5_waitsAt_30 dX5_waitsAt_33 ?_
    refine gg_iret (pc := 34) E Fn rfl (gg_nz (by first | decide | assumption | exact gg_b01 | (split <;> decide))) dX5_waitsAt_34 (by first | exact Nat.le_of_ble_eq_true rfl | (dsimp only; omega)) (by first | exact Nat.le_of_ble_eq_true rfl | (dsimp only; omega)) ?_
    exact ⟨by simp_all, rfl⟩
set_option maxHeartbeats 4000000 in
theorem ct_X5_those {l : Launch} (hl : l.stackTraces = false) {g : gg_G}  {h : Nat} {ad : Nat → Nat} {x : Nat → Int32} {row : Nat → Int32} {a : Int32} {nt : Nat} (hnt : row 2 = nI nt) (ht30 : nt ≤ 30) : gg_C l g yX5_those (ws_ yX5_those cX5_those 4 (some .int)) { frames := 1, cells := 0, slots := 0, locals := 20 } [.ref h, .int a] [(h, .inl (4, mo_f ad x)), ((ad 0), gg_ai g 1030 row)] [] (fun vv CC => vv = some (.int (sm (fun i => if row (220 + 27 * i + 3) = a then 1 else 0) nt)) ∧ CC = []) gg_no := by
  refine gg_of (lv := [_, _, _, _]) (by decide) hl (Nat.le_of_ble_eq_true rfl) rfl ?_
  intro p e R s m args below meth c A Q hRf hRl hRc hRs E Fn hnm hex
  refine gg_iconst (v := 0) (pc := 0) E dX5_those_0 (by decide) ?_
  refine gg_istore_n (lv' := [_, _, _, _]) (pc := 1) E dX5_those_1 rfl (Nat.le_of_ble_eq_true rfl) rfl rfl ?_
  refine gg_iconst (v := 0) (pc := 2) E dX5_those_2 (by decide) ?_
  refine gg_istore_n (lv' := [_, _, _, _]) (pc := 3) E dX5_those_3 rfl (Nat.le_of_ble_eq_true rfl) rfl rfl ?_
  have L4 : ∀ (n : Nat) (i : Nat), nt - i < n → (i ≤ nt) → gg_W p l e R s m args below meth c g A 4 Q 0 0 [] [some (.ref h), some (.int a), some (.int (sm (fun i => if row (220 + 27 * i + 3) = a then 1 else 0) i)), some (.int (nI i))] [] 4 := by
    intro n4
    induction n4 with
    | zero => intro i hmz; exact absurd hmz (Nat.not_lt_zero _)
    | succ n4 ih4 =>
      intro i hm4 hi
      refine gg_iload_n (pc := 4) E dX5_those_4 rfl rfl ?_
      refine gg_aload_n (pc := 5) E dX5_those_5 rfl rfl ?_
      refine gg_get (pc := 6) E ck_X5 0 q2859 rfl (by decide) dX5_those_6 (gg_r 0 rfl) rfl ?_
      refine gg_iconst (v := 2) (pc := 9) E dX5_those_9 (by decide) ?_
      refine gg_ialdN (pc := 10) E 2 rfl (by omega) (by omega) dX5_those_10 (gg_r 1 rfl) ?_
      rw [hnt]
      refine gg_icmpN_ge (tgt := 46) (pc := 11) E i nt rfl rfl (by omega) (by omega) dX5_those_11 (by decide) (fun c11 => ?_) (fun c11 => ?_)
      · refine gg_iload_n (pc := 46) E dX5_those_46 rfl rfl ?_
        refine gg_iret (pc := 47) E Fn rfl (rfl) dX5_those_47 (by first | exact Nat.le_of_ble_eq_true rfl | (dsimp only; omega)) (by first | exact Nat.le_of_ble_eq_true rfl | (dsimp only; omega)) ?_
        have e : i = nt := by omega
        subst e
        exact ⟨rfl, rfl⟩
      · refine gg_iload_n (pc := 14) E dX5_those_14 rfl rfl ?_
        refine gg_aload_n (pc := 15) E dX5_those_15 rfl rfl ?_
        refine gg_get (pc := 16) E ck_X5 0 q2859 rfl (by decide) dX5_those_16 (gg_r 0 rfl) rfl ?_
        refine gg_iload_n (pc := 19) E dX5_those_19 rfl rfl ?_
        refine gg_callS (F := []) (As := [.int (nI i)]) (rest := [_, _]) (pc := 20) E (ct_X5_t hl ) (va_cwS 1 E.2.2.2.2.1 (lw_S q3121 q3122 q179 q3123) rfl rfl rfl (by decide +kernel) ⟨by rw [hRf]; exact Nat.le_of_ble_eq_true rfl, by rw [hRl]; exact Nat.le_of_ble_eq_true rfl⟩) dX5_those_20 [] (by decide) rfl rfl (fun _ h => by cases h) rfl rfl (Nat.le_of_ble_eq_true rfl) (by first | (rw [hRc]; exact Nat.le_of_ble_eq_true rfl) | (rw [hRc]; dsimp only; omega)) (by first | (rw [hRs]; exact Nat.le_of_ble_eq_true rfl) | (rw [hRs]; dsimp only; omega)) ?_ (fun X q C1 h => h.elim)
        rintro _ _ ⟨rfl, rfl⟩
        dsimp only [List.cons_append, List.nil_append, Option.toList]
        refine gg_iconst (v := 3) (pc := 23) E dX5_those_23 (by decide) ?_
        refine gg_iaddN (pc := 24) E (220 + 27 * i) 3 rfl rfl dX5_those_24 ?_
        refine gg_ialdN (pc := 25) E ((220 + 27 * i) + 3) rfl (by omega) (by omega) dX5_those_25 (gg_r 1 rfl) ?_
        refine gg_iload_n (pc := 26) E dX5_those_26 rfl rfl ?_
        refine gg_icmpB_ne (pc := 27) E dX5_those_27 dX5_those_30 dX5_those_31 dX5_those_34 ?_
        refine gg_callS (F := []) (As := [_]) (rest := [_]) (pc := 35) E (ct_X5_one hl ) (va_cwS 1 E.2.2.2.2.1 (lw_S q3124 q3125 q179 q3126) rfl rfl rfl (by decide +kernel) ⟨by rw [hRf]; exact Nat.le_of_ble_eq_true rfl, by rw [hRl]; exact Nat.le_of_ble_eq_true rfl⟩) dX5_those_35 [] (by decide) rfl rfl (fun _ h => by cases h) rfl rfl (Nat.le_of_ble_eq_true rfl) (by first | (rw [hRc]; exact Nat.le_of_ble_eq_true rfl) | (rw [hRc]; dsimp only; omega)) (by first | (rw [hRs]; exact Nat.le_of_ble_eq_true rfl) | (rw [hRs]; dsimp only; omega)) ?_ (fun X q C1 h => h.elim)
        rintro _ _ ⟨rfl, rfl⟩
        dsimp only [List.cons_append, List.nil_append, Option.toList]
        refine gg_iadd (pc := 38) E dX5_those_38 ?_
        refine gg_istore_n (lv' := [_, _, _, _]) (pc := 39) E dX5_those_39 rfl (Nat.le_of_ble_eq_true rfl) rfl rfl ?_
        refine gg_iincN (k := 1) (lv' := [_, _, _, _]) (pc := 40) E i dX5_those_40 rfl rfl rfl (Nat.le_of_ble_eq_true rfl) rfl rfl ?_
        refine gg_goto (tgt := 4) (pc := 43) E dX5_those_43 (by decide) ?_
        refine gg_cv rfl (gg_leS (gg_leS (gg_leS (gg_leS gg_le0)))) rfl (by first | exact Nat.le_refl _ | (dsimp only; omega)) (by first | exact Nat.le_refl _ | (dsimp only; omega)) (ih4 (i + 1) (by omega) (by omega))
  refine gg_cv rfl (gg_leS (gg_leS (gg_leS (gg_leS gg_le0)))) rfl (by first | exact Nat.le_refl _ | (dsimp only; omega)) (by first | exact Nat.le_refl _ | (dsimp only; omega)) (L4 _ 0 (Nat.lt_succ_self _) (Nat.zero_le _))
set_option maxHeartbeats 4000000 in
theorem ct_X5_busyMany {l : Launch} (hl : l.stackTraces = false) {g : gg_G}  {h : Nat} {ad : Nat → Nat} {x : Nat → Int32} {row : Nat → Int32} {nr : Nat} (hnr : row 0 = nI nr) (hr10 : nr ≤ 10) : gg_C l g yX5_busyMany (ws_ yX5_busyMany cX5_busyMany 3 (some .int)) { frames := 2, cells := 0, slots := 0, locals := 42 } [.ref h] [(h, .inl (4, mo_f ad x)), ((ad 0), gg_ai g 1030 row)] [] (fun vv CC => vv = some (.int (sm (fun i => if row 3 < row (25 + 13 * i + 11) then 1 else 0) nr)) ∧ CC = []) gg_no := by
  refine gg_of (lv := [_, _, _]) (by decide) hl (Nat.le_of_ble_eq_true rfl) rfl ?_
  intro p e R s m args below meth c A Q hRf hRl hRc hRs E Fn hnm hex
  refine gg_iconst (v := 0) (pc := 0) E dX5_busyMany_0 (by decide) ?_
  refine gg_istore_n (lv' := [_, _, _]) (pc := 1) E dX5_busyMany_1 rfl (Nat.le_of_ble_eq_true rfl) rfl rfl ?_
  refine gg_iconst (v := 0) (pc := 2) E dX5_busyMany_2 (by decide) ?_
  refine gg_istore_n (lv' := [_, _, _]) (pc := 3) E dX5_busyMany_3 rfl (Nat.le_of_ble_eq_true rfl) rfl rfl ?_
  have L4 : ∀ (n : Nat) (i : Nat), nr - i < n → (i ≤ nr) → gg_W p l e R s m args below meth c g A 3 Q 0 0 [] [some (.ref h), some (.int (sm (fun i => if row 3 < row (25 + 13 * i + 11) then 1 else 0) i)), some (.int (nI i))] [] 4 := by
    intro n4
    induction n4 with
    | zero => intro i hmz; exact absurd hmz (Nat.not_lt_zero _)
    | succ n4 ih4 =>
      intro i hm4 hi
      refine gg_iload_n (pc := 4) E dX5_busyMany_4 rfl rfl ?_
      refine gg_aload_n (pc := 5) E dX5_busyMany_5 rfl rfl ?_
      refine gg_get (pc := 6) E ck_X5 0 q2859 rfl (by decide) dX5_busyMany_6 (gg_r 0 rfl) rfl ?_
      refine gg_iconst (v := 0) (pc := 9) E dX5_busyMany_9 (by decide) ?_
      refine gg_ialdN (pc := 10) E 0 rfl (by omega) (by omega) dX5_busyMany_10 (gg_r 1 rfl) ?_
      rw [hnr]
      refine gg_icmpN_ge (tgt := 37) (pc := 11) E i nr rfl rfl (by omega) (by omega) dX5_busyMany_11 (by decide) (fun c11 => ?_) (fun c11 => ?_)
      · refine gg_iload_n (pc := 37) E dX5_busyMany_37 rfl rfl ?_
        refine gg_iret (pc := 38) E Fn rfl (rfl) dX5_busyMany_38 (by first | exact Nat.le_of_ble_eq_true rfl | (dsimp only; omega)) (by first | exact Nat.le_of_ble_eq_true rfl | (dsimp only; omega)) ?_
        have e : i = nr := by omega
        subst e
        exact ⟨rfl, rfl⟩
      · refine gg_iload_n (pc := 14) E dX5_busyMany_14 rfl rfl ?_
        refine gg_aload_n (pc := 15) E dX5_busyMany_15 rfl rfl ?_
        refine gg_iload_n (pc := 16) E dX5_busyMany_16 rfl rfl ?_
        refine gg_aload_n (pc := 17) E dX5_busyMany_17 rfl rfl ?_
        refine gg_get (pc := 18) E ck_X5 0 q2859 rfl (by decide) dX5_busyMany_18 (gg_r 0 rfl) rfl ?_
        refine gg_iconst (v := 3) (pc := 21) E dX5_busyMany_21 (by decide) ?_
        refine gg_ialdN (pc := 22) E 3 rfl (by omega) (by omega) dX5_busyMany_22 (gg_r 1 rfl) ?_
        refine gg_callV (F := []) (As := [.int (nI i), _]) (rest := [_]) (pc := 23) E ck_X5 (ct_X5_isBusy hl (by first | assumption | omega)) (cwV 2 E.2.2.2.2.1 (lw_V q3168 q3170 qs110 q179 q3171) rfl rfl rfl (by decide +kernel) ⟨by rw [hRf]; exact Nat.le_of_ble_eq_true rfl, by rw [hRl]; exact Nat.le_of_ble_eq_true rfl⟩) dX5_busyMany_23 [] (by decide) rfl rfl (List.forall_mem_cons.mpr ⟨(gg_r 0 rfl), (List.forall_mem_cons.mpr ⟨(gg_r 1 rfl), (fun _ h => by cases h)⟩)⟩) (gg_r 0 rfl) rfl rfl (Nat.le_of_ble_eq_true rfl) (by first | (rw [hRc]; exact Nat.le_of_ble_eq_true rfl) | (rw [hRc]; dsimp only; omega)) (by first | (rw [hRs]; exact Nat.le_of_ble_eq_true rfl) | (rw [hRs]; dsimp only; omega)) ?_ (fun X q C1 h => h.elim)
        rintro _ _ ⟨rfl, rfl⟩
        dsimp only [List.cons_append, List.nil_append, Option.toList]
        refine gg_callS (F := []) (As := [_]) (rest := [_]) (pc := 26) E (ct_X5_one hl ) (va_cwS 1 E.2.2.2.2.1 (lw_S q3124 q3125 q179 q3126) rfl rfl rfl (by decide +kernel) ⟨by rw [hRf]; exact Nat.le_of_ble_eq_true rfl, by rw [hRl]; exact Nat.le_of_ble_eq_true rfl⟩) dX5_busyMany_26 [] (by decide) rfl rfl (fun _ h => by cases h) rfl rfl (Nat.le_of_ble_eq_true rfl) (by first | (rw [hRc]; exact Nat.le_of_ble_eq_true rfl) | (rw [hRc]; dsimp only; omega)) (by first | (rw [hRs]; exact Nat.le_of_ble_eq_true rfl) | (rw [hRs]; dsimp only; omega)) ?_ (fun X q C1 h => h.elim)
        rintro _ _ ⟨rfl, rfl⟩
        dsimp only [List.cons_append, List.nil_append, Option.toList]
        refine gg_iadd (pc := 29) E dX5_busyMany_29 ?_
        refine gg_istore_n (lv' := [_, _, _]) (pc := 30) E dX5_busyMany_30 rfl (Nat.le_of_ble_eq_true rfl) rfl rfl ?_
        refine gg_iincN (k := 1) (lv' := [_, _, _]) (pc := 31) E i dX5_busyMany_31 rfl rfl rfl (Nat.le_of_ble_eq_true rfl) rfl rfl ?_
        refine gg_goto (tgt := 4) (pc := 34) E dX5_busyMany_34 (by decide) ?_
        refine gg_cv rfl (gg_leS (gg_leS (gg_leS gg_le0))) rfl (by first | exact Nat.le_refl _ | (dsimp only; omega)) (by first | exact Nat.le_refl _ | (dsimp only; omega)) (ih4 (i + 1) (by omega) (by omega))
  refine gg_cv rfl (gg_leS (gg_leS (gg_leS gg_le0))) rfl (by first | exact Nat.le_refl _ | (dsimp only; omega)) (by first | exact Nat.le_refl _ | (dsimp only; omega)) (L4 _ 0 (Nat.lt_succ_self _) (Nat.zero_le _))
set_option maxHeartbeats 4000000 in
theorem ct_X5_purses {l : Launch} (hl : l.stackTraces = false) {g : gg_G}  {h : Nat} {ad : Nat → Nat} {x : Nat → Int32} {row : Nat → Int32} {nr : Nat} (hnr : row 0 = nI nr) (hr10 : nr ≤ 10) : gg_C l g yX5_purses (ws_ yX5_purses cX5_purses 3 (some .int)) { frames := 1, cells := 0, slots := 0, locals := 20 } [.ref h] [(h, .inl (4, mo_f ad x)), ((ad 0), gg_ai g 1030 row)] [] (fun vv CC => vv = some (.int (sm (fun i => row (25 + 13 * i + 10)) nr)) ∧ CC = []) gg_no := by
  refine gg_of (lv := [_, _, _]) (by decide) hl (Nat.le_of_ble_eq_true rfl) rfl ?_
  intro p e R s m args below meth c A Q hRf hRl hRc hRs E Fn hnm hex
  refine gg_iconst (v := 0) (pc := 0) E dX5_purses_0 (by decide) ?_
  refine gg_istore_n (lv' := [_, _, _]) (pc := 1) E dX5_purses_1 rfl (Nat.le_of_ble_eq_true rfl) rfl rfl ?_
  refine gg_iconst (v := 0) (pc := 2) E dX5_purses_2 (by decide) ?_
  refine gg_istore_n (lv' := [_, _, _]) (pc := 3) E dX5_purses_3 rfl (Nat.le_of_ble_eq_true rfl) rfl rfl ?_
  have L4 : ∀ (n : Nat) (i : Nat), nr - i < n → (i ≤ nr) → gg_W p l e R s m args below meth c g A 3 Q 0 0 [] [some (.ref h), some (.int (sm (fun i => row (25 + 13 * i + 10)) i)), some (.int (nI i))] [] 4 := by
    intro n4
    induction n4 with
    | zero => intro i hmz; exact absurd hmz (Nat.not_lt_zero _)
    | succ n4 ih4 =>
      intro i hm4 hi
      refine gg_iload_n (pc := 4) E dX5_purses_4 rfl rfl ?_
      refine gg_aload_n (pc := 5) E dX5_purses_5 rfl rfl ?_
      refine gg_get (pc := 6) E ck_X5 0 q2859 rfl (by decide) dX5_purses_6 (gg_r 0 rfl) rfl ?_
      refine gg_iconst (v := 0) (pc := 9) E dX5_purses_9 (by decide) ?_
      refine gg_ialdN (pc := 10) E 0 rfl (by omega) (by omega) dX5_purses_10 (gg_r 1 rfl) ?_
      rw [hnr]
      refine gg_icmpN_ge (tgt := 35) (pc := 11) E i nr rfl rfl (by omega) (by omega) dX5_purses_11 (by decide) (fun c11 => ?_) (fun c11 => ?_)
      · refine gg_iload_n (pc := 35) E dX5_purses_35 rfl rfl ?_
        refine gg_iret (pc := 36) E Fn rfl (rfl) dX5_purses_36 (by first | exact Nat.le_of_ble_eq_true rfl | (dsimp only; omega)) (by first | exact Nat.le_of_ble_eq_true rfl | (dsimp only; omega)) ?_
        have e : i = nr := by omega
        subst e
        exact ⟨rfl, rfl⟩
      · refine gg_iload_n (pc := 14) E dX5_purses_14 rfl rfl ?_
        refine gg_aload_n (pc := 15) E dX5_purses_15 rfl rfl ?_
        refine gg_get (pc := 16) E ck_X5 0 q2859 rfl (by decide) dX5_purses_16 (gg_r 0 rfl) rfl ?_
        refine gg_iload_n (pc := 19) E dX5_purses_19 rfl rfl ?_
        refine gg_callS (F := []) (As := [.int (nI i)]) (rest := [_, _]) (pc := 20) E (ct_X5_r hl ) (va_cwS 1 E.2.2.2.2.1 (lw_S q2849 q2850 q179 q2851) rfl rfl rfl (by decide +kernel) ⟨by rw [hRf]; exact Nat.le_of_ble_eq_true rfl, by rw [hRl]; exact Nat.le_of_ble_eq_true rfl⟩) dX5_purses_20 [] (by decide) rfl rfl (fun _ h => by cases h) rfl rfl (Nat.le_of_ble_eq_true rfl) (by first | (rw [hRc]; exact Nat.le_of_ble_eq_true rfl) | (rw [hRc]; dsimp only; omega)) (by first | (rw [hRs]; exact Nat.le_of_ble_eq_true rfl) | (rw [hRs]; dsimp only; omega)) ?_ (fun X q C1 h => h.elim)
        rintro _ _ ⟨rfl, rfl⟩
        dsimp only [List.cons_append, List.nil_append, Option.toList]
        refine gg_bipush (v := 10) (pc := 23) E dX5_purses_23 (by decide) ?_
        refine gg_iaddN (pc := 25) E (25 + 13 * i) 10 rfl rfl dX5_purses_25 ?_
        refine gg_ialdN (pc := 26) E ((25 + 13 * i) + 10) rfl (by omega) (by omega) dX5_purses_26 (gg_r 1 rfl) ?_
        refine gg_iadd (pc := 27) E dX5_purses_27 ?_
        refine gg_istore_n (lv' := [_, _, _]) (pc := 28) E dX5_purses_28 rfl (Nat.le_of_ble_eq_true rfl) rfl rfl ?_
        refine gg_iincN (k := 1) (lv' := [_, _, _]) (pc := 29) E i dX5_purses_29 rfl rfl rfl (Nat.le_of_ble_eq_true rfl) rfl rfl ?_
        refine gg_goto (tgt := 4) (pc := 32) E dX5_purses_32 (by decide) ?_
        refine gg_cv rfl (gg_leS (gg_leS (gg_leS gg_le0))) rfl (by first | exact Nat.le_refl _ | (dsimp only; omega)) (by first | exact Nat.le_refl _ | (dsimp only; omega)) (ih4 (i + 1) (by omega) (by omega))
  refine gg_cv rfl (gg_leS (gg_leS (gg_leS gg_le0))) rfl (by first | exact Nat.le_refl _ | (dsimp only; omega)) (by first | exact Nat.le_refl _ | (dsimp only; omega)) (L4 _ 0 (Nat.lt_succ_self _) (Nat.zero_le _))
set_option maxHeartbeats 4000000 in
theorem ct_X5_waitingMany {l : Launch} (hl : l.stackTraces = false) {g : gg_G}  {h : Nat} {ad : Nat → Nat} {x : Nat → Int32} {row : Nat → Int32} {a : Int32} {nt : Nat} (hnt : row 2 = nI nt) (ht30 : nt ≤ 30) : gg_C l g yX5_waitingMany (ws_ yX5_waitingMany cX5_waitingMany 4 (some .int)) { frames := 2, cells := 0, slots := 0, locals := 42 } [.ref h, .int a] [(h, .inl (4, mo_f ad x)), ((ad 0), gg_ai g 1030 row)] [] (fun vv CC => vv = some (.int (sm (fun i => if row (220 + 27 * i + 3) = 0 ∧ row (220 + 27 * i + 4) = a then 1 else 0) nt)) ∧ CC = []) gg_no := by
  refine gg_of (lv := [_, _, _, _]) (by decide) hl (Nat.le_of_ble_eq_true rfl) rfl ?_
  intro p e R s m args below meth c A Q hRf hRl hRc hRs E Fn hnm hex
  refine gg_iconst (v := 0) (pc := 0) E dX5_waitingMany_0 (by decide) ?_
  refine gg_istore_n (lv' := [_, _, _, _]) (pc := 1) E dX5_waitingMany_1 rfl (Nat.le_of_ble_eq_true rfl) rfl rfl ?_
  refine gg_iconst (v := 0) (pc := 2) E dX5_waitingMany_2 (by decide) ?_
  refine gg_istore_n (lv' := [_, _, _, _]) (pc := 3) E dX5_waitingMany_3 rfl (Nat.le_of_ble_eq_true rfl) rfl rfl ?_
  have L4 : ∀ (n : Nat) (i : Nat), nt - i < n → (i ≤ nt) → gg_W p l e R s m args below meth c g A 4 Q 0 0 [] [some (.ref h), some (.int a), some (.int (sm (fun i => if row (220 + 27 * i + 3) = 0 ∧ row (220 + 27 * i + 4) = a then 1 else 0) i)), some (.int (nI i))] [] 4 := by
    intro n4
    induction n4 with
    | zero => intro i hmz; exact absurd hmz (Nat.not_lt_zero _)
    | succ n4 ih4 =>
      intro i hm4 hi
      refine gg_iload_n (pc := 4) E dX5_waitingMany_4 rfl rfl ?_
      refine gg_aload_n (pc := 5) E dX5_waitingMany_5 rfl rfl ?_
      refine gg_get (pc := 6) E ck_X5 0 q2859 rfl (by decide) dX5_waitingMany_6 (gg_r 0 rfl) rfl ?_
      refine gg_iconst (v := 2) (pc := 9) E dX5_waitingMany_9 (by decide) ?_
      refine gg_ialdN (pc := 10) E 2 rfl (by omega) (by omega) dX5_waitingMany_10 (gg_r 1 rfl) ?_
      rw [hnt]
      refine gg_icmpN_ge (tgt := 32) (pc := 11) E i nt rfl rfl (by omega) (by omega) dX5_waitingMany_11 (by decide) (fun c11 => ?_) (fun c11 => ?_)
      · refine gg_iload_n (pc := 32) E dX5_waitingMany_32 rfl rfl ?_
        refine gg_iret (pc := 33) E Fn rfl (rfl) dX5_waitingMany_33 (by first | exact Nat.le_of_ble_eq_true rfl | (dsimp only; omega)) (by first | exact Nat.le_of_ble_eq_true rfl | (dsimp only; omega)) ?_
        have e : i = nt := by omega
        subst e
        exact ⟨rfl, rfl⟩
      · refine gg_iload_n (pc := 14) E dX5_waitingMany_14 rfl rfl ?_
        refine gg_aload_n (pc := 15) E dX5_waitingMany_15 rfl rfl ?_
        refine gg_iload_n (pc := 16) E dX5_waitingMany_16 rfl rfl ?_
        refine gg_iload_n (pc := 17) E dX5_waitingMany_17 rfl rfl ?_
        refine gg_callV (F := []) (As := [.int (nI i), _]) (rest := [_]) (pc := 18) E ck_X5 (ct_X5_waitsAt hl (by first | assumption | omega)) (cwV 2 E.2.2.2.2.1 (lw_V q3176 q3178 qs112 q179 q3179) rfl rfl rfl (by decide +kernel) ⟨by rw [hRf]; exact Nat.le_of_ble_eq_true rfl, by rw [hRl]; exact Nat.le_of_ble_eq_true rfl⟩) dX5_waitingMany_18 [] (by decide) rfl rfl (List.forall_mem_cons.mpr ⟨(gg_r 0 rfl), (List.forall_mem_cons.mpr ⟨(gg_r 1 rfl), (fun _ h => by cases h)⟩)⟩) (gg_r 0 rfl) rfl rfl (Nat.le_of_ble_eq_true rfl) (by first | (rw [hRc]; exact Nat.le_of_ble_eq_true rfl) | (rw [hRc]; dsimp only; omega)) (by first | (rw [hRs]; exact Nat.le_of_ble_eq_true rfl) | (rw [hRs]; dsimp only; omega)) ?_ (fun X q C1 h => h.elim)
        rintro _ _ ⟨rfl, rfl⟩
        dsimp only [List.cons_append, List.nil_append, Option.toList]
        refine gg_callS (F := []) (As := [_]) (rest := [_]) (pc := 21) E (ct_X5_one hl ) (va_cwS 1 E.2.2.2.2.1 (lw_S q3124 q3125 q179 q3126) rfl rfl rfl (by decide +kernel) ⟨by rw [hRf]; exact Nat.le_of_ble_eq_true rfl, by rw [hRl]; exact Nat.le_of_ble_eq_true rfl⟩) dX5_waitingMany_21 [] (by decide) rfl rfl (fun _ h => by cases h) rfl rfl (Nat.le_of_ble_eq_true rfl) (by first | (rw [hRc]; exact Nat.le_of_ble_eq_true rfl) | (rw [hRc]; dsimp only; omega)) (by first | (rw [hRs]; exact Nat.le_of_ble_eq_true rfl) | (rw [hRs]; dsimp only; omega)) ?_ (fun X q C1 h => h.elim)
        rintro _ _ ⟨rfl, rfl⟩
        dsimp only [List.cons_append, List.nil_append, Option.toList]
        refine gg_iadd (pc := 24) E dX5_waitingMany_24 ?_
        refine gg_istore_n (lv' := [_, _, _, _]) (pc := 25) E dX5_waitingMany_25 rfl (Nat.le_of_ble_eq_true rfl) rfl rfl ?_
        refine gg_iincN (k := 1) (lv' := [_, _, _, _]) (pc := 26) E i dX5_waitingMany_26 rfl rfl rfl (Nat.le_of_ble_eq_true rfl) rfl rfl ?_
        refine gg_goto (tgt := 4) (pc := 29) E dX5_waitingMany_29 (by decide) ?_
        refine gg_cv rfl (gg_leS (gg_leS (gg_leS (gg_leS gg_le0)))) rfl (by first | exact Nat.le_refl _ | (dsimp only; omega)) (by first | exact Nat.le_refl _ | (dsimp only; omega)) (ih4 (i + 1) (by omega) (by omega))
  refine gg_cv rfl (gg_leS (gg_leS (gg_leS (gg_leS gg_le0)))) rfl (by first | exact Nat.le_refl _ | (dsimp only; omega)) (by first | exact Nat.le_refl _ | (dsimp only; omega)) (L4 _ 0 (Nat.lt_succ_self _) (Nat.zero_le _))
set_option maxHeartbeats 4000000 in
theorem ct_X5_waysAt {l : Launch} (hl : l.stackTraces = false) {g : gg_G}  {h : Nat} {ad : Nat → Nat} {x : Nat → Int32} {row : Nat → Int32} {a : Int32} {nw : Nat} (hnw : row 1 = nI nw) (hw20 : nw ≤ 20) : gg_C l g yX5_waysAt (ws_ yX5_waysAt cX5_waysAt 4 (some .int)) { frames := 2, cells := 0, slots := 0, locals := 42 } [.ref h, .int a] [(h, .inl (4, mo_f ad x)), ((ad 0), gg_ai g 1030 row)] [] (fun vv CC => vv = some (.int (sm (fun i => if row (160 + 3 * i) = a ∨ row (160 + 3 * i + 1) = a then 1 else 0) nw)) ∧ CC = []) gg_no := by
  refine gg_of (lv := [_, _, _, _]) (by decide) hl (Nat.le_of_ble_eq_true rfl) rfl ?_
  intro p e R s m args below meth c A Q hRf hRl hRc hRs E Fn hnm hex
  refine gg_iconst (v := 0) (pc := 0) E dX5_waysAt_0 (by decide) ?_
  refine gg_istore_n (lv' := [_, _, _, _]) (pc := 1) E dX5_waysAt_1 rfl (Nat.le_of_ble_eq_true rfl) rfl rfl ?_
  refine gg_iconst (v := 0) (pc := 2) E dX5_waysAt_2 (by decide) ?_
  refine gg_istore_n (lv' := [_, _, _, _]) (pc := 3) E dX5_waysAt_3 rfl (Nat.le_of_ble_eq_true rfl) rfl rfl ?_
  have L4 : ∀ (n : Nat) (i : Nat), nw - i < n → (i ≤ nw) → gg_W p l e R s m args below meth c g A 4 Q 0 0 [] [some (.ref h), some (.int a), some (.int (sm (fun i => if row (160 + 3 * i) = a ∨ row (160 + 3 * i + 1) = a then 1 else 0) i)), some (.int (nI i))] [] 4 := by
    intro n4
    induction n4 with
    | zero => intro i hmz; exact absurd hmz (Nat.not_lt_zero _)
    | succ n4 ih4 =>
      intro i hm4 hi
      refine gg_iload_n (pc := 4) E dX5_waysAt_4 rfl rfl ?_
      refine gg_aload_n (pc := 5) E dX5_waysAt_5 rfl rfl ?_
      refine gg_get (pc := 6) E ck_X5 0 q2859 rfl (by decide) dX5_waysAt_6 (gg_r 0 rfl) rfl ?_
      refine gg_iconst (v := 1) (pc := 9) E dX5_waysAt_9 (by decide) ?_
      refine gg_ialdN (pc := 10) E 1 rfl (by omega) (by omega) dX5_waysAt_10 (gg_r 1 rfl) ?_
      rw [hnw]
      refine gg_icmpN_ge (tgt := 32) (pc := 11) E i nw rfl rfl (by omega) (by omega) dX5_waysAt_11 (by decide) (fun c11 => ?_) (fun c11 => ?_)
      · refine gg_iload_n (pc := 32) E dX5_waysAt_32 rfl rfl ?_
        refine gg_iret (pc := 33) E Fn rfl (rfl) dX5_waysAt_33 (by first | exact Nat.le_of_ble_eq_true rfl | (dsimp only; omega)) (by first | exact Nat.le_of_ble_eq_true rfl | (dsimp only; omega)) ?_
        have e : i = nw := by omega
        subst e
        exact ⟨rfl, rfl⟩
      · refine gg_iload_n (pc := 14) E dX5_waysAt_14 rfl rfl ?_
        refine gg_aload_n (pc := 15) E dX5_waysAt_15 rfl rfl ?_
        refine gg_iload_n (pc := 16) E dX5_waysAt_16 rfl rfl ?_
        refine gg_iload_n (pc := 17) E dX5_waysAt_17 rfl rfl ?_
        refine gg_callV (F := []) (As := [.int (nI i), _]) (rest := [_]) (pc := 18) E ck_X5 (ct_X5_ends hl (by first | assumption | omega)) (cwV 2 E.2.2.2.2.1 (lw_V q3051 q3053 qs87 q179 q3054) rfl rfl rfl (by decide +kernel) ⟨by rw [hRf]; exact Nat.le_of_ble_eq_true rfl, by rw [hRl]; exact Nat.le_of_ble_eq_true rfl⟩) dX5_waysAt_18 [] (by decide) rfl rfl (List.forall_mem_cons.mpr ⟨(gg_r 0 rfl), (List.forall_mem_cons.mpr ⟨(gg_r 1 rfl), (fun _ h => by cases h)⟩)⟩) (gg_r 0 rfl) rfl rfl (Nat.le_of_ble_eq_true rfl) (by first | (rw [hRc]; exact Nat.le_of_ble_eq_true rfl) | (rw [hRc]; dsimp only; omega)) (by first | (rw [hRs]; exact Nat.le_of_ble_eq_true rfl) | (rw [hRs]; dsimp only; omega)) ?_ (fun X q C1 h => h.elim)
        rintro _ _ ⟨rfl, rfl⟩
        dsimp only [List.cons_append, List.nil_append, Option.toList]
        refine gg_callS (F := []) (As := [_]) (rest := [_]) (pc := 21) E (ct_X5_one hl ) (va_cwS 1 E.2.2.2.2.1 (lw_S q3124 q3125 q179 q3126) rfl rfl rfl (by decide +kernel) ⟨by rw [hRf]; exact Nat.le_of_ble_eq_true rfl, by rw [hRl]; exact Nat.le_of_ble_eq_true rfl⟩) dX5_waysAt_21 [] (by decide) rfl rfl (fun _ h => by cases h) rfl rfl (Nat.le_of_ble_eq_true rfl) (by first | (rw [hRc]; exact Nat.le_of_ble_eq_true rfl) | (rw [hRc]; dsimp only; omega)) (by first | (rw [hRs]; exact Nat.le_of_ble_eq_true rfl) | (rw [hRs]; dsimp only; omega)) ?_ (fun X q C1 h => h.elim)
        rintro _ _ ⟨rfl, rfl⟩
        dsimp only [List.cons_append, List.nil_append, Option.toList]
        refine gg_iadd (pc := 24) E dX5_waysAt_24 ?_
        refine gg_istore_n (lv' := [_, _, _, _]) (pc := 25) E dX5_waysAt_25 rfl (Nat.le_of_ble_eq_true rfl) rfl rfl ?_
        refine gg_iincN (k := 1) (lv' := [_, _, _, _]) (pc := 26) E i dX5_waysAt_26 rfl rfl rfl (Nat.le_of_ble_eq_true rfl) rfl rfl ?_
        refine gg_goto (tgt := 4) (pc := 29) E dX5_waysAt_29 (by decide) ?_
        refine gg_cv rfl (gg_leS (gg_leS (gg_leS (gg_leS gg_le0)))) rfl (by first | exact Nat.le_refl _ | (dsimp only; omega)) (by first | exact Nat.le_refl _ | (dsimp only; omega)) (ih4 (i + 1) (by omega) (by omega))
  refine gg_cv rfl (gg_leS (gg_leS (gg_leS (gg_leS gg_le0)))) rfl (by first | exact Nat.le_refl _ | (dsimp only; omega)) (by first | exact Nat.le_refl _ | (dsimp only; omega)) (L4 _ 0 (Nat.lt_succ_self _) (Nat.zero_le _))
set_option maxHeartbeats 4000000 in
theorem ct_X5_unlike {l : Launch} (hl : l.stackTraces = false) {g : gg_G}  {h : Nat} {ad : Nat → Nat} {x : Nat → Int32} {row : Nat → Int32} {t no : Nat} (ht : t < 30) (hno : row (220 + 27 * t + 2) = nI no) (hn8 : no ≤ 8) : gg_C l g yX5_unlike (ws_ yX5_unlike cX5_unlike 4 (some .int)) { frames := 1, cells := 0, slots := 0, locals := 20 } [.ref h, .int (nI t)] [(h, .inl (4, mo_f ad x)), ((ad 0), gg_ai g 1030 row)] [] (fun vv CC => vv = some (.int (sm (fun i => if ¬ row (220 + 27 * t + 11 + i) = row (220 + 27 * t + 19 + i) then 1 else 0) no)) ∧ CC = []) gg_no := by
  refine gg_of (lv := [_, _, _, _]) (by decide) hl (Nat.le_of_ble_eq_true rfl) rfl ?_
  intro p e R s m args below meth c A Q hRf hRl hRc hRs E Fn hnm hex
  refine gg_iconst (v := 0) (pc := 0) E dX5_unlike_0 (by decide) ?_
  refine gg_istore_n (lv' := [_, _, _, _]) (pc := 1) E dX5_unlike_1 rfl (Nat.le_of_ble_eq_true rfl) rfl rfl ?_
  refine gg_iconst (v := 0) (pc := 2) E dX5_unlike_2 (by decide) ?_
  refine gg_istore_n (lv' := [_, _, _, _]) (pc := 3) E dX5_unlike_3 rfl (Nat.le_of_ble_eq_true rfl) rfl rfl ?_
  have L4 : ∀ (n : Nat) (i : Nat), no - i < n → (i ≤ no) → gg_W p l e R s m args below meth c g A 4 Q 0 0 [] [some (.ref h), some (.int (nI t)), some (.int (sm (fun i => if ¬ row (220 + 27 * t + 11 + i) = row (220 + 27 * t + 19 + i) then 1 else 0) i)), some (.int (nI i))] [] 4 := by
    intro n4
    induction n4 with
    | zero => intro i hmz; exact absurd hmz (Nat.not_lt_zero _)
    | succ n4 ih4 =>
      intro i hm4 hi
      refine gg_iload_n (pc := 4) E dX5_unlike_4 rfl rfl ?_
      refine gg_aload_n (pc := 5) E dX5_unlike_5 rfl rfl ?_
      refine gg_get (pc := 6) E ck_X5 0 q2859 rfl (by decide) dX5_unlike_6 (gg_r 0 rfl) rfl ?_
      refine gg_iload_n (pc := 9) E dX5_unlike_9 rfl rfl ?_
      refine gg_callS (F := []) (As := [.int (nI t)]) (rest := [_, _]) (pc := 10) E (ct_X5_t hl ) (va_cwS 1 E.2.2.2.2.1 (lw_S q3121 q3122 q179 q3123) rfl rfl rfl (by decide +kernel) ⟨by rw [hRf]; exact Nat.le_of_ble_eq_true rfl, by rw [hRl]; exact Nat.le_of_ble_eq_true rfl⟩) dX5_unlike_10 [] (by decide) rfl rfl (fun _ h => by cases h) rfl rfl (Nat.le_of_ble_eq_true rfl) (by first | (rw [hRc]; exact Nat.le_of_ble_eq_true rfl) | (rw [hRc]; dsimp only; omega)) (by first | (rw [hRs]; exact Nat.le_of_ble_eq_true rfl) | (rw [hRs]; dsimp only; omega)) ?_ (fun X q C1 h => h.elim)
      rintro _ _ ⟨rfl, rfl⟩
      dsimp only [List.cons_append, List.nil_append, Option.toList]
      refine gg_iconst (v := 2) (pc := 13) E dX5_unlike_13 (by decide) ?_
      refine gg_iaddN (pc := 14) E (220 + 27 * t) 2 rfl rfl dX5_unlike_14 ?_
      refine gg_ialdN (pc := 15) E ((220 + 27 * t) + 2) rfl (by omega) (by omega) dX5_unlike_15 (gg_r 1 rfl) ?_
      rw [hno]
      refine gg_icmpN_ge (tgt := 67) (pc := 16) E i no rfl rfl (by omega) (by omega) dX5_unlike_16 (by decide) (fun c16 => ?_) (fun c16 => ?_)
      · refine gg_iload_n (pc := 67) E dX5_unlike_67 rfl rfl ?_
        refine gg_iret (pc := 68) E Fn rfl (rfl) dX5_unlike_68 (by first | exact Nat.le_of_ble_eq_true rfl | (dsimp only; omega)) (by first | exact Nat.le_of_ble_eq_true rfl | (dsimp only; omega)) ?_
        have e : i = no := by omega
        subst e
        exact ⟨rfl, rfl⟩
      · refine gg_iload_n (pc := 19) E dX5_unlike_19 rfl rfl ?_
        refine gg_aload_n (pc := 20) E dX5_unlike_20 rfl rfl ?_
        refine gg_get (pc := 21) E ck_X5 0 q2859 rfl (by decide) dX5_unlike_21 (gg_r 0 rfl) rfl ?_
        refine gg_iload_n (pc := 24) E dX5_unlike_24 rfl rfl ?_
        refine gg_callS (F := []) (As := [.int (nI t)]) (rest := [_, _]) (pc := 25) E (ct_X5_t hl ) (va_cwS 1 E.2.2.2.2.1 (lw_S q3121 q3122 q179 q3123) rfl rfl rfl (by decide +kernel) ⟨by rw [hRf]; exact Nat.le_of_ble_eq_true rfl, by rw [hRl]; exact Nat.le_of_ble_eq_true rfl⟩) dX5_unlike_25 [] (by decide) rfl rfl (fun _ h => by cases h) rfl rfl (Nat.le_of_ble_eq_true rfl) (by first | (rw [hRc]; exact Nat.le_of_ble_eq_true rfl) | (rw [hRc]; dsimp only; omega)) (by first | (rw [hRs]; exact Nat.le_of_ble_eq_true rfl) | (rw [hRs]; dsimp only; omega)) ?_ (fun X q C1 h => h.elim)
        rintro _ _ ⟨rfl, rfl⟩
        dsimp only [List.cons_append, List.nil_append, Option.toList]
        refine gg_bipush (v := 11) (pc := 28) E dX5_unlike_28 (by decide) ?_
        refine gg_iaddN (pc := 30) E (220 + 27 * t) 11 rfl rfl dX5_unlike_30 ?_
        refine gg_iload_n (pc := 31) E dX5_unlike_31 rfl rfl ?_
        refine gg_iaddN (pc := 32) E ((220 + 27 * t) + 11) i rfl rfl dX5_unlike_32 ?_
        refine gg_ialdN (pc := 33) E ((220 + 27 * t) + 11 + i) rfl (by omega) (by omega) dX5_unlike_33 (gg_r 1 rfl) ?_
        refine gg_aload_n (pc := 34) E dX5_unlike_34 rfl rfl ?_
        refine gg_get (pc := 35) E ck_X5 0 q2859 rfl (by decide) dX5_unlike_35 (gg_r 0 rfl) rfl ?_
        refine gg_iload_n (pc := 38) E dX5_unlike_38 rfl rfl ?_
        refine gg_callS (F := []) (As := [.int (nI t)]) (rest := [_, _, _]) (pc := 39) E (ct_X5_t hl ) (va_cwS 1 E.2.2.2.2.1 (lw_S q3121 q3122 q179 q3123) rfl rfl rfl (by decide +kernel) ⟨by rw [hRf]; exact Nat.le_of_ble_eq_true rfl, by rw [hRl]; exact Nat.le_of_ble_eq_true rfl⟩) dX5_unlike_39 [] (by decide) rfl rfl (fun _ h => by cases h) rfl rfl (Nat.le_of_ble_eq_true rfl) (by first | (rw [hRc]; exact Nat.le_of_ble_eq_true rfl) | (rw [hRc]; dsimp only; omega)) (by first | (rw [hRs]; exact Nat.le_of_ble_eq_true rfl) | (rw [hRs]; dsimp only; omega)) ?_ (fun X q C1 h => h.elim)
        rintro _ _ ⟨rfl, rfl⟩
        dsimp only [List.cons_append, List.nil_append, Option.toList]
        refine gg_bipush (v := 19) (pc := 42) E dX5_unlike_42 (by decide) ?_
        refine gg_iaddN (pc := 44) E (220 + 27 * t) 19 rfl rfl dX5_unlike_44 ?_
        refine gg_iload_n (pc := 45) E dX5_unlike_45 rfl rfl ?_
        refine gg_iaddN (pc := 46) E ((220 + 27 * t) + 19) i rfl rfl dX5_unlike_46 ?_
        refine gg_ialdN (pc := 47) E ((220 + 27 * t) + 19 + i) rfl (by omega) (by omega) dX5_unlike_47 (gg_r 1 rfl) ?_
        refine gg_icmpB_eq (pc := 48) E dX5_unlike_48 dX5_unlike_51 dX5_unlike_52 dX5_unlike_55 ?_
        refine gg_callS (F := []) (As := [_]) (rest := [_]) (pc := 56) E (ct_X5_one hl ) (va_cwS 1 E.2.2.2.2.1 (lw_S q3124 q3125 q179 q3126) rfl rfl rfl (by decide +kernel) ⟨by rw [hRf]; exact Nat.le_of_ble_eq_true rfl, by rw [hRl]; exact Nat.le_of_ble_eq_true rfl⟩) dX5_unlike_56 [] (by decide) rfl rfl (fun _ h => by cases h) rfl rfl (Nat.le_of_ble_eq_true rfl) (by first | (rw [hRc]; exact Nat.le_of_ble_eq_true rfl) | (rw [hRc]; dsimp only; omega)) (by first | (rw [hRs]; exact Nat.le_of_ble_eq_true rfl) | (rw [hRs]; dsimp only; omega)) ?_ (fun X q C1 h => h.elim)
        rintro _ _ ⟨rfl, rfl⟩
        dsimp only [List.cons_append, List.nil_append, Option.toList]
        refine gg_iadd (pc := 59) E dX5_unlike_59 ?_
        refine gg_istore_n (lv' := [_, _, _, _]) (pc := 60) E dX5_unlike_60 rfl (Nat.le_of_ble_eq_true rfl) rfl rfl ?_
        refine gg_iincN (k := 1) (lv' := [_, _, _, _]) (pc := 61) E i dX5_unlike_61 rfl rfl rfl (Nat.le_of_ble_eq_true rfl) rfl rfl ?_
        refine gg_goto (tgt := 4) (pc := 64) E dX5_unlike_64 (by decide) ?_
        refine gg_cv rfl (gg_leS (gg_leS (gg_leS (gg_leS gg_le0)))) rfl (by first | exact Nat.le_refl _ | (dsimp only; omega)) (by first | exact Nat.le_refl _ | (dsimp only; omega)) (ih4 (i + 1) (by omega) (by omega))
  refine gg_cv rfl (gg_leS (gg_leS (gg_leS (gg_leS gg_le0)))) rfl (by first | exact Nat.le_refl _ | (dsimp only; omega)) (by first | exact Nat.le_refl _ | (dsimp only; omega)) (L4 _ 0 (Nat.lt_succ_self _) (Nat.zero_le _))
set_option maxHeartbeats 4000000 in
theorem ct_X5_wayBetween {l : Launch} (hl : l.stackTraces = false) {g : gg_G}  {h : Nat} {ad : Nat → Nat} {x : Nat → Int32} {row : Nat → Int32} {a b : Int32} {nw : Nat} (hnw : row 1 = nI nw) (hw20 : nw ≤ 20) : gg_C l g yX5_wayBetween (ws_ yX5_wayBetween cX5_wayBetween 4 (some .int)) { frames := 2, cells := 0, slots := 0, locals := 42 } [.ref h, .int a, .int b] [(h, .inl (4, mo_f ad x)), ((ad 0), gg_ai g 1030 row)] [] (fun vv CC => vv = some (.int (fi (fun i => ¬ a = b ∧ (row (160 + 3 * i) = a ∨ row (160 + 3 * i + 1) = a) ∧ (row (160 + 3 * i) = b ∨ row (160 + 3 * i + 1) = b)) nw)) ∧ CC = []) gg_no := by
  refine gg_of (lv := [_, _, _, _]) (by decide) hl (Nat.le_of_ble_eq_true rfl) rfl ?_
  intro p e R s m args below meth c A Q hRf hRl hRc hRs E Fn hnm hex
  refine gg_iconst (v := 0) (pc := 0) E dX5_wayBetween_0 (by decide) ?_
  refine gg_istore_n (lv' := [_, _, _, _]) (pc := 1) E dX5_wayBetween_1 rfl (Nat.le_of_ble_eq_true rfl) rfl rfl ?_
  have L2 : ∀ (n : Nat) (i : Nat), nw - i < n → (i ≤ nw) → (∀ j, j < i → ¬ (¬ a = b ∧ (row (160 + 3 * j) = a ∨ row (160 + 3 * j + 1) = a) ∧ (row (160 + 3 * j) = b ∨ row (160 + 3 * j + 1) = b))) → gg_W p l e R s m args below meth c g A 4 Q 0 0 [] [some (.ref h), some (.int a), some (.int b), some (.int (nI i))] [] 2 := by
    intro n2
    induction n2 with
    | zero => intro i hmz; exact absurd hmz (Nat.not_lt_zero _)
    | succ n2 ih2 =>
      intro i hm2 hi hm
      refine gg_iload_n (pc := 2) E dX5_wayBetween_2 rfl rfl ?_
      refine gg_aload_n (pc := 3) E dX5_wayBetween_3 rfl rfl ?_
      refine gg_get (pc := 4) E ck_X5 0 q2859 rfl (by decide) dX5_wayBetween_4 (gg_r 0 rfl) rfl ?_
      refine gg_iconst (v := 1) (pc := 7) E dX5_wayBetween_7 (by decide) ?_
      refine gg_ialdN (pc := 8) E 1 rfl (by omega) (by omega) dX5_wayBetween_8 (gg_r 1 rfl) ?_
      rw [hnw]
      refine gg_icmpN_ge (tgt := 43) (pc := 9) E i nw rfl rfl (by omega) (by omega) dX5_wayBetween_9 (by decide) (fun c9 => ?_) (fun c9 => ?_)
      · refine gg_iconst (v := (-1)) (pc := 43) E dX5_wayBetween_43 (by decide) ?_
        refine gg_iret (pc := 44) E Fn rfl (rfl) dX5_wayBetween_44 (by first | exact Nat.le_of_ble_eq_true rfl | (dsimp only; omega)) (by first | exact Nat.le_of_ble_eq_true rfl | (dsimp only; omega)) ?_
        have e : i = nw := by omega
        subst e
        exact ⟨by rw [fi_none hm], rfl⟩
      · refine gg_iload_n (pc := 12) E dX5_wayBetween_12 rfl rfl ?_
        refine gg_iload_n (pc := 13) E dX5_wayBetween_13 rfl rfl ?_
        refine gg_icmp_eq (tgt := 37) (pc := 14) E dX5_wayBetween_14 (by decide) (fun c14 => ?_) (fun c14 => ?_)
        · refine gg_iincN (k := 1) (lv' := [_, _, _, _]) (pc := 37) E i dX5_wayBetween_37 rfl rfl rfl (Nat.le_of_ble_eq_true rfl) rfl rfl ?_
          refine gg_goto (tgt := 2) (pc := 40) E dX5_wayBetween_40 (by decide) ?_
          refine gg_cv rfl (gg_leS (gg_leS (gg_leS (gg_leS gg_le0)))) rfl (by first | exact Nat.le_refl _ | (dsimp only; omega)) (by first | exact Nat.le_refl _ | (dsimp only; omega)) (ih2 (i + 1) (by omega) (by omega) (all_s hm (by simp only [gg_bz] at *; first | (intro z; simp_all; done) | (intro z; exact absurd z.1 (by assumption)))))
        · refine gg_aload_n (pc := 17) E dX5_wayBetween_17 rfl rfl ?_
          refine gg_iload_n (pc := 18) E dX5_wayBetween_18 rfl rfl ?_
          refine gg_iload_n (pc := 19) E dX5_wayBetween_19 rfl rfl ?_
          refine gg_callV (F := []) (As := [.int (nI i), _]) (rest := []) (pc := 20) E ck_X5 (ct_X5_ends hl (by first | assumption | omega)) (cwV 2 E.2.2.2.2.1 (lw_V q3051 q3053 qs87 q179 q3054) rfl rfl rfl (by decide +kernel) ⟨by rw [hRf]; exact Nat.le_of_ble_eq_true rfl, by rw [hRl]; exact Nat.le_of_ble_eq_true rfl⟩) dX5_wayBetween_20 [] (by decide) rfl rfl (List.forall_mem_cons.mpr ⟨(gg_r 0 rfl), (List.forall_mem_cons.mpr ⟨(gg_r 1 rfl), (fun _ h => by cases h)⟩)⟩) (gg_r 0 rfl) rfl rfl (Nat.le_of_ble_eq_true rfl) (by first | (rw [hRc]; exact Nat.le_of_ble_eq_true rfl) | (rw [hRc]; dsimp only; omega)) (by first | (rw [hRs]; exact Nat.le_of_ble_eq_true rfl) | (rw [hRs]; dsimp only; omega)) ?_ (fun X q C1 h => h.elim)
          rintro _ _ ⟨rfl, rfl⟩
          dsimp only [List.cons_append, List.nil_append, Option.toList]
          refine gg_ifP_eq (tgt := 37) (pc := 23) E dX5_wayBetween_23 (by decide) (fun c23 => ?_) (fun c23 => ?_)
          · refine gg_iincN (k := 1) (lv' := [_, _, _, _]) (pc := 37) E i dX5_wayBetween_37 rfl rfl rfl (Nat.le_of_ble_eq_true rfl) rfl rfl ?_
            refine gg_goto (tgt := 2) (pc := 40) E dX5_wayBetween_40 (by decide) ?_
            refine gg_cv rfl (gg_leS (gg_leS (gg_leS (gg_leS gg_le0)))) rfl (by first | exact Nat.le_refl _ | (dsimp only; omega)) (by first | exact Nat.le_refl _ | (dsimp only; omega)) (ih2 (i + 1) (by omega) (by omega) (all_s hm (by simp only [gg_bz] at *; first | (intro z; simp_all; done) | (intro z; exact absurd z.1 (by assumption)))))
          · refine gg_aload_n (pc := 26) E dX5_wayBetween_26 rfl rfl ?_
            refine gg_iload_n (pc := 27) E dX5_wayBetween_27 rfl rfl ?_
            refine gg_iload_n (pc := 28) E dX5_wayBetween_28 rfl rfl ?_
            refine gg_callV (F := []) (As := [.int (nI i), _]) (rest := []) (pc := 29) E ck_X5 (ct_X5_ends hl (by first | assumption | omega)) (cwV 2 E.2.2.2.2.1 (lw_V q3051 q3053 qs87 q179 q3054) rfl rfl rfl (by decide +kernel) ⟨by rw [hRf]; exact Nat.le_of_ble_eq_true rfl, by rw [hRl]; exact Nat.le_of_ble_eq_true rfl⟩) dX5_wayBetween_29 [] (by decide) rfl rfl (List.forall_mem_cons.mpr ⟨(gg_r 0 rfl), (List.forall_mem_cons.mpr ⟨(gg_r 1 rfl), (fun _ h => by cases h)⟩)⟩) (gg_r 0 rfl) rfl rfl (Nat.le_of_ble_eq_true rfl) (by first | (rw [hRc]; exact Nat.le_of_ble_eq_true rfl) | (rw [hRc]; dsimp only; omega)) (by first | (rw [hRs]; exact Nat.le_of_ble_eq_true rfl) | (rw [hRs]; dsimp only; omega)) ?_ (fun X q C1 h => h.elim)
            rintro _ _ ⟨rfl, rfl⟩
            dsimp only [List.cons_append, List.nil_append, Option.toList]
            refine gg_ifP_eq (tgt := 37) (pc := 32) E dX5_wayBetween_32 (by decide) (fun c32 => ?_) (fun c32 => ?_)
            · refine gg_iincN (k := 1) (lv' := [_, _, _, _]) (pc := 37) E i dX5_wayBetween_37 rfl rfl rfl (Nat.le_of_ble_eq_true rfl) rfl rfl ?_
              refine gg_goto (tgt := 2) (pc := 40) E dX5_wayBetween_40 (by decide) ?_
              refine gg_cv rfl (gg_leS (gg_leS (gg_leS (gg_leS gg_le0)))) rfl (by first | exact Nat.le_refl _ | (dsimp only; omega)) (by first | exact Nat.le_refl _ | (dsimp only; omega)) (ih2 (i + 1) (by omega) (by omega) (all_s hm (by simp only [gg_bz] at *; first | (intro z; simp_all; done) | (intro z; exact absurd z.1 (by assumption)))))
            · refine gg_iload_n (pc := 35) E dX5_wayBetween_35 rfl rfl ?_
              refine gg_iret (pc := 36) E Fn rfl (rfl) dX5_wayBetween_36 (by first | exact Nat.le_of_ble_eq_true rfl | (dsimp only; omega)) (by first | exact Nat.le_of_ble_eq_true rfl | (dsimp only; omega)) ?_
              exact ⟨by rw [fi_some (by omega) ⟨c14, c23, c32⟩ hm], rfl⟩
  refine gg_cv rfl (gg_leS (gg_leS (gg_leS (gg_leS gg_le0)))) rfl (by first | exact Nat.le_refl _ | (dsimp only; omega)) (by first | exact Nat.le_refl _ | (dsimp only; omega)) (L2 _ 0 (Nat.lt_succ_self _) (Nat.zero_le _) (fun j hj => absurd hj (Nat.not_lt_zero j)))

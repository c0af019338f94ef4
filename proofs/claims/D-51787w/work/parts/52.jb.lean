set_option maxRecDepth 100000
/-- the node at place k of a linked list of n: addresses nd, items im -/
abbrev llN (nd im : Nat → Nat) (n k : Nat) : Nat × gg_E := (nd k, .inl (16, [.ref (im k), va_rf (if k + 1 < n then some (nd (k + 1)) else none), va_rf (if 0 < k then some (nd (k - 1)) else none)]))
abbrev llS (nd im : Nat → Nat) (n : Nat) : gg_S := mp (llN nd im n) n
abbrev llF (nd : Nat → Nat) (n : Nat) : Value := va_rf (if 0 < n then some (nd 0) else none)
abbrev llL (nd : Nat → Nat) (n : Nat) : Value := va_rf (if 0 < n then some (nd (n - 1)) else none)
theorem ll_o {nd im nd' im' : Nat → Nat} {n k : Nat} (h : ∀ j, j < n → nd' j = nd j ∧ im' j = im j) (hk : k < n) : llN nd' im' n k = llN nd im n k := by
  unfold llN
  rw [(h k hk).1, (h k hk).2]
  have e1 : (if k + 1 < n then some (nd' (k + 1)) else none) = if k + 1 < n then some (nd (k + 1)) else none := by
    by_cases q : k + 1 < n
    · rw [if_pos q, if_pos q, (h _ q).1]
    · rw [if_neg q, if_neg q]
  have e2 : (if 0 < k then some (nd' (k - 1)) else none) = if 0 < k then some (nd (k - 1)) else none := by
    by_cases q : 0 < k
    · rw [if_pos q, if_pos q, (h (k - 1) (by omega)).1]
    · rw [if_neg q, if_neg q]
  rw [e1, e2]
/-- a node more: addresses and items -/
abbrev llU (f : Nat → Nat) (n v : Nat) : Nat → Nat := fun k => if k = n then v else f k
theorem llU_n {f : Nat → Nat} {n v : Nat} : llU f n v n = v := if_pos rfl
theorem llU_o {f : Nat → Nat} {n v k : Nat} (h : k ≠ n) : llU f n v k = f k := if_neg h
theorem ll_push0 {nd im : Nat → Nat} {a x : Nat} : llS (llU nd 0 a) (llU im 0 x) 1 = [(a, .inl (16, [.ref x, .null, .null]))] := rfl
/-- all but the last stay when one more comes -/
theorem ll_push {nd im : Nat → Nat} {n a x : Nat} : llS (llU nd (n + 1) a) (llU im (n + 1) x) (n + 2) = mp (llN nd im (n + 1)) n ++ [(nd n, .inl (16, [.ref (im n), .ref a, va_rf (if 0 < n then some (nd (n - 1)) else none)]))] ++ [(a, .inl (16, [.ref x, .null, .ref (nd n)]))] := by
  unfold llS
  rw [mp_s, mp_s]
  congr 1
  · congr 1
    · refine mp_eq fun j hj => ?_
      unfold llN
      have a1 : llU nd (n + 1) a j = nd j := llU_o (by omega)
      have a2 : llU im (n + 1) x j = im j := llU_o (by omega)
      have a3 : llU nd (n + 1) a (j + 1) = nd (j + 1) := llU_o (by omega)
      have a4 : llU nd (n + 1) a (j - 1) = nd (j - 1) := llU_o (by omega)
      rw [a1, a2, a3, a4, if_pos (show j + 1 < n + 2 by omega), if_pos (show j + 1 < n + 1 by omega)]
    · unfold llN
      rw [llU_o (by omega), llU_o (by omega), if_pos (by omega), llU_n]
      by_cases q : 0 < n
      · rw [if_pos q, if_pos q, llU_o (by omega)]
        rfl
      · rw [if_neg q, if_neg q]
        rfl
  · unfold llN
    rw [llU_n, llU_n, if_neg (by omega), if_pos (by omega), Nat.add_sub_cancel, llU_o (by omega)]
    rfl
theorem ll_last {nd im : Nat → Nat} {n : Nat} : llS nd im (n + 1) = mp (llN nd im (n + 1)) n ++ [(nd n, .inl (16, [.ref (im n), .null, va_rf (if 0 < n then some (nd (n - 1)) else none)]))] := by
  unfold llS
  rw [mp_s]
  congr 2
  unfold llN
  rw [if_neg (by omega)]
  rfl
theorem ll_f {nd : Nat → Nat} {n a : Nat} : llF (llU nd (n + 1) a) (n + 1 + 1) = llF nd (n + 1) := by
  unfold llF
  rw [if_pos (by omega), if_pos (by omega), llU_o (by omega)]
theorem ll_l {nd : Nat → Nat} {n a : Nat} : llL (llU nd n a) (n + 1) = .ref a := by
  unfold llL
  rw [if_pos (by omega), Nat.add_sub_cancel, llU_n]
  rfl
theorem ishr1 {a : Nat} (h : a < 2 ^ 31) : nI a >>> ((1 : Int32) &&& 31) = nI (a / 2) := by
  rw [show ((1 : Int32) &&& 31) = 1 from by decide]
  have h2 : (nI a >>> (1 : Int32)).toBitVec = BitVec.ofInt 32 ((nI a).toInt >>> 1) := by
    show (nI a).toBitVec.sshiftRight' ((1 : Int32).toBitVec.smod 32) = _
    rw [show (1 : Int32).toBitVec.smod 32 = 1#32 from by decide]
    show (nI a).toBitVec.sshiftRight (1#32).toNat = _
    rw [show (1#32).toNat = 1 from rfl, BitVec.sshiftRight_eq]
    rfl
  rw [nI_toInt h] at h2
  apply Int32.toInt_inj.mp
  rw [nI_toInt (by omega)]
  show (nI a >>> (1 : Int32)).toBitVec.toInt = _
  rw [h2, BitVec.toInt_ofInt, Int.shiftRight_eq_div_pow, show ((a : Int) / ((2 ^ 1 : Nat) : Int)) = ((a / 2 : Nat) : Int) from by simp]
  exact Int.bmod_eq_of_le (by omega) (by omega)
theorem fits_rf (n : String) (r : Option Nat) : fits (.object n) (va_rf r) = true := by cases r <;> rfl
theorem fits_rfa (n : FieldType) (r : Option Nat) : fits (.array n) (va_rf r) = true := by cases r <;> rfl
set_option maxHeartbeats 4000000 in
theorem ct_J18_init {l : Launch} (hl : l.stackTraces = false) {g : gg_G}  {h : Nat} {mc1 : Int32} {v1 v2 v3 : Value}  : gg_C l g yJ18_init (ws_ yJ18_init cJ18_init 1 none) { frames := 3, cells := 0, slots := 0, locals := 56 } [.ref h] [] [[(h, .inl (15, [.int mc1, v1, v2, v3]))]] (fun vv CC => vv = none ∧ CC = [[(h, .inl (15, [.int 0, v1, v2, v3]))]]) gg_no := by
  refine gg_of (lv := [_]) (by decide) hl (Nat.le_of_ble_eq_true rfl) rfl ?_
  intro p e R s m args below meth c A Q hRf hRl hRc hRs E Fn hnm hex
  refine gg_aload_n (pc := 0) E dJ18_init_0 rfl rfl ?_
  refine gg_callI (F := []) (As := []) (rest := []) (pc := 1) E (ct_J1_initL hl ) (cwI 0 E.2.2.2.2.1 (lw_meth q229) rfl rfl rfl (E.2.2.2.2.1 _ q154) (E.2.2.2.2.1 _ q585) (E.2.2.2.2.1 _ q228) rfl (by decide +kernel) ⟨by rw [hRf]; exact Nat.le_of_ble_eq_true rfl, by rw [hRl]; exact Nat.le_of_ble_eq_true rfl⟩) dJ18_init_1 [0] (by decide) rfl rfl (fun _ h => by cases h) rfl rfl (Nat.le_of_ble_eq_true rfl) (by first | (rw [hRc]; exact Nat.le_of_ble_eq_true rfl) | (rw [hRc]; dsimp only; omega)) (by first | (rw [hRs]; exact Nat.le_of_ble_eq_true rfl) | (rw [hRs]; dsimp only; omega)) ?_ (fun X q C1 h => h.elim)
  rintro _ _ ⟨rfl, rfl⟩
  dsimp only [List.cons_append, List.nil_append, Option.toList]
  refine gg_vret (pc := 4) E Fn rfl dJ18_init_4 (by first | exact Nat.le_of_ble_eq_true rfl | (dsimp only; omega)) (by first | exact Nat.le_of_ble_eq_true rfl | (dsimp only; omega)) ?_
  exact ⟨rfl, rfl⟩
set_option maxHeartbeats 4000000 in
theorem ct_J19_init {l : Launch} (hl : l.stackTraces = false) {g : gg_G}  {h : Nat}  : gg_C l g yJ19_init (ws_ yJ19_init cJ19_init 1 none) { frames := 4, cells := 0, slots := 0, locals := 76 } [.ref h] [] [[(h, .inl (15, [.int 0, .int 0, .null, .null]))]] (fun vv CC => vv = none ∧ CC = [[(h, .inl (15, [.int 0, .int 0, .null, .null]))]]) gg_no := by
  refine gg_of (lv := [_]) (by decide) hl (Nat.le_of_ble_eq_true rfl) rfl ?_
  intro p e R s m args below meth c A Q hRf hRl hRc hRs E Fn hnm hex
  refine gg_aload_n (pc := 0) E dJ19_init_0 rfl rfl ?_
  refine gg_callI (F := []) (As := []) (rest := []) (pc := 1) E (ct_J18_init hl ) (cwI 0 E.2.2.2.2.1 (lw_meth q584) rfl rfl rfl (E.2.2.2.2.1 _ q172) (E.2.2.2.2.1 _ q582) (E.2.2.2.2.1 _ q583) rfl (by decide +kernel) ⟨by rw [hRf]; exact Nat.le_of_ble_eq_true rfl, by rw [hRl]; exact Nat.le_of_ble_eq_true rfl⟩) dJ19_init_1 [0] (by decide) rfl rfl (fun _ h => by cases h) rfl rfl (Nat.le_of_ble_eq_true rfl) (by first | (rw [hRc]; exact Nat.le_of_ble_eq_true rfl) | (rw [hRc]; dsimp only; omega)) (by first | (rw [hRs]; exact Nat.le_of_ble_eq_true rfl) | (rw [hRs]; dsimp only; omega)) ?_ (fun X q C1 h => h.elim)
  rintro _ _ ⟨rfl, rfl⟩
  dsimp only [List.cons_append, List.nil_append, Option.toList]
  refine gg_aload_n (pc := 4) E dJ19_init_4 rfl rfl ?_
  refine gg_iconst (v := 0) (pc := 5) E dJ19_init_5 (by decide) ?_
  refine gg_put (fs' := [_, _, _, _]) (M' := [_]) (pc := 6) E ck_J19 1 q586 rfl (by decide) dJ19_init_6 0 rfl rfl (rfl) rfl (Nat.le_of_ble_eq_true rfl) rfl rfl ?_
  refine gg_vret (pc := 9) E Fn rfl dJ19_init_9 (by first | exact Nat.le_of_ble_eq_true rfl | (dsimp only; omega)) (by first | exact Nat.le_of_ble_eq_true rfl | (dsimp only; omega)) ?_
  exact ⟨rfl, rfl⟩
set_option maxHeartbeats 4000000 in
theorem ct_J19_size {l : Launch} (hl : l.stackTraces = false) {g : gg_G}  {h n1 : Nat} {mc1 : Int32} {nd : Nat → Nat}  : gg_C l g yJ19_size (ws_ yJ19_size cJ19_size 1 (some .int)) { frames := 0, cells := 0, slots := 0, locals := 0 } [.ref h] [(h, .inl (15, [.int mc1, .int (nI n1), llF nd n1, llL nd n1]))] [] (fun vv CC => vv = some (.int (nI n1)) ∧ CC = []) gg_no := by
  refine gg_of (lv := [_]) (by decide) hl (Nat.le_of_ble_eq_true rfl) rfl ?_
  intro p e R s m args below meth c A Q hRf hRl hRc hRs E Fn hnm hex
  refine gg_aload_n (pc := 0) E dJ19_size_0 rfl rfl ?_
  refine gg_get (pc := 1) E ck_J19 1 q586 rfl (by decide) dJ19_size_1 (gg_r 0 rfl) rfl ?_
  refine gg_iret (pc := 4) E Fn rfl (rfl) dJ19_size_4 (by first | exact Nat.le_of_ble_eq_true rfl | (dsimp only; omega)) (by first | exact Nat.le_of_ble_eq_true rfl | (dsimp only; omega)) ?_
  exact ⟨rfl, rfl⟩
set_option maxHeartbeats 4000000 in
theorem ct_J20_init {l : Launch} (hl : l.stackTraces = false) {g : gg_G}  {a1 xo : Nat} {r1 r2 : Option Nat}  : gg_C l g yJ20_init (ws_ yJ20_init cJ20_init 4 none) { frames := 1, cells := 0, slots := 0, locals := 16 } [.ref a1, va_rf r1, .ref xo, va_rf r2] [] [[(a1, .inl (16, [.null, .null, .null]))]] (fun vv CC => vv = none ∧ CC = [[(a1, .inl (16, [.ref xo, va_rf r2, va_rf r1]))]]) gg_no := by
  refine gg_of (lv := [some (.ref a1), some (va_rf r1), some (.ref xo), some (va_rf r2)]) (by decide) hl (by cases r1 <;> cases r2 <;> exact Nat.le_of_ble_eq_true rfl) (by cases r1 <;> cases r2 <;> rfl) ?_
  intro p e R s m args below meth c A Q hRf hRl hRc hRs E Fn hnm hex
  refine gg_aload_n (pc := 0) E dJ20_init_0 rfl rfl ?_
  refine gg_objInit (pc := 1) E q765 dJ20_init_1 (by rw [hRf]; exact Nat.le_of_ble_eq_true rfl) (by rw [hRl]; exact Nat.le_of_ble_eq_true rfl) ?_
  refine gg_aload_n (pc := 4) E dJ20_init_4 rfl rfl ?_
  refine gg_aload_n (pc := 5) E dJ20_init_5 rfl rfl ?_
  refine gg_put (fs' := [_, _, _]) (M' := [_]) (pc := 6) E ck_J20 0 q766 rfl (by decide) dJ20_init_6 0 rfl rfl (rfl) rfl (Nat.le_of_ble_eq_true rfl) rfl rfl ?_
  refine gg_aload_n (pc := 9) E dJ20_init_9 rfl rfl ?_
  refine gg_aloadV_n (pc := 10) E dJ20_init_10 rfl rfl ?_
  refine gg_put (fs' := [_, _, _]) (M' := [_]) (pc := 11) E ck_J20 1 q769 rfl (by decide) dJ20_init_11 0 rfl rfl (rfl) (fits_rf _ _) (Nat.le_of_ble_eq_true rfl) rfl rfl ?_
  refine gg_aload_n (pc := 14) E dJ20_init_14 rfl rfl ?_
  refine gg_aloadV_n (pc := 15) E dJ20_init_15 rfl rfl ?_
  refine gg_put (fs' := [_, _, _]) (M' := [_]) (pc := 16) E ck_J20 2 q772 rfl (by decide) dJ20_init_16 0 rfl rfl (rfl) (fits_rf _ _) (Nat.le_of_ble_eq_true rfl) rfl rfl ?_
  refine gg_vret (pc := 19) E Fn rfl dJ20_init_19 (by first | exact Nat.le_of_ble_eq_true rfl | (dsimp only; omega)) (by first | exact Nat.le_of_ble_eq_true rfl | (dsimp only; omega)) ?_
  exact ⟨rfl, rfl⟩
set_option maxHeartbeats 4000000 in
theorem ct_J19_linkLast {l : Launch} (hl : l.stackTraces = false) {g : gg_G}  {h n1 : Nat} {mc1 : Int32} {nd im : Nat → Nat} {xo : Nat} (hn : n1 ≤ 1000) : gg_C l g yJ19_linkLast (ws_ yJ19_linkLast cJ19_linkLast 4 none) { frames := 2, cells := 1, slots := 3, locals := 39 } [.ref h, .ref xo] [] [[(h, .inl (15, [.int mc1, .int (nI n1), llF nd n1, llL nd n1]))], (llS nd im n1)] (fun vv CC => ∃ (a1 : Nat), vv = none ∧ CC = [[(h, .inl (15, [.int (mc1 + 1), .int (nI (n1 + 1)), llF (llU nd n1 a1) (n1 + 1), llL (llU nd n1 a1) (n1 + 1)]))], (llS (llU nd n1 a1) (llU im n1 xo) (n1 + 1))]) gg_no := by
  refine gg_of (lv := [_, _, _, _]) (by decide) hl (Nat.le_of_ble_eq_true rfl) rfl ?_
  intro p e R s m args below meth c A Q hRf hRl hRc hRs E Fn hnm hex
  rcases n1 with _ | n0
  · refine gg_aload_n (pc := 0) E dJ19_linkLast_0 rfl rfl ?_
    refine gg_get (pc := 1) E ck_J19 3 q589 rfl (by decide) dJ19_linkLast_1 (gg_i 0 rfl) rfl ?_
    refine gg_topV (show llL nd 0 = .null from rfl) ?_
    refine gg_astore_nN (lv' := [_, _, _, _]) (pc := 4) E dJ19_linkLast_4 rfl (Nat.le_of_ble_eq_true rfl) rfl rfl ?_
    refine gg_new (fs := [.null, .null, .null]) (pc := 5) E ck_J20 q760 q761 q175 dJ19_linkLast_5 (gg_fsJ20) (by first | (rw [hRc]; exact Nat.le_of_ble_eq_true rfl) | (rw [hRc]; dsimp only; omega)) (by first | (rw [hRs]; exact Nat.le_of_ble_eq_true rfl) | (rw [hRs]; dsimp only; omega)) (fun _ => rfl) (fun a1 => ?_)
    dsimp only [List.cons_append, List.nil_append]
    refine gg_dup (pc := 8) E dJ19_linkLast_8 rfl ?_
    refine gg_aload_nN (pc := 9) E dJ19_linkLast_9 rfl rfl ?_
    refine gg_aload_n (pc := 10) E dJ19_linkLast_10 rfl rfl ?_
    refine gg_null (pc := 11) E dJ19_linkLast_11 ?_
    refine gg_callI (F := [_, _]) (As := [_, _, _]) (rest := [_]) (pc := 12) E (ct_J20_init (r1 := none) (r2 := none) hl) (cwI 3 E.2.2.2.2.1 (lw_meth q764) rfl rfl rfl (E.2.2.2.2.1 _ q175) (E.2.2.2.2.1 _ q762) (E.2.2.2.2.1 _ q763) rfl (by decide +kernel) ⟨by rw [hRf]; exact Nat.le_of_ble_eq_true rfl, by rw [hRl]; exact Nat.le_of_ble_eq_true rfl⟩) dJ19_linkLast_12 [2] (by decide) rfl rfl (fun _ h => by cases h) rfl rfl (Nat.le_of_ble_eq_true rfl) (by first | (rw [hRc]; exact Nat.le_of_ble_eq_true rfl) | (rw [hRc]; dsimp only; omega)) (by first | (rw [hRs]; exact Nat.le_of_ble_eq_true rfl) | (rw [hRs]; dsimp only; omega)) ?_ (fun X q C1 h => h.elim)
    rintro _ _ ⟨rfl, rfl⟩
    dsimp only [List.cons_append, List.nil_append, Option.toList]
    refine gg_up2 ?_
    refine gg_astore_n (lv' := [_, _, _, _]) (pc := 15) E dJ19_linkLast_15 rfl (Nat.le_of_ble_eq_true rfl) rfl rfl ?_
    refine gg_aload_n (pc := 16) E dJ19_linkLast_16 rfl rfl ?_
    refine gg_aload_n (pc := 17) E dJ19_linkLast_17 rfl rfl ?_
    refine gg_put (fs' := [_, _, _, _]) (M' := [_, _, _]) (pc := 18) E ck_J19 3 q589 rfl (by decide) dJ19_linkLast_18 0 rfl rfl (rfl) rfl (Nat.le_of_ble_eq_true rfl) rfl rfl ?_
    refine gg_aload_nN (pc := 21) E dJ19_linkLast_21 rfl rfl ?_
    refine gg_ifnonnullN (pc := 22) E dJ19_linkLast_22 ?_
    refine gg_aload_n (pc := 25) E dJ19_linkLast_25 rfl rfl ?_
    refine gg_aload_n (pc := 26) E dJ19_linkLast_26 rfl rfl ?_
    refine gg_put (fs' := [_, _, _, _]) (M' := [_, _, _]) (pc := 27) E ck_J19 2 q588 rfl (by decide) dJ19_linkLast_27 0 rfl rfl (rfl) rfl (Nat.le_of_ble_eq_true rfl) rfl rfl ?_
    refine gg_goto (tgt := 38) (pc := 30) E dJ19_linkLast_30 (by decide) ?_
    refine gg_aload_n (pc := 38) E dJ19_linkLast_38 rfl rfl ?_
    refine gg_dup (pc := 39) E dJ19_linkLast_39 rfl ?_
    refine gg_get (pc := 40) E ck_J19 1 q586 rfl (by decide) dJ19_linkLast_40 (gg_i 0 rfl) rfl ?_
    refine gg_iconst (v := 1) (pc := 43) E dJ19_linkLast_43 (by decide) ?_
    refine gg_iaddN (pc := 44) E 0 1 rfl rfl dJ19_linkLast_44 ?_
    refine gg_put (fs' := [_, _, _, _]) (M' := [_, _, _]) (pc := 45) E ck_J19 1 q586 rfl (by decide) dJ19_linkLast_45 0 rfl rfl (rfl) rfl (Nat.le_of_ble_eq_true rfl) rfl rfl ?_
    refine gg_aload_n (pc := 48) E dJ19_linkLast_48 rfl rfl ?_
    refine gg_dup (pc := 49) E dJ19_linkLast_49 rfl ?_
    refine gg_getU (pc := 50) E ck_J19 0 q568 q564 rfl (by decide) dJ19_linkLast_50 (gg_i 0 rfl) rfl ?_
    refine gg_iconst (v := 1) (pc := 53) E dJ19_linkLast_53 (by decide) ?_
    refine gg_iadd (pc := 54) E dJ19_linkLast_54 ?_
    refine gg_putU (fs' := [_, _, _, _]) (M' := [_, _, _]) (pc := 55) E ck_J19 0 q568 q564 rfl (by decide) dJ19_linkLast_55 0 rfl rfl (rfl) rfl (Nat.le_of_ble_eq_true rfl) rfl rfl ?_
    refine gg_psh (M' := [_, _]) 1 rfl rfl rfl ?_
    refine gg_vret (pc := 58) E Fn rfl dJ19_linkLast_58 (by first | exact Nat.le_of_ble_eq_true rfl | (dsimp only; omega)) (by first | exact Nat.le_of_ble_eq_true rfl | (dsimp only; omega)) ?_
    exact ⟨_, rfl, rfl⟩
  · refine gg_seg (M' := [_, _]) 1 rfl ll_last rfl ?_
    refine gg_spl (M' := [_, _, _]) 1 rfl rfl ?_
    refine gg_aload_n (pc := 0) E dJ19_linkLast_0 rfl rfl ?_
    refine gg_get (pc := 1) E ck_J19 3 q589 rfl (by decide) dJ19_linkLast_1 (gg_i 0 rfl) rfl ?_
    refine gg_topV (show llL nd (n0 + 1) = .ref (nd n0) from by unfold llL; rw [if_pos (by omega)]; rfl) ?_
    refine gg_astore_n (lv' := [_, _, _, _]) (pc := 4) E dJ19_linkLast_4 rfl (Nat.le_of_ble_eq_true rfl) rfl rfl ?_
    refine gg_new (fs := [.null, .null, .null]) (pc := 5) E ck_J20 q760 q761 q175 dJ19_linkLast_5 (gg_fsJ20) (by first | (rw [hRc]; exact Nat.le_of_ble_eq_true rfl) | (rw [hRc]; dsimp only; omega)) (by first | (rw [hRs]; exact Nat.le_of_ble_eq_true rfl) | (rw [hRs]; dsimp only; omega)) (fun _ => rfl) (fun a2 => ?_)
    dsimp only [List.cons_append, List.nil_append]
    refine gg_dup (pc := 8) E dJ19_linkLast_8 rfl ?_
    refine gg_aload_n (pc := 9) E dJ19_linkLast_9 rfl rfl ?_
    refine gg_aload_n (pc := 10) E dJ19_linkLast_10 rfl rfl ?_
    refine gg_null (pc := 11) E dJ19_linkLast_11 ?_
    refine gg_callI (F := [_, _, _]) (As := [_, _, _]) (rest := [_]) (pc := 12) E (ct_J20_init (r1 := some (nd n0)) (r2 := none) hl) (cwI 3 E.2.2.2.2.1 (lw_meth q764) rfl rfl rfl (E.2.2.2.2.1 _ q175) (E.2.2.2.2.1 _ q762) (E.2.2.2.2.1 _ q763) rfl (by decide +kernel) ⟨by rw [hRf]; exact Nat.le_of_ble_eq_true rfl, by rw [hRl]; exact Nat.le_of_ble_eq_true rfl⟩) dJ19_linkLast_12 [3] (by decide) rfl rfl (fun _ h => by cases h) rfl rfl (Nat.le_of_ble_eq_true rfl) (by first | (rw [hRc]; exact Nat.le_of_ble_eq_true rfl) | (rw [hRc]; dsimp only; omega)) (by first | (rw [hRs]; exact Nat.le_of_ble_eq_true rfl) | (rw [hRs]; dsimp only; omega)) ?_ (fun X q C1 h => h.elim)
    rintro _ _ ⟨rfl, rfl⟩
    dsimp only [List.cons_append, List.nil_append, Option.toList]
    refine gg_up3 ?_
    refine gg_astore_n (lv' := [_, _, _, _]) (pc := 15) E dJ19_linkLast_15 rfl (Nat.le_of_ble_eq_true rfl) rfl rfl ?_
    refine gg_aload_n (pc := 16) E dJ19_linkLast_16 rfl rfl ?_
    refine gg_aload_n (pc := 17) E dJ19_linkLast_17 rfl rfl ?_
    refine gg_put (fs' := [_, _, _, _]) (M' := [_, _, _, _]) (pc := 18) E ck_J19 3 q589 rfl (by decide) dJ19_linkLast_18 0 rfl rfl (rfl) rfl (Nat.le_of_ble_eq_true rfl) rfl rfl ?_
    refine gg_aload_n (pc := 21) E dJ19_linkLast_21 rfl rfl ?_
    refine gg_ifnonnull (tgt := 33) (pc := 22) E dJ19_linkLast_22 (by decide) ?_
    refine gg_aload_n (pc := 33) E dJ19_linkLast_33 rfl rfl ?_
    refine gg_aload_n (pc := 34) E dJ19_linkLast_34 rfl rfl ?_
    refine gg_put (fs' := [_, _, _]) (M' := [_, _, _, _]) (pc := 35) E ck_J20 1 q771 rfl (by decide) dJ19_linkLast_35 2 rfl rfl (rfl) rfl (Nat.le_of_ble_eq_true rfl) rfl rfl ?_
    refine gg_aload_n (pc := 38) E dJ19_linkLast_38 rfl rfl ?_
    refine gg_dup (pc := 39) E dJ19_linkLast_39 rfl ?_
    refine gg_get (pc := 40) E ck_J19 1 q586 rfl (by decide) dJ19_linkLast_40 (gg_i 0 rfl) rfl ?_
    refine gg_iconst (v := 1) (pc := 43) E dJ19_linkLast_43 (by decide) ?_
    refine gg_iaddN (pc := 44) E (n0 + 1) 1 rfl rfl dJ19_linkLast_44 ?_
    refine gg_put (fs' := [_, _, _, _]) (M' := [_, _, _, _]) (pc := 45) E ck_J19 1 q586 rfl (by decide) dJ19_linkLast_45 0 rfl rfl (rfl) rfl (Nat.le_of_ble_eq_true rfl) rfl rfl ?_
    refine gg_aload_n (pc := 48) E dJ19_linkLast_48 rfl rfl ?_
    refine gg_dup (pc := 49) E dJ19_linkLast_49 rfl ?_
    refine gg_getU (pc := 50) E ck_J19 0 q568 q564 rfl (by decide) dJ19_linkLast_50 (gg_i 0 rfl) rfl ?_
    refine gg_iconst (v := 1) (pc := 53) E dJ19_linkLast_53 (by decide) ?_
    refine gg_iadd (pc := 54) E dJ19_linkLast_54 ?_
    refine gg_putU (fs' := [_, _, _, _]) (M' := [_, _, _, _]) (pc := 55) E ck_J19 0 q568 q564 rfl (by decide) dJ19_linkLast_55 0 rfl rfl (rfl) rfl (Nat.le_of_ble_eq_true rfl) rfl rfl ?_
    refine gg_psh (M' := [_, _, _]) 2 rfl rfl rfl ?_
    refine gg_psh (M' := [_, _]) 1 rfl rfl rfl ?_
    refine gg_vret (pc := 58) E Fn rfl dJ19_linkLast_58 (by first | exact Nat.le_of_ble_eq_true rfl | (dsimp only; omega)) (by first | exact Nat.le_of_ble_eq_true rfl | (dsimp only; omega)) ?_
    refine ⟨a2, rfl, ?_⟩
    rw [ll_f, ll_l, ll_push, List.append_assoc]
    rfl
set_option maxHeartbeats 4000000 in
theorem ct_J19_addLast {l : Launch} (hl : l.stackTraces = false) {g : gg_G}  {h n1 : Nat} {mc1 : Int32} {nd im : Nat → Nat} {xo : Nat} (hn : n1 ≤ 1000) : gg_C l g yJ19_addLast (ws_ yJ19_addLast cJ19_addLast 2 none) { frames := 3, cells := 1, slots := 3, locals := 62 } [.ref h, .ref xo] [] [[(h, .inl (15, [.int mc1, .int (nI n1), llF nd n1, llL nd n1]))], (llS nd im n1)] (fun vv CC => ∃ (a1 : Nat), vv = none ∧ CC = [[(h, .inl (15, [.int (mc1 + 1), .int (nI (n1 + 1)), llF (llU nd n1 a1) (n1 + 1), llL (llU nd n1 a1) (n1 + 1)]))], (llS (llU nd n1 a1) (llU im n1 xo) (n1 + 1))]) gg_no := by
  refine gg_of (lv := [_, _]) (by decide) hl (Nat.le_of_ble_eq_true rfl) rfl ?_
  intro p e R s m args below meth c A Q hRf hRl hRc hRs E Fn hnm hex
  refine gg_aload_n (pc := 0) E dJ19_addLast_0 rfl rfl ?_
  refine gg_aload_n (pc := 1) E dJ19_addLast_1 rfl rfl ?_
  refine gg_callV (F := []) (As := [_]) (rest := []) (pc := 2) E ck_J19 (ct_J19_linkLast hl (by first | assumption | omega)) (cwV 1 E.2.2.2.2.1 (lw_V q756 q757 q758 q173 q759) rfl rfl rfl (by decide +kernel) ⟨by rw [hRf]; exact Nat.le_of_ble_eq_true rfl, by rw [hRl]; exact Nat.le_of_ble_eq_true rfl⟩) dJ19_addLast_2 [0, 1] (by decide) rfl rfl (fun _ h => by cases h) (gg_i 0 rfl) rfl rfl (Nat.le_of_ble_eq_true rfl) (by first | (rw [hRc]; exact Nat.le_of_ble_eq_true rfl) | (rw [hRc]; dsimp only; omega)) (by first | (rw [hRs]; exact Nat.le_of_ble_eq_true rfl) | (rw [hRs]; dsimp only; omega)) ?_ (fun X q C1 h => h.elim)
  rintro _ _ ⟨a1, rfl, rfl⟩
  dsimp only [List.cons_append, List.nil_append, Option.toList]
  refine gg_up1 ?_
  refine gg_up1 ?_
  refine gg_vret (pc := 5) E Fn rfl dJ19_addLast_5 (by first | exact Nat.le_of_ble_eq_true rfl | (dsimp only; omega)) (by first | exact Nat.le_of_ble_eq_true rfl | (dsimp only; omega)) ?_
  exact ⟨a1, rfl, rfl⟩
set_option maxHeartbeats 4000000 in
theorem ct_J19_node {l : Launch} (hl : l.stackTraces = false) {g : gg_G}  {h n1 : Nat} {mc1 : Int32} {nd im : Nat → Nat} {k1 : Nat} (hk : k1 < n1) (hn : n1 ≤ 1000) : gg_C l g yJ19_node (ws_ yJ19_node cJ19_node 4 (some (.object "java/util/LinkedList$Node"))) { frames := 0, cells := 0, slots := 0, locals := 0 } [.ref h, .int (nI k1)] ([(h, .inl (15, [.int mc1, .int (nI n1), llF nd n1, llL nd n1]))] ++ (llS nd im n1)) [] (fun vv CC => vv = some (.ref (nd k1)) ∧ CC = []) gg_no := by
  refine gg_of (lv := [_, _, _, _]) (by decide) hl (Nat.le_of_ble_eq_true rfl) rfl ?_
  intro p e R s m args below meth c A Q hRf hRl hRc hRs E Fn hnm hex
  refine gg_iload_n (pc := 0) E dJ19_node_0 rfl rfl ?_
  refine gg_aload_n (pc := 1) E dJ19_node_1 rfl rfl ?_
  refine gg_get (pc := 2) E ck_J19 1 q586 rfl (by decide) dJ19_node_2 (gg_r 0 rfl) rfl ?_
  refine gg_iconst (v := 1) (pc := 5) E dJ19_node_5 (by decide) ?_
  refine gg_ishr (pc := 6) E dJ19_node_6 ?_
  refine gg_topI (y := nI (n1 / 2)) (ishr1 (by omega)) ?_
  refine gg_icmpN_ge (tgt := 35) (pc := 7) E k1 (n1 / 2) rfl rfl (by omega) (by omega) dJ19_node_7 (by decide) (fun c7 => ?_) (fun c7 => ?_)
  · refine gg_aload_n (pc := 35) E dJ19_node_35 rfl rfl ?_
    refine gg_get (pc := 36) E ck_J19 3 q589 rfl (by decide) dJ19_node_36 (gg_r 0 rfl) rfl ?_
    refine gg_topV (show llL nd n1 = .ref (nd (n1 - 1)) from by unfold llL; rw [if_pos (by omega)]; rfl) ?_
    refine gg_astore_n (lv' := [_, _, _, _]) (pc := 39) E dJ19_node_39 rfl (Nat.le_of_ble_eq_true rfl) rfl rfl ?_
    refine gg_aload_n (pc := 40) E dJ19_node_40 rfl rfl ?_
    refine gg_get (pc := 41) E ck_J19 1 q586 rfl (by decide) dJ19_node_41 (gg_r 0 rfl) rfl ?_
    refine gg_iconst (v := 1) (pc := 44) E dJ19_node_44 (by decide) ?_
    refine gg_isubN (pc := 45) E n1 1 rfl rfl (by omega) dJ19_node_45 ?_
    refine gg_istore_n (lv' := [_, _, _, _]) (pc := 46) E dJ19_node_46 rfl (Nat.le_of_ble_eq_true rfl) rfl rfl ?_
    have L47 : ∀ (n : Nat) (i : Nat), i - k1 < n → (k1 ≤ i) → (i < n1) → gg_W p l e R s m args below meth c g A 4 Q 0 0 [] [some (.ref h), some (.int (nI k1)), some (.ref (nd i)), some (.int (nI i))] [] 47 := by
      intro n47
      induction n47 with
      | zero => intro i hmz; exact absurd hmz (Nat.not_lt_zero _)
      | succ n47 ih47 =>
        intro i hm47 hi hi2
        refine gg_iload_n (pc := 47) E dJ19_node_47 rfl rfl ?_
        refine gg_iload_n (pc := 48) E dJ19_node_48 rfl rfl ?_
        refine gg_icmpN_le (tgt := 63) (pc := 49) E i k1 rfl rfl (by omega) (by omega) dJ19_node_49 (by decide) (fun c49 => ?_) (fun c49 => ?_)
        · refine gg_aload_n (pc := 63) E dJ19_node_63 rfl rfl ?_
          refine gg_aret (pc := 64) E Fn rfl (Or.inl ⟨_, rfl⟩) (Or.inr ⟨_, rfl⟩) dJ19_node_64 (by first | exact Nat.le_of_ble_eq_true rfl | (dsimp only; omega)) (by first | exact Nat.le_of_ble_eq_true rfl | (dsimp only; omega)) ?_
          obtain rfl : i = k1 := by omega
          exact ⟨rfl, rfl⟩
        · 
          refine gg_aload_n (pc := 52) E dJ19_node_52 rfl rfl ?_
          refine gg_get (pc := 53) E ck_J20 2 q773 rfl (by decide) dJ19_node_53 (gg_rm (List.mem_append_right _ (mp_mem (by omega)))) rfl ?_
          refine gg_topV (show va_rf (if 0 < i then some (nd (i - 1)) else none) = .ref (nd (i - 1)) from by rw [if_pos (by omega)]; rfl) ?_
          refine gg_astore_n (lv' := [_, _, _, _]) (pc := 56) E dJ19_node_56 rfl (Nat.le_of_ble_eq_true rfl) rfl rfl ?_
          refine gg_decN (lv' := [_, _, _, _]) (pc := 57) E i dJ19_node_57 rfl rfl (by omega) (Nat.le_of_ble_eq_true rfl) rfl rfl ?_
          refine gg_goto (tgt := 47) (pc := 60) E dJ19_node_60 (by decide) ?_
          refine gg_cv rfl (gg_leS (gg_leS (gg_leS (gg_leS gg_le0)))) rfl (by first | exact Nat.le_refl _ | (dsimp only; omega)) (by first | exact Nat.le_refl _ | (dsimp only; omega)) (ih47 (i - 1) (by omega) (by omega) (by omega))
    refine gg_cv rfl (gg_leS (gg_leS (gg_leS (gg_leS gg_le0)))) rfl (by first | exact Nat.le_refl _ | (dsimp only; omega)) (by first | exact Nat.le_refl _ | (dsimp only; omega)) (L47 _ (n1 - 1) (Nat.lt_succ_self _) (by omega) (by omega))
  · refine gg_aload_n (pc := 10) E dJ19_node_10 rfl rfl ?_
    refine gg_get (pc := 11) E ck_J19 2 q588 rfl (by decide) dJ19_node_11 (gg_r 0 rfl) rfl ?_
    refine gg_topV (show llF nd n1 = .ref (nd 0) from by unfold llF; rw [if_pos (by omega)]; rfl) ?_
    refine gg_astore_n (lv' := [_, _, _, _]) (pc := 14) E dJ19_node_14 rfl (Nat.le_of_ble_eq_true rfl) rfl rfl ?_
    refine gg_iconst (v := 0) (pc := 15) E dJ19_node_15 (by decide) ?_
    refine gg_istore_n (lv' := [_, _, _, _]) (pc := 16) E dJ19_node_16 rfl (Nat.le_of_ble_eq_true rfl) rfl rfl ?_
    have L17 : ∀ (n : Nat) (i : Nat), k1 - i < n → (i ≤ k1) → gg_W p l e R s m args below meth c g A 4 Q 0 0 [] [some (.ref h), some (.int (nI k1)), some (.ref (nd i)), some (.int (nI i))] [] 17 := by
      intro n17
      induction n17 with
      | zero => intro i hmz; exact absurd hmz (Nat.not_lt_zero _)
      | succ n17 ih17 =>
        intro i hm17 hi
        refine gg_iload_n (pc := 17) E dJ19_node_17 rfl rfl ?_
        refine gg_iload_n (pc := 18) E dJ19_node_18 rfl rfl ?_
        refine gg_icmpN_ge (tgt := 33) (pc := 19) E i k1 rfl rfl (by omega) (by omega) dJ19_node_19 (by decide) (fun c19 => ?_) (fun c19 => ?_)
        · refine gg_aload_n (pc := 33) E dJ19_node_33 rfl rfl ?_
          refine gg_aret (pc := 34) E Fn rfl (Or.inl ⟨_, rfl⟩) (Or.inr ⟨_, rfl⟩) dJ19_node_34 (by first | exact Nat.le_of_ble_eq_true rfl | (dsimp only; omega)) (by first | exact Nat.le_of_ble_eq_true rfl | (dsimp only; omega)) ?_
          obtain rfl : i = k1 := by omega
          exact ⟨rfl, rfl⟩
        · 
          refine gg_aload_n (pc := 22) E dJ19_node_22 rfl rfl ?_
          refine gg_get (pc := 23) E ck_J20 1 q771 rfl (by decide) dJ19_node_23 (gg_rm (List.mem_append_right _ (mp_mem (by omega)))) rfl ?_
          refine gg_topV (show va_rf (if i + 1 < n1 then some (nd (i + 1)) else none) = .ref (nd (i + 1)) from by rw [if_pos (by omega)]; rfl) ?_
          refine gg_astore_n (lv' := [_, _, _, _]) (pc := 26) E dJ19_node_26 rfl (Nat.le_of_ble_eq_true rfl) rfl rfl ?_
          refine gg_iincN (k := 1) (lv' := [_, _, _, _]) (pc := 27) E i dJ19_node_27 rfl rfl rfl (Nat.le_of_ble_eq_true rfl) rfl rfl ?_
          refine gg_goto (tgt := 17) (pc := 30) E dJ19_node_30 (by decide) ?_
          refine gg_cv rfl (gg_leS (gg_leS (gg_leS (gg_leS gg_le0)))) rfl (by first | exact Nat.le_refl _ | (dsimp only; omega)) (by first | exact Nat.le_refl _ | (dsimp only; omega)) (ih17 (i + 1) (by omega) (by omega))
    refine gg_cv rfl (gg_leS (gg_leS (gg_leS (gg_leS gg_le0)))) rfl (by first | exact Nat.le_refl _ | (dsimp only; omega)) (by first | exact Nat.le_refl _ | (dsimp only; omega)) (L17 _ 0 (Nat.lt_succ_self _) (Nat.zero_le _))
set_option maxHeartbeats 4000000 in
theorem ct_J19_isElementIndex {l : Launch} (hl : l.stackTraces = false) {g : gg_G}  {h n1 : Nat} {mc1 : Int32} {nd : Nat → Nat} {k1 : Nat} (hk : k1 < n1) (hn : n1 ≤ 1000) : gg_C l g yJ19_isElementIndex (ws_ yJ19_isElementIndex cJ19_isElementIndex 2 (some .boolean)) { frames := 0, cells := 0, slots := 0, locals := 0 } [.ref h, .int (nI k1)] [(h, .inl (15, [.int mc1, .int (nI n1), llF nd n1, llL nd n1]))] [] (fun vv CC => vv = some (.int 1) ∧ CC = []) gg_no := by
  refine gg_of (lv := [_, _]) (by decide) hl (Nat.le_of_ble_eq_true rfl) rfl ?_
  intro p e R s m args below meth c A Q hRf hRl hRc hRs E Fn hnm hex
  refine gg_iload_n (pc := 0) E dJ19_isElementIndex_0 rfl rfl ?_
  refine gg_ifN_lt (tgt := 16) (pc := 1) E k1 rfl (by omega) dJ19_isElementIndex_1 (by decide) (fun c1 => ?_) (fun c1 => ?_)
  · exact c1.elim
  refine gg_iload_n (pc := 4) E dJ19_isElementIndex_4 rfl rfl ?_
  refine gg_aload_n (pc := 5) E dJ19_isElementIndex_5 rfl rfl ?_
  refine gg_get (pc := 6) E ck_J19 1 q586 rfl (by decide) dJ19_isElementIndex_6 (gg_r 0 rfl) rfl ?_
  refine gg_icmpN_ge (tgt := 16) (pc := 9) E k1 n1 rfl rfl (by omega) (by omega) dJ19_isElementIndex_9 (by decide) (fun c9 => ?_) (fun c9 => ?_)
  · exact absurd hk (by omega)
  refine gg_iconst (v := 1) (pc := 12) E dJ19_isElementIndex_12 (by decide) ?_
  refine gg_goto (tgt := 17) (pc := 13) E dJ19_isElementIndex_13 (by decide) ?_
  refine gg_iret (pc := 17) E Fn rfl (gg_nz (by first | decide | assumption | exact gg_b01 | (split <;> decide))) dJ19_isElementIndex_17 (by first | exact Nat.le_of_ble_eq_true rfl | (dsimp only; omega)) (by first | exact Nat.le_of_ble_eq_true rfl | (dsimp only; omega)) ?_
  exact ⟨rfl, rfl⟩
set_option maxHeartbeats 4000000 in
theorem ct_J19_checkElementIndex {l : Launch} (hl : l.stackTraces = false) {g : gg_G}  {h n1 : Nat} {mc1 : Int32} {nd : Nat → Nat} {k1 : Nat} (hk : k1 < n1) (hn : n1 ≤ 1000) : gg_C l g yJ19_checkElementIndex (ws_ yJ19_checkElementIndex cJ19_checkElementIndex 2 none) { frames := 8, cells := 0, slots := 0, locals := 140 } [.ref h, .int (nI k1)] [(h, .inl (15, [.int mc1, .int (nI n1), llF nd n1, llL nd n1]))] [] (fun vv CC => vv = none ∧ CC = []) gg_no := by
  refine gg_of (lv := [_, _]) (by decide) hl (Nat.le_of_ble_eq_true rfl) rfl ?_
  intro p e R s m args below meth c A Q hRf hRl hRc hRs E Fn hnm hex
  refine gg_aload_n (pc := 0) E dJ19_checkElementIndex_0 rfl rfl ?_
  refine gg_iload_n (pc := 1) E dJ19_checkElementIndex_1 rfl rfl ?_
  refine gg_callV (F := []) (As := [.int (nI k1)]) (rest := []) (pc := 2) E ck_J19 (ct_J19_isElementIndex hl (by first | assumption | omega) (by first | assumption | omega)) (cwV 1 E.2.2.2.2.1 (lw_V q1126 q1128 qs15 q173 q1129) rfl rfl rfl (by decide +kernel) ⟨by rw [hRf]; exact Nat.le_of_ble_eq_true rfl, by rw [hRl]; exact Nat.le_of_ble_eq_true rfl⟩) dJ19_checkElementIndex_2 [] (by decide) rfl rfl (List.forall_mem_cons.mpr ⟨(gg_r 0 rfl), (fun _ h => by cases h)⟩) (gg_r 0 rfl) rfl rfl (Nat.le_of_ble_eq_true rfl) (by first | (rw [hRc]; exact Nat.le_of_ble_eq_true rfl) | (rw [hRc]; dsimp only; omega)) (by first | (rw [hRs]; exact Nat.le_of_ble_eq_true rfl) | (rw [hRs]; dsimp only; omega)) ?_ (fun X q C1 h => h.elim)
  rintro _ _ ⟨rfl, rfl⟩
  dsimp only [List.cons_append, List.nil_append, Option.toList]
  refine gg_ifN_ne (tgt := 21) (pc := 5) E 1 rfl (by decide) dJ19_checkElementIndex_5 (by decide) (fun _ => ?_) (fun q => absurd q (by decide))
  refine gg_vret (pc := 21) E Fn rfl dJ19_checkElementIndex_21 (by first | exact Nat.le_of_ble_eq_true rfl | (dsimp only; omega)) (by first | exact Nat.le_of_ble_eq_true rfl | (dsimp only; omega)) ?_
  exact ⟨rfl, rfl⟩
set_option maxHeartbeats 4000000 in
theorem ct_J19_isPositionIndex {l : Launch} (hl : l.stackTraces = false) {g : gg_G}  {h n1 : Nat} {mc1 : Int32} {nd : Nat → Nat} {k1 : Nat} (hk : k1 ≤ n1) (hn : n1 ≤ 1000) : gg_C l g yJ19_isPositionIndex (ws_ yJ19_isPositionIndex cJ19_isPositionIndex 2 (some .boolean)) { frames := 0, cells := 0, slots := 0, locals := 0 } [.ref h, .int (nI k1)] [(h, .inl (15, [.int mc1, .int (nI n1), llF nd n1, llL nd n1]))] [] (fun vv CC => vv = some (.int 1) ∧ CC = []) gg_no := by
  refine gg_of (lv := [_, _]) (by decide) hl (Nat.le_of_ble_eq_true rfl) rfl ?_
  intro p e R s m args below meth c A Q hRf hRl hRc hRs E Fn hnm hex
  refine gg_iload_n (pc := 0) E dJ19_isPositionIndex_0 rfl rfl ?_
  refine gg_ifN_lt (tgt := 16) (pc := 1) E k1 rfl (by omega) dJ19_isPositionIndex_1 (by decide) (fun c1 => ?_) (fun c1 => ?_)
  · exact c1.elim
  refine gg_iload_n (pc := 4) E dJ19_isPositionIndex_4 rfl rfl ?_
  refine gg_aload_n (pc := 5) E dJ19_isPositionIndex_5 rfl rfl ?_
  refine gg_get (pc := 6) E ck_J19 1 q586 rfl (by decide) dJ19_isPositionIndex_6 (gg_r 0 rfl) rfl ?_
  refine gg_icmpN_gt (tgt := 16) (pc := 9) E k1 n1 rfl rfl (by omega) (by omega) dJ19_isPositionIndex_9 (by decide) (fun c9 => ?_) (fun c9 => ?_)
  · exact absurd hk (by omega)
  refine gg_iconst (v := 1) (pc := 12) E dJ19_isPositionIndex_12 (by decide) ?_
  refine gg_goto (tgt := 17) (pc := 13) E dJ19_isPositionIndex_13 (by decide) ?_
  refine gg_iret (pc := 17) E Fn rfl (gg_nz (by first | decide | assumption | exact gg_b01 | (split <;> decide))) dJ19_isPositionIndex_17 (by first | exact Nat.le_of_ble_eq_true rfl | (dsimp only; omega)) (by first | exact Nat.le_of_ble_eq_true rfl | (dsimp only; omega)) ?_
  exact ⟨rfl, rfl⟩
set_option maxHeartbeats 4000000 in
theorem ct_J19_checkPositionIndex {l : Launch} (hl : l.stackTraces = false) {g : gg_G}  {h n1 : Nat} {mc1 : Int32} {nd : Nat → Nat} {k1 : Nat} (hk : k1 ≤ n1) (hn : n1 ≤ 1000) : gg_C l g yJ19_checkPositionIndex (ws_ yJ19_checkPositionIndex cJ19_checkPositionIndex 2 none) { frames := 8, cells := 0, slots := 0, locals := 140 } [.ref h, .int (nI k1)] [(h, .inl (15, [.int mc1, .int (nI n1), llF nd n1, llL nd n1]))] [] (fun vv CC => vv = none ∧ CC = []) gg_no := by
  refine gg_of (lv := [_, _]) (by decide) hl (Nat.le_of_ble_eq_true rfl) rfl ?_
  intro p e R s m args below meth c A Q hRf hRl hRc hRs E Fn hnm hex
  refine gg_aload_n (pc := 0) E dJ19_checkPositionIndex_0 rfl rfl ?_
  refine gg_iload_n (pc := 1) E dJ19_checkPositionIndex_1 rfl rfl ?_
  refine gg_callV (F := []) (As := [.int (nI k1)]) (rest := []) (pc := 2) E ck_J19 (ct_J19_isPositionIndex hl (by first | assumption | omega) (by first | assumption | omega)) (cwV 1 E.2.2.2.2.1 (lw_V q1254 q1256 qs25 q173 q1257) rfl rfl rfl (by decide +kernel) ⟨by rw [hRf]; exact Nat.le_of_ble_eq_true rfl, by rw [hRl]; exact Nat.le_of_ble_eq_true rfl⟩) dJ19_checkPositionIndex_2 [] (by decide) rfl rfl (List.forall_mem_cons.mpr ⟨(gg_r 0 rfl), (fun _ h => by cases h)⟩) (gg_r 0 rfl) rfl rfl (Nat.le_of_ble_eq_true rfl) (by first | (rw [hRc]; exact Nat.le_of_ble_eq_true rfl) | (rw [hRc]; dsimp only; omega)) (by first | (rw [hRs]; exact Nat.le_of_ble_eq_true rfl) | (rw [hRs]; dsimp only; omega)) ?_ (fun X q C1 h => h.elim)
  rintro _ _ ⟨rfl, rfl⟩
  dsimp only [List.cons_append, List.nil_append, Option.toList]
  refine gg_ifN_ne (tgt := 21) (pc := 5) E 1 rfl (by decide) dJ19_checkPositionIndex_5 (by decide) (fun _ => ?_) (fun q => absurd q (by decide))
  refine gg_vret (pc := 21) E Fn rfl dJ19_checkPositionIndex_21 (by first | exact Nat.le_of_ble_eq_true rfl | (dsimp only; omega)) (by first | exact Nat.le_of_ble_eq_true rfl | (dsimp only; omega)) ?_
  exact ⟨rfl, rfl⟩
set_option maxHeartbeats 4000000 in
theorem ct_J19_get {l : Launch} (hl : l.stackTraces = false) {g : gg_G}  {h n1 : Nat} {mc1 : Int32} {nd im : Nat → Nat} {k1 : Nat} (hk : k1 < n1) (hn : n1 ≤ 1000) : gg_C l g yJ19_get (ws_ yJ19_get cJ19_get 2 (some (.object "java/lang/Object"))) { frames := 9, cells := 0, slots := 0, locals := 161 } [.ref h, .int (nI k1)] ([(h, .inl (15, [.int mc1, .int (nI n1), llF nd n1, llL nd n1]))] ++ (llS nd im n1)) [] (fun vv CC => vv = some (.ref (im k1)) ∧ CC = []) gg_no := by
  refine gg_of (lv := [_, _]) (by decide) hl (Nat.le_of_ble_eq_true rfl) rfl ?_
  intro p e R s m args below meth c A Q hRf hRl hRc hRs E Fn hnm hex
  refine gg_aload_n (pc := 0) E dJ19_get_0 rfl rfl ?_
  refine gg_iload_n (pc := 1) E dJ19_get_1 rfl rfl ?_
  refine gg_callV (F := []) (As := [.int (nI k1)]) (rest := []) (pc := 2) E ck_J19 (ct_J19_checkElementIndex hl (by first | assumption | omega) (by first | assumption | omega)) (cwV 1 E.2.2.2.2.1 (lw_V q1122 q1124 qs14 q173 q1125) rfl rfl rfl (by decide +kernel) ⟨by rw [hRf]; exact Nat.le_of_ble_eq_true rfl, by rw [hRl]; exact Nat.le_of_ble_eq_true rfl⟩) dJ19_get_2 [] (by decide) rfl rfl (List.forall_mem_cons.mpr ⟨(gg_r 0 rfl), (fun _ h => by cases h)⟩) (gg_r 0 rfl) rfl rfl (Nat.le_of_ble_eq_true rfl) (by first | (rw [hRc]; exact Nat.le_of_ble_eq_true rfl) | (rw [hRc]; dsimp only; omega)) (by first | (rw [hRs]; exact Nat.le_of_ble_eq_true rfl) | (rw [hRs]; dsimp only; omega)) ?_ (fun X q C1 h => h.elim)
  rintro _ _ ⟨rfl, rfl⟩
  dsimp only [List.cons_append, List.nil_append, Option.toList]
  refine gg_aload_n (pc := 5) E dJ19_get_5 rfl rfl ?_
  refine gg_iload_n (pc := 6) E dJ19_get_6 rfl rfl ?_
  refine gg_callV (F := []) (As := [.int (nI k1)]) (rest := []) (pc := 7) E ck_J19 (ct_J19_node hl (by first | assumption | omega) (by first | assumption | omega)) (cwV 1 E.2.2.2.2.1 (lw_V q1156 q1157 q1158 q173 q1159) rfl rfl rfl (by decide +kernel) ⟨by rw [hRf]; exact Nat.le_of_ble_eq_true rfl, by rw [hRl]; exact Nat.le_of_ble_eq_true rfl⟩) dJ19_get_7 [] (by decide) rfl rfl (List.forall_mem_append.mpr ⟨(List.forall_mem_cons.mpr ⟨(gg_r 0 rfl), (fun _ h => by cases h)⟩), (fun q hq => gg_rm (List.mem_append_right _ (hq)))⟩) (gg_r 0 rfl) rfl rfl (Nat.le_of_ble_eq_true rfl) (by first | (rw [hRc]; exact Nat.le_of_ble_eq_true rfl) | (rw [hRc]; dsimp only; omega)) (by first | (rw [hRs]; exact Nat.le_of_ble_eq_true rfl) | (rw [hRs]; dsimp only; omega)) ?_ (fun X q C1 h => h.elim)
  rintro _ _ ⟨rfl, rfl⟩
  dsimp only [List.cons_append, List.nil_append, Option.toList]
  
  refine gg_get (pc := 10) E ck_J20 0 q768 rfl (by decide) dJ19_get_10 (gg_rm (List.mem_append_right _ (mp_mem (by omega)))) rfl ?_
  refine gg_aret (pc := 13) E Fn rfl (Or.inl ⟨_, rfl⟩) (Or.inr ⟨_, rfl⟩) dJ19_get_13 (by first | exact Nat.le_of_ble_eq_true rfl | (dsimp only; omega)) (by first | exact Nat.le_of_ble_eq_true rfl | (dsimp only; omega)) ?_
  exact ⟨rfl, rfl⟩
set_option maxHeartbeats 4000000 in
theorem ct_J28_init {l : Launch} (hl : l.stackTraces = false) {g : gg_G}  {h n1 : Nat} {mc1 : Int32} {nd im : Nat → Nat} {i1 : Nat} (hn : n1 ≤ 1000) : gg_C l g yJ28_init (ws_ yJ28_init cJ28_init 3 none) { frames := 1, cells := 0, slots := 0, locals := 23 } [.ref i1, .ref h, .int (nI 0)] ([(h, .inl (15, [.int mc1, .int (nI n1), llF nd n1, llL nd n1]))] ++ (llS nd im n1)) [[(i1, .inl (19, [.null, .null, .int 0, .int 0, .null]))]] (fun vv CC => vv = none ∧ CC = [[(i1, .inl (19, [.null, va_rf (if 0 < n1 then some (nd 0) else none), .int (nI 0), .int mc1, .ref h]))]]) gg_no := by
  refine gg_of (lv := [_, _, _]) (by decide) hl (Nat.le_of_ble_eq_true rfl) rfl ?_
  intro p e R s m args below meth c A Q hRf hRl hRc hRs E Fn hnm hex
  refine gg_aload_n (pc := 0) E dJ28_init_0 rfl rfl ?_
  refine gg_aload_n (pc := 1) E dJ28_init_1 rfl rfl ?_
  refine gg_putF (fs' := [_, _, _, _, _]) (M' := [_]) (pc := 2) E ck_J28 4 q1269 rfl (by decide) hnm dJ28_init_2 0 rfl rfl (rfl) rfl (Nat.le_of_ble_eq_true rfl) rfl rfl ?_
  refine gg_aload_n (pc := 5) E dJ28_init_5 rfl rfl ?_
  refine gg_objInit (pc := 6) E q1263 dJ28_init_6 (by rw [hRf]; exact Nat.le_of_ble_eq_true rfl) (by rw [hRl]; exact Nat.le_of_ble_eq_true rfl) ?_
  refine gg_aload_n (pc := 9) E dJ28_init_9 rfl rfl ?_
  refine gg_aload_n (pc := 10) E dJ28_init_10 rfl rfl ?_
  refine gg_get (pc := 11) E ck_J28 4 q1269 rfl (by decide) dJ28_init_11 (gg_i 0 rfl) rfl ?_
  refine gg_getU (pc := 14) E ck_J19 0 q563 q564 rfl (by decide) dJ28_init_14 (gg_r 0 rfl) rfl ?_
  refine gg_put (fs' := [_, _, _, _, _]) (M' := [_]) (pc := 17) E ck_J28 3 q1268 rfl (by decide) dJ28_init_17 0 rfl rfl (rfl) rfl (Nat.le_of_ble_eq_true rfl) rfl rfl ?_
  refine gg_aload_n (pc := 20) E dJ28_init_20 rfl rfl ?_
  refine gg_iload_n (pc := 21) E dJ28_init_21 rfl rfl ?_
  refine gg_aload_n (pc := 22) E dJ28_init_22 rfl rfl ?_
  refine gg_get (pc := 23) E ck_J19 1 q587 rfl (by decide) dJ28_init_23 (gg_r 0 rfl) rfl ?_
  refine gg_icmpN_ne (tgt := 33) (pc := 26) E 0 n1 rfl rfl (by omega) (by omega) dJ28_init_26 (by decide) (fun c26 => ?_) (fun c26 => ?_)
  · refine gg_aload_n (pc := 33) E dJ28_init_33 rfl rfl ?_
    refine gg_iload_n (pc := 34) E dJ28_init_34 rfl rfl ?_
    refine gg_callV (F := [_]) (As := [.int (nI 0)]) (rest := [_]) (pc := 35) E ck_J19 (ct_J19_node hl (by omega) (hn)) (cwV 1 E.2.2.2.2.1 (lw_V q1264 q1157 q1158 q173 q1159) rfl rfl rfl (by decide +kernel) ⟨by rw [hRf]; exact Nat.le_of_ble_eq_true rfl, by rw [hRl]; exact Nat.le_of_ble_eq_true rfl⟩) dJ28_init_35 [] (by decide) rfl rfl (List.forall_mem_append.mpr ⟨(List.forall_mem_cons.mpr ⟨(gg_r 0 rfl), (fun _ h => by cases h)⟩), (fun q hq => gg_rm (List.mem_append_right _ (hq)))⟩) (gg_r 0 rfl) rfl rfl (Nat.le_of_ble_eq_true rfl) (by first | (rw [hRc]; exact Nat.le_of_ble_eq_true rfl) | (rw [hRc]; dsimp only; omega)) (by first | (rw [hRs]; exact Nat.le_of_ble_eq_true rfl) | (rw [hRs]; dsimp only; omega)) ?_ (fun X q C1 h => h.elim)
    rintro _ _ ⟨rfl, rfl⟩
    dsimp only [List.cons_append, List.nil_append, Option.toList]
    refine gg_topV (show .ref (nd 0) = va_rf (if 0 < n1 then some (nd 0) else none) from by rw [if_pos (by omega)]; rfl) ?_
    refine gg_put (fs' := [_, _, _, _, _]) (M' := [_]) (pc := 38) E ck_J28 1 q1266 rfl (by decide) dJ28_init_38 0 rfl rfl (rfl) (fits_rf _ _) (Nat.le_of_ble_eq_true rfl) rfl rfl ?_
    refine gg_aload_n (pc := 41) E dJ28_init_41 rfl rfl ?_
    refine gg_iload_n (pc := 42) E dJ28_init_42 rfl rfl ?_
    refine gg_put (fs' := [_, _, _, _, _]) (M' := [_]) (pc := 43) E ck_J28 2 q1267 rfl (by decide) dJ28_init_43 0 rfl rfl (rfl) rfl (Nat.le_of_ble_eq_true rfl) rfl rfl ?_
    refine gg_vret (pc := 46) E Fn rfl dJ28_init_46 (by first | exact Nat.le_of_ble_eq_true rfl | (dsimp only; omega)) (by first | exact Nat.le_of_ble_eq_true rfl | (dsimp only; omega)) ?_
    exact ⟨rfl, rfl⟩
  · refine gg_null (pc := 29) E dJ28_init_29 ?_
    refine gg_goto (tgt := 38) (pc := 30) E dJ28_init_30 (by decide) ?_
    refine gg_topV (show .null = va_rf (if 0 < n1 then some (nd 0) else none) from by rw [if_neg (by omega)]; rfl) ?_
    refine gg_put (fs' := [_, _, _, _, _]) (M' := [_]) (pc := 38) E ck_J28 1 q1266 rfl (by decide) dJ28_init_38 0 rfl rfl (rfl) (fits_rf _ _) (Nat.le_of_ble_eq_true rfl) rfl rfl ?_
    refine gg_aload_n (pc := 41) E dJ28_init_41 rfl rfl ?_
    refine gg_iload_n (pc := 42) E dJ28_init_42 rfl rfl ?_
    refine gg_put (fs' := [_, _, _, _, _]) (M' := [_]) (pc := 43) E ck_J28 2 q1267 rfl (by decide) dJ28_init_43 0 rfl rfl (rfl) rfl (Nat.le_of_ble_eq_true rfl) rfl rfl ?_
    refine gg_vret (pc := 46) E Fn rfl dJ28_init_46 (by first | exact Nat.le_of_ble_eq_true rfl | (dsimp only; omega)) (by first | exact Nat.le_of_ble_eq_true rfl | (dsimp only; omega)) ?_
    exact ⟨rfl, rfl⟩
set_option maxHeartbeats 4000000 in
theorem ct_J19_listIterator {l : Launch} (hl : l.stackTraces = false) {g : gg_G}  {h n1 : Nat} {mc1 : Int32} {nd im : Nat → Nat} (hn : n1 ≤ 1000) : gg_C l g yJ19_listIterator (ws_ yJ19_listIterator cJ19_listIterator 2 (some (.object "java/util/ListIterator"))) { frames := 9, cells := 1, slots := 5, locals := 161 } [.ref h, .int (nI 0)] ([(h, .inl (15, [.int mc1, .int (nI n1), llF nd n1, llL nd n1]))] ++ (llS nd im n1)) [] (fun vv CC => ∃ (i1 : Nat), vv = some (.ref i1) ∧ CC = [[(i1, .inl (19, [.null, va_rf (if 0 < n1 then some (nd 0) else none), .int (nI 0), .int mc1, .ref h]))]]) gg_no := by
  refine gg_of (lv := [_, _]) (by decide) hl (Nat.le_of_ble_eq_true rfl) rfl ?_
  intro p e R s m args below meth c A Q hRf hRl hRc hRs E Fn hnm hex
  refine gg_aload_n (pc := 0) E dJ19_listIterator_0 rfl rfl ?_
  refine gg_iload_n (pc := 1) E dJ19_listIterator_1 rfl rfl ?_
  refine gg_callV (F := []) (As := [.int (nI 0)]) (rest := []) (pc := 2) E ck_J19 (ct_J19_checkPositionIndex hl (by omega) (hn)) (cwV 1 E.2.2.2.2.1 (lw_V q1250 q1252 qs24 q173 q1253) rfl rfl rfl (by decide +kernel) ⟨by rw [hRf]; exact Nat.le_of_ble_eq_true rfl, by rw [hRl]; exact Nat.le_of_ble_eq_true rfl⟩) dJ19_listIterator_2 [] (by decide) rfl rfl (List.forall_mem_cons.mpr ⟨(gg_r 0 rfl), (fun _ h => by cases h)⟩) (gg_r 0 rfl) rfl rfl (Nat.le_of_ble_eq_true rfl) (by first | (rw [hRc]; exact Nat.le_of_ble_eq_true rfl) | (rw [hRc]; dsimp only; omega)) (by first | (rw [hRs]; exact Nat.le_of_ble_eq_true rfl) | (rw [hRs]; dsimp only; omega)) ?_ (fun X q C1 h => h.elim)
  rintro _ _ ⟨rfl, rfl⟩
  dsimp only [List.cons_append, List.nil_append, Option.toList]
  refine gg_new (fs := [.null, .null, .int 0, .int 0, .null]) (pc := 5) E ck_J28 q1258 q1259 q188 dJ19_listIterator_5 (gg_fsJ28) (by first | (rw [hRc]; exact Nat.le_of_ble_eq_true rfl) | (rw [hRc]; dsimp only; omega)) (by first | (rw [hRs]; exact Nat.le_of_ble_eq_true rfl) | (rw [hRs]; dsimp only; omega)) (fun _ => rfl) (fun a1 => ?_)
  dsimp only [List.cons_append, List.nil_append]
  refine gg_dup (pc := 8) E dJ19_listIterator_8 rfl ?_
  refine gg_aload_n (pc := 9) E dJ19_listIterator_9 rfl rfl ?_
  refine gg_iload_n (pc := 10) E dJ19_listIterator_10 rfl rfl ?_
  refine gg_callI (F := []) (As := [_, _]) (rest := [_]) (pc := 11) E (ct_J28_init hl (by first | assumption | omega)) (cwI 2 E.2.2.2.2.1 (lw_meth q1262) rfl rfl rfl (E.2.2.2.2.1 _ q188) (E.2.2.2.2.1 _ q1260) (E.2.2.2.2.1 _ q1261) rfl (by decide +kernel) ⟨by rw [hRf]; exact Nat.le_of_ble_eq_true rfl, by rw [hRl]; exact Nat.le_of_ble_eq_true rfl⟩) dJ19_listIterator_11 [0] (by decide) rfl rfl (List.forall_mem_append.mpr ⟨(List.forall_mem_cons.mpr ⟨(gg_r 0 rfl), (fun _ h => by cases h)⟩), (fun q hq => gg_rm (List.mem_append_right _ (hq)))⟩) rfl rfl (Nat.le_of_ble_eq_true rfl) (by first | (rw [hRc]; exact Nat.le_of_ble_eq_true rfl) | (rw [hRc]; dsimp only; omega)) (by first | (rw [hRs]; exact Nat.le_of_ble_eq_true rfl) | (rw [hRs]; dsimp only; omega)) ?_ (fun X q C1 h => h.elim)
  rintro _ _ ⟨rfl, rfl⟩
  dsimp only [List.cons_append, List.nil_append, Option.toList]
  refine gg_aret (pc := 14) E Fn rfl (Or.inl ⟨_, rfl⟩) (Or.inr ⟨_, rfl⟩) dJ19_listIterator_14 (by first | exact Nat.le_of_ble_eq_true rfl | (dsimp only; omega)) (by first | exact Nat.le_of_ble_eq_true rfl | (dsimp only; omega)) ?_
  exact ⟨_, rfl, rfl⟩
set_option maxHeartbeats 4000000 in
theorem ct_J1_listIterator {l : Launch} (hl : l.stackTraces = false) {g : gg_G}  {h n1 : Nat} {mc1 : Int32} {nd im : Nat → Nat} (hn : n1 ≤ 1000) : gg_C l g yJ1_listIterator (ws_ yJ1_listIterator cJ1_listIterator 1 (some (.object "java/util/ListIterator"))) { frames := 10, cells := 1, slots := 5, locals := 182 } [.ref h] ([(h, .inl (15, [.int mc1, .int (nI n1), llF nd n1, llL nd n1]))] ++ (llS nd im n1)) [] (fun vv CC => ∃ (i1 : Nat), vv = some (.ref i1) ∧ CC = [[(i1, .inl (19, [.null, va_rf (if 0 < n1 then some (nd 0) else none), .int (nI 0), .int mc1, .ref h]))]]) gg_no := by
  refine gg_of (lv := [_]) (by decide) hl (Nat.le_of_ble_eq_true rfl) rfl ?_
  intro p e R s m args below meth c A Q hRf hRl hRc hRs E Fn hnm hex
  refine gg_aload_n (pc := 0) E dJ1_listIterator_0 rfl rfl ?_
  refine gg_iconst (v := 0) (pc := 1) E dJ1_listIterator_1 (by decide) ?_
  refine gg_callU (F := []) (As := [_]) (rest := []) (pc := 2) E ck_J19 (ct_J19_listIterator hl (by first | assumption | omega)) (gg_cwO (own := "java/util/AbstractList") (C := "java/util/LinkedList") (index := 47) (x := ⟨"java/util/AbstractList", "listIterator", "(I)Ljava/util/ListIterator;"⟩) (owner := "java/util/AbstractList") 1 E.2.2.2.2.1 (lw_app (lw_in _ [1202, 1204, 1247, 1248, 173] (by decide +kernel) (by decide +kernel)) (lw_meth q1249)) rfl rfl rfl (va_Nw.use rfl (E.2.2.2.2.2.1.2.1 _ (gg_nwi q1281 rfl))) (by decide +kernel) ⟨by rw [hRf]; exact Nat.le_of_ble_eq_true rfl, by rw [hRl]; exact Nat.le_of_ble_eq_true rfl⟩) dJ1_listIterator_2 [] (by decide) rfl rfl (List.forall_mem_append.mpr ⟨(List.forall_mem_cons.mpr ⟨(gg_r 0 rfl), (fun _ h => by cases h)⟩), (fun q hq => gg_rm (List.mem_append_right _ (hq)))⟩) (gg_r 0 rfl) rfl rfl (Nat.le_of_ble_eq_true rfl) (by first | (rw [hRc]; exact Nat.le_of_ble_eq_true rfl) | (rw [hRc]; dsimp only; omega)) (by first | (rw [hRs]; exact Nat.le_of_ble_eq_true rfl) | (rw [hRs]; dsimp only; omega)) ?_ (fun X q C1 h => h.elim)
  rintro _ _ ⟨i1, rfl, rfl⟩
  dsimp only [List.cons_append, List.nil_append, Option.toList]
  refine gg_aret (pc := 5) E Fn rfl (Or.inl ⟨_, rfl⟩) (Or.inr ⟨_, rfl⟩) dJ1_listIterator_5 (by first | exact Nat.le_of_ble_eq_true rfl | (dsimp only; omega)) (by first | exact Nat.le_of_ble_eq_true rfl | (dsimp only; omega)) ?_
  exact ⟨i1, rfl, rfl⟩
set_option maxHeartbeats 4000000 in
theorem ct_J18_iterator {l : Launch} (hl : l.stackTraces = false) {g : gg_G}  {h n1 : Nat} {mc1 : Int32} {nd im : Nat → Nat} (hn : n1 ≤ 1000) : gg_C l g yJ18_iterator (ws_ yJ18_iterator cJ18_iterator 1 (some (.object "java/util/Iterator"))) { frames := 11, cells := 1, slots := 5, locals := 203 } [.ref h] ([(h, .inl (15, [.int mc1, .int (nI n1), llF nd n1, llL nd n1]))] ++ (llS nd im n1)) [] (fun vv CC => ∃ (i1 : Nat), vv = some (.ref i1) ∧ CC = [[(i1, .inl (19, [.null, va_rf (if 0 < n1 then some (nd 0) else none), .int (nI 0), .int mc1, .ref h]))]]) gg_no := by
  refine gg_of (lv := [_]) (by decide) hl (Nat.le_of_ble_eq_true rfl) rfl ?_
  intro p e R s m args below meth c A Q hRf hRl hRc hRs E Fn hnm hex
  refine gg_aload_n (pc := 0) E dJ18_iterator_0 rfl rfl ?_
  refine gg_callU (F := []) (As := []) (rest := []) (pc := 1) E ck_J19 (ct_J1_listIterator hl (by first | assumption | omega)) (va_cwU (own := "java/util/AbstractSequentialList") (C := "java/util/LinkedList") (index := 65) (x := ⟨"java/util/AbstractSequentialList", "listIterator", "()Ljava/util/ListIterator;"⟩) (owner := "java/util/AbstractList") 0 E.2.2.2.2.1 (lw_app (lw_in _ [1196, 1197, 1199, 1200, 154] (by decide +kernel) (by decide +kernel)) (lw_meth q1201)) rfl rfl rfl rfl (by decide +kernel) ⟨by rw [hRf]; exact Nat.le_of_ble_eq_true rfl, by rw [hRl]; exact Nat.le_of_ble_eq_true rfl⟩) dJ18_iterator_1 [] (by decide) rfl rfl (List.forall_mem_append.mpr ⟨(List.forall_mem_cons.mpr ⟨(gg_r 0 rfl), (fun _ h => by cases h)⟩), (fun q hq => gg_rm (List.mem_append_right _ (hq)))⟩) (gg_r 0 rfl) rfl rfl (Nat.le_of_ble_eq_true rfl) (by first | (rw [hRc]; exact Nat.le_of_ble_eq_true rfl) | (rw [hRc]; dsimp only; omega)) (by first | (rw [hRs]; exact Nat.le_of_ble_eq_true rfl) | (rw [hRs]; dsimp only; omega)) ?_ (fun X q C1 h => h.elim)
  rintro _ _ ⟨i1, rfl, rfl⟩
  dsimp only [List.cons_append, List.nil_append, Option.toList]
  refine gg_aret (pc := 4) E Fn rfl (Or.inl ⟨_, rfl⟩) (Or.inr ⟨_, rfl⟩) dJ18_iterator_4 (by first | exact Nat.le_of_ble_eq_true rfl | (dsimp only; omega)) (by first | exact Nat.le_of_ble_eq_true rfl | (dsimp only; omega)) ?_
  exact ⟨i1, rfl, rfl⟩
set_option maxHeartbeats 4000000 in
theorem ct_J28_hasNext {l : Launch} (hl : l.stackTraces = false) {g : gg_G}  {h n1 : Nat} {mc1 : Int32} {nd : Nat → Nat} {i1 k1 : Nat} {v1 : Value} (hk : k1 ≤ n1) (hn : n1 ≤ 1000) : gg_C l g yJ28_hasNext (ws_ yJ28_hasNext cJ28_hasNext 1 (some .boolean)) { frames := 0, cells := 0, slots := 0, locals := 0 } [.ref i1] [(i1, .inl (19, [v1, va_rf (if k1 < n1 then some (nd k1) else none), .int (nI k1), .int mc1, .ref h])), (h, .inl (15, [.int mc1, .int (nI n1), llF nd n1, llL nd n1]))] [] (fun vv CC => vv = some (.int (if k1 < n1 then 1 else 0)) ∧ CC = []) gg_no := by
  refine gg_of (lv := [_]) (by decide) hl (Nat.le_of_ble_eq_true rfl) rfl ?_
  intro p e R s m args below meth c A Q hRf hRl hRc hRs E Fn hnm hex
  refine gg_aload_n (pc := 0) E dJ28_hasNext_0 rfl rfl ?_
  refine gg_get (pc := 1) E ck_J28 2 q1267 rfl (by decide) dJ28_hasNext_1 (gg_r 0 rfl) rfl ?_
  refine gg_aload_n (pc := 4) E dJ28_hasNext_4 rfl rfl ?_
  refine gg_get (pc := 5) E ck_J28 4 q1269 rfl (by decide) dJ28_hasNext_5 (gg_r 0 rfl) rfl ?_
  refine gg_get (pc := 8) E ck_J19 1 q587 rfl (by decide) dJ28_hasNext_8 (gg_r 1 rfl) rfl ?_
  refine gg_icmpB_ge (pc := 11) E dJ28_hasNext_11 dJ28_hasNext_14 dJ28_hasNext_15 dJ28_hasNext_18 ?_
  refine gg_topI (y := if k1 < n1 then 1 else 0) (gg_ifc (by rw [nI_leI (by omega) (by omega)]; omega)) ?_
  refine gg_iret (pc := 19) E Fn rfl (gg_nz (by first | decide | assumption | exact gg_b01 | (split <;> decide))) dJ28_hasNext_19 (by first | exact Nat.le_of_ble_eq_true rfl | (dsimp only; omega)) (by first | exact Nat.le_of_ble_eq_true rfl | (dsimp only; omega)) ?_
  exact ⟨rfl, rfl⟩
set_option maxHeartbeats 4000000 in
theorem ct_J28_checkForComodification {l : Launch} (hl : l.stackTraces = false) {g : gg_G}  {h n1 : Nat} {mc1 : Int32} {nd : Nat → Nat} {i1 : Nat} {v1 v2 : Value} {c9 : Int32}  : gg_C l g yJ28_checkForComodification (ws_ yJ28_checkForComodification cJ28_checkForComodification 1 none) { frames := 0, cells := 0, slots := 0, locals := 0 } [.ref i1] [(i1, .inl (19, [v1, v2, .int c9, .int mc1, .ref h])), (h, .inl (15, [.int mc1, .int (nI n1), llF nd n1, llL nd n1]))] [] (fun vv CC => vv = none ∧ CC = []) gg_no := by
  refine gg_of (lv := [_]) (by decide) hl (Nat.le_of_ble_eq_true rfl) rfl ?_
  intro p e R s m args below meth c A Q hRf hRl hRc hRs E Fn hnm hex
  refine gg_aload_n (pc := 0) E dJ28_checkForComodification_0 rfl rfl ?_
  refine gg_get (pc := 1) E ck_J28 4 q1269 rfl (by decide) dJ28_checkForComodification_1 (gg_r 0 rfl) rfl ?_
  refine gg_getU (pc := 4) E ck_J19 0 q563 q564 rfl (by decide) dJ28_checkForComodification_4 (gg_r 1 rfl) rfl ?_
  refine gg_aload_n (pc := 7) E dJ28_checkForComodification_7 rfl rfl ?_
  refine gg_get (pc := 8) E ck_J28 3 q1268 rfl (by decide) dJ28_checkForComodification_8 (gg_r 0 rfl) rfl ?_
  refine gg_icmp_eq (tgt := 22) (pc := 11) E dJ28_checkForComodification_11 (by decide) (fun c11 => ?_) (fun c11 => ?_)
  rotate_left
  · exact absurd rfl c11
  refine gg_vret (pc := 22) E Fn rfl dJ28_checkForComodification_22 (by first | exact Nat.le_of_ble_eq_true rfl | (dsimp only; omega)) (by first | exact Nat.le_of_ble_eq_true rfl | (dsimp only; omega)) ?_
  exact ⟨rfl, rfl⟩
set_option maxHeartbeats 4000000 in
theorem ct_J28_next {l : Launch} (hl : l.stackTraces = false) {g : gg_G}  {h n1 : Nat} {mc1 : Int32} {nd im : Nat → Nat} {i1 k1 : Nat} {v1 : Value} (hk : k1 < n1) (hn : n1 ≤ 1000) : gg_C l g yJ28_next (ws_ yJ28_next cJ28_next 1 (some (.object "java/lang/Object"))) { frames := 8, cells := 0, slots := 0, locals := 140 } [.ref i1] ([(h, .inl (15, [.int mc1, .int (nI n1), llF nd n1, llL nd n1]))] ++ (llS nd im n1)) [[(i1, .inl (19, [v1, va_rf (if k1 < n1 then some (nd k1) else none), .int (nI k1), .int mc1, .ref h]))]] (fun vv CC => vv = some (.ref (im k1)) ∧ CC = [[(i1, .inl (19, [.ref (nd k1), va_rf (if (k1 + 1) < n1 then some (nd (k1 + 1)) else none), .int (nI (k1 + 1)), .int mc1, .ref h]))]]) gg_no := by
  refine gg_of (lv := [_]) (by decide) hl (Nat.le_of_ble_eq_true rfl) rfl ?_
  intro p e R s m args below meth c A Q hRf hRl hRc hRs E Fn hnm hex
  refine gg_aload_n (pc := 0) E dJ28_next_0 rfl rfl ?_
  refine gg_callV (F := [_]) (As := []) (rest := []) (pc := 1) E ck_J28 (ct_J28_checkForComodification hl ) (cwV 0 E.2.2.2.2.1 (lw_V q1425 q1426 q1427 q188 q1428) rfl rfl rfl (by decide +kernel) ⟨by rw [hRf]; exact Nat.le_of_ble_eq_true rfl, by rw [hRl]; exact Nat.le_of_ble_eq_true rfl⟩) dJ28_next_1 [] (by decide) rfl rfl (List.forall_mem_cons.mpr ⟨(gg_i 0 rfl), (List.forall_mem_cons.mpr ⟨(gg_r 0 rfl), (fun _ h => by cases h)⟩)⟩) (gg_i 0 rfl) rfl rfl (Nat.le_of_ble_eq_true rfl) (by first | (rw [hRc]; exact Nat.le_of_ble_eq_true rfl) | (rw [hRc]; dsimp only; omega)) (by first | (rw [hRs]; exact Nat.le_of_ble_eq_true rfl) | (rw [hRs]; dsimp only; omega)) ?_ (fun X q C1 h => h.elim)
  rintro _ _ ⟨rfl, rfl⟩
  dsimp only [List.cons_append, List.nil_append, Option.toList]
  refine gg_aload_n (pc := 4) E dJ28_next_4 rfl rfl ?_
  refine gg_callV (F := [_]) (As := []) (rest := []) (pc := 5) E ck_J28 (ct_J28_hasNext hl (by first | assumption | omega) (by first | assumption | omega)) (cwV 0 E.2.2.2.2.1 (lw_V q1429 q1309 q3473 q188 q1311) rfl rfl rfl (by decide +kernel) ⟨by rw [hRf]; exact Nat.le_of_ble_eq_true rfl, by rw [hRl]; exact Nat.le_of_ble_eq_true rfl⟩) dJ28_next_5 [] (by decide) rfl rfl (List.forall_mem_cons.mpr ⟨(gg_i 0 rfl), (List.forall_mem_cons.mpr ⟨(gg_r 0 rfl), (fun _ h => by cases h)⟩)⟩) (gg_i 0 rfl) rfl rfl (Nat.le_of_ble_eq_true rfl) (by first | (rw [hRc]; exact Nat.le_of_ble_eq_true rfl) | (rw [hRc]; dsimp only; omega)) (by first | (rw [hRs]; exact Nat.le_of_ble_eq_true rfl) | (rw [hRs]; dsimp only; omega)) ?_ (fun X q C1 h => h.elim)
  rintro _ _ ⟨rfl, rfl⟩
  dsimp only [List.cons_append, List.nil_append, Option.toList]
  refine gg_ifP_ne (tgt := 19) (pc := 8) E dJ28_next_8 (by decide) (fun c8 => ?_) (fun c8 => ?_)
  rotate_left
  · exact absurd hk c8
  refine gg_aload_n (pc := 19) E dJ28_next_19 rfl rfl ?_
  refine gg_aload_n (pc := 20) E dJ28_next_20 rfl rfl ?_
  refine gg_get (pc := 21) E ck_J28 1 q1266 rfl (by decide) dJ28_next_21 (gg_i 0 rfl) rfl ?_
  refine gg_topV (show va_rf (if k1 < n1 then some (nd k1) else none) = .ref (nd k1) from by rw [if_pos (by omega)]; rfl) ?_
  refine gg_put (fs' := [_, _, _, _, _]) (M' := [_]) (pc := 24) E ck_J28 0 q1265 rfl (by decide) dJ28_next_24 0 rfl rfl (rfl) rfl (Nat.le_of_ble_eq_true rfl) rfl rfl ?_
  refine gg_aload_n (pc := 27) E dJ28_next_27 rfl rfl ?_
  refine gg_aload_n (pc := 28) E dJ28_next_28 rfl rfl ?_
  refine gg_get (pc := 29) E ck_J28 1 q1266 rfl (by decide) dJ28_next_29 (gg_i 0 rfl) rfl ?_
  refine gg_topV (show va_rf (if k1 < n1 then some (nd k1) else none) = .ref (nd k1) from by rw [if_pos (by omega)]; rfl) ?_
  refine gg_get (pc := 32) E ck_J20 1 q770 rfl (by decide) dJ28_next_32 (gg_rm (List.mem_append_right _ (mp_mem (by omega)))) rfl ?_
  refine gg_put (fs' := [_, _, _, _, _]) (M' := [_]) (pc := 35) E ck_J28 1 q1266 rfl (by decide) dJ28_next_35 0 rfl rfl (rfl) (fits_rf _ _) (Nat.le_of_ble_eq_true rfl) rfl rfl ?_
  refine gg_aload_n (pc := 38) E dJ28_next_38 rfl rfl ?_
  refine gg_dup (pc := 39) E dJ28_next_39 rfl ?_
  refine gg_get (pc := 40) E ck_J28 2 q1267 rfl (by decide) dJ28_next_40 (gg_i 0 rfl) rfl ?_
  refine gg_iconst (v := 1) (pc := 43) E dJ28_next_43 (by decide) ?_
  refine gg_iaddN (pc := 44) E k1 1 rfl rfl dJ28_next_44 ?_
  refine gg_put (fs' := [_, _, _, _, _]) (M' := [_]) (pc := 45) E ck_J28 2 q1267 rfl (by decide) dJ28_next_45 0 rfl rfl (rfl) rfl (Nat.le_of_ble_eq_true rfl) rfl rfl ?_
  refine gg_aload_n (pc := 48) E dJ28_next_48 rfl rfl ?_
  refine gg_get (pc := 49) E ck_J28 0 q1265 rfl (by decide) dJ28_next_49 (gg_i 0 rfl) rfl ?_
  
  refine gg_get (pc := 52) E ck_J20 0 q767 rfl (by decide) dJ28_next_52 (gg_rm (List.mem_append_right _ (mp_mem (by omega)))) rfl ?_
  refine gg_aret (pc := 55) E Fn rfl (Or.inl ⟨_, rfl⟩) (Or.inr ⟨_, rfl⟩) dJ28_next_55 (by first | exact Nat.le_of_ble_eq_true rfl | (dsimp only; omega)) (by first | exact Nat.le_of_ble_eq_true rfl | (dsimp only; omega)) ?_
  exact ⟨rfl, rfl⟩

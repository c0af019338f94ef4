set_option maxRecDepth 100000
/-! ===== BitSet of ten bits: its word as a natural ===== -/
abbrev lM (m : Nat) : Int64 := Int64.ofNat m
def bwu (m : Nat) : Nat := if m = 0 then 0 else 1
def bcn (m : Nat) : Nat := cB (fun i => m.testBit i) 10
theorem ish6 : ∀ j, j < 64 → nI j >>> ((6 : Int32) &&& 31) = nI 0 := by decide +kernel
theorem bs_set : ∀ m, m < 1024 → ∀ i, i < 10 → lM m ||| ((1 : Int64) <<< ((nI i).toInt64 &&& 63)) = lM (m ||| 2 ^ i) := by decide +kernel
theorem bs_get : ∀ m, m < 1024 → ∀ i, i < 10 → (lg_cmp (lM m &&& ((1 : Int64) <<< ((nI i).toInt64 &&& 63))) 0 = 0 ↔ m.testBit i = false) := by decide +kernel
def bc1 (x : Int64) : Int64 := x - (((x).toUInt64 >>> ((1 : Int32).toInt64.toUInt64 &&& Int64.toUInt64 63)).toInt64 &&& 0x5555555555555555)
def bc2 (x : Int64) : Int64 := (x &&& 0x3333333333333333) + (((x).toUInt64 >>> ((2 : Int32).toInt64.toUInt64 &&& Int64.toUInt64 63)).toInt64 &&& 0x3333333333333333)
def bc3 (x : Int64) : Int64 := (x + ((x).toUInt64 >>> ((4 : Int32).toInt64.toUInt64 &&& Int64.toUInt64 63)).toInt64) &&& 0x0f0f0f0f0f0f0f0f
def bc4 (x : Int64) : Int64 := x + ((x).toUInt64 >>> ((8 : Int32).toInt64.toUInt64 &&& Int64.toUInt64 63)).toInt64
def bc5 (x : Int64) : Int64 := x + ((x).toUInt64 >>> ((16 : Int32).toInt64.toUInt64 &&& Int64.toUInt64 63)).toInt64
def bc6 (x : Int64) : Int64 := x + ((x).toUInt64 >>> ((32 : Int32).toInt64.toUInt64 &&& Int64.toUInt64 63)).toInt64
theorem bs_cnt : ∀ m, m < 1024 → (bc6 (bc5 (bc4 (bc3 (bc2 (bc1 (lM m))))))).toInt32 &&& 127 = nI (bcn m) := by decide +kernel
theorem or_lt {m i : Nat} (hm : m < 1024) (hi : i < 10) : m ||| 2 ^ i < 1024 := Nat.or_lt_two_pow (n := 10) hm (Nat.pow_lt_pow_right (by decide) hi)
theorem or_ne {m i : Nat} : m ||| 2 ^ i ≠ 0 := by
  intro h
  have := Nat.testBit_or m (2 ^ i) i
  rw [h, Nat.testBit_two_pow_self] at this
  simp at this
theorem bwu_or {m i : Nat} : bwu (m ||| 2 ^ i) = 1 := if_neg or_ne
theorem gg_al1 {g : gg_G} {f f' : Nat → Int64} (h : f 0 = f' 0) : gg_al g 1 f = gg_al g 1 f' := by
  show (Sum.inr (arrV _ _ _) : gg_E) = Sum.inr (arrV _ _ _)
  congr 1
  unfold arrV
  congr 1
  exact Array.ext (by simp) (fun i h1 h2 => by
    simp at h1
    subst h1
    simp [h])
set_option maxHeartbeats 4000000 in
theorem ct_J37_wordIndex {l : Launch} (hl : l.stackTraces = false) {g : gg_G}  {j : Nat} (hj : j < 64) : gg_C l g yJ37_wordIndex (ws_ yJ37_wordIndex cJ37_wordIndex 1 (some .int)) { frames := 0, cells := 0, slots := 0, locals := 0 } [.int (nI j)] [] [] (fun vv CC => vv = some (.int (nI 0)) ∧ CC = []) gg_no := by
  refine gg_of (lv := [_]) (by decide) hl (Nat.le_of_ble_eq_true rfl) rfl ?_
  intro p e R s m args below meth c A Q hRf hRl hRc hRs E Fn hnm hex
  refine gg_iload_n (pc := 0) E dJ37_wordIndex_0 rfl rfl ?_
  refine gg_bipush (v := 6) (pc := 1) E dJ37_wordIndex_1 (by decide) ?_
  refine gg_ishr (pc := 3) E dJ37_wordIndex_3 ?_
  refine gg_topI (y := nI 0) (ish6 j hj) ?_
  refine gg_iret (pc := 4) E Fn rfl (rfl) dJ37_wordIndex_4 (by first | exact Nat.le_of_ble_eq_true rfl | (dsimp only; omega)) (by first | exact Nat.le_of_ble_eq_true rfl | (dsimp only; omega)) ?_
  exact ⟨rfl, rfl⟩
set_option maxHeartbeats 4000000 in
theorem ct_J37_initWords {l : Launch} (hl : l.stackTraces = false) {g : gg_G}  {bs : Nat} {x2 x3 : Int32}  : gg_C l g yJ37_initWords (ws_ yJ37_initWords cJ37_initWords 2 none) { frames := 1, cells := 1, slots := 1, locals := 20 } [.ref bs, .int (nI 10)] [] [[(bs, .inl (21, [.null, .int x2, .int x3]))]] (fun vv CC => ∃ (wd : Nat), vv = none ∧ CC = [[(bs, .inl (21, [.ref wd, .int x2, .int x3]))], [(wd, gg_al g 1 (fun _ => lM 0))]]) gg_no := by
  refine gg_of (lv := [_, _]) (by decide) hl (Nat.le_of_ble_eq_true rfl) rfl ?_
  intro p e R s m args below meth c A Q hRf hRl hRc hRs E Fn hnm hex
  refine gg_aload_n (pc := 0) E dJ37_initWords_0 rfl rfl ?_
  refine gg_iload_n (pc := 1) E dJ37_initWords_1 rfl rfl ?_
  refine gg_iconst (v := 1) (pc := 2) E dJ37_initWords_2 (by decide) ?_
  refine gg_isubN (pc := 3) E 10 1 rfl rfl (by omega) dJ37_initWords_3 ?_
  refine gg_callS (F := [_]) (As := [.int (nI (10 - 1))]) (rest := [_]) (pc := 4) E (ct_J37_wordIndex hl (by first | assumption | omega)) (va_cwS 1 E.2.2.2.2.1 (lw_S q2276 q2277 q203 q2278) rfl rfl rfl (by decide +kernel) ⟨by rw [hRf]; exact Nat.le_of_ble_eq_true rfl, by rw [hRl]; exact Nat.le_of_ble_eq_true rfl⟩) dJ37_initWords_4 [] (by decide) rfl rfl (fun _ h => by cases h) rfl rfl (Nat.le_of_ble_eq_true rfl) (by first | (rw [hRc]; exact Nat.le_of_ble_eq_true rfl) | (rw [hRc]; dsimp only; omega)) (by first | (rw [hRs]; exact Nat.le_of_ble_eq_true rfl) | (rw [hRs]; dsimp only; omega)) ?_ (fun X q C1 h => h.elim)
  rintro _ _ ⟨rfl, rfl⟩
  dsimp only [List.cons_append, List.nil_append, Option.toList]
  refine gg_iconst (v := 1) (pc := 7) E dJ37_initWords_7 (by decide) ?_
  refine gg_iaddN (pc := 8) E 0 1 rfl rfl dJ37_initWords_8 ?_
  refine gg_newa (N := 1) (pc := 9) E 3 (ty := .long) rfl rfl q2289 dJ37_initWords_9 (by decide) (by decide) (by decide) (by first | (rw [hRc]; exact Nat.le_of_ble_eq_true rfl) | (rw [hRc]; dsimp only; omega)) (by first | (rw [hRs]; exact Nat.le_of_ble_eq_true rfl) | (rw [hRs]; dsimp only; omega)) (fun _ => rfl) (fun a1 => ?_)
  dsimp only [List.cons_append, List.nil_append]
  refine gg_put (fs' := [_, _, _]) (M' := [_, _]) (pc := 11) E ck_J37 0 q2279 rfl (by decide) dJ37_initWords_11 0 rfl rfl (rfl) rfl (Nat.le_of_ble_eq_true rfl) rfl rfl ?_
  refine gg_vret (pc := 14) E Fn rfl dJ37_initWords_14 (by first | exact Nat.le_of_ble_eq_true rfl | (dsimp only; omega)) (by first | exact Nat.le_of_ble_eq_true rfl | (dsimp only; omega)) ?_
  exact ⟨a1, rfl, rfl⟩
set_option maxHeartbeats 4000000 in
theorem ct_J37_init {l : Launch} (hl : l.stackTraces = false) {g : gg_G}  {bs : Nat}  : gg_C l g yJ37_init (ws_ yJ37_init cJ37_init 2 none) { frames := 2, cells := 1, slots := 1, locals := 41 } [.ref bs, .int (nI 10)] [] [[(bs, .inl (21, [.null, .int 0, .int 0]))]] (fun vv CC => ∃ (wd : Nat), vv = none ∧ CC = [[(bs, .inl (21, [.ref wd, .int (nI (bwu 0)), .int 1]))], [(wd, gg_al g 1 (fun _ => lM 0))]]) gg_no := by
  refine gg_of (lv := [_, _]) (by decide) hl (Nat.le_of_ble_eq_true rfl) rfl ?_
  intro p e R s m args below meth c A Q hRf hRl hRc hRs E Fn hnm hex
  refine gg_aload_n (pc := 0) E dJ37_init_0 rfl rfl ?_
  refine gg_objInit (pc := 1) E q2271 dJ37_init_1 (by rw [hRf]; exact Nat.le_of_ble_eq_true rfl) (by rw [hRl]; exact Nat.le_of_ble_eq_true rfl) ?_
  refine gg_aload_n (pc := 4) E dJ37_init_4 rfl rfl ?_
  refine gg_iconst (v := 0) (pc := 5) E dJ37_init_5 (by decide) ?_
  refine gg_put (fs' := [_, _, _]) (M' := [_]) (pc := 6) E ck_J37 1 q2280 rfl (by decide) dJ37_init_6 0 rfl rfl (rfl) rfl (Nat.le_of_ble_eq_true rfl) rfl rfl ?_
  refine gg_aload_n (pc := 9) E dJ37_init_9 rfl rfl ?_
  refine gg_iconst (v := 0) (pc := 10) E dJ37_init_10 (by decide) ?_
  refine gg_put (fs' := [_, _, _]) (M' := [_]) (pc := 11) E ck_J37 2 q2281 rfl (by decide) dJ37_init_11 0 rfl rfl (gg_nz (by first | decide | assumption | exact gg_b01 | (split <;> decide))) rfl (Nat.le_of_ble_eq_true rfl) rfl rfl ?_
  refine gg_iload_n (pc := 14) E dJ37_init_14 rfl rfl ?_
  refine gg_ifN_ge (tgt := 45) (pc := 15) E 10 rfl (by decide) dJ37_init_15 (by decide) (fun _ => ?_) (fun q => absurd q (by decide))
  refine gg_aload_n (pc := 45) E dJ37_init_45 rfl rfl ?_
  refine gg_iload_n (pc := 46) E dJ37_init_46 rfl rfl ?_
  refine gg_callV (F := []) (As := [_]) (rest := []) (pc := 47) E ck_J37 (ct_J37_initWords hl ) (cwV 1 E.2.2.2.2.1 (lw_V q2272 q2274 qs48 q203 q2275) rfl rfl rfl (by decide +kernel) ⟨by rw [hRf]; exact Nat.le_of_ble_eq_true rfl, by rw [hRl]; exact Nat.le_of_ble_eq_true rfl⟩) dJ37_init_47 [0] (by decide) rfl rfl (fun _ h => by cases h) (gg_i 0 rfl) rfl rfl (Nat.le_of_ble_eq_true rfl) (by first | (rw [hRc]; exact Nat.le_of_ble_eq_true rfl) | (rw [hRc]; dsimp only; omega)) (by first | (rw [hRs]; exact Nat.le_of_ble_eq_true rfl) | (rw [hRs]; dsimp only; omega)) ?_ (fun X q C1 h => h.elim)
  rintro _ _ ⟨wd, rfl, rfl⟩
  dsimp only [List.cons_append, List.nil_append, Option.toList]
  refine gg_up1 ?_
  refine gg_up1 ?_
  refine gg_aload_n (pc := 50) E dJ37_init_50 rfl rfl ?_
  refine gg_iconst (v := 1) (pc := 51) E dJ37_init_51 (by decide) ?_
  refine gg_put (fs' := [_, _, _]) (M' := [_, _]) (pc := 52) E ck_J37 2 q2281 rfl (by decide) dJ37_init_52 0 rfl rfl (rfl) rfl (Nat.le_of_ble_eq_true rfl) rfl rfl ?_
  refine gg_vret (pc := 55) E Fn rfl dJ37_init_55 (by first | exact Nat.le_of_ble_eq_true rfl | (dsimp only; omega)) (by first | exact Nat.le_of_ble_eq_true rfl | (dsimp only; omega)) ?_
  exact ⟨wd, rfl, rfl⟩
set_option maxHeartbeats 4000000 in
theorem ct_J37_ensureCapacity {l : Launch} (hl : l.stackTraces = false) {g : gg_G}  {bs wd mb u : Nat}  : gg_C l g yJ37_ensureCapacity (ws_ yJ37_ensureCapacity cJ37_ensureCapacity 3 none) { frames := 1, cells := 0, slots := 0, locals := 21 } [.ref bs, .int (nI 1)] [(bs, .inl (21, [.ref wd, .int (nI u), .int 1])), (wd, gg_al g 1 (fun _ => lM mb))] [] (fun vv CC => vv = none ∧ CC = []) gg_no := by
  refine gg_of (lv := [_, _, _]) (by decide) hl (Nat.le_of_ble_eq_true rfl) rfl ?_
  intro p e R s m args below meth c A Q hRf hRl hRc hRs E Fn hnm hex
  refine gg_aload_n (pc := 0) E dJ37_ensureCapacity_0 rfl rfl ?_
  refine gg_get (pc := 1) E ck_J37 0 q2279 rfl (by decide) dJ37_ensureCapacity_1 (gg_r 0 rfl) rfl ?_
  refine gg_alen (pc := 4) E 3 rfl dJ37_ensureCapacity_4 (gg_r 1 rfl) ?_
  refine gg_iload_n (pc := 5) E dJ37_ensureCapacity_5 rfl rfl ?_
  refine gg_icmpN_ge (tgt := 38) (pc := 6) E 1 1 rfl rfl (by omega) (by omega) dJ37_ensureCapacity_6 (by decide) (fun c6 => ?_) (fun c6 => ?_)
  rotate_left
  · exact absurd c6 (by omega)
  refine gg_vret (pc := 38) E Fn rfl dJ37_ensureCapacity_38 (by first | exact Nat.le_of_ble_eq_true rfl | (dsimp only; omega)) (by first | exact Nat.le_of_ble_eq_true rfl | (dsimp only; omega)) ?_
  exact ⟨rfl, rfl⟩
set_option maxHeartbeats 4000000 in
theorem ct_J37_checkInvariants {l : Launch} (hl : l.stackTraces = false) {g : gg_G}  {bs : Nat}  : gg_C l g yJ37_checkInvariants (ws_ yJ37_checkInvariants cJ37_checkInvariants 1 none) { frames := 0, cells := 0, slots := 0, locals := 0 } [.ref bs] [] [] (fun vv CC => vv = none ∧ CC = []) gg_no := by
  refine gg_of (lv := [_]) (by decide) hl (Nat.le_of_ble_eq_true rfl) rfl ?_
  intro p e R s m args below meth c A Q hRf hRl hRc hRs E Fn hnm hex
  refine gg_gets (pc := 0) E 7 rfl q2323 dJ37_checkInvariants_0 ?_
  refine gg_ifN_ne (tgt := 37) (pc := 3) E 1 rfl (by decide) dJ37_checkInvariants_3 (by decide) (fun _ => ?_) (fun q => absurd q (by decide))
  refine gg_gets (pc := 37) E 7 rfl q2323 dJ37_checkInvariants_37 ?_
  refine gg_ifN_ne (tgt := 70) (pc := 40) E 1 rfl (by decide) dJ37_checkInvariants_40 (by decide) (fun _ => ?_) (fun q => absurd q (by decide))
  refine gg_gets (pc := 70) E 7 rfl q2323 dJ37_checkInvariants_70 ?_
  refine gg_ifN_ne (tgt := 110) (pc := 73) E 1 rfl (by decide) dJ37_checkInvariants_73 (by decide) (fun _ => ?_) (fun q => absurd q (by decide))
  refine gg_vret (pc := 110) E Fn rfl dJ37_checkInvariants_110 (by first | exact Nat.le_of_ble_eq_true rfl | (dsimp only; omega)) (by first | exact Nat.le_of_ble_eq_true rfl | (dsimp only; omega)) ?_
  exact ⟨rfl, rfl⟩
set_option maxHeartbeats 4000000 in
theorem ct_J37_expandTo {l : Launch} (hl : l.stackTraces = false) {g : gg_G}  {bs wd mb : Nat}  : gg_C l g yJ37_expandTo (ws_ yJ37_expandTo cJ37_expandTo 3 none) { frames := 2, cells := 0, slots := 0, locals := 43 } [.ref bs, .int (nI 0)] [(wd, gg_al g 1 (fun _ => lM mb))] [[(bs, .inl (21, [.ref wd, .int (nI (bwu mb)), .int 1]))]] (fun vv CC => vv = none ∧ CC = [[(bs, .inl (21, [.ref wd, .int (nI 1), .int 1]))]]) gg_no := by
  refine gg_of (lv := [_, _, _]) (by decide) hl (Nat.le_of_ble_eq_true rfl) rfl ?_
  intro p e R s m args below meth c A Q hRf hRl hRc hRs E Fn hnm hex
  have hb : bwu mb = 0 ∨ bwu mb = 1 := by unfold bwu; split; exact Or.inl rfl; exact Or.inr rfl
  refine gg_iload_n (pc := 0) E dJ37_expandTo_0 rfl rfl ?_
  refine gg_iconst (v := 1) (pc := 1) E dJ37_expandTo_1 (by decide) ?_
  refine gg_iaddN (pc := 2) E 0 1 rfl rfl dJ37_expandTo_2 ?_
  refine gg_istore_n (lv' := [_, _, _]) (pc := 3) E dJ37_expandTo_3 rfl (Nat.le_of_ble_eq_true rfl) rfl rfl ?_
  refine gg_aload_n (pc := 4) E dJ37_expandTo_4 rfl rfl ?_
  refine gg_get (pc := 5) E ck_J37 1 q2280 rfl (by decide) dJ37_expandTo_5 (gg_i 0 rfl) rfl ?_
  refine gg_iload_n (pc := 8) E dJ37_expandTo_8 rfl rfl ?_
  refine gg_icmpN_ge (tgt := 22) (pc := 9) E (bwu mb) (0 + 1) rfl rfl (by omega) (by omega) dJ37_expandTo_9 (by decide) (fun c9 => ?_) (fun c9 => ?_)
  · refine gg_vret (pc := 22) E Fn rfl dJ37_expandTo_22 (by first | exact Nat.le_of_ble_eq_true rfl | (dsimp only; omega)) (by first | exact Nat.le_of_ble_eq_true rfl | (dsimp only; omega)) ?_
    exact ⟨rfl, by rw [show bwu mb = 1 by omega]⟩
  · refine gg_aload_n (pc := 12) E dJ37_expandTo_12 rfl rfl ?_
    refine gg_iload_n (pc := 13) E dJ37_expandTo_13 rfl rfl ?_
    refine gg_callV (F := [_]) (As := [_]) (rest := []) (pc := 14) E ck_J37 (ct_J37_ensureCapacity hl ) (cwV 1 E.2.2.2.2.1 (lw_V q2306 q2308 qs50 q203 q2309) rfl rfl rfl (by decide +kernel) ⟨by rw [hRf]; exact Nat.le_of_ble_eq_true rfl, by rw [hRl]; exact Nat.le_of_ble_eq_true rfl⟩) dJ37_expandTo_14 [] (by decide) rfl rfl (List.forall_mem_cons.mpr ⟨(gg_i 0 rfl), (List.forall_mem_cons.mpr ⟨(gg_r 0 rfl), (fun _ h => by cases h)⟩)⟩) (gg_i 0 rfl) rfl rfl (Nat.le_of_ble_eq_true rfl) (by first | (rw [hRc]; exact Nat.le_of_ble_eq_true rfl) | (rw [hRc]; dsimp only; omega)) (by first | (rw [hRs]; exact Nat.le_of_ble_eq_true rfl) | (rw [hRs]; dsimp only; omega)) ?_ (fun X q C1 h => h.elim)
    rintro _ _ ⟨rfl, rfl⟩
    dsimp only [List.cons_append, List.nil_append, Option.toList]
    refine gg_aload_n (pc := 17) E dJ37_expandTo_17 rfl rfl ?_
    refine gg_iload_n (pc := 18) E dJ37_expandTo_18 rfl rfl ?_
    refine gg_put (fs' := [_, _, _]) (M' := [_]) (pc := 19) E ck_J37 1 q2280 rfl (by decide) dJ37_expandTo_19 0 rfl rfl (rfl) rfl (Nat.le_of_ble_eq_true rfl) rfl rfl ?_
    refine gg_vret (pc := 22) E Fn rfl dJ37_expandTo_22 (by first | exact Nat.le_of_ble_eq_true rfl | (dsimp only; omega)) (by first | exact Nat.le_of_ble_eq_true rfl | (dsimp only; omega)) ?_
    exact ⟨rfl, rfl⟩
set_option maxHeartbeats 4000000 in
theorem ct_J37_set {l : Launch} (hl : l.stackTraces = false) {g : gg_G}  {bs wd mb : Nat} {i1 : Nat} (hi : i1 < 10) (hm : mb < 1024) : gg_C l g yJ37_set (ws_ yJ37_set cJ37_set 3 none) { frames := 8, cells := 0, slots := 0, locals := 140 } [.ref bs, .int (nI i1)] [] [[(bs, .inl (21, [.ref wd, .int (nI (bwu mb)), .int 1]))], [(wd, gg_al g 1 (fun _ => lM mb))]] (fun vv CC => vv = none ∧ CC = [[(bs, .inl (21, [.ref wd, .int (nI (bwu (mb ||| 2 ^ i1))), .int 1]))], [(wd, gg_al g 1 (fun _ => lM (mb ||| 2 ^ i1)))]]) gg_no := by
  refine gg_of (lv := [_, _, _]) (by decide) hl (Nat.le_of_ble_eq_true rfl) rfl ?_
  intro p e R s m args below meth c A Q hRf hRl hRc hRs E Fn hnm hex
  refine gg_iload_n (pc := 0) E dJ37_set_0 rfl rfl ?_
  refine gg_ifN_ge (tgt := 31) (pc := 1) E i1 rfl (by omega) dJ37_set_1 (by decide) (fun c1 => ?_) (fun c1 => ?_)
  rotate_left
  · exact c1.elim
  refine gg_iload_n (pc := 31) E dJ37_set_31 rfl rfl ?_
  refine gg_callS (F := [_, _]) (As := [.int (nI i1)]) (rest := []) (pc := 32) E (ct_J37_wordIndex hl (by first | assumption | omega)) (va_cwS 1 E.2.2.2.2.1 (lw_S q2276 q2277 q203 q2278) rfl rfl rfl (by decide +kernel) ⟨by rw [hRf]; exact Nat.le_of_ble_eq_true rfl, by rw [hRl]; exact Nat.le_of_ble_eq_true rfl⟩) dJ37_set_32 [] (by decide) rfl rfl (fun _ h => by cases h) rfl rfl (Nat.le_of_ble_eq_true rfl) (by first | (rw [hRc]; exact Nat.le_of_ble_eq_true rfl) | (rw [hRc]; dsimp only; omega)) (by first | (rw [hRs]; exact Nat.le_of_ble_eq_true rfl) | (rw [hRs]; dsimp only; omega)) ?_ (fun X q C1 h => h.elim)
  rintro _ _ ⟨rfl, rfl⟩
  dsimp only [List.cons_append, List.nil_append, Option.toList]
  refine gg_istore_n (lv' := [_, _, _]) (pc := 35) E dJ37_set_35 rfl (Nat.le_of_ble_eq_true rfl) rfl rfl ?_
  refine gg_aload_n (pc := 36) E dJ37_set_36 rfl rfl ?_
  refine gg_iload_n (pc := 37) E dJ37_set_37 rfl rfl ?_
  refine gg_callV (F := [_]) (As := [_]) (rest := []) (pc := 38) E ck_J37 (ct_J37_expandTo hl ) (cwV 1 E.2.2.2.2.1 (lw_V q2302 q2304 qs49 q203 q2305) rfl rfl rfl (by decide +kernel) ⟨by rw [hRf]; exact Nat.le_of_ble_eq_true rfl, by rw [hRl]; exact Nat.le_of_ble_eq_true rfl⟩) dJ37_set_38 [0] (by decide) rfl rfl (List.forall_mem_cons.mpr ⟨(gg_i 0 rfl), (fun _ h => by cases h)⟩) (gg_i 0 rfl) rfl rfl (Nat.le_of_ble_eq_true rfl) (by first | (rw [hRc]; exact Nat.le_of_ble_eq_true rfl) | (rw [hRc]; dsimp only; omega)) (by first | (rw [hRs]; exact Nat.le_of_ble_eq_true rfl) | (rw [hRs]; dsimp only; omega)) ?_ (fun X q C1 h => h.elim)
  rintro _ _ ⟨rfl, rfl⟩
  dsimp only [List.cons_append, List.nil_append, Option.toList]
  refine gg_aload_n (pc := 41) E dJ37_set_41 rfl rfl ?_
  refine gg_get (pc := 42) E ck_J37 0 q2279 rfl (by decide) dJ37_set_42 (gg_i 0 rfl) rfl ?_
  refine gg_iload_n (pc := 45) E dJ37_set_45 rfl rfl ?_
  refine gg_dup2_11 (pc := 46) E dJ37_set_46 rfl rfl ?_
  refine gg_laldN (pc := 47) E 0 rfl (by omega) (by omega) dJ37_set_47 (gg_i 1 rfl) ?_
  refine gg_lconst (v := 1) (pc := 48) E dJ37_set_48 (by decide) ?_
  refine gg_iload_n (pc := 49) E dJ37_set_49 rfl rfl ?_
  refine gg_lshl (pc := 50) E dJ37_set_50 rfl ?_
  refine gg_lor (pc := 51) E dJ37_set_51 ?_
  refine gg_lastN (M' := [_, _]) (pc := 52) E 0 rfl (by omega) (by omega) dJ37_set_52 1 rfl rfl ?_
  refine gg_cel (y := gg_al g 1 (fun _ => lM (mb ||| 2 ^ i1))) 1 rfl (gg_al1 (bs_set mb hm i1 hi)) rfl ?_
  refine gg_aload_n (pc := 53) E dJ37_set_53 rfl rfl ?_
  refine gg_callV (F := [_, _]) (As := []) (rest := []) (pc := 54) E ck_J37 (ct_J37_checkInvariants hl ) (cwV 0 E.2.2.2.2.1 (lw_V q2319 q2321 qs51 q203 q2322) rfl rfl rfl (by decide +kernel) ⟨by rw [hRf]; exact Nat.le_of_ble_eq_true rfl, by rw [hRl]; exact Nat.le_of_ble_eq_true rfl⟩) dJ37_set_54 [] (by decide) rfl rfl (fun _ h => by cases h) (gg_i 0 rfl) rfl rfl (Nat.le_of_ble_eq_true rfl) (by first | (rw [hRc]; exact Nat.le_of_ble_eq_true rfl) | (rw [hRc]; dsimp only; omega)) (by first | (rw [hRs]; exact Nat.le_of_ble_eq_true rfl) | (rw [hRs]; dsimp only; omega)) ?_ (fun X q C1 h => h.elim)
  rintro _ _ ⟨rfl, rfl⟩
  dsimp only [List.cons_append, List.nil_append, Option.toList]
  refine gg_vret (pc := 57) E Fn rfl dJ37_set_57 (by first | exact Nat.le_of_ble_eq_true rfl | (dsimp only; omega)) (by first | exact Nat.le_of_ble_eq_true rfl | (dsimp only; omega)) ?_
  exact ⟨rfl, by rw [bwu_or]⟩
set_option maxHeartbeats 4000000 in
theorem ct_J37_get {l : Launch} (hl : l.stackTraces = false) {g : gg_G}  {bs wd mb : Nat} {i1 : Nat} (hi : i1 < 10) (hm : mb < 1024) : gg_C l g yJ37_get (ws_ yJ37_get cJ37_get 3 (some .boolean)) { frames := 8, cells := 0, slots := 0, locals := 140 } [.ref bs, .int (nI i1)] [(bs, .inl (21, [.ref wd, .int (nI (bwu mb)), .int 1])), (wd, gg_al g 1 (fun _ => lM mb))] [] (fun vv CC => vv = some (.int (if mb.testBit i1 = true then 1 else 0)) ∧ CC = []) gg_no := by
  refine gg_of (lv := [_, _, _]) (by decide) hl (Nat.le_of_ble_eq_true rfl) rfl ?_
  intro p e R s m args below meth c A Q hRf hRl hRc hRs E Fn hnm hex
  have hb : bwu mb = 0 ∨ bwu mb = 1 := by unfold bwu; split; exact Or.inl rfl; exact Or.inr rfl
  refine gg_iload_n (pc := 0) E dJ37_get_0 rfl rfl ?_
  refine gg_ifN_ge (tgt := 31) (pc := 1) E i1 rfl (by omega) dJ37_get_1 (by decide) (fun c1 => ?_) (fun c1 => ?_)
  rotate_left
  · exact c1.elim
  refine gg_aload_n (pc := 31) E dJ37_get_31 rfl rfl ?_
  refine gg_callV (F := []) (As := []) (rest := []) (pc := 32) E ck_J37 (ct_J37_checkInvariants hl ) (cwV 0 E.2.2.2.2.1 (lw_V q2319 q2321 qs51 q203 q2322) rfl rfl rfl (by decide +kernel) ⟨by rw [hRf]; exact Nat.le_of_ble_eq_true rfl, by rw [hRl]; exact Nat.le_of_ble_eq_true rfl⟩) dJ37_get_32 [] (by decide) rfl rfl (fun _ h => by cases h) (gg_r 0 rfl) rfl rfl (Nat.le_of_ble_eq_true rfl) (by first | (rw [hRc]; exact Nat.le_of_ble_eq_true rfl) | (rw [hRc]; dsimp only; omega)) (by first | (rw [hRs]; exact Nat.le_of_ble_eq_true rfl) | (rw [hRs]; dsimp only; omega)) ?_ (fun X q C1 h => h.elim)
  rintro _ _ ⟨rfl, rfl⟩
  dsimp only [List.cons_append, List.nil_append, Option.toList]
  refine gg_iload_n (pc := 35) E dJ37_get_35 rfl rfl ?_
  refine gg_callS (F := []) (As := [.int (nI i1)]) (rest := []) (pc := 36) E (ct_J37_wordIndex hl (by first | assumption | omega)) (va_cwS 1 E.2.2.2.2.1 (lw_S q2276 q2277 q203 q2278) rfl rfl rfl (by decide +kernel) ⟨by rw [hRf]; exact Nat.le_of_ble_eq_true rfl, by rw [hRl]; exact Nat.le_of_ble_eq_true rfl⟩) dJ37_get_36 [] (by decide) rfl rfl (fun _ h => by cases h) rfl rfl (Nat.le_of_ble_eq_true rfl) (by first | (rw [hRc]; exact Nat.le_of_ble_eq_true rfl) | (rw [hRc]; dsimp only; omega)) (by first | (rw [hRs]; exact Nat.le_of_ble_eq_true rfl) | (rw [hRs]; dsimp only; omega)) ?_ (fun X q C1 h => h.elim)
  rintro _ _ ⟨rfl, rfl⟩
  dsimp only [List.cons_append, List.nil_append, Option.toList]
  refine gg_istore_n (lv' := [_, _, _]) (pc := 39) E dJ37_get_39 rfl (Nat.le_of_ble_eq_true rfl) rfl rfl ?_
  refine gg_iload_n (pc := 40) E dJ37_get_40 rfl rfl ?_
  refine gg_aload_n (pc := 41) E dJ37_get_41 rfl rfl ?_
  refine gg_get (pc := 42) E ck_J37 1 q2280 rfl (by decide) dJ37_get_42 (gg_r 0 rfl) rfl ?_
  refine gg_icmpN_ge (tgt := 67) (pc := 45) E 0 (bwu mb) rfl rfl (by omega) (by omega) dJ37_get_45 (by decide) (fun c45 => ?_) (fun c45 => ?_)
  · refine gg_iconst (v := 0) (pc := 67) E dJ37_get_67 (by decide) ?_
    refine gg_iret (pc := 68) E Fn rfl (gg_nz (by first | decide | assumption | exact gg_b01 | (split <;> decide))) dJ37_get_68 (by first | exact Nat.le_of_ble_eq_true rfl | (dsimp only; omega)) (by first | exact Nat.le_of_ble_eq_true rfl | (dsimp only; omega)) ?_
    exact ⟨by rw [if_neg (show ¬ mb.testBit i1 = true from by have hm0 : mb = 0 := (by by_cases e : mb = 0; exact e; have z : bwu mb = 1 := if_neg e; omega); rw [hm0, Nat.zero_testBit]; decide)], rfl⟩
  · refine gg_aload_n (pc := 48) E dJ37_get_48 rfl rfl ?_
    refine gg_get (pc := 49) E ck_J37 0 q2279 rfl (by decide) dJ37_get_49 (gg_r 0 rfl) rfl ?_
    refine gg_iload_n (pc := 52) E dJ37_get_52 rfl rfl ?_
    refine gg_laldN (pc := 53) E 0 rfl (by omega) (by omega) dJ37_get_53 (gg_r 1 rfl) ?_
    refine gg_lconst (v := 1) (pc := 54) E dJ37_get_54 (by decide) ?_
    refine gg_iload_n (pc := 55) E dJ37_get_55 rfl rfl ?_
    refine gg_lshl (pc := 56) E dJ37_get_56 rfl ?_
    refine gg_land (pc := 57) E dJ37_get_57 ?_
    refine gg_lconst (v := 0) (pc := 58) E dJ37_get_58 (by decide) ?_
    refine gg_lcmp (pc := 59) E dJ37_get_59 ?_
    refine gg_if_eq (tgt := 67) (pc := 60) E dJ37_get_60 (by decide) (fun c60 => ?_) (fun c60 => ?_)
    · refine gg_iconst (v := 0) (pc := 67) E dJ37_get_67 (by decide) ?_
      refine gg_iret (pc := 68) E Fn rfl (gg_nz (by first | decide | assumption | exact gg_b01 | (split <;> decide))) dJ37_get_68 (by first | exact Nat.le_of_ble_eq_true rfl | (dsimp only; omega)) (by first | exact Nat.le_of_ble_eq_true rfl | (dsimp only; omega)) ?_
      exact ⟨by rw [if_neg (by rw [(bs_get mb hm i1 hi).mp c60]; decide)], rfl⟩
    · refine gg_iconst (v := 1) (pc := 63) E dJ37_get_63 (by decide) ?_
      refine gg_goto (tgt := 68) (pc := 64) E dJ37_get_64 (by decide) ?_
      refine gg_iret (pc := 68) E Fn rfl (gg_nz (by first | decide | assumption | exact gg_b01 | (split <;> decide))) dJ37_get_68 (by first | exact Nat.le_of_ble_eq_true rfl | (dsimp only; omega)) (by first | exact Nat.le_of_ble_eq_true rfl | (dsimp only; omega)) ?_
      exact ⟨by rw [if_pos (by cases h : mb.testBit i1; exact absurd ((bs_get mb hm i1 hi).mpr h) c60; rfl)], rfl⟩
set_option maxHeartbeats 4000000 in
theorem ct_J34_bitCount {l : Launch} (hl : l.stackTraces = false) {g : gg_G}  {mb : Nat} (hm : mb < 1024) : gg_C l g yJ34_bitCount (ws_ yJ34_bitCount cJ34_bitCount 2 (some .int)) { frames := 0, cells := 0, slots := 0, locals := 0 } [.long (lM mb)] [] [] (fun vv CC => vv = some (.int (nI (bcn mb))) ∧ CC = []) gg_no := by
  refine gg_of (lv := [_, _]) (by decide) hl (Nat.le_of_ble_eq_true rfl) rfl ?_
  intro p e R s m args below meth c A Q hRf hRl hRc hRs E Fn hnm hex
  refine gg_lload_n (pc := 0) E dJ34_bitCount_0 rfl rfl ?_
  refine gg_lload_n (pc := 1) E dJ34_bitCount_1 rfl rfl ?_
  refine gg_iconst (v := 1) (pc := 2) E dJ34_bitCount_2 (by decide) ?_
  refine gg_lushr (pc := 3) E dJ34_bitCount_3 rfl ?_
  refine gg_ldc2 (pc := 4) E q2332 dJ34_bitCount_4 ?_
  refine gg_land (pc := 7) E dJ34_bitCount_7 ?_
  refine gg_lsub (pc := 8) E dJ34_bitCount_8 ?_
  refine gg_lstore_n (lv' := [_, _]) (pc := 9) E dJ34_bitCount_9 rfl (Nat.le_of_ble_eq_true rfl) rfl rfl ?_
  refine gg_lload_n (pc := 10) E dJ34_bitCount_10 rfl rfl ?_
  refine gg_ldc2 (pc := 11) E q2333 dJ34_bitCount_11 ?_
  refine gg_land (pc := 14) E dJ34_bitCount_14 ?_
  refine gg_lload_n (pc := 15) E dJ34_bitCount_15 rfl rfl ?_
  refine gg_iconst (v := 2) (pc := 16) E dJ34_bitCount_16 (by decide) ?_
  refine gg_lushr (pc := 17) E dJ34_bitCount_17 rfl ?_
  refine gg_ldc2 (pc := 18) E q2333 dJ34_bitCount_18 ?_
  refine gg_land (pc := 21) E dJ34_bitCount_21 ?_
  refine gg_ladd (pc := 22) E dJ34_bitCount_22 ?_
  refine gg_lstore_n (lv' := [_, _]) (pc := 23) E dJ34_bitCount_23 rfl (Nat.le_of_ble_eq_true rfl) rfl rfl ?_
  refine gg_lload_n (pc := 24) E dJ34_bitCount_24 rfl rfl ?_
  refine gg_lload_n (pc := 25) E dJ34_bitCount_25 rfl rfl ?_
  refine gg_iconst (v := 4) (pc := 26) E dJ34_bitCount_26 (by decide) ?_
  refine gg_lushr (pc := 27) E dJ34_bitCount_27 rfl ?_
  refine gg_ladd (pc := 28) E dJ34_bitCount_28 ?_
  refine gg_ldc2 (pc := 29) E q2334 dJ34_bitCount_29 ?_
  refine gg_land (pc := 32) E dJ34_bitCount_32 ?_
  refine gg_lstore_n (lv' := [_, _]) (pc := 33) E dJ34_bitCount_33 rfl (Nat.le_of_ble_eq_true rfl) rfl rfl ?_
  refine gg_lload_n (pc := 34) E dJ34_bitCount_34 rfl rfl ?_
  refine gg_lload_n (pc := 35) E dJ34_bitCount_35 rfl rfl ?_
  refine gg_bipush (v := 8) (pc := 36) E dJ34_bitCount_36 (by decide) ?_
  refine gg_lushr (pc := 38) E dJ34_bitCount_38 rfl ?_
  refine gg_ladd (pc := 39) E dJ34_bitCount_39 ?_
  refine gg_lstore_n (lv' := [_, _]) (pc := 40) E dJ34_bitCount_40 rfl (Nat.le_of_ble_eq_true rfl) rfl rfl ?_
  refine gg_lload_n (pc := 41) E dJ34_bitCount_41 rfl rfl ?_
  refine gg_lload_n (pc := 42) E dJ34_bitCount_42 rfl rfl ?_
  refine gg_bipush (v := 16) (pc := 43) E dJ34_bitCount_43 (by decide) ?_
  refine gg_lushr (pc := 45) E dJ34_bitCount_45 rfl ?_
  refine gg_ladd (pc := 46) E dJ34_bitCount_46 ?_
  refine gg_lstore_n (lv' := [_, _]) (pc := 47) E dJ34_bitCount_47 rfl (Nat.le_of_ble_eq_true rfl) rfl rfl ?_
  refine gg_lload_n (pc := 48) E dJ34_bitCount_48 rfl rfl ?_
  refine gg_lload_n (pc := 49) E dJ34_bitCount_49 rfl rfl ?_
  refine gg_bipush (v := 32) (pc := 50) E dJ34_bitCount_50 (by decide) ?_
  refine gg_lushr (pc := 52) E dJ34_bitCount_52 rfl ?_
  refine gg_ladd (pc := 53) E dJ34_bitCount_53 ?_
  refine gg_lstore_n (lv' := [_, _]) (pc := 54) E dJ34_bitCount_54 rfl (Nat.le_of_ble_eq_true rfl) rfl rfl ?_
  refine gg_lload_n (pc := 55) E dJ34_bitCount_55 rfl rfl ?_
  refine gg_l2i (pc := 56) E dJ34_bitCount_56 rfl ?_
  refine gg_bipush (v := 127) (pc := 57) E dJ34_bitCount_57 (by decide) ?_
  refine gg_iand (pc := 59) E dJ34_bitCount_59 ?_
  refine gg_topI (y := nI (bcn mb)) (bs_cnt mb hm) ?_
  refine gg_iret (pc := 60) E Fn rfl (rfl) dJ34_bitCount_60 (by first | exact Nat.le_of_ble_eq_true rfl | (dsimp only; omega)) (by first | exact Nat.le_of_ble_eq_true rfl | (dsimp only; omega)) ?_
  exact ⟨rfl, rfl⟩
set_option maxHeartbeats 4000000 in
theorem ct_J37_cardinality {l : Launch} (hl : l.stackTraces = false) {g : gg_G}  {bs wd mb : Nat} (hm : mb < 1024) : gg_C l g yJ37_cardinality (ws_ yJ37_cardinality cJ37_cardinality 3 (some .int)) { frames := 1, cells := 0, slots := 0, locals := 21 } [.ref bs] [(bs, .inl (21, [.ref wd, .int (nI (bwu mb)), .int 1])), (wd, gg_al g 1 (fun _ => lM mb))] [] (fun vv CC => vv = some (.int (nI (bcn mb))) ∧ CC = []) gg_no := by
  refine gg_of (lv := [_, _, _]) (by decide) hl (Nat.le_of_ble_eq_true rfl) rfl ?_
  intro p e R s m args below meth c A Q hRf hRl hRc hRs E Fn hnm hex
  by_cases hm0 : mb = 0
  · have hb : bwu mb = 0 := if_pos hm0
    refine gg_iconst (v := 0) (pc := 0) E dJ37_cardinality_0 (by decide) ?_
    refine gg_istore_n (lv' := [_, _, _]) (pc := 1) E dJ37_cardinality_1 rfl (Nat.le_of_ble_eq_true rfl) rfl rfl ?_
    refine gg_iconst (v := 0) (pc := 2) E dJ37_cardinality_2 (by decide) ?_
    refine gg_istore_n (lv' := [_, _, _]) (pc := 3) E dJ37_cardinality_3 rfl (Nat.le_of_ble_eq_true rfl) rfl rfl ?_
    refine gg_iload_n (pc := 4) E dJ37_cardinality_4 rfl rfl ?_
    refine gg_aload_n (pc := 5) E dJ37_cardinality_5 rfl rfl ?_
    refine gg_get (pc := 6) E ck_J37 1 q2280 rfl (by decide) dJ37_cardinality_6 (gg_r 0 rfl) rfl ?_
    refine gg_icmpN_ge (tgt := 30) (pc := 9) E 0 (bwu mb) rfl rfl (by omega) (by omega) dJ37_cardinality_9 (by decide) (fun c9 => ?_) (fun c9 => ?_)
    rotate_left
    · exact absurd c9 (by omega)
    refine gg_iload_n (pc := 30) E dJ37_cardinality_30 rfl rfl ?_
    refine gg_iret (pc := 31) E Fn rfl (rfl) dJ37_cardinality_31 (by first | exact Nat.le_of_ble_eq_true rfl | (dsimp only; omega)) (by first | exact Nat.le_of_ble_eq_true rfl | (dsimp only; omega)) ?_
    exact ⟨by rw [hm0]; rfl, rfl⟩
  · have hb : bwu mb = 1 := if_neg hm0
    refine gg_iconst (v := 0) (pc := 0) E dJ37_cardinality_0 (by decide) ?_
    refine gg_istore_n (lv' := [_, _, _]) (pc := 1) E dJ37_cardinality_1 rfl (Nat.le_of_ble_eq_true rfl) rfl rfl ?_
    refine gg_iconst (v := 0) (pc := 2) E dJ37_cardinality_2 (by decide) ?_
    refine gg_istore_n (lv' := [_, _, _]) (pc := 3) E dJ37_cardinality_3 rfl (Nat.le_of_ble_eq_true rfl) rfl rfl ?_
    refine gg_iload_n (pc := 4) E dJ37_cardinality_4 rfl rfl ?_
    refine gg_aload_n (pc := 5) E dJ37_cardinality_5 rfl rfl ?_
    refine gg_get (pc := 6) E ck_J37 1 q2280 rfl (by decide) dJ37_cardinality_6 (gg_r 0 rfl) rfl ?_
    refine gg_icmpN_ge (tgt := 30) (pc := 9) E 0 (bwu mb) rfl rfl (by omega) (by omega) dJ37_cardinality_9 (by decide) (fun c9 => ?_) (fun c9 => ?_)
    · exact absurd c9 (by omega)
    
    refine gg_iload_n (pc := 12) E dJ37_cardinality_12 rfl rfl ?_
    refine gg_aload_n (pc := 13) E dJ37_cardinality_13 rfl rfl ?_
    refine gg_get (pc := 14) E ck_J37 0 q2279 rfl (by decide) dJ37_cardinality_14 (gg_r 0 rfl) rfl ?_
    refine gg_iload_n (pc := 17) E dJ37_cardinality_17 rfl rfl ?_
    refine gg_laldN (pc := 18) E 0 rfl (by omega) (by omega) dJ37_cardinality_18 (gg_r 1 rfl) ?_
    refine gg_callS (F := []) (As := [_]) (rest := [_]) (pc := 19) E (ct_J34_bitCount hl (by first | assumption | omega)) (va_cwS 1 E.2.2.2.2.1 (lw_S q2329 q2330 q199 q2331) rfl rfl rfl (by decide +kernel) ⟨by rw [hRf]; exact Nat.le_of_ble_eq_true rfl, by rw [hRl]; exact Nat.le_of_ble_eq_true rfl⟩) dJ37_cardinality_19 [] (by decide) rfl rfl (fun _ h => by cases h) rfl rfl (Nat.le_of_ble_eq_true rfl) (by first | (rw [hRc]; exact Nat.le_of_ble_eq_true rfl) | (rw [hRc]; dsimp only; omega)) (by first | (rw [hRs]; exact Nat.le_of_ble_eq_true rfl) | (rw [hRs]; dsimp only; omega)) ?_ (fun X q C1 h => h.elim)
    rintro _ _ ⟨rfl, rfl⟩
    dsimp only [List.cons_append, List.nil_append, Option.toList]
    refine gg_iaddN (pc := 22) E 0 (bcn mb) rfl rfl dJ37_cardinality_22 ?_
    refine gg_istore_n (lv' := [_, _, _]) (pc := 23) E dJ37_cardinality_23 rfl (Nat.le_of_ble_eq_true rfl) rfl rfl ?_
    refine gg_iincN (k := 1) (lv' := [_, _, _]) (pc := 24) E 0 dJ37_cardinality_24 rfl rfl rfl (Nat.le_of_ble_eq_true rfl) rfl rfl ?_
    refine gg_goto (tgt := 4) (pc := 27) E dJ37_cardinality_27 (by decide) ?_
    refine gg_iload_n (pc := 4) E dJ37_cardinality_4 rfl rfl ?_
    refine gg_aload_n (pc := 5) E dJ37_cardinality_5 rfl rfl ?_
    refine gg_get (pc := 6) E ck_J37 1 q2280 rfl (by decide) dJ37_cardinality_6 (gg_r 0 rfl) rfl ?_
    refine gg_icmpN_ge (tgt := 30) (pc := 9) E (0 + 1) (bwu mb) rfl rfl (by omega) (by omega) dJ37_cardinality_9 (by decide) (fun c9 => ?_) (fun c9 => ?_)
    rotate_left
    · exact absurd c9 (by omega)
    refine gg_iload_n (pc := 30) E dJ37_cardinality_30 rfl rfl ?_
    refine gg_iret (pc := 31) E Fn rfl (rfl) dJ37_cardinality_31 (by first | exact Nat.le_of_ble_eq_true rfl | (dsimp only; omega)) (by first | exact Nat.le_of_ble_eq_true rfl | (dsimp only; omega)) ?_
    exact ⟨by rw [Nat.zero_add], rfl⟩

set_option maxRecDepth 100000
/-! ===== ArrayDeque of ten places ===== -/
def adF (pw : Nat → Nat) (q n : Nat) : Nat → Option Nat := fun s => if s < 10 ∧ (s + 10 - q) % 10 < n then some (pw ((s + 10 - q) % 10)) else none
theorem ad_0 {pw : Nat → Nat} {q : Nat} : adF pw q 0 = fun _ => none := by
  funext s
  unfold adF
  rw [if_neg (by omega)]
theorem ad_push {pw : Nat → Nat} {q n x : Nat} (hq : q < 10) (hn : n ≤ 8) : va_up (adF pw q n) ((q + n) % 10) (some x) = adF (llU pw n x) q (n + 1) := by
  funext s
  unfold va_up adF llU
  by_cases e : s = (q + n) % 10
  · rw [if_pos e, if_pos (by omega), if_pos (by omega)]
  · rw [if_neg e]
    by_cases h : s < 10 ∧ (s + 10 - q) % 10 < n
    · rw [if_pos h, if_pos (by omega), if_neg (by omega)]
    · rw [if_neg h, if_neg (by omega)]
theorem ad_first {pw : Nat → Nat} {q n : Nat} (hq : q < 10) (h1 : 1 ≤ n) : adF pw q n q = some (pw 0) := by
  unfold adF
  rw [if_pos (by omega), show (q + 10 - q) % 10 = 0 by omega]
theorem ad_pop0 {pw : Nat → Nat} {q n : Nat} (hq : q < 10) (h1 : 1 ≤ n) (hn : n ≤ 9) : va_up (adF pw q n) q none = adF (fun j => pw (j + 1)) ((q + 1) % 10) (n - 1) := by
  funext s
  unfold va_up adF
  by_cases e : s = q
  · rw [if_pos e, if_neg (by omega)]
  · rw [if_neg e]
    by_cases h : s < 10 ∧ (s + 10 - q) % 10 < n
    · rw [if_pos h, if_pos (by omega)]
      show some (pw ((s + 10 - q) % 10)) = some (pw ((s + 10 - (q + 1) % 10) % 10 + 1))
      rw [show (s + 10 - (q + 1) % 10) % 10 + 1 = (s + 10 - q) % 10 by omega]
    · rw [if_neg h, if_neg (by omega)]
theorem ad_last {pw : Nat → Nat} {q n : Nat} (hq : q < 10) (h1 : 1 ≤ n) (hn : n ≤ 9) : adF pw q n (((q + n) % 10 + 10 - 1) % 10) = some (pw (n - 1)) := by
  unfold adF
  rw [if_pos (by omega), show (((q + n) % 10 + 10 - 1) % 10 + 10 - q) % 10 = n - 1 by omega]
theorem ad_popn {pw : Nat → Nat} {q n : Nat} (hq : q < 10) (h1 : 1 ≤ n) (hn : n ≤ 9) : va_up (adF pw q n) (((q + n) % 10 + 10 - 1) % 10) none = adF pw q (n - 1) := by
  funext s
  unfold va_up adF
  by_cases e : s = ((q + n) % 10 + 10 - 1) % 10
  · rw [if_pos e, if_neg (by omega)]
  · rw [if_neg e]
    by_cases h : s < 10 ∧ (s + 10 - q) % 10 < n
    · rw [if_pos h, if_pos (by omega)]
    · rw [if_neg h, if_neg (by omega)]
theorem ad_se {pw : Nat → Nat} {q n : Nat} (hq : q < 10) (hn : n ≤ 9) : ∀ s, adF pw q n s ≠ none → s < 10 ∧ (if q ≤ (q + n) % 10 then q ≤ s ∧ s < (q + n) % 10 else (q ≤ s ∨ s < (q + n) % 10)) := by
  intro s hs
  unfold adF at hs
  by_cases h : s < 10 ∧ (s + 10 - q) % 10 < n
  · refine ⟨h.1, ?_⟩
    by_cases h2 : q ≤ (q + n) % 10
    · rw [if_pos h2]
      omega
    · rw [if_neg h2]
      omega
  · rw [if_neg h] at hs
    exact absurd rfl hs
theorem nI_p1 (i : Nat) : nI i + Int32.ofInt (-1) = if i = 0 then -1 else nI (i - 1) := by
  rcases i with _ | b
  · rfl
  · rw [if_neg (by omega)]
    exact pk_m1 b
theorem dec_a {i m : Nat} (hi : i < m) (hm : m ≤ 1000) (h : 0 ≤ nI i + Int32.ofInt (-1)) : nI i + Int32.ofInt (-1) = nI ((i + m - 1) % m) := by
  rw [nI_p1] at h ⊢
  by_cases e : i = 0
  · rw [if_pos e] at h
    exact absurd h (by decide)
  · rw [if_neg e, show i + m - 1 = i - 1 + m by omega, Nat.add_mod_right, Nat.mod_eq_of_lt (by omega)]
theorem dec_b {i m : Nat} (hi : i < m) (hm : m ≤ 1000) (h : ¬ 0 ≤ nI i + Int32.ofInt (-1)) : m - 1 = (i + m - 1) % m := by
  rw [nI_p1] at h
  by_cases e : i = 0
  · subst e
    rw [Nat.zero_add, Nat.mod_eq_of_lt (by omega)]
  · rw [if_neg e] at h
    exact absurd (Int32.le_iff_toInt_le.mpr (by rw [nI_toInt (by omega)]; show (0 : Int) ≤ _; omega)) h
theorem sub_nn : ∀ q, q < 10 → ∀ n, n ≤ 9 → (if 0 ≤ nI ((q + n) % 10) - nI q then nI ((q + n) % 10) - nI q else nI ((q + n) % 10) - nI q + nI 10) = nI n := by decide +kernel
theorem sub_n {q n : Nat} (hq : q < 10) (hn : n ≤ 9) : (if 0 ≤ nI ((q + n) % 10) - nI q then nI ((q + n) % 10) - nI q else nI ((q + n) % 10) - nI q + nI 10) = nI n := sub_nn q hq n hn
set_option maxHeartbeats 4000000 in
theorem ct_J22_sub {l : Launch} (hl : l.stackTraces = false) {g : gg_G}  {a1 b1 m1 : Int32}  : gg_C l g yJ22_sub (ws_ yJ22_sub cJ22_sub 3 (some .int)) { frames := 0, cells := 0, slots := 0, locals := 0 } [.int a1, .int b1, .int m1] [] [] (fun vv CC => vv = some (.int (if 0 ≤ a1 - b1 then a1 - b1 else a1 - b1 + m1)) ∧ CC = []) gg_no := by
  refine gg_of (lv := [_, _, _]) (by decide) hl (Nat.le_of_ble_eq_true rfl) rfl ?_
  intro p e R s m args below meth c A Q hRf hRl hRc hRs E Fn hnm hex
  refine gg_iload_n (pc := 0) E dJ22_sub_0 rfl rfl ?_
  refine gg_iload_n (pc := 1) E dJ22_sub_1 rfl rfl ?_
  refine gg_isub (pc := 2) E dJ22_sub_2 ?_
  refine gg_dup (pc := 3) E dJ22_sub_3 rfl ?_
  refine gg_istore_n (lv' := [_, _, _]) (pc := 4) E dJ22_sub_4 rfl (Nat.le_of_ble_eq_true rfl) rfl rfl ?_
  refine gg_if_ge (tgt := 12) (pc := 5) E dJ22_sub_5 (by decide) (fun c5 => ?_) (fun c5 => ?_)
  · refine gg_iload_n (pc := 12) E dJ22_sub_12 rfl rfl ?_
    refine gg_iret (pc := 13) E Fn rfl (rfl) dJ22_sub_13 (by first | exact Nat.le_of_ble_eq_true rfl | (dsimp only; omega)) (by first | exact Nat.le_of_ble_eq_true rfl | (dsimp only; omega)) ?_
    exact ⟨by rw [if_pos c5], rfl⟩
  · refine gg_iload_n (pc := 8) E dJ22_sub_8 rfl rfl ?_
    refine gg_iload_n (pc := 9) E dJ22_sub_9 rfl rfl ?_
    refine gg_iadd (pc := 10) E dJ22_sub_10 ?_
    refine gg_istore_n (lv' := [_, _, _]) (pc := 11) E dJ22_sub_11 rfl (Nat.le_of_ble_eq_true rfl) rfl rfl ?_
    refine gg_iload_n (pc := 12) E dJ22_sub_12 rfl rfl ?_
    refine gg_iret (pc := 13) E Fn rfl (rfl) dJ22_sub_13 (by first | exact Nat.le_of_ble_eq_true rfl | (dsimp only; omega)) (by first | exact Nat.le_of_ble_eq_true rfl | (dsimp only; omega)) ?_
    exact ⟨by rw [if_neg c5], rfl⟩
set_option maxHeartbeats 4000000 in
theorem ct_J22_inc {l : Launch} (hl : l.stackTraces = false) {g : gg_G}  {i1 m1 : Nat} (hi : i1 < m1) (hm : m1 ≤ 1000) : gg_C l g yJ22_inc (ws_ yJ22_inc cJ22_inc 2 (some .int)) { frames := 0, cells := 0, slots := 0, locals := 0 } [.int (nI i1), .int (nI m1)] [] [] (fun vv CC => vv = some (.int (nI ((i1 + 1) % m1))) ∧ CC = []) gg_no := by
  refine gg_of (lv := [_, _]) (by decide) hl (Nat.le_of_ble_eq_true rfl) rfl ?_
  intro p e R s m args below meth c A Q hRf hRl hRc hRs E Fn hnm hex
  refine gg_iincN (k := 1) (lv' := [_, _]) (pc := 0) E i1 dJ22_inc_0 rfl rfl rfl (Nat.le_of_ble_eq_true rfl) rfl rfl ?_
  refine gg_iload_n (pc := 3) E dJ22_inc_3 rfl rfl ?_
  refine gg_iload_n (pc := 4) E dJ22_inc_4 rfl rfl ?_
  refine gg_icmpN_lt (tgt := 10) (pc := 5) E (i1 + 1) m1 rfl rfl (by omega) (by omega) dJ22_inc_5 (by decide) (fun c5 => ?_) (fun c5 => ?_)
  · refine gg_iload_n (pc := 10) E dJ22_inc_10 rfl rfl ?_
    refine gg_iret (pc := 11) E Fn rfl (rfl) dJ22_inc_11 (by first | exact Nat.le_of_ble_eq_true rfl | (dsimp only; omega)) (by first | exact Nat.le_of_ble_eq_true rfl | (dsimp only; omega)) ?_
    exact ⟨(by rw [Nat.mod_eq_of_lt c5]; try rfl), rfl⟩
  · refine gg_iconst (v := 0) (pc := 8) E dJ22_inc_8 (by decide) ?_
    refine gg_istore_n (lv' := [_, _]) (pc := 9) E dJ22_inc_9 rfl (Nat.le_of_ble_eq_true rfl) rfl rfl ?_
    refine gg_iload_n (pc := 10) E dJ22_inc_10 rfl rfl ?_
    refine gg_iret (pc := 11) E Fn rfl (rfl) dJ22_inc_11 (by first | exact Nat.le_of_ble_eq_true rfl | (dsimp only; omega)) (by first | exact Nat.le_of_ble_eq_true rfl | (dsimp only; omega)) ?_
    exact ⟨(by rw [show (i1 + 1) % m1 = 0 from by rw [show i1 + 1 = m1 by omega, Nat.mod_self]]; try rfl), rfl⟩
set_option maxHeartbeats 4000000 in
theorem ct_J22_dec {l : Launch} (hl : l.stackTraces = false) {g : gg_G}  {i1 m1 : Nat} (hi : i1 < m1) (hm : m1 ≤ 1000) : gg_C l g yJ22_dec (ws_ yJ22_dec cJ22_dec 2 (some .int)) { frames := 0, cells := 0, slots := 0, locals := 0 } [.int (nI i1), .int (nI m1)] [] [] (fun vv CC => vv = some (.int (nI ((i1 + m1 - 1) % m1))) ∧ CC = []) gg_no := by
  refine gg_of (lv := [_, _]) (by decide) hl (Nat.le_of_ble_eq_true rfl) rfl ?_
  intro p e R s m args below meth c A Q hRf hRl hRc hRs E Fn hnm hex
  refine gg_iinc (lv' := [_, _]) (pc := 0) E dJ22_dec_0 rfl rfl (Nat.le_of_ble_eq_true rfl) rfl rfl ?_
  refine gg_iload_n (pc := 3) E dJ22_dec_3 rfl rfl ?_
  refine gg_if_ge (tgt := 11) (pc := 4) E dJ22_dec_4 (by decide) (fun c4 => ?_) (fun c4 => ?_)
  · refine gg_iload_n (pc := 11) E dJ22_dec_11 rfl rfl ?_
    refine gg_iret (pc := 12) E Fn rfl (rfl) dJ22_dec_12 (by first | exact Nat.le_of_ble_eq_true rfl | (dsimp only; omega)) (by first | exact Nat.le_of_ble_eq_true rfl | (dsimp only; omega)) ?_
    exact ⟨by rw [dec_a hi hm c4], rfl⟩
  · refine gg_iload_n (pc := 7) E dJ22_dec_7 rfl rfl ?_
    refine gg_iconst (v := 1) (pc := 8) E dJ22_dec_8 (by decide) ?_
    refine gg_isubN (pc := 9) E m1 1 rfl rfl (by omega) dJ22_dec_9 ?_
    refine gg_istore_n (lv' := [_, _]) (pc := 10) E dJ22_dec_10 rfl (Nat.le_of_ble_eq_true rfl) rfl rfl ?_
    refine gg_iload_n (pc := 11) E dJ22_dec_11 rfl rfl ?_
    refine gg_iret (pc := 12) E Fn rfl (rfl) dJ22_dec_12 (by first | exact Nat.le_of_ble_eq_true rfl | (dsimp only; omega)) (by first | exact Nat.le_of_ble_eq_true rfl | (dsimp only; omega)) ?_
    exact ⟨by rw [dec_b hi hm c4], rfl⟩
set_option maxHeartbeats 4000000 in
theorem ct_J22_elementAt {l : Launch} (hl : l.stackTraces = false) {g : gg_G}  {ea i1 r1 : Nat} {f : Nat → Option Nat} (hi : i1 < 10) (hf : f i1 = some r1) : gg_C l g yJ22_elementAt (ws_ yJ22_elementAt cJ22_elementAt 2 (some (.object "java/lang/Object"))) { frames := 0, cells := 0, slots := 0, locals := 0 } [.ref ea, .int (nI i1)] [(ea, gg_ao g 4 10 f)] [] (fun vv CC => vv = some (.ref r1) ∧ CC = []) gg_no := by
  refine gg_of (lv := [_, _]) (by decide) hl (Nat.le_of_ble_eq_true rfl) rfl ?_
  intro p e R s m args below meth c A Q hRf hRl hRc hRs E Fn hnm hex
  refine gg_aload_n (pc := 0) E dJ22_elementAt_0 rfl rfl ?_
  refine gg_iload_n (pc := 1) E dJ22_elementAt_1 rfl rfl ?_
  refine gg_aaldN (pc := 2) E 4 rfl i1 rfl (by omega) (by omega) dJ22_elementAt_2 (gg_r 0 rfl) ?_
  refine gg_topV (show va_rf (f i1) = .ref r1 from by rw [hf]; rfl) ?_
  refine gg_aret (pc := 3) E Fn rfl (Or.inl ⟨_, rfl⟩) (Or.inr ⟨_, rfl⟩) dJ22_elementAt_3 (by first | exact Nat.le_of_ble_eq_true rfl | (dsimp only; omega)) (by first | exact Nat.le_of_ble_eq_true rfl | (dsimp only; omega)) ?_
  exact ⟨rfl, rfl⟩
set_option maxHeartbeats 4000000 in
theorem ct_J22_size {l : Launch} (hl : l.stackTraces = false) {g : gg_G}  {h ea q0 n1 : Nat} {pw : Nat → Nat} (hq : q0 < 10) (hn : n1 ≤ 9) : gg_C l g yJ22_size (ws_ yJ22_size cJ22_size 1 (some .int)) { frames := 1, cells := 0, slots := 0, locals := 22 } [.ref h] [(h, .inl (17, [.ref ea, .int (nI q0), .int (nI ((q0 + n1) % 10))])), (ea, gg_ao g 4 10 (adF pw q0 n1))] [] (fun vv CC => vv = some (.int (nI n1)) ∧ CC = []) gg_no := by
  refine gg_of (lv := [_]) (by decide) hl (Nat.le_of_ble_eq_true rfl) rfl ?_
  intro p e R s m args below meth c A Q hRf hRl hRc hRs E Fn hnm hex
  refine gg_aload_n (pc := 0) E dJ22_size_0 rfl rfl ?_
  refine gg_get (pc := 1) E ck_J22 2 q817 rfl (by decide) dJ22_size_1 (gg_r 0 rfl) rfl ?_
  refine gg_aload_n (pc := 4) E dJ22_size_4 rfl rfl ?_
  refine gg_get (pc := 5) E ck_J22 1 q816 rfl (by decide) dJ22_size_5 (gg_r 0 rfl) rfl ?_
  refine gg_aload_n (pc := 8) E dJ22_size_8 rfl rfl ?_
  refine gg_get (pc := 9) E ck_J22 0 q815 rfl (by decide) dJ22_size_9 (gg_r 0 rfl) rfl ?_
  refine gg_alen (pc := 12) E 4 rfl dJ22_size_12 (gg_r 1 rfl) ?_
  refine gg_callS (F := []) (As := [_, _, _]) (rest := []) (pc := 13) E (ct_J22_sub hl ) (va_cwS 3 E.2.2.2.2.1 (lw_S q2045 q2046 q178 q2047) rfl rfl rfl (by decide +kernel) ⟨by rw [hRf]; exact Nat.le_of_ble_eq_true rfl, by rw [hRl]; exact Nat.le_of_ble_eq_true rfl⟩) dJ22_size_13 [] (by decide) rfl rfl (fun _ h => by cases h) rfl rfl (Nat.le_of_ble_eq_true rfl) (by first | (rw [hRc]; exact Nat.le_of_ble_eq_true rfl) | (rw [hRc]; dsimp only; omega)) (by first | (rw [hRs]; exact Nat.le_of_ble_eq_true rfl) | (rw [hRs]; dsimp only; omega)) ?_ (fun X q C1 h => h.elim)
  rintro _ _ ⟨rfl, rfl⟩
  dsimp only [List.cons_append, List.nil_append, Option.toList]
  refine gg_iret (pc := 16) E Fn rfl (rfl) dJ22_size_16 (by first | exact Nat.le_of_ble_eq_true rfl | (dsimp only; omega)) (by first | exact Nat.le_of_ble_eq_true rfl | (dsimp only; omega)) ?_
  exact ⟨by rw [sub_n hq hn], rfl⟩
set_option maxHeartbeats 4000000 in
theorem ct_J22_isEmpty {l : Launch} (hl : l.stackTraces = false) {g : gg_G}  {h ea q0 n1 : Nat} {pw : Nat → Nat} (hq : q0 < 10) (hn : n1 ≤ 9) : gg_C l g yJ22_isEmpty (ws_ yJ22_isEmpty cJ22_isEmpty 1 (some .boolean)) { frames := 0, cells := 0, slots := 0, locals := 0 } [.ref h] [(h, .inl (17, [.ref ea, .int (nI q0), .int (nI ((q0 + n1) % 10))]))] [] (fun vv CC => vv = some (.int (if n1 = 0 then 1 else 0)) ∧ CC = []) gg_no := by
  refine gg_of (lv := [_]) (by decide) hl (Nat.le_of_ble_eq_true rfl) rfl ?_
  intro p e R s m args below meth c A Q hRf hRl hRc hRs E Fn hnm hex
  refine gg_aload_n (pc := 0) E dJ22_isEmpty_0 rfl rfl ?_
  refine gg_get (pc := 1) E ck_J22 1 q816 rfl (by decide) dJ22_isEmpty_1 (gg_r 0 rfl) rfl ?_
  refine gg_aload_n (pc := 4) E dJ22_isEmpty_4 rfl rfl ?_
  refine gg_get (pc := 5) E ck_J22 2 q817 rfl (by decide) dJ22_isEmpty_5 (gg_r 0 rfl) rfl ?_
  refine gg_icmpN_ne (tgt := 15) (pc := 8) E q0 ((q0 + n1) % 10) rfl rfl (by omega) (by omega) dJ22_isEmpty_8 (by decide) (fun c8 => ?_) (fun c8 => ?_)
  · refine gg_iconst (v := 0) (pc := 15) E dJ22_isEmpty_15 (by decide) ?_
    refine gg_iret (pc := 16) E Fn rfl (gg_nz (by first | decide | assumption | exact gg_b01 | (split <;> decide))) dJ22_isEmpty_16 (by first | exact Nat.le_of_ble_eq_true rfl | (dsimp only; omega)) (by first | exact Nat.le_of_ble_eq_true rfl | (dsimp only; omega)) ?_
    exact ⟨by rw [if_neg (by omega)], rfl⟩
  · refine gg_iconst (v := 1) (pc := 11) E dJ22_isEmpty_11 (by decide) ?_
    refine gg_goto (tgt := 16) (pc := 12) E dJ22_isEmpty_12 (by decide) ?_
    refine gg_iret (pc := 16) E Fn rfl (gg_nz (by first | decide | assumption | exact gg_b01 | (split <;> decide))) dJ22_isEmpty_16 (by first | exact Nat.le_of_ble_eq_true rfl | (dsimp only; omega)) (by first | exact Nat.le_of_ble_eq_true rfl | (dsimp only; omega)) ?_
    exact ⟨by rw [if_pos (by omega)], rfl⟩
set_option maxHeartbeats 4000000 in
theorem ct_J22_init {l : Launch} (hl : l.stackTraces = false) {g : gg_G}  {h : Nat} {pw : Nat → Nat}  : gg_C l g yJ22_init (ws_ yJ22_init cJ22_init 2 none) { frames := 2, cells := 1, slots := 10, locals := 36 } [.ref h, .int (nI 9)] [] [[(h, .inl (17, [.null, .int 0, .int 0]))]] (fun vv CC => ∃ (ea : Nat), vv = none ∧ CC = [[(h, .inl (17, [.ref ea, .int (nI 0), .int (nI ((0 + 0) % 10))]))], [(ea, gg_ao g 4 10 (adF pw 0 0))]]) gg_no := by
  refine gg_of (lv := [_, _]) (by decide) hl (Nat.le_of_ble_eq_true rfl) rfl ?_
  intro p e R s m args below meth c A Q hRf hRl hRc hRs E Fn hnm hex
  refine gg_aload_n (pc := 0) E dJ22_init_0 rfl rfl ?_
  refine gg_callI (F := [_]) (As := []) (rest := []) (pc := 1) E (ct_J0_init hl ) (cwI 0 E.2.2.2.2.1 (lw_meth q232) rfl rfl rfl (E.2.2.2.2.1 _ q153) (E.2.2.2.2.1 _ q812) (E.2.2.2.2.1 _ q231) rfl (by decide +kernel) ⟨by rw [hRf]; exact Nat.le_of_ble_eq_true rfl, by rw [hRl]; exact Nat.le_of_ble_eq_true rfl⟩) dJ22_init_1 [] (by decide) rfl rfl (fun _ h => by cases h) rfl rfl (Nat.le_of_ble_eq_true rfl) (by first | (rw [hRc]; exact Nat.le_of_ble_eq_true rfl) | (rw [hRc]; dsimp only; omega)) (by first | (rw [hRs]; exact Nat.le_of_ble_eq_true rfl) | (rw [hRs]; dsimp only; omega)) ?_ (fun X q C1 h => h.elim)
  rintro _ _ ⟨rfl, rfl⟩
  dsimp only [List.cons_append, List.nil_append, Option.toList]
  refine gg_aload_n (pc := 4) E dJ22_init_4 rfl rfl ?_
  refine gg_iload_n (pc := 5) E dJ22_init_5 rfl rfl ?_
  refine gg_iconst (v := 1) (pc := 6) E dJ22_init_6 (by decide) ?_
  refine gg_icmpN_ge (tgt := 14) (pc := 7) E 9 1 rfl rfl (by omega) (by omega) dJ22_init_7 (by decide) (fun c7 => ?_) (fun c7 => ?_)
  rotate_left
  · exact absurd c7 (by omega)
  refine gg_iload_n (pc := 14) E dJ22_init_14 rfl rfl ?_
  refine gg_ldc (pc := 15) E q813 dJ22_init_15 ?_
  refine gg_icmp_ne (tgt := 25) (pc := 17) E dJ22_init_17 (by decide) (fun c17 => ?_) (fun c17 => ?_)
  rotate_left
  · exact absurd c17 (by decide)
  refine gg_iload_n (pc := 25) E dJ22_init_25 rfl rfl ?_
  refine gg_iconst (v := 1) (pc := 26) E dJ22_init_26 (by decide) ?_
  refine gg_iaddN (pc := 27) E 9 1 rfl rfl dJ22_init_27 ?_
  refine gg_anew (N := 10) (pc := 28) E 4 rfl q814 nq235 dJ22_init_28 (by decide) (by decide) (by decide) (by first | (rw [hRc]; exact Nat.le_of_ble_eq_true rfl) | (rw [hRc]; dsimp only; omega)) (by first | (rw [hRs]; exact Nat.le_of_ble_eq_true rfl) | (rw [hRs]; dsimp only; omega)) (fun _ => rfl) (fun a1 => ?_)
  dsimp only [List.cons_append, List.nil_append]
  refine gg_put (fs' := [_, _, _]) (M' := [_, _]) (pc := 31) E ck_J22 0 q815 rfl (by decide) dJ22_init_31 0 rfl rfl (rfl) rfl (Nat.le_of_ble_eq_true rfl) rfl rfl ?_
  refine gg_vret (pc := 34) E Fn rfl dJ22_init_34 (by first | exact Nat.le_of_ble_eq_true rfl | (dsimp only; omega)) (by first | exact Nat.le_of_ble_eq_true rfl | (dsimp only; omega)) ?_
  exact ⟨_, rfl, by rw [ad_0]; rfl⟩
set_option maxHeartbeats 4000000 in
theorem ct_J22_addLast {l : Launch} (hl : l.stackTraces = false) {g : gg_G} {ci NN : Nat} {Cn : String} {TT : u_T} {tyy : Nat → FieldType} {h ea q0 n1 : Nat} {pw : Nat → Nat} {xo : Nat} {fs : List Value} (hq : q0 < 10) (hn : n1 ≤ 8) (ck : gg_ck ci Cn TT NN tyy) (hca : Cond.castable Cn "java/lang/Object" ∈ gg_nw) : gg_C l g yJ22_addLast (ws_ yJ22_addLast cJ22_addLast 3 none) { frames := 1, cells := 0, slots := 0, locals := 21 } [.ref h, .ref xo] [(xo, .inl (ci, fs))] [[(h, .inl (17, [.ref ea, .int (nI q0), .int (nI ((q0 + n1) % 10))]))], [(ea, gg_ao g 4 10 (adF pw q0 n1))]] (fun vv CC => vv = none ∧ CC = [[(h, .inl (17, [.ref ea, .int (nI q0), .int (nI ((q0 + (n1 + 1)) % 10))]))], [(ea, gg_ao g 4 10 (adF (llU pw n1 xo) q0 (n1 + 1)))]]) gg_no := by
  refine gg_of (lv := [_, _, _]) (by decide) hl (Nat.le_of_ble_eq_true rfl) rfl ?_
  intro p e R s m args below meth c A Q hRf hRl hRc hRs E Fn hnm hex
  refine gg_aload_n (pc := 0) E dJ22_addLast_0 rfl rfl ?_
  refine gg_ifnonnull (tgt := 12) (pc := 1) E dJ22_addLast_1 (by decide) ?_
  refine gg_aload_n (pc := 12) E dJ22_addLast_12 rfl rfl ?_
  refine gg_get (pc := 13) E ck_J22 0 q815 rfl (by decide) dJ22_addLast_13 (gg_i 0 rfl) rfl ?_
  refine gg_astore_n (lv' := [_, _, _]) (pc := 16) E dJ22_addLast_16 rfl (Nat.le_of_ble_eq_true rfl) rfl rfl ?_
  refine gg_aload_n (pc := 17) E dJ22_addLast_17 rfl rfl ?_
  refine gg_aload_n (pc := 18) E dJ22_addLast_18 rfl rfl ?_
  refine gg_get (pc := 19) E ck_J22 2 q817 rfl (by decide) dJ22_addLast_19 (gg_i 0 rfl) rfl ?_
  refine gg_aload_n (pc := 22) E dJ22_addLast_22 rfl rfl ?_
  refine gg_aastRN (M' := [_, _]) (pc := 23) E 4 rfl ((q0 + n1) % 10) rfl (by omega) (by omega) dJ22_addLast_23 1 rfl (gg_isaO E (gg_r 0 rfl) ck hca) rfl ?_
  refine gg_aload_n (pc := 24) E dJ22_addLast_24 rfl rfl ?_
  refine gg_get (pc := 25) E ck_J22 1 q816 rfl (by decide) dJ22_addLast_25 (gg_i 0 rfl) rfl ?_
  refine gg_aload_n (pc := 28) E dJ22_addLast_28 rfl rfl ?_
  refine gg_aload_n (pc := 29) E dJ22_addLast_29 rfl rfl ?_
  refine gg_get (pc := 30) E ck_J22 2 q817 rfl (by decide) dJ22_addLast_30 (gg_i 0 rfl) rfl ?_
  refine gg_aload_n (pc := 33) E dJ22_addLast_33 rfl rfl ?_
  refine gg_alen (pc := 34) E 4 rfl dJ22_addLast_34 (gg_i 1 rfl) ?_
  refine gg_callS (F := [_, _]) (As := [.int (nI ((q0 + n1) % 10)), .int (nI 10)]) (rest := [_, _]) (pc := 35) E (ct_J22_inc hl (by omega) (by omega)) (va_cwS 2 E.2.2.2.2.1 (lw_S q2208 q2209 q178 q2210) rfl rfl rfl (by decide +kernel) ⟨by rw [hRf]; exact Nat.le_of_ble_eq_true rfl, by rw [hRl]; exact Nat.le_of_ble_eq_true rfl⟩) dJ22_addLast_35 [] (by decide) rfl rfl (fun _ h => by cases h) rfl rfl (Nat.le_of_ble_eq_true rfl) (by first | (rw [hRc]; exact Nat.le_of_ble_eq_true rfl) | (rw [hRc]; dsimp only; omega)) (by first | (rw [hRs]; exact Nat.le_of_ble_eq_true rfl) | (rw [hRs]; dsimp only; omega)) ?_ (fun X q C1 h => h.elim)
  rintro _ _ ⟨rfl, rfl⟩
  dsimp only [List.cons_append, List.nil_append, Option.toList]
  refine gg_dup_x1 (pc := 38) E dJ22_addLast_38 rfl rfl ?_
  refine gg_put (fs' := [_, _, _]) (M' := [_, _]) (pc := 39) E ck_J22 2 q817 rfl (by decide) dJ22_addLast_39 0 rfl rfl (rfl) rfl (Nat.le_of_ble_eq_true rfl) rfl rfl ?_
  refine gg_icmpN_ne (tgt := 50) (pc := 42) E q0 ((((q0 + n1) % 10) + 1) % 10) rfl rfl (by omega) (by omega) dJ22_addLast_42 (by decide) (fun c42 => ?_) (fun c42 => ?_)
  rotate_left
  · exact absurd c42 (by omega)
  refine gg_vret (pc := 50) E Fn rfl dJ22_addLast_50 (by first | exact Nat.le_of_ble_eq_true rfl | (dsimp only; omega)) (by first | exact Nat.le_of_ble_eq_true rfl | (dsimp only; omega)) ?_
  exact ⟨rfl, by rw [ad_push hq hn, show ((q0 + n1) % 10 + 1) % 10 = (q0 + (n1 + 1)) % 10 by omega]⟩
set_option maxHeartbeats 4000000 in
theorem ct_J22_pollFirst {l : Launch} (hl : l.stackTraces = false) {g : gg_G}  {h ea q0 n1 : Nat} {pw : Nat → Nat} (hq : q0 < 10) (hn : n1 ≤ 9) (h1 : 1 ≤ n1) : gg_C l g yJ22_pollFirst (ws_ yJ22_pollFirst cJ22_pollFirst 4 (some (.object "java/lang/Object"))) { frames := 1, cells := 0, slots := 0, locals := 21 } [.ref h] [] [[(h, .inl (17, [.ref ea, .int (nI q0), .int (nI ((q0 + n1) % 10))]))], [(ea, gg_ao g 4 10 (adF pw q0 n1))]] (fun vv CC => vv = some (.ref (pw 0)) ∧ CC = [[(h, .inl (17, [.ref ea, .int (nI ((q0 + 1) % 10)), .int (nI ((((q0 + 1) % 10) + (n1 - 1)) % 10))]))], [(ea, gg_ao g 4 10 (adF (fun j => pw (j + 1)) ((q0 + 1) % 10) (n1 - 1)))]]) gg_no := by
  refine gg_of (lv := [_, _, _, _]) (by decide) hl (Nat.le_of_ble_eq_true rfl) rfl ?_
  intro p e R s m args below meth c A Q hRf hRl hRc hRs E Fn hnm hex
  refine gg_aload_n (pc := 0) E dJ22_pollFirst_0 rfl rfl ?_
  refine gg_get (pc := 1) E ck_J22 0 q815 rfl (by decide) dJ22_pollFirst_1 (gg_i 0 rfl) rfl ?_
  refine gg_dup (pc := 4) E dJ22_pollFirst_4 rfl ?_
  refine gg_astore_n (lv' := [_, _, _, _]) (pc := 5) E dJ22_pollFirst_5 rfl (Nat.le_of_ble_eq_true rfl) rfl rfl ?_
  refine gg_aload_n (pc := 6) E dJ22_pollFirst_6 rfl rfl ?_
  refine gg_get (pc := 7) E ck_J22 1 q816 rfl (by decide) dJ22_pollFirst_7 (gg_i 0 rfl) rfl ?_
  refine gg_dup (pc := 10) E dJ22_pollFirst_10 rfl ?_
  refine gg_istore_n (lv' := [_, _, _, _]) (pc := 11) E dJ22_pollFirst_11 rfl (Nat.le_of_ble_eq_true rfl) rfl rfl ?_
  refine gg_callS (F := [_, _]) (As := [_, .int (nI q0)]) (rest := []) (pc := 12) E (ct_J22_elementAt hl (hq) (ad_first hq h1)) (va_cwS 2 E.2.2.2.2.1 (lw_S q2205 q2206 q178 q2207) rfl rfl rfl (by decide +kernel) ⟨by rw [hRf]; exact Nat.le_of_ble_eq_true rfl, by rw [hRl]; exact Nat.le_of_ble_eq_true rfl⟩) dJ22_pollFirst_12 [] (by decide) rfl rfl (List.forall_mem_cons.mpr ⟨(gg_i 1 rfl), (fun _ h => by cases h)⟩) rfl rfl (Nat.le_of_ble_eq_true rfl) (by first | (rw [hRc]; exact Nat.le_of_ble_eq_true rfl) | (rw [hRc]; dsimp only; omega)) (by first | (rw [hRs]; exact Nat.le_of_ble_eq_true rfl) | (rw [hRs]; dsimp only; omega)) ?_ (fun X q C1 h => h.elim)
  rintro _ _ ⟨rfl, rfl⟩
  dsimp only [List.cons_append, List.nil_append, Option.toList]
  refine gg_astore_n (lv' := [_, _, _, _]) (pc := 15) E dJ22_pollFirst_15 rfl (Nat.le_of_ble_eq_true rfl) rfl rfl ?_
  refine gg_aload_n (pc := 16) E dJ22_pollFirst_16 rfl rfl ?_
  refine gg_ifnull (pc := 17) E dJ22_pollFirst_17 ?_
  refine gg_aload_n (pc := 20) E dJ22_pollFirst_20 rfl rfl ?_
  refine gg_iload_n (pc := 21) E dJ22_pollFirst_21 rfl rfl ?_
  refine gg_null (pc := 22) E dJ22_pollFirst_22 ?_
  refine gg_aastNN (M' := [_, _]) (pc := 23) E 4 rfl q0 rfl (by omega) (by omega) dJ22_pollFirst_23 1 rfl rfl ?_
  refine gg_aload_n (pc := 24) E dJ22_pollFirst_24 rfl rfl ?_
  refine gg_iload_n (pc := 25) E dJ22_pollFirst_25 rfl rfl ?_
  refine gg_aload_n (pc := 26) E dJ22_pollFirst_26 rfl rfl ?_
  refine gg_alen (pc := 27) E 4 rfl dJ22_pollFirst_27 (gg_i 1 rfl) ?_
  refine gg_callS (F := [_, _]) (As := [.int (nI q0), .int (nI 10)]) (rest := [_]) (pc := 28) E (ct_J22_inc hl (by omega) (by omega)) (va_cwS 2 E.2.2.2.2.1 (lw_S q2208 q2209 q178 q2210) rfl rfl rfl (by decide +kernel) ⟨by rw [hRf]; exact Nat.le_of_ble_eq_true rfl, by rw [hRl]; exact Nat.le_of_ble_eq_true rfl⟩) dJ22_pollFirst_28 [] (by decide) rfl rfl (fun _ h => by cases h) rfl rfl (Nat.le_of_ble_eq_true rfl) (by first | (rw [hRc]; exact Nat.le_of_ble_eq_true rfl) | (rw [hRc]; dsimp only; omega)) (by first | (rw [hRs]; exact Nat.le_of_ble_eq_true rfl) | (rw [hRs]; dsimp only; omega)) ?_ (fun X q C1 h => h.elim)
  rintro _ _ ⟨rfl, rfl⟩
  dsimp only [List.cons_append, List.nil_append, Option.toList]
  refine gg_put (fs' := [_, _, _]) (M' := [_, _]) (pc := 31) E ck_J22 1 q816 rfl (by decide) dJ22_pollFirst_31 0 rfl rfl (rfl) rfl (Nat.le_of_ble_eq_true rfl) rfl rfl ?_
  refine gg_aload_n (pc := 34) E dJ22_pollFirst_34 rfl rfl ?_
  refine gg_aret (pc := 35) E Fn rfl (Or.inl ⟨_, rfl⟩) (Or.inr ⟨_, rfl⟩) dJ22_pollFirst_35 (by first | exact Nat.le_of_ble_eq_true rfl | (dsimp only; omega)) (by first | exact Nat.le_of_ble_eq_true rfl | (dsimp only; omega)) ?_
  exact ⟨rfl, by rw [ad_pop0 hq h1 hn, show ((q0 + 1) % 10 + (n1 - 1)) % 10 = (q0 + n1) % 10 by omega]⟩
set_option maxHeartbeats 4000000 in
theorem ct_J22_removeFirst {l : Launch} (hl : l.stackTraces = false) {g : gg_G}  {h ea q0 n1 : Nat} {pw : Nat → Nat} (hq : q0 < 10) (hn : n1 ≤ 9) (h1 : 1 ≤ n1) : gg_C l g yJ22_removeFirst (ws_ yJ22_removeFirst cJ22_removeFirst 2 (some (.object "java/lang/Object"))) { frames := 8, cells := 0, slots := 0, locals := 140 } [.ref h] [] [[(h, .inl (17, [.ref ea, .int (nI q0), .int (nI ((q0 + n1) % 10))]))], [(ea, gg_ao g 4 10 (adF pw q0 n1))]] (fun vv CC => vv = some (.ref (pw 0)) ∧ CC = [[(h, .inl (17, [.ref ea, .int (nI ((q0 + 1) % 10)), .int (nI ((((q0 + 1) % 10) + (n1 - 1)) % 10))]))], [(ea, gg_ao g 4 10 (adF (fun j => pw (j + 1)) ((q0 + 1) % 10) (n1 - 1)))]]) gg_no := by
  refine gg_of (lv := [_, _]) (by decide) hl (Nat.le_of_ble_eq_true rfl) rfl ?_
  intro p e R s m args below meth c A Q hRf hRl hRc hRs E Fn hnm hex
  refine gg_aload_n (pc := 0) E dJ22_removeFirst_0 rfl rfl ?_
  refine gg_callV (F := []) (As := []) (rest := []) (pc := 1) E ck_J22 (ct_J22_pollFirst hl (by first | assumption | omega) (by first | assumption | omega) (by first | assumption | omega)) (cwV 0 E.2.2.2.2.1 (lw_V q2201 q2202 q2203 q178 q2204) rfl rfl rfl (by decide +kernel) ⟨by rw [hRf]; exact Nat.le_of_ble_eq_true rfl, by rw [hRl]; exact Nat.le_of_ble_eq_true rfl⟩) dJ22_removeFirst_1 [0, 1] (by decide) rfl rfl (fun _ h => by cases h) (gg_i 0 rfl) rfl rfl (Nat.le_of_ble_eq_true rfl) (by first | (rw [hRc]; exact Nat.le_of_ble_eq_true rfl) | (rw [hRc]; dsimp only; omega)) (by first | (rw [hRs]; exact Nat.le_of_ble_eq_true rfl) | (rw [hRs]; dsimp only; omega)) ?_ (fun X q C1 h => h.elim)
  rintro _ _ ⟨rfl, rfl⟩
  dsimp only [List.cons_append, List.nil_append, Option.toList]
  refine gg_up1 ?_
  refine gg_up1 ?_
  refine gg_astore_n (lv' := [_, _]) (pc := 4) E dJ22_removeFirst_4 rfl (Nat.le_of_ble_eq_true rfl) rfl rfl ?_
  refine gg_aload_n (pc := 5) E dJ22_removeFirst_5 rfl rfl ?_
  refine gg_ifnonnull (tgt := 17) (pc := 6) E dJ22_removeFirst_6 (by decide) ?_
  refine gg_aload_n (pc := 17) E dJ22_removeFirst_17 rfl rfl ?_
  refine gg_aret (pc := 18) E Fn rfl (Or.inl ⟨_, rfl⟩) (Or.inr ⟨_, rfl⟩) dJ22_removeFirst_18 (by first | exact Nat.le_of_ble_eq_true rfl | (dsimp only; omega)) (by first | exact Nat.le_of_ble_eq_true rfl | (dsimp only; omega)) ?_
  exact ⟨rfl, rfl⟩
set_option maxHeartbeats 4000000 in
theorem ct_J22_pollLast {l : Launch} (hl : l.stackTraces = false) {g : gg_G}  {h ea q0 n1 : Nat} {pw : Nat → Nat} (hq : q0 < 10) (hn : n1 ≤ 9) (h1 : 1 ≤ n1) : gg_C l g yJ22_pollLast (ws_ yJ22_pollLast cJ22_pollLast 4 (some (.object "java/lang/Object"))) { frames := 1, cells := 0, slots := 0, locals := 21 } [.ref h] [] [[(h, .inl (17, [.ref ea, .int (nI q0), .int (nI ((q0 + n1) % 10))]))], [(ea, gg_ao g 4 10 (adF pw q0 n1))]] (fun vv CC => vv = some (.ref (pw (n1 - 1))) ∧ CC = [[(h, .inl (17, [.ref ea, .int (nI q0), .int (nI ((q0 + (n1 - 1)) % 10))]))], [(ea, gg_ao g 4 10 (adF pw q0 (n1 - 1)))]]) gg_no := by
  refine gg_of (lv := [_, _, _, _]) (by decide) hl (Nat.le_of_ble_eq_true rfl) rfl ?_
  intro p e R s m args below meth c A Q hRf hRl hRc hRs E Fn hnm hex
  refine gg_aload_n (pc := 0) E dJ22_pollLast_0 rfl rfl ?_
  refine gg_get (pc := 1) E ck_J22 0 q815 rfl (by decide) dJ22_pollLast_1 (gg_i 0 rfl) rfl ?_
  refine gg_dup (pc := 4) E dJ22_pollLast_4 rfl ?_
  refine gg_astore_n (lv' := [_, _, _, _]) (pc := 5) E dJ22_pollLast_5 rfl (Nat.le_of_ble_eq_true rfl) rfl rfl ?_
  refine gg_aload_n (pc := 6) E dJ22_pollLast_6 rfl rfl ?_
  refine gg_get (pc := 7) E ck_J22 2 q817 rfl (by decide) dJ22_pollLast_7 (gg_i 0 rfl) rfl ?_
  refine gg_aload_n (pc := 10) E dJ22_pollLast_10 rfl rfl ?_
  refine gg_alen (pc := 11) E 4 rfl dJ22_pollLast_11 (gg_i 1 rfl) ?_
  refine gg_callS (F := [_, _]) (As := [.int (nI ((q0 + n1) % 10)), .int (nI 10)]) (rest := [_]) (pc := 12) E (ct_J22_dec hl (by omega) (by omega)) (va_cwS 2 E.2.2.2.2.1 (lw_S q2815 q2816 q178 q2817) rfl rfl rfl (by decide +kernel) ⟨by rw [hRf]; exact Nat.le_of_ble_eq_true rfl, by rw [hRl]; exact Nat.le_of_ble_eq_true rfl⟩) dJ22_pollLast_12 [] (by decide) rfl rfl (fun _ h => by cases h) rfl rfl (Nat.le_of_ble_eq_true rfl) (by first | (rw [hRc]; exact Nat.le_of_ble_eq_true rfl) | (rw [hRc]; dsimp only; omega)) (by first | (rw [hRs]; exact Nat.le_of_ble_eq_true rfl) | (rw [hRs]; dsimp only; omega)) ?_ (fun X q C1 h => h.elim)
  rintro _ _ ⟨rfl, rfl⟩
  dsimp only [List.cons_append, List.nil_append, Option.toList]
  refine gg_dup (pc := 15) E dJ22_pollLast_15 rfl ?_
  refine gg_istore_n (lv' := [_, _, _, _]) (pc := 16) E dJ22_pollLast_16 rfl (Nat.le_of_ble_eq_true rfl) rfl rfl ?_
  refine gg_callS (F := [_, _]) (As := [_, .int (nI ((((q0 + n1) % 10) + 10 - 1) % 10))]) (rest := []) (pc := 17) E (ct_J22_elementAt hl (by omega) (ad_last hq h1 hn)) (va_cwS 2 E.2.2.2.2.1 (lw_S q2205 q2206 q178 q2207) rfl rfl rfl (by decide +kernel) ⟨by rw [hRf]; exact Nat.le_of_ble_eq_true rfl, by rw [hRl]; exact Nat.le_of_ble_eq_true rfl⟩) dJ22_pollLast_17 [] (by decide) rfl rfl (List.forall_mem_cons.mpr ⟨(gg_i 1 rfl), (fun _ h => by cases h)⟩) rfl rfl (Nat.le_of_ble_eq_true rfl) (by first | (rw [hRc]; exact Nat.le_of_ble_eq_true rfl) | (rw [hRc]; dsimp only; omega)) (by first | (rw [hRs]; exact Nat.le_of_ble_eq_true rfl) | (rw [hRs]; dsimp only; omega)) ?_ (fun X q C1 h => h.elim)
  rintro _ _ ⟨rfl, rfl⟩
  dsimp only [List.cons_append, List.nil_append, Option.toList]
  refine gg_astore_n (lv' := [_, _, _, _]) (pc := 20) E dJ22_pollLast_20 rfl (Nat.le_of_ble_eq_true rfl) rfl rfl ?_
  refine gg_aload_n (pc := 21) E dJ22_pollLast_21 rfl rfl ?_
  refine gg_ifnull (pc := 22) E dJ22_pollLast_22 ?_
  refine gg_aload_n (pc := 25) E dJ22_pollLast_25 rfl rfl ?_
  refine gg_aload_n (pc := 26) E dJ22_pollLast_26 rfl rfl ?_
  refine gg_iload_n (pc := 27) E dJ22_pollLast_27 rfl rfl ?_
  refine gg_dup_x1 (pc := 28) E dJ22_pollLast_28 rfl rfl ?_
  refine gg_put (fs' := [_, _, _]) (M' := [_, _]) (pc := 29) E ck_J22 2 q817 rfl (by decide) dJ22_pollLast_29 0 rfl rfl (rfl) rfl (Nat.le_of_ble_eq_true rfl) rfl rfl ?_
  refine gg_null (pc := 32) E dJ22_pollLast_32 ?_
  refine gg_aastNN (M' := [_, _]) (pc := 33) E 4 rfl ((((q0 + n1) % 10) + 10 - 1) % 10) rfl (by omega) (by omega) dJ22_pollLast_33 1 rfl rfl ?_
  refine gg_aload_n (pc := 34) E dJ22_pollLast_34 rfl rfl ?_
  refine gg_aret (pc := 35) E Fn rfl (Or.inl ⟨_, rfl⟩) (Or.inr ⟨_, rfl⟩) dJ22_pollLast_35 (by first | exact Nat.le_of_ble_eq_true rfl | (dsimp only; omega)) (by first | exact Nat.le_of_ble_eq_true rfl | (dsimp only; omega)) ?_
  exact ⟨rfl, by rw [ad_popn hq h1 hn, show ((q0 + n1) % 10 + 10 - 1) % 10 = (q0 + (n1 - 1)) % 10 by omega]⟩
set_option maxHeartbeats 4000000 in
theorem ct_J22_removeLast {l : Launch} (hl : l.stackTraces = false) {g : gg_G}  {h ea q0 n1 : Nat} {pw : Nat → Nat} (hq : q0 < 10) (hn : n1 ≤ 9) (h1 : 1 ≤ n1) : gg_C l g yJ22_removeLast (ws_ yJ22_removeLast cJ22_removeLast 2 (some (.object "java/lang/Object"))) { frames := 8, cells := 0, slots := 0, locals := 140 } [.ref h] [] [[(h, .inl (17, [.ref ea, .int (nI q0), .int (nI ((q0 + n1) % 10))]))], [(ea, gg_ao g 4 10 (adF pw q0 n1))]] (fun vv CC => vv = some (.ref (pw (n1 - 1))) ∧ CC = [[(h, .inl (17, [.ref ea, .int (nI q0), .int (nI ((q0 + (n1 - 1)) % 10))]))], [(ea, gg_ao g 4 10 (adF pw q0 (n1 - 1)))]]) gg_no := by
  refine gg_of (lv := [_, _]) (by decide) hl (Nat.le_of_ble_eq_true rfl) rfl ?_
  intro p e R s m args below meth c A Q hRf hRl hRc hRs E Fn hnm hex
  refine gg_aload_n (pc := 0) E dJ22_removeLast_0 rfl rfl ?_
  refine gg_callV (F := []) (As := []) (rest := []) (pc := 1) E ck_J22 (ct_J22_pollLast hl (by first | assumption | omega) (by first | assumption | omega) (by first | assumption | omega)) (cwV 0 E.2.2.2.2.1 (lw_V q2811 q2812 q2813 q178 q2814) rfl rfl rfl (by decide +kernel) ⟨by rw [hRf]; exact Nat.le_of_ble_eq_true rfl, by rw [hRl]; exact Nat.le_of_ble_eq_true rfl⟩) dJ22_removeLast_1 [0, 1] (by decide) rfl rfl (fun _ h => by cases h) (gg_i 0 rfl) rfl rfl (Nat.le_of_ble_eq_true rfl) (by first | (rw [hRc]; exact Nat.le_of_ble_eq_true rfl) | (rw [hRc]; dsimp only; omega)) (by first | (rw [hRs]; exact Nat.le_of_ble_eq_true rfl) | (rw [hRs]; dsimp only; omega)) ?_ (fun X q C1 h => h.elim)
  rintro _ _ ⟨rfl, rfl⟩
  dsimp only [List.cons_append, List.nil_append, Option.toList]
  refine gg_up1 ?_
  refine gg_up1 ?_
  refine gg_astore_n (lv' := [_, _]) (pc := 4) E dJ22_removeLast_4 rfl (Nat.le_of_ble_eq_true rfl) rfl rfl ?_
  refine gg_aload_n (pc := 5) E dJ22_removeLast_5 rfl rfl ?_
  refine gg_ifnonnull (tgt := 17) (pc := 6) E dJ22_removeLast_6 (by decide) ?_
  refine gg_aload_n (pc := 17) E dJ22_removeLast_17 rfl rfl ?_
  refine gg_aret (pc := 18) E Fn rfl (Or.inl ⟨_, rfl⟩) (Or.inr ⟨_, rfl⟩) dJ22_removeLast_18 (by first | exact Nat.le_of_ble_eq_true rfl | (dsimp only; omega)) (by first | exact Nat.le_of_ble_eq_true rfl | (dsimp only; omega)) ?_
  exact ⟨rfl, rfl⟩
set_option maxHeartbeats 4000000 in
theorem ct_J22_circularClear {l : Launch} (hl : l.stackTraces = false) {g : gg_G}  {ea q0 te : Nat} {f : Nat → Option Nat} (hq : q0 < 10) (ht : te < 10) (hf : ∀ s, f s ≠ none → s < 10 ∧ (if q0 ≤ te then q0 ≤ s ∧ s < te else (q0 ≤ s ∨ s < te))) : gg_C l g yJ22_circularClear (ws_ yJ22_circularClear cJ22_circularClear 4 none) { frames := 0, cells := 0, slots := 0, locals := 0 } [.ref ea, .int (nI q0), .int (nI te)] [] [[(ea, gg_ao g 4 10 f)]] (fun vv CC => vv = none ∧ CC = [[(ea, gg_ao g 4 10 (fun _ => none))]]) gg_no := by
  refine gg_of (lv := [_, _, _, _]) (by decide) hl (Nat.le_of_ble_eq_true rfl) rfl ?_
  intro p e R s m args below meth c A Q hRf hRl hRc hRs E Fn hnm hex
  refine gg_iload_n (pc := 0) E dJ22_circularClear_0 rfl rfl ?_
  refine gg_iload_n (pc := 1) E dJ22_circularClear_1 rfl rfl ?_
  refine gg_icmpN_gt (tgt := 9) (pc := 2) E q0 te rfl rfl (by omega) (by omega) dJ22_circularClear_2 (by decide) (fun c2 => ?_) (fun c2 => ?_)
  · refine gg_aload_n (pc := 9) E dJ22_circularClear_9 rfl rfl ?_
    refine gg_alen (pc := 10) E 4 rfl dJ22_circularClear_10 (gg_i 0 rfl) ?_
    refine gg_istore_n (lv' := [_, _, _, _]) (pc := 11) E dJ22_circularClear_11 rfl (Nat.le_of_ble_eq_true rfl) rfl rfl ?_
    have L12 : ∀ (n : Nat) (i to : Nat) (f2 : Nat → Option Nat), ((if to = te then 0 else 11) + (to - i)) < n → (to = te ∨ to = 10) → (i ≤ to) → (∀ s, f2 s ≠ none → s < 10 ∧ ((i ≤ s ∧ s < to) ∨ (to ≠ te ∧ s < te))) → gg_W p l e R s m args below meth c g A 4 Q 0 0 [[(ea, gg_ao g 4 10 f2)]] [some (.ref ea), some (.int (nI i)), some (.int (nI te)), some (.int (nI to))] [] 12 := by
      intro n12
      induction n12 with
      | zero => intro i to f2 hmz; exact absurd hmz (Nat.not_lt_zero _)
      | succ n12 ih12 =>
        intro i to f2 hm12 hto hi hf2
        refine gg_iload_n (pc := 12) E dJ22_circularClear_12 rfl rfl ?_
        refine gg_iload_n (pc := 13) E dJ22_circularClear_13 rfl rfl ?_
        refine gg_icmpN_ge (tgt := 27) (pc := 14) E i to rfl rfl (by omega) (by omega) dJ22_circularClear_14 (by decide) (fun c14 => ?_) (fun c14 => ?_)
        · refine gg_iload_n (pc := 27) E dJ22_circularClear_27 rfl rfl ?_
          refine gg_iload_n (pc := 28) E dJ22_circularClear_28 rfl rfl ?_
          refine gg_icmpN_ne (tgt := 35) (pc := 29) E to te rfl rfl (by omega) (by omega) dJ22_circularClear_29 (by decide) (fun c29 => ?_) (fun c29 => ?_)
          · refine gg_iconst (v := 0) (pc := 35) E dJ22_circularClear_35 (by decide) ?_
            refine gg_istore_n (lv' := [_, _, _, _]) (pc := 36) E dJ22_circularClear_36 rfl (Nat.le_of_ble_eq_true rfl) rfl rfl ?_
            refine gg_iload_n (pc := 37) E dJ22_circularClear_37 rfl rfl ?_
            refine gg_istore_n (lv' := [_, _, _, _]) (pc := 38) E dJ22_circularClear_38 rfl (Nat.le_of_ble_eq_true rfl) rfl rfl ?_
            refine gg_goto (tgt := 12) (pc := 39) E dJ22_circularClear_39 (by decide) ?_
            refine gg_cv rfl (gg_leS (gg_leS (gg_leS (gg_leS gg_le0)))) rfl (by first | exact Nat.le_refl _ | (dsimp only; omega)) (by first | exact Nat.le_refl _ | (dsimp only; omega)) (ih12 0 te (f2) ((by first | omega | (rw [if_pos rfl]; rw [if_neg (by assumption)] at hm12; omega))) (Or.inl rfl) (Nat.zero_le _) (fun s hs => by have := hf2 s hs; omega))
          · refine gg_goto (tgt := 42) (pc := 32) E dJ22_circularClear_32 (by decide) ?_
            refine gg_vret (pc := 42) E Fn rfl dJ22_circularClear_42 (by first | exact Nat.le_of_ble_eq_true rfl | (dsimp only; omega)) (by first | exact Nat.le_of_ble_eq_true rfl | (dsimp only; omega)) ?_
            have h0 : f2 = fun _ => none := by
              funext s
              by_cases z : f2 s = none
              · exact z
              · exact absurd (hf2 s z) (by omega)
            exact ⟨rfl, by rw [h0]⟩
        · refine gg_aload_n (pc := 17) E dJ22_circularClear_17 rfl rfl ?_
          refine gg_iload_n (pc := 18) E dJ22_circularClear_18 rfl rfl ?_
          refine gg_null (pc := 19) E dJ22_circularClear_19 ?_
          refine gg_aastNN (M' := [_]) (pc := 20) E 4 rfl i rfl (by omega) (by omega) dJ22_circularClear_20 0 rfl rfl ?_
          refine gg_iincN (k := 1) (lv' := [_, _, _, _]) (pc := 21) E i dJ22_circularClear_21 rfl rfl rfl (Nat.le_of_ble_eq_true rfl) rfl rfl ?_
          refine gg_goto (tgt := 12) (pc := 24) E dJ22_circularClear_24 (by decide) ?_
          refine gg_cv rfl (gg_leS (gg_leS (gg_leS (gg_leS gg_le0)))) rfl (by first | exact Nat.le_refl _ | (dsimp only; omega)) (by first | exact Nat.le_refl _ | (dsimp only; omega)) (ih12 (i + 1) to (va_up f2 i none) ((by first | omega | (rw [if_pos rfl]; rw [if_neg (by assumption)] at hm12; omega))) (hto) (by omega) (fun s hs => by
            unfold va_up at hs
            by_cases e : s = i
            · rw [if_pos e] at hs; exact absurd rfl hs
            · rw [if_neg e] at hs; have := hf2 s hs; omega))
    refine gg_cv rfl (gg_leS (gg_leS (gg_leS (gg_leS gg_le0)))) rfl (by first | exact Nat.le_refl _ | (dsimp only; omega)) (by first | exact Nat.le_refl _ | (dsimp only; omega)) (L12 _ q0 10 f (Nat.lt_succ_self _) (Or.inr rfl) (by omega) (fun s hs => by have := hf s hs; rw [if_neg (by omega)] at this; omega))
  · refine gg_iload_n (pc := 5) E dJ22_circularClear_5 rfl rfl ?_
    refine gg_goto (tgt := 11) (pc := 6) E dJ22_circularClear_6 (by decide) ?_
    refine gg_istore_n (lv' := [_, _, _, _]) (pc := 11) E dJ22_circularClear_11 rfl (Nat.le_of_ble_eq_true rfl) rfl rfl ?_
    have L12 : ∀ (n : Nat) (i to : Nat) (f2 : Nat → Option Nat), ((if to = te then 0 else 11) + (to - i)) < n → (to = te ∨ to = 10) → (i ≤ to) → (∀ s, f2 s ≠ none → s < 10 ∧ ((i ≤ s ∧ s < to) ∨ (to ≠ te ∧ s < te))) → gg_W p l e R s m args below meth c g A 4 Q 0 0 [[(ea, gg_ao g 4 10 f2)]] [some (.ref ea), some (.int (nI i)), some (.int (nI te)), some (.int (nI to))] [] 12 := by
      intro n12
      induction n12 with
      | zero => intro i to f2 hmz; exact absurd hmz (Nat.not_lt_zero _)
      | succ n12 ih12 =>
        intro i to f2 hm12 hto hi hf2
        refine gg_iload_n (pc := 12) E dJ22_circularClear_12 rfl rfl ?_
        refine gg_iload_n (pc := 13) E dJ22_circularClear_13 rfl rfl ?_
        refine gg_icmpN_ge (tgt := 27) (pc := 14) E i to rfl rfl (by omega) (by omega) dJ22_circularClear_14 (by decide) (fun c14 => ?_) (fun c14 => ?_)
        · refine gg_iload_n (pc := 27) E dJ22_circularClear_27 rfl rfl ?_
          refine gg_iload_n (pc := 28) E dJ22_circularClear_28 rfl rfl ?_
          refine gg_icmpN_ne (tgt := 35) (pc := 29) E to te rfl rfl (by omega) (by omega) dJ22_circularClear_29 (by decide) (fun c29 => ?_) (fun c29 => ?_)
          · refine gg_iconst (v := 0) (pc := 35) E dJ22_circularClear_35 (by decide) ?_
            refine gg_istore_n (lv' := [_, _, _, _]) (pc := 36) E dJ22_circularClear_36 rfl (Nat.le_of_ble_eq_true rfl) rfl rfl ?_
            refine gg_iload_n (pc := 37) E dJ22_circularClear_37 rfl rfl ?_
            refine gg_istore_n (lv' := [_, _, _, _]) (pc := 38) E dJ22_circularClear_38 rfl (Nat.le_of_ble_eq_true rfl) rfl rfl ?_
            refine gg_goto (tgt := 12) (pc := 39) E dJ22_circularClear_39 (by decide) ?_
            refine gg_cv rfl (gg_leS (gg_leS (gg_leS (gg_leS gg_le0)))) rfl (by first | exact Nat.le_refl _ | (dsimp only; omega)) (by first | exact Nat.le_refl _ | (dsimp only; omega)) (ih12 0 te (f2) ((by first | omega | (rw [if_pos rfl]; rw [if_neg (by assumption)] at hm12; omega))) (Or.inl rfl) (Nat.zero_le _) (fun s hs => by have := hf2 s hs; omega))
          · refine gg_goto (tgt := 42) (pc := 32) E dJ22_circularClear_32 (by decide) ?_
            refine gg_vret (pc := 42) E Fn rfl dJ22_circularClear_42 (by first | exact Nat.le_of_ble_eq_true rfl | (dsimp only; omega)) (by first | exact Nat.le_of_ble_eq_true rfl | (dsimp only; omega)) ?_
            have h0 : f2 = fun _ => none := by
              funext s
              by_cases z : f2 s = none
              · exact z
              · exact absurd (hf2 s z) (by omega)
            exact ⟨rfl, by rw [h0]⟩
        · refine gg_aload_n (pc := 17) E dJ22_circularClear_17 rfl rfl ?_
          refine gg_iload_n (pc := 18) E dJ22_circularClear_18 rfl rfl ?_
          refine gg_null (pc := 19) E dJ22_circularClear_19 ?_
          refine gg_aastNN (M' := [_]) (pc := 20) E 4 rfl i rfl (by omega) (by omega) dJ22_circularClear_20 0 rfl rfl ?_
          refine gg_iincN (k := 1) (lv' := [_, _, _, _]) (pc := 21) E i dJ22_circularClear_21 rfl rfl rfl (Nat.le_of_ble_eq_true rfl) rfl rfl ?_
          refine gg_goto (tgt := 12) (pc := 24) E dJ22_circularClear_24 (by decide) ?_
          refine gg_cv rfl (gg_leS (gg_leS (gg_leS (gg_leS gg_le0)))) rfl (by first | exact Nat.le_refl _ | (dsimp only; omega)) (by first | exact Nat.le_refl _ | (dsimp only; omega)) (ih12 (i + 1) to (va_up f2 i none) ((by first | omega | (rw [if_pos rfl]; rw [if_neg (by assumption)] at hm12; omega))) (hto) (by omega) (fun s hs => by
            unfold va_up at hs
            by_cases e : s = i
            · rw [if_pos e] at hs; exact absurd rfl hs
            · rw [if_neg e] at hs; have := hf2 s hs; omega))
    refine gg_cv rfl (gg_leS (gg_leS (gg_leS (gg_leS gg_le0)))) rfl (by first | exact Nat.le_refl _ | (dsimp only; omega)) (by first | exact Nat.le_refl _ | (dsimp only; omega)) (L12 _ q0 te f (Nat.lt_succ_self _) (Or.inl rfl) (by omega) (fun s hs => by have := hf s hs; rw [if_pos (by omega)] at this; omega))
set_option maxHeartbeats 4000000 in
theorem ct_J22_clear {l : Launch} (hl : l.stackTraces = false) {g : gg_G}  {h ea q0 n1 : Nat} {pw : Nat → Nat} (hq : q0 < 10) (hn : n1 ≤ 9) : gg_C l g yJ22_clear (ws_ yJ22_clear cJ22_clear 1 none) { frames := 1, cells := 0, slots := 0, locals := 23 } [.ref h] [] [[(h, .inl (17, [.ref ea, .int (nI q0), .int (nI ((q0 + n1) % 10))]))], [(ea, gg_ao g 4 10 (adF pw q0 n1))]] (fun vv CC => vv = none ∧ CC = [[(h, .inl (17, [.ref ea, .int (nI 0), .int (nI ((0 + 0) % 10))]))], [(ea, gg_ao g 4 10 (adF pw 0 0))]]) gg_no := by
  refine gg_of (lv := [_]) (by decide) hl (Nat.le_of_ble_eq_true rfl) rfl ?_
  intro p e R s m args below meth c A Q hRf hRl hRc hRs E Fn hnm hex
  refine gg_aload_n (pc := 0) E dJ22_clear_0 rfl rfl ?_
  refine gg_get (pc := 1) E ck_J22 0 q815 rfl (by decide) dJ22_clear_1 (gg_i 0 rfl) rfl ?_
  refine gg_aload_n (pc := 4) E dJ22_clear_4 rfl rfl ?_
  refine gg_get (pc := 5) E ck_J22 1 q816 rfl (by decide) dJ22_clear_5 (gg_i 0 rfl) rfl ?_
  refine gg_aload_n (pc := 8) E dJ22_clear_8 rfl rfl ?_
  refine gg_get (pc := 9) E ck_J22 2 q817 rfl (by decide) dJ22_clear_9 (gg_i 0 rfl) rfl ?_
  refine gg_callS (F := [_]) (As := [_, .int (nI q0), .int (nI ((q0 + n1) % 10))]) (rest := []) (pc := 12) E (ct_J22_circularClear hl hq (Nat.mod_lt _ (by omega)) (ad_se hq hn)) (va_cwS 3 E.2.2.2.2.1 (lw_S q1470 q1471 q178 q1472) rfl rfl rfl (by decide +kernel) ⟨by rw [hRf]; exact Nat.le_of_ble_eq_true rfl, by rw [hRl]; exact Nat.le_of_ble_eq_true rfl⟩) dJ22_clear_12 [1] (by decide) rfl rfl (fun _ h => by cases h) rfl rfl (Nat.le_of_ble_eq_true rfl) (by first | (rw [hRc]; exact Nat.le_of_ble_eq_true rfl) | (rw [hRc]; dsimp only; omega)) (by first | (rw [hRs]; exact Nat.le_of_ble_eq_true rfl) | (rw [hRs]; dsimp only; omega)) ?_ (fun X q C1 h => h.elim)
  rintro _ _ ⟨rfl, rfl⟩
  dsimp only [List.cons_append, List.nil_append, Option.toList]
  refine gg_up1 ?_
  refine gg_aload_n (pc := 15) E dJ22_clear_15 rfl rfl ?_
  refine gg_aload_n (pc := 16) E dJ22_clear_16 rfl rfl ?_
  refine gg_iconst (v := 0) (pc := 17) E dJ22_clear_17 (by decide) ?_
  refine gg_dup_x1 (pc := 18) E dJ22_clear_18 rfl rfl ?_
  refine gg_put (fs' := [_, _, _]) (M' := [_, _]) (pc := 19) E ck_J22 2 q817 rfl (by decide) dJ22_clear_19 0 rfl rfl (rfl) rfl (Nat.le_of_ble_eq_true rfl) rfl rfl ?_
  refine gg_put (fs' := [_, _, _]) (M' := [_, _]) (pc := 22) E ck_J22 1 q816 rfl (by decide) dJ22_clear_22 0 rfl rfl (rfl) rfl (Nat.le_of_ble_eq_true rfl) rfl rfl ?_
  refine gg_vret (pc := 25) E Fn rfl dJ22_clear_25 (by first | exact Nat.le_of_ble_eq_true rfl | (dsimp only; omega)) (by first | exact Nat.le_of_ble_eq_true rfl | (dsimp only; omega)) ?_
  exact ⟨rfl, by rw [ad_0]; rfl⟩

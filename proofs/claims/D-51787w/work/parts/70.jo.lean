set_option maxRecDepth 100000
/-! ===== routes from a roof ===== -/
theorem wy_e {row : Nat → Int32} {nr nw j r0 : Nat} (hw : Ww row nr nw) (hj : j < nw) (hr : r0 < nr) (h : row (160 + 3 * j) = nI r0 ∨ row (160 + 3 * j + 1) = nI r0) : (if row (160 + 3 * j) = nI r0 then row (160 + 3 * j + 1) else row (160 + 3 * j)) = nI (eo row j r0) ∧ En row nw (-1) j r0 (eo row j r0) ∧ eo row j r0 < nr := by
  have hi := hw.2.2.2 j hj
  have h20 := hw.2.1
  have h10 := hw.2.2.1
  have k1 : row (160 + 3 * j) = nI r0 ↔ ea row j = r0 := by rw [hi.1]; exact nI_eq (by omega) (by omega)
  have k2 : row (160 + 3 * j + 1) = nI r0 ↔ eb row j = r0 := by rw [hi.2.1]; exact nI_eq (by omega) (by omega)
  have hn1 : ¬ nI j = -1 := nI_nm1 (by omega)
  unfold eo
  by_cases c : row (160 + 3 * j) = nI r0
  · have := k1.mp c
    rw [if_pos c]
    refine ⟨by rw [hi.2.1]; congr 1; omega, ⟨hj, hn1, Or.inl ⟨this, by omega⟩⟩, by omega⟩
  · have h2 := k2.mp (h.resolve_left c)
    rw [if_neg c]
    refine ⟨by rw [hi.1]; congr 1; omega, ⟨hj, hn1, Or.inr ⟨by omega, h2⟩⟩, by omega⟩
theorem wy_no {row : Nat → Int32} {nr nw j r0 : Nat} (hw : Ww row nr nw) (hj : j < nw) (h : ¬ (row (160 + 3 * j) = nI r0 ∨ row (160 + 3 * j + 1) = nI r0)) : ∀ v, ¬ En row nw (-1) j r0 v := by
  intro v hE
  have hi := hw.2.2.2 j hj
  rcases hE.2.2 with ⟨a, -⟩ | ⟨-, a⟩
  · exact h (Or.inl (by rw [hi.1, a]))
  · exact h (Or.inr (by rw [hi.2.1, a]))
theorem dI_mm {o : Option Nat} (hb : ∀ x, o = some x → x < 2 ^ 31) (h : dI o = -1) : o = none := by
  cases o with
  | none => rfl
  | some x => exact absurd h (nI_nm1 (hb x rfl))
theorem dI_n1 {o : Option Nat} (h : ¬ dI o = -1) : ∃ x, o = some x := by
  cases o with
  | none => exact absurd rfl h
  | some x => exact ⟨x, rfl⟩
theorem ky_min {ro fa : Nat → Nat} {Q : Nat → Nat} {n N : Nat} (hkey : ∀ k, k < N → ro k < 10 ∧ fa k ≤ 1000) (hQ : ∀ j, j < n → Q j < N) (h : Hp (kyS ro fa) Q n) (h0 : 0 < n) : ∀ q, Qi Q n q → fa (Q 0) ≤ fa q := by
  rintro q ⟨j, hj, rfl⟩
  have := hp_min h j hj
  have h1 := hkey _ (hQ j hj)
  have h2 := hkey _ (hQ 0 h0)
  unfold kyS at this
  omega
theorem tb_up {F : Nat → Int32} {T : Nat → Option Nat} {b nr r0 x0 : Nat} (hF : ∀ r, r < nr → F (b + r) = dI (T r)) : ∀ r, r < nr → upd F (b + r0) (nI x0) (b + r) = dI (va_up T r0 (some x0) r) := by
  intro r hr
  by_cases e : r = r0
  · subst e
    rw [pk_us, va_up_self]
    rfl
  · rw [pk_un (by omega), va_up_ne _ _ e]
    exact hF r hr
theorem ps_key {ro fa : Nat → Nat} {N r x : Nat} (h : ∀ k, k < N → ro k < 10 ∧ fa k ≤ 1000) (hr : r < 10) (hx : x ≤ 1000) : ∀ k, k < N + 1 → llU ro N r k < 10 ∧ llU fa N x k ≤ 1000 := by
  intro k hk
  by_cases e : k = N
  · subst e
    rw [llU_n, llU_n]
    exact ⟨hr, hx⟩
  · rw [llU_o e, llU_o e]
    exact h k (by omega)
theorem st_old {so ro fa : Nat → Nat} {N a r x q : Nat} {z : Nat × gg_E} (hq : q < N) (h : stN so ro fa q = z) : stN (llU so N a) (llU ro N r) (llU fa N x) q = z := by
  rw [← h]
  unfold stN
  rw [llU_o (by omega), llU_o (by omega), llU_o (by omega)]
theorem Qi_lt {Q Q' : Nat → Nat} {n n' N : Nat} (h : ∀ q, Qi Q n q → Qi Q' n' q) (hQ : ∀ j, j < n' → Q' j < N) : ∀ j, j < n → Q j < N := by
  intro j hj
  obtain ⟨k, hk, e⟩ := h (Q j) ⟨j, hj, rfl⟩
  rw [← e]
  exact hQ k hk
set_option maxHeartbeats 4000000 in
theorem ct_X2_laysFrom {l : Launch} (hl : l.stackTraces = false) {g : gg_G}  {w : Nat} {ad : Nat → Nat} {t7 c7 : Int32} {rt : Nat} {m1 : Int32} {nr : Nat} {nd wo : Nat → Nat} {m2 : Int32} {nw : Nat} {row : Nat → Int32} {k1 : Nat} {P : gg_S} {sn : Nat → Nat} {nt : Nat} {f : Nat → Int32} (hP : Po g P sn wo row nw nt) (hw : Ww row nr nw) (hk : k1 < nr) (hf : ∀ r, r < nr → f (nr * k1 + r) = dI none) : gg_C l g yX2_laysFrom (ws_ yX2_laysFrom cX2_laysFrom 8 none) { frames := 12, cells := 35, slots := 135, locals := 230 } [.ref w, .int (nI k1)] ([(w, .inl (1, [.ref (ad 1), .ref (ad 3), .ref (ad 4), .ref (ad 6), .ref (ad 7), .int t7, .int c7, .ref rt])), ((ad 1), .inl (11, [.int m1, .ref (ad 2), .int (nI nr)])), ((ad 3), .inl (15, [.int m2, .int (nI nw), llF nd nw, llL nd nw]))] ++ ((llS nd wo nw) ++ P)) [[(rt, gg_ai g (nr * nr) f)]] (fun vv CC => ∃ (f2 : Nat → Int32), ((∀ r, r < nr → f2 (nr * k1 + r) = dI (dist row nw (-1) k1 r)) ∧ ∀ j, j < nr * k1 ∨ nr * k1 + nr ≤ j → f2 j = f j) ∧ vv = none ∧ CC = [[(rt, gg_ai g (nr * nr) f2)]]) gg_no := by
  refine gg_of (lv := [_, _, _, _, _, _, _, _]) (by decide) hl (Nat.le_of_ble_eq_true rfl) rfl ?_
  intro p e R s m args below meth c A Q hRf hRl hRc hRs E Fn hnm hex
  have h20 := hw.2.1
  have hr10 := hw.2.2.1
  have hmul : nr * k1 + nr ≤ nr * nr := by rw [← Nat.mul_succ]; exact Nat.mul_le_mul_left nr hk
  have hnn : nr * nr ≤ 100 := Nat.mul_le_mul hr10 hr10
  refine gg_aload_n (pc := 0) E dX2_laysFrom_0 rfl rfl ?_
  refine gg_get (pc := 1) E ck_X2 0 q598 rfl (by decide) dX2_laysFrom_1 (gg_r 0 rfl) rfl ?_
  refine gg_callF (F := [_]) (As := []) (rest := []) (pc := 4) E ck_J2 (ct_J2_size hl ) (gg_cwF 0 E (x := ⟨"java/util/List", "size", "()I"⟩) (by decide) nq1046 nq1044 nq683 (lw_app (lw_in _ [1095, 1043, 1045, 155] (by decide +kernel) (by decide +kernel)) (lw_meth q1047)) (by decide +kernel) ⟨by rw [hRf]; exact Nat.le_of_ble_eq_true rfl, by rw [hRl]; exact Nat.le_of_ble_eq_true rfl⟩) dX2_laysFrom_4 [] (by decide) rfl rfl (List.forall_mem_cons.mpr ⟨(gg_r 1 rfl), (fun _ h => by cases h)⟩) (gg_r 1 rfl) rfl rfl (Nat.le_of_ble_eq_true rfl) (by first | (rw [hRc]; exact Nat.le_of_ble_eq_true rfl) | (rw [hRc]; dsimp only; omega)) (by first | (rw [hRs]; exact Nat.le_of_ble_eq_true rfl) | (rw [hRs]; dsimp only; omega)) ?_ (fun X q C1 h => h.elim)
  rintro _ _ ⟨rfl, rfl⟩
  dsimp only [List.cons_append, List.nil_append, Option.toList]
  refine gg_istore_n (lv' := [_, _, _, _, _, _, _, _]) (pc := 9) E dX2_laysFrom_9 rfl (Nat.le_of_ble_eq_true rfl) rfl rfl ?_
  refine gg_new (fs := [.null, .int 0, .null, .int 0]) (pc := 10) E ck_J32 q1725 q1726 q194 dX2_laysFrom_10 (gg_fsJ32) (by first | (rw [hRc]; exact Nat.le_of_ble_eq_true rfl) | (rw [hRc]; dsimp only; omega)) (by first | (rw [hRs]; exact Nat.le_of_ble_eq_true rfl) | (rw [hRs]; dsimp only; omega)) (fun _ => rfl) (fun a1 => ?_)
  dsimp only [List.cons_append, List.nil_append]
  refine gg_dup (pc := 13) E dX2_laysFrom_13 rfl ?_
  refine gg_new (fs := []) (pc := 14) E ck_X9 q1727 q1728 q195 dX2_laysFrom_14 (gg_fsX9) (by first | (rw [hRc]; exact Nat.le_of_ble_eq_true rfl) | (rw [hRc]; dsimp only; omega)) (by first | (rw [hRs]; exact Nat.le_of_ble_eq_true rfl) | (rw [hRs]; dsimp only; omega)) (fun _ => rfl) (fun a2 => ?_)
  dsimp only [List.cons_append, List.nil_append]
  refine gg_dup (pc := 17) E dX2_laysFrom_17 rfl ?_
  refine gg_callIN (F := [_, _, _]) (As := []) (rest := [_, _, _]) (pc := 18) E (ct_X9_init hl ) ⟨va_cnB 0 E.2.2.2.2.1 (lw_meth q1731) rfl rfl rfl (E.2.2.2.2.2.1.2.1 _ nq1729) (E.2.2.2.2.1 _ q195) (by decide +kernel) ⟨by rw [hRf]; exact Nat.le_of_ble_eq_true rfl, by rw [hRl]; exact Nat.le_of_ble_eq_true rfl⟩, rfl, E.2.2.2.2.1 _ q1730⟩ dX2_laysFrom_18 [] (by decide) rfl rfl (List.forall_mem_cons.mpr ⟨(gg_i 2 rfl), (fun _ h => by cases h)⟩) rfl rfl (Nat.le_of_ble_eq_true rfl) (by first | (rw [hRc]; exact Nat.le_of_ble_eq_true rfl) | (rw [hRc]; dsimp only; omega)) (by first | (rw [hRs]; exact Nat.le_of_ble_eq_true rfl) | (rw [hRs]; dsimp only; omega)) ?_ (fun X q C1 h => h.elim)
  rintro _ _ ⟨rfl, rfl⟩
  dsimp only [List.cons_append, List.nil_append, Option.toList]
  refine gg_callI (F := [_, _]) (As := [_]) (rest := [_]) (pc := 21) E (ct_J32_init hl ) (cwI 1 E.2.2.2.2.1 (lw_meth q1736) rfl rfl rfl (E.2.2.2.2.1 _ q194) (E.2.2.2.2.1 _ q1734) (E.2.2.2.2.1 _ q1735) rfl (by decide +kernel) ⟨by rw [hRf]; exact Nat.le_of_ble_eq_true rfl, by rw [hRl]; exact Nat.le_of_ble_eq_true rfl⟩) dX2_laysFrom_21 [1] (by decide) rfl rfl (fun _ h => by cases h) rfl rfl (Nat.le_of_ble_eq_true rfl) (by first | (rw [hRc]; exact Nat.le_of_ble_eq_true rfl) | (rw [hRc]; dsimp only; omega)) (by first | (rw [hRs]; exact Nat.le_of_ble_eq_true rfl) | (rw [hRs]; dsimp only; omega)) ?_ (fun X q C1 h => h.elim)
  rintro _ _ ⟨ea, rfl, rfl⟩
  dsimp only [List.cons_append, List.nil_append, Option.toList]
  refine gg_up2 ?_
  refine gg_up3 ?_
  refine gg_astore_n (lv' := [_, _, _, _, _, _, _, _]) (pc := 24) E dX2_laysFrom_24 rfl (Nat.le_of_ble_eq_true rfl) rfl rfl ?_
  refine gg_aload_n (pc := 25) E dX2_laysFrom_25 rfl rfl ?_
  refine gg_new (fs := [.int 0, .int 0]) (pc := 26) E ck_X10 q1763 q1764 q196 dX2_laysFrom_26 (gg_fsX10) (by first | (rw [hRc]; exact Nat.le_of_ble_eq_true rfl) | (rw [hRc]; dsimp only; omega)) (by first | (rw [hRs]; exact Nat.le_of_ble_eq_true rfl) | (rw [hRs]; dsimp only; omega)) (fun _ => rfl) (fun a3 => ?_)
  dsimp only [List.cons_append, List.nil_append]
  refine gg_dup (pc := 29) E dX2_laysFrom_29 rfl ?_
  refine gg_iload_n (pc := 30) E dX2_laysFrom_30 rfl rfl ?_
  refine gg_iconst (v := 0) (pc := 31) E dX2_laysFrom_31 (by decide) ?_
  refine gg_callIN (F := [_, _, _, _]) (As := [_, _]) (rest := [_, _]) (pc := 32) E (ct_X10_init hl ) ⟨va_cnB 2 E.2.2.2.2.1 (lw_meth q1767) rfl rfl rfl (E.2.2.2.2.2.1.2.1 _ nq1765) (E.2.2.2.2.1 _ q196) (by decide +kernel) ⟨by rw [hRf]; exact Nat.le_of_ble_eq_true rfl, by rw [hRl]; exact Nat.le_of_ble_eq_true rfl⟩, rfl, E.2.2.2.2.1 _ q1766⟩ dX2_laysFrom_32 [4] (by decide) rfl rfl (fun _ h => by cases h) rfl rfl (Nat.le_of_ble_eq_true rfl) (by first | (rw [hRc]; exact Nat.le_of_ble_eq_true rfl) | (rw [hRc]; dsimp only; omega)) (by first | (rw [hRs]; exact Nat.le_of_ble_eq_true rfl) | (rw [hRs]; dsimp only; omega)) ?_ (fun X q C1 h => h.elim)
  rintro _ _ ⟨rfl, rfl⟩
  dsimp only [List.cons_append, List.nil_append, Option.toList]
  refine gg_up4 ?_
  refine gg_seg (S' := mp (stN (fun _ => a3) (fun _ => k1) (fun _ => 0)) 1) (M' := [_, _, _, _, _]) 4 rfl rfl rfl ?_
  refine gg_cel (y := gg_ao g 4 11 (lsF (fun j => (fun _ => a3) ((fun _ => 0) j)) 0)) 3 rfl (congrArg (gg_ao g 4 11) lsF_0.symm) rfl ?_
  refine gg_callV (F := [_, _, _]) (As := [_]) (rest := []) (pc := 35) E ck_J32 (ct_J32_add (so := fun _ => a3) (ro := fun _ => k1) (fa := fun _ => 0) (Qa := fun _ => 0) (N := 1) (x1 := 0) (n1 := 0) (cap := 11) hl (by omega) (by omega) (fun k hk => ⟨by omega, by omega⟩) (by omega) (fun j hj => absurd hj (Nat.not_lt_zero j)) (fun j h0 hj => absurd hj (Nat.not_lt_zero j))) (cwV 1 E.2.2.2.2.1 (lw_V q1776 q1777 q1778 q194 q1779) rfl rfl rfl (by decide +kernel) ⟨by rw [hRf]; exact Nat.le_of_ble_eq_true rfl, by rw [hRl]; exact Nat.le_of_ble_eq_true rfl⟩) dX2_laysFrom_35 [1, 3] (by decide) rfl rfl (List.forall_mem_append.mpr ⟨(List.forall_mem_cons.mpr ⟨(gg_i 1 rfl), (fun _ h => by cases h)⟩), (fun q hq => gg_j 2 rfl hq)⟩) (gg_i 1 rfl) rfl rfl (Nat.le_of_ble_eq_true rfl) (by first | (rw [hRc]; exact Nat.le_of_ble_eq_true rfl) | (rw [hRc]; dsimp only; omega)) (by first | (rw [hRs]; exact Nat.le_of_ble_eq_true rfl) | (rw [hRs]; dsimp only; omega)) ?_ (fun X q C1 h => h.elim)
  rintro _ _ ⟨Q9, hp, rfl, rfl⟩
  dsimp only [List.cons_append, List.nil_append, Option.toList]
  refine gg_up2 ?_
  refine gg_up3 ?_
  refine gg_istore (lv' := [_, _, _, _, _, _, _, _]) (pc := 38) E dX2_laysFrom_38 (Nat.le_of_ble_eq_true rfl) rfl rfl ?_
  have L40 : ∀ (n : Nat) (so ro fa Qa : Nat → Nat) (T : Nat → Option Nat) (F2 : Nat → Int32) (ea1 N n1 z : Nat) (mq : Int32), 2 * (21 - N) + n1 < n → (LJ row nr nw k1 T (Qi Qa n1) ro fa nr 0 N) → (∀ r, r < nr → F2 (nr * k1 + r) = dI (T r)) → (∀ j, j < nr * k1 ∨ nr * k1 + nr ≤ j → F2 j = f j) → (∀ k, k < N → ro k < 10 ∧ fa k ≤ 1000) → (Hp (kyS ro fa) Qa n1) → (Qj Qa n1) → (∀ j, j < n1 → Qa j < N) → (z ≤ 1) → (n1 ≤ 11 + 13 * z) → (n1 ≤ N) → gg_W p l e R s m args below meth c g A 8 Q (3 + N + cF T 10 + z) (15 + 2 * N + 5 * cF T 10 + 24 * z) [[(rt, gg_ai g (nr * nr) F2)], [(a1, .inl (20, [.ref ea1, .int (nI n1), .ref a2, .int mq]))], [(a2, .inl (8, []))], [(ea1, gg_ao g 4 (11 + 13 * z) (lsF (fun j => so (Qa j)) (n1)))], (mp (stN so ro fa) (N))] [some (.ref w), some (.int (nI k1)), some (.int (nI nr)), some (.ref a1), some (.int 1), none, none, none] [] 40 := by
    intro n40
    induction n40 with
    | zero => intro so ro fa Qa T F2 ea1 N n1 z mq hmz; exact absurd hmz (Nat.not_lt_zero _)
    | succ n40 ih40 =>
      intro so ro fa Qa T F2 ea1 N n1 z mq hm40 hLJ hF hO hkey hHp hQj hQ hz hnz hnN
      have hN21 := hLJ.N21
      have hcF := cF_le T 10
      refine gg_aload_n (pc := 40) E dX2_laysFrom_40 rfl rfl ?_
      refine gg_callU (F := [_, _, _, _, _]) (As := []) (rest := []) (pc := 41) E ck_J32 (ct_J0_isEmptyQ hl (by omega)) (va_cwU (own := "WhistlePosts$World") (C := "java/util/PriorityQueue") (index := 137) (x := ⟨"java/util/PriorityQueue", "isEmpty", "()Z"⟩) (owner := "java/util/AbstractCollection") 0 E.2.2.2.2.1 (lw_app (lw_in _ [2036, 2037, 2039, 2040, 153] (by decide +kernel) (by decide +kernel)) (lw_meth q2041)) rfl rfl rfl rfl (by decide +kernel) ⟨by rw [hRf]; exact Nat.le_of_ble_eq_true rfl, by rw [hRl]; exact Nat.le_of_ble_eq_true rfl⟩) dX2_laysFrom_41 [] (by decide) rfl rfl (List.forall_mem_cons.mpr ⟨(gg_i 1 rfl), (fun _ h => by cases h)⟩) (gg_i 1 rfl) rfl rfl (Nat.le_of_ble_eq_true rfl) (by first | (rw [hRc]; exact Nat.le_of_ble_eq_true rfl) | (rw [hRc]; dsimp only; omega)) (by first | (rw [hRs]; exact Nat.le_of_ble_eq_true rfl) | (rw [hRs]; dsimp only; omega)) ?_ (fun X q C1 h => h.elim)
      rintro _ _ ⟨rfl, rfl⟩
      dsimp only [List.cons_append, List.nil_append, Option.toList]
      refine gg_ifP_ne (tgt := 203) (pc := 44) E dX2_laysFrom_44 (by decide) (fun c44 => ?_) (fun c44 => ?_)
      · refine gg_up4 ?_
        refine gg_up4 ?_
        refine gg_let rfl rfl ?_
        refine gg_up3 ?_
        refine gg_let rfl rfl ?_
        refine gg_up2 ?_
        refine gg_let rfl rfl ?_
        refine gg_up1 ?_
        refine gg_let rfl rfl ?_
        refine gg_vret (pc := 203) E Fn rfl dX2_laysFrom_203 (by first | exact Nat.le_of_ble_eq_true rfl | (dsimp only; omega)) (by first | exact Nat.le_of_ble_eq_true rfl | (dsimp only; omega)) ?_
        exact ⟨F2, ⟨fun r hr => by rw [hF r hr, dist_of hw (hLJ.done (fun q hq => by obtain ⟨i, hi, _⟩ := hq; omega))], hO⟩, rfl, rfl⟩
      · obtain ⟨n2, rfl⟩ : ∃ n2, n1 = n2 + 1 := ⟨n1 - 1, by omega⟩
        have hQ0 := hQ 0 (by omega)
        refine gg_aload_n (pc := 47) E dX2_laysFrom_47 rfl rfl ?_
        refine gg_callV (F := [_, _, _]) (As := []) (rest := []) (pc := 48) E ck_J32 (ct_J32_poll (n1 := n2) (cap := 11 + 13 * z) (so := so) (ro := ro) (fa := fa) (Qa := Qa) (N := N) hl (by omega) (by omega) hkey hQ hHp) (cwV 0 E.2.2.2.2.1 (lw_V q2050 q2051 q2052 q194 q2053) rfl rfl rfl (by decide +kernel) ⟨by rw [hRf]; exact Nat.le_of_ble_eq_true rfl, by rw [hRl]; exact Nat.le_of_ble_eq_true rfl⟩) dX2_laysFrom_48 [1, 3] (by decide) rfl rfl (List.forall_mem_append.mpr ⟨(List.forall_mem_cons.mpr ⟨(gg_i 1 rfl), (fun _ h => by cases h)⟩), (fun q hq => gg_j 2 rfl hq)⟩) (gg_i 1 rfl) rfl rfl (Nat.le_of_ble_eq_true rfl) (by first | (rw [hRc]; exact Nat.le_of_ble_eq_true rfl) | (rw [hRc]; dsimp only; omega)) (by first | (rw [hRs]; exact Nat.le_of_ble_eq_true rfl) | (rw [hRs]; dsimp only; omega)) ?_ (fun X q C1 h => h.elim)
        rintro _ _ ⟨Q3, hp, rfl, rfl⟩
        dsimp only [List.cons_append, List.nil_append, Option.toList]
        refine gg_up2 ?_
        refine gg_up3 ?_
        refine gg_cast (pc := 51) E ck_X10 q1763 (Or.inl rfl) dX2_laysFrom_51 (gg_j 4 rfl (mp_mem (by omega))) ?_
        obtain ⟨hp1, hp2, hp3⟩ := hp
        have hS : ∀ q, Qi Q3 n2 q ↔ Qi Qa (n2 + 1) q ∧ q ≠ Qa 0 := fun q => (hp2 q).trans (pop_Qi hQj)
        have hQ3 : ∀ j, j < n2 → Q3 j < N := Qi_lt (fun q z => ((hS q).mp z).1) hQ
        have hmin := ky_min hkey hQ hHp (by omega)
        have hf90 := hLJ.fa90 (q := Qa 0) ⟨0, by omega, rfl⟩
        obtain ⟨s0, e1⟩ : ∃ s0, so (Qa 0) = s0 := ⟨_, rfl⟩
        obtain ⟨q0, e4⟩ : ∃ q0, Qa 0 = q0 := ⟨_, rfl⟩
        obtain ⟨r0, e2⟩ : ∃ r0, ro (Qa 0) = r0 := ⟨_, rfl⟩
        obtain ⟨x0, e3⟩ : ∃ x0, fa (Qa 0) = x0 := ⟨_, rfl⟩
        have hs0 : stN so ro fa (Qa 0) = (s0, .inl (9, [.int (nI r0), .int (nI x0)])) := by
          unfold stN
          rw [e1, e2, e3]
        rw [e1]
        rw [e2, e3] at hf90
        have hq0S : Qi Qa (n2 + 1) (Qa 0) := ⟨0, by omega, rfl⟩
        rw [e4] at hs0 hQ0
        refine gg_astore (lv' := [_, _, _, _, _, _, _, _]) (pc := 54) E dX2_laysFrom_54 (Nat.le_of_ble_eq_true rfl) rfl rfl ?_
        refine gg_aload_n (pc := 56) E dX2_laysFrom_56 rfl rfl ?_
        refine gg_get (pc := 57) E ck_X2 7 q613 rfl (by decide) dX2_laysFrom_57 (gg_r 0 rfl) rfl ?_
        refine gg_iload_n (pc := 60) E dX2_laysFrom_60 rfl rfl ?_
        refine gg_iload_n (pc := 61) E dX2_laysFrom_61 rfl rfl ?_
        refine gg_imulN (pc := 62) E nr k1 rfl rfl dX2_laysFrom_62 ?_
        refine gg_aload (pc := 63) E dX2_laysFrom_63 rfl ?_
        refine gg_callV (F := [_, _, _, _, _]) (As := []) (rest := [_, _]) (pc := 65) E ck_X10 (ct_X10_roof hl ) (cwV 0 E.2.2.2.2.1 (lw_V q2060 q1836 q1837 q196 q1838) rfl rfl rfl (by decide +kernel) ⟨by rw [hRf]; exact Nat.le_of_ble_eq_true rfl, by rw [hRl]; exact Nat.le_of_ble_eq_true rfl⟩) dX2_laysFrom_65 [] (by decide) rfl rfl (List.forall_mem_cons.mpr ⟨(gg_j 4 rfl ((by rw [← hs0]; exact mp_mem hQ0))), (fun _ h => by cases h)⟩) (gg_j 4 rfl ((by rw [← hs0]; exact mp_mem hQ0))) rfl rfl (Nat.le_of_ble_eq_true rfl) (by first | (rw [hRc]; exact Nat.le_of_ble_eq_true rfl) | (rw [hRc]; dsimp only; omega)) (by first | (rw [hRs]; exact Nat.le_of_ble_eq_true rfl) | (rw [hRs]; dsimp only; omega)) ?_ (fun X q C1 h => h.elim)
        rintro _ _ ⟨rfl, rfl⟩
        dsimp only [List.cons_append, List.nil_append, Option.toList]
        refine gg_iaddN (pc := 68) E (nr * k1) r0 rfl rfl dX2_laysFrom_68 ?_
        refine gg_ialdN (pc := 69) E (nr * k1 + r0) rfl (by omega) (by omega) dX2_laysFrom_69 (gg_i 0 rfl) ?_
        refine gg_topI (y := dI (T r0)) (hF r0 hf90.1) ?_
        refine gg_iconst (v := (-1)) (pc := 70) E dX2_laysFrom_70 (by decide) ?_
        refine gg_icmp_eq (tgt := 77) (pc := 71) E dX2_laysFrom_71 (by decide) (fun c71 => ?_) (fun c71 => ?_)
        · have hTn : T r0 = none := dI_mm (fun x hx => by have := (hLJ.1 r0 x hx).2; have := cF_le T 10; omega) c71
          have hL1 := hLJ.settle hr10 hS hq0S hmin (by rw [e2]; exact hTn)
          rw [e2, e3] at hL1
          obtain ⟨hL2, hle, hc⟩ := hL1
          have hF3 := tb_up (x0 := x0) (r0 := r0) hF
          have hTr : (va_up T r0 (some x0)) r0 = some x0 := va_up_self _ _ _
          generalize hT1 : (va_up T r0 (some x0)) = T1 at hL2 hle hc hF3 hTr
          have hcF1 := cF_le T1 10
          refine gg_aload_n (pc := 77) E dX2_laysFrom_77 rfl rfl ?_
          refine gg_get (pc := 78) E ck_X2 7 q613 rfl (by decide) dX2_laysFrom_78 (gg_r 0 rfl) rfl ?_
          refine gg_iload_n (pc := 81) E dX2_laysFrom_81 rfl rfl ?_
          refine gg_iload_n (pc := 82) E dX2_laysFrom_82 rfl rfl ?_
          refine gg_imulN (pc := 83) E nr k1 rfl rfl dX2_laysFrom_83 ?_
          refine gg_aload (pc := 84) E dX2_laysFrom_84 rfl ?_
          refine gg_callV (F := [_, _, _, _, _]) (As := []) (rest := [_, _]) (pc := 86) E ck_X10 (ct_X10_roof hl ) (cwV 0 E.2.2.2.2.1 (lw_V q2060 q1836 q1837 q196 q1838) rfl rfl rfl (by decide +kernel) ⟨by rw [hRf]; exact Nat.le_of_ble_eq_true rfl, by rw [hRl]; exact Nat.le_of_ble_eq_true rfl⟩) dX2_laysFrom_86 [] (by decide) rfl rfl (List.forall_mem_cons.mpr ⟨(gg_j 4 rfl ((by rw [← hs0]; exact mp_mem hQ0))), (fun _ h => by cases h)⟩) (gg_j 4 rfl ((by rw [← hs0]; exact mp_mem hQ0))) rfl rfl (Nat.le_of_ble_eq_true rfl) (by first | (rw [hRc]; exact Nat.le_of_ble_eq_true rfl) | (rw [hRc]; dsimp only; omega)) (by first | (rw [hRs]; exact Nat.le_of_ble_eq_true rfl) | (rw [hRs]; dsimp only; omega)) ?_ (fun X q C1 h => h.elim)
          rintro _ _ ⟨rfl, rfl⟩
          dsimp only [List.cons_append, List.nil_append, Option.toList]
          refine gg_iaddN (pc := 89) E (nr * k1) r0 rfl rfl dX2_laysFrom_89 ?_
          refine gg_aload (pc := 90) E dX2_laysFrom_90 rfl ?_
          refine gg_callV (F := [_, _, _, _, _]) (As := []) (rest := [_, _]) (pc := 92) E ck_X10 (ct_X10_far hl ) (cwV 0 E.2.2.2.2.1 (lw_V q2061 q1829 q1830 q196 q1831) rfl rfl rfl (by decide +kernel) ⟨by rw [hRf]; exact Nat.le_of_ble_eq_true rfl, by rw [hRl]; exact Nat.le_of_ble_eq_true rfl⟩) dX2_laysFrom_92 [] (by decide) rfl rfl (List.forall_mem_cons.mpr ⟨(gg_j 4 rfl ((by rw [← hs0]; exact mp_mem hQ0))), (fun _ h => by cases h)⟩) (gg_j 4 rfl ((by rw [← hs0]; exact mp_mem hQ0))) rfl rfl (Nat.le_of_ble_eq_true rfl) (by first | (rw [hRc]; exact Nat.le_of_ble_eq_true rfl) | (rw [hRc]; dsimp only; omega)) (by first | (rw [hRs]; exact Nat.le_of_ble_eq_true rfl) | (rw [hRs]; dsimp only; omega)) ?_ (fun X q C1 h => h.elim)
          rintro _ _ ⟨rfl, rfl⟩
          dsimp only [List.cons_append, List.nil_append, Option.toList]
          refine gg_iastN (M' := [_, _, _, _, _]) (pc := 95) E (nr * k1 + r0) rfl (by omega) (by omega) dX2_laysFrom_95 0 rfl rfl ?_
          refine gg_aload_n (pc := 96) E dX2_laysFrom_96 rfl rfl ?_
          refine gg_get (pc := 97) E ck_X2 1 q601 rfl (by decide) dX2_laysFrom_97 (gg_r 0 rfl) rfl ?_
          refine gg_callU (F := [_, _, _, _, _]) (As := []) (rest := []) (pc := 100) E ck_J19 (ct_J18_iterator hl (by omega)) (va_cwU (own := "WhistlePosts$World") (C := "java/util/LinkedList") (index := 58) (x := ⟨"java/util/LinkedList", "iterator", "()Ljava/util/Iterator;"⟩) (owner := "java/util/AbstractSequentialList") 0 E.2.2.2.2.1 (lw_app (lw_in _ [1190, 1191, 1193, 1194, 172] (by decide +kernel) (by decide +kernel)) (lw_meth q1195)) rfl rfl rfl rfl (by decide +kernel) ⟨by rw [hRf]; exact Nat.le_of_ble_eq_true rfl, by rw [hRl]; exact Nat.le_of_ble_eq_true rfl⟩) dX2_laysFrom_100 [] (by decide) rfl rfl (List.forall_mem_append.mpr ⟨(List.forall_mem_cons.mpr ⟨(gg_r 2 rfl), (fun _ h => by cases h)⟩), (fun q hq => gg_rm (List.mem_append_right _ (List.mem_append_left _ (hq))))⟩) (gg_r 2 rfl) rfl rfl (Nat.le_of_ble_eq_true rfl) (by first | (rw [hRc]; exact Nat.le_of_ble_eq_true rfl) | (rw [hRc]; dsimp only; omega)) (by first | (rw [hRs]; exact Nat.le_of_ble_eq_true rfl) | (rw [hRs]; dsimp only; omega)) ?_ (fun X q C1 h => h.elim)
          rintro _ _ ⟨i1, rfl, rfl⟩
          dsimp only [List.cons_append, List.nil_append, Option.toList]
          refine gg_up5 ?_
          refine gg_astore (lv' := [_, _, _, _, _, _, _, _]) (pc := 103) E dX2_laysFrom_103 (Nat.le_of_ble_eq_true rfl) rfl rfl ?_
          have L105 : ∀ (n : Nat) (j1 : Nat) (v : Value) (sp rp fp Qp : Nat → Nat) (eb N2 n3 z2 : Nat) (mq2 : Int32), nw - j1 < n → (j1 ≤ nw) → (LJ row nr nw k1 T1 (Qi Qp n3) rp fp r0 j1 N2) → (stN sp rp fp q0 = (s0, .inl (9, [.int (nI r0), .int (nI x0)]))) → (q0 < N2) → (2 * (21 - N2) + n3 ≤ 2 * (21 - N) + n2) → (∀ k, k < N2 → rp k < 10 ∧ fp k ≤ 1000) → (Hp (kyS rp fp) Qp n3) → (Qj Qp n3) → (∀ j, j < n3 → Qp j < N2) → (z2 ≤ 1) → (n3 ≤ 11 + 13 * z2) → (n3 ≤ N2) → gg_W p l e R s m args below meth c g A 8 Q (3 + N2 + cF T1 10 + z2) (15 + 2 * N2 + 5 * cF T1 10 + 24 * z2) [[(rt, gg_ai g (nr * nr) (upd F2 (nr * k1 + r0) (nI x0)))], [(a1, .inl (20, [.ref eb, .int (nI n3), .ref a2, .int mq2]))], [(a2, .inl (8, []))], [(eb, gg_ao g 4 (11 + 13 * z2) (lsF (fun j => sp (Qp j)) (n3)))], (mp (stN sp rp fp) (N2)), [(i1, .inl (19, [v, va_rf (if j1 < nw then some (nd j1) else none), .int (nI j1), .int m2, .ref (ad 3)]))]] [some (.ref w), some (.int (nI k1)), some (.int (nI nr)), some (.ref a1), some (.int 1), some (.ref s0), some (.ref i1), none] [] 105 := by
            intro n105
            induction n105 with
            | zero => intro j1 v sp rp fp Qp eb N2 n3 z2 mq2 hmz; exact absurd hmz (Nat.not_lt_zero _)
            | succ n105 ih105 =>
              intro j1 v sp rp fp Qp eb N2 n3 z2 mq2 hm105 hj1 hL hs2 hq2 hms hkey hHp hQj hQ hz hnz hnN
              have hN21 := hL.N21
              have hcF := cF_le T1 10
              refine gg_aload (pc := 105) E dX2_laysFrom_105 rfl ?_
              refine gg_callF (F := [_, _, _, _, _, _]) (As := []) (rest := []) (pc := 107) E ck_J28 (ct_J28_hasNext hl (hj1) (by omega)) (gg_cwF 0 E (x := ⟨"java/util/Iterator", "hasNext", "()Z"⟩) (by decide) nq1310 nq1308 nq1306 (lw_app (lw_in _ [1283, 1307, 1309, 188] (by decide +kernel) (by decide +kernel)) (lw_meth q1311)) (by decide +kernel) ⟨by rw [hRf]; exact Nat.le_of_ble_eq_true rfl, by rw [hRl]; exact Nat.le_of_ble_eq_true rfl⟩) dX2_laysFrom_107 [] (by decide) rfl rfl (List.forall_mem_cons.mpr ⟨(gg_i 5 rfl), (List.forall_mem_cons.mpr ⟨(gg_r 2 rfl), (fun _ h => by cases h)⟩)⟩) (gg_i 5 rfl) rfl rfl (Nat.le_of_ble_eq_true rfl) (by first | (rw [hRc]; exact Nat.le_of_ble_eq_true rfl) | (rw [hRc]; dsimp only; omega)) (by first | (rw [hRs]; exact Nat.le_of_ble_eq_true rfl) | (rw [hRs]; dsimp only; omega)) ?_ (fun X q C1 h => h.elim)
              rintro _ _ ⟨rfl, rfl⟩
              dsimp only [List.cons_append, List.nil_append, Option.toList]
              refine gg_ifP_eq (tgt := 200) (pc := 112) E dX2_laysFrom_112 (by decide) (fun c112 => ?_) (fun c112 => ?_)
              · have hjn : j1 = nw := by omega
                refine gg_let rfl rfl ?_
                refine gg_goto (tgt := 40) (pc := 200) E dX2_laysFrom_200 (by decide) ?_
                refine gg_cv rfl (gg_leS (gg_leS (gg_leS (gg_leS (gg_leS (gg_leN (gg_leN (gg_leN gg_le0)))))))) rfl (by first | exact Nat.le_refl _ | omega | (dsimp only; omega)) (by first | exact Nat.le_refl _ | omega | (dsimp only; omega)) (ih40 sp rp fp Qp T1 (upd F2 (nr * k1 + r0) (nI x0)) eb N2 n3 z2 mq2 (by omega) ((hjn ▸ hL).all) (hF3) (fun j hj => (pk_un (by omega)).trans (hO j hj)) (hkey) (hHp) (hQj) (hQ) (hz) (hnz) (hnN))
              · refine gg_aload (pc := 115) E dX2_laysFrom_115 rfl ?_
                refine gg_callF (F := [_, _, _, _, _]) (As := []) (rest := []) (pc := 117) E ck_J28 (ct_J28_next hl (by omega) (by omega)) (gg_cwF 0 E (x := ⟨"java/util/Iterator", "next", "()Ljava/lang/Object;"⟩) (by decide) nq1423 nq1421 nq1306 (lw_app (lw_in _ [1313, 1420, 1422, 188] (by decide +kernel) (by decide +kernel)) (lw_meth q1424)) (by decide +kernel) ⟨by rw [hRf]; exact Nat.le_of_ble_eq_true rfl, by rw [hRl]; exact Nat.le_of_ble_eq_true rfl⟩) dX2_laysFrom_117 [5] (by decide) rfl rfl (List.forall_mem_append.mpr ⟨(List.forall_mem_cons.mpr ⟨(gg_r 2 rfl), (fun _ h => by cases h)⟩), (fun q hq => gg_rm (List.mem_append_right _ (List.mem_append_left _ (hq))))⟩) (gg_i 5 rfl) rfl rfl (Nat.le_of_ble_eq_true rfl) (by first | (rw [hRc]; exact Nat.le_of_ble_eq_true rfl) | (rw [hRc]; dsimp only; omega)) (by first | (rw [hRs]; exact Nat.le_of_ble_eq_true rfl) | (rw [hRs]; dsimp only; omega)) ?_ (fun X q C1 h => h.elim)
                rintro _ _ ⟨rfl, rfl⟩
                dsimp only [List.cons_append, List.nil_append, Option.toList]
                refine gg_up5 ?_
                refine gg_cast (pc := 122) E ck_X4 q1432 (Or.inl rfl) dX2_laysFrom_122 (gg_rm (List.mem_append_right _ (List.mem_append_right _ (hP.2 j1 (by omega))))) ?_
                refine gg_astore (lv' := [_, _, _, _, _, _, _, _]) (pc := 125) E dX2_laysFrom_125 (Nat.le_of_ble_eq_true rfl) rfl rfl ?_
                refine gg_aload (pc := 127) E dX2_laysFrom_127 rfl ?_
                refine gg_aload (pc := 129) E dX2_laysFrom_129 rfl ?_
                refine gg_callV (F := [_, _, _, _, _, _]) (As := []) (rest := [_]) (pc := 131) E ck_X10 (ct_X10_roof hl ) (cwV 0 E.2.2.2.2.1 (lw_V q2060 q1836 q1837 q196 q1838) rfl rfl rfl (by decide +kernel) ⟨by rw [hRf]; exact Nat.le_of_ble_eq_true rfl, by rw [hRl]; exact Nat.le_of_ble_eq_true rfl⟩) dX2_laysFrom_131 [] (by decide) rfl rfl (List.forall_mem_cons.mpr ⟨(gg_j 4 rfl ((by rw [← hs2]; exact mp_mem hq2))), (fun _ h => by cases h)⟩) (gg_j 4 rfl ((by rw [← hs2]; exact mp_mem hq2))) rfl rfl (Nat.le_of_ble_eq_true rfl) (by first | (rw [hRc]; exact Nat.le_of_ble_eq_true rfl) | (rw [hRc]; dsimp only; omega)) (by first | (rw [hRs]; exact Nat.le_of_ble_eq_true rfl) | (rw [hRs]; dsimp only; omega)) ?_ (fun X q C1 h => h.elim)
                rintro _ _ ⟨rfl, rfl⟩
                dsimp only [List.cons_append, List.nil_append, Option.toList]
                refine gg_callV (F := [_, _, _, _, _, _]) (As := [_]) (rest := []) (pc := 134) E ck_X4 (ct_X4_ends hl ) (cwV 1 E.2.2.2.2.1 (lw_V q2062 q2063 q2064 q177 q2065) rfl rfl rfl (by decide +kernel) ⟨by rw [hRf]; exact Nat.le_of_ble_eq_true rfl, by rw [hRl]; exact Nat.le_of_ble_eq_true rfl⟩) dX2_laysFrom_134 [] (by decide) rfl rfl (List.forall_mem_cons.mpr ⟨(gg_rm (List.mem_append_right _ (List.mem_append_right _ (hP.2 j1 (by omega))))), (fun _ h => by cases h)⟩) (gg_rm (List.mem_append_right _ (List.mem_append_right _ (hP.2 j1 (by omega))))) rfl rfl (Nat.le_of_ble_eq_true rfl) (by first | (rw [hRc]; exact Nat.le_of_ble_eq_true rfl) | (rw [hRc]; dsimp only; omega)) (by first | (rw [hRs]; exact Nat.le_of_ble_eq_true rfl) | (rw [hRs]; dsimp only; omega)) ?_ (fun X q C1 h => h.elim)
                rintro _ _ ⟨rfl, rfl⟩
                dsimp only [List.cons_append, List.nil_append, Option.toList]
                refine gg_ifP_eq (tgt := 197) (pc := 137) E dX2_laysFrom_137 (by decide) (fun c137 => ?_) (fun c137 => ?_)
                · refine gg_goto (tgt := 105) (pc := 197) E dX2_laysFrom_197 (by decide) ?_
                  refine gg_cv rfl (gg_leS (gg_leS (gg_leS (gg_leS (gg_leS (gg_leS (gg_leS (gg_leN gg_le0)))))))) rfl (by first | exact Nat.le_refl _ | omega | (dsimp only; omega)) (by first | exact Nat.le_refl _ | omega | (dsimp only; omega)) (ih105 (j1 + 1) (.ref (nd j1)) sp rp fp Qp eb N2 n3 z2 mq2 (by omega) (by omega) (hL.no (wy_no hw c112 c137)) (hs2) (hq2) (hms) (hkey) (hHp) (hQj) (hQ) (hz) (hnz) (hnN))
                · have hwy := wy_e hw c112 (by omega) c137
                  refine gg_aload_n (pc := 140) E dX2_laysFrom_140 rfl rfl ?_
                  refine gg_get (pc := 141) E ck_X2 7 q613 rfl (by decide) dX2_laysFrom_141 (gg_r 0 rfl) rfl ?_
                  refine gg_iload_n (pc := 144) E dX2_laysFrom_144 rfl rfl ?_
                  refine gg_iload_n (pc := 145) E dX2_laysFrom_145 rfl rfl ?_
                  refine gg_imulN (pc := 146) E nr k1 rfl rfl dX2_laysFrom_146 ?_
                  refine gg_aload (pc := 147) E dX2_laysFrom_147 rfl ?_
                  refine gg_aload (pc := 149) E dX2_laysFrom_149 rfl ?_
                  refine gg_callV (F := [_, _, _, _, _, _]) (As := []) (rest := [_, _, _]) (pc := 151) E ck_X10 (ct_X10_roof hl ) (cwV 0 E.2.2.2.2.1 (lw_V q2060 q1836 q1837 q196 q1838) rfl rfl rfl (by decide +kernel) ⟨by rw [hRf]; exact Nat.le_of_ble_eq_true rfl, by rw [hRl]; exact Nat.le_of_ble_eq_true rfl⟩) dX2_laysFrom_151 [] (by decide) rfl rfl (List.forall_mem_cons.mpr ⟨(gg_j 4 rfl ((by rw [← hs2]; exact mp_mem hq2))), (fun _ h => by cases h)⟩) (gg_j 4 rfl ((by rw [← hs2]; exact mp_mem hq2))) rfl rfl (Nat.le_of_ble_eq_true rfl) (by first | (rw [hRc]; exact Nat.le_of_ble_eq_true rfl) | (rw [hRc]; dsimp only; omega)) (by first | (rw [hRs]; exact Nat.le_of_ble_eq_true rfl) | (rw [hRs]; dsimp only; omega)) ?_ (fun X q C1 h => h.elim)
                  rintro _ _ ⟨rfl, rfl⟩
                  dsimp only [List.cons_append, List.nil_append, Option.toList]
                  refine gg_callV (F := [_, _, _, _, _, _]) (As := [_]) (rest := [_, _]) (pc := 154) E ck_X4 (ct_X4_beyond hl ) (cwV 1 E.2.2.2.2.1 (lw_V q2066 q2067 q2068 q177 q2069) rfl rfl rfl (by decide +kernel) ⟨by rw [hRf]; exact Nat.le_of_ble_eq_true rfl, by rw [hRl]; exact Nat.le_of_ble_eq_true rfl⟩) dX2_laysFrom_154 [] (by decide) rfl rfl (List.forall_mem_cons.mpr ⟨(gg_rm (List.mem_append_right _ (List.mem_append_right _ (hP.2 j1 (by omega))))), (fun _ h => by cases h)⟩) (gg_rm (List.mem_append_right _ (List.mem_append_right _ (hP.2 j1 (by omega))))) rfl rfl (Nat.le_of_ble_eq_true rfl) (by first | (rw [hRc]; exact Nat.le_of_ble_eq_true rfl) | (rw [hRc]; dsimp only; omega)) (by first | (rw [hRs]; exact Nat.le_of_ble_eq_true rfl) | (rw [hRs]; dsimp only; omega)) ?_ (fun X q C1 h => h.elim)
                  rintro _ _ ⟨rfl, rfl⟩
                  dsimp only [List.cons_append, List.nil_append, Option.toList]
                  refine gg_topI (y := nI (eo row j1 r0)) hwy.1 ?_
                  refine gg_iaddN (pc := 157) E (nr * k1) (eo row j1 r0) rfl rfl dX2_laysFrom_157 ?_
                  refine gg_ialdN (pc := 158) E (nr * k1 + (eo row j1 r0)) rfl (by omega) (by omega) dX2_laysFrom_158 (gg_i 0 rfl) ?_
                  refine gg_topI (y := dI (T1 (eo row j1 r0))) (hF3 _ hwy.2.2) ?_
                  refine gg_iconst (v := (-1)) (pc := 159) E dX2_laysFrom_159 (by decide) ?_
                  refine gg_icmp_ne (tgt := 197) (pc := 160) E dX2_laysFrom_160 (by decide) (fun c160 => ?_) (fun c160 => ?_)
                  · refine gg_goto (tgt := 105) (pc := 197) E dX2_laysFrom_197 (by decide) ?_
                    refine gg_cv rfl (gg_leS (gg_leS (gg_leS (gg_leS (gg_leS (gg_leS (gg_leS (gg_leN gg_le0)))))))) rfl (by first | exact Nat.le_refl _ | omega | (dsimp only; omega)) (by first | exact Nat.le_refl _ | omega | (dsimp only; omega)) (ih105 (j1 + 1) (.ref (nd j1)) sp rp fp Qp eb N2 n3 z2 mq2 (by omega) (by omega) (by obtain ⟨z, hz9⟩ := dI_n1 c160; exact hL.old hw hwy.2.1 hTr hle hz9) (hs2) (hq2) (hms) (hkey) (hHp) (hQj) (hQ) (hz) (hnz) (hnN))
                  · have hTv : T1 (eo row j1 r0) = none := dI_mm (fun x hx => by have := (hL.1 _ x hx).2; have := cF_le T1 10; omega) c160
                    have hLp := hL.push hw hwy.2.1 hTr hle hTv (fun q => Iff.rfl) (fun q hq => by obtain ⟨i, hi, e⟩ := hq; rw [← e]; exact hQ i hi) (ro' := llU rp N2 (eo row j1 r0)) (fa' := llU fp N2 (x0 + ef row j1)) (fun q hq => llU_o (by omega)) (fun q hq => llU_o (by omega)) llU_n llU_n
                    have hNp := hLp.N21
                    refine gg_aload_n (pc := 163) E dX2_laysFrom_163 rfl rfl ?_
                    refine gg_new (fs := [.int 0, .int 0]) (pc := 164) E ck_X10 q1763 q1764 q196 dX2_laysFrom_164 (gg_fsX10) (by first | (rw [hRc]; exact Nat.le_of_ble_eq_true rfl) | (rw [hRc]; dsimp only; omega)) (by first | (rw [hRs]; exact Nat.le_of_ble_eq_true rfl) | (rw [hRs]; dsimp only; omega)) (fun _ => rfl) (fun a4 => ?_)
                    dsimp only [List.cons_append, List.nil_append]
                    refine gg_dup (pc := 167) E dX2_laysFrom_167 rfl ?_
                    refine gg_aload (pc := 168) E dX2_laysFrom_168 rfl ?_
                    refine gg_aload (pc := 170) E dX2_laysFrom_170 rfl ?_
                    refine gg_callV (F := [_, _, _, _, _, _, _]) (As := []) (rest := [_, _, _, _]) (pc := 172) E ck_X10 (ct_X10_roof hl ) (cwV 0 E.2.2.2.2.1 (lw_V q2060 q1836 q1837 q196 q1838) rfl rfl rfl (by decide +kernel) ⟨by rw [hRf]; exact Nat.le_of_ble_eq_true rfl, by rw [hRl]; exact Nat.le_of_ble_eq_true rfl⟩) dX2_laysFrom_172 [] (by decide) rfl rfl (List.forall_mem_cons.mpr ⟨(gg_j 4 rfl ((by rw [← hs2]; exact mp_mem hq2))), (fun _ h => by cases h)⟩) (gg_j 4 rfl ((by rw [← hs2]; exact mp_mem hq2))) rfl rfl (Nat.le_of_ble_eq_true rfl) (by first | (rw [hRc]; exact Nat.le_of_ble_eq_true rfl) | (rw [hRc]; dsimp only; omega)) (by first | (rw [hRs]; exact Nat.le_of_ble_eq_true rfl) | (rw [hRs]; dsimp only; omega)) ?_ (fun X q C1 h => h.elim)
                    rintro _ _ ⟨rfl, rfl⟩
                    dsimp only [List.cons_append, List.nil_append, Option.toList]
                    refine gg_callV (F := [_, _, _, _, _, _, _]) (As := [_]) (rest := [_, _, _]) (pc := 175) E ck_X4 (ct_X4_beyond hl ) (cwV 1 E.2.2.2.2.1 (lw_V q2066 q2067 q2068 q177 q2069) rfl rfl rfl (by decide +kernel) ⟨by rw [hRf]; exact Nat.le_of_ble_eq_true rfl, by rw [hRl]; exact Nat.le_of_ble_eq_true rfl⟩) dX2_laysFrom_175 [] (by decide) rfl rfl (List.forall_mem_cons.mpr ⟨(gg_rm (List.mem_append_right _ (List.mem_append_right _ (hP.2 j1 (by omega))))), (fun _ h => by cases h)⟩) (gg_rm (List.mem_append_right _ (List.mem_append_right _ (hP.2 j1 (by omega))))) rfl rfl (Nat.le_of_ble_eq_true rfl) (by first | (rw [hRc]; exact Nat.le_of_ble_eq_true rfl) | (rw [hRc]; dsimp only; omega)) (by first | (rw [hRs]; exact Nat.le_of_ble_eq_true rfl) | (rw [hRs]; dsimp only; omega)) ?_ (fun X q C1 h => h.elim)
                    rintro _ _ ⟨rfl, rfl⟩
                    dsimp only [List.cons_append, List.nil_append, Option.toList]
                    refine gg_topI (y := nI (eo row j1 r0)) hwy.1 ?_
                    refine gg_aload (pc := 178) E dX2_laysFrom_178 rfl ?_
                    refine gg_callV (F := [_, _, _, _, _, _, _]) (As := []) (rest := [_, _, _, _]) (pc := 180) E ck_X10 (ct_X10_far hl ) (cwV 0 E.2.2.2.2.1 (lw_V q2061 q1829 q1830 q196 q1831) rfl rfl rfl (by decide +kernel) ⟨by rw [hRf]; exact Nat.le_of_ble_eq_true rfl, by rw [hRl]; exact Nat.le_of_ble_eq_true rfl⟩) dX2_laysFrom_180 [] (by decide) rfl rfl (List.forall_mem_cons.mpr ⟨(gg_j 4 rfl ((by rw [← hs2]; exact mp_mem hq2))), (fun _ h => by cases h)⟩) (gg_j 4 rfl ((by rw [← hs2]; exact mp_mem hq2))) rfl rfl (Nat.le_of_ble_eq_true rfl) (by first | (rw [hRc]; exact Nat.le_of_ble_eq_true rfl) | (rw [hRc]; dsimp only; omega)) (by first | (rw [hRs]; exact Nat.le_of_ble_eq_true rfl) | (rw [hRs]; dsimp only; omega)) ?_ (fun X q C1 h => h.elim)
                    rintro _ _ ⟨rfl, rfl⟩
                    dsimp only [List.cons_append, List.nil_append, Option.toList]
                    refine gg_aload (pc := 183) E dX2_laysFrom_183 rfl ?_
                    refine gg_callV (F := [_, _, _, _, _, _, _]) (As := []) (rest := [_, _, _, _, _]) (pc := 185) E ck_X4 (ct_X4_far hl ) (cwV 0 E.2.2.2.2.1 (lw_V q2070 q2071 q2072 q177 q2073) rfl rfl rfl (by decide +kernel) ⟨by rw [hRf]; exact Nat.le_of_ble_eq_true rfl, by rw [hRl]; exact Nat.le_of_ble_eq_true rfl⟩) dX2_laysFrom_185 [] (by decide) rfl rfl (List.forall_mem_cons.mpr ⟨(gg_rm (List.mem_append_right _ (List.mem_append_right _ (hP.2 j1 (by omega))))), (fun _ h => by cases h)⟩) (gg_rm (List.mem_append_right _ (List.mem_append_right _ (hP.2 j1 (by omega))))) rfl rfl (Nat.le_of_ble_eq_true rfl) (by first | (rw [hRc]; exact Nat.le_of_ble_eq_true rfl) | (rw [hRc]; dsimp only; omega)) (by first | (rw [hRs]; exact Nat.le_of_ble_eq_true rfl) | (rw [hRs]; dsimp only; omega)) ?_ (fun X q C1 h => h.elim)
                    rintro _ _ ⟨rfl, rfl⟩
                    dsimp only [List.cons_append, List.nil_append, Option.toList]
                    refine gg_topI (y := nI (ef row j1)) (hw.2.2.2 j1 c112).2.2.1 ?_
                    refine gg_iaddN (pc := 188) E x0 (ef row j1) rfl rfl dX2_laysFrom_188 ?_
                    refine gg_callIN (F := [_, _, _, _, _, _]) (As := [_, _]) (rest := [_, _]) (pc := 189) E (ct_X10_init hl ) ⟨va_cnB 2 E.2.2.2.2.1 (lw_meth q1767) rfl rfl rfl (E.2.2.2.2.2.1.2.1 _ nq1765) (E.2.2.2.2.1 _ q196) (by decide +kernel) ⟨by rw [hRf]; exact Nat.le_of_ble_eq_true rfl, by rw [hRl]; exact Nat.le_of_ble_eq_true rfl⟩, rfl, E.2.2.2.2.1 _ q1766⟩ dX2_laysFrom_189 [6] (by decide) rfl rfl (fun _ h => by cases h) rfl rfl (Nat.le_of_ble_eq_true rfl) (by first | (rw [hRc]; exact Nat.le_of_ble_eq_true rfl) | (rw [hRc]; dsimp only; omega)) (by first | (rw [hRs]; exact Nat.le_of_ble_eq_true rfl) | (rw [hRs]; dsimp only; omega)) ?_ (fun X q C1 h => h.elim)
                    rintro _ _ ⟨rfl, rfl⟩
                    dsimp only [List.cons_append, List.nil_append, Option.toList]
                    refine gg_up6 ?_
                    refine gg_psh (x := [(a4, .inl (9, [.int (nI (eo row j1 r0)), .int (nI (x0 + ef row j1))]))]) (M' := [_, _, _, _, _, _]) 4 rfl rfl rfl ?_
                    refine gg_seg (S' := mp (stN (llU sp N2 a4) (llU rp N2 (eo row j1 r0)) (llU fp N2 (x0 + ef row j1))) (N2 + 1)) (M' := [_, _, _, _, _, _]) 4 rfl st_push.symm rfl ?_
                    refine gg_cel (y := gg_ao g 4 (11 + 13 * z2) (lsF (fun j => (llU sp N2 a4) (Qp j)) n3)) 3 rfl (congrArg (gg_ao g 4 (11 + 13 * z2)) (so_push hQ).symm) rfl ?_
                    have hkp := ps_key hkey (r := eo row j1 r0) (x := x0 + ef row j1) (by have := hwy.2.2; omega) (by have := (hw.2.2.2 j1 c112).2.2.2.2.2.2.2; omega)
                    have hso : (llU sp N2 a4) N2 = a4 := llU_n
                    refine gg_topV (show Value.ref a4 = .ref ((llU sp N2 a4) N2) from by rw [hso]) ?_
                    by_cases hfull : n3 < 11 + 13 * z2
                    · refine gg_callV (F := [_, _, _, _]) (As := [_]) (rest := []) (pc := 192) E ck_J32 (ct_J32_add (so := (llU sp N2 a4)) (ro := (llU rp N2 (eo row j1 r0))) (fa := (llU fp N2 (x0 + ef row j1))) (Qa := Qp) (N := N2 + 1) (x1 := N2) (n1 := n3) (cap := 11 + 13 * z2) hl hfull (by omega) hkp (by omega) (fun j hj => by have := hQ j hj; omega) (hp_push hQ hHp)) (cwV 1 E.2.2.2.2.1 (lw_V q1776 q1777 q1778 q194 q1779) rfl rfl rfl (by decide +kernel) ⟨by rw [hRf]; exact Nat.le_of_ble_eq_true rfl, by rw [hRl]; exact Nat.le_of_ble_eq_true rfl⟩) dX2_laysFrom_192 [1, 3] (by decide) rfl rfl (List.forall_mem_append.mpr ⟨(List.forall_mem_cons.mpr ⟨(gg_i 1 rfl), (fun _ h => by cases h)⟩), (fun q hq => gg_j 2 rfl hq)⟩) (gg_i 1 rfl) rfl rfl (Nat.le_of_ble_eq_true rfl) (by first | (rw [hRc]; exact Nat.le_of_ble_eq_true rfl) | (rw [hRc]; dsimp only; omega)) (by first | (rw [hRs]; exact Nat.le_of_ble_eq_true rfl) | (rw [hRs]; dsimp only; omega)) ?_ (fun X q C1 h => h.elim)
                      rintro _ _ ⟨Q8, hp, rfl, rfl⟩
                      dsimp only [List.cons_append, List.nil_append, Option.toList]
                      refine gg_up2 ?_
                      refine gg_up3 ?_
                      
                      refine gg_istore (lv' := [_, _, _, _, _, _, _, _]) (pc := 195) E dX2_laysFrom_195 (Nat.le_of_ble_eq_true rfl) rfl rfl ?_
                      refine gg_goto (tgt := 105) (pc := 197) E dX2_laysFrom_197 (by decide) ?_
                      refine gg_cv rfl (gg_leS (gg_leS (gg_leS (gg_leS (gg_leS (gg_leS (gg_leS (gg_leN gg_le0)))))))) rfl (by first | exact Nat.le_refl _ | omega | (dsimp only; omega)) (by first | exact Nat.le_refl _ | omega | (dsimp only; omega)) (ih105 (j1 + 1) (.ref (nd j1)) (llU sp N2 a4) (llU rp N2 (eo row j1 r0)) (llU fp N2 (x0 + ef row j1)) Q8 eb (N2 + 1) (n3 + 1) z2 (mq2 + 1) (by omega) (by omega) (hLp.iff (fun q => (hp.2.1 q).symm)) (st_old hq2 hs2) (by omega) (by omega) (hkp) (hp.1) (hp.2.2 hQj (fun q => by obtain ⟨i, hi, e⟩ := q; have := hQ i hi; omega)) (Qi_lt9 (fun q z => (hp.2.1 q).mp z) hQ) (by omega) (by omega) (by omega))
                    · have hz0 : z2 = 0 := by omega
                      refine gg_callV (F := [_, _, _, _]) (As := [_]) (rest := []) (pc := 192) E ck_J32 (ct_J32_addG (so := (llU sp N2 a4)) (ro := (llU rp N2 (eo row j1 r0))) (fa := (llU fp N2 (x0 + ef row j1))) (Qa := Qp) (N := N2 + 1) (x1 := N2) (n1 := n3) (cap := 11 + 13 * z2) hl (by omega) (by omega) (by omega) hkp (by omega) (fun j hj => by have := hQ j hj; omega) (hp_push hQ hHp)) (cwV 1 E.2.2.2.2.1 (lw_V q1776 q1777 q1778 q194 q1779) rfl rfl rfl (by decide +kernel) ⟨by rw [hRf]; exact Nat.le_of_ble_eq_true rfl, by rw [hRl]; exact Nat.le_of_ble_eq_true rfl⟩) dX2_laysFrom_192 [1, 3] (by decide) rfl rfl (List.forall_mem_append.mpr ⟨(List.forall_mem_cons.mpr ⟨(gg_i 1 rfl), (fun _ h => by cases h)⟩), (fun q hq => gg_j 2 rfl hq)⟩) (gg_i 1 rfl) rfl rfl (Nat.le_of_ble_eq_true rfl) (by first | (rw [hRc]; exact Nat.le_of_ble_eq_true rfl) | (rw [hRc]; dsimp only; omega)) (by first | (rw [hRs]; exact Nat.le_of_ble_eq_true rfl) | (rw [hRs]; dsimp only; omega)) ?_ (fun X q C1 h => h.elim)
                      rintro _ _ ⟨e8, Q8, hp, rfl, rfl⟩
                      dsimp only [List.cons_append, List.nil_append, Option.toList]
                      refine gg_up2 ?_
                      refine gg_up5 ?_
                      refine gg_cel (y := gg_ao g 4 (11 + 13 * (z2 + 1)) (lsF (fun j => (llU sp N2 a4) (Q8 j)) (n3 + 1))) 5 rfl (by rw [show 11 + 13 * z2 + (11 + 13 * z2 + 2) = 11 + 13 * (z2 + 1) by omega]) rfl ?_
                      refine gg_istore (lv' := [_, _, _, _, _, _, _, _]) (pc := 195) E dX2_laysFrom_195 (Nat.le_of_ble_eq_true rfl) rfl rfl ?_
                      refine gg_goto (tgt := 105) (pc := 197) E dX2_laysFrom_197 (by decide) ?_
                      refine gg_up5 ?_
                      refine gg_up5 ?_
                      refine gg_up5 ?_
                      refine gg_up5 ?_
                      refine gg_up5 ?_
                      refine gg_up3 ?_
                      refine gg_cv rfl (gg_leS (gg_leS (gg_leS (gg_leS (gg_leS (gg_leS (gg_leS (gg_leN gg_le0)))))))) rfl (by first | exact Nat.le_refl _ | omega | (dsimp only; omega)) (by first | exact Nat.le_refl _ | omega | (dsimp only; omega)) (ih105 (j1 + 1) (.ref (nd j1)) (llU sp N2 a4) (llU rp N2 (eo row j1 r0)) (llU fp N2 (x0 + ef row j1)) Q8 e8 (N2 + 1) (n3 + 1) (z2 + 1) (mq2 + 1) (by omega) (by omega) (hLp.iff (fun q => (hp.2.1 q).symm)) (st_old hq2 hs2) (by omega) (by omega) (hkp) (hp.1) (hp.2.2 hQj (fun q => by obtain ⟨i, hi, e⟩ := q; have := hQ i hi; omega)) (Qi_lt9 (fun q z => (hp.2.1 q).mp z) hQ) (by omega) (by omega) (by omega))
          refine gg_cv rfl (gg_leS (gg_leS (gg_leS (gg_leS (gg_leS (gg_leS (gg_leS (gg_leN gg_le0)))))))) rfl (by first | exact Nat.le_refl _ | omega | (dsimp only; omega)) (by first | exact Nat.le_refl _ | omega | (dsimp only; omega)) (L105 _ 0 .null so ro fa Q3 ea1 N n2 z (mq + 1) (Nat.lt_succ_self _) (Nat.zero_le _) (hL2) (hs0) (hQ0) (Nat.le_refl _) (hkey) (hp1) (hp3 (pop_Qj hQj)) (hQ3) (hz) (by omega) (by omega))
        · refine gg_goto (tgt := 40) (pc := 74) E dX2_laysFrom_74 (by decide) ?_
          refine gg_cv rfl (gg_leS (gg_leS (gg_leS (gg_leS (gg_leS (gg_leN (gg_leN (gg_leN gg_le0)))))))) rfl (by first | exact Nat.le_refl _ | omega | (dsimp only; omega)) (by first | exact Nat.le_refl _ | omega | (dsimp only; omega)) (ih40 so ro fa Q3 T F2 ea1 N n2 z (mq + 1) (by omega) (by obtain ⟨z9, hz9⟩ := dI_n1 c71; exact hLJ.skip (q0 := Qa 0) hS (by rw [e2]; exact hz9)) (hF) (hO) (hkey) (hp1) (hp3 (pop_Qj hQj)) (hQ3) (hz) (by omega) (by omega))
  refine gg_cv rfl (gg_leS (gg_leS (gg_leS (gg_leS (gg_leS (gg_leN (gg_leN (gg_leN gg_le0)))))))) rfl (by first | exact Nat.le_refl _ | omega | (dsimp only; omega)) (by first | exact Nat.le_refl _ | omega | (dsimp only; omega)) (L40 _ (fun _ => a3) (fun _ => k1) (fun _ => 0) Q9 (fun _ => none) f ea 1 1 0 (0 + 1) (Nat.lt_succ_self _) (LJ.start hk (fun q => (hp.2.1 q).trans ⟨fun z => z.elim (fun ⟨i, hi, _⟩ => absurd hi (Nat.not_lt_zero i)) id, Or.inr⟩) rfl rfl) (hf) (fun j _ => rfl) (fun k hk => ⟨by omega, by omega⟩) (hp.1) (hp.2.2 (fun a b ha => absurd ha (Nat.not_lt_zero a)) (fun z => by obtain ⟨i, hi, _⟩ := z; exact absurd hi (Nat.not_lt_zero i))) (Qi_lt (Q' := fun _ => 0) (n' := 1) (fun q z => ⟨0, by omega, ((hp.2.1 q).mp z).elim (fun ⟨i, hi, _⟩ => absurd hi (Nat.not_lt_zero i)) Eq.symm⟩) (fun j hj => by omega)) (by omega) (by omega) (by omega))

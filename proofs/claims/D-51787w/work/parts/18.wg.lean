set_option maxRecDepth 100000
theorem nxs_ok {row : Nat → Int32} {D : Nat → Option Nat} {v : Nat} : ∀ n b, nxs row D v n = some b → ∃ i, i < n ∧ (ea row i = v ∨ eb row i = v) ∧ eo row i v = b ∧ ∃ x, D b = some x ∧ D v = some (x + ef row i) := by
  intro n
  induction n with
  | zero => intro b h; cases h
  | succ n ih =>
    intro b h
    unfold nxs at h
    split at h
    · rename_i q
      cases h
      exact ⟨n, Nat.lt_succ_self _, q.1, rfl, q.2.1⟩
    · obtain ⟨i, h1, h2⟩ := ih b h
      exact ⟨i, by omega, h2⟩
theorem nxs_no {row : Nat → Int32} {D : Nat → Option Nat} {v : Nat} : ∀ n, nxs row D v n = none → ∀ i, i < n → ¬ ((ea row i = v ∨ eb row i = v) ∧ ∃ x, D (eo row i v) = some x ∧ D v = some (x + ef row i)) := by
  intro n
  induction n with
  | zero => intro _ i hi; omega
  | succ n ih =>
    intro h i hi q
    unfold nxs at h
    split at h
    · cases h
    · rename_i r
      by_cases e : i = n
      · subst e
        exact r ⟨q.1, q.2, fun b hb => by rw [h] at hb; cases hb⟩
      · exact ih h i (by omega) q
theorem nxt_ok {row : Nat → Int32} {nr nw v go d : Nat} (hw : Ww row nr nw) (hg : go < 10) (hv : v ≠ go) (hd : dist row nw (-1) go v = some d) : ∃ u d', nxt row nw v go = some u ∧ dist row nw (-1) go u = some d' ∧ d' < d ∧ u < nr ∧ v ≠ u ∧ ∃ i, i < nw ∧ ((ea row i = v ∧ eb row i = u) ∨ (ea row i = u ∧ eb row i = v)) ∧ d = d' + ef row i := by
  have hN : nxt row nw v go = nxs row (dist row nw (-1) go) v nw := by
    unfold nxt
    rw [if_neg (by rintro (q | q); exact hv q; rw [hd] at q; cases q)]
  have hI := (dist_is (wo := -1) hw hg).1
  obtain ⟨i, u, y, hE, hu, hy⟩ := hI.2.2 v d hd hv
  cases hx : nxs row (dist row nw (-1) go) v nw with
  | none =>
    exfalso
    refine nxs_no nw hx i hE.1 ⟨?_, y, ?_, by rw [hd, ← hy]⟩
    · rcases hE.2.2 with q | q
      · exact Or.inr q.2
      · exact Or.inl q.1
    · have : eo row i v = u := by
        unfold eo
        rcases hE.2.2 with q | q <;> omega
      rw [this, hu]
  | some b =>
    obtain ⟨j, hj, h1, h2, x, h3, h4⟩ := nxs_ok nw b hx
    obtain ⟨w1, w2, w3, w4, w5, w6, w7, w8⟩ := hw.2.2.2 j hj
    have hb := nxs_lt hw nw (Nat.le_refl _) b hx
    rw [hd] at h4
    cases h4
    refine ⟨b, x, hN.trans hx, h3, by omega, hb, ?_, j, hj, ?_, rfl⟩
    · unfold eo at h2; omega
    · unfold eo at h2
      rcases h1 with q | q
      · exact Or.inl ⟨q, by omega⟩
      · exact Or.inr ⟨by omega, q⟩
theorem fi_ex {P : Nat → Prop} [DecidablePred P] {n : Nat} : (∃ i, i < n ∧ P i) → ∃ j, j < n ∧ P j ∧ fi P n = nI j := by
  rintro ⟨i, hi, hP⟩
  have : ∀ m, m ≤ n → (∃ j, j < n ∧ P j ∧ ∀ k, k < j → ¬ P k) ∨ (∀ k, k < m → ¬ P k) := by
    intro m
    induction m with
    | zero => intro _; exact Or.inr fun k hk => absurd hk (Nat.not_lt_zero k)
    | succ m ih =>
      intro hm
      rcases ih (by omega) with h | h
      · exact Or.inl h
      · by_cases hp : P m
        · exact Or.inl ⟨m, by omega, hp, h⟩
        · refine Or.inr fun k hk => ?_
          by_cases e : k = m
          · subst e; exact hp
          · exact h k (by omega)
  rcases this n (Nat.le_refl _) with ⟨j, h1, h2, h3⟩ | h
  · exact ⟨j, h1, h2, fi_some h1 h2 h3⟩
  · exact absurd hP (h i hi)
/-- the first way between two roofs -/
def wyI (row : Nat → Int32) (nw : Nat) (a b : Int32) : Int32 := fi (fun i => ¬ a = b ∧ (row (160 + 3 * i) = a ∨ row (160 + 3 * i + 1) = a) ∧ (row (160 + 3 * i) = b ∨ row (160 + 3 * i + 1) = b)) nw
def wy (row : Nat → Int32) (nw v u : Nat) : Nat := (wyI row nw (nI v) (nI u)).toNatClampNeg
theorem wy_ok {row : Nat → Int32} {nr nw v u : Nat} (hw : Ww row nr nw) (hv : v < nr) (hu : u < nr) (hvu : v ≠ u) (h : ∃ i, i < nw ∧ ((ea row i = v ∧ eb row i = u) ∨ (ea row i = u ∧ eb row i = v))) : wyI row nw (nI v) (nI u) = nI (wy row nw v u) ∧ wy row nw v u < nw := by
  have h10 := hw.2.2.1
  have h20 := hw.2.1
  obtain ⟨i, hi, hE⟩ := h
  obtain ⟨w1, w2, -⟩ := hw.2.2.2 i hi
  obtain ⟨j, hj, -, hf⟩ := fi_ex (P := fun i => ¬ nI v = nI u ∧ (row (160 + 3 * i) = nI v ∨ row (160 + 3 * i + 1) = nI v) ∧ (row (160 + 3 * i) = nI u ∨ row (160 + 3 * i + 1) = nI u)) (n := nw) ⟨i, hi, nI_ne (by omega) (by omega) hvu, by
    rw [w1, w2]
    rcases hE with ⟨rfl, rfl⟩ | ⟨rfl, rfl⟩
    · exact ⟨Or.inl rfl, Or.inr rfl⟩
    · exact ⟨Or.inr rfl, Or.inl rfl⟩⟩
  have e : wyI row nw (nI v) (nI u) = nI j := hf
  have e2 : wy row nw v u = j := by
    unfold wy
    rw [e, nI_clamp (by omega)]
  exact ⟨by rw [e2]; exact e, by omega⟩
/-- a sum along the route -/
noncomputable def rt (row : Nat → Int32) (nw go : Nat) (F : Nat → Nat → Int32) : Nat → Nat → Int32
  | 0, _ => 0
  | n + 1, v => if v = go then 0 else match nxt row nw v go with
    | none => 0
    | some u => F v u + rt row nw go F n u
theorem rt_go {row : Nat → Int32} {nw go n v : Nat} {F : Nat → Nat → Int32} (h : v = go) : rt row nw go F (n + 1) v = 0 := by
  unfold rt
  rw [if_pos h]
theorem rt_st {row : Nat → Int32} {nw go n v u : Nat} {F : Nat → Nat → Int32} (h : v ≠ go) (hu : nxt row nw v go = some u) : rt row nw go F (n + 1) v = F v u + rt row nw go F n u := by
  conv => lhs; unfold rt
  rw [if_neg h, hu]
noncomputable def rtc (row : Nat → Int32) (nw go : Nat) (no : Int32) : Nat → Int32 := rt row nw go (fun v _ => row (25 + 13 * v + 9) * ((no + 3) / 4)) 82
noncomputable def rtwF (row : Nat → Int32) (nw : Nat) (no wi : Int32) (v u : Nat) : Int32 := wb wi (row (160 + 3 * wy row nw v u + 2)) (row (25 + 13 * u + 8)) no
noncomputable def rtw (row : Nat → Int32) (nw go : Nat) (no wi : Int32) : Nat → Int32 := rt row nw go (rtwF row nw no wi) 82
noncomputable def qCost (row : Nat → Int32) (nr nw : Nat) (k o no : Int32) : Int32 := if (isR nr k ∧ isR nr o) ∧ 1 ≤ no.toInt ∧ no.toInt ≤ 8 then (if dist row nw (-1) (tn o) (tn k) = none then -1 else rtc row nw (tn o) no (tn k)) else 0
noncomputable def qWrong (row : Nat → Int32) (nr nw : Nat) (k o no : Int32) : Int32 := if (isR nr k ∧ isR nr o) ∧ 1 ≤ no.toInt ∧ no.toInt ≤ 8 then (if dist row nw (-1) (tn o) (tn k) = none then -1 else rtw row nw (tn o) no (row 4) (tn k)) else 0
noncomputable def cal (row : Nat → Int32) (nw go v : Nat) : Nat → Nat
  | 0 => 0
  | n + 1 => if 0 < rtw row nw go 1 (nI (n + 1)) v then cal row nw go v n else n + 1
noncomputable def qCalm (row : Nat → Int32) (nr nw : Nat) (k o : Int32) : Int32 := if isR nr k ∧ isR nr o then (if dist row nw (-1) (tn o) (tn k) = none then -1 else nI (cal row nw (tn o) (tn k) 9)) else 0
noncomputable def prt (row : Nat → Int32) (nw : Nat) (wo : Int32) (nr : Nat) : Int32 := sm (fun i => sm (fun j => if dI (dist row nw wo i j) = -1 then 1 else 0) i) nr
noncomputable def dea (row : Nat → Int32) (nr nw : Nat) : Nat → Int32 × Int32
  | 0 => (-1, -1)
  | i + 1 => if (dea row nr nw i).2 < prt row nw (nI i) nr then (nI i, prt row nw (nI i) nr) else dea row nr nw i
theorem dea_t {row : Nat → Int32} {nr nw i : Nat} (h : (dea row nr nw i).2 < prt row nw (nI i) nr) : dea row nr nw (i + 1) = (nI i, prt row nw (nI i) nr) := by
  conv => lhs; unfold dea
  rw [if_pos h]
theorem dea_f {row : Nat → Int32} {nr nw i : Nat} (h : prt row nw (nI i) nr ≤ (dea row nr nw i).2) : dea row nr nw i = dea row nr nw (i + 1) := by
  conv => rhs; unfold dea
  rw [if_neg (Int32.not_lt.mpr h)]
theorem wb_0 {f e2 : Int32} (h0 : 0 ≤ e2.toInt) (h9 : e2.toInt ≤ 9) : wb 0 f e2 1 = 0 := by
  obtain ⟨j, hj, rfl⟩ := k_nI (n := 10) (k := e2) (by omega)
  unfold wb
  rw [Int32.zero_mul]
  rcases (show j = 0 ∨ j = 1 ∨ j = 2 ∨ j = 3 ∨ j = 4 ∨ j = 5 ∨ j = 6 ∨ j = 7 ∨ j = 8 ∨ j = 9 by omega) with rfl | rfl | rfl | rfl | rfl | rfl | rfl | rfl | rfl | rfl <;> decide
theorem rt_0 {row : Nat → Int32} {nr nw nt go : Nat} (hG : Gw row nr nw nt) : ∀ n v, rt row nw go (rtwF row nw 1 0) n v = 0 := by
  intro n
  induction n with
  | zero => intro v; rfl
  | succ n ih =>
    intro v
    unfold rt
    split
    · rfl
    · split
      · rfl
      · rename_i u hu
        rw [ih u]
        have hg := (hG.2.2.2.1 u (nxt_lt hG.2.1 hu)).2
        unfold rtwF
        rw [wb_0 hg.2.2.1 hg.2.2.2]
        rfl
theorem cal_t {row : Nat → Int32} {nr nw nt go v n : Nat} (hG : Gw row nr nw nt) (h : 0 < rtw row nw go 1 (nI n) v) : 1 ≤ n ∧ cal row nw go v n = cal row nw go v (n - 1) := by
  cases n with
  | zero =>
    have := rt_0 (go := go) hG 82 v
    unfold rtw at h
    rw [show nI 0 = 0 from rfl, this] at h
    exact absurd h (by decide)
  | succ n =>
    refine ⟨by omega, ?_⟩
    conv => lhs; unfold cal
    rw [if_pos h]
    rfl
theorem cal_f {row : Nat → Int32} {nw go v n : Nat} (h : ¬ 0 < rtw row nw go 1 (nI n) v) : cal row nw go v n = n := by
  cases n with
  | zero => rfl
  | succ n =>
    unfold cal
    rw [if_neg h]
set_option maxHeartbeats 4000000 in
theorem ct_X5_costOf {l : Launch} (hl : l.stackTraces = false) {g : gg_G}  {h : Nat} {ad : Nat → Nat} {x : Nat → Int32} {row : Nat → Int32} {sums : Nat → Int32} {k o no : Int32} {nr nw nt : Nat} (hG : Gw row nr nw nt) : gg_C l g yX5_costOf (ws_ yX5_costOf cX5_costOf 6 (some .int)) { frames := 6, cells := 0, slots := 0, locals := 138 } [.ref h, .int k, .int o, .int no] [((ad 0), gg_ai g 1030 row)] [[(h, .inl (4, mo_f ad x))], [((ad 9), gg_ai g 10 sums)]] (fun vv CC => ∃ (sums1 : Nat → Int32), vv = some (.int (qCost row nr nw k o no)) ∧ CC = [[(h, .inl (4, mo_f ad (upd x 6 (th (if (0 ≤ k.toInt ∧ k.toInt < nr) ∧ 0 ≤ o.toInt ∧ o.toInt < nr then 1 else 0) (if 1 ≤ no.toInt ∧ no.toInt ≤ 8 then 1 else 0) 1))))], [((ad 9), gg_ai g 10 sums1)]]) gg_no := by
  refine gg_of (lv := [_, _, _, _, _, _]) (by decide) hl (Nat.le_of_ble_eq_true rfl) rfl ?_
  intro p e R s m args below meth c A Q hRf hRl hRc hRs E Fn hnm hex
  have hG0 := hG
  obtain ⟨hnr, hw, ht, hG4, hGS⟩ := hG
  have hnw := hw.1
  have hw20 := hw.2.1
  have hr10 := hw.2.2.1
  have hnt := ht.1
  have ht30 := ht.2.1
  refine gg_aload_n (pc := 0) E dX5_costOf_0 rfl rfl ?_
  refine gg_aload_n (pc := 1) E dX5_costOf_1 rfl rfl ?_
  refine gg_iload_n (pc := 2) E dX5_costOf_2 rfl rfl ?_
  refine gg_iload_n (pc := 3) E dX5_costOf_3 rfl rfl ?_
  refine gg_callV (F := [_, _]) (As := [_, _]) (rest := [_]) (pc := 4) E ck_X5 (ct_X5_areRoofs hl (by first | assumption | omega) (by first | assumption | omega)) (cwV 2 E.2.2.2.2.1 (lw_V q3292 q3294 qs134 q179 q3295) rfl rfl rfl (by decide +kernel) ⟨by rw [hRf]; exact Nat.le_of_ble_eq_true rfl, by rw [hRl]; exact Nat.le_of_ble_eq_true rfl⟩) dX5_costOf_4 [] (by decide) rfl rfl (List.forall_mem_cons.mpr ⟨(gg_i 0 rfl), (List.forall_mem_cons.mpr ⟨(gg_r 0 rfl), (fun _ h => by cases h)⟩)⟩) (gg_i 0 rfl) rfl rfl (Nat.le_of_ble_eq_true rfl) (by first | (rw [hRc]; exact Nat.le_of_ble_eq_true rfl) | (rw [hRc]; dsimp only; omega)) (by first | (rw [hRs]; exact Nat.le_of_ble_eq_true rfl) | (rw [hRs]; dsimp only; omega)) ?_ (fun X q C1 h => h.elim)
  rintro _ _ ⟨rfl, rfl⟩
  dsimp only [List.cons_append, List.nil_append, Option.toList]
  refine gg_iload_n (pc := 7) E dX5_costOf_7 rfl rfl ?_
  refine gg_i2l (pc := 8) E dX5_costOf_8 rfl ?_
  refine gg_lconst (v := 1) (pc := 9) E dX5_costOf_9 (by decide) ?_
  refine gg_ldc2 (pc := 10) E q3337 dX5_costOf_10 ?_
  refine gg_callS (F := [_, _]) (As := [_, _, _]) (rest := [_, _]) (pc := 13) E (ct_X5_in hl ) (va_cwS 3 E.2.2.2.2.1 (lw_S q2961 q2962 q179 q2963) rfl rfl rfl (by decide +kernel) ⟨by rw [hRf]; exact Nat.le_of_ble_eq_true rfl, by rw [hRl]; exact Nat.le_of_ble_eq_true rfl⟩) dX5_costOf_13 [] (by decide) rfl rfl (fun _ h => by cases h) rfl rfl (Nat.le_of_ble_eq_true rfl) (by first | (rw [hRc]; exact Nat.le_of_ble_eq_true rfl) | (rw [hRc]; dsimp only; omega)) (by first | (rw [hRs]; exact Nat.le_of_ble_eq_true rfl) | (rw [hRs]; dsimp only; omega)) ?_ (fun X q C1 h => h.elim)
  rintro _ _ ⟨rfl, rfl⟩
  dsimp only [List.cons_append, List.nil_append, Option.toList]
  refine gg_topI (y := if 1 ≤ no.toInt ∧ no.toInt ≤ 8 then 1 else 0) (gg_ifc (in_ab (by decide) (by decide))) ?_
  refine gg_iconst (v := 1) (pc := 16) E dX5_costOf_16 (by decide) ?_
  refine gg_callV (F := [_]) (As := [_, _, _]) (rest := []) (pc := 17) E ck_X5 (ct_X5_may hl ) (cwV 3 E.2.2.2.2.1 (lw_V q3241 q3243 qs127 q179 q3244) rfl rfl rfl (by decide +kernel) ⟨by rw [hRf]; exact Nat.le_of_ble_eq_true rfl, by rw [hRl]; exact Nat.le_of_ble_eq_true rfl⟩) dX5_costOf_17 [0] (by decide) rfl rfl (fun _ h => by cases h) (gg_i 0 rfl) rfl rfl (Nat.le_of_ble_eq_true rfl) (by first | (rw [hRc]; exact Nat.le_of_ble_eq_true rfl) | (rw [hRc]; dsimp only; omega)) (by first | (rw [hRs]; exact Nat.le_of_ble_eq_true rfl) | (rw [hRs]; dsimp only; omega)) ?_ (fun X q C1 h => h.elim)
  rintro _ _ ⟨rfl, rfl⟩
  dsimp only [List.cons_append, List.nil_append, Option.toList]
  refine gg_ifP_ne (tgt := 25) (pc := 20) E dX5_costOf_20 (by decide) (fun c20 => ?_) (fun c20 => ?_)
  · obtain ⟨j, hj, hjq⟩ := k_nI (th_2.mp c20).1.1
    subst hjq
    obtain ⟨go, hgo, hgoq⟩ := k_nI (th_2.mp c20).1.2
    subst hgoq
    refine gg_aload_n (pc := 25) E dX5_costOf_25 rfl rfl ?_
    refine gg_iload_n (pc := 26) E dX5_costOf_26 rfl rfl ?_
    refine gg_iload_n (pc := 27) E dX5_costOf_27 rfl rfl ?_
    refine gg_callV (F := [_]) (As := [.int (nI j), .int (nI go)]) (rest := []) (pc := 28) E ck_X5 (ct_X5_sumTo hl (hw) (by omega) (by omega)) (cwV 2 E.2.2.2.2.1 (lw_V q3200 q3202 qs118 q179 q3203) rfl rfl rfl (by decide +kernel) ⟨by rw [hRf]; exact Nat.le_of_ble_eq_true rfl, by rw [hRl]; exact Nat.le_of_ble_eq_true rfl⟩) dX5_costOf_28 [1] (by decide) rfl rfl (List.forall_mem_cons.mpr ⟨(gg_i 0 rfl), (List.forall_mem_cons.mpr ⟨(gg_r 0 rfl), (fun _ h => by cases h)⟩)⟩) (gg_i 0 rfl) rfl rfl (Nat.le_of_ble_eq_true rfl) (by first | (rw [hRc]; exact Nat.le_of_ble_eq_true rfl) | (rw [hRc]; dsimp only; omega)) (by first | (rw [hRs]; exact Nat.le_of_ble_eq_true rfl) | (rw [hRs]; dsimp only; omega)) ?_ (fun X q C1 h => h.elim)
    rintro _ _ ⟨rfl, rfl⟩
    dsimp only [List.cons_append, List.nil_append, Option.toList]
    refine gg_up1 ?_
    refine gg_iconst (v := (-1)) (pc := 31) E dX5_costOf_31 (by decide) ?_
    refine gg_icmp_ne (tgt := 37) (pc := 32) E dX5_costOf_32 (by decide) (fun c32 => ?_) (fun c32 => ?_)
    · obtain ⟨d0, hd0⟩ := dI_nm1 c32
      refine gg_iconst (v := 0) (pc := 37) E dX5_costOf_37 (by decide) ?_
      refine gg_istore (lv' := [_, _, _, _, _, _]) (pc := 38) E dX5_costOf_38 (Nat.le_of_ble_eq_true rfl) rfl rfl ?_
      refine gg_iload_n (pc := 40) E dX5_costOf_40 rfl rfl ?_
      refine gg_istore (lv' := [_, _, _, _, _, _]) (pc := 41) E dX5_costOf_41 (Nat.le_of_ble_eq_true rfl) rfl rfl ?_
      have L43 : ∀ (n : Nat) (acc : Int32) (v nf d : Nat) (S : Nat → Int32), nf < n → (dist row nw (-1) go v = some d) → (d ≤ nf) → (acc + rt row nw go (fun v _ => row (25 + 13 * v + 9) * ((no + 3) / 4)) (nf + 1) v = rtc row nw go no j) → (v < nr) → gg_W p l e R s m args below meth c g A 6 Q 0 0 [[(h, .inl (4, mo_f ad (upd x 6 (th (if (0 ≤ (nI j).toInt ∧ (nI j).toInt < nr) ∧ 0 ≤ (nI go).toInt ∧ (nI go).toInt < nr then 1 else 0) (if 1 ≤ no.toInt ∧ no.toInt ≤ 8 then 1 else 0) 1))))], [((ad 9), gg_ai g 10 S)]] [some (.ref h), some (.int (nI j)), some (.int (nI go)), some (.int no), some (.int acc), some (.int (nI v))] [] 43 := by
        intro n43
        induction n43 with
        | zero => intro acc v nf d S hmz; exact absurd hmz (Nat.not_lt_zero _)
        | succ n43 ih43 =>
          intro acc v nf d S hm43 hd hdn hac hv
          refine gg_iload (pc := 43) E dX5_costOf_43 rfl ?_
          refine gg_iload_n (pc := 45) E dX5_costOf_45 rfl rfl ?_
          refine gg_icmpN_eq (tgt := 85) (pc := 46) E v go rfl rfl (by omega) (by omega) dX5_costOf_46 (by decide) (fun c46 => ?_) (fun c46 => ?_)
          · refine gg_iload (pc := 85) E dX5_costOf_85 rfl ?_
            refine gg_iret (pc := 87) E Fn rfl (rfl) dX5_costOf_87 (by first | exact Nat.le_of_ble_eq_true rfl | (dsimp only; omega)) (by first | exact Nat.le_of_ble_eq_true rfl | (dsimp only; omega)) ?_
            exact ⟨_, by unfold qCost; rw [if_pos (th_2.mp c20), tn_nI (j := j) (by omega), tn_nI (j := go) (by omega), if_neg (by rw [hd0]; intro q; cases q), ← hac, rt_go c46, Int32.add_zero], rfl⟩
          · obtain ⟨u, d1, z1, z2, z3, z4, z5, i0, z6, z7, z8⟩ := nxt_ok hw (by omega) c46 hd
            obtain ⟨n0, rfl⟩ : ∃ n0, nf = n0 + 1 := ⟨nf - 1, by omega⟩
            refine gg_iload (pc := 49) E dX5_costOf_49 rfl ?_
            refine gg_aload_n (pc := 51) E dX5_costOf_51 rfl rfl ?_
            refine gg_get (pc := 52) E ck_X5 0 q2859 rfl (by decide) dX5_costOf_52 (gg_i 0 rfl) rfl ?_
            refine gg_iload (pc := 55) E dX5_costOf_55 rfl ?_
            refine gg_callS (F := [_, _]) (As := [.int (nI v)]) (rest := [_, _]) (pc := 57) E (ct_X5_r hl ) (va_cwS 1 E.2.2.2.2.1 (lw_S q2849 q2850 q179 q2851) rfl rfl rfl (by decide +kernel) ⟨by rw [hRf]; exact Nat.le_of_ble_eq_true rfl, by rw [hRl]; exact Nat.le_of_ble_eq_true rfl⟩) dX5_costOf_57 [] (by decide) rfl rfl (fun _ h => by cases h) rfl rfl (Nat.le_of_ble_eq_true rfl) (by first | (rw [hRc]; exact Nat.le_of_ble_eq_true rfl) | (rw [hRc]; dsimp only; omega)) (by first | (rw [hRs]; exact Nat.le_of_ble_eq_true rfl) | (rw [hRs]; dsimp only; omega)) ?_ (fun X q C1 h => h.elim)
            rintro _ _ ⟨rfl, rfl⟩
            dsimp only [List.cons_append, List.nil_append, Option.toList]
            refine gg_bipush (v := 9) (pc := 60) E dX5_costOf_60 (by decide) ?_
            refine gg_iaddN (pc := 62) E (25 + 13 * v) 9 rfl rfl dX5_costOf_62 ?_
            refine gg_ialdN (pc := 63) E ((25 + 13 * v) + 9) rfl (by omega) (by omega) dX5_costOf_63 (gg_r 0 rfl) ?_
            refine gg_aload_n (pc := 64) E dX5_costOf_64 rfl rfl ?_
            refine gg_iload_n (pc := 65) E dX5_costOf_65 rfl rfl ?_
            refine gg_callV (F := [_, _]) (As := [_]) (rest := [_, _]) (pc := 66) E ck_X5 (ct_X5_barsOf hl ) (cwV 1 E.2.2.2.2.1 (lw_V q3184 q3186 qs114 q179 q3187) rfl rfl rfl (by decide +kernel) ⟨by rw [hRf]; exact Nat.le_of_ble_eq_true rfl, by rw [hRl]; exact Nat.le_of_ble_eq_true rfl⟩) dX5_costOf_66 [] (by decide) rfl rfl (fun _ h => by cases h) (gg_i 0 rfl) rfl rfl (Nat.le_of_ble_eq_true rfl) (by first | (rw [hRc]; exact Nat.le_of_ble_eq_true rfl) | (rw [hRc]; dsimp only; omega)) (by first | (rw [hRs]; exact Nat.le_of_ble_eq_true rfl) | (rw [hRs]; dsimp only; omega)) ?_ (fun X q C1 h => h.elim)
            rintro _ _ ⟨rfl, rfl⟩
            dsimp only [List.cons_append, List.nil_append, Option.toList]
            refine gg_imul (pc := 69) E dX5_costOf_69 ?_
            refine gg_iadd (pc := 70) E dX5_costOf_70 ?_
            refine gg_istore (lv' := [_, _, _, _, _, _]) (pc := 71) E dX5_costOf_71 (Nat.le_of_ble_eq_true rfl) rfl rfl ?_
            refine gg_aload_n (pc := 73) E dX5_costOf_73 rfl rfl ?_
            refine gg_iload (pc := 74) E dX5_costOf_74 rfl ?_
            refine gg_iload_n (pc := 76) E dX5_costOf_76 rfl rfl ?_
            refine gg_callV (F := [_]) (As := [.int (nI v), .int (nI go)]) (rest := []) (pc := 77) E ck_X5 (ct_X5_nextTo hl (hw) (by omega) (by omega)) (cwV 2 E.2.2.2.2.1 (lw_V q3196 q3198 qs117 q179 q3199) rfl rfl rfl (by decide +kernel) ⟨by rw [hRf]; exact Nat.le_of_ble_eq_true rfl, by rw [hRl]; exact Nat.le_of_ble_eq_true rfl⟩) dX5_costOf_77 [1] (by decide) rfl rfl (List.forall_mem_cons.mpr ⟨(gg_i 0 rfl), (List.forall_mem_cons.mpr ⟨(gg_r 0 rfl), (fun _ h => by cases h)⟩)⟩) (gg_i 0 rfl) rfl rfl (Nat.le_of_ble_eq_true rfl) (by first | (rw [hRc]; exact Nat.le_of_ble_eq_true rfl) | (rw [hRc]; dsimp only; omega)) (by first | (rw [hRs]; exact Nat.le_of_ble_eq_true rfl) | (rw [hRs]; dsimp only; omega)) ?_ (fun X q C1 h => h.elim)
            rintro _ _ ⟨sums1_1, rfl, rfl⟩
            dsimp only [List.cons_append, List.nil_append, Option.toList]
            refine gg_up1 ?_
            rw [z1]
            refine gg_istore (lv' := [_, _, _, _, _, _]) (pc := 80) E dX5_costOf_80 (Nat.le_of_ble_eq_true rfl) rfl rfl ?_
            refine gg_goto (tgt := 43) (pc := 82) E dX5_costOf_82 (by decide) ?_
            refine gg_cv rfl (gg_leS (gg_leS (gg_leS (gg_leS (gg_leS (gg_leS gg_le0)))))) rfl (by first | exact Nat.le_refl _ | (dsimp only; omega)) (by first | exact Nat.le_refl _ | (dsimp only; omega)) (ih43 _ u n0 d1 _ (by omega) (z2) (by omega) (by rw [rt_st c46 z1, ← Int32.add_assoc] at hac; exact hac) (z4))
      refine gg_cv rfl (gg_leS (gg_leS (gg_leS (gg_leS (gg_leS (gg_leS gg_le0)))))) rfl (by first | exact Nat.le_refl _ | (dsimp only; omega)) (by first | exact Nat.le_refl _ | (dsimp only; omega)) (L43 _ 0 j 81 d0 _ (Nat.lt_succ_self _) (hd0) ((dist81 hw (by omega)) _ _ hd0) (Int32.zero_add _) (hj))
    · refine gg_iconst (v := (-1)) (pc := 35) E dX5_costOf_35 (by decide) ?_
      refine gg_iret (pc := 36) E Fn rfl (rfl) dX5_costOf_36 (by first | exact Nat.le_of_ble_eq_true rfl | (dsimp only; omega)) (by first | exact Nat.le_of_ble_eq_true rfl | (dsimp only; omega)) ?_
      exact ⟨_, by unfold qCost; rw [if_pos (th_2.mp c20), tn_nI (j := j) (by omega), tn_nI (j := go) (by omega), if_pos (dI_m1 (dist81 hw (by omega) _) c32)], rfl⟩
  · refine gg_iconst (v := 0) (pc := 23) E dX5_costOf_23 (by decide) ?_
    refine gg_iret (pc := 24) E Fn rfl (rfl) dX5_costOf_24 (by first | exact Nat.le_of_ble_eq_true rfl | (dsimp only; omega)) (by first | exact Nat.le_of_ble_eq_true rfl | (dsimp only; omega)) ?_
    exact ⟨_, by unfold qCost; rw [if_neg (fun q => c20 (th_2.mpr q))], rfl⟩
set_option maxHeartbeats 4000000 in
theorem ct_X5_wrongOf {l : Launch} (hl : l.stackTraces = false) {g : gg_G}  {h : Nat} {ad : Nat → Nat} {x : Nat → Int32} {row : Nat → Int32} {sums : Nat → Int32} {no wi : Int32} {j go d0 : Nat} {nr nw nt : Nat} (hG : Gw row nr nw nt) (hj : j < nr) (hg : go < nr) (hd0 : dist row nw (-1) go j = some d0) : gg_C l g yX5_wrongOf (ws_ yX5_wrongOf cX5_wrongOf 8 (some .int)) { frames := 6, cells := 0, slots := 0, locals := 138 } [.ref h, .int (nI j), .int (nI go), .int no, .int wi] [(h, .inl (4, mo_f ad x)), ((ad 0), gg_ai g 1030 row)] [[((ad 9), gg_ai g 10 sums)]] (fun vv CC => ∃ (sums1 : Nat → Int32), vv = some (.int (rtw row nw go no wi j)) ∧ CC = [[((ad 9), gg_ai g 10 sums1)]]) gg_no := by
  refine gg_of (lv := [_, _, _, _, _, _, _, _]) (by decide) hl (Nat.le_of_ble_eq_true rfl) rfl ?_
  intro p e R s m args below meth c A Q hRf hRl hRc hRs E Fn hnm hex
  have hG0 := hG
  obtain ⟨hnr, hw, ht, hG4, hGS⟩ := hG
  have hnw := hw.1
  have hw20 := hw.2.1
  have hr10 := hw.2.2.1
  have hnt := ht.1
  have ht30 := ht.2.1
  refine gg_iconst (v := 0) (pc := 0) E dX5_wrongOf_0 (by decide) ?_
  refine gg_istore (lv' := [_, _, _, _, _, _, _, _]) (pc := 1) E dX5_wrongOf_1 (Nat.le_of_ble_eq_true rfl) rfl rfl ?_
  refine gg_iload_n (pc := 3) E dX5_wrongOf_3 rfl rfl ?_
  refine gg_istore (lv' := [_, _, _, _, _, _, _, _]) (pc := 4) E dX5_wrongOf_4 (Nat.le_of_ble_eq_true rfl) rfl rfl ?_
  have L6 : ∀ (n : Nat) (acc : Int32) (v nf d : Nat) (S : Nat → Int32), nf < n → (dist row nw (-1) go v = some d) → (d ≤ nf) → (acc + rt row nw go (rtwF row nw no wi) (nf + 1) v = rtw row nw go no wi j) → (v < nr) → gg_W p l e R s m args below meth c g A 8 Q 0 0 [[((ad 9), gg_ai g 10 S)]] [some (.ref h), some (.int (nI j)), some (.int (nI go)), some (.int no), some (.int wi), some (.int acc), some (.int (nI v)), none] [] 6 := by
    intro n6
    induction n6 with
    | zero => intro acc v nf d S hmz; exact absurd hmz (Nat.not_lt_zero _)
    | succ n6 ih6 =>
      intro acc v nf d S hm6 hd hdn hac hv
      refine gg_iload (pc := 6) E dX5_wrongOf_6 rfl ?_
      refine gg_iload_n (pc := 8) E dX5_wrongOf_8 rfl rfl ?_
      refine gg_icmpN_eq (tgt := 60) (pc := 9) E v go rfl rfl (by omega) (by omega) dX5_wrongOf_9 (by decide) (fun c9 => ?_) (fun c9 => ?_)
      · refine gg_iload (pc := 60) E dX5_wrongOf_60 rfl ?_
        refine gg_iret (pc := 62) E Fn rfl (rfl) dX5_wrongOf_62 (by first | exact Nat.le_of_ble_eq_true rfl | (dsimp only; omega)) (by first | exact Nat.le_of_ble_eq_true rfl | (dsimp only; omega)) ?_
        exact ⟨_, by rw [← hac, rt_go c9, Int32.add_zero], rfl⟩
      · obtain ⟨u, d1, z1, z2, z3, z4, z5, i0, z6, z7, z8⟩ := nxt_ok hw (by omega) c9 hd
        obtain ⟨n0, rfl⟩ : ∃ n0, nf = n0 + 1 := ⟨nf - 1, by omega⟩
        obtain ⟨y1, y2⟩ := wy_ok hw hv z4 z5 ⟨i0, z6, z7⟩
        refine gg_aload_n (pc := 12) E dX5_wrongOf_12 rfl rfl ?_
        refine gg_iload (pc := 13) E dX5_wrongOf_13 rfl ?_
        refine gg_iload_n (pc := 15) E dX5_wrongOf_15 rfl rfl ?_
        refine gg_callV (F := []) (As := [.int (nI v), .int (nI go)]) (rest := []) (pc := 16) E ck_X5 (ct_X5_nextTo hl (hw) (by omega) (by omega)) (cwV 2 E.2.2.2.2.1 (lw_V q3196 q3198 qs117 q179 q3199) rfl rfl rfl (by decide +kernel) ⟨by rw [hRf]; exact Nat.le_of_ble_eq_true rfl, by rw [hRl]; exact Nat.le_of_ble_eq_true rfl⟩) dX5_wrongOf_16 [0] (by decide) rfl rfl (List.forall_mem_cons.mpr ⟨(gg_r 0 rfl), (List.forall_mem_cons.mpr ⟨(gg_r 1 rfl), (fun _ h => by cases h)⟩)⟩) (gg_r 0 rfl) rfl rfl (Nat.le_of_ble_eq_true rfl) (by first | (rw [hRc]; exact Nat.le_of_ble_eq_true rfl) | (rw [hRc]; dsimp only; omega)) (by first | (rw [hRs]; exact Nat.le_of_ble_eq_true rfl) | (rw [hRs]; dsimp only; omega)) ?_ (fun X q C1 h => h.elim)
        rintro _ _ ⟨sums1_1, rfl, rfl⟩
        dsimp only [List.cons_append, List.nil_append, Option.toList]
        rw [z1]
        refine gg_istore (lv' := [_, _, _, _, _, _, _, _]) (pc := 19) E dX5_wrongOf_19 (Nat.le_of_ble_eq_true rfl) rfl rfl ?_
        refine gg_iload (pc := 21) E dX5_wrongOf_21 rfl ?_
        refine gg_aload_n (pc := 23) E dX5_wrongOf_23 rfl rfl ?_
        refine gg_iload (pc := 24) E dX5_wrongOf_24 rfl ?_
        refine gg_aload_n (pc := 26) E dX5_wrongOf_26 rfl rfl ?_
        refine gg_get (pc := 27) E ck_X5 0 q2859 rfl (by decide) dX5_wrongOf_27 (gg_r 0 rfl) rfl ?_
        refine gg_aload_n (pc := 30) E dX5_wrongOf_30 rfl rfl ?_
        refine gg_iload (pc := 31) E dX5_wrongOf_31 rfl ?_
        refine gg_iload (pc := 33) E dX5_wrongOf_33 rfl ?_
        refine gg_callV (F := [_]) (As := [_, _]) (rest := [_, _, _, _]) (pc := 35) E ck_X5 (ct_X5_wayBetween hl (by first | assumption | omega) (by first | assumption | omega)) (cwV 2 E.2.2.2.2.1 (lw_V q3047 q3049 qs86 q179 q3050) rfl rfl rfl (by decide +kernel) ⟨by rw [hRf]; exact Nat.le_of_ble_eq_true rfl, by rw [hRl]; exact Nat.le_of_ble_eq_true rfl⟩) dX5_wrongOf_35 [] (by decide) rfl rfl (List.forall_mem_cons.mpr ⟨(gg_r 0 rfl), (List.forall_mem_cons.mpr ⟨(gg_r 1 rfl), (fun _ h => by cases h)⟩)⟩) (gg_r 0 rfl) rfl rfl (Nat.le_of_ble_eq_true rfl) (by first | (rw [hRc]; exact Nat.le_of_ble_eq_true rfl) | (rw [hRc]; dsimp only; omega)) (by first | (rw [hRs]; exact Nat.le_of_ble_eq_true rfl) | (rw [hRs]; dsimp only; omega)) ?_ (fun X q C1 h => h.elim)
        rintro _ _ ⟨rfl, rfl⟩
        dsimp only [List.cons_append, List.nil_append, Option.toList]
        refine gg_topI (y := nI (wy row nw v u)) y1 ?_
        refine gg_callS (F := [_]) (As := [.int (nI (wy row nw v u))]) (rest := [_, _, _, _]) (pc := 38) E (ct_X5_w hl ) (va_cwS 1 E.2.2.2.2.1 (lw_S q2856 q2857 q179 q2858) rfl rfl rfl (by decide +kernel) ⟨by rw [hRf]; exact Nat.le_of_ble_eq_true rfl, by rw [hRl]; exact Nat.le_of_ble_eq_true rfl⟩) dX5_wrongOf_38 [] (by decide) rfl rfl (fun _ h => by cases h) rfl rfl (Nat.le_of_ble_eq_true rfl) (by first | (rw [hRc]; exact Nat.le_of_ble_eq_true rfl) | (rw [hRc]; dsimp only; omega)) (by first | (rw [hRs]; exact Nat.le_of_ble_eq_true rfl) | (rw [hRs]; dsimp only; omega)) ?_ (fun X q C1 h => h.elim)
        rintro _ _ ⟨rfl, rfl⟩
        dsimp only [List.cons_append, List.nil_append, Option.toList]
        refine gg_iconst (v := 2) (pc := 41) E dX5_wrongOf_41 (by decide) ?_
        refine gg_iaddN (pc := 42) E (160 + 3 * (wy row nw v u)) 2 rfl rfl dX5_wrongOf_42 ?_
        refine gg_ialdN (pc := 43) E ((160 + 3 * (wy row nw v u)) + 2) rfl (by omega) (by omega) dX5_wrongOf_43 (gg_r 1 rfl) ?_
        refine gg_iload (pc := 44) E dX5_wrongOf_44 rfl ?_
        refine gg_iload_n (pc := 46) E dX5_wrongOf_46 rfl rfl ?_
        refine gg_callV (F := [_]) (As := [_, _, .int (nI u), _]) (rest := [_]) (pc := 47) E ck_X5 (ct_X5_wrongBy hl (by first | assumption | omega)) (cwV 4 E.2.2.2.2.1 (lw_V q3155 q3157 qs107 q179 q3158) rfl rfl rfl (by decide +kernel) ⟨by rw [hRf]; exact Nat.le_of_ble_eq_true rfl, by rw [hRl]; exact Nat.le_of_ble_eq_true rfl⟩) dX5_wrongOf_47 [] (by decide) rfl rfl (List.forall_mem_cons.mpr ⟨(gg_r 0 rfl), (List.forall_mem_cons.mpr ⟨(gg_r 1 rfl), (fun _ h => by cases h)⟩)⟩) (gg_r 0 rfl) rfl rfl (Nat.le_of_ble_eq_true rfl) (by first | (rw [hRc]; exact Nat.le_of_ble_eq_true rfl) | (rw [hRc]; dsimp only; omega)) (by first | (rw [hRs]; exact Nat.le_of_ble_eq_true rfl) | (rw [hRs]; dsimp only; omega)) ?_ (fun X q C1 h => h.elim)
        rintro _ _ ⟨rfl, rfl⟩
        dsimp only [List.cons_append, List.nil_append, Option.toList]
        refine gg_iadd (pc := 50) E dX5_wrongOf_50 ?_
        refine gg_istore (lv' := [_, _, _, _, _, _, _, _]) (pc := 51) E dX5_wrongOf_51 (Nat.le_of_ble_eq_true rfl) rfl rfl ?_
        refine gg_iload (pc := 53) E dX5_wrongOf_53 rfl ?_
        refine gg_istore (lv' := [_, _, _, _, _, _, _, _]) (pc := 55) E dX5_wrongOf_55 (Nat.le_of_ble_eq_true rfl) rfl rfl ?_
        refine gg_goto (tgt := 6) (pc := 57) E dX5_wrongOf_57 (by decide) ?_
        refine gg_cv rfl (gg_leS (gg_leS (gg_leS (gg_leS (gg_leS (gg_leS (gg_leS (gg_leN gg_le0)))))))) rfl (by first | exact Nat.le_refl _ | (dsimp only; omega)) (by first | exact Nat.le_refl _ | (dsimp only; omega)) (ih6 _ u n0 d1 _ (by omega) (z2) (by omega) (by rw [rt_st c9 z1, ← Int32.add_assoc] at hac; exact hac) (z4))
  refine gg_cv rfl (gg_leS (gg_leS (gg_leS (gg_leS (gg_leS (gg_leS (gg_leS (gg_leN gg_le0)))))))) rfl (by first | exact Nat.le_refl _ | (dsimp only; omega)) (by first | exact Nat.le_refl _ | (dsimp only; omega)) (L6 _ 0 j 81 d0 _ (Nat.lt_succ_self _) (hd0) ((dist81 hw (by omega)) _ _ hd0) (Int32.zero_add _) (hj))
set_option maxHeartbeats 4000000 in
theorem ct_X5_wrongOn {l : Launch} (hl : l.stackTraces = false) {g : gg_G}  {h : Nat} {ad : Nat → Nat} {x : Nat → Int32} {row : Nat → Int32} {sums : Nat → Int32} {k o no : Int32} {nr nw nt : Nat} (hG : Gw row nr nw nt) : gg_C l g yX5_wrongOn (ws_ yX5_wrongOn cX5_wrongOn 4 (some .int)) { frames := 7, cells := 0, slots := 0, locals := 165 } [.ref h, .int k, .int o, .int no] [((ad 0), gg_ai g 1030 row)] [[(h, .inl (4, mo_f ad x))], [((ad 9), gg_ai g 10 sums)]] (fun vv CC => ∃ (sums1 : Nat → Int32), vv = some (.int (qWrong row nr nw k o no)) ∧ CC = [[(h, .inl (4, mo_f ad (upd x 6 (th (if (0 ≤ k.toInt ∧ k.toInt < nr) ∧ 0 ≤ o.toInt ∧ o.toInt < nr then 1 else 0) (if 1 ≤ no.toInt ∧ no.toInt ≤ 8 then 1 else 0) 1))))], [((ad 9), gg_ai g 10 sums1)]]) gg_no := by
  refine gg_of (lv := [_, _, _, _]) (by decide) hl (Nat.le_of_ble_eq_true rfl) rfl ?_
  intro p e R s m args below meth c A Q hRf hRl hRc hRs E Fn hnm hex
  have hG0 := hG
  obtain ⟨hnr, hw, ht, hG4, hGS⟩ := hG
  have hnw := hw.1
  have hw20 := hw.2.1
  have hr10 := hw.2.2.1
  have hnt := ht.1
  have ht30 := ht.2.1
  refine gg_aload_n (pc := 0) E dX5_wrongOn_0 rfl rfl ?_
  refine gg_aload_n (pc := 1) E dX5_wrongOn_1 rfl rfl ?_
  refine gg_iload_n (pc := 2) E dX5_wrongOn_2 rfl rfl ?_
  refine gg_iload_n (pc := 3) E dX5_wrongOn_3 rfl rfl ?_
  refine gg_callV (F := [_, _]) (As := [_, _]) (rest := [_]) (pc := 4) E ck_X5 (ct_X5_areRoofs hl (by first | assumption | omega) (by first | assumption | omega)) (cwV 2 E.2.2.2.2.1 (lw_V q3292 q3294 qs134 q179 q3295) rfl rfl rfl (by decide +kernel) ⟨by rw [hRf]; exact Nat.le_of_ble_eq_true rfl, by rw [hRl]; exact Nat.le_of_ble_eq_true rfl⟩) dX5_wrongOn_4 [] (by decide) rfl rfl (List.forall_mem_cons.mpr ⟨(gg_i 0 rfl), (List.forall_mem_cons.mpr ⟨(gg_r 0 rfl), (fun _ h => by cases h)⟩)⟩) (gg_i 0 rfl) rfl rfl (Nat.le_of_ble_eq_true rfl) (by first | (rw [hRc]; exact Nat.le_of_ble_eq_true rfl) | (rw [hRc]; dsimp only; omega)) (by first | (rw [hRs]; exact Nat.le_of_ble_eq_true rfl) | (rw [hRs]; dsimp only; omega)) ?_ (fun X q C1 h => h.elim)
  rintro _ _ ⟨rfl, rfl⟩
  dsimp only [List.cons_append, List.nil_append, Option.toList]
  refine gg_iload_n (pc := 7) E dX5_wrongOn_7 rfl rfl ?_
  refine gg_i2l (pc := 8) E dX5_wrongOn_8 rfl ?_
  refine gg_lconst (v := 1) (pc := 9) E dX5_wrongOn_9 (by decide) ?_
  refine gg_ldc2 (pc := 10) E q3337 dX5_wrongOn_10 ?_
  refine gg_callS (F := [_, _]) (As := [_, _, _]) (rest := [_, _]) (pc := 13) E (ct_X5_in hl ) (va_cwS 3 E.2.2.2.2.1 (lw_S q2961 q2962 q179 q2963) rfl rfl rfl (by decide +kernel) ⟨by rw [hRf]; exact Nat.le_of_ble_eq_true rfl, by rw [hRl]; exact Nat.le_of_ble_eq_true rfl⟩) dX5_wrongOn_13 [] (by decide) rfl rfl (fun _ h => by cases h) rfl rfl (Nat.le_of_ble_eq_true rfl) (by first | (rw [hRc]; exact Nat.le_of_ble_eq_true rfl) | (rw [hRc]; dsimp only; omega)) (by first | (rw [hRs]; exact Nat.le_of_ble_eq_true rfl) | (rw [hRs]; dsimp only; omega)) ?_ (fun X q C1 h => h.elim)
  rintro _ _ ⟨rfl, rfl⟩
  dsimp only [List.cons_append, List.nil_append, Option.toList]
  refine gg_topI (y := if 1 ≤ no.toInt ∧ no.toInt ≤ 8 then 1 else 0) (gg_ifc (in_ab (by decide) (by decide))) ?_
  refine gg_iconst (v := 1) (pc := 16) E dX5_wrongOn_16 (by decide) ?_
  refine gg_callV (F := [_]) (As := [_, _, _]) (rest := []) (pc := 17) E ck_X5 (ct_X5_may hl ) (cwV 3 E.2.2.2.2.1 (lw_V q3241 q3243 qs127 q179 q3244) rfl rfl rfl (by decide +kernel) ⟨by rw [hRf]; exact Nat.le_of_ble_eq_true rfl, by rw [hRl]; exact Nat.le_of_ble_eq_true rfl⟩) dX5_wrongOn_17 [0] (by decide) rfl rfl (fun _ h => by cases h) (gg_i 0 rfl) rfl rfl (Nat.le_of_ble_eq_true rfl) (by first | (rw [hRc]; exact Nat.le_of_ble_eq_true rfl) | (rw [hRc]; dsimp only; omega)) (by first | (rw [hRs]; exact Nat.le_of_ble_eq_true rfl) | (rw [hRs]; dsimp only; omega)) ?_ (fun X q C1 h => h.elim)
  rintro _ _ ⟨rfl, rfl⟩
  dsimp only [List.cons_append, List.nil_append, Option.toList]
  refine gg_ifP_ne (tgt := 25) (pc := 20) E dX5_wrongOn_20 (by decide) (fun c20 => ?_) (fun c20 => ?_)
  · obtain ⟨j, hj, hjq⟩ := k_nI (th_2.mp c20).1.1
    subst hjq
    obtain ⟨go, hgo, hgoq⟩ := k_nI (th_2.mp c20).1.2
    subst hgoq
    refine gg_aload_n (pc := 25) E dX5_wrongOn_25 rfl rfl ?_
    refine gg_iload_n (pc := 26) E dX5_wrongOn_26 rfl rfl ?_
    refine gg_iload_n (pc := 27) E dX5_wrongOn_27 rfl rfl ?_
    refine gg_callV (F := [_]) (As := [.int (nI j), .int (nI go)]) (rest := []) (pc := 28) E ck_X5 (ct_X5_sumTo hl (hw) (by omega) (by omega)) (cwV 2 E.2.2.2.2.1 (lw_V q3200 q3202 qs118 q179 q3203) rfl rfl rfl (by decide +kernel) ⟨by rw [hRf]; exact Nat.le_of_ble_eq_true rfl, by rw [hRl]; exact Nat.le_of_ble_eq_true rfl⟩) dX5_wrongOn_28 [1] (by decide) rfl rfl (List.forall_mem_cons.mpr ⟨(gg_i 0 rfl), (List.forall_mem_cons.mpr ⟨(gg_r 0 rfl), (fun _ h => by cases h)⟩)⟩) (gg_i 0 rfl) rfl rfl (Nat.le_of_ble_eq_true rfl) (by first | (rw [hRc]; exact Nat.le_of_ble_eq_true rfl) | (rw [hRc]; dsimp only; omega)) (by first | (rw [hRs]; exact Nat.le_of_ble_eq_true rfl) | (rw [hRs]; dsimp only; omega)) ?_ (fun X q C1 h => h.elim)
    rintro _ _ ⟨rfl, rfl⟩
    dsimp only [List.cons_append, List.nil_append, Option.toList]
    refine gg_up1 ?_
    refine gg_iconst (v := (-1)) (pc := 31) E dX5_wrongOn_31 (by decide) ?_
    refine gg_icmp_ne (tgt := 39) (pc := 32) E dX5_wrongOn_32 (by decide) (fun c32 => ?_) (fun c32 => ?_)
    · obtain ⟨d0, hd0⟩ := dI_nm1 c32
      refine gg_aload_n (pc := 39) E dX5_wrongOn_39 rfl rfl ?_
      refine gg_iload_n (pc := 40) E dX5_wrongOn_40 rfl rfl ?_
      refine gg_iload_n (pc := 41) E dX5_wrongOn_41 rfl rfl ?_
      refine gg_iload_n (pc := 42) E dX5_wrongOn_42 rfl rfl ?_
      refine gg_aload_n (pc := 43) E dX5_wrongOn_43 rfl rfl ?_
      refine gg_get (pc := 44) E ck_X5 0 q2859 rfl (by decide) dX5_wrongOn_44 (gg_i 0 rfl) rfl ?_
      refine gg_iconst (v := 4) (pc := 47) E dX5_wrongOn_47 (by decide) ?_
      refine gg_ialdN (pc := 48) E 4 rfl (by omega) (by omega) dX5_wrongOn_48 (gg_r 0 rfl) ?_
      refine gg_callV (F := [_]) (As := [.int (nI j), .int (nI go), _, _]) (rest := []) (pc := 49) E ck_X5 (ct_X5_wrongOf hl (hG0) (hj) (hgo) (hd0)) (cwV 4 E.2.2.2.2.1 (lw_V q3342 q3344 qs139 q179 q3345) rfl rfl rfl (by decide +kernel) ⟨by rw [hRf]; exact Nat.le_of_ble_eq_true rfl, by rw [hRl]; exact Nat.le_of_ble_eq_true rfl⟩) dX5_wrongOn_49 [1] (by decide) rfl rfl (List.forall_mem_cons.mpr ⟨(gg_i 0 rfl), (List.forall_mem_cons.mpr ⟨(gg_r 0 rfl), (fun _ h => by cases h)⟩)⟩) (gg_i 0 rfl) rfl rfl (Nat.le_of_ble_eq_true rfl) (by first | (rw [hRc]; exact Nat.le_of_ble_eq_true rfl) | (rw [hRc]; dsimp only; omega)) (by first | (rw [hRs]; exact Nat.le_of_ble_eq_true rfl) | (rw [hRs]; dsimp only; omega)) ?_ (fun X q C1 h => h.elim)
      rintro _ _ ⟨sums1_1, rfl, rfl⟩
      dsimp only [List.cons_append, List.nil_append, Option.toList]
      refine gg_up1 ?_
      refine gg_iret (pc := 52) E Fn rfl (rfl) dX5_wrongOn_52 (by first | exact Nat.le_of_ble_eq_true rfl | (dsimp only; omega)) (by first | exact Nat.le_of_ble_eq_true rfl | (dsimp only; omega)) ?_
      exact ⟨_, by unfold qWrong; rw [if_pos (th_2.mp c20), tn_nI (j := j) (by omega), tn_nI (j := go) (by omega), if_neg (by rw [hd0]; intro q; cases q)], rfl⟩
    · refine gg_iconst (v := (-1)) (pc := 35) E dX5_wrongOn_35 (by decide) ?_
      refine gg_goto (tgt := 52) (pc := 36) E dX5_wrongOn_36 (by decide) ?_
      refine gg_iret (pc := 52) E Fn rfl (rfl) dX5_wrongOn_52 (by first | exact Nat.le_of_ble_eq_true rfl | (dsimp only; omega)) (by first | exact Nat.le_of_ble_eq_true rfl | (dsimp only; omega)) ?_
      exact ⟨_, by unfold qWrong; rw [if_pos (th_2.mp c20), tn_nI (j := j) (by omega), tn_nI (j := go) (by omega), if_pos (dI_m1 (dist81 hw (by omega) _) c32)], rfl⟩
  · refine gg_iconst (v := 0) (pc := 23) E dX5_wrongOn_23 (by decide) ?_
    refine gg_iret (pc := 24) E Fn rfl (rfl) dX5_wrongOn_24 (by first | exact Nat.le_of_ble_eq_true rfl | (dsimp only; omega)) (by first | exact Nat.le_of_ble_eq_true rfl | (dsimp only; omega)) ?_
    exact ⟨_, by unfold qWrong; rw [if_neg (fun q => c20 (th_2.mpr q))], rfl⟩
set_option maxHeartbeats 4000000 in
theorem ct_X5_calmest {l : Launch} (hl : l.stackTraces = false) {g : gg_G}  {h : Nat} {ad : Nat → Nat} {x : Nat → Int32} {row : Nat → Int32} {sums : Nat → Int32} {k o : Int32} {nr nw nt : Nat} (hG : Gw row nr nw nt) : gg_C l g yX5_calmest (ws_ yX5_calmest cX5_calmest 4 (some .int)) { frames := 7, cells := 0, slots := 0, locals := 165 } [.ref h, .int k, .int o] [((ad 0), gg_ai g 1030 row)] [[(h, .inl (4, mo_f ad x))], [((ad 9), gg_ai g 10 sums)]] (fun vv CC => ∃ (sums1 : Nat → Int32), vv = some (.int (qCalm row nr nw k o)) ∧ CC = [[(h, .inl (4, mo_f ad (upd x 6 (th (if (0 ≤ k.toInt ∧ k.toInt < nr) ∧ 0 ≤ o.toInt ∧ o.toInt < nr then 1 else 0) 1 1))))], [((ad 9), gg_ai g 10 sums1)]]) gg_no := by
  refine gg_of (lv := [_, _, _, _]) (by decide) hl (Nat.le_of_ble_eq_true rfl) rfl ?_
  intro p e R s m args below meth c A Q hRf hRl hRc hRs E Fn hnm hex
  have hG0 := hG
  obtain ⟨hnr, hw, ht, hG4, hGS⟩ := hG
  have hnw := hw.1
  have hw20 := hw.2.1
  have hr10 := hw.2.2.1
  have hnt := ht.1
  have ht30 := ht.2.1
  refine gg_aload_n (pc := 0) E dX5_calmest_0 rfl rfl ?_
  refine gg_aload_n (pc := 1) E dX5_calmest_1 rfl rfl ?_
  refine gg_iload_n (pc := 2) E dX5_calmest_2 rfl rfl ?_
  refine gg_iload_n (pc := 3) E dX5_calmest_3 rfl rfl ?_
  refine gg_callV (F := [_, _]) (As := [_, _]) (rest := [_]) (pc := 4) E ck_X5 (ct_X5_areRoofs hl (by first | assumption | omega) (by first | assumption | omega)) (cwV 2 E.2.2.2.2.1 (lw_V q3292 q3294 qs134 q179 q3295) rfl rfl rfl (by decide +kernel) ⟨by rw [hRf]; exact Nat.le_of_ble_eq_true rfl, by rw [hRl]; exact Nat.le_of_ble_eq_true rfl⟩) dX5_calmest_4 [] (by decide) rfl rfl (List.forall_mem_cons.mpr ⟨(gg_i 0 rfl), (List.forall_mem_cons.mpr ⟨(gg_r 0 rfl), (fun _ h => by cases h)⟩)⟩) (gg_i 0 rfl) rfl rfl (Nat.le_of_ble_eq_true rfl) (by first | (rw [hRc]; exact Nat.le_of_ble_eq_true rfl) | (rw [hRc]; dsimp only; omega)) (by first | (rw [hRs]; exact Nat.le_of_ble_eq_true rfl) | (rw [hRs]; dsimp only; omega)) ?_ (fun X q C1 h => h.elim)
  rintro _ _ ⟨rfl, rfl⟩
  dsimp only [List.cons_append, List.nil_append, Option.toList]
  refine gg_iconst (v := 1) (pc := 7) E dX5_calmest_7 (by decide) ?_
  refine gg_iconst (v := 1) (pc := 8) E dX5_calmest_8 (by decide) ?_
  refine gg_callV (F := [_]) (As := [_, _, _]) (rest := []) (pc := 9) E ck_X5 (ct_X5_may hl ) (cwV 3 E.2.2.2.2.1 (lw_V q3241 q3243 qs127 q179 q3244) rfl rfl rfl (by decide +kernel) ⟨by rw [hRf]; exact Nat.le_of_ble_eq_true rfl, by rw [hRl]; exact Nat.le_of_ble_eq_true rfl⟩) dX5_calmest_9 [0] (by decide) rfl rfl (fun _ h => by cases h) (gg_i 0 rfl) rfl rfl (Nat.le_of_ble_eq_true rfl) (by first | (rw [hRc]; exact Nat.le_of_ble_eq_true rfl) | (rw [hRc]; dsimp only; omega)) (by first | (rw [hRs]; exact Nat.le_of_ble_eq_true rfl) | (rw [hRs]; dsimp only; omega)) ?_ (fun X q C1 h => h.elim)
  rintro _ _ ⟨rfl, rfl⟩
  dsimp only [List.cons_append, List.nil_append, Option.toList]
  refine gg_ifP_ne (tgt := 17) (pc := 12) E dX5_calmest_12 (by decide) (fun c12 => ?_) (fun c12 => ?_)
  · obtain ⟨j, hj, hjq⟩ := k_nI (th_1.mp c12).1
    subst hjq
    obtain ⟨go, hgo, hgoq⟩ := k_nI (th_1.mp c12).2
    subst hgoq
    refine gg_aload_n (pc := 17) E dX5_calmest_17 rfl rfl ?_
    refine gg_iload_n (pc := 18) E dX5_calmest_18 rfl rfl ?_
    refine gg_iload_n (pc := 19) E dX5_calmest_19 rfl rfl ?_
    refine gg_callV (F := [_]) (As := [.int (nI j), .int (nI go)]) (rest := []) (pc := 20) E ck_X5 (ct_X5_sumTo hl (hw) (by omega) (by omega)) (cwV 2 E.2.2.2.2.1 (lw_V q3200 q3202 qs118 q179 q3203) rfl rfl rfl (by decide +kernel) ⟨by rw [hRf]; exact Nat.le_of_ble_eq_true rfl, by rw [hRl]; exact Nat.le_of_ble_eq_true rfl⟩) dX5_calmest_20 [1] (by decide) rfl rfl (List.forall_mem_cons.mpr ⟨(gg_i 0 rfl), (List.forall_mem_cons.mpr ⟨(gg_r 0 rfl), (fun _ h => by cases h)⟩)⟩) (gg_i 0 rfl) rfl rfl (Nat.le_of_ble_eq_true rfl) (by first | (rw [hRc]; exact Nat.le_of_ble_eq_true rfl) | (rw [hRc]; dsimp only; omega)) (by first | (rw [hRs]; exact Nat.le_of_ble_eq_true rfl) | (rw [hRs]; dsimp only; omega)) ?_ (fun X q C1 h => h.elim)
    rintro _ _ ⟨rfl, rfl⟩
    dsimp only [List.cons_append, List.nil_append, Option.toList]
    refine gg_up1 ?_
    refine gg_iconst (v := (-1)) (pc := 23) E dX5_calmest_23 (by decide) ?_
    refine gg_icmp_ne (tgt := 29) (pc := 24) E dX5_calmest_24 (by decide) (fun c24 => ?_) (fun c24 => ?_)
    · obtain ⟨d0, hd0⟩ := dI_nm1 c24
      refine gg_bipush (v := 9) (pc := 29) E dX5_calmest_29 (by decide) ?_
      refine gg_istore_n (lv' := [_, _, _, _]) (pc := 31) E dX5_calmest_31 rfl (Nat.le_of_ble_eq_true rfl) rfl rfl ?_
      have L32 : ∀ (n : Nat) (u : Nat) (S : Nat → Int32), u < n → (cal row nw go j u = cal row nw go j 9) → gg_W p l e R s m args below meth c g A 4 Q 0 0 [[(h, .inl (4, mo_f ad (upd x 6 (th (if (0 ≤ (nI j).toInt ∧ (nI j).toInt < nr) ∧ 0 ≤ (nI go).toInt ∧ (nI go).toInt < nr then 1 else 0) 1 1))))], [((ad 9), gg_ai g 10 S)]] [some (.ref h), some (.int (nI j)), some (.int (nI go)), some (.int (nI u))] [] 32 := by
        intro n32
        induction n32 with
        | zero => intro u S hmz; exact absurd hmz (Nat.not_lt_zero _)
        | succ n32 ih32 =>
          intro u S hm32 hcal
          refine gg_aload_n (pc := 32) E dX5_calmest_32 rfl rfl ?_
          refine gg_iload_n (pc := 33) E dX5_calmest_33 rfl rfl ?_
          refine gg_iload_n (pc := 34) E dX5_calmest_34 rfl rfl ?_
          refine gg_iconst (v := 1) (pc := 35) E dX5_calmest_35 (by decide) ?_
          refine gg_iload_n (pc := 36) E dX5_calmest_36 rfl rfl ?_
          refine gg_callV (F := [_]) (As := [.int (nI j), .int (nI go), _, _]) (rest := []) (pc := 37) E ck_X5 (ct_X5_wrongOf hl (hG0) (hj) (hgo) (hd0)) (cwV 4 E.2.2.2.2.1 (lw_V q3342 q3344 qs139 q179 q3345) rfl rfl rfl (by decide +kernel) ⟨by rw [hRf]; exact Nat.le_of_ble_eq_true rfl, by rw [hRl]; exact Nat.le_of_ble_eq_true rfl⟩) dX5_calmest_37 [1] (by decide) rfl rfl (List.forall_mem_cons.mpr ⟨(gg_i 0 rfl), (List.forall_mem_cons.mpr ⟨(gg_r 0 rfl), (fun _ h => by cases h)⟩)⟩) (gg_i 0 rfl) rfl rfl (Nat.le_of_ble_eq_true rfl) (by first | (rw [hRc]; exact Nat.le_of_ble_eq_true rfl) | (rw [hRc]; dsimp only; omega)) (by first | (rw [hRs]; exact Nat.le_of_ble_eq_true rfl) | (rw [hRs]; dsimp only; omega)) ?_ (fun X q C1 h => h.elim)
          rintro _ _ ⟨sums1_1, rfl, rfl⟩
          dsimp only [List.cons_append, List.nil_append, Option.toList]
          refine gg_up1 ?_
          refine gg_if_le (tgt := 49) (pc := 40) E dX5_calmest_40 (by decide) (fun c40 => ?_) (fun c40 => ?_)
          · refine gg_iload_n (pc := 49) E dX5_calmest_49 rfl rfl ?_
            refine gg_iret (pc := 50) E Fn rfl (rfl) dX5_calmest_50 (by first | exact Nat.le_of_ble_eq_true rfl | (dsimp only; omega)) (by first | exact Nat.le_of_ble_eq_true rfl | (dsimp only; omega)) ?_
            exact ⟨_, by unfold qCalm; rw [if_pos (th_1.mp c12), tn_nI (j := j) (by omega), tn_nI (j := go) (by omega), if_neg (by rw [hd0]; intro q; cases q), ← hcal, cal_f (Int32.not_lt.mpr c40)], rfl⟩
          · obtain ⟨y1, y2⟩ := cal_t hG0 (Int32.not_le.mp c40)
            refine gg_decN (lv' := [_, _, _, _]) (pc := 43) E u dX5_calmest_43 rfl rfl (by omega) (Nat.le_of_ble_eq_true rfl) rfl rfl ?_
            refine gg_goto (tgt := 32) (pc := 46) E dX5_calmest_46 (by decide) ?_
            refine gg_cv rfl (gg_leS (gg_leS (gg_leS (gg_leS gg_le0)))) rfl (by first | exact Nat.le_refl _ | (dsimp only; omega)) (by first | exact Nat.le_refl _ | (dsimp only; omega)) (ih32 (u - 1) _ (by omega) (by rw [← y2]; exact hcal))
      refine gg_cv rfl (gg_leS (gg_leS (gg_leS (gg_leS gg_le0)))) rfl (by first | exact Nat.le_refl _ | (dsimp only; omega)) (by first | exact Nat.le_refl _ | (dsimp only; omega)) (L32 _ 9 _ (Nat.lt_succ_self _) (rfl))
    · refine gg_iconst (v := (-1)) (pc := 27) E dX5_calmest_27 (by decide) ?_
      refine gg_iret (pc := 28) E Fn rfl (rfl) dX5_calmest_28 (by first | exact Nat.le_of_ble_eq_true rfl | (dsimp only; omega)) (by first | exact Nat.le_of_ble_eq_true rfl | (dsimp only; omega)) ?_
      exact ⟨_, by unfold qCalm; rw [if_pos (th_1.mp c12), tn_nI (j := j) (by omega), tn_nI (j := go) (by omega), if_pos (dI_m1 (dist81 hw (by omega) _) c24)], rfl⟩
  · refine gg_iconst (v := 0) (pc := 15) E dX5_calmest_15 (by decide) ?_
    refine gg_iret (pc := 16) E Fn rfl (rfl) dX5_calmest_16 (by first | exact Nat.le_of_ble_eq_true rfl | (dsimp only; omega)) (by first | exact Nat.le_of_ble_eq_true rfl | (dsimp only; omega)) ?_
    exact ⟨_, by unfold qCalm; rw [if_neg (fun q => c12 (th_1.mpr q))], rfl⟩
set_option maxHeartbeats 4000000 in
theorem ct_X5_partedWithout {l : Launch} (hl : l.stackTraces = false) {g : gg_G}  {h : Nat} {ad : Nat → Nat} {x : Nat → Int32} {row : Nat → Int32} {sums : Nat → Int32} {wo : Int32} {nr nw nt : Nat} (hG : Gw row nr nw nt) : gg_C l g yX5_partedWithout (ws_ yX5_partedWithout cX5_partedWithout 5 (some .int)) { frames := 4, cells := 0, slots := 0, locals := 90 } [.ref h, .int wo] [(h, .inl (4, mo_f ad x)), ((ad 0), gg_ai g 1030 row)] [[((ad 9), gg_ai g 10 sums)]] (fun vv CC => ∃ (sums1 : Nat → Int32), vv = some (.int (prt row nw wo nr)) ∧ CC = [[((ad 9), gg_ai g 10 sums1)]]) gg_no := by
  refine gg_of (lv := [_, _, _, _, _]) (by decide) hl (Nat.le_of_ble_eq_true rfl) rfl ?_
  intro p e R s m args below meth c A Q hRf hRl hRc hRs E Fn hnm hex
  have hG0 := hG
  obtain ⟨hnr, hw, ht, hG4, hGS⟩ := hG
  have hnw := hw.1
  have hw20 := hw.2.1
  have hr10 := hw.2.2.1
  have hnt := ht.1
  have ht30 := ht.2.1
  refine gg_iconst (v := 0) (pc := 0) E dX5_partedWithout_0 (by decide) ?_
  refine gg_istore_n (lv' := [_, _, _, _, _]) (pc := 1) E dX5_partedWithout_1 rfl (Nat.le_of_ble_eq_true rfl) rfl rfl ?_
  refine gg_iconst (v := 0) (pc := 2) E dX5_partedWithout_2 (by decide) ?_
  refine gg_istore_n (lv' := [_, _, _, _, _]) (pc := 3) E dX5_partedWithout_3 rfl (Nat.le_of_ble_eq_true rfl) rfl rfl ?_
  have L4 : ∀ (n : Nat) (i : Nat) (S : Nat → Int32), nr - i < n → (i ≤ nr) → gg_W p l e R s m args below meth c g A 5 Q 0 0 [[((ad 9), gg_ai g 10 S)]] [some (.ref h), some (.int wo), some (.int (prt row nw wo i)), some (.int (nI i)), none] [] 4 := by
    intro n4
    induction n4 with
    | zero => intro i S hmz; exact absurd hmz (Nat.not_lt_zero _)
    | succ n4 ih4 =>
      intro i S hm4 hi
      refine gg_iload_n (pc := 4) E dX5_partedWithout_4 rfl rfl ?_
      refine gg_aload_n (pc := 5) E dX5_partedWithout_5 rfl rfl ?_
      refine gg_get (pc := 6) E ck_X5 0 q2859 rfl (by decide) dX5_partedWithout_6 (gg_r 0 rfl) rfl ?_
      refine gg_iconst (v := 0) (pc := 9) E dX5_partedWithout_9 (by decide) ?_
      refine gg_ialdN (pc := 10) E 0 rfl (by omega) (by omega) dX5_partedWithout_10 (gg_r 1 rfl) ?_
      rw [hnr]
      refine gg_icmpN_ge (tgt := 63) (pc := 11) E i nr rfl rfl (by omega) (by omega) dX5_partedWithout_11 (by decide) (fun c11 => ?_) (fun c11 => ?_)
      · refine gg_iload_n (pc := 63) E dX5_partedWithout_63 rfl rfl ?_
        refine gg_iret (pc := 64) E Fn rfl (rfl) dX5_partedWithout_64 (by first | exact Nat.le_of_ble_eq_true rfl | (dsimp only; omega)) (by first | exact Nat.le_of_ble_eq_true rfl | (dsimp only; omega)) ?_
        obtain rfl : i = nr := by omega
        exact ⟨_, rfl, rfl⟩
      · refine gg_aload_n (pc := 14) E dX5_partedWithout_14 rfl rfl ?_
        refine gg_iload_n (pc := 15) E dX5_partedWithout_15 rfl rfl ?_
        refine gg_iload_n (pc := 16) E dX5_partedWithout_16 rfl rfl ?_
        refine gg_callV (F := []) (As := [.int (nI i), _]) (rest := []) (pc := 17) E ck_X5 (ct_X5_reckons hl (hw) (by omega)) (cwV 2 E.2.2.2.2.1 (lw_V q3204 q3206 qs119 q179 q3207) rfl rfl rfl (by decide +kernel) ⟨by rw [hRf]; exact Nat.le_of_ble_eq_true rfl, by rw [hRl]; exact Nat.le_of_ble_eq_true rfl⟩) dX5_partedWithout_17 [0] (by decide) rfl rfl (List.forall_mem_cons.mpr ⟨(gg_r 0 rfl), (List.forall_mem_cons.mpr ⟨(gg_r 1 rfl), (fun _ h => by cases h)⟩)⟩) (gg_r 0 rfl) rfl rfl (Nat.le_of_ble_eq_true rfl) (by first | (rw [hRc]; exact Nat.le_of_ble_eq_true rfl) | (rw [hRc]; dsimp only; omega)) (by first | (rw [hRs]; exact Nat.le_of_ble_eq_true rfl) | (rw [hRs]; dsimp only; omega)) ?_ (fun X q C1 h => h.elim)
        rintro _ _ ⟨rfl, rfl⟩
        dsimp only [List.cons_append, List.nil_append, Option.toList]
        refine gg_iconst (v := 0) (pc := 20) E dX5_partedWithout_20 (by decide) ?_
        refine gg_istore (lv' := [_, _, _, _, _]) (pc := 21) E dX5_partedWithout_21 (Nat.le_of_ble_eq_true rfl) rfl rfl ?_
        have L23 : ∀ (n : Nat) (j : Nat), i - j < n → (j ≤ i) → gg_W p l e R s m args below meth c g A 5 Q 0 0 [[((ad 9), gg_ai g 10 (fun k => dI (dist row nw wo i k)))]] [some (.ref h), some (.int wo), some (.int (prt row nw wo i + sm (fun j => if dI (dist row nw wo i j) = -1 then 1 else 0) j)), some (.int (nI i)), some (.int (nI j))] [] 23 := by
          intro n23
          induction n23 with
          | zero => intro j hmz; exact absurd hmz (Nat.not_lt_zero _)
          | succ n23 ih23 =>
            intro j hm23 hj
            refine gg_iload (pc := 23) E dX5_partedWithout_23 rfl ?_
            refine gg_iload_n (pc := 25) E dX5_partedWithout_25 rfl rfl ?_
            refine gg_icmpN_ge (tgt := 57) (pc := 26) E j i rfl rfl (by omega) (by omega) dX5_partedWithout_26 (by decide) (fun c26 => ?_) (fun c26 => ?_)
            · refine gg_iincN (k := 1) (lv' := [_, _, _, _, _]) (pc := 57) E i dX5_partedWithout_57 rfl rfl rfl (Nat.le_of_ble_eq_true rfl) rfl rfl ?_
              refine gg_goto (tgt := 4) (pc := 60) E dX5_partedWithout_60 (by decide) ?_
              obtain rfl : j = i := by omega
              refine gg_cv rfl (gg_leS (gg_leS (gg_leS (gg_leS (gg_leN gg_le0))))) rfl (by first | exact Nat.le_refl _ | (dsimp only; omega)) (by first | exact Nat.le_refl _ | (dsimp only; omega)) (ih4 (j + 1) _ (by omega) (by omega))
            · refine gg_iload_n (pc := 29) E dX5_partedWithout_29 rfl rfl ?_
              refine gg_aload_n (pc := 30) E dX5_partedWithout_30 rfl rfl ?_
              refine gg_get (pc := 31) E ck_X5 9 q2868 rfl (by decide) dX5_partedWithout_31 (gg_r 0 rfl) rfl ?_
              refine gg_iload (pc := 34) E dX5_partedWithout_34 rfl ?_
              refine gg_ialdN (pc := 36) E j rfl (by omega) (by omega) dX5_partedWithout_36 (gg_i 0 rfl) ?_
              refine gg_iconst (v := (-1)) (pc := 37) E dX5_partedWithout_37 (by decide) ?_
              refine gg_icmpB_ne (pc := 38) E dX5_partedWithout_38 dX5_partedWithout_41 dX5_partedWithout_42 dX5_partedWithout_45 ?_
              refine gg_callS (F := [_]) (As := [_]) (rest := [_]) (pc := 46) E (ct_X5_one hl ) (va_cwS 1 E.2.2.2.2.1 (lw_S q3124 q3125 q179 q3126) rfl rfl rfl (by decide +kernel) ⟨by rw [hRf]; exact Nat.le_of_ble_eq_true rfl, by rw [hRl]; exact Nat.le_of_ble_eq_true rfl⟩) dX5_partedWithout_46 [] (by decide) rfl rfl (fun _ h => by cases h) rfl rfl (Nat.le_of_ble_eq_true rfl) (by first | (rw [hRc]; exact Nat.le_of_ble_eq_true rfl) | (rw [hRc]; dsimp only; omega)) (by first | (rw [hRs]; exact Nat.le_of_ble_eq_true rfl) | (rw [hRs]; dsimp only; omega)) ?_ (fun X q C1 h => h.elim)
              rintro _ _ ⟨rfl, rfl⟩
              dsimp only [List.cons_append, List.nil_append, Option.toList]
              refine gg_iadd (pc := 49) E dX5_partedWithout_49 ?_
              refine gg_topI (y := prt row nw wo i + sm (fun j => if dI (dist row nw wo i j) = -1 then 1 else 0) (j + 1)) (Int32.add_assoc _ _ _) ?_
              refine gg_istore_n (lv' := [_, _, _, _, _]) (pc := 50) E dX5_partedWithout_50 rfl (Nat.le_of_ble_eq_true rfl) rfl rfl ?_
              refine gg_iincN (k := 1) (lv' := [_, _, _, _, _]) (pc := 51) E j dX5_partedWithout_51 rfl rfl rfl (Nat.le_of_ble_eq_true rfl) rfl rfl ?_
              refine gg_goto (tgt := 23) (pc := 54) E dX5_partedWithout_54 (by decide) ?_
              refine gg_cv rfl (gg_leS (gg_leS (gg_leS (gg_leS (gg_leS gg_le0))))) rfl (by first | exact Nat.le_refl _ | (dsimp only; omega)) (by first | exact Nat.le_refl _ | (dsimp only; omega)) (ih23 (j + 1) (by omega) (by omega))
        refine gg_cv rfl ?_ rfl (by first | exact Nat.le_refl _ | (dsimp only; omega)) (by first | exact Nat.le_refl _ | (dsimp only; omega)) (L23 _ 0 (Nat.lt_succ_self _) (Nat.zero_le _))
        · exact ⟨Or.inr rfl, Or.inr rfl, Or.inr (congrArg (fun z => some (Value.int z)) (Int32.add_zero _).symm), Or.inr rfl, Or.inr rfl, trivial⟩
  refine gg_cv rfl (gg_leS (gg_leS (gg_leS (gg_leS (gg_leN gg_le0))))) rfl (by first | exact Nat.le_refl _ | (dsimp only; omega)) (by first | exact Nat.le_refl _ | (dsimp only; omega)) (L4 _ 0 _ (Nat.lt_succ_self _) (Nat.zero_le _))
set_option maxHeartbeats 4000000 in
theorem ct_X5_dearestWay {l : Launch} (hl : l.stackTraces = false) {g : gg_G}  {h : Nat} {ad : Nat → Nat} {x : Nat → Int32} {row : Nat → Int32} {sums : Nat → Int32}  {nr nw nt : Nat} (hG : Gw row nr nw nt) : gg_C l g yX5_dearestWay (ws_ yX5_dearestWay cX5_dearestWay 5 (some .int)) { frames := 5, cells := 0, slots := 0, locals := 114 } [.ref h] [((ad 0), gg_ai g 1030 row)] [[(h, .inl (4, mo_f ad x))], [((ad 9), gg_ai g 10 sums)]] (fun vv CC => ∃ (sums1 : Nat → Int32), vv = some (.int (dea row nr nw nw).1) ∧ CC = [[(h, .inl (4, mo_f ad (upd x 6 0)))], [((ad 9), gg_ai g 10 sums1)]]) gg_no := by
  refine gg_of (lv := [_, _, _, _, _]) (by decide) hl (Nat.le_of_ble_eq_true rfl) rfl ?_
  intro p e R s m args below meth c A Q hRf hRl hRc hRs E Fn hnm hex
  have hG0 := hG
  obtain ⟨hnr, hw, ht, hG4, hGS⟩ := hG
  have hnw := hw.1
  have hw20 := hw.2.1
  have hr10 := hw.2.2.1
  have hnt := ht.1
  have ht30 := ht.2.1
  refine gg_aload_n (pc := 0) E dX5_dearestWay_0 rfl rfl ?_
  refine gg_iconst (v := 0) (pc := 1) E dX5_dearestWay_1 (by decide) ?_
  refine gg_putM (M' := [_, _]) (pc := 2) E ck_X5 6 q2865 rfl (by decide) dX5_dearestWay_2 0 rfl rfl (rfl) rfl (Nat.le_of_ble_eq_true rfl) rfl rfl ?_
  refine gg_iconst (v := (-1)) (pc := 5) E dX5_dearestWay_5 (by decide) ?_
  refine gg_istore_n (lv' := [_, _, _, _, _]) (pc := 6) E dX5_dearestWay_6 rfl (Nat.le_of_ble_eq_true rfl) rfl rfl ?_
  refine gg_iconst (v := (-1)) (pc := 7) E dX5_dearestWay_7 (by decide) ?_
  refine gg_istore_n (lv' := [_, _, _, _, _]) (pc := 8) E dX5_dearestWay_8 rfl (Nat.le_of_ble_eq_true rfl) rfl rfl ?_
  refine gg_iconst (v := 0) (pc := 9) E dX5_dearestWay_9 (by decide) ?_
  refine gg_istore_n (lv' := [_, _, _, _, _]) (pc := 10) E dX5_dearestWay_10 rfl (Nat.le_of_ble_eq_true rfl) rfl rfl ?_
  have L11 : ∀ (n : Nat) (i : Nat) (S : Nat → Int32), nw - i < n → (i ≤ nw) → gg_W p l e R s m args below meth c g A 5 Q 0 0 [[(h, .inl (4, mo_f ad (upd x 6 0)))], [((ad 9), gg_ai g 10 S)]] [some (.ref h), some (.int (dea row nr nw i).1), some (.int (dea row nr nw i).2), some (.int (nI i)), none] [] 11 := by
    intro n11
    induction n11 with
    | zero => intro i S hmz; exact absurd hmz (Nat.not_lt_zero _)
    | succ n11 ih11 =>
      intro i S hm11 hi
      refine gg_iload_n (pc := 11) E dX5_dearestWay_11 rfl rfl ?_
      refine gg_aload_n (pc := 12) E dX5_dearestWay_12 rfl rfl ?_
      refine gg_get (pc := 13) E ck_X5 0 q2859 rfl (by decide) dX5_dearestWay_13 (gg_i 0 rfl) rfl ?_
      refine gg_iconst (v := 1) (pc := 16) E dX5_dearestWay_16 (by decide) ?_
      refine gg_ialdN (pc := 17) E 1 rfl (by omega) (by omega) dX5_dearestWay_17 (gg_r 0 rfl) ?_
      rw [hnw]
      refine gg_icmpN_ge (tgt := 45) (pc := 18) E i nw rfl rfl (by omega) (by omega) dX5_dearestWay_18 (by decide) (fun c18 => ?_) (fun c18 => ?_)
      · refine gg_iload_n (pc := 45) E dX5_dearestWay_45 rfl rfl ?_
        refine gg_iret (pc := 46) E Fn rfl (rfl) dX5_dearestWay_46 (by first | exact Nat.le_of_ble_eq_true rfl | (dsimp only; omega)) (by first | exact Nat.le_of_ble_eq_true rfl | (dsimp only; omega)) ?_
        obtain rfl : i = nw := by omega
        exact ⟨_, rfl, rfl⟩
      · refine gg_aload_n (pc := 21) E dX5_dearestWay_21 rfl rfl ?_
        refine gg_iload_n (pc := 22) E dX5_dearestWay_22 rfl rfl ?_
        refine gg_callV (F := [_]) (As := [_]) (rest := []) (pc := 23) E ck_X5 (ct_X5_partedWithout hl (hG0)) (cwV 1 E.2.2.2.2.1 (lw_V q3363 q3365 qs140 q179 q3366) rfl rfl rfl (by decide +kernel) ⟨by rw [hRf]; exact Nat.le_of_ble_eq_true rfl, by rw [hRl]; exact Nat.le_of_ble_eq_true rfl⟩) dX5_dearestWay_23 [1] (by decide) rfl rfl (List.forall_mem_cons.mpr ⟨(gg_i 0 rfl), (List.forall_mem_cons.mpr ⟨(gg_r 0 rfl), (fun _ h => by cases h)⟩)⟩) (gg_i 0 rfl) rfl rfl (Nat.le_of_ble_eq_true rfl) (by first | (rw [hRc]; exact Nat.le_of_ble_eq_true rfl) | (rw [hRc]; dsimp only; omega)) (by first | (rw [hRs]; exact Nat.le_of_ble_eq_true rfl) | (rw [hRs]; dsimp only; omega)) ?_ (fun X q C1 h => h.elim)
        rintro _ _ ⟨sums1_1, rfl, rfl⟩
        dsimp only [List.cons_append, List.nil_append, Option.toList]
        refine gg_up1 ?_
        refine gg_istore (lv' := [_, _, _, _, _]) (pc := 26) E dX5_dearestWay_26 (Nat.le_of_ble_eq_true rfl) rfl rfl ?_
        refine gg_iload (pc := 28) E dX5_dearestWay_28 rfl ?_
        refine gg_iload_n (pc := 30) E dX5_dearestWay_30 rfl rfl ?_
        refine gg_icmp_le (tgt := 39) (pc := 31) E dX5_dearestWay_31 (by decide) (fun c31 => ?_) (fun c31 => ?_)
        · 
          refine gg_iincN (k := 1) (lv' := [_, _, _, _, _]) (pc := 39) E i dX5_dearestWay_39 rfl rfl rfl (Nat.le_of_ble_eq_true rfl) rfl rfl ?_
          refine gg_goto (tgt := 11) (pc := 42) E dX5_dearestWay_42 (by decide) ?_
          refine gg_cv rfl ?_ rfl (by first | exact Nat.le_refl _ | (dsimp only; omega)) (by first | exact Nat.le_refl _ | (dsimp only; omega)) (ih11 (i + 1) _ (by omega) (by omega))
          · exact ⟨Or.inr rfl, Or.inr (congrArg (fun z => some (Value.int z.1)) (dea_f c31)), Or.inr (congrArg (fun z => some (Value.int z.2)) (dea_f c31)), Or.inr rfl, Or.inl rfl, trivial⟩
        · refine gg_iload_n (pc := 34) E dX5_dearestWay_34 rfl rfl ?_
          refine gg_istore_n (lv' := [_, _, _, _, _]) (pc := 35) E dX5_dearestWay_35 rfl (Nat.le_of_ble_eq_true rfl) rfl rfl ?_
          refine gg_iload (pc := 36) E dX5_dearestWay_36 rfl ?_
          refine gg_istore_n (lv' := [_, _, _, _, _]) (pc := 38) E dX5_dearestWay_38 rfl (Nat.le_of_ble_eq_true rfl) rfl rfl ?_
          
          refine gg_iincN (k := 1) (lv' := [_, _, _, _, _]) (pc := 39) E i dX5_dearestWay_39 rfl rfl rfl (Nat.le_of_ble_eq_true rfl) rfl rfl ?_
          refine gg_goto (tgt := 11) (pc := 42) E dX5_dearestWay_42 (by decide) ?_
          refine gg_cv rfl ?_ rfl (by first | exact Nat.le_refl _ | (dsimp only; omega)) (by first | exact Nat.le_refl _ | (dsimp only; omega)) (ih11 (i + 1) _ (by omega) (by omega))
          · exact ⟨Or.inr rfl, Or.inr (congrArg (fun z => some (Value.int z.1)) ((dea_t (Int32.not_le.mp c31)).symm)), Or.inr (congrArg (fun z => some (Value.int z.2)) ((dea_t (Int32.not_le.mp c31)).symm)), Or.inr rfl, Or.inl rfl, trivial⟩
  refine gg_cv rfl (gg_leS (gg_leS (gg_leS (gg_leS (gg_leN gg_le0))))) rfl (by first | exact Nat.le_refl _ | (dsimp only; omega)) (by first | exact Nat.le_refl _ | (dsimp only; omega)) (L11 _ 0 _ (Nat.lt_succ_self _) (Nat.zero_le _))

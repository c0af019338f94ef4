set_option maxRecDepth 100000
theorem eo_eq {row : Nat → Int32} {nr nw i v : Nat} (hw : Ww row nr nw) (hi : i < nw) (hv : v < 2 ^ 31) (h : row (160 + 3 * i) = nI v ∨ row (160 + 3 * i + 1) = nI v) : row (160 + 3 * i) + row (160 + 3 * i + 1) - nI v = nI (eo row i v) ∧ eo row i v < nr ∧ (ea row i = v ∨ eb row i = v) ∧ eo row i v ≠ v := by
  obtain ⟨h1, h2, h3, h4, h5, h6, h7, h8⟩ := hw.2.2.2 i hi
  have h10 := hw.2.2.1
  have h9 : ea row i = v ∨ eb row i = v := by
    rw [h1, h2, nI_eq (by omega) hv, nI_eq (by omega) hv] at h
    exact h
  rw [h1, h2, nI_add, pk_sub (by omega)]
  unfold eo
  exact ⟨rfl, by omega, h9, by omega⟩
theorem En_eo {row : Nat → Int32} {nr nw i v : Nat} {wo : Int32} (hw : Ww row nr nw) (hi : i < nw) (ho : ¬ nI i = wo) (h : ea row i = v ∨ eb row i = v) : En row nw wo i v (eo row i v) := by
  refine ⟨hi, ho, ?_⟩
  unfold eo
  omega
theorem nxs_lt {row : Nat → Int32} {nr nw v : Nat} {D : Nat → Option Nat} (hw : Ww row nr nw) : ∀ i, i ≤ nw → ∀ b, nxs row D v i = some b → b < nr := by
  intro i
  induction i with
  | zero => intro _ b h; cases h
  | succ i ih =>
    intro hi b h
    unfold nxs at h
    split at h
    · rename_i hc
      have := hw.2.2.2 i (by omega)
      cases h
      unfold eo
      omega
    · exact ih (by omega) b h
theorem nx_t {row : Nat → Int32} {nr nw i v : Nat} {D : Nat → Option Nat} (hw : Ww row nr nw) (hD : ∀ k x, D k = some x → x ≤ 81) (hi : i < nw) (hv : v < 2 ^ 31) (h : (row (160 + 3 * i) = nI v ∨ row (160 + 3 * i + 1) = nI v) ∧ ¬ dI (D (eo row i v)) = -1 ∧ dI (D (eo row i v)) + row (160 + 3 * i + 2) = dI (D v) ∧ (dI (nxs row D v i) = -1 ∨ ¬ dI (nxs row D v i) ≤ nI (eo row i v))) : nI (eo row i v) = dI (nxs row D v (i + 1)) := by
  obtain ⟨h1, h2, h3, h4⟩ := h
  obtain ⟨e1, e2, e3, e4⟩ := eo_eq hw hi hv h1
  obtain ⟨w1, w2, w3, w4, w5, w6, w7, w8⟩ := hw.2.2.2 i hi
  have h10 := hw.2.2.1
  have : nxs row D v (i + 1) = some (eo row i v) := by
    unfold nxs
    rw [if_pos]
    refine ⟨e3, ?_, ?_⟩
    · cases hx : D (eo row i v) with
      | none => rw [hx] at h2; exact absurd rfl h2
      | some x =>
        refine ⟨x, rfl, ?_⟩
        rw [hx, w3, dI_some, nI_add] at h3
        have hx81 := hD _ _ hx
        cases hd : D v with
        | none => rw [hd] at h3; exact absurd h3 (nI_nm1 (by omega))
        | some z =>
          have hz81 := hD _ _ hd
          rw [hd, dI_some, nI_eq (by omega) (by omega)] at h3
          rw [h3]
    · intro b hb
      have hbn := nxs_lt hw i (by omega) b hb
      rw [hb, dI_some] at h4
      rcases h4 with h4 | h4
      · exact absurd h4 (nI_nm1 (by omega))
      · rw [nI_leI (by omega) (by omega)] at h4
        omega
  rw [this]
  rfl
theorem nx_f {row : Nat → Int32} {nr nw i v : Nat} {D : Nat → Option Nat} (hw : Ww row nr nw) (hD : ∀ k x, D k = some x → x ≤ 81) (hi : i < nw) (hv : v < 2 ^ 31) (h : ¬ ((row (160 + 3 * i) = nI v ∨ row (160 + 3 * i + 1) = nI v) ∧ ¬ dI (D (eo row i v)) = -1 ∧ dI (D (eo row i v)) + row (160 + 3 * i + 2) = dI (D v) ∧ (dI (nxs row D v i) = -1 ∨ ¬ dI (nxs row D v i) ≤ nI (eo row i v)))) : nxs row D v i = nxs row D v (i + 1) := by
  obtain ⟨w1, w2, w3, w4, w5, w6, w7, w8⟩ := hw.2.2.2 i hi
  have h10 := hw.2.2.1
  conv => rhs; unfold nxs
  rw [if_neg]
  rintro ⟨h1, ⟨x, h2, h3⟩, h4⟩
  have hx81 := hD _ _ h2
  refine h ⟨?_, ?_, ?_, ?_⟩
  · rw [w1, w2]
    rcases h1 with e | e
    · rw [e]; exact Or.inl rfl
    · rw [e]; exact Or.inr rfl
  · rw [h2]; exact nI_nm1 (by omega)
  · rw [h2, h3, w3, dI_some, dI_some, nI_add]
  · cases hb : nxs row D v i with
    | none => exact Or.inl rfl
    | some b =>
      have hbn := nxs_lt hw i (by omega) b hb
      have := h4 b hb
      refine Or.inr ?_
      rw [dI_some, nI_leI (by omega) (by unfold eo; omega)]
      omega
/-- the next roof from v to go; none at the goal and without a route -/
noncomputable def nxt (row : Nat → Int32) (nw v go : Nat) : Option Nat := if v = go ∨ dist row nw (-1) go v = none then none else nxs row (dist row nw (-1) go) v nw
theorem dist81 {row : Nat → Int32} {nr nw : Nat} {wo : Int32} {go : Nat} (hw : Ww row nr nw) (hg : go < 10) : ∀ k x, dist row nw wo go k = some x → x ≤ 81 := fun k x h => (dist_is hw hg).2.lt h
theorem dI_m1 {o : Option Nat} (hb : ∀ x, o = some x → x ≤ 81) (h : dI o = -1) : o = none := by
  cases o with
  | none => rfl
  | some x => have := hb x rfl; exact absurd h (nI_nm1 (by omega))
theorem dI_nm1 {o : Option Nat} (h : ¬ dI o = -1) : ∃ x, o = some x := by
  cases o with
  | none => exact absurd rfl h
  | some x => exact ⟨x, rfl⟩
set_option maxHeartbeats 4000000 in
theorem ct_X5_sumTo {l : Launch} (hl : l.stackTraces = false) {g : gg_G}  {h : Nat} {ad : Nat → Nat} {x : Nat → Int32} {row : Nat → Int32} {sums : Nat → Int32} {nr nw v go : Nat} (hw : Ww row nr nw) (hv : v < 10) (hg : go < 10) : gg_C l g yX5_sumTo (ws_ yX5_sumTo cX5_sumTo 3 (some .int)) { frames := 4, cells := 0, slots := 0, locals := 90 } [.ref h, .int (nI v), .int (nI go)] [(h, .inl (4, mo_f ad x)), ((ad 0), gg_ai g 1030 row)] [[((ad 9), gg_ai g 10 sums)]] (fun vv CC => vv = some (.int (dI (dist row nw (-1) go v))) ∧ CC = [[((ad 9), gg_ai g 10 (fun k => dI (dist row nw (-1) go k)))]]) gg_no := by
  refine gg_of (lv := [_, _, _]) (by decide) hl (Nat.le_of_ble_eq_true rfl) rfl ?_
  intro p e R s m args below meth c A Q hRf hRl hRc hRs E Fn hnm hex
  refine gg_aload_n (pc := 0) E dX5_sumTo_0 rfl rfl ?_
  refine gg_iload_n (pc := 1) E dX5_sumTo_1 rfl rfl ?_
  refine gg_iconst (v := (-1)) (pc := 2) E dX5_sumTo_2 (by decide) ?_
  refine gg_callV (F := []) (As := [.int (nI go), _]) (rest := []) (pc := 3) E ck_X5 (ct_X5_reckons hl (by first | assumption | omega) (by first | assumption | omega)) (cwV 2 E.2.2.2.2.1 (lw_V q3204 q3206 qs119 q179 q3207) rfl rfl rfl (by decide +kernel) ⟨by rw [hRf]; exact Nat.le_of_ble_eq_true rfl, by rw [hRl]; exact Nat.le_of_ble_eq_true rfl⟩) dX5_sumTo_3 [0] (by decide) rfl rfl (List.forall_mem_cons.mpr ⟨(gg_r 0 rfl), (List.forall_mem_cons.mpr ⟨(gg_r 1 rfl), (fun _ h => by cases h)⟩)⟩) (gg_r 0 rfl) rfl rfl (Nat.le_of_ble_eq_true rfl) (by first | (rw [hRc]; exact Nat.le_of_ble_eq_true rfl) | (rw [hRc]; dsimp only; omega)) (by first | (rw [hRs]; exact Nat.le_of_ble_eq_true rfl) | (rw [hRs]; dsimp only; omega)) ?_ (fun X q C1 h => h.elim)
  rintro _ _ ⟨rfl, rfl⟩
  dsimp only [List.cons_append, List.nil_append, Option.toList]
  refine gg_aload_n (pc := 6) E dX5_sumTo_6 rfl rfl ?_
  refine gg_get (pc := 7) E ck_X5 9 q2868 rfl (by decide) dX5_sumTo_7 (gg_r 0 rfl) rfl ?_
  refine gg_iload_n (pc := 10) E dX5_sumTo_10 rfl rfl ?_
  refine gg_ialdN (pc := 11) E v rfl (by omega) (by omega) dX5_sumTo_11 (gg_i 0 rfl) ?_
  refine gg_iret (pc := 12) E Fn rfl (rfl) dX5_sumTo_12 (by first | exact Nat.le_of_ble_eq_true rfl | (dsimp only; omega)) (by first | exact Nat.le_of_ble_eq_true rfl | (dsimp only; omega)) ?_
  exact ⟨rfl, rfl⟩
set_option maxHeartbeats 4000000 in
theorem ct_X5_wrongBy {l : Launch} (hl : l.stackTraces = false) {g : gg_G}  {h : Nat} {ad : Nat → Nat} {x : Nat → Int32} {row : Nat → Int32} {wi fa no : Int32} {k : Nat} (hk : k < 10) : gg_C l g yX5_wrongBy (ws_ yX5_wrongBy cX5_wrongBy 5 (some .int)) { frames := 1, cells := 0, slots := 0, locals := 21 } [.ref h, .int wi, .int fa, .int (nI k), .int no] [(h, .inl (4, mo_f ad x)), ((ad 0), gg_ai g 1030 row)] [] (fun vv CC => vv = some (.int (wb wi fa (row (25 + 13 * k + 8)) no)) ∧ CC = []) gg_no := by
  refine gg_of (lv := [_, _, _, _, _]) (by decide) hl (Nat.le_of_ble_eq_true rfl) rfl ?_
  intro p e R s m args below meth c A Q hRf hRl hRc hRs E Fn hnm hex
  refine gg_iload (pc := 0) E dX5_wrongBy_0 rfl ?_
  refine gg_iconst (v := 0) (pc := 2) E dX5_wrongBy_2 (by decide) ?_
  refine gg_iload_n (pc := 3) E dX5_wrongBy_3 rfl rfl ?_
  refine gg_iload_n (pc := 4) E dX5_wrongBy_4 rfl rfl ?_
  refine gg_imul (pc := 5) E dX5_wrongBy_5 ?_
  refine gg_iconst (v := 3) (pc := 6) E dX5_wrongBy_6 (by decide) ?_
  refine gg_aload_n (pc := 7) E dX5_wrongBy_7 rfl rfl ?_
  refine gg_get (pc := 8) E ck_X5 0 q2859 rfl (by decide) dX5_wrongBy_8 (gg_r 0 rfl) rfl ?_
  refine gg_iload_n (pc := 11) E dX5_wrongBy_11 rfl rfl ?_
  refine gg_callS (F := []) (As := [.int (nI k)]) (rest := [_, _, _, _, _]) (pc := 12) E (ct_X5_r hl ) (va_cwS 1 E.2.2.2.2.1 (lw_S q2849 q2850 q179 q2851) rfl rfl rfl (by decide +kernel) ⟨by rw [hRf]; exact Nat.le_of_ble_eq_true rfl, by rw [hRl]; exact Nat.le_of_ble_eq_true rfl⟩) dX5_wrongBy_12 [] (by decide) rfl rfl (fun _ h => by cases h) rfl rfl (Nat.le_of_ble_eq_true rfl) (by first | (rw [hRc]; exact Nat.le_of_ble_eq_true rfl) | (rw [hRc]; dsimp only; omega)) (by first | (rw [hRs]; exact Nat.le_of_ble_eq_true rfl) | (rw [hRs]; dsimp only; omega)) ?_ (fun X q C1 h => h.elim)
  rintro _ _ ⟨rfl, rfl⟩
  dsimp only [List.cons_append, List.nil_append, Option.toList]
  refine gg_bipush (v := 8) (pc := 15) E dX5_wrongBy_15 (by decide) ?_
  refine gg_iaddN (pc := 17) E (25 + 13 * k) 8 rfl rfl dX5_wrongBy_17 ?_
  refine gg_ialdN (pc := 18) E ((25 + 13 * k) + 8) rfl (by omega) (by omega) dX5_wrongBy_18 (gg_r 1 rfl) ?_
  refine gg_imul (pc := 19) E dX5_wrongBy_19 ?_
  refine gg_isub (pc := 20) E dX5_wrongBy_20 ?_
  refine gg_mmax (pc := 21) E q3046 q341 q165 q342 dX5_wrongBy_21 (by rw [hRf]; exact Nat.le_of_ble_eq_true rfl) (by rw [hRl]; exact Nat.le_of_ble_eq_true rfl) (by rw [hRc]; first | exact Nat.le_of_ble_eq_true rfl | (dsimp only; omega)) (by rw [hRs]; first | exact Nat.le_of_ble_eq_true rfl | (dsimp only; omega)) ?_
  refine gg_bipush (v := 10) (pc := 24) E dX5_wrongBy_24 (by decide) ?_
  refine gg_idiv (pc := 26) E dX5_wrongBy_26 (by decide) ?_
  refine gg_mmin (pc := 27) E q3159 q359 q165 q360 dX5_wrongBy_27 (by rw [hRf]; exact Nat.le_of_ble_eq_true rfl) (by rw [hRl]; exact Nat.le_of_ble_eq_true rfl) (by rw [hRc]; first | exact Nat.le_of_ble_eq_true rfl | (dsimp only; omega)) (by rw [hRs]; first | exact Nat.le_of_ble_eq_true rfl | (dsimp only; omega)) ?_
  refine gg_iret (pc := 30) E Fn rfl (rfl) dX5_wrongBy_30 (by first | exact Nat.le_of_ble_eq_true rfl | (dsimp only; omega)) (by first | exact Nat.le_of_ble_eq_true rfl | (dsimp only; omega)) ?_
  exact ⟨rfl, rfl⟩
set_option maxHeartbeats 4000000 in
theorem ct_X5_feeAt {l : Launch} (hl : l.stackTraces = false) {g : gg_G}  {h : Nat} {ad : Nat → Nat} {x : Nat → Int32} {row : Nat → Int32} {t k : Nat} (ht : t < 30) (hk : k < 10) : gg_C l g yX5_feeAt (ws_ yX5_feeAt cX5_feeAt 3 (some .int)) { frames := 2, cells := 0, slots := 0, locals := 42 } [.ref h, .int (nI t), .int (nI k)] [(h, .inl (4, mo_f ad x)), ((ad 0), gg_ai g 1030 row)] [] (fun vv CC => vv = some (.int (row (25 + 13 * k + 9) * ((row (220 + 27 * t + 2) + 3) / 4))) ∧ CC = []) gg_no := by
  refine gg_of (lv := [_, _, _]) (by decide) hl (Nat.le_of_ble_eq_true rfl) rfl ?_
  intro p e R s m args below meth c A Q hRf hRl hRc hRs E Fn hnm hex
  refine gg_aload_n (pc := 0) E dX5_feeAt_0 rfl rfl ?_
  refine gg_get (pc := 1) E ck_X5 0 q2859 rfl (by decide) dX5_feeAt_1 (gg_r 0 rfl) rfl ?_
  refine gg_iload_n (pc := 4) E dX5_feeAt_4 rfl rfl ?_
  refine gg_callS (F := []) (As := [.int (nI k)]) (rest := [_]) (pc := 5) E (ct_X5_r hl ) (va_cwS 1 E.2.2.2.2.1 (lw_S q2849 q2850 q179 q2851) rfl rfl rfl (by decide +kernel) ⟨by rw [hRf]; exact Nat.le_of_ble_eq_true rfl, by rw [hRl]; exact Nat.le_of_ble_eq_true rfl⟩) dX5_feeAt_5 [] (by decide) rfl rfl (fun _ h => by cases h) rfl rfl (Nat.le_of_ble_eq_true rfl) (by first | (rw [hRc]; exact Nat.le_of_ble_eq_true rfl) | (rw [hRc]; dsimp only; omega)) (by first | (rw [hRs]; exact Nat.le_of_ble_eq_true rfl) | (rw [hRs]; dsimp only; omega)) ?_ (fun X q C1 h => h.elim)
  rintro _ _ ⟨rfl, rfl⟩
  dsimp only [List.cons_append, List.nil_append, Option.toList]
  refine gg_bipush (v := 9) (pc := 8) E dX5_feeAt_8 (by decide) ?_
  refine gg_iaddN (pc := 10) E (25 + 13 * k) 9 rfl rfl dX5_feeAt_10 ?_
  refine gg_ialdN (pc := 11) E ((25 + 13 * k) + 9) rfl (by omega) (by omega) dX5_feeAt_11 (gg_r 1 rfl) ?_
  refine gg_aload_n (pc := 12) E dX5_feeAt_12 rfl rfl ?_
  refine gg_iload_n (pc := 13) E dX5_feeAt_13 rfl rfl ?_
  refine gg_callV (F := []) (As := [.int (nI t)]) (rest := [_]) (pc := 14) E ck_X5 (ct_X5_bars hl (by first | assumption | omega)) (cwV 1 E.2.2.2.2.1 (lw_V q3180 q3182 qs113 q179 q3183) rfl rfl rfl (by decide +kernel) ⟨by rw [hRf]; exact Nat.le_of_ble_eq_true rfl, by rw [hRl]; exact Nat.le_of_ble_eq_true rfl⟩) dX5_feeAt_14 [] (by decide) rfl rfl (List.forall_mem_cons.mpr ⟨(gg_r 0 rfl), (List.forall_mem_cons.mpr ⟨(gg_r 1 rfl), (fun _ h => by cases h)⟩)⟩) (gg_r 0 rfl) rfl rfl (Nat.le_of_ble_eq_true rfl) (by first | (rw [hRc]; exact Nat.le_of_ble_eq_true rfl) | (rw [hRc]; dsimp only; omega)) (by first | (rw [hRs]; exact Nat.le_of_ble_eq_true rfl) | (rw [hRs]; dsimp only; omega)) ?_ (fun X q C1 h => h.elim)
  rintro _ _ ⟨rfl, rfl⟩
  dsimp only [List.cons_append, List.nil_append, Option.toList]
  refine gg_imul (pc := 17) E dX5_feeAt_17 ?_
  refine gg_iret (pc := 18) E Fn rfl (rfl) dX5_feeAt_18 (by first | exact Nat.le_of_ble_eq_true rfl | (dsimp only; omega)) (by first | exact Nat.le_of_ble_eq_true rfl | (dsimp only; omega)) ?_
  exact ⟨rfl, rfl⟩
set_option maxHeartbeats 4000000 in
theorem ct_X5_purseFor {l : Launch} (hl : l.stackTraces = false) {g : gg_G}  {h : Nat} {ad : Nat → Nat} {x : Nat → Int32} {row : Nat → Int32} {t : Nat} (ht : t < 30) (hs : row (220 + 27 * t) = nI (ts row t)) (hs10 : ts row t < 10) : gg_C l g yX5_purseFor (ws_ yX5_purseFor cX5_purseFor 2 (some .int)) { frames := 1, cells := 0, slots := 0, locals := 20 } [.ref h, .int (nI t)] [(h, .inl (4, mo_f ad x)), ((ad 0), gg_ai g 1030 row)] [] (fun vv CC => vv = some (.int (row (25 + 13 * ts row t + 10))) ∧ CC = []) gg_no := by
  refine gg_of (lv := [_, _]) (by decide) hl (Nat.le_of_ble_eq_true rfl) rfl ?_
  intro p e R s m args below meth c A Q hRf hRl hRc hRs E Fn hnm hex
  refine gg_aload_n (pc := 0) E dX5_purseFor_0 rfl rfl ?_
  refine gg_get (pc := 1) E ck_X5 0 q2859 rfl (by decide) dX5_purseFor_1 (gg_r 0 rfl) rfl ?_
  refine gg_aload_n (pc := 4) E dX5_purseFor_4 rfl rfl ?_
  refine gg_get (pc := 5) E ck_X5 0 q2859 rfl (by decide) dX5_purseFor_5 (gg_r 0 rfl) rfl ?_
  refine gg_iload_n (pc := 8) E dX5_purseFor_8 rfl rfl ?_
  refine gg_callS (F := []) (As := [.int (nI t)]) (rest := [_, _]) (pc := 9) E (ct_X5_t hl ) (va_cwS 1 E.2.2.2.2.1 (lw_S q3121 q3122 q179 q3123) rfl rfl rfl (by decide +kernel) ⟨by rw [hRf]; exact Nat.le_of_ble_eq_true rfl, by rw [hRl]; exact Nat.le_of_ble_eq_true rfl⟩) dX5_purseFor_9 [] (by decide) rfl rfl (fun _ h => by cases h) rfl rfl (Nat.le_of_ble_eq_true rfl) (by first | (rw [hRc]; exact Nat.le_of_ble_eq_true rfl) | (rw [hRc]; dsimp only; omega)) (by first | (rw [hRs]; exact Nat.le_of_ble_eq_true rfl) | (rw [hRs]; dsimp only; omega)) ?_ (fun X q C1 h => h.elim)
  rintro _ _ ⟨rfl, rfl⟩
  dsimp only [List.cons_append, List.nil_append, Option.toList]
  refine gg_iconst (v := 0) (pc := 12) E dX5_purseFor_12 (by decide) ?_
  refine gg_iaddN (pc := 13) E (220 + 27 * t) 0 rfl rfl dX5_purseFor_13 ?_
  refine gg_ialdN (pc := 14) E ((220 + 27 * t) + 0) rfl (by omega) (by omega) dX5_purseFor_14 (gg_r 1 rfl) ?_
  rw [show row (220 + 27 * t + 0) = nI (ts row t) from hs]
  refine gg_callS (F := []) (As := [.int (nI (ts row t))]) (rest := [_]) (pc := 15) E (ct_X5_r hl ) (va_cwS 1 E.2.2.2.2.1 (lw_S q2849 q2850 q179 q2851) rfl rfl rfl (by decide +kernel) ⟨by rw [hRf]; exact Nat.le_of_ble_eq_true rfl, by rw [hRl]; exact Nat.le_of_ble_eq_true rfl⟩) dX5_purseFor_15 [] (by decide) rfl rfl (fun _ h => by cases h) rfl rfl (Nat.le_of_ble_eq_true rfl) (by first | (rw [hRc]; exact Nat.le_of_ble_eq_true rfl) | (rw [hRc]; dsimp only; omega)) (by first | (rw [hRs]; exact Nat.le_of_ble_eq_true rfl) | (rw [hRs]; dsimp only; omega)) ?_ (fun X q C1 h => h.elim)
  rintro _ _ ⟨rfl, rfl⟩
  dsimp only [List.cons_append, List.nil_append, Option.toList]
  refine gg_bipush (v := 10) (pc := 18) E dX5_purseFor_18 (by decide) ?_
  refine gg_iaddN (pc := 20) E (25 + 13 * (ts row t)) 10 rfl rfl dX5_purseFor_20 ?_
  refine gg_ialdN (pc := 21) E ((25 + 13 * (ts row t)) + 10) rfl (by omega) (by omega) dX5_purseFor_21 (gg_r 1 rfl) ?_
  refine gg_iret (pc := 22) E Fn rfl (rfl) dX5_purseFor_22 (by first | exact Nat.le_of_ble_eq_true rfl | (dsimp only; omega)) (by first | exact Nat.le_of_ble_eq_true rfl | (dsimp only; omega)) ?_
  exact ⟨rfl, rfl⟩
set_option maxHeartbeats 4000000 in
theorem ct_X5_nextTo {l : Launch} (hl : l.stackTraces = false) {g : gg_G}  {h : Nat} {ad : Nat → Nat} {x : Nat → Int32} {row : Nat → Int32} {sums : Nat → Int32} {nr nw v go : Nat} (hw : Ww row nr nw) (hv : v < 10) (hg : go < 10) : gg_C l g yX5_nextTo (ws_ yX5_nextTo cX5_nextTo 7 (some .int)) { frames := 5, cells := 0, slots := 0, locals := 112 } [.ref h, .int (nI v), .int (nI go)] [(h, .inl (4, mo_f ad x)), ((ad 0), gg_ai g 1030 row)] [[((ad 9), gg_ai g 10 sums)]] (fun vv CC => ∃ (sums1 : Nat → Int32), vv = some (.int (dI (nxt row nw v go))) ∧ CC = [[((ad 9), gg_ai g 10 sums1)]]) gg_no := by
  refine gg_of (lv := [_, _, _, _, _, _, _]) (by decide) hl (Nat.le_of_ble_eq_true rfl) rfl ?_
  intro p e R s m args below meth c A Q hRf hRl hRc hRs E Fn hnm hex
  have hnw := hw.1
  have hw20 := hw.2.1
  have hr10 := hw.2.2.1
  refine gg_iload_n (pc := 0) E dX5_nextTo_0 rfl rfl ?_
  refine gg_iload_n (pc := 1) E dX5_nextTo_1 rfl rfl ?_
  refine gg_icmpN_eq (tgt := 15) (pc := 2) E v go rfl rfl (by omega) (by omega) dX5_nextTo_2 (by decide) (fun c2 => ?_) (fun c2 => ?_)
  · refine gg_iconst (v := (-1)) (pc := 15) E dX5_nextTo_15 (by decide) ?_
    refine gg_iret (pc := 16) E Fn rfl (rfl) dX5_nextTo_16 (by first | exact Nat.le_of_ble_eq_true rfl | (dsimp only; omega)) (by first | exact Nat.le_of_ble_eq_true rfl | (dsimp only; omega)) ?_
    refine ⟨_, ?_, rfl⟩
    unfold nxt
    rw [if_pos (by first | exact Or.inl c2 | exact Or.inr (dI_m1 (dist81 hw hg v) c12))]
    rfl
  · refine gg_aload_n (pc := 5) E dX5_nextTo_5 rfl rfl ?_
    refine gg_iload_n (pc := 6) E dX5_nextTo_6 rfl rfl ?_
    refine gg_iload_n (pc := 7) E dX5_nextTo_7 rfl rfl ?_
    refine gg_callV (F := []) (As := [.int (nI v), .int (nI go)]) (rest := []) (pc := 8) E ck_X5 (ct_X5_sumTo hl (by first | assumption | omega) (by first | assumption | omega) (by first | assumption | omega)) (cwV 2 E.2.2.2.2.1 (lw_V q3200 q3202 qs118 q179 q3203) rfl rfl rfl (by decide +kernel) ⟨by rw [hRf]; exact Nat.le_of_ble_eq_true rfl, by rw [hRl]; exact Nat.le_of_ble_eq_true rfl⟩) dX5_nextTo_8 [0] (by decide) rfl rfl (List.forall_mem_cons.mpr ⟨(gg_r 0 rfl), (List.forall_mem_cons.mpr ⟨(gg_r 1 rfl), (fun _ h => by cases h)⟩)⟩) (gg_r 0 rfl) rfl rfl (Nat.le_of_ble_eq_true rfl) (by first | (rw [hRc]; exact Nat.le_of_ble_eq_true rfl) | (rw [hRc]; dsimp only; omega)) (by first | (rw [hRs]; exact Nat.le_of_ble_eq_true rfl) | (rw [hRs]; dsimp only; omega)) ?_ (fun X q C1 h => h.elim)
    rintro _ _ ⟨rfl, rfl⟩
    dsimp only [List.cons_append, List.nil_append, Option.toList]
    refine gg_iconst (v := (-1)) (pc := 11) E dX5_nextTo_11 (by decide) ?_
    refine gg_icmp_ne (tgt := 17) (pc := 12) E dX5_nextTo_12 (by decide) (fun c12 => ?_) (fun c12 => ?_)
    · refine gg_iconst (v := (-1)) (pc := 17) E dX5_nextTo_17 (by decide) ?_
      refine gg_istore_n (lv' := [_, _, _, _, _, _, _]) (pc := 18) E dX5_nextTo_18 rfl (Nat.le_of_ble_eq_true rfl) rfl rfl ?_
      refine gg_iconst (v := 0) (pc := 19) E dX5_nextTo_19 (by decide) ?_
      refine gg_istore (lv' := [_, _, _, _, _, _, _]) (pc := 20) E dX5_nextTo_20 (Nat.le_of_ble_eq_true rfl) rfl rfl ?_
      have L22 : ∀ (n : Nat) (i : Nat), nw - i < n → (i ≤ nw) → gg_W p l e R s m args below meth c g A 7 Q 0 0 [[((ad 9), gg_ai g 10 (fun k => dI (dist row nw (-1) go k)))]] [some (.ref h), some (.int (nI v)), some (.int (nI go)), some (.int (dI (nxs row (dist row nw (-1) go) v i))), some (.int (nI i)), none, none] [] 22 := by
        intro n22
        induction n22 with
        | zero => intro i hmz; exact absurd hmz (Nat.not_lt_zero _)
        | succ n22 ih22 =>
          intro i hm22 hi
          refine gg_iload (pc := 22) E dX5_nextTo_22 rfl ?_
          refine gg_aload_n (pc := 24) E dX5_nextTo_24 rfl rfl ?_
          refine gg_get (pc := 25) E ck_X5 0 q2859 rfl (by decide) dX5_nextTo_25 (gg_r 0 rfl) rfl ?_
          refine gg_iconst (v := 1) (pc := 28) E dX5_nextTo_28 (by decide) ?_
          refine gg_ialdN (pc := 29) E 1 rfl (by omega) (by omega) dX5_nextTo_29 (gg_r 1 rfl) ?_
          rw [hnw]
          refine gg_icmpN_ge (tgt := 131) (pc := 30) E i nw rfl rfl (by omega) (by omega) dX5_nextTo_30 (by decide) (fun c30 => ?_) (fun c30 => ?_)
          · refine gg_iload_n (pc := 131) E dX5_nextTo_131 rfl rfl ?_
            refine gg_iret (pc := 132) E Fn rfl (rfl) dX5_nextTo_132 (by first | exact Nat.le_of_ble_eq_true rfl | (dsimp only; omega)) (by first | exact Nat.le_of_ble_eq_true rfl | (dsimp only; omega)) ?_
            have e : i = nw := by omega
            subst e
            refine ⟨_, ?_, rfl⟩
            unfold nxt
            obtain ⟨x0, hx0⟩ := dI_nm1 c12
            rw [if_neg (by rintro (q | q); exact c2 q; rw [hx0] at q; cases q)]
          · refine gg_aload_n (pc := 33) E dX5_nextTo_33 rfl rfl ?_
            refine gg_iload (pc := 34) E dX5_nextTo_34 rfl ?_
            refine gg_iload_n (pc := 36) E dX5_nextTo_36 rfl rfl ?_
            refine gg_callV (F := [_]) (As := [.int (nI i), _]) (rest := []) (pc := 37) E ck_X5 (ct_X5_ends hl (by first | assumption | omega)) (cwV 2 E.2.2.2.2.1 (lw_V q3051 q3053 qs87 q179 q3054) rfl rfl rfl (by decide +kernel) ⟨by rw [hRf]; exact Nat.le_of_ble_eq_true rfl, by rw [hRl]; exact Nat.le_of_ble_eq_true rfl⟩) dX5_nextTo_37 [] (by decide) rfl rfl (List.forall_mem_cons.mpr ⟨(gg_r 0 rfl), (List.forall_mem_cons.mpr ⟨(gg_r 1 rfl), (fun _ h => by cases h)⟩)⟩) (gg_r 0 rfl) rfl rfl (Nat.le_of_ble_eq_true rfl) (by first | (rw [hRc]; exact Nat.le_of_ble_eq_true rfl) | (rw [hRc]; dsimp only; omega)) (by first | (rw [hRs]; exact Nat.le_of_ble_eq_true rfl) | (rw [hRs]; dsimp only; omega)) ?_ (fun X q C1 h => h.elim)
            rintro _ _ ⟨rfl, rfl⟩
            dsimp only [List.cons_append, List.nil_append, Option.toList]
            refine gg_ifP_ne (tgt := 46) (pc := 40) E dX5_nextTo_40 (by decide) (fun c40 => ?_) (fun c40 => ?_)
            · refine gg_aload_n (pc := 46) E dX5_nextTo_46 rfl rfl ?_
              refine gg_iload (pc := 47) E dX5_nextTo_47 rfl ?_
              refine gg_iload_n (pc := 49) E dX5_nextTo_49 rfl rfl ?_
              refine gg_callV (F := [_]) (As := [.int (nI i), _]) (rest := []) (pc := 50) E ck_X5 (ct_X5_otherEnd hl (by first | assumption | omega)) (cwV 2 E.2.2.2.2.1 (lw_V q3212 q3214 qs121 q179 q3215) rfl rfl rfl (by decide +kernel) ⟨by rw [hRf]; exact Nat.le_of_ble_eq_true rfl, by rw [hRl]; exact Nat.le_of_ble_eq_true rfl⟩) dX5_nextTo_50 [] (by decide) rfl rfl (List.forall_mem_cons.mpr ⟨(gg_r 0 rfl), (List.forall_mem_cons.mpr ⟨(gg_r 1 rfl), (fun _ h => by cases h)⟩)⟩) (gg_r 0 rfl) rfl rfl (Nat.le_of_ble_eq_true rfl) (by first | (rw [hRc]; exact Nat.le_of_ble_eq_true rfl) | (rw [hRc]; dsimp only; omega)) (by first | (rw [hRs]; exact Nat.le_of_ble_eq_true rfl) | (rw [hRs]; dsimp only; omega)) ?_ (fun X q C1 h => h.elim)
              rintro _ _ ⟨rfl, rfl⟩
              dsimp only [List.cons_append, List.nil_append, Option.toList]
              obtain ⟨ho1, ho2, ho3, ho4⟩ := eo_eq hw c30 (by omega) c40
              rw [ho1]
              refine gg_istore (lv' := [_, _, _, _, _, _, _]) (pc := 53) E dX5_nextTo_53 (Nat.le_of_ble_eq_true rfl) rfl rfl ?_
              refine gg_aload_n (pc := 55) E dX5_nextTo_55 rfl rfl ?_
              refine gg_get (pc := 56) E ck_X5 9 q2868 rfl (by decide) dX5_nextTo_56 (gg_r 0 rfl) rfl ?_
              refine gg_iload (pc := 59) E dX5_nextTo_59 rfl ?_
              refine gg_ialdN (pc := 61) E (eo row i v) rfl (by omega) (by omega) dX5_nextTo_61 (gg_i 0 rfl) ?_
              refine gg_iconst (v := (-1)) (pc := 62) E dX5_nextTo_62 (by decide) ?_
              refine gg_icmp_eq (tgt := 99) (pc := 63) E dX5_nextTo_63 (by decide) (fun c63 => ?_) (fun c63 => ?_)
              · refine gg_iconst (v := 0) (pc := 99) E dX5_nextTo_99 (by decide) ?_
                refine gg_istore (lv' := [_, _, _, _, _, _, _]) (pc := 100) E dX5_nextTo_100 (Nat.le_of_ble_eq_true rfl) rfl rfl ?_
                refine gg_iload (pc := 102) E dX5_nextTo_102 rfl ?_
                refine gg_ifN_eq (tgt := 123) (pc := 104) E 0 rfl (by decide) dX5_nextTo_104 (by decide) (fun _ => ?_) (fun q => absurd q (by decide))
                refine gg_iload_n (pc := 123) E dX5_nextTo_123 rfl rfl ?_
                refine gg_topI (y := dI (nxs row (dist row nw (-1) go) v (i + 1))) (by first | exact nx_t (v := v) hw (dist81 hw hg) c30 (by omega) ⟨c40, c63, c104, Or.inl c109⟩ | exact nx_t (v := v) hw (dist81 hw hg) c30 (by omega) ⟨c40, c63, c104, Or.inr c115⟩ | exact congrArg dI (nx_f (v := v) hw (dist81 hw hg) c30 (by omega) (fun q => q.2.1 c63)) | exact congrArg dI (nx_f (v := v) hw (dist81 hw hg) c30 (by omega) (fun q => c104 q.2.2.1)) | exact congrArg dI (nx_f (v := v) hw (dist81 hw hg) c30 (by omega) (fun q => q.2.2.2.elim (fun z => c109 z) (fun z => z c115)))) ?_
                refine gg_istore_n (lv' := [_, _, _, _, _, _, _]) (pc := 124) E dX5_nextTo_124 rfl (Nat.le_of_ble_eq_true rfl) rfl rfl ?_
                refine gg_iincN (k := 1) (lv' := [_, _, _, _, _, _, _]) (pc := 125) E i dX5_nextTo_125 rfl rfl rfl (Nat.le_of_ble_eq_true rfl) rfl rfl ?_
                refine gg_goto (tgt := 22) (pc := 128) E dX5_nextTo_128 (by decide) ?_
                refine gg_cv rfl (gg_leS (gg_leS (gg_leS (gg_leS (gg_leS (gg_leN (gg_leN gg_le0))))))) rfl (by first | exact Nat.le_refl _ | (dsimp only; omega)) (by first | exact Nat.le_refl _ | (dsimp only; omega)) (ih22 (i + 1) (by omega) (by omega))
              · refine gg_aload_n (pc := 66) E dX5_nextTo_66 rfl rfl ?_
                refine gg_get (pc := 67) E ck_X5 9 q2868 rfl (by decide) dX5_nextTo_67 (gg_r 0 rfl) rfl ?_
                refine gg_iload (pc := 70) E dX5_nextTo_70 rfl ?_
                refine gg_ialdN (pc := 72) E (eo row i v) rfl (by omega) (by omega) dX5_nextTo_72 (gg_i 0 rfl) ?_
                refine gg_aload_n (pc := 73) E dX5_nextTo_73 rfl rfl ?_
                refine gg_get (pc := 74) E ck_X5 0 q2859 rfl (by decide) dX5_nextTo_74 (gg_r 0 rfl) rfl ?_
                refine gg_iload (pc := 77) E dX5_nextTo_77 rfl ?_
                refine gg_callS (F := [_]) (As := [.int (nI i)]) (rest := [_, _]) (pc := 79) E (ct_X5_w hl ) (va_cwS 1 E.2.2.2.2.1 (lw_S q2856 q2857 q179 q2858) rfl rfl rfl (by decide +kernel) ⟨by rw [hRf]; exact Nat.le_of_ble_eq_true rfl, by rw [hRl]; exact Nat.le_of_ble_eq_true rfl⟩) dX5_nextTo_79 [] (by decide) rfl rfl (fun _ h => by cases h) rfl rfl (Nat.le_of_ble_eq_true rfl) (by first | (rw [hRc]; exact Nat.le_of_ble_eq_true rfl) | (rw [hRc]; dsimp only; omega)) (by first | (rw [hRs]; exact Nat.le_of_ble_eq_true rfl) | (rw [hRs]; dsimp only; omega)) ?_ (fun X q C1 h => h.elim)
                rintro _ _ ⟨rfl, rfl⟩
                dsimp only [List.cons_append, List.nil_append, Option.toList]
                refine gg_iconst (v := 2) (pc := 82) E dX5_nextTo_82 (by decide) ?_
                refine gg_iaddN (pc := 83) E (160 + 3 * i) 2 rfl rfl dX5_nextTo_83 ?_
                refine gg_ialdN (pc := 84) E ((160 + 3 * i) + 2) rfl (by omega) (by omega) dX5_nextTo_84 (gg_r 1 rfl) ?_
                refine gg_iadd (pc := 85) E dX5_nextTo_85 ?_
                refine gg_aload_n (pc := 86) E dX5_nextTo_86 rfl rfl ?_
                refine gg_get (pc := 87) E ck_X5 9 q2868 rfl (by decide) dX5_nextTo_87 (gg_r 0 rfl) rfl ?_
                refine gg_iload_n (pc := 90) E dX5_nextTo_90 rfl rfl ?_
                refine gg_ialdN (pc := 91) E v rfl (by omega) (by omega) dX5_nextTo_91 (gg_i 0 rfl) ?_
                refine gg_icmpB_ne (pc := 92) E dX5_nextTo_92 dX5_nextTo_95 dX5_nextTo_96 dX5_nextTo_99 ?_
                refine gg_istore (lv' := [_, _, _, _, _, _, _]) (pc := 100) E dX5_nextTo_100 (Nat.le_of_ble_eq_true rfl) rfl rfl ?_
                refine gg_iload (pc := 102) E dX5_nextTo_102 rfl ?_
                refine gg_ifP_eq (tgt := 123) (pc := 104) E dX5_nextTo_104 (by decide) (fun c104 => ?_) (fun c104 => ?_)
                · refine gg_iload_n (pc := 123) E dX5_nextTo_123 rfl rfl ?_
                  refine gg_topI (y := dI (nxs row (dist row nw (-1) go) v (i + 1))) (by first | exact nx_t (v := v) hw (dist81 hw hg) c30 (by omega) ⟨c40, c63, c104, Or.inl c109⟩ | exact nx_t (v := v) hw (dist81 hw hg) c30 (by omega) ⟨c40, c63, c104, Or.inr c115⟩ | exact congrArg dI (nx_f (v := v) hw (dist81 hw hg) c30 (by omega) (fun q => q.2.1 c63)) | exact congrArg dI (nx_f (v := v) hw (dist81 hw hg) c30 (by omega) (fun q => c104 q.2.2.1)) | exact congrArg dI (nx_f (v := v) hw (dist81 hw hg) c30 (by omega) (fun q => q.2.2.2.elim (fun z => c109 z) (fun z => z c115)))) ?_
                  refine gg_istore_n (lv' := [_, _, _, _, _, _, _]) (pc := 124) E dX5_nextTo_124 rfl (Nat.le_of_ble_eq_true rfl) rfl rfl ?_
                  refine gg_iincN (k := 1) (lv' := [_, _, _, _, _, _, _]) (pc := 125) E i dX5_nextTo_125 rfl rfl rfl (Nat.le_of_ble_eq_true rfl) rfl rfl ?_
                  refine gg_goto (tgt := 22) (pc := 128) E dX5_nextTo_128 (by decide) ?_
                  refine gg_cv rfl (gg_leS (gg_leS (gg_leS (gg_leS (gg_leS (gg_leN (gg_leN gg_le0))))))) rfl (by first | exact Nat.le_refl _ | (dsimp only; omega)) (by first | exact Nat.le_refl _ | (dsimp only; omega)) (ih22 (i + 1) (by omega) (by omega))
                · refine gg_iload_n (pc := 107) E dX5_nextTo_107 rfl rfl ?_
                  refine gg_iconst (v := (-1)) (pc := 108) E dX5_nextTo_108 (by decide) ?_
                  refine gg_icmp_eq (tgt := 118) (pc := 109) E dX5_nextTo_109 (by decide) (fun c109 => ?_) (fun c109 => ?_)
                  · refine gg_iload (pc := 118) E dX5_nextTo_118 rfl ?_
                    refine gg_goto (tgt := 124) (pc := 120) E dX5_nextTo_120 (by decide) ?_
                    refine gg_topI (y := dI (nxs row (dist row nw (-1) go) v (i + 1))) (by first | exact nx_t (v := v) hw (dist81 hw hg) c30 (by omega) ⟨c40, c63, c104, Or.inl c109⟩ | exact nx_t (v := v) hw (dist81 hw hg) c30 (by omega) ⟨c40, c63, c104, Or.inr c115⟩ | exact congrArg dI (nx_f (v := v) hw (dist81 hw hg) c30 (by omega) (fun q => q.2.1 c63)) | exact congrArg dI (nx_f (v := v) hw (dist81 hw hg) c30 (by omega) (fun q => c104 q.2.2.1)) | exact congrArg dI (nx_f (v := v) hw (dist81 hw hg) c30 (by omega) (fun q => q.2.2.2.elim (fun z => c109 z) (fun z => z c115)))) ?_
                    refine gg_istore_n (lv' := [_, _, _, _, _, _, _]) (pc := 124) E dX5_nextTo_124 rfl (Nat.le_of_ble_eq_true rfl) rfl rfl ?_
                    refine gg_iincN (k := 1) (lv' := [_, _, _, _, _, _, _]) (pc := 125) E i dX5_nextTo_125 rfl rfl rfl (Nat.le_of_ble_eq_true rfl) rfl rfl ?_
                    refine gg_goto (tgt := 22) (pc := 128) E dX5_nextTo_128 (by decide) ?_
                    refine gg_cv rfl (gg_leS (gg_leS (gg_leS (gg_leS (gg_leS (gg_leN (gg_leN gg_le0))))))) rfl (by first | exact Nat.le_refl _ | (dsimp only; omega)) (by first | exact Nat.le_refl _ | (dsimp only; omega)) (ih22 (i + 1) (by omega) (by omega))
                  · refine gg_iload (pc := 112) E dX5_nextTo_112 rfl ?_
                    refine gg_iload_n (pc := 114) E dX5_nextTo_114 rfl rfl ?_
                    refine gg_icmp_ge (tgt := 123) (pc := 115) E dX5_nextTo_115 (by decide) (fun c115 => ?_) (fun c115 => ?_)
                    · refine gg_iload_n (pc := 123) E dX5_nextTo_123 rfl rfl ?_
                      refine gg_topI (y := dI (nxs row (dist row nw (-1) go) v (i + 1))) (by first | exact nx_t (v := v) hw (dist81 hw hg) c30 (by omega) ⟨c40, c63, c104, Or.inl c109⟩ | exact nx_t (v := v) hw (dist81 hw hg) c30 (by omega) ⟨c40, c63, c104, Or.inr c115⟩ | exact congrArg dI (nx_f (v := v) hw (dist81 hw hg) c30 (by omega) (fun q => q.2.1 c63)) | exact congrArg dI (nx_f (v := v) hw (dist81 hw hg) c30 (by omega) (fun q => c104 q.2.2.1)) | exact congrArg dI (nx_f (v := v) hw (dist81 hw hg) c30 (by omega) (fun q => q.2.2.2.elim (fun z => c109 z) (fun z => z c115)))) ?_
                      refine gg_istore_n (lv' := [_, _, _, _, _, _, _]) (pc := 124) E dX5_nextTo_124 rfl (Nat.le_of_ble_eq_true rfl) rfl rfl ?_
                      refine gg_iincN (k := 1) (lv' := [_, _, _, _, _, _, _]) (pc := 125) E i dX5_nextTo_125 rfl rfl rfl (Nat.le_of_ble_eq_true rfl) rfl rfl ?_
                      refine gg_goto (tgt := 22) (pc := 128) E dX5_nextTo_128 (by decide) ?_
                      refine gg_cv rfl (gg_leS (gg_leS (gg_leS (gg_leS (gg_leS (gg_leN (gg_leN gg_le0))))))) rfl (by first | exact Nat.le_refl _ | (dsimp only; omega)) (by first | exact Nat.le_refl _ | (dsimp only; omega)) (ih22 (i + 1) (by omega) (by omega))
                    · refine gg_iload (pc := 118) E dX5_nextTo_118 rfl ?_
                      refine gg_goto (tgt := 124) (pc := 120) E dX5_nextTo_120 (by decide) ?_
                      refine gg_topI (y := dI (nxs row (dist row nw (-1) go) v (i + 1))) (by first | exact nx_t (v := v) hw (dist81 hw hg) c30 (by omega) ⟨c40, c63, c104, Or.inl c109⟩ | exact nx_t (v := v) hw (dist81 hw hg) c30 (by omega) ⟨c40, c63, c104, Or.inr c115⟩ | exact congrArg dI (nx_f (v := v) hw (dist81 hw hg) c30 (by omega) (fun q => q.2.1 c63)) | exact congrArg dI (nx_f (v := v) hw (dist81 hw hg) c30 (by omega) (fun q => c104 q.2.2.1)) | exact congrArg dI (nx_f (v := v) hw (dist81 hw hg) c30 (by omega) (fun q => q.2.2.2.elim (fun z => c109 z) (fun z => z c115)))) ?_
                      refine gg_istore_n (lv' := [_, _, _, _, _, _, _]) (pc := 124) E dX5_nextTo_124 rfl (Nat.le_of_ble_eq_true rfl) rfl rfl ?_
                      refine gg_iincN (k := 1) (lv' := [_, _, _, _, _, _, _]) (pc := 125) E i dX5_nextTo_125 rfl rfl rfl (Nat.le_of_ble_eq_true rfl) rfl rfl ?_
                      refine gg_goto (tgt := 22) (pc := 128) E dX5_nextTo_128 (by decide) ?_
                      refine gg_cv rfl (gg_leS (gg_leS (gg_leS (gg_leS (gg_leS (gg_leN (gg_leN gg_le0))))))) rfl (by first | exact Nat.le_refl _ | (dsimp only; omega)) (by first | exact Nat.le_refl _ | (dsimp only; omega)) (ih22 (i + 1) (by omega) (by omega))
            · rw [nx_f (v := v) hw (dist81 hw hg) c30 (by omega) (fun q => c40 q.1)]
              refine gg_goto (tgt := 125) (pc := 43) E dX5_nextTo_43 (by decide) ?_
              refine gg_iincN (k := 1) (lv' := [_, _, _, _, _, _, _]) (pc := 125) E i dX5_nextTo_125 rfl rfl rfl (Nat.le_of_ble_eq_true rfl) rfl rfl ?_
              refine gg_goto (tgt := 22) (pc := 128) E dX5_nextTo_128 (by decide) ?_
              refine gg_cv rfl (gg_leS (gg_leS (gg_leS (gg_leS (gg_leS (gg_leN (gg_leN gg_le0))))))) rfl (by first | exact Nat.le_refl _ | (dsimp only; omega)) (by first | exact Nat.le_refl _ | (dsimp only; omega)) (ih22 (i + 1) (by omega) (by omega))
      refine gg_cv rfl (gg_leS (gg_leS (gg_leS (gg_leS (gg_leS (gg_leN (gg_leN gg_le0))))))) rfl (by first | exact Nat.le_refl _ | (dsimp only; omega)) (by first | exact Nat.le_refl _ | (dsimp only; omega)) (L22 _ 0 (Nat.lt_succ_self _) (Nat.zero_le _))
    · refine gg_iconst (v := (-1)) (pc := 15) E dX5_nextTo_15 (by decide) ?_
      refine gg_iret (pc := 16) E Fn rfl (rfl) dX5_nextTo_16 (by first | exact Nat.le_of_ble_eq_true rfl | (dsimp only; omega)) (by first | exact Nat.le_of_ble_eq_true rfl | (dsimp only; omega)) ?_
      refine ⟨_, ?_, rfl⟩
      unfold nxt
      rw [if_pos (by first | exact Or.inl c2 | exact Or.inr (dI_m1 (dist81 hw hg v) c12))]
      rfl

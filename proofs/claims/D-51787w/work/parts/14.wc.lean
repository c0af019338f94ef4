set_option maxRecDepth 100000
theorem pass_skip {row : Nat → Int32} {nw : Nat} {wo : Int32} {d d' : Nat → Option Nat} {zb i : Nat} (h : zb = 0 ∧ d' = d ∧ (∀ j u v, j < i → En row nw wo j u v → rl d v u (ef row j) = none) ∨ zb = 1 ∧ mU d' 10 < mU d 10) (hi : nI i = wo) : zb = 0 ∧ d' = d ∧ (∀ j u v, j < i + 1 → En row nw wo j u v → rl d v u (ef row j) = none) ∨ zb = 1 ∧ mU d' 10 < mU d 10 := by
  rcases h with ⟨h1, h2, h3⟩ | h
  · refine Or.inl ⟨h1, h2, fun j u v hj hE => ?_⟩
    rcases Nat.lt_or_ge j i with q | q
    · exact h3 j u v q hE
    · have e : j = i := by omega
      subst e
      exact absurd hi hE.2.1
  · exact Or.inr h
theorem pass_step {row : Nat → Int32} {nr nw : Nat} {wo : Int32} {go : Nat} {d d' d1 d2 : Nat → Option Nat} {zb i : Nat} {r1 r2 : Int32} {F1 F2 : Nat → Int32} (h : zb = 0 ∧ d' = d ∧ (∀ j u v, j < i → En row nw wo j u v → rl d v u (ef row j) = none) ∨ zb = 1 ∧ mU d' 10 < mU d 10) (h1 : Nr row nr nw wo go d' i (eb row i) (ea row i) r1 F1 d1) (h2 : Nr row nr nw wo go d1 i (ea row i) (eb row i) r2 F2 d2) : ∃ z2, nI zb ||| r1 ||| r2 = nI z2 ∧ (z2 = 0 ∧ d2 = d ∧ (∀ j u v, j < i + 1 → En row nw wo j u v → rl d v u (ef row j) = none) ∨ z2 = 1 ∧ mU d2 10 < mU d 10) := by
  obtain ⟨-, -, p1⟩ := h1
  obtain ⟨-, -, p2⟩ := h2
  rcases h with ⟨rfl, rfl, a3⟩ | ⟨rfl, a2⟩
  · rcases p1 with ⟨rfl, rfl, b3⟩ | ⟨rfl, b2⟩
    · rcases p2 with ⟨rfl, rfl, c3⟩ | ⟨rfl, c2⟩
      · refine ⟨0, by decide, Or.inl ⟨rfl, rfl, fun j u v hj hE => ?_⟩⟩
        rcases Nat.lt_or_ge j i with q | q
        · exact a3 j u v q hE
        · have e : j = i := by omega
          subst e
          rcases hE.2.2 with ⟨e1, e2⟩ | ⟨e1, e2⟩
          · rw [← e1, ← e2]; exact c3
          · rw [← e1, ← e2]; exact b3
      · exact ⟨1, by decide, Or.inr ⟨rfl, c2⟩⟩
    · rcases p2 with ⟨rfl, rfl, c3⟩ | ⟨rfl, c2⟩
      · exact ⟨1, by decide, Or.inr ⟨rfl, b2⟩⟩
      · exact ⟨1, by decide, Or.inr ⟨rfl, by omega⟩⟩
  · rcases p1 with ⟨rfl, rfl, b3⟩ | ⟨rfl, b2⟩
    · rcases p2 with ⟨rfl, rfl, c3⟩ | ⟨rfl, c2⟩
      · exact ⟨1, by decide, Or.inr ⟨rfl, a2⟩⟩
      · exact ⟨1, by decide, Or.inr ⟨rfl, by omega⟩⟩
    · rcases p2 with ⟨rfl, rfl, c3⟩ | ⟨rfl, c2⟩
      · exact ⟨1, by decide, Or.inr ⟨rfl, by omega⟩⟩
      · exact ⟨1, by decide, Or.inr ⟨rfl, by omega⟩⟩
set_option maxHeartbeats 4000000 in
theorem ct_X5_isNearer {l : Launch} (hl : l.stackTraces = false) {g : gg_G}  {h : Nat} {ad : Nat → Nat} {x : Nat → Int32} {row : Nat → Int32} {sums : Nat → Int32} {nr nw i u v go : Nat} {wo : Int32} {d : Nat → Option Nat} (hw : Ww row nr nw) (hB : Bf row nr nw wo go d) (hs : ∀ k, k < 10 → sums k = dI (d k)) (hE : En row nw wo i u v) (hu : u < 10) (hv : v < 10) (hou : row (160 + 3 * i) + row (160 + 3 * i + 1) - nI v = nI u) : gg_C l g yX5_isNearer (ws_ yX5_isNearer cX5_isNearer 5 (some .boolean)) { frames := 2, cells := 0, slots := 0, locals := 42 } [.ref h, .int (nI i), .int (nI v)] [(h, .inl (4, mo_f ad x)), ((ad 0), gg_ai g 1030 row)] [[((ad 9), gg_ai g 10 sums)]] (fun vv CC => ∃ (r : Int32) (sums1 : Nat → Int32) (d1 : Nat → Option Nat), (Nr row nr nw wo go d i u v r sums1 d1) ∧ vv = some (.int r) ∧ CC = [[((ad 9), gg_ai g 10 sums1)]]) gg_no := by
  refine gg_of (lv := [_, _, _, _, _]) (by decide) hl (Nat.le_of_ble_eq_true rfl) rfl ?_
  intro p e R s m args below meth c A Q hRf hRl hRc hRs E Fn hnm hex
  have hi : i < 20 := Nat.lt_of_lt_of_le hE.1 hw.2.1
  refine gg_aload_n (pc := 0) E dX5_isNearer_0 rfl rfl ?_
  refine gg_get (pc := 1) E ck_X5 9 q2868 rfl (by decide) dX5_isNearer_1 (gg_r 0 rfl) rfl ?_
  refine gg_aload_n (pc := 4) E dX5_isNearer_4 rfl rfl ?_
  refine gg_iload_n (pc := 5) E dX5_isNearer_5 rfl rfl ?_
  refine gg_iload_n (pc := 6) E dX5_isNearer_6 rfl rfl ?_
  refine gg_callV (F := [_]) (As := [.int (nI i), _]) (rest := [_]) (pc := 7) E ck_X5 (ct_X5_otherEnd hl (by first | assumption | omega)) (cwV 2 E.2.2.2.2.1 (lw_V q3212 q3214 qs121 q179 q3215) rfl rfl rfl (by decide +kernel) ⟨by rw [hRf]; exact Nat.le_of_ble_eq_true rfl, by rw [hRl]; exact Nat.le_of_ble_eq_true rfl⟩) dX5_isNearer_7 [] (by decide) rfl rfl (List.forall_mem_cons.mpr ⟨(gg_r 0 rfl), (List.forall_mem_cons.mpr ⟨(gg_r 1 rfl), (fun _ h => by cases h)⟩)⟩) (gg_r 0 rfl) rfl rfl (Nat.le_of_ble_eq_true rfl) (by first | (rw [hRc]; exact Nat.le_of_ble_eq_true rfl) | (rw [hRc]; dsimp only; omega)) (by first | (rw [hRs]; exact Nat.le_of_ble_eq_true rfl) | (rw [hRs]; dsimp only; omega)) ?_ (fun X q C1 h => h.elim)
  rintro _ _ ⟨rfl, rfl⟩
  dsimp only [List.cons_append, List.nil_append, Option.toList]
  rw [hou]
  refine gg_ialdN (pc := 10) E u rfl (by omega) (by omega) dX5_isNearer_10 (gg_i 0 rfl) ?_
  refine gg_istore_n (lv' := [_, _, _, _, _]) (pc := 11) E dX5_isNearer_11 rfl (Nat.le_of_ble_eq_true rfl) rfl rfl ?_
  refine gg_iload_n (pc := 12) E dX5_isNearer_12 rfl rfl ?_
  refine gg_aload_n (pc := 13) E dX5_isNearer_13 rfl rfl ?_
  refine gg_get (pc := 14) E ck_X5 0 q2859 rfl (by decide) dX5_isNearer_14 (gg_r 0 rfl) rfl ?_
  refine gg_iload_n (pc := 17) E dX5_isNearer_17 rfl rfl ?_
  refine gg_callS (F := [_]) (As := [.int (nI i)]) (rest := [_, _]) (pc := 18) E (ct_X5_w hl ) (va_cwS 1 E.2.2.2.2.1 (lw_S q2856 q2857 q179 q2858) rfl rfl rfl (by decide +kernel) ⟨by rw [hRf]; exact Nat.le_of_ble_eq_true rfl, by rw [hRl]; exact Nat.le_of_ble_eq_true rfl⟩) dX5_isNearer_18 [] (by decide) rfl rfl (fun _ h => by cases h) rfl rfl (Nat.le_of_ble_eq_true rfl) (by first | (rw [hRc]; exact Nat.le_of_ble_eq_true rfl) | (rw [hRc]; dsimp only; omega)) (by first | (rw [hRs]; exact Nat.le_of_ble_eq_true rfl) | (rw [hRs]; dsimp only; omega)) ?_ (fun X q C1 h => h.elim)
  rintro _ _ ⟨rfl, rfl⟩
  dsimp only [List.cons_append, List.nil_append, Option.toList]
  refine gg_iconst (v := 2) (pc := 21) E dX5_isNearer_21 (by decide) ?_
  refine gg_iaddN (pc := 22) E (160 + 3 * i) 2 rfl rfl dX5_isNearer_22 ?_
  refine gg_ialdN (pc := 23) E ((160 + 3 * i) + 2) rfl (by omega) (by omega) dX5_isNearer_23 (gg_r 1 rfl) ?_
  refine gg_iadd (pc := 24) E dX5_isNearer_24 ?_
  refine gg_istore (lv' := [_, _, _, _, _]) (pc := 25) E dX5_isNearer_25 (Nat.le_of_ble_eq_true rfl) rfl rfl ?_
  refine gg_iload_n (pc := 27) E dX5_isNearer_27 rfl rfl ?_
  refine gg_iconst (v := (-1)) (pc := 28) E dX5_isNearer_28 (by decide) ?_
  refine gg_icmp_eq (tgt := 53) (pc := 29) E dX5_isNearer_29 (by decide) (fun c29 => ?_) (fun c29 => ?_)
  · refine gg_iconst (v := 0) (pc := 53) E dX5_isNearer_53 (by decide) ?_
    refine gg_iret (pc := 54) E Fn rfl (gg_nz (by first | decide | assumption | exact gg_b01 | (split <;> decide))) dX5_isNearer_54 (by first | exact Nat.le_of_ble_eq_true rfl | (dsimp only; omega)) (by first | exact Nat.le_of_ble_eq_true rfl | (dsimp only; omega)) ?_
    have hc : sums u = -1 ∨ ¬ sums v = -1 ∧ sums v ≤ sums u + row (160 + 3 * i + 2) := by first | exact Or.inl c29 | exact Or.inr ⟨c39, Int32.not_lt.mp c50⟩
    exact ⟨0, sums, d, Nr_t hw hB hs hE hu hv hc, rfl, rfl⟩
  · refine gg_aload_n (pc := 32) E dX5_isNearer_32 rfl rfl ?_
    refine gg_get (pc := 33) E ck_X5 9 q2868 rfl (by decide) dX5_isNearer_33 (gg_r 0 rfl) rfl ?_
    refine gg_iload_n (pc := 36) E dX5_isNearer_36 rfl rfl ?_
    refine gg_ialdN (pc := 37) E v rfl (by omega) (by omega) dX5_isNearer_37 (gg_i 0 rfl) ?_
    refine gg_iconst (v := (-1)) (pc := 38) E dX5_isNearer_38 (by decide) ?_
    refine gg_icmp_eq (tgt := 55) (pc := 39) E dX5_isNearer_39 (by decide) (fun c39 => ?_) (fun c39 => ?_)
    · refine gg_aload_n (pc := 55) E dX5_isNearer_55 rfl rfl ?_
      refine gg_get (pc := 56) E ck_X5 9 q2868 rfl (by decide) dX5_isNearer_56 (gg_r 0 rfl) rfl ?_
      refine gg_iload_n (pc := 59) E dX5_isNearer_59 rfl rfl ?_
      refine gg_iload (pc := 60) E dX5_isNearer_60 rfl ?_
      refine gg_iastN (M' := [_]) (pc := 62) E v rfl (by omega) (by omega) dX5_isNearer_62 0 rfl rfl ?_
      refine gg_iconst (v := 1) (pc := 63) E dX5_isNearer_63 (by decide) ?_
      refine gg_iret (pc := 64) E Fn rfl (gg_nz (by first | decide | assumption | exact gg_b01 | (split <;> decide))) dX5_isNearer_64 (by first | exact Nat.le_of_ble_eq_true rfl | (dsimp only; omega)) (by first | exact Nat.le_of_ble_eq_true rfl | (dsimp only; omega)) ?_
      have hc : ¬ (sums u = -1 ∨ ¬ sums v = -1 ∧ sums v ≤ sums u + row (160 + 3 * i + 2)) := by first | (rintro (q | ⟨q, -⟩) <;> first | exact c29 q | exact q c39) | (rintro (q | ⟨-, q⟩) <;> first | exact c29 q | exact absurd c50 (Int32.not_lt.mpr q))
      obtain ⟨d1, h1⟩ := Nr_f hw hB hs hE hu hv hc
      exact ⟨1, _, d1, h1, rfl, rfl⟩
    · refine gg_aload_n (pc := 42) E dX5_isNearer_42 rfl rfl ?_
      refine gg_get (pc := 43) E ck_X5 9 q2868 rfl (by decide) dX5_isNearer_43 (gg_r 0 rfl) rfl ?_
      refine gg_iload_n (pc := 46) E dX5_isNearer_46 rfl rfl ?_
      refine gg_ialdN (pc := 47) E v rfl (by omega) (by omega) dX5_isNearer_47 (gg_i 0 rfl) ?_
      refine gg_iload (pc := 48) E dX5_isNearer_48 rfl ?_
      refine gg_icmp_gt (tgt := 55) (pc := 50) E dX5_isNearer_50 (by decide) (fun c50 => ?_) (fun c50 => ?_)
      · refine gg_aload_n (pc := 55) E dX5_isNearer_55 rfl rfl ?_
        refine gg_get (pc := 56) E ck_X5 9 q2868 rfl (by decide) dX5_isNearer_56 (gg_r 0 rfl) rfl ?_
        refine gg_iload_n (pc := 59) E dX5_isNearer_59 rfl rfl ?_
        refine gg_iload (pc := 60) E dX5_isNearer_60 rfl ?_
        refine gg_iastN (M' := [_]) (pc := 62) E v rfl (by omega) (by omega) dX5_isNearer_62 0 rfl rfl ?_
        refine gg_iconst (v := 1) (pc := 63) E dX5_isNearer_63 (by decide) ?_
        refine gg_iret (pc := 64) E Fn rfl (gg_nz (by first | decide | assumption | exact gg_b01 | (split <;> decide))) dX5_isNearer_64 (by first | exact Nat.le_of_ble_eq_true rfl | (dsimp only; omega)) (by first | exact Nat.le_of_ble_eq_true rfl | (dsimp only; omega)) ?_
        have hc : ¬ (sums u = -1 ∨ ¬ sums v = -1 ∧ sums v ≤ sums u + row (160 + 3 * i + 2)) := by first | (rintro (q | ⟨q, -⟩) <;> first | exact c29 q | exact q c39) | (rintro (q | ⟨-, q⟩) <;> first | exact c29 q | exact absurd c50 (Int32.not_lt.mpr q))
        obtain ⟨d1, h1⟩ := Nr_f hw hB hs hE hu hv hc
        exact ⟨1, _, d1, h1, rfl, rfl⟩
      · refine gg_iconst (v := 0) (pc := 53) E dX5_isNearer_53 (by decide) ?_
        refine gg_iret (pc := 54) E Fn rfl (gg_nz (by first | decide | assumption | exact gg_b01 | (split <;> decide))) dX5_isNearer_54 (by first | exact Nat.le_of_ble_eq_true rfl | (dsimp only; omega)) (by first | exact Nat.le_of_ble_eq_true rfl | (dsimp only; omega)) ?_
        have hc : sums u = -1 ∨ ¬ sums v = -1 ∧ sums v ≤ sums u + row (160 + 3 * i + 2) := by first | exact Or.inl c29 | exact Or.inr ⟨c39, Int32.not_lt.mp c50⟩
        exact ⟨0, sums, d, Nr_t hw hB hs hE hu hv hc, rfl, rfl⟩
set_option maxHeartbeats 4000000 in
theorem ct_X5_reckons {l : Launch} (hl : l.stackTraces = false) {g : gg_G}  {h : Nat} {ad : Nat → Nat} {x : Nat → Int32} {row : Nat → Int32} {sums : Nat → Int32} {nr nw go : Nat} {wo : Int32} (hw : Ww row nr nw) (hg : go < 10) : gg_C l g yX5_reckons (ws_ yX5_reckons cX5_reckons 5 none) { frames := 3, cells := 0, slots := 0, locals := 66 } [.ref h, .int (nI go), .int wo] [(h, .inl (4, mo_f ad x)), ((ad 0), gg_ai g 1030 row)] [[((ad 9), gg_ai g 10 sums)]] (fun vv CC => vv = none ∧ CC = [[((ad 9), gg_ai g 10 (fun k => dI (dist row nw wo go k)))]]) gg_no := by
  refine gg_of (lv := [_, _, _, _, _]) (by decide) hl (Nat.le_of_ble_eq_true rfl) rfl ?_
  intro p e R s m args below meth c A Q hRf hRl hRc hRs E Fn hnm hex
  have hnw := hw.1
  have hw20 := hw.2.1
  have hr10 := hw.2.2.1
  refine gg_iconst (v := 0) (pc := 0) E dX5_reckons_0 (by decide) ?_
  refine gg_istore_n (lv' := [_, _, _, _, _]) (pc := 1) E dX5_reckons_1 rfl (Nat.le_of_ble_eq_true rfl) rfl rfl ?_
  have L2 : ∀ (n : Nat) (i : Nat) (F : Nat → Int32), 10 - i < n → (i ≤ 10) → (∀ k, k < i → F k = dI (d0 go k)) → gg_W p l e R s m args below meth c g A 5 Q 0 0 [[((ad 9), gg_ai g 10 F)]] [some (.ref h), some (.int (nI go)), some (.int wo), some (.int (nI i)), none] [] 2 := by
    intro n2
    induction n2 with
    | zero => intro i F hmz; exact absurd hmz (Nat.not_lt_zero _)
    | succ n2 ih2 =>
      intro i F hm2 hi hF
      refine gg_iload_n (pc := 2) E dX5_reckons_2 rfl rfl ?_
      refine gg_bipush (v := 10) (pc := 3) E dX5_reckons_3 (by decide) ?_
      refine gg_icmpN_ge (tgt := 30) (pc := 5) E i 10 rfl rfl (by omega) (by omega) dX5_reckons_5 (by decide) (fun c5 => ?_) (fun c5 => ?_)
      · refine gg_iconst (v := 1) (pc := 30) E dX5_reckons_30 (by decide) ?_
        refine gg_istore_n (lv' := [_, _, _, _, _]) (pc := 31) E dX5_reckons_31 rfl (Nat.le_of_ble_eq_true rfl) rfl rfl ?_
        have L32 : ∀ (n : Nat) (zb : Nat) (F : Nat → Int32) (d : Nat → Option Nat), 2 * mU d 10 + zb < n → (∀ k, k < 10 → F k = dI (d k)) → (Bf row nr nw wo go d) → (zb = 0 ∧ (∀ j u v, En row nw wo j u v → rl d v u (ef row j) = none) ∨ zb = 1) → gg_W p l e R s m args below meth c g A 5 Q 0 0 [[((ad 9), gg_ai g 10 F)]] [some (.ref h), some (.int (nI go)), some (.int wo), some (.int (nI zb)), none] [] 32 := by
          intro n32
          induction n32 with
          | zero => intro zb F d hmz; exact absurd hmz (Nat.not_lt_zero _)
          | succ n32 ih32 =>
            intro zb F d hm32 hF2 hB hzz
            refine gg_iload_n (pc := 32) E dX5_reckons_32 rfl rfl ?_
            refine gg_ifN_eq (tgt := 107) (pc := 33) E zb rfl (by omega) dX5_reckons_33 (by decide) (fun c33 => ?_) (fun c33 => ?_)
            · refine gg_vret (pc := 107) E Fn rfl dX5_reckons_107 (by first | exact Nat.le_of_ble_eq_true rfl | (dsimp only; omega)) (by first | exact Nat.le_of_ble_eq_true rfl | (dsimp only; omega)) ?_
              refine ⟨rfl, ?_⟩
              have hst : ∀ j u v, En row nw wo j u v → rl d v u (ef row j) = none := hzz.elim (fun z => z.2) (fun z => absurd z (by omega))
              rw [dist_of hw (hB.done hst)]
              rw [gg_ai_congr hF2]
            · refine gg_iconst (v := 0) (pc := 36) E dX5_reckons_36 (by decide) ?_
              refine gg_istore_n (lv' := [_, _, _, _, _]) (pc := 37) E dX5_reckons_37 rfl (Nat.le_of_ble_eq_true rfl) rfl rfl ?_
              refine gg_iconst (v := 0) (pc := 38) E dX5_reckons_38 (by decide) ?_
              refine gg_istore (lv' := [_, _, _, _, _]) (pc := 39) E dX5_reckons_39 (Nat.le_of_ble_eq_true rfl) rfl rfl ?_
              have L41 : ∀ (n : Nat) (i zb : Nat) (F' : Nat → Int32) (d' : Nat → Option Nat), nw - i < n → (i ≤ nw) → (∀ k, k < 10 → F' k = dI (d' k)) → (Bf row nr nw wo go d') → (zb = 0 ∧ d' = d ∧ (∀ j u v, j < i → En row nw wo j u v → rl d v u (ef row j) = none) ∨ zb = 1 ∧ mU d' 10 < mU d 10) → gg_W p l e R s m args below meth c g A 5 Q 0 0 [[((ad 9), gg_ai g 10 F')]] [some (.ref h), some (.int (nI go)), some (.int wo), some (.int (nI zb)), some (.int (nI i))] [] 41 := by
                intro n41
                induction n41 with
                | zero => intro i zb F' d' hmz; exact absurd hmz (Nat.not_lt_zero _)
                | succ n41 ih41 =>
                  intro i zb F' d' hm41 hi hF' hB' hz
                  refine gg_iload (pc := 41) E dX5_reckons_41 rfl ?_
                  refine gg_aload_n (pc := 43) E dX5_reckons_43 rfl rfl ?_
                  refine gg_get (pc := 44) E ck_X5 0 q2859 rfl (by decide) dX5_reckons_44 (gg_r 0 rfl) rfl ?_
                  refine gg_iconst (v := 1) (pc := 47) E dX5_reckons_47 (by decide) ?_
                  refine gg_ialdN (pc := 48) E 1 rfl (by omega) (by omega) dX5_reckons_48 (gg_r 1 rfl) ?_
                  rw [hnw]
                  refine gg_icmpN_ge (tgt := 104) (pc := 49) E i nw rfl rfl (by omega) (by omega) dX5_reckons_49 (by decide) (fun c49 => ?_) (fun c49 => ?_)
                  · refine gg_goto (tgt := 32) (pc := 104) E dX5_reckons_104 (by decide) ?_
                    have hzn : zb = 0 ∧ (∀ j u v, En row nw wo j u v → rl d' v u (ef row j) = none) ∨ zb = 1 := by
                      rcases hz with ⟨z1, z2, z3⟩ | ⟨z1, z2⟩
                      · exact Or.inl ⟨z1, fun j u v hE => by rw [z2]; exact z3 j u v (by have := hE.1; omega) hE⟩
                      · exact Or.inr z1
                    refine gg_cv rfl (gg_leS (gg_leS (gg_leS (gg_leS (gg_leN gg_le0))))) rfl (by first | exact Nat.le_refl _ | (dsimp only; omega)) (by first | exact Nat.le_refl _ | (dsimp only; omega)) (ih32 zb F' d' (by rcases hz with ⟨z1, z2, z3⟩ | ⟨z1, z2⟩ <;> (try subst z2) <;> omega) (hF') (hB') (hzn))
                  · refine gg_iload (pc := 52) E dX5_reckons_52 rfl ?_
                    refine gg_iload_n (pc := 54) E dX5_reckons_54 rfl rfl ?_
                    refine gg_icmp_eq (tgt := 98) (pc := 55) E dX5_reckons_55 (by decide) (fun c55 => ?_) (fun c55 => ?_)
                    · have hz2 := pass_skip hz c55
                      refine gg_iincN (k := 1) (lv' := [_, _, _, _, _]) (pc := 98) E i dX5_reckons_98 rfl rfl rfl (Nat.le_of_ble_eq_true rfl) rfl rfl ?_
                      refine gg_goto (tgt := 41) (pc := 101) E dX5_reckons_101 (by decide) ?_
                      refine gg_cv rfl (gg_leS (gg_leS (gg_leS (gg_leS (gg_leS gg_le0))))) rfl (by first | exact Nat.le_refl _ | (dsimp only; omega)) (by first | exact Nat.le_refl _ | (dsimp only; omega)) (ih41 (i + 1) zb F' d' (by omega) (by omega) (hF') (hB') (hz2))
                    · obtain ⟨hEa, hEb, hEf, ha, hb, hab, hf1, hf9⟩ := hw.2.2.2 i (by omega)
                      refine gg_iload_n (pc := 58) E dX5_reckons_58 rfl rfl ?_
                      refine gg_aload_n (pc := 59) E dX5_reckons_59 rfl rfl ?_
                      refine gg_iload (pc := 60) E dX5_reckons_60 rfl ?_
                      refine gg_aload_n (pc := 62) E dX5_reckons_62 rfl rfl ?_
                      refine gg_get (pc := 63) E ck_X5 0 q2859 rfl (by decide) dX5_reckons_63 (gg_r 0 rfl) rfl ?_
                      refine gg_iload (pc := 66) E dX5_reckons_66 rfl ?_
                      refine gg_callS (F := [_]) (As := [.int (nI i)]) (rest := [_, _, _, _]) (pc := 68) E (ct_X5_w hl ) (va_cwS 1 E.2.2.2.2.1 (lw_S q2856 q2857 q179 q2858) rfl rfl rfl (by decide +kernel) ⟨by rw [hRf]; exact Nat.le_of_ble_eq_true rfl, by rw [hRl]; exact Nat.le_of_ble_eq_true rfl⟩) dX5_reckons_68 [] (by decide) rfl rfl (fun _ h => by cases h) rfl rfl (Nat.le_of_ble_eq_true rfl) (by first | (rw [hRc]; exact Nat.le_of_ble_eq_true rfl) | (rw [hRc]; dsimp only; omega)) (by first | (rw [hRs]; exact Nat.le_of_ble_eq_true rfl) | (rw [hRs]; dsimp only; omega)) ?_ (fun X q C1 h => h.elim)
                      rintro _ _ ⟨rfl, rfl⟩
                      dsimp only [List.cons_append, List.nil_append, Option.toList]
                      refine gg_ialdN (pc := 71) E (160 + 3 * i) rfl (by omega) (by omega) dX5_reckons_71 (gg_r 1 rfl) ?_
                      rw [hEa]
                      refine gg_callV (F := []) (As := [.int (nI i), .int (nI (ea row i))]) (rest := [_]) (pc := 72) E ck_X5 (ct_X5_isNearer (u := eb row i) hl hw hB' hF' ⟨c49, c55, Or.inr ⟨rfl, rfl⟩⟩ (by omega) (by omega) (by rw [hEa, hEb]; exact i32_a _ _)) (cwV 2 E.2.2.2.2.1 (lw_V q3208 q3210 qs120 q179 q3211) rfl rfl rfl (by decide +kernel) ⟨by rw [hRf]; exact Nat.le_of_ble_eq_true rfl, by rw [hRl]; exact Nat.le_of_ble_eq_true rfl⟩) dX5_reckons_72 [0] (by decide) rfl rfl (List.forall_mem_cons.mpr ⟨(gg_r 0 rfl), (List.forall_mem_cons.mpr ⟨(gg_r 1 rfl), (fun _ h => by cases h)⟩)⟩) (gg_r 0 rfl) rfl rfl (Nat.le_of_ble_eq_true rfl) (by first | (rw [hRc]; exact Nat.le_of_ble_eq_true rfl) | (rw [hRc]; dsimp only; omega)) (by first | (rw [hRs]; exact Nat.le_of_ble_eq_true rfl) | (rw [hRs]; dsimp only; omega)) ?_ (fun X q C1 h => h.elim)
                      rintro _ _ ⟨r1, F1, d1, hq1, rfl, rfl⟩
                      dsimp only [List.cons_append, List.nil_append, Option.toList]
                      refine gg_ior (pc := 75) E dX5_reckons_75 ?_
                      refine gg_istore_n (lv' := [_, _, _, _, _]) (pc := 76) E dX5_reckons_76 rfl (Nat.le_of_ble_eq_true rfl) rfl rfl ?_
                      refine gg_iload_n (pc := 77) E dX5_reckons_77 rfl rfl ?_
                      refine gg_aload_n (pc := 78) E dX5_reckons_78 rfl rfl ?_
                      refine gg_iload (pc := 79) E dX5_reckons_79 rfl ?_
                      refine gg_aload_n (pc := 81) E dX5_reckons_81 rfl rfl ?_
                      refine gg_get (pc := 82) E ck_X5 0 q2859 rfl (by decide) dX5_reckons_82 (gg_r 0 rfl) rfl ?_
                      refine gg_iload (pc := 85) E dX5_reckons_85 rfl ?_
                      refine gg_callS (F := [_]) (As := [.int (nI i)]) (rest := [_, _, _, _]) (pc := 87) E (ct_X5_w hl ) (va_cwS 1 E.2.2.2.2.1 (lw_S q2856 q2857 q179 q2858) rfl rfl rfl (by decide +kernel) ⟨by rw [hRf]; exact Nat.le_of_ble_eq_true rfl, by rw [hRl]; exact Nat.le_of_ble_eq_true rfl⟩) dX5_reckons_87 [] (by decide) rfl rfl (fun _ h => by cases h) rfl rfl (Nat.le_of_ble_eq_true rfl) (by first | (rw [hRc]; exact Nat.le_of_ble_eq_true rfl) | (rw [hRc]; dsimp only; omega)) (by first | (rw [hRs]; exact Nat.le_of_ble_eq_true rfl) | (rw [hRs]; dsimp only; omega)) ?_ (fun X q C1 h => h.elim)
                      rintro _ _ ⟨rfl, rfl⟩
                      dsimp only [List.cons_append, List.nil_append, Option.toList]
                      refine gg_iconst (v := 1) (pc := 90) E dX5_reckons_90 (by decide) ?_
                      refine gg_iaddN (pc := 91) E (160 + 3 * i) 1 rfl rfl dX5_reckons_91 ?_
                      refine gg_ialdN (pc := 92) E ((160 + 3 * i) + 1) rfl (by omega) (by omega) dX5_reckons_92 (gg_r 1 rfl) ?_
                      rw [hEb]
                      refine gg_callV (F := []) (As := [.int (nI i), .int (nI (eb row i))]) (rest := [_]) (pc := 93) E ck_X5 (ct_X5_isNearer (u := ea row i) hl hw hq1.2.1 hq1.1 ⟨c49, c55, Or.inl ⟨rfl, rfl⟩⟩ (by omega) (by omega) (by rw [hEa, hEb]; exact i32_b _ _)) (cwV 2 E.2.2.2.2.1 (lw_V q3208 q3210 qs120 q179 q3211) rfl rfl rfl (by decide +kernel) ⟨by rw [hRf]; exact Nat.le_of_ble_eq_true rfl, by rw [hRl]; exact Nat.le_of_ble_eq_true rfl⟩) dX5_reckons_93 [0] (by decide) rfl rfl (List.forall_mem_cons.mpr ⟨(gg_r 0 rfl), (List.forall_mem_cons.mpr ⟨(gg_r 1 rfl), (fun _ h => by cases h)⟩)⟩) (gg_r 0 rfl) rfl rfl (Nat.le_of_ble_eq_true rfl) (by first | (rw [hRc]; exact Nat.le_of_ble_eq_true rfl) | (rw [hRc]; dsimp only; omega)) (by first | (rw [hRs]; exact Nat.le_of_ble_eq_true rfl) | (rw [hRs]; dsimp only; omega)) ?_ (fun X q C1 h => h.elim)
                      rintro _ _ ⟨r2, F2, d2, hq2, rfl, rfl⟩
                      dsimp only [List.cons_append, List.nil_append, Option.toList]
                      refine gg_ior (pc := 96) E dX5_reckons_96 ?_
                      refine gg_istore_n (lv' := [_, _, _, _, _]) (pc := 97) E dX5_reckons_97 rfl (Nat.le_of_ble_eq_true rfl) rfl rfl ?_
                      obtain ⟨z2, hz2e, hz2⟩ := pass_step hz hq1 hq2
                      rw [hz2e]
                      have hB3 := hq2.2.1
                      have hF3 := hq2.1
                      refine gg_iincN (k := 1) (lv' := [_, _, _, _, _]) (pc := 98) E i dX5_reckons_98 rfl rfl rfl (Nat.le_of_ble_eq_true rfl) rfl rfl ?_
                      refine gg_goto (tgt := 41) (pc := 101) E dX5_reckons_101 (by decide) ?_
                      refine gg_cv rfl (gg_leS (gg_leS (gg_leS (gg_leS (gg_leS gg_le0))))) rfl (by first | exact Nat.le_refl _ | (dsimp only; omega)) (by first | exact Nat.le_refl _ | (dsimp only; omega)) (ih41 (i + 1) z2 _ _ (by omega) (by omega) (hF3) (hB3) (hz2))
              refine gg_cv rfl (gg_leS (gg_leS (gg_leS (gg_leS (gg_leS gg_le0))))) rfl (by first | exact Nat.le_refl _ | (dsimp only; omega)) (by first | exact Nat.le_refl _ | (dsimp only; omega)) (L41 _ 0 0 F d (Nat.lt_succ_self _) (Nat.zero_le _) (hF2) (hB) (Or.inl ⟨rfl, rfl, fun j u v hj => absurd hj (Nat.not_lt_zero j)⟩))
        refine gg_cv rfl (gg_leS (gg_leS (gg_leS (gg_leS (gg_leN gg_le0))))) rfl (by first | exact Nat.le_refl _ | (dsimp only; omega)) (by first | exact Nat.le_refl _ | (dsimp only; omega)) (L32 _ 1 F (d0 go) (Nat.lt_succ_self _) (fun k hk => hF k (by omega)) (Bf.start hg) (Or.inr rfl))
      · refine gg_aload_n (pc := 8) E dX5_reckons_8 rfl rfl ?_
        refine gg_get (pc := 9) E ck_X5 9 q2868 rfl (by decide) dX5_reckons_9 (gg_r 0 rfl) rfl ?_
        refine gg_iload_n (pc := 12) E dX5_reckons_12 rfl rfl ?_
        refine gg_iload_n (pc := 13) E dX5_reckons_13 rfl rfl ?_
        refine gg_iload_n (pc := 14) E dX5_reckons_14 rfl rfl ?_
        refine gg_icmpN_ne (tgt := 22) (pc := 15) E i go rfl rfl (by omega) (by omega) dX5_reckons_15 (by decide) (fun c15 => ?_) (fun c15 => ?_)
        · refine gg_iconst (v := (-1)) (pc := 22) E dX5_reckons_22 (by decide) ?_
          refine gg_iastN (M' := [_]) (pc := 23) E i rfl (by omega) (by omega) dX5_reckons_23 0 rfl rfl ?_
          refine gg_iincN (k := 1) (lv' := [_, _, _, _, _]) (pc := 24) E i dX5_reckons_24 rfl rfl rfl (Nat.le_of_ble_eq_true rfl) rfl rfl ?_
          refine gg_goto (tgt := 2) (pc := 27) E dX5_reckons_27 (by decide) ?_
          refine gg_cv rfl (gg_leS (gg_leS (gg_leS (gg_leS (gg_leN gg_le0))))) rfl (by first | exact Nat.le_refl _ | (dsimp only; omega)) (by first | exact Nat.le_refl _ | (dsimp only; omega)) (ih2 (i + 1) _ (by omega) (by omega) (all_s (fun k hk => by rw [pk_un (by omega)]; exact hF k hk) (by rw [pk_us]; simp [d0, dI, c15, nI_0])))
        · refine gg_iconst (v := 0) (pc := 18) E dX5_reckons_18 (by decide) ?_
          refine gg_goto (tgt := 23) (pc := 19) E dX5_reckons_19 (by decide) ?_
          refine gg_iastN (M' := [_]) (pc := 23) E i rfl (by omega) (by omega) dX5_reckons_23 0 rfl rfl ?_
          refine gg_iincN (k := 1) (lv' := [_, _, _, _, _]) (pc := 24) E i dX5_reckons_24 rfl rfl rfl (Nat.le_of_ble_eq_true rfl) rfl rfl ?_
          refine gg_goto (tgt := 2) (pc := 27) E dX5_reckons_27 (by decide) ?_
          refine gg_cv rfl (gg_leS (gg_leS (gg_leS (gg_leS (gg_leN gg_le0))))) rfl (by first | exact Nat.le_refl _ | (dsimp only; omega)) (by first | exact Nat.le_refl _ | (dsimp only; omega)) (ih2 (i + 1) _ (by omega) (by omega) (all_s (fun k hk => by rw [pk_un (by omega)]; exact hF k hk) (by rw [pk_us]; simp [d0, dI, c15, nI_0])))
  refine gg_cv rfl (gg_leS (gg_leS (gg_leS (gg_leS (gg_leN gg_le0))))) rfl (by first | exact Nat.le_refl _ | (dsimp only; omega)) (by first | exact Nat.le_refl _ | (dsimp only; omega)) (L2 _ 0 sums (Nat.lt_succ_self _) (Nat.zero_le _) (fun k hk => absurd hk (Nat.not_lt_zero k)))

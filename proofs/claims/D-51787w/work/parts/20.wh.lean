set_option maxRecDepth 100000
theorem mn_nI {a b : Nat} (ha : a < 2 ^ 31) (hb : b < 2 ^ 31) : mn (nI a) (nI b) = nI (min a b) := by
  unfold mn
  by_cases h : b < a
  · rw [if_pos ((nI_ltI hb ha).mpr h), Nat.min_eq_right (Nat.le_of_lt h)]
  · rw [if_neg (fun q => h ((nI_ltI hb ha).mp q)), Nat.min_eq_left (Nat.le_of_not_lt h)]
theorem gg_az_congr {g : gg_G} {n : Nat} {f f' : Nat → Int32} (h : ∀ k, k < n → f k = f' k) : gg_az g n f = gg_az g n f' := by
  show (Sum.inr (arrV _ _ _) : gg_E) = Sum.inr (arrV _ _ _)
  congr 1
  unfold arrV
  congr 1
  exact Array.ext (by simp) (fun i h1 h2 => by simp at h1; simp [h i h1])
theorem nop_m1 {o : Option Nat} (hb : ∀ b, o = some b → b < 2 ^ 31) (h : dI o = -1) : o = none := (dI_none_iff hb).mp h
/-- the relaxing of a way -/
theorem Dj.rel {row : Nat → Int32} {nr nw g i b v x : Nat} {d : Nat → Option Nat} {D : Nat → Bool} (hw : Ww row nr nw) (h : Dj row nr nw g d D) (hE : De row nw d D b i) (hB : Db nr d D b x) (hi : En row nw (-1) i b v) (hv : v < nr) {val : Int32} (h0 : dI (d v) = -1 → val = nI (x + ef row i)) (h1 : ¬ dI (d v) = -1 → val = mn (dI (d v)) (nI (x + ef row i))) : ∃ d2, upd (SD d) v val = SD d2 ∧ Dj row nr nw g d2 D ∧ De row nw d2 D b (i + 1) ∧ Db nr d2 D b x := by
  have hx := h.lt hB.2.2.1
  have hf := (hw.2.2.2 i hi.1).2.2.2.2.2.2.2
  cases hz : d v with
  | none =>
    rw [hz] at h0
    refine ⟨dpt d v (x + ef row i), ?_, h.less hw hE hB hi hv (fun z q => by rw [hz] at q; cases q)⟩
    rw [h0 rfl, SD_dpt]
  | some z =>
    have hz90 := h.lt hz
    rw [hz, dI_some] at h1
    have hval := h1 (nI_nm1 (by omega))
    rw [mn_nI (by omega) (by omega)] at hval
    by_cases q : z ≤ x + ef row i
    · refine ⟨d, ?_, h, Dj.same (g := g) hw hE hB hi hz q, hB⟩
      rw [hval, Nat.min_eq_left q]
      exact SD_same (by unfold SD; rw [hz]; rfl)
    · refine ⟨dpt d v (x + ef row i), ?_, h.less hw hE hB hi hv (fun z2 q2 => by rw [hz] at q2; cases q2; omega)⟩
      rw [hval, Nat.min_eq_right (by omega), SD_dpt]
set_option maxHeartbeats 4000000 in
theorem ct_X5_nearestOpen {l : Launch} (hl : l.stackTraces = false) {g : gg_G}  {h : Nat} {ad : Nat → Nat} {x : Nat → Int32} {row : Nat → Int32} {near don : Nat → Int32} {nr : Nat} (hnr : row 0 = nI nr) (hr10 : nr ≤ 10) : gg_C l g yX5_nearestOpen (ws_ yX5_nearestOpen cX5_nearestOpen 3 (some .int)) { frames := 0, cells := 0, slots := 0, locals := 0 } [.ref h] [(h, .inl (4, mo_f ad x)), ((ad 0), gg_ai g 1030 row), ((ad 24), gg_ai g 10 near), ((ad 25), gg_az g 10 don)] [] (fun vv CC => vv = some (.int (dI (nop near don nr))) ∧ CC = []) gg_no := by
  refine gg_of (lv := [_, _, _]) (by decide) hl (Nat.le_of_ble_eq_true rfl) rfl ?_
  intro p e R s m args below meth c A Q hRf hRl hRc hRs E Fn hnm hex
  refine gg_iconst (v := (-1)) (pc := 0) E dX5_nearestOpen_0 (by decide) ?_
  refine gg_istore_n (lv' := [_, _, _]) (pc := 1) E dX5_nearestOpen_1 rfl (Nat.le_of_ble_eq_true rfl) rfl rfl ?_
  refine gg_iconst (v := 0) (pc := 2) E dX5_nearestOpen_2 (by decide) ?_
  refine gg_istore_n (lv' := [_, _, _]) (pc := 3) E dX5_nearestOpen_3 rfl (Nat.le_of_ble_eq_true rfl) rfl rfl ?_
  have L4 : ∀ (n : Nat) (i : Nat), nr - i < n → (i ≤ nr) → gg_W p l e R s m args below meth c g A 3 Q 0 0 [] [some (.ref h), some (.int (dI (nop near don i))), some (.int (nI i))] [] 4 := by
    intro n4
    induction n4 with
    | zero => intro i hmz; exact absurd hmz (Nat.not_lt_zero _)
    | succ n4 ih4 =>
      intro i hm4 hi
      refine gg_iload_n (pc := 4) E dX5_nearestOpen_4 rfl rfl ?_
      refine gg_aload_n (pc := 5) E dX5_nearestOpen_5 rfl rfl ?_
      refine gg_get (pc := 6) E ck_X5 0 q2859 rfl (by decide) dX5_nearestOpen_6 (gg_r 0 rfl) rfl ?_
      refine gg_iconst (v := 0) (pc := 9) E dX5_nearestOpen_9 (by decide) ?_
      refine gg_ialdN (pc := 10) E 0 rfl (by omega) (by omega) dX5_nearestOpen_10 (gg_r 1 rfl) ?_
      rw [hnr]
      refine gg_icmpN_ge (tgt := 61) (pc := 11) E i nr rfl rfl (by omega) (by omega) dX5_nearestOpen_11 (by decide) (fun c11 => ?_) (fun c11 => ?_)
      · refine gg_iload_n (pc := 61) E dX5_nearestOpen_61 rfl rfl ?_
        refine gg_iret (pc := 62) E Fn rfl (rfl) dX5_nearestOpen_62 (by first | exact Nat.le_of_ble_eq_true rfl | (dsimp only; omega)) (by first | exact Nat.le_of_ble_eq_true rfl | (dsimp only; omega)) ?_
        obtain rfl : i = nr := by omega
        exact ⟨rfl, rfl⟩
      · refine gg_aload_n (pc := 14) E dX5_nearestOpen_14 rfl rfl ?_
        refine gg_get (pc := 15) E ck_X5 25 q2884 rfl (by decide) dX5_nearestOpen_15 (gg_r 0 rfl) rfl ?_
        refine gg_iload_n (pc := 18) E dX5_nearestOpen_18 rfl rfl ?_
        refine gg_zaldN (pc := 19) E i rfl (by omega) (by omega) dX5_nearestOpen_19 (gg_r 3 rfl) ?_
        refine gg_if_ne (tgt := 55) (pc := 20) E dX5_nearestOpen_20 (by decide) (fun c20 => ?_) (fun c20 => ?_)
        · refine gg_iincN (k := 1) (lv' := [_, _, _]) (pc := 55) E i dX5_nearestOpen_55 rfl rfl rfl (Nat.le_of_ble_eq_true rfl) rfl rfl ?_
          refine gg_goto (tgt := 4) (pc := 58) E dX5_nearestOpen_58 (by decide) ?_
          refine gg_cv rfl ?_ rfl (by first | exact Nat.le_refl _ | (dsimp only; omega)) (by first | exact Nat.le_refl _ | (dsimp only; omega)) (ih4 (i + 1) (by omega) (by omega))
          · exact ⟨Or.inr rfl, Or.inr (congrArg (fun z => some (Value.int z)) (congrArg dI (nop_f (fun q => c20 q.1)))), Or.inr rfl, trivial⟩
        · refine gg_aload_n (pc := 23) E dX5_nearestOpen_23 rfl rfl ?_
          refine gg_get (pc := 24) E ck_X5 24 q2883 rfl (by decide) dX5_nearestOpen_24 (gg_r 0 rfl) rfl ?_
          refine gg_iload_n (pc := 27) E dX5_nearestOpen_27 rfl rfl ?_
          refine gg_ialdN (pc := 28) E i rfl (by omega) (by omega) dX5_nearestOpen_28 (gg_r 2 rfl) ?_
          refine gg_iconst (v := (-1)) (pc := 29) E dX5_nearestOpen_29 (by decide) ?_
          refine gg_icmp_eq (tgt := 55) (pc := 30) E dX5_nearestOpen_30 (by decide) (fun c30 => ?_) (fun c30 => ?_)
          · refine gg_iincN (k := 1) (lv' := [_, _, _]) (pc := 55) E i dX5_nearestOpen_55 rfl rfl rfl (Nat.le_of_ble_eq_true rfl) rfl rfl ?_
            refine gg_goto (tgt := 4) (pc := 58) E dX5_nearestOpen_58 (by decide) ?_
            refine gg_cv rfl ?_ rfl (by first | exact Nat.le_refl _ | (dsimp only; omega)) (by first | exact Nat.le_refl _ | (dsimp only; omega)) (ih4 (i + 1) (by omega) (by omega))
            · exact ⟨Or.inr rfl, Or.inr (congrArg (fun z => some (Value.int z)) (congrArg dI (nop_f (fun q => q.2.1 c30)))), Or.inr rfl, trivial⟩
          · refine gg_iload_n (pc := 33) E dX5_nearestOpen_33 rfl rfl ?_
            refine gg_iconst (v := (-1)) (pc := 34) E dX5_nearestOpen_34 (by decide) ?_
            refine gg_icmp_eq (tgt := 53) (pc := 35) E dX5_nearestOpen_35 (by decide) (fun c35 => ?_) (fun c35 => ?_)
            · refine gg_iload_n (pc := 53) E dX5_nearestOpen_53 rfl rfl ?_
              refine gg_istore_n (lv' := [_, _, _]) (pc := 54) E dX5_nearestOpen_54 rfl (Nat.le_of_ble_eq_true rfl) rfl rfl ?_
              refine gg_iincN (k := 1) (lv' := [_, _, _]) (pc := 55) E i dX5_nearestOpen_55 rfl rfl rfl (Nat.le_of_ble_eq_true rfl) rfl rfl ?_
              refine gg_goto (tgt := 4) (pc := 58) E dX5_nearestOpen_58 (by decide) ?_
              refine gg_cv rfl ?_ rfl (by first | exact Nat.le_refl _ | (dsimp only; omega)) (by first | exact Nat.le_refl _ | (dsimp only; omega)) (ih4 (i + 1) (by omega) (by omega))
              · exact ⟨Or.inr rfl, Or.inr (congrArg (fun z => some (Value.int z)) (congrArg dI (nop_t ⟨c20, c30, fun b hb => by rw [hb] at c35; exact absurd c35 (nI_nm1 (by have := nop_lt i b hb; omega))⟩).symm)), Or.inr rfl, trivial⟩
            · obtain ⟨b, hb⟩ := dI_nm1 c35
              have hbi := nop_lt i b hb
              rw [hb]
              refine gg_aload_n (pc := 38) E dX5_nearestOpen_38 rfl rfl ?_
              refine gg_get (pc := 39) E ck_X5 24 q2883 rfl (by decide) dX5_nearestOpen_39 (gg_r 0 rfl) rfl ?_
              refine gg_iload_n (pc := 42) E dX5_nearestOpen_42 rfl rfl ?_
              refine gg_ialdN (pc := 43) E i rfl (by omega) (by omega) dX5_nearestOpen_43 (gg_r 2 rfl) ?_
              refine gg_aload_n (pc := 44) E dX5_nearestOpen_44 rfl rfl ?_
              refine gg_get (pc := 45) E ck_X5 24 q2883 rfl (by decide) dX5_nearestOpen_45 (gg_r 0 rfl) rfl ?_
              refine gg_iload_n (pc := 48) E dX5_nearestOpen_48 rfl rfl ?_
              refine gg_ialdN (pc := 49) E b rfl (by omega) (by omega) dX5_nearestOpen_49 (gg_r 2 rfl) ?_
              refine gg_icmp_ge (tgt := 55) (pc := 50) E dX5_nearestOpen_50 (by decide) (fun c50 => ?_) (fun c50 => ?_)
              · refine gg_iincN (k := 1) (lv' := [_, _, _]) (pc := 55) E i dX5_nearestOpen_55 rfl rfl rfl (Nat.le_of_ble_eq_true rfl) rfl rfl ?_
                refine gg_goto (tgt := 4) (pc := 58) E dX5_nearestOpen_58 (by decide) ?_
                refine gg_cv rfl ?_ rfl (by first | exact Nat.le_refl _ | (dsimp only; omega)) (by first | exact Nat.le_refl _ | (dsimp only; omega)) (ih4 (i + 1) (by omega) (by omega))
                · exact ⟨Or.inr rfl, Or.inr (congrArg (fun z => some (Value.int z)) ((congrArg dI hb.symm).trans (congrArg dI (nop_f (fun q => Int32.not_le.mpr (q.2.2 b hb) c50))))), Or.inr rfl, trivial⟩
              · refine gg_iload_n (pc := 53) E dX5_nearestOpen_53 rfl rfl ?_
                refine gg_istore_n (lv' := [_, _, _]) (pc := 54) E dX5_nearestOpen_54 rfl (Nat.le_of_ble_eq_true rfl) rfl rfl ?_
                refine gg_iincN (k := 1) (lv' := [_, _, _]) (pc := 55) E i dX5_nearestOpen_55 rfl rfl rfl (Nat.le_of_ble_eq_true rfl) rfl rfl ?_
                refine gg_goto (tgt := 4) (pc := 58) E dX5_nearestOpen_58 (by decide) ?_
                refine gg_cv rfl ?_ rfl (by first | exact Nat.le_refl _ | (dsimp only; omega)) (by first | exact Nat.le_refl _ | (dsimp only; omega)) (ih4 (i + 1) (by omega) (by omega))
                · exact ⟨Or.inr rfl, Or.inr (congrArg (fun z => some (Value.int z)) (congrArg dI (nop_t ⟨c20, c30, fun b1 hb1 => by rw [hb] at hb1; cases hb1; exact Int32.not_le.mp c50⟩).symm)), Or.inr rfl, trivial⟩
  refine gg_cv rfl (gg_leS (gg_leS (gg_leS gg_le0))) rfl (by first | exact Nat.le_refl _ | (dsimp only; omega)) (by first | exact Nat.le_refl _ | (dsimp only; omega)) (L4 _ 0 (Nat.lt_succ_self _) (Nat.zero_le _))
set_option maxHeartbeats 4000000 in
theorem ct_X5_goesOut {l : Launch} (hl : l.stackTraces = false) {g : gg_G}  {h : Nat} {ad : Nat → Nat} {x : Nat → Int32} {row : Nat → Int32} {near don : Nat → Int32} {nr nw go : Nat} (hnr : row 0 = nI nr) (hw : Ww row nr nw) (hg : go < nr) : gg_C l g yX5_goesOut (ws_ yX5_goesOut cX5_goesOut 6 none) { frames := 2, cells := 0, slots := 0, locals := 42 } [.ref h, .int (nI go)] [(h, .inl (4, mo_f ad x)), ((ad 0), gg_ai g 1030 row)] [[((ad 24), gg_ai g 10 near)], [((ad 25), gg_az g 10 don)]] (fun vv CC => ∃ (don1 : Nat → Int32), vv = none ∧ CC = [[((ad 24), gg_ai g 10 (fun k => dI (dist row nw (-1) go k)))], [((ad 25), gg_az g 10 don1)]]) gg_no := by
  refine gg_of (lv := [_, _, _, _, _, _]) (by decide) hl (Nat.le_of_ble_eq_true rfl) rfl ?_
  intro p e R s m args below meth c A Q hRf hRl hRc hRs E Fn hnm hex
  have hnw := hw.1
  have hw20 := hw.2.1
  have hr10 := hw.2.2.1
  refine gg_iconst (v := 0) (pc := 0) E dX5_goesOut_0 (by decide) ?_
  refine gg_istore_n (lv' := [_, _, _, _, _, _]) (pc := 1) E dX5_goesOut_1 rfl (Nat.le_of_ble_eq_true rfl) rfl rfl ?_
  have L2 : ∀ (n : Nat) (i : Nat) (F Z : Nat → Int32), 10 - i < n → (i ≤ 10) → (∀ k, k < i → F k = SD (d0 go) k) → (∀ k, k < i → Z k = ZD (fun _ => false) k) → gg_W p l e R s m args below meth c g A 6 Q 0 0 [[((ad 24), gg_ai g 10 F)], [((ad 25), gg_az g 10 Z)]] [some (.ref h), some (.int (nI go)), some (.int (nI i)), none, none, none] [] 2 := by
    intro n2
    induction n2 with
    | zero => intro i F Z hmz; exact absurd hmz (Nat.not_lt_zero _)
    | succ n2 ih2 =>
      intro i F Z hm2 hi hF hZ
      refine gg_iload_n (pc := 2) E dX5_goesOut_2 rfl rfl ?_
      refine gg_bipush (v := 10) (pc := 3) E dX5_goesOut_3 (by decide) ?_
      refine gg_icmpN_ge (tgt := 37) (pc := 5) E i 10 rfl rfl (by omega) (by omega) dX5_goesOut_5 (by decide) (fun c5 => ?_) (fun c5 => ?_)
      · refine gg_aload_n (pc := 37) E dX5_goesOut_37 rfl rfl ?_
        rw [show gg_ai g 10 F = gg_ai g 10 (SD (d0 go)) from gg_ai_congr (fun k hk => hF k (by omega)), show gg_az g 10 Z = gg_az g 10 (ZD (fun _ => false)) from gg_az_congr (fun k hk => hZ k (by omega))]
        refine gg_callV (F := [_, _]) (As := []) (rest := []) (pc := 38) E ck_X5 (ct_X5_nearestOpen hl (by first | assumption | omega) (by first | assumption | omega)) (cwV 0 E.2.2.2.2.1 (lw_V q3383 q3385 qs144 q179 q3386) rfl rfl rfl (by decide +kernel) ⟨by rw [hRf]; exact Nat.le_of_ble_eq_true rfl, by rw [hRl]; exact Nat.le_of_ble_eq_true rfl⟩) dX5_goesOut_38 [] (by decide) rfl rfl (List.forall_mem_cons.mpr ⟨(gg_r 0 rfl), (List.forall_mem_cons.mpr ⟨(gg_r 1 rfl), (List.forall_mem_cons.mpr ⟨(gg_i 0 rfl), (List.forall_mem_cons.mpr ⟨(gg_i 1 rfl), (fun _ h => by cases h)⟩)⟩)⟩)⟩) (gg_r 0 rfl) rfl rfl (Nat.le_of_ble_eq_true rfl) (by first | (rw [hRc]; exact Nat.le_of_ble_eq_true rfl) | (rw [hRc]; dsimp only; omega)) (by first | (rw [hRs]; exact Nat.le_of_ble_eq_true rfl) | (rw [hRs]; dsimp only; omega)) ?_ (fun X q C1 h => h.elim)
        rintro _ _ ⟨rfl, rfl⟩
        dsimp only [List.cons_append, List.nil_append, Option.toList]
        refine gg_istore_n (lv' := [_, _, _, _, _, _]) (pc := 41) E dX5_goesOut_41 rfl (Nat.le_of_ble_eq_true rfl) rfl rfl ?_
        have L42 : ∀ (n : Nat) (d : Nat → Option Nat) (D : Nat → Bool), 10 - cB D 10 < n → (Dj row nr nw go d D) → (De row nw d D nw nw) → gg_W p l e R s m args below meth c g A 6 Q 0 0 [[((ad 24), gg_ai g 10 (SD d))], [((ad 25), gg_az g 10 (ZD D))]] [some (.ref h), some (.int (nI go)), some (.int (dI (nop (SD d) (ZD D) nr))), none, none, none] [] 42 := by
          intro n42
          induction n42 with
          | zero => intro d D hmz; exact absurd hmz (Nat.not_lt_zero _)
          | succ n42 ih42 =>
            intro d D hm42 hJ hE
            refine gg_iload_n (pc := 42) E dX5_goesOut_42 rfl rfl ?_
            refine gg_iconst (v := (-1)) (pc := 43) E dX5_goesOut_43 (by decide) ?_
            refine gg_icmp_eq (tgt := 155) (pc := 44) E dX5_goesOut_44 (by decide) (fun c44 => ?_) (fun c44 => ?_)
            · refine gg_vret (pc := 155) E Fn rfl dX5_goesOut_155 (by first | exact Nat.le_of_ble_eq_true rfl | (dsimp only; omega)) (by first | exact Nat.le_of_ble_eq_true rfl | (dsimp only; omega)) ?_
              refine ⟨ZD D, rfl, ?_⟩
              rw [dist_of hw (hJ.done hE (nop_none (fun k z hz => by have := hJ.lt hz; omega) nr (nop_m1 (fun b hb => by have := nop_lt nr b hb; omega) c44)))]
            · obtain ⟨b, hb⟩ := dI_nm1 c44
              obtain ⟨hb1, hb2, xb, hb3, hb4⟩ := nop_some (fun k z hz => by have := hJ.lt hz; omega) nr b hb
              obtain ⟨hJ1, hE1, hB1⟩ := hJ.mark hr10 hE hb1 hb2 hb3 hb4
              rw [hb]
              refine gg_aload_n (pc := 47) E dX5_goesOut_47 rfl rfl ?_
              refine gg_get (pc := 48) E ck_X5 25 q2884 rfl (by decide) dX5_goesOut_48 (gg_r 0 rfl) rfl ?_
              refine gg_iload_n (pc := 51) E dX5_goesOut_51 rfl rfl ?_
              refine gg_iconst (v := 1) (pc := 52) E dX5_goesOut_52 (by decide) ?_
              refine gg_zastN (M' := [_, _]) (pc := 53) E b rfl (by omega) (by omega) dX5_goesOut_53 1 rfl rfl ?_
              rw [show upd (ZD D) b (1 &&& 1) = ZD (dup D b) from ZD_dup D b]
              refine gg_iconst (v := 0) (pc := 54) E dX5_goesOut_54 (by decide) ?_
              refine gg_istore_n (lv' := [_, _, _, _, _, _]) (pc := 55) E dX5_goesOut_55 rfl (Nat.le_of_ble_eq_true rfl) rfl rfl ?_
              have L56 : ∀ (n : Nat) (i : Nat) (d2 : Nat → Option Nat), nw - i < n → (i ≤ nw) → (Dj row nr nw go d2 (dup D b)) → (De row nw d2 (dup D b) b i) → (Db nr d2 (dup D b) b xb) → gg_W p l e R s m args below meth c g A 6 Q 0 0 [[((ad 24), gg_ai g 10 (SD d2))], [((ad 25), gg_az g 10 (ZD (dup D b)))]] [some (.ref h), some (.int (nI go)), some (.int (nI b)), some (.int (nI i)), none, none] [] 56 := by
                intro n56
                induction n56 with
                | zero => intro i d2 hmz; exact absurd hmz (Nat.not_lt_zero _)
                | succ n56 ih56 =>
                  intro i d2 hm56 hi2 hJ2 hE2 hB2
                  refine gg_iload_n (pc := 56) E dX5_goesOut_56 rfl rfl ?_
                  refine gg_aload_n (pc := 57) E dX5_goesOut_57 rfl rfl ?_
                  refine gg_get (pc := 58) E ck_X5 0 q2859 rfl (by decide) dX5_goesOut_58 (gg_r 0 rfl) rfl ?_
                  refine gg_iconst (v := 1) (pc := 61) E dX5_goesOut_61 (by decide) ?_
                  refine gg_ialdN (pc := 62) E 1 rfl (by omega) (by omega) dX5_goesOut_62 (gg_r 1 rfl) ?_
                  rw [hnw]
                  refine gg_icmpN_ge (tgt := 147) (pc := 63) E i nw rfl rfl (by omega) (by omega) dX5_goesOut_63 (by decide) (fun c63 => ?_) (fun c63 => ?_)
                  · refine gg_aload_n (pc := 147) E dX5_goesOut_147 rfl rfl ?_
                    refine gg_callV (F := [_, _]) (As := []) (rest := []) (pc := 148) E ck_X5 (ct_X5_nearestOpen hl (by first | assumption | omega) (by first | assumption | omega)) (cwV 0 E.2.2.2.2.1 (lw_V q3383 q3385 qs144 q179 q3386) rfl rfl rfl (by decide +kernel) ⟨by rw [hRf]; exact Nat.le_of_ble_eq_true rfl, by rw [hRl]; exact Nat.le_of_ble_eq_true rfl⟩) dX5_goesOut_148 [] (by decide) rfl rfl (List.forall_mem_cons.mpr ⟨(gg_r 0 rfl), (List.forall_mem_cons.mpr ⟨(gg_r 1 rfl), (List.forall_mem_cons.mpr ⟨(gg_i 0 rfl), (List.forall_mem_cons.mpr ⟨(gg_i 1 rfl), (fun _ h => by cases h)⟩)⟩)⟩)⟩) (gg_r 0 rfl) rfl rfl (Nat.le_of_ble_eq_true rfl) (by first | (rw [hRc]; exact Nat.le_of_ble_eq_true rfl) | (rw [hRc]; dsimp only; omega)) (by first | (rw [hRs]; exact Nat.le_of_ble_eq_true rfl) | (rw [hRs]; dsimp only; omega)) ?_ (fun X q C1 h => h.elim)
                    rintro _ _ ⟨rfl, rfl⟩
                    dsimp only [List.cons_append, List.nil_append, Option.toList]
                    refine gg_istore_n (lv' := [_, _, _, _, _, _]) (pc := 151) E dX5_goesOut_151 rfl (Nat.le_of_ble_eq_true rfl) rfl rfl ?_
                    refine gg_goto (tgt := 42) (pc := 152) E dX5_goesOut_152 (by decide) ?_
                    obtain rfl : i = nw := by omega
                    have h8 : cB (dup D b) 10 = cB D 10 + 1 := by rw [cB_up hb2, if_pos (by omega)]
                    have h9 := cB_le (dup D b) 10
                    refine gg_cv rfl (gg_leS (gg_leS (gg_leS (gg_leN (gg_leN (gg_leN gg_le0)))))) rfl (by first | exact Nat.le_refl _ | (dsimp only; omega)) (by first | exact Nat.le_refl _ | (dsimp only; omega)) (ih42 d2 (dup D b) (by omega) (hJ2) (Dj.all (nr := nr) (x := 0) hE2))
                  · refine gg_aload_n (pc := 66) E dX5_goesOut_66 rfl rfl ?_
                    refine gg_iload_n (pc := 67) E dX5_goesOut_67 rfl rfl ?_
                    refine gg_iload_n (pc := 68) E dX5_goesOut_68 rfl rfl ?_
                    refine gg_callV (F := [_, _]) (As := [.int (nI i), _]) (rest := []) (pc := 69) E ck_X5 (ct_X5_ends hl (by first | assumption | omega)) (cwV 2 E.2.2.2.2.1 (lw_V q3051 q3053 qs87 q179 q3054) rfl rfl rfl (by decide +kernel) ⟨by rw [hRf]; exact Nat.le_of_ble_eq_true rfl, by rw [hRl]; exact Nat.le_of_ble_eq_true rfl⟩) dX5_goesOut_69 [] (by decide) rfl rfl (List.forall_mem_cons.mpr ⟨(gg_r 0 rfl), (List.forall_mem_cons.mpr ⟨(gg_r 1 rfl), (fun _ h => by cases h)⟩)⟩) (gg_r 0 rfl) rfl rfl (Nat.le_of_ble_eq_true rfl) (by first | (rw [hRc]; exact Nat.le_of_ble_eq_true rfl) | (rw [hRc]; dsimp only; omega)) (by first | (rw [hRs]; exact Nat.le_of_ble_eq_true rfl) | (rw [hRs]; dsimp only; omega)) ?_ (fun X q C1 h => h.elim)
                    rintro _ _ ⟨rfl, rfl⟩
                    dsimp only [List.cons_append, List.nil_append, Option.toList]
                    refine gg_ifP_ne (tgt := 78) (pc := 72) E dX5_goesOut_72 (by decide) (fun c72 => ?_) (fun c72 => ?_)
                    · obtain ⟨hEa, hEb, hEf, ha, hb0, hab, hf1, hf9⟩ := hw.2.2.2 i (by omega)
                      refine gg_aload_n (pc := 78) E dX5_goesOut_78 rfl rfl ?_
                      refine gg_iload_n (pc := 79) E dX5_goesOut_79 rfl rfl ?_
                      refine gg_iload_n (pc := 80) E dX5_goesOut_80 rfl rfl ?_
                      refine gg_callV (F := [_, _]) (As := [.int (nI i), _]) (rest := []) (pc := 81) E ck_X5 (ct_X5_otherEnd hl (by first | assumption | omega)) (cwV 2 E.2.2.2.2.1 (lw_V q3212 q3214 qs121 q179 q3215) rfl rfl rfl (by decide +kernel) ⟨by rw [hRf]; exact Nat.le_of_ble_eq_true rfl, by rw [hRl]; exact Nat.le_of_ble_eq_true rfl⟩) dX5_goesOut_81 [] (by decide) rfl rfl (List.forall_mem_cons.mpr ⟨(gg_r 0 rfl), (List.forall_mem_cons.mpr ⟨(gg_r 1 rfl), (fun _ h => by cases h)⟩)⟩) (gg_r 0 rfl) rfl rfl (Nat.le_of_ble_eq_true rfl) (by first | (rw [hRc]; exact Nat.le_of_ble_eq_true rfl) | (rw [hRc]; dsimp only; omega)) (by first | (rw [hRs]; exact Nat.le_of_ble_eq_true rfl) | (rw [hRs]; dsimp only; omega)) ?_ (fun X q C1 h => h.elim)
                      rintro _ _ ⟨rfl, rfl⟩
                      dsimp only [List.cons_append, List.nil_append, Option.toList]
                      obtain ⟨ho1, ho2, ho3, ho4⟩ := eo_eq hw c63 (by omega) c72
                      rw [ho1]
                      refine gg_istore (lv' := [_, _, _, _, _, _]) (pc := 84) E dX5_goesOut_84 (Nat.le_of_ble_eq_true rfl) rfl rfl ?_
                      refine gg_aload_n (pc := 86) E dX5_goesOut_86 rfl rfl ?_
                      refine gg_get (pc := 87) E ck_X5 24 q2883 rfl (by decide) dX5_goesOut_87 (gg_r 0 rfl) rfl ?_
                      refine gg_iload_n (pc := 90) E dX5_goesOut_90 rfl rfl ?_
                      refine gg_ialdN (pc := 91) E b rfl (by omega) (by omega) dX5_goesOut_91 (gg_i 0 rfl) ?_
                      rw [show SD d2 b = nI xb from by unfold SD; rw [hB2.2.2.1]; rfl]
                      refine gg_aload_n (pc := 92) E dX5_goesOut_92 rfl rfl ?_
                      refine gg_get (pc := 93) E ck_X5 0 q2859 rfl (by decide) dX5_goesOut_93 (gg_r 0 rfl) rfl ?_
                      refine gg_iload_n (pc := 96) E dX5_goesOut_96 rfl rfl ?_
                      refine gg_callS (F := [_, _]) (As := [.int (nI i)]) (rest := [_, _]) (pc := 97) E (ct_X5_w hl ) (va_cwS 1 E.2.2.2.2.1 (lw_S q2856 q2857 q179 q2858) rfl rfl rfl (by decide +kernel) ⟨by rw [hRf]; exact Nat.le_of_ble_eq_true rfl, by rw [hRl]; exact Nat.le_of_ble_eq_true rfl⟩) dX5_goesOut_97 [] (by decide) rfl rfl (fun _ h => by cases h) rfl rfl (Nat.le_of_ble_eq_true rfl) (by first | (rw [hRc]; exact Nat.le_of_ble_eq_true rfl) | (rw [hRc]; dsimp only; omega)) (by first | (rw [hRs]; exact Nat.le_of_ble_eq_true rfl) | (rw [hRs]; dsimp only; omega)) ?_ (fun X q C1 h => h.elim)
                      rintro _ _ ⟨rfl, rfl⟩
                      dsimp only [List.cons_append, List.nil_append, Option.toList]
                      refine gg_iconst (v := 2) (pc := 100) E dX5_goesOut_100 (by decide) ?_
                      refine gg_iaddN (pc := 101) E (160 + 3 * i) 2 rfl rfl dX5_goesOut_101 ?_
                      refine gg_ialdN (pc := 102) E ((160 + 3 * i) + 2) rfl (by omega) (by omega) dX5_goesOut_102 (gg_r 1 rfl) ?_
                      rw [hEf]
                      refine gg_iaddN (pc := 103) E xb (ef row i) rfl rfl dX5_goesOut_103 ?_
                      refine gg_istore (lv' := [_, _, _, _, _, _]) (pc := 104) E dX5_goesOut_104 (Nat.le_of_ble_eq_true rfl) rfl rfl ?_
                      refine gg_aload_n (pc := 106) E dX5_goesOut_106 rfl rfl ?_
                      refine gg_get (pc := 107) E ck_X5 24 q2883 rfl (by decide) dX5_goesOut_107 (gg_r 0 rfl) rfl ?_
                      refine gg_iload (pc := 110) E dX5_goesOut_110 rfl ?_
                      refine gg_aload_n (pc := 112) E dX5_goesOut_112 rfl rfl ?_
                      refine gg_get (pc := 113) E ck_X5 24 q2883 rfl (by decide) dX5_goesOut_113 (gg_r 0 rfl) rfl ?_
                      refine gg_iload (pc := 116) E dX5_goesOut_116 rfl ?_
                      refine gg_ialdN (pc := 118) E (eo row i b) rfl (by omega) (by omega) dX5_goesOut_118 (gg_i 0 rfl) ?_
                      refine gg_iconst (v := (-1)) (pc := 119) E dX5_goesOut_119 (by decide) ?_
                      refine gg_icmp_ne (tgt := 128) (pc := 120) E dX5_goesOut_120 (by decide) (fun c120 => ?_) (fun c120 => ?_)
                      · refine gg_aload_n (pc := 128) E dX5_goesOut_128 rfl rfl ?_
                        refine gg_get (pc := 129) E ck_X5 24 q2883 rfl (by decide) dX5_goesOut_129 (gg_r 0 rfl) rfl ?_
                        refine gg_iload (pc := 132) E dX5_goesOut_132 rfl ?_
                        refine gg_ialdN (pc := 134) E (eo row i b) rfl (by omega) (by omega) dX5_goesOut_134 (gg_i 0 rfl) ?_
                        refine gg_iload (pc := 135) E dX5_goesOut_135 rfl ?_
                        refine gg_mmin (pc := 137) E q3159 q359 q165 q360 dX5_goesOut_137 (by rw [hRf]; exact Nat.le_of_ble_eq_true rfl) (by rw [hRl]; exact Nat.le_of_ble_eq_true rfl) (by rw [hRc]; first | exact Nat.le_of_ble_eq_true rfl | (dsimp only; omega)) (by rw [hRs]; first | exact Nat.le_of_ble_eq_true rfl | (dsimp only; omega)) ?_
                        obtain ⟨d3, e1, e2, e3, e4⟩ := hJ2.rel (i := i) (v := eo row i b) hw hE2 hB2 (En_eo hw c63 (nI_nm1 (by omega)) ho3) ho2 (val := _) (fun q => absurd q c120) (fun _ => rfl)
                        refine gg_iastN (M' := [_, _]) (pc := 140) E (eo row i b) rfl (by omega) (by omega) dX5_goesOut_140 0 rfl rfl ?_
                        rw [e1]
                        refine gg_iincN (k := 1) (lv' := [_, _, _, _, _, _]) (pc := 141) E i dX5_goesOut_141 rfl rfl rfl (Nat.le_of_ble_eq_true rfl) rfl rfl ?_
                        refine gg_goto (tgt := 56) (pc := 144) E dX5_goesOut_144 (by decide) ?_
                        refine gg_cv rfl (gg_leS (gg_leS (gg_leS (gg_leS (gg_leN (gg_leN gg_le0)))))) rfl (by first | exact Nat.le_refl _ | (dsimp only; omega)) (by first | exact Nat.le_refl _ | (dsimp only; omega)) (ih56 (i + 1) d3 (by omega) (by omega) (e2) (e3) (e4))
                      · refine gg_iload (pc := 123) E dX5_goesOut_123 rfl ?_
                        refine gg_goto (tgt := 140) (pc := 125) E dX5_goesOut_125 (by decide) ?_
                        obtain ⟨d3, e1, e2, e3, e4⟩ := hJ2.rel (i := i) (v := eo row i b) hw hE2 hB2 (En_eo hw c63 (nI_nm1 (by omega)) ho3) ho2 (val := _) (fun _ => rfl) (fun q => absurd c120 q)
                        refine gg_iastN (M' := [_, _]) (pc := 140) E (eo row i b) rfl (by omega) (by omega) dX5_goesOut_140 0 rfl rfl ?_
                        rw [e1]
                        refine gg_iincN (k := 1) (lv' := [_, _, _, _, _, _]) (pc := 141) E i dX5_goesOut_141 rfl rfl rfl (Nat.le_of_ble_eq_true rfl) rfl rfl ?_
                        refine gg_goto (tgt := 56) (pc := 144) E dX5_goesOut_144 (by decide) ?_
                        refine gg_cv rfl (gg_leS (gg_leS (gg_leS (gg_leS (gg_leN (gg_leN gg_le0)))))) rfl (by first | exact Nat.le_refl _ | (dsimp only; omega)) (by first | exact Nat.le_refl _ | (dsimp only; omega)) (ih56 (i + 1) d3 (by omega) (by omega) (e2) (e3) (e4))
                    · refine gg_goto (tgt := 141) (pc := 75) E dX5_goesOut_75 (by decide) ?_
                      have hsk := Dj.skip hE2 (fun v q => c72 (by rw [(hw.2.2.2 i q.1).1, (hw.2.2.2 i q.1).2.1]; exact q.2.2.elim (fun z => Or.inl (by rw [z.1])) (fun z => Or.inr (by rw [z.2]))))
                      refine gg_iincN (k := 1) (lv' := [_, _, _, _, _, _]) (pc := 141) E i dX5_goesOut_141 rfl rfl rfl (Nat.le_of_ble_eq_true rfl) rfl rfl ?_
                      refine gg_goto (tgt := 56) (pc := 144) E dX5_goesOut_144 (by decide) ?_
                      refine gg_cv rfl (gg_leS (gg_leS (gg_leS (gg_leS (gg_leN (gg_leN gg_le0)))))) rfl (by first | exact Nat.le_refl _ | (dsimp only; omega)) (by first | exact Nat.le_refl _ | (dsimp only; omega)) (ih56 (i + 1) d2 (by omega) (by omega) (hJ2) (hsk) (hB2))
              refine gg_cv rfl (gg_leS (gg_leS (gg_leS (gg_leS (gg_leN (gg_leN gg_le0)))))) rfl (by first | exact Nat.le_refl _ | (dsimp only; omega)) (by first | exact Nat.le_refl _ | (dsimp only; omega)) (L56 _ 0 d (Nat.lt_succ_self _) (Nat.zero_le _) (hJ1) (hE1) (hB1))
        refine gg_cv rfl (gg_leS (gg_leS (gg_leS (gg_leN (gg_leN (gg_leN gg_le0)))))) rfl (by first | exact Nat.le_refl _ | (dsimp only; omega)) (by first | exact Nat.le_refl _ | (dsimp only; omega)) (L42 _ (d0 go) (fun _ => false) (Nat.lt_succ_self _) (Dj.start hg) (De.start))
      · refine gg_aload_n (pc := 8) E dX5_goesOut_8 rfl rfl ?_
        refine gg_get (pc := 9) E ck_X5 24 q2883 rfl (by decide) dX5_goesOut_9 (gg_r 0 rfl) rfl ?_
        refine gg_iload_n (pc := 12) E dX5_goesOut_12 rfl rfl ?_
        refine gg_iload_n (pc := 13) E dX5_goesOut_13 rfl rfl ?_
        refine gg_iload_n (pc := 14) E dX5_goesOut_14 rfl rfl ?_
        refine gg_icmpN_ne (tgt := 22) (pc := 15) E i go rfl rfl (by omega) (by omega) dX5_goesOut_15 (by decide) (fun c15 => ?_) (fun c15 => ?_)
        · refine gg_iconst (v := (-1)) (pc := 22) E dX5_goesOut_22 (by decide) ?_
          refine gg_iastN (M' := [_, _]) (pc := 23) E i rfl (by omega) (by omega) dX5_goesOut_23 0 rfl rfl ?_
          refine gg_aload_n (pc := 24) E dX5_goesOut_24 rfl rfl ?_
          refine gg_get (pc := 25) E ck_X5 25 q2884 rfl (by decide) dX5_goesOut_25 (gg_r 0 rfl) rfl ?_
          refine gg_iload_n (pc := 28) E dX5_goesOut_28 rfl rfl ?_
          refine gg_iconst (v := 0) (pc := 29) E dX5_goesOut_29 (by decide) ?_
          refine gg_zastN (M' := [_, _]) (pc := 30) E i rfl (by omega) (by omega) dX5_goesOut_30 1 rfl rfl ?_
          refine gg_iincN (k := 1) (lv' := [_, _, _, _, _, _]) (pc := 31) E i dX5_goesOut_31 rfl rfl rfl (Nat.le_of_ble_eq_true rfl) rfl rfl ?_
          refine gg_goto (tgt := 2) (pc := 34) E dX5_goesOut_34 (by decide) ?_
          refine gg_cv rfl (gg_leS (gg_leS (gg_leS (gg_leN (gg_leN (gg_leN gg_le0)))))) rfl (by first | exact Nat.le_refl _ | (dsimp only; omega)) (by first | exact Nat.le_refl _ | (dsimp only; omega)) (ih2 (i + 1) _ _ (by omega) (by omega) (all_s (fun k hk => by rw [pk_un (by omega)]; exact hF k hk) (by rw [pk_us]; simp [SD, d0, dI, c15, nI_0])) (all_s (fun k hk => by rw [pk_un (by omega)]; exact hZ k hk) (by rw [pk_us]; rfl)))
        · refine gg_iconst (v := 0) (pc := 18) E dX5_goesOut_18 (by decide) ?_
          refine gg_goto (tgt := 23) (pc := 19) E dX5_goesOut_19 (by decide) ?_
          refine gg_iastN (M' := [_, _]) (pc := 23) E i rfl (by omega) (by omega) dX5_goesOut_23 0 rfl rfl ?_
          refine gg_aload_n (pc := 24) E dX5_goesOut_24 rfl rfl ?_
          refine gg_get (pc := 25) E ck_X5 25 q2884 rfl (by decide) dX5_goesOut_25 (gg_r 0 rfl) rfl ?_
          refine gg_iload_n (pc := 28) E dX5_goesOut_28 rfl rfl ?_
          refine gg_iconst (v := 0) (pc := 29) E dX5_goesOut_29 (by decide) ?_
          refine gg_zastN (M' := [_, _]) (pc := 30) E i rfl (by omega) (by omega) dX5_goesOut_30 1 rfl rfl ?_
          refine gg_iincN (k := 1) (lv' := [_, _, _, _, _, _]) (pc := 31) E i dX5_goesOut_31 rfl rfl rfl (Nat.le_of_ble_eq_true rfl) rfl rfl ?_
          refine gg_goto (tgt := 2) (pc := 34) E dX5_goesOut_34 (by decide) ?_
          refine gg_cv rfl (gg_leS (gg_leS (gg_leS (gg_leN (gg_leN (gg_leN gg_le0)))))) rfl (by first | exact Nat.le_refl _ | (dsimp only; omega)) (by first | exact Nat.le_refl _ | (dsimp only; omega)) (ih2 (i + 1) _ _ (by omega) (by omega) (all_s (fun k hk => by rw [pk_un (by omega)]; exact hF k hk) (by rw [pk_us]; simp [SD, d0, dI, c15, nI_0])) (all_s (fun k hk => by rw [pk_un (by omega)]; exact hZ k hk) (by rw [pk_us]; rfl)))
  refine gg_cv rfl (gg_leS (gg_leS (gg_leS (gg_leN (gg_leN (gg_leN gg_le0)))))) rfl (by first | exact Nat.le_refl _ | (dsimp only; omega)) (by first | exact Nat.le_refl _ | (dsimp only; omega)) (L2 _ 0 near don (Nat.lt_succ_self _) (Nat.zero_le _) (fun k hk => absurd hk (Nat.not_lt_zero k)) (fun k hk => absurd hk (Nat.not_lt_zero k)))
set_option maxHeartbeats 4000000 in
theorem ct_X5_areRoutes {l : Launch} (hl : l.stackTraces = false) {g : gg_G}  {h : Nat} {ad : Nat → Nat} {x : Nat → Int32} {row : Nat → Int32} {sums : Nat → Int32} {near don : Nat → Int32}  {nr nw nt : Nat} (hG : Gw row nr nw nt) : gg_C l g yX5_areRoutes (ws_ yX5_areRoutes cX5_areRoutes 3 (some .boolean)) { frames := 4, cells := 0, slots := 0, locals := 90 } [.ref h] [(h, .inl (4, mo_f ad x)), ((ad 0), gg_ai g 1030 row)] [[((ad 9), gg_ai g 10 sums)], [((ad 24), gg_ai g 10 near)], [((ad 25), gg_az g 10 don)]] (fun vv CC => ∃ (S N Z : Nat → Int32), vv = some (.int 1) ∧ CC = [[((ad 9), gg_ai g 10 S)], [((ad 24), gg_ai g 10 N)], [((ad 25), gg_az g 10 Z)]]) gg_no := by
  refine gg_of (lv := [_, _, _]) (by decide) hl (Nat.le_of_ble_eq_true rfl) rfl ?_
  intro p e R s m args below meth c A Q hRf hRl hRc hRs E Fn hnm hex
  have hG0 := hG
  obtain ⟨hnr, hw, ht, hG4, hGS⟩ := hG
  have hnw := hw.1
  have hw20 := hw.2.1
  have hr10 := hw.2.2.1
  have hnt := ht.1
  have ht30 := ht.2.1
  refine gg_iconst (v := 0) (pc := 0) E dX5_areRoutes_0 (by decide) ?_
  refine gg_istore_n (lv' := [_, _, _]) (pc := 1) E dX5_areRoutes_1 rfl (Nat.le_of_ble_eq_true rfl) rfl rfl ?_
  have L2 : ∀ (n : Nat) (i : Nat) (S N Z : Nat → Int32), nr - i < n → (i ≤ nr) → gg_W p l e R s m args below meth c g A 3 Q 0 0 [[((ad 9), gg_ai g 10 S)], [((ad 24), gg_ai g 10 N)], [((ad 25), gg_az g 10 Z)]] [some (.ref h), some (.int (nI i)), none] [] 2 := by
    intro n2
    induction n2 with
    | zero => intro i S N Z hmz; exact absurd hmz (Nat.not_lt_zero _)
    | succ n2 ih2 =>
      intro i S N Z hm2 hi
      refine gg_iload_n (pc := 2) E dX5_areRoutes_2 rfl rfl ?_
      refine gg_aload_n (pc := 3) E dX5_areRoutes_3 rfl rfl ?_
      refine gg_get (pc := 4) E ck_X5 0 q2859 rfl (by decide) dX5_areRoutes_4 (gg_r 0 rfl) rfl ?_
      refine gg_iconst (v := 0) (pc := 7) E dX5_areRoutes_7 (by decide) ?_
      refine gg_ialdN (pc := 8) E 0 rfl (by omega) (by omega) dX5_areRoutes_8 (gg_r 1 rfl) ?_
      rw [hnr]
      refine gg_icmpN_ge (tgt := 64) (pc := 9) E i nr rfl rfl (by omega) (by omega) dX5_areRoutes_9 (by decide) (fun c9 => ?_) (fun c9 => ?_)
      · refine gg_iconst (v := 1) (pc := 64) E dX5_areRoutes_64 (by decide) ?_
        refine gg_iret (pc := 65) E Fn rfl (gg_nz (by first | decide | assumption | exact gg_b01 | (split <;> decide))) dX5_areRoutes_65 (by first | exact Nat.le_of_ble_eq_true rfl | (dsimp only; omega)) (by first | exact Nat.le_of_ble_eq_true rfl | (dsimp only; omega)) ?_
        exact ⟨_, _, _, rfl, rfl⟩
      · refine gg_aload_n (pc := 12) E dX5_areRoutes_12 rfl rfl ?_
        refine gg_iload_n (pc := 13) E dX5_areRoutes_13 rfl rfl ?_
        refine gg_callV (F := [_]) (As := [.int (nI i)]) (rest := []) (pc := 14) E ck_X5 (ct_X5_goesOut hl (hnr) (hw) (by omega)) (cwV 1 E.2.2.2.2.1 (lw_V q3379 q3381 qs143 q179 q3382) rfl rfl rfl (by decide +kernel) ⟨by rw [hRf]; exact Nat.le_of_ble_eq_true rfl, by rw [hRl]; exact Nat.le_of_ble_eq_true rfl⟩) dX5_areRoutes_14 [1, 2] (by decide) rfl rfl (List.forall_mem_cons.mpr ⟨(gg_r 0 rfl), (List.forall_mem_cons.mpr ⟨(gg_r 1 rfl), (fun _ h => by cases h)⟩)⟩) (gg_r 0 rfl) rfl rfl (Nat.le_of_ble_eq_true rfl) (by first | (rw [hRc]; exact Nat.le_of_ble_eq_true rfl) | (rw [hRc]; dsimp only; omega)) (by first | (rw [hRs]; exact Nat.le_of_ble_eq_true rfl) | (rw [hRs]; dsimp only; omega)) ?_ (fun X q C1 h => h.elim)
        rintro _ _ ⟨don1, rfl, rfl⟩
        dsimp only [List.cons_append, List.nil_append, Option.toList]
        refine gg_up2 ?_
        refine gg_up2 ?_
        refine gg_aload_n (pc := 17) E dX5_areRoutes_17 rfl rfl ?_
        refine gg_iload_n (pc := 18) E dX5_areRoutes_18 rfl rfl ?_
        refine gg_iconst (v := (-1)) (pc := 19) E dX5_areRoutes_19 (by decide) ?_
        refine gg_callV (F := [_, _]) (As := [.int (nI i), _]) (rest := []) (pc := 20) E ck_X5 (ct_X5_reckons hl (hw) (by omega)) (cwV 2 E.2.2.2.2.1 (lw_V q3204 q3206 qs119 q179 q3207) rfl rfl rfl (by decide +kernel) ⟨by rw [hRf]; exact Nat.le_of_ble_eq_true rfl, by rw [hRl]; exact Nat.le_of_ble_eq_true rfl⟩) dX5_areRoutes_20 [0] (by decide) rfl rfl (List.forall_mem_cons.mpr ⟨(gg_r 0 rfl), (List.forall_mem_cons.mpr ⟨(gg_r 1 rfl), (fun _ h => by cases h)⟩)⟩) (gg_r 0 rfl) rfl rfl (Nat.le_of_ble_eq_true rfl) (by first | (rw [hRc]; exact Nat.le_of_ble_eq_true rfl) | (rw [hRc]; dsimp only; omega)) (by first | (rw [hRs]; exact Nat.le_of_ble_eq_true rfl) | (rw [hRs]; dsimp only; omega)) ?_ (fun X q C1 h => h.elim)
        rintro _ _ ⟨rfl, rfl⟩
        dsimp only [List.cons_append, List.nil_append, Option.toList]
        refine gg_iconst (v := 0) (pc := 23) E dX5_areRoutes_23 (by decide) ?_
        refine gg_istore_n (lv' := [_, _, _]) (pc := 24) E dX5_areRoutes_24 rfl (Nat.le_of_ble_eq_true rfl) rfl rfl ?_
        have L25 : ∀ (n : Nat) (k : Nat), nr - k < n → (k ≤ nr) → gg_W p l e R s m args below meth c g A 3 Q 0 0 [[((ad 9), gg_ai g 10 (fun k => dI (dist row nw (-1) i k)))], [((ad 24), gg_ai g 10 (fun k => dI (dist row nw (-1) i k)))], [((ad 25), gg_az g 10 don1)]] [some (.ref h), some (.int (nI i)), some (.int (nI k))] [] 25 := by
          intro n25
          induction n25 with
          | zero => intro k hmz; exact absurd hmz (Nat.not_lt_zero _)
          | succ n25 ih25 =>
            intro k hm25 hk
            refine gg_iload_n (pc := 25) E dX5_areRoutes_25 rfl rfl ?_
            refine gg_aload_n (pc := 26) E dX5_areRoutes_26 rfl rfl ?_
            refine gg_get (pc := 27) E ck_X5 0 q2859 rfl (by decide) dX5_areRoutes_27 (gg_r 0 rfl) rfl ?_
            refine gg_iconst (v := 0) (pc := 30) E dX5_areRoutes_30 (by decide) ?_
            refine gg_ialdN (pc := 31) E 0 rfl (by omega) (by omega) dX5_areRoutes_31 (gg_r 1 rfl) ?_
            rw [hnr]
            refine gg_icmpN_ge (tgt := 58) (pc := 32) E k nr rfl rfl (by omega) (by omega) dX5_areRoutes_32 (by decide) (fun c32 => ?_) (fun c32 => ?_)
            · refine gg_iincN (k := 1) (lv' := [_, _, _]) (pc := 58) E i dX5_areRoutes_58 rfl rfl rfl (Nat.le_of_ble_eq_true rfl) rfl rfl ?_
              refine gg_goto (tgt := 2) (pc := 61) E dX5_areRoutes_61 (by decide) ?_
              refine gg_cv rfl (gg_leS (gg_leS (gg_leN gg_le0))) rfl (by first | exact Nat.le_refl _ | (dsimp only; omega)) (by first | exact Nat.le_refl _ | (dsimp only; omega)) (ih2 (i + 1) _ _ _ (by omega) (by omega))
            · refine gg_aload_n (pc := 35) E dX5_areRoutes_35 rfl rfl ?_
              refine gg_get (pc := 36) E ck_X5 24 q2883 rfl (by decide) dX5_areRoutes_36 (gg_r 0 rfl) rfl ?_
              refine gg_iload_n (pc := 39) E dX5_areRoutes_39 rfl rfl ?_
              refine gg_ialdN (pc := 40) E k rfl (by omega) (by omega) dX5_areRoutes_40 (gg_i 1 rfl) ?_
              refine gg_aload_n (pc := 41) E dX5_areRoutes_41 rfl rfl ?_
              refine gg_get (pc := 42) E ck_X5 9 q2868 rfl (by decide) dX5_areRoutes_42 (gg_r 0 rfl) rfl ?_
              refine gg_iload_n (pc := 45) E dX5_areRoutes_45 rfl rfl ?_
              refine gg_ialdN (pc := 46) E k rfl (by omega) (by omega) dX5_areRoutes_46 (gg_i 0 rfl) ?_
              refine gg_icmp_eq (tgt := 52) (pc := 47) E dX5_areRoutes_47 (by decide) (fun c47 => ?_) (fun c47 => ?_)
              rotate_left
              · exact absurd rfl c47
              refine gg_iincN (k := 1) (lv' := [_, _, _]) (pc := 52) E k dX5_areRoutes_52 rfl rfl rfl (Nat.le_of_ble_eq_true rfl) rfl rfl ?_
              refine gg_goto (tgt := 25) (pc := 55) E dX5_areRoutes_55 (by decide) ?_
              refine gg_cv rfl (gg_leS (gg_leS (gg_leS gg_le0))) rfl (by first | exact Nat.le_refl _ | (dsimp only; omega)) (by first | exact Nat.le_refl _ | (dsimp only; omega)) (ih25 (k + 1) (by omega) (by omega))
        refine gg_cv rfl (gg_leS (gg_leS (gg_leS gg_le0))) rfl (by first | exact Nat.le_refl _ | (dsimp only; omega)) (by first | exact Nat.le_refl _ | (dsimp only; omega)) (L25 _ 0 (Nat.lt_succ_self _) (Nat.zero_le _))
  refine gg_cv rfl (gg_leS (gg_leS (gg_leN gg_le0))) rfl (by first | exact Nat.le_refl _ | (dsimp only; omega)) (by first | exact Nat.le_refl _ | (dsimp only; omega)) (L2 _ 0 _ _ _ (Nat.lt_succ_self _) (Nat.zero_le _))

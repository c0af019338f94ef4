set_option maxRecDepth 100000
/-! ===== routes as they are asked for ===== -/
theorem lr_A {row : Nat → Int32} {nr nw k : Nat} {F f2 : Nat → Int32} (hA : ∀ a b, a < k → b < nr → F (nr * a + b) = dI (dist row nw (-1) a b)) (hp : (∀ r, r < nr → f2 (nr * k + r) = dI (dist row nw (-1) k r)) ∧ ∀ j, j < nr * k ∨ nr * k + nr ≤ j → f2 j = F j) : ∀ a b, a < k + 1 → b < nr → f2 (nr * a + b) = dI (dist row nw (-1) a b) := by
  intro a b ha hb
  by_cases e : a = k
  · subst e
    exact hp.1 b hb
  · have h1 : nr * a + nr ≤ nr * k := by
      rw [← Nat.mul_succ]
      exact Nat.mul_le_mul_left nr (by omega)
    rw [hp.2 _ (Or.inl (by omega))]
    exact hA a b (by omega) hb
theorem lr_B {row : Nat → Int32} {nr nw k : Nat} {F f2 : Nat → Int32} (hB : ∀ i, nr * k ≤ i → i < nr * nr → F i = -1) (hp : (∀ r, r < nr → f2 (nr * k + r) = dI (dist row nw (-1) k r)) ∧ ∀ j, j < nr * k ∨ nr * k + nr ≤ j → f2 j = F j) : ∀ i, nr * (k + 1) ≤ i → i < nr * nr → f2 i = -1 := by
  intro i h1 h2
  rw [Nat.mul_succ] at h1
  rw [hp.2 i (Or.inr h1)]
  exact hB i (by omega) h2
set_option maxHeartbeats 4000000 in
theorem ct_X2_laysRoutes {l : Launch} (hl : l.stackTraces = false) {g : gg_G}  {w : Nat} {ad : Nat → Nat} {t7 c7 : Int32} {rt0 : Option Nat} {m1 : Int32} {nr : Nat} {nd wo : Nat → Nat} {m2 : Int32} {nw : Nat} {row : Nat → Int32} {P : gg_S} {sn : Nat → Nat} {nt : Nat} (hP : Po g P sn wo row nw nt) (hw : Ww row nr nw) (hR : ∀ a, rt0 = some a → Rt g P a row nr nw) : gg_C l g yX2_laysRoutes (ws_ yX2_laysRoutes cX2_laysRoutes 2 none) { frames := 13, cells := (lyC rt0), slots := (lyS rt0), locals := 257 } [.ref w] ([((ad 1), .inl (11, [.int m1, .ref (ad 2), .int (nI nr)])), ((ad 3), .inl (15, [.int m2, .int (nI nw), llF nd nw, llL nd nw]))] ++ (llS nd wo nw)) [[(w, .inl (1, [.ref (ad 1), .ref (ad 3), .ref (ad 4), .ref (ad 6), .ref (ad 7), .int t7, .int c7, (va_rf rt0)]))], P] (fun vv CC => ∃ (rt2 : Nat) (P2 : gg_S), (Po g P2 sn wo row nw nt ∧ Rt g P2 rt2 row nr nw ∧ Sub P P2) ∧ vv = none ∧ CC = [[(w, .inl (1, [.ref (ad 1), .ref (ad 3), .ref (ad 4), .ref (ad 6), .ref (ad 7), .int t7, .int c7, .ref rt2]))], P2]) gg_no := by
  refine gg_of (lv := [_, _]) (by decide) hl (Nat.le_of_ble_eq_true rfl) rfl ?_
  intro p e R s m args below meth c A Q hRf hRl hRc hRs E Fn hnm hex
  have h20 := hw.2.1
  have hr10 := hw.2.2.1
  have hnn : nr * nr ≤ 100 := Nat.mul_le_mul hr10 hr10
  rcases rt0 with _ | b0
  · have hC0 : lyC none = 360 := rfl
    have hS0 : lyS none = 1500 := rfl
    refine gg_aload_n (pc := 0) E dX2_laysRoutes_0 rfl rfl ?_
    refine gg_get (pc := 1) E ck_X2 7 q613 rfl (by decide) dX2_laysRoutes_1 (gg_i 0 rfl) rfl ?_
    refine gg_ifnullN (tgt := 8) (pc := 4) E dX2_laysRoutes_4 (by decide) ?_
    refine gg_aload_n (pc := 8) E dX2_laysRoutes_8 rfl rfl ?_
    refine gg_aload_n (pc := 9) E dX2_laysRoutes_9 rfl rfl ?_
    refine gg_get (pc := 10) E ck_X2 0 q598 rfl (by decide) dX2_laysRoutes_10 (gg_i 0 rfl) rfl ?_
    refine gg_callF (F := [_, _]) (As := []) (rest := [_]) (pc := 13) E ck_J2 (ct_J2_size hl ) (gg_cwF 0 E (x := ⟨"java/util/List", "size", "()I"⟩) (by decide) nq1046 nq1044 nq683 (lw_app (lw_in _ [1095, 1043, 1045, 155] (by decide +kernel) (by decide +kernel)) (lw_meth q1047)) (by decide +kernel) ⟨by rw [hRf]; exact Nat.le_of_ble_eq_true rfl, by rw [hRl]; exact Nat.le_of_ble_eq_true rfl⟩) dX2_laysRoutes_13 [] (by decide) rfl rfl (List.forall_mem_cons.mpr ⟨(gg_r 0 rfl), (fun _ h => by cases h)⟩) (gg_r 0 rfl) rfl rfl (Nat.le_of_ble_eq_true rfl) (by first | (rw [hRc]; dsimp only; omega) | (rw [hRc]; exact Nat.le_of_ble_eq_true rfl)) (by first | (rw [hRs]; dsimp only; omega) | (rw [hRs]; exact Nat.le_of_ble_eq_true rfl)) ?_ (fun X q C1 h => h.elim)
    rintro _ _ ⟨rfl, rfl⟩
    dsimp only [List.cons_append, List.nil_append, Option.toList]
    refine gg_aload_n (pc := 18) E dX2_laysRoutes_18 rfl rfl ?_
    refine gg_get (pc := 19) E ck_X2 0 q598 rfl (by decide) dX2_laysRoutes_19 (gg_i 0 rfl) rfl ?_
    refine gg_callF (F := [_, _]) (As := []) (rest := [_, _]) (pc := 22) E ck_J2 (ct_J2_size hl ) (gg_cwF 0 E (x := ⟨"java/util/List", "size", "()I"⟩) (by decide) nq1046 nq1044 nq683 (lw_app (lw_in _ [1095, 1043, 1045, 155] (by decide +kernel) (by decide +kernel)) (lw_meth q1047)) (by decide +kernel) ⟨by rw [hRf]; exact Nat.le_of_ble_eq_true rfl, by rw [hRl]; exact Nat.le_of_ble_eq_true rfl⟩) dX2_laysRoutes_22 [] (by decide) rfl rfl (List.forall_mem_cons.mpr ⟨(gg_r 0 rfl), (fun _ h => by cases h)⟩) (gg_r 0 rfl) rfl rfl (Nat.le_of_ble_eq_true rfl) (by first | (rw [hRc]; dsimp only; omega) | (rw [hRc]; exact Nat.le_of_ble_eq_true rfl)) (by first | (rw [hRs]; dsimp only; omega) | (rw [hRs]; exact Nat.le_of_ble_eq_true rfl)) ?_ (fun X q C1 h => h.elim)
    rintro _ _ ⟨rfl, rfl⟩
    dsimp only [List.cons_append, List.nil_append, Option.toList]
    refine gg_imulN (pc := 27) E nr nr rfl rfl dX2_laysRoutes_27 ?_
    refine gg_newa (N := nr * nr) (pc := 28) E 0 (ty := .int) rfl rfl q631 dX2_laysRoutes_28 (nI_pos (by omega)) (nI_clamp (by omega)) (show nr * nr * 4 ≤ 536870912 by omega) (by first | (rw [hRc]; dsimp only; omega) | (rw [hRc]; exact Nat.le_of_ble_eq_true rfl)) (by first | (rw [hRs]; dsimp only; omega) | (rw [hRs]; exact Nat.le_of_ble_eq_true rfl)) (fun _ => rfl) (fun a1 => ?_)
    dsimp only [List.cons_append, List.nil_append]
    refine gg_put (fs' := [_, _, _, _, _, _, _, _]) (M' := [_, _, _]) (pc := 30) E ck_X2 7 q613 rfl (by decide) dX2_laysRoutes_30 0 rfl rfl (rfl) rfl (Nat.le_of_ble_eq_true rfl) rfl rfl ?_
    refine gg_iconst (v := 0) (pc := 33) E dX2_laysRoutes_33 (by decide) ?_
    refine gg_istore_n (lv' := [_, _]) (pc := 34) E dX2_laysRoutes_34 rfl (Nat.le_of_ble_eq_true rfl) rfl rfl ?_
    have L35 : ∀ (n : Nat) (j : Nat) (F : Nat → Int32), nr * nr - j < n → (j ≤ nr * nr) → (∀ i, i < j → F i = -1) → gg_W p l e R s m args below meth c g A 2 Q (0 + 1) (0 + nr * nr) [[(w, .inl (1, [.ref (ad 1), .ref (ad 3), .ref (ad 4), .ref (ad 6), .ref (ad 7), .int t7, .int c7, .ref a1]))], P, [(a1, gg_ai g (nr * nr) F)]] [some (.ref w), some (.int (nI j))] [] 35 := by
      intro n35
      induction n35 with
      | zero => intro j F hmz; exact absurd hmz (Nat.not_lt_zero _)
      | succ n35 ih35 =>
        intro j F hm35 hj hF
        refine gg_iload_n (pc := 35) E dX2_laysRoutes_35 rfl rfl ?_
        refine gg_aload_n (pc := 36) E dX2_laysRoutes_36 rfl rfl ?_
        refine gg_get (pc := 37) E ck_X2 7 q613 rfl (by decide) dX2_laysRoutes_37 (gg_i 0 rfl) rfl ?_
        refine gg_alen (pc := 40) E 0 rfl dX2_laysRoutes_40 (gg_i 2 rfl) ?_
        refine gg_icmpN_ge (tgt := 57) (pc := 41) E j (nr * nr) rfl rfl (by omega) (by omega) dX2_laysRoutes_41 (by decide) (fun c41 => ?_) (fun c41 => ?_)
        · refine gg_iconst (v := 0) (pc := 57) E dX2_laysRoutes_57 (by decide) ?_
          refine gg_istore_n (lv' := [_, _]) (pc := 58) E dX2_laysRoutes_58 rfl (Nat.le_of_ble_eq_true rfl) rfl rfl ?_
          have L59 : ∀ (n : Nat) (k1 : Nat) (F2 : Nat → Int32), nr - k1 < n → (k1 ≤ nr) → (∀ a b, a < k1 → b < nr → F2 (nr * a + b) = dI (dist row nw (-1) a b)) → (∀ i, nr * k1 ≤ i → i < nr * nr → F2 i = -1) → gg_W p l e R s m args below meth c g A 2 Q (0 + 1 + 35 * k1) (0 + nr * nr + 135 * k1) [[(w, .inl (1, [.ref (ad 1), .ref (ad 3), .ref (ad 4), .ref (ad 6), .ref (ad 7), .int t7, .int c7, .ref a1]))], P, [(a1, gg_ai g (nr * nr) F2)]] [some (.ref w), some (.int (nI k1))] [] 59 := by
            intro n59
            induction n59 with
            | zero => intro k1 F2 hmz; exact absurd hmz (Nat.not_lt_zero _)
            | succ n59 ih59 =>
              intro k1 F2 hm59 hk hA hB
              refine gg_iload_n (pc := 59) E dX2_laysRoutes_59 rfl rfl ?_
              refine gg_aload_n (pc := 60) E dX2_laysRoutes_60 rfl rfl ?_
              refine gg_get (pc := 61) E ck_X2 0 q598 rfl (by decide) dX2_laysRoutes_61 (gg_i 0 rfl) rfl ?_
              refine gg_callF (F := [_, _, _]) (As := []) (rest := [_]) (pc := 64) E ck_J2 (ct_J2_size hl ) (gg_cwF 0 E (x := ⟨"java/util/List", "size", "()I"⟩) (by decide) nq1046 nq1044 nq683 (lw_app (lw_in _ [1095, 1043, 1045, 155] (by decide +kernel) (by decide +kernel)) (lw_meth q1047)) (by decide +kernel) ⟨by rw [hRf]; exact Nat.le_of_ble_eq_true rfl, by rw [hRl]; exact Nat.le_of_ble_eq_true rfl⟩) dX2_laysRoutes_64 [] (by decide) rfl rfl (List.forall_mem_cons.mpr ⟨(gg_r 0 rfl), (fun _ h => by cases h)⟩) (gg_r 0 rfl) rfl rfl (Nat.le_of_ble_eq_true rfl) (by first | (rw [hRc]; dsimp only; omega) | (rw [hRc]; exact Nat.le_of_ble_eq_true rfl)) (by first | (rw [hRs]; dsimp only; omega) | (rw [hRs]; exact Nat.le_of_ble_eq_true rfl)) ?_ (fun X q C1 h => h.elim)
              rintro _ _ ⟨rfl, rfl⟩
              dsimp only [List.cons_append, List.nil_append, Option.toList]
              refine gg_icmpN_ge (tgt := 83) (pc := 69) E k1 nr rfl rfl (by omega) (by omega) dX2_laysRoutes_69 (by decide) (fun c69 => ?_) (fun c69 => ?_)
              · refine gg_cel (y := gg_ai g (nr * nr) (tbF row nr nw)) 2 rfl (gg_ai_congr (tb_of fun a b ha hb => hA a b (by omega) hb)) rfl ?_
                refine gg_psh (x := [(a1, gg_ai g (nr * nr) (tbF row nr nw))]) (M' := [_, _]) 1 rfl rfl rfl ?_
                refine gg_vret (pc := 83) E Fn rfl dX2_laysRoutes_83 (by first | omega | (dsimp only; omega) | exact Nat.le_of_ble_eq_true rfl) (by first | omega | (dsimp only; omega) | exact Nat.le_of_ble_eq_true rfl) ?_
                exact ⟨a1, _, ⟨Po_mono hP (fun q hq => List.mem_append_left _ hq), List.mem_append_right _ (List.mem_singleton.mpr rfl), fun q h => List.mem_append_left _ h⟩, rfl, rfl⟩
              · refine gg_aload_n (pc := 72) E dX2_laysRoutes_72 rfl rfl ?_
                refine gg_iload_n (pc := 73) E dX2_laysRoutes_73 rfl rfl ?_
                refine gg_callV (F := [_, _]) (As := [.int (nI k1)]) (rest := []) (pc := 74) E ck_X2 (ct_X2_laysFrom (row := row) (nw := nw) (sn := sn) (nt := nt) (f := F2) hl hP hw c69 (fun r hr => hB _ (Nat.le_add_right _ _) (by have := Nat.mul_le_mul_left nr (show k1 + 1 ≤ nr from c69); rw [Nat.mul_succ] at this; omega))) (cwV 1 E.2.2.2.2.1 (lw_V q1721 q1723 qs37 q152 q1724) rfl rfl rfl (by decide +kernel) ⟨by rw [hRf]; exact Nat.le_of_ble_eq_true rfl, by rw [hRl]; exact Nat.le_of_ble_eq_true rfl⟩) dX2_laysRoutes_74 [2] (by decide) rfl rfl (List.forall_mem_append.mpr ⟨(List.forall_mem_cons.mpr ⟨(gg_i 0 rfl), (List.forall_mem_cons.mpr ⟨(gg_r 0 rfl), (List.forall_mem_cons.mpr ⟨(gg_r 1 rfl), (fun _ h => by cases h)⟩)⟩)⟩), (List.forall_mem_append.mpr ⟨(fun q hq => gg_rm (List.mem_append_right _ (hq))), (fun q hq => gg_j 1 rfl hq)⟩)⟩) (gg_i 0 rfl) rfl rfl (Nat.le_of_ble_eq_true rfl) (by first | (rw [hRc]; dsimp only; omega) | (rw [hRc]; exact Nat.le_of_ble_eq_true rfl)) (by first | (rw [hRs]; dsimp only; omega) | (rw [hRs]; exact Nat.le_of_ble_eq_true rfl)) ?_ (fun X q C1 h => h.elim)
                rintro _ _ ⟨f2, hp, rfl, rfl⟩
                dsimp only [List.cons_append, List.nil_append, Option.toList]
                refine gg_up2 ?_
                refine gg_iincN (k := 1) (lv' := [_, _]) (pc := 77) E k1 dX2_laysRoutes_77 rfl rfl rfl (Nat.le_of_ble_eq_true rfl) rfl rfl ?_
                refine gg_goto (tgt := 59) (pc := 80) E dX2_laysRoutes_80 (by decide) ?_
                refine gg_cv rfl (gg_leS (gg_leS gg_le0)) rfl (by first | omega | exact Nat.le_refl _ | (dsimp only; omega)) (by first | omega | exact Nat.le_refl _ | (dsimp only; omega)) (ih59 (k1 + 1) f2 (by omega) (by omega) (lr_A hA hp) (lr_B hB hp))
          refine gg_cv rfl (gg_leS (gg_leS gg_le0)) rfl (by first | omega | exact Nat.le_refl _ | (dsimp only; omega)) (by first | omega | exact Nat.le_refl _ | (dsimp only; omega)) (L59 _ 0 F (Nat.lt_succ_self _) (Nat.zero_le _) (fun a b ha => absurd ha (Nat.not_lt_zero a)) (fun i _ hi => hF i (by omega)))
        · refine gg_aload_n (pc := 44) E dX2_laysRoutes_44 rfl rfl ?_
          refine gg_get (pc := 45) E ck_X2 7 q613 rfl (by decide) dX2_laysRoutes_45 (gg_i 0 rfl) rfl ?_
          refine gg_iload_n (pc := 48) E dX2_laysRoutes_48 rfl rfl ?_
          refine gg_iconst (v := (-1)) (pc := 49) E dX2_laysRoutes_49 (by decide) ?_
          refine gg_iastN (M' := [_, _, _]) (pc := 50) E j rfl (by omega) (by omega) dX2_laysRoutes_50 2 rfl rfl ?_
          refine gg_iincN (k := 1) (lv' := [_, _]) (pc := 51) E j dX2_laysRoutes_51 rfl rfl rfl (Nat.le_of_ble_eq_true rfl) rfl rfl ?_
          refine gg_goto (tgt := 35) (pc := 54) E dX2_laysRoutes_54 (by decide) ?_
          refine gg_cv rfl (gg_leS (gg_leS gg_le0)) rfl (by first | omega | exact Nat.le_refl _ | (dsimp only; omega)) (by first | omega | exact Nat.le_refl _ | (dsimp only; omega)) (ih35 (j + 1) (upd F j (-1)) (by omega) (by omega) (fun i hi => by by_cases e : i = j; (· subst e; exact pk_us); (· exact (pk_un e).trans (hF i (by omega)))))
    refine gg_cv rfl (gg_leS (gg_leS gg_le0)) rfl (by first | omega | exact Nat.le_refl _ | (dsimp only; omega)) (by first | omega | exact Nat.le_refl _ | (dsimp only; omega)) (L35 _ 0 (fun _ => 0) (Nat.lt_succ_self _) (Nat.zero_le _) (fun i hi => absurd hi (Nat.not_lt_zero i)))
  · refine gg_aload_n (pc := 0) E dX2_laysRoutes_0 rfl rfl ?_
    refine gg_get (pc := 1) E ck_X2 7 q613 rfl (by decide) dX2_laysRoutes_1 (gg_i 0 rfl) rfl ?_
    refine gg_ifnull (pc := 4) E dX2_laysRoutes_4 ?_
    refine gg_vret (pc := 7) E Fn rfl dX2_laysRoutes_7 (by first | omega | (dsimp only; omega) | exact Nat.le_of_ble_eq_true rfl) (by first | omega | (dsimp only; omega) | exact Nat.le_of_ble_eq_true rfl) ?_
    exact ⟨b0, P, ⟨hP, hR b0 rfl, fun q h => h⟩, rfl, rfl⟩
set_option maxHeartbeats 4000000 in
theorem ct_X2_route {l : Launch} (hl : l.stackTraces = false) {g : gg_G}  {w : Nat} {ad : Nat → Nat} {t7 c7 : Int32} {rt0 : Option Nat} {m1 : Int32} {nr : Nat} {nd wo : Nat → Nat} {m2 : Int32} {nw : Nat} {row : Nat → Int32} {P : gg_S} {sn : Nat → Nat} {nt : Nat} {k1 g1 : Nat} (hP : Po g P sn wo row nw nt) (hw : Ww row nr nw) (hR : ∀ a, rt0 = some a → Rt g P a row nr nw) (hk : k1 < nr) (hg : g1 < nr) : gg_C l g yX2_route (ws_ yX2_route cX2_route 3 (some .int)) { frames := 14, cells := (lyC rt0), slots := (lyS rt0), locals := 278 } [.ref w, .int (nI k1), .int (nI g1)] ([((ad 1), .inl (11, [.int m1, .ref (ad 2), .int (nI nr)])), ((ad 3), .inl (15, [.int m2, .int (nI nw), llF nd nw, llL nd nw]))] ++ (llS nd wo nw)) [[(w, .inl (1, [.ref (ad 1), .ref (ad 3), .ref (ad 4), .ref (ad 6), .ref (ad 7), .int t7, .int c7, (va_rf rt0)]))], P] (fun vv CC => ∃ (rt2 : Nat) (P2 : gg_S), (Po g P2 sn wo row nw nt ∧ Rt g P2 rt2 row nr nw ∧ Sub P P2) ∧ vv = some (.int (dI (dist row nw (-1) k1 g1))) ∧ CC = [[(w, .inl (1, [.ref (ad 1), .ref (ad 3), .ref (ad 4), .ref (ad 6), .ref (ad 7), .int t7, .int c7, .ref rt2]))], P2]) gg_no := by
  refine gg_of (lv := [_, _, _]) (by decide) hl (Nat.le_of_ble_eq_true rfl) rfl ?_
  intro p e R s m args below meth c A Q hRf hRl hRc hRs E Fn hnm hex
  have hr10 := hw.2.2.1
  have hmul : nr * k1 + nr ≤ nr * nr := by rw [← Nat.mul_succ]; exact Nat.mul_le_mul_left nr hk
  have hnn : nr * nr ≤ 100 := Nat.mul_le_mul hr10 hr10
  refine gg_aload_n (pc := 0) E dX2_route_0 rfl rfl ?_
  refine gg_callV (F := []) (As := []) (rest := []) (pc := 1) E ck_X2 (ct_X2_laysRoutes hl hP hw hR) (cwV 0 E.2.2.2.2.1 (lw_V q1717 q1719 qs36 q152 q1720) rfl rfl rfl (by decide +kernel) ⟨by rw [hRf]; exact Nat.le_of_ble_eq_true rfl, by rw [hRl]; exact Nat.le_of_ble_eq_true rfl⟩) dX2_route_1 [0, 1] (by decide) rfl rfl (List.forall_mem_append.mpr ⟨(List.forall_mem_cons.mpr ⟨(gg_r 0 rfl), (List.forall_mem_cons.mpr ⟨(gg_r 1 rfl), (fun _ h => by cases h)⟩)⟩), (fun q hq => gg_rm (List.mem_append_right _ (hq)))⟩) (gg_i 0 rfl) rfl rfl (Nat.le_of_ble_eq_true rfl) (by first | (rw [hRc]; dsimp only; omega) | (rw [hRc]; exact Nat.le_of_ble_eq_true rfl)) (by first | (rw [hRs]; dsimp only; omega) | (rw [hRs]; exact Nat.le_of_ble_eq_true rfl)) ?_ (fun X q C1 h => h.elim)
  rintro _ _ ⟨rt2, P2, hp, rfl, rfl⟩
  dsimp only [List.cons_append, List.nil_append, Option.toList]
  refine gg_up1 ?_
  refine gg_up1 ?_
  
  refine gg_aload_n (pc := 4) E dX2_route_4 rfl rfl ?_
  refine gg_get (pc := 5) E ck_X2 7 q613 rfl (by decide) dX2_route_5 (gg_i 0 rfl) rfl ?_
  refine gg_aload_n (pc := 8) E dX2_route_8 rfl rfl ?_
  refine gg_get (pc := 9) E ck_X2 0 q598 rfl (by decide) dX2_route_9 (gg_i 0 rfl) rfl ?_
  refine gg_callF (F := [_, _]) (As := []) (rest := [_]) (pc := 12) E ck_J2 (ct_J2_size hl ) (gg_cwF 0 E (x := ⟨"java/util/List", "size", "()I"⟩) (by decide) nq1046 nq1044 nq683 (lw_app (lw_in _ [1095, 1043, 1045, 155] (by decide +kernel) (by decide +kernel)) (lw_meth q1047)) (by decide +kernel) ⟨by rw [hRf]; exact Nat.le_of_ble_eq_true rfl, by rw [hRl]; exact Nat.le_of_ble_eq_true rfl⟩) dX2_route_12 [] (by decide) rfl rfl (List.forall_mem_cons.mpr ⟨(gg_r 0 rfl), (fun _ h => by cases h)⟩) (gg_r 0 rfl) rfl rfl (Nat.le_of_ble_eq_true rfl) (by first | (rw [hRc]; dsimp only; omega) | (rw [hRc]; exact Nat.le_of_ble_eq_true rfl)) (by first | (rw [hRs]; dsimp only; omega) | (rw [hRs]; exact Nat.le_of_ble_eq_true rfl)) ?_ (fun X q C1 h => h.elim)
  rintro _ _ ⟨rfl, rfl⟩
  dsimp only [List.cons_append, List.nil_append, Option.toList]
  refine gg_iload_n (pc := 17) E dX2_route_17 rfl rfl ?_
  refine gg_imulN (pc := 18) E nr k1 rfl rfl dX2_route_18 ?_
  refine gg_iload_n (pc := 19) E dX2_route_19 rfl rfl ?_
  refine gg_iaddN (pc := 20) E (nr * k1) g1 rfl rfl dX2_route_20 ?_
  refine gg_ialdN (pc := 21) E (nr * k1 + g1) rfl (by omega) (by omega) dX2_route_21 (gg_j 1 rfl (hp.2.1)) ?_
  refine gg_topI (y := dI (dist row nw (-1) k1 g1)) (tb_at hg) ?_
  refine gg_iret (pc := 22) E Fn rfl (rfl) dX2_route_22 (by first | omega | (dsimp only; omega) | exact Nat.le_of_ble_eq_true rfl) (by first | omega | (dsimp only; omega) | exact Nat.le_of_ble_eq_true rfl) ?_
  exact ⟨rt2, P2, hp, rfl, rfl⟩

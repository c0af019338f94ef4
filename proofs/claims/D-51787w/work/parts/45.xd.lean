set_option maxRecDepth 100000
def cx_X5_goesOn {l : Launch} (hl : l.stackTraces = false) {g : gg_G} {h : Nat} {ad : Nat → Nat} {x : Nat → Int32} {b : Nat → Int32} {bn : Nat} (hX : Xi bn x) := ct_X5_goesOn (l := l) (g := g) (h := h) (ad := ad) (x := x) (b := b) (bn := bn) hl hX.1 hX.2.2.2.2.2.1 hX.2.1 hX.2.2.2.2.1
def cx_X5_spells {l : Launch} (hl : l.stackTraces = false) {g : gg_G} {h : Nat} {ad : Nat → Nat} {x : Nat → Int32} {b sp : Nat → Int32} {bn : Nat} (hX : Xi bn x) := ct_X5_spells (l := l) (g := g) (h := h) (ad := ad) (x := x) (b := b) (sp := sp) hl hX.2.1 hX.2.2.1 hX.2.2.2.1 (Nat.le_trans hX.2.2.2.2.1 hX.2.2.2.2.2.1)
def cx_X5_roofOfText {l : Launch} (hl : l.stackTraces = false) {g : gg_G} {h : Nat} {ad : Nat → Nat} {x : Nat → Int32} {row : Nat → Int32} {b sp : Nat → Int32} {nr bn : Nat} {no : Int32} (hnr : row 0 = nI nr) (hr10 : nr ≤ 10) (hX : Xi bn x) := ct_X5_roofOfText (l := l) (g := g) (h := h) (ad := ad) (x := x) (row := row) (b := b) (sp := sp) (nr := nr) (bn := bn) (no := no) hl hnr hr10 hX.1 hX.2.2.2.2.2.1 hX.2.1 hX.2.2.1 hX.2.2.2.1 hX.2.2.2.2.1
def cx_X5_roofHere {l : Launch} (hl : l.stackTraces = false) {g : gg_G} {h : Nat} {ad : Nat → Nat} {x : Nat → Int32} {row : Nat → Int32} {b sp : Nat → Int32} {nr : Nat} {no : Int32} {bn : Nat} (hnr : row 0 = nI nr) (hr10 : nr ≤ 10) (hX : Xi bn x) := ct_X5_roofHere (l := l) (g := g) (h := h) (ad := ad) (x := x) (row := row) (b := b) (sp := sp) (nr := nr) (no := no) hl hnr hr10 hX.2.1 hX.2.2.1 hX.2.2.2.1 (Nat.le_trans hX.2.2.2.2.1 hX.2.2.2.2.2.1)
def cx_X5_number {l : Launch} (hl : l.stackTraces = false) {g : gg_G} {h : Nat} {ad : Nat → Nat} {x : Nat → Int32} {b : Nat → Int32} {bn : Nat} {lo1 hi1 : Int32} (hX : Xi bn x) := ct_X5_number (l := l) (g := g) (h := h) (ad := ad) (x := x) (b := b) (bn := bn) (lo1 := lo1) (hi1 := hi1) hl hX.1 hX.2.2.2.2.2.1 hX.2.1 hX.2.2.2.2.1
def cx_X5_semicolon {l : Launch} (hl : l.stackTraces = false) {g : gg_G} {h : Nat} {ad : Nat → Nat} {x : Nat → Int32} {b : Nat → Int32} {bn : Nat} (hX : Xi bn x) := ct_X5_semicolon (l := l) (g := g) (h := h) (ad := ad) (x := x) (b := b) (bn := bn) hl hX.1 hX.2.2.2.2.2.1 hX.2.1 hX.2.2.2.2.1
def cx_X5_settingHere {l : Launch} (hl : l.stackTraces = false) {g : gg_G} {h : Nat} {ad : Nat → Nat} {x : Nat → Int32} {b : Nat → Int32} {bn : Nat} (hX : Xi bn x) := ct_X5_settingHere (l := l) (g := g) (h := h) (ad := ad) (x := x) (b := b) hl hX.2.1 hX.2.2.1 hX.2.2.2.1 (Nat.le_trans hX.2.2.2.2.1 hX.2.2.2.2.2.1)
def cx_X5_kindHere {l : Launch} (hl : l.stackTraces = false) {g : gg_G} {h : Nat} {ad : Nat → Nat} {x : Nat → Int32} {b : Nat → Int32} {bn : Nat} (hX : Xi bn x) := ct_X5_kindHere (l := l) (g := g) (h := h) (ad := ad) (x := x) (b := b) hl hX.2.1 hX.2.2.1 hX.2.2.2.1 (Nat.le_trans hX.2.2.2.2.1 hX.2.2.2.2.2.1)
def cx_X5_isWord {l : Launch} (hl : l.stackTraces = false) {g : gg_G} {h : Nat} {ad : Nat → Nat} {x : Nat → Int32} {b : Nat → Int32} {sa sb sl : Nat} {sf : Nat → Int32} {sh sz : Int32} {bn : Nat} (hsl : sl ≤ 8) (hA : asc sl sf) (hX : Xi bn x) := ct_X5_isWord (l := l) (g := g) (h := h) (ad := ad) (x := x) (b := b) (sa := sa) (sb := sb) (sl := sl) (sf := sf) (sh := sh) (sz := sz) hl hX.2.1 hX.2.2.1 hX.2.2.2.1 (Nat.le_trans hX.2.2.2.2.1 hX.2.2.2.2.2.1) hsl hA
set_option maxHeartbeats 4000000 in
theorem ct_X5_readsRoof {l : Launch} (hl : l.stackTraces = false) {g : gg_G}  {h : Nat} {ad : Nat → Nat} {x : Nat → Int32} {row : Nat → Int32} {b sp : Nat → Int32} {bn nr : Nat} (hnr : row 0 = nI nr) (hr10 : nr ≤ 10) (hX : Xi bn x) : gg_C l g yX5_readsRoof (ws_ yX5_readsRoof cX5_readsRoof 5 none) { frames := 4, cells := 0, slots := 0, locals := 89 } [.ref h] [((ad 12), gg_ab g 800 b)] [[(h, .inl (4, mo_f ad x))], [((ad 0), gg_ai g 1030 row)], [((ad 7), gg_ai g 6 sp)]] (fun vv CC => vv = none ∧ CC = [[(h, .inl (4, mo_f ad (rrX row nr b bn sp x)))], [((ad 0), gg_ai g 1030 (rrR row nr b bn sp x))], [((ad 7), gg_ai g 6 (spS b sp (rrA b bn nr x)))]]) gg_no := by
  refine gg_of (lv := [_, _, _, _, _]) (by decide) hl (Nat.le_of_ble_eq_true rfl) rfl ?_
  intro p e R s m args below meth c A Q hRf hRl hRc hRs E Fn hnm hex
  refine gg_aload_n (pc := 0) E dX5_readsRoof_0 rfl rfl ?_
  refine gg_aload_n (pc := 1) E dX5_readsRoof_1 rfl rfl ?_
  refine gg_get (pc := 2) E ck_X5 0 q2859 rfl (by decide) dX5_readsRoof_2 (gg_i 0 rfl) rfl ?_
  refine gg_iconst (v := 0) (pc := 5) E dX5_readsRoof_5 (by decide) ?_
  refine gg_ialdN (pc := 6) E 0 rfl (by omega) (by omega) dX5_readsRoof_6 (gg_i 1 rfl) ?_
  rw [hnr]
  refine gg_bipush (v := 10) (pc := 7) E dX5_readsRoof_7 (by decide) ?_
  refine gg_icmpB_ge (pc := 9) E dX5_readsRoof_9 dX5_readsRoof_12 dX5_readsRoof_13 dX5_readsRoof_16 ?_
  refine gg_topI (y := if nr < 10 then 1 else 0) (gg_ifc (by rw [show (10 : Int32) = nI 10 from rfl, nI_leI (by omega) (by omega)]; omega)) ?_
  refine gg_iconst (v := 5) (pc := 17) E dX5_readsRoof_17 (by decide) ?_
  refine gg_callV (F := [_, _]) (As := [_, _]) (rest := []) (pc := 18) E ck_X5 (ct_X5_need hl ) (cwV 2 E.2.2.2.2.1 (lw_V q3013 q3015 qs78 q179 q3016) rfl rfl rfl (by decide +kernel) ⟨by rw [hRf]; exact Nat.le_of_ble_eq_true rfl, by rw [hRl]; exact Nat.le_of_ble_eq_true rfl⟩) dX5_readsRoof_18 [0] (by decide) rfl rfl (fun _ h => by cases h) (gg_i 0 rfl) rfl rfl (Nat.le_of_ble_eq_true rfl) (by first | (rw [hRc]; exact Nat.le_of_ble_eq_true rfl) | (rw [hRc]; dsimp only; omega)) (by first | (rw [hRs]; exact Nat.le_of_ble_eq_true rfl) | (rw [hRs]; dsimp only; omega)) ?_ (fun X q C1 h => h.elim)
  rintro _ _ ⟨rfl, rfl⟩
  dsimp only [List.cons_append, List.nil_append, Option.toList]
  refine gg_aload_n (pc := 21) E dX5_readsRoof_21 rfl rfl ?_
  refine gg_callV (F := [_, _]) (As := []) (rest := []) (pc := 22) E ck_X5 (cx_X5_goesOn hl (Xi_nd (k := 5) (by decide) hX)) (cwV 0 E.2.2.2.2.1 (lw_V q2984 q2986 qs72 q179 q2987) rfl rfl rfl (by decide +kernel) ⟨by rw [hRf]; exact Nat.le_of_ble_eq_true rfl, by rw [hRl]; exact Nat.le_of_ble_eq_true rfl⟩) dX5_readsRoof_22 [0] (by decide) rfl rfl (List.forall_mem_cons.mpr ⟨(gg_r 0 rfl), (fun _ h => by cases h)⟩) (gg_i 0 rfl) rfl rfl (Nat.le_of_ble_eq_true rfl) (by first | (rw [hRc]; exact Nat.le_of_ble_eq_true rfl) | (rw [hRc]; dsimp only; omega)) (by first | (rw [hRs]; exact Nat.le_of_ble_eq_true rfl) | (rw [hRs]; dsimp only; omega)) ?_ (fun X q C1 h => h.elim)
  rintro _ _ ⟨rfl, rfl⟩
  dsimp only [List.cons_append, List.nil_append, Option.toList]
  refine gg_aload_n (pc := 25) E dX5_readsRoof_25 rfl rfl ?_
  refine gg_callV (F := [_]) (As := []) (rest := []) (pc := 26) E ck_X5 (cx_X5_spells hl (Xi_rrA hX)) (cwV 0 E.2.2.2.2.1 (lw_V q3017 q3019 qs79 q179 q3020) rfl rfl rfl (by decide +kernel) ⟨by rw [hRf]; exact Nat.le_of_ble_eq_true rfl, by rw [hRl]; exact Nat.le_of_ble_eq_true rfl⟩) dX5_readsRoof_26 [0, 2] (by decide) rfl rfl (List.forall_mem_cons.mpr ⟨(gg_r 0 rfl), (fun _ h => by cases h)⟩) (gg_i 0 rfl) rfl rfl (Nat.le_of_ble_eq_true rfl) (by first | (rw [hRc]; exact Nat.le_of_ble_eq_true rfl) | (rw [hRc]; dsimp only; omega)) (by first | (rw [hRs]; exact Nat.le_of_ble_eq_true rfl) | (rw [hRs]; dsimp only; omega)) ?_ (fun X q C1 h => h.elim)
  rintro _ _ ⟨rfl, rfl⟩
  dsimp only [List.cons_append, List.nil_append, Option.toList]
  refine gg_up1 ?_
  refine gg_up2 ?_
  refine gg_aload_n (pc := 29) E dX5_readsRoof_29 rfl rfl ?_
  refine gg_aload_n (pc := 30) E dX5_readsRoof_30 rfl rfl ?_
  refine gg_get (pc := 31) E ck_X5 20 q2879 rfl (by decide) dX5_readsRoof_31 (gg_i 0 rfl) rfl ?_
  refine gg_if_gt (tgt := 45) (pc := 34) E dX5_readsRoof_34 (by decide) (fun c34 => ?_) (fun c34 => ?_)
  · refine gg_iconst (v := 1) (pc := 45) E dX5_readsRoof_45 (by decide) ?_
    refine gg_goto (tgt := 50) (pc := 46) E dX5_readsRoof_46 (by decide) ?_
    refine gg_topI (y := if 0 < spX (rrA b bn nr x) 20 ∨ nmI row nr (spn (rrA b bn nr x) (Ln (rrA b bn nr x))) (spS b sp (rrA b bn nr x)) = -1 then 1 else 0) (if_pos (Or.inl c34)).symm ?_
    refine gg_iconst (v := 3) (pc := 50) E dX5_readsRoof_50 (by decide) ?_
    refine gg_callV (F := [_, _]) (As := [_, _]) (rest := []) (pc := 51) E ck_X5 (ct_X5_need hl ) (cwV 2 E.2.2.2.2.1 (lw_V q3013 q3015 qs78 q179 q3016) rfl rfl rfl (by decide +kernel) ⟨by rw [hRf]; exact Nat.le_of_ble_eq_true rfl, by rw [hRl]; exact Nat.le_of_ble_eq_true rfl⟩) dX5_readsRoof_51 [0] (by decide) rfl rfl (fun _ h => by cases h) (gg_i 0 rfl) rfl rfl (Nat.le_of_ble_eq_true rfl) (by first | (rw [hRc]; exact Nat.le_of_ble_eq_true rfl) | (rw [hRc]; dsimp only; omega)) (by first | (rw [hRs]; exact Nat.le_of_ble_eq_true rfl) | (rw [hRs]; dsimp only; omega)) ?_ (fun X q C1 h => h.elim)
    rintro _ _ ⟨rfl, rfl⟩
    dsimp only [List.cons_append, List.nil_append, Option.toList]
    refine gg_aload_n (pc := 54) E dX5_readsRoof_54 rfl rfl ?_
    refine gg_callV (F := [_, _]) (As := []) (rest := []) (pc := 55) E ck_X5 (cx_X5_goesOn hl (Xi_nd (k := 3) (by decide) (Xi_sp (Xi_rrA hX)))) (cwV 0 E.2.2.2.2.1 (lw_V q2984 q2986 qs72 q179 q2987) rfl rfl rfl (by decide +kernel) ⟨by rw [hRf]; exact Nat.le_of_ble_eq_true rfl, by rw [hRl]; exact Nat.le_of_ble_eq_true rfl⟩) dX5_readsRoof_55 [0] (by decide) rfl rfl (List.forall_mem_cons.mpr ⟨(gg_r 0 rfl), (fun _ h => by cases h)⟩) (gg_i 0 rfl) rfl rfl (Nat.le_of_ble_eq_true rfl) (by first | (rw [hRc]; exact Nat.le_of_ble_eq_true rfl) | (rw [hRc]; dsimp only; omega)) (by first | (rw [hRs]; exact Nat.le_of_ble_eq_true rfl) | (rw [hRs]; dsimp only; omega)) ?_ (fun X q C1 h => h.elim)
    rintro _ _ ⟨rfl, rfl⟩
    dsimp only [List.cons_append, List.nil_append, Option.toList]
    refine gg_aload_n (pc := 58) E dX5_readsRoof_58 rfl rfl ?_
    refine gg_iconst (v := 1) (pc := 59) E dX5_readsRoof_59 (by decide) ?_
    refine gg_bipush (v := 8) (pc := 60) E dX5_readsRoof_60 (by decide) ?_
    refine gg_callV (F := [_, _]) (As := [_, _]) (rest := []) (pc := 62) E ck_X5 (cx_X5_number hl (Xi_rrB hX)) (cwV 2 E.2.2.2.2.1 (lw_V q3025 q3027 qs81 q179 q3028) rfl rfl rfl (by decide +kernel) ⟨by rw [hRf]; exact Nat.le_of_ble_eq_true rfl, by rw [hRl]; exact Nat.le_of_ble_eq_true rfl⟩) dX5_readsRoof_62 [0] (by decide) rfl rfl (List.forall_mem_cons.mpr ⟨(gg_r 0 rfl), (fun _ h => by cases h)⟩) (gg_i 0 rfl) rfl rfl (Nat.le_of_ble_eq_true rfl) (by first | (rw [hRc]; exact Nat.le_of_ble_eq_true rfl) | (rw [hRc]; dsimp only; omega)) (by first | (rw [hRs]; exact Nat.le_of_ble_eq_true rfl) | (rw [hRs]; dsimp only; omega)) ?_ (fun X q C1 h => h.elim)
    rintro _ _ ⟨rfl, rfl⟩
    dsimp only [List.cons_append, List.nil_append, Option.toList]
    refine gg_istore_n (lv' := [_, _, _, _, _]) (pc := 65) E dX5_readsRoof_65 rfl (Nat.le_of_ble_eq_true rfl) rfl rfl ?_
    refine gg_aload_n (pc := 66) E dX5_readsRoof_66 rfl rfl ?_
    refine gg_iconst (v := 0) (pc := 67) E dX5_readsRoof_67 (by decide) ?_
    refine gg_bipush (v := 9) (pc := 68) E dX5_readsRoof_68 (by decide) ?_
    refine gg_callV (F := [_, _]) (As := [_, _]) (rest := []) (pc := 70) E ck_X5 (cx_X5_number hl (Xi_num (Xi_rrB hX))) (cwV 2 E.2.2.2.2.1 (lw_V q3025 q3027 qs81 q179 q3028) rfl rfl rfl (by decide +kernel) ⟨by rw [hRf]; exact Nat.le_of_ble_eq_true rfl, by rw [hRl]; exact Nat.le_of_ble_eq_true rfl⟩) dX5_readsRoof_70 [0] (by decide) rfl rfl (List.forall_mem_cons.mpr ⟨(gg_r 0 rfl), (fun _ h => by cases h)⟩) (gg_i 0 rfl) rfl rfl (Nat.le_of_ble_eq_true rfl) (by first | (rw [hRc]; exact Nat.le_of_ble_eq_true rfl) | (rw [hRc]; dsimp only; omega)) (by first | (rw [hRs]; exact Nat.le_of_ble_eq_true rfl) | (rw [hRs]; dsimp only; omega)) ?_ (fun X q C1 h => h.elim)
    rintro _ _ ⟨rfl, rfl⟩
    dsimp only [List.cons_append, List.nil_append, Option.toList]
    refine gg_istore_n (lv' := [_, _, _, _, _]) (pc := 73) E dX5_readsRoof_73 rfl (Nat.le_of_ble_eq_true rfl) rfl rfl ?_
    refine gg_aload_n (pc := 74) E dX5_readsRoof_74 rfl rfl ?_
    refine gg_iconst (v := 0) (pc := 75) E dX5_readsRoof_75 (by decide) ?_
    refine gg_bipush (v := 9) (pc := 76) E dX5_readsRoof_76 (by decide) ?_
    refine gg_callV (F := [_, _]) (As := [_, _]) (rest := []) (pc := 78) E ck_X5 (cx_X5_number hl (Xi_num (Xi_num (Xi_rrB hX)))) (cwV 2 E.2.2.2.2.1 (lw_V q3025 q3027 qs81 q179 q3028) rfl rfl rfl (by decide +kernel) ⟨by rw [hRf]; exact Nat.le_of_ble_eq_true rfl, by rw [hRl]; exact Nat.le_of_ble_eq_true rfl⟩) dX5_readsRoof_78 [0] (by decide) rfl rfl (List.forall_mem_cons.mpr ⟨(gg_r 0 rfl), (fun _ h => by cases h)⟩) (gg_i 0 rfl) rfl rfl (Nat.le_of_ble_eq_true rfl) (by first | (rw [hRc]; exact Nat.le_of_ble_eq_true rfl) | (rw [hRc]; dsimp only; omega)) (by first | (rw [hRs]; exact Nat.le_of_ble_eq_true rfl) | (rw [hRs]; dsimp only; omega)) ?_ (fun X q C1 h => h.elim)
    rintro _ _ ⟨rfl, rfl⟩
    dsimp only [List.cons_append, List.nil_append, Option.toList]
    refine gg_istore_n (lv' := [_, _, _, _, _]) (pc := 81) E dX5_readsRoof_81 rfl (Nat.le_of_ble_eq_true rfl) rfl rfl ?_
    refine gg_aload_n (pc := 82) E dX5_readsRoof_82 rfl rfl ?_
    refine gg_iconst (v := 0) (pc := 83) E dX5_readsRoof_83 (by decide) ?_
    refine gg_sipush (v := 999) (pc := 84) E dX5_readsRoof_84 (by decide) ?_
    refine gg_callV (F := [_, _]) (As := [_, _]) (rest := []) (pc := 87) E ck_X5 (cx_X5_number hl (Xi_num (Xi_num (Xi_num (Xi_rrB hX))))) (cwV 2 E.2.2.2.2.1 (lw_V q3025 q3027 qs81 q179 q3028) rfl rfl rfl (by decide +kernel) ⟨by rw [hRf]; exact Nat.le_of_ble_eq_true rfl, by rw [hRl]; exact Nat.le_of_ble_eq_true rfl⟩) dX5_readsRoof_87 [0] (by decide) rfl rfl (List.forall_mem_cons.mpr ⟨(gg_r 0 rfl), (fun _ h => by cases h)⟩) (gg_i 0 rfl) rfl rfl (Nat.le_of_ble_eq_true rfl) (by first | (rw [hRc]; exact Nat.le_of_ble_eq_true rfl) | (rw [hRc]; dsimp only; omega)) (by first | (rw [hRs]; exact Nat.le_of_ble_eq_true rfl) | (rw [hRs]; dsimp only; omega)) ?_ (fun X q C1 h => h.elim)
    rintro _ _ ⟨rfl, rfl⟩
    dsimp only [List.cons_append, List.nil_append, Option.toList]
    refine gg_istore (lv' := [_, _, _, _, _]) (pc := 90) E dX5_readsRoof_90 (Nat.le_of_ble_eq_true rfl) rfl rfl ?_
    refine gg_aload_n (pc := 92) E dX5_readsRoof_92 rfl rfl ?_
    refine gg_get (pc := 93) E ck_X5 20 q2879 rfl (by decide) dX5_readsRoof_93 (gg_i 0 rfl) rfl ?_
    refine gg_if_ne (tgt := 108) (pc := 96) E dX5_readsRoof_96 (by decide) (fun c96 => ?_) (fun c96 => ?_)
    · refine gg_vret (pc := 108) E Fn rfl dX5_readsRoof_108 (by first | exact Nat.le_of_ble_eq_true rfl | (dsimp only; omega)) (by first | exact Nat.le_of_ble_eq_true rfl | (dsimp only; omega)) ?_
      exact ⟨rfl, by unfold rrR; rw [if_neg (show ¬ rrX row nr b bn sp x 20 = 0 from c96)]; rfl⟩
    · have hlt := (rr_0 (show rrX row nr b bn sp x 20 = 0 from c96)).2.1
      refine gg_aload_n (pc := 99) E dX5_readsRoof_99 rfl rfl ?_
      refine gg_iload_n (pc := 100) E dX5_readsRoof_100 rfl rfl ?_
      refine gg_iload_n (pc := 101) E dX5_readsRoof_101 rfl rfl ?_
      refine gg_iload_n (pc := 102) E dX5_readsRoof_102 rfl rfl ?_
      refine gg_iload (pc := 103) E dX5_readsRoof_103 rfl ?_
      refine gg_callV (F := [_, _]) (As := [_, _, _, _]) (rest := []) (pc := 105) E ck_X5 (ct_X5_newRoof (nr := nr) (len := spn (rrA b bn nr x) (Ln (rrA b bn nr x))) hl hnr hlt (show rrX row nr b bn sp x 8 = _ from rr_8) spn_6.1) (cwV 4 E.2.2.2.2.1 (lw_V q2845 q2847 qs67 q179 q2848) rfl rfl rfl (by decide +kernel) ⟨by rw [hRf]; exact Nat.le_of_ble_eq_true rfl, by rw [hRl]; exact Nat.le_of_ble_eq_true rfl⟩) dX5_readsRoof_105 [1] (by decide) rfl rfl (List.forall_mem_cons.mpr ⟨(gg_i 0 rfl), (List.forall_mem_cons.mpr ⟨(gg_i 1 rfl), (fun _ h => by cases h)⟩)⟩) (gg_i 0 rfl) rfl rfl (Nat.le_of_ble_eq_true rfl) (by first | (rw [hRc]; exact Nat.le_of_ble_eq_true rfl) | (rw [hRc]; dsimp only; omega)) (by first | (rw [hRs]; exact Nat.le_of_ble_eq_true rfl) | (rw [hRs]; dsimp only; omega)) ?_ (fun X q C1 h => h.elim)
      rintro _ _ ⟨rfl, rfl⟩
      dsimp only [List.cons_append, List.nil_append, Option.toList]
      refine gg_up1 ?_
      refine gg_vret (pc := 108) E Fn rfl dX5_readsRoof_108 (by first | exact Nat.le_of_ble_eq_true rfl | (dsimp only; omega)) (by first | exact Nat.le_of_ble_eq_true rfl | (dsimp only; omega)) ?_
      exact ⟨rfl, by unfold rrR; rw [if_pos (show rrX row nr b bn sp x 20 = 0 from c96)]; rfl⟩
  · refine gg_aload_n (pc := 37) E dX5_readsRoof_37 rfl rfl ?_
    refine gg_callV (F := [_, _, _]) (As := []) (rest := [_]) (pc := 38) E ck_X5 (ct_X5_named hl (hnr) (hr10) (pk_us) (spn_6.1)) (cwV 0 E.2.2.2.2.1 (lw_V q3021 q3023 qs80 q179 q3024) rfl rfl rfl (by decide +kernel) ⟨by rw [hRf]; exact Nat.le_of_ble_eq_true rfl, by rw [hRl]; exact Nat.le_of_ble_eq_true rfl⟩) dX5_readsRoof_38 [] (by decide) rfl rfl (List.forall_mem_cons.mpr ⟨(gg_i 0 rfl), (List.forall_mem_cons.mpr ⟨(gg_i 1 rfl), (List.forall_mem_cons.mpr ⟨(gg_i 2 rfl), (fun _ h => by cases h)⟩)⟩)⟩) (gg_i 0 rfl) rfl rfl (Nat.le_of_ble_eq_true rfl) (by first | (rw [hRc]; exact Nat.le_of_ble_eq_true rfl) | (rw [hRc]; dsimp only; omega)) (by first | (rw [hRs]; exact Nat.le_of_ble_eq_true rfl) | (rw [hRs]; dsimp only; omega)) ?_ (fun X q C1 h => h.elim)
    rintro _ _ ⟨rfl, rfl⟩
    dsimp only [List.cons_append, List.nil_append, Option.toList]
    refine gg_iconst (v := (-1)) (pc := 41) E dX5_readsRoof_41 (by decide) ?_
    refine gg_icmpB_ne (pc := 42) E dX5_readsRoof_42 dX5_readsRoof_45 dX5_readsRoof_46 dX5_readsRoof_49 ?_
    refine gg_topI (y := if 0 < spX (rrA b bn nr x) 20 ∨ nmI row nr (spn (rrA b bn nr x) (Ln (rrA b bn nr x))) (spS b sp (rrA b bn nr x)) = -1 then 1 else 0) (gg_ifc ⟨fun q => Or.inr q, fun q => q.resolve_left c34⟩) ?_
    refine gg_iconst (v := 3) (pc := 50) E dX5_readsRoof_50 (by decide) ?_
    refine gg_callV (F := [_, _]) (As := [_, _]) (rest := []) (pc := 51) E ck_X5 (ct_X5_need hl ) (cwV 2 E.2.2.2.2.1 (lw_V q3013 q3015 qs78 q179 q3016) rfl rfl rfl (by decide +kernel) ⟨by rw [hRf]; exact Nat.le_of_ble_eq_true rfl, by rw [hRl]; exact Nat.le_of_ble_eq_true rfl⟩) dX5_readsRoof_51 [0] (by decide) rfl rfl (fun _ h => by cases h) (gg_i 0 rfl) rfl rfl (Nat.le_of_ble_eq_true rfl) (by first | (rw [hRc]; exact Nat.le_of_ble_eq_true rfl) | (rw [hRc]; dsimp only; omega)) (by first | (rw [hRs]; exact Nat.le_of_ble_eq_true rfl) | (rw [hRs]; dsimp only; omega)) ?_ (fun X q C1 h => h.elim)
    rintro _ _ ⟨rfl, rfl⟩
    dsimp only [List.cons_append, List.nil_append, Option.toList]
    refine gg_aload_n (pc := 54) E dX5_readsRoof_54 rfl rfl ?_
    refine gg_callV (F := [_, _]) (As := []) (rest := []) (pc := 55) E ck_X5 (cx_X5_goesOn hl (Xi_nd (k := 3) (by decide) (Xi_sp (Xi_rrA hX)))) (cwV 0 E.2.2.2.2.1 (lw_V q2984 q2986 qs72 q179 q2987) rfl rfl rfl (by decide +kernel) ⟨by rw [hRf]; exact Nat.le_of_ble_eq_true rfl, by rw [hRl]; exact Nat.le_of_ble_eq_true rfl⟩) dX5_readsRoof_55 [0] (by decide) rfl rfl (List.forall_mem_cons.mpr ⟨(gg_r 0 rfl), (fun _ h => by cases h)⟩) (gg_i 0 rfl) rfl rfl (Nat.le_of_ble_eq_true rfl) (by first | (rw [hRc]; exact Nat.le_of_ble_eq_true rfl) | (rw [hRc]; dsimp only; omega)) (by first | (rw [hRs]; exact Nat.le_of_ble_eq_true rfl) | (rw [hRs]; dsimp only; omega)) ?_ (fun X q C1 h => h.elim)
    rintro _ _ ⟨rfl, rfl⟩
    dsimp only [List.cons_append, List.nil_append, Option.toList]
    refine gg_aload_n (pc := 58) E dX5_readsRoof_58 rfl rfl ?_
    refine gg_iconst (v := 1) (pc := 59) E dX5_readsRoof_59 (by decide) ?_
    refine gg_bipush (v := 8) (pc := 60) E dX5_readsRoof_60 (by decide) ?_
    refine gg_callV (F := [_, _]) (As := [_, _]) (rest := []) (pc := 62) E ck_X5 (cx_X5_number hl (Xi_rrB hX)) (cwV 2 E.2.2.2.2.1 (lw_V q3025 q3027 qs81 q179 q3028) rfl rfl rfl (by decide +kernel) ⟨by rw [hRf]; exact Nat.le_of_ble_eq_true rfl, by rw [hRl]; exact Nat.le_of_ble_eq_true rfl⟩) dX5_readsRoof_62 [0] (by decide) rfl rfl (List.forall_mem_cons.mpr ⟨(gg_r 0 rfl), (fun _ h => by cases h)⟩) (gg_i 0 rfl) rfl rfl (Nat.le_of_ble_eq_true rfl) (by first | (rw [hRc]; exact Nat.le_of_ble_eq_true rfl) | (rw [hRc]; dsimp only; omega)) (by first | (rw [hRs]; exact Nat.le_of_ble_eq_true rfl) | (rw [hRs]; dsimp only; omega)) ?_ (fun X q C1 h => h.elim)
    rintro _ _ ⟨rfl, rfl⟩
    dsimp only [List.cons_append, List.nil_append, Option.toList]
    refine gg_istore_n (lv' := [_, _, _, _, _]) (pc := 65) E dX5_readsRoof_65 rfl (Nat.le_of_ble_eq_true rfl) rfl rfl ?_
    refine gg_aload_n (pc := 66) E dX5_readsRoof_66 rfl rfl ?_
    refine gg_iconst (v := 0) (pc := 67) E dX5_readsRoof_67 (by decide) ?_
    refine gg_bipush (v := 9) (pc := 68) E dX5_readsRoof_68 (by decide) ?_
    refine gg_callV (F := [_, _]) (As := [_, _]) (rest := []) (pc := 70) E ck_X5 (cx_X5_number hl (Xi_num (Xi_rrB hX))) (cwV 2 E.2.2.2.2.1 (lw_V q3025 q3027 qs81 q179 q3028) rfl rfl rfl (by decide +kernel) ⟨by rw [hRf]; exact Nat.le_of_ble_eq_true rfl, by rw [hRl]; exact Nat.le_of_ble_eq_true rfl⟩) dX5_readsRoof_70 [0] (by decide) rfl rfl (List.forall_mem_cons.mpr ⟨(gg_r 0 rfl), (fun _ h => by cases h)⟩) (gg_i 0 rfl) rfl rfl (Nat.le_of_ble_eq_true rfl) (by first | (rw [hRc]; exact Nat.le_of_ble_eq_true rfl) | (rw [hRc]; dsimp only; omega)) (by first | (rw [hRs]; exact Nat.le_of_ble_eq_true rfl) | (rw [hRs]; dsimp only; omega)) ?_ (fun X q C1 h => h.elim)
    rintro _ _ ⟨rfl, rfl⟩
    dsimp only [List.cons_append, List.nil_append, Option.toList]
    refine gg_istore_n (lv' := [_, _, _, _, _]) (pc := 73) E dX5_readsRoof_73 rfl (Nat.le_of_ble_eq_true rfl) rfl rfl ?_
    refine gg_aload_n (pc := 74) E dX5_readsRoof_74 rfl rfl ?_
    refine gg_iconst (v := 0) (pc := 75) E dX5_readsRoof_75 (by decide) ?_
    refine gg_bipush (v := 9) (pc := 76) E dX5_readsRoof_76 (by decide) ?_
    refine gg_callV (F := [_, _]) (As := [_, _]) (rest := []) (pc := 78) E ck_X5 (cx_X5_number hl (Xi_num (Xi_num (Xi_rrB hX)))) (cwV 2 E.2.2.2.2.1 (lw_V q3025 q3027 qs81 q179 q3028) rfl rfl rfl (by decide +kernel) ⟨by rw [hRf]; exact Nat.le_of_ble_eq_true rfl, by rw [hRl]; exact Nat.le_of_ble_eq_true rfl⟩) dX5_readsRoof_78 [0] (by decide) rfl rfl (List.forall_mem_cons.mpr ⟨(gg_r 0 rfl), (fun _ h => by cases h)⟩) (gg_i 0 rfl) rfl rfl (Nat.le_of_ble_eq_true rfl) (by first | (rw [hRc]; exact Nat.le_of_ble_eq_true rfl) | (rw [hRc]; dsimp only; omega)) (by first | (rw [hRs]; exact Nat.le_of_ble_eq_true rfl) | (rw [hRs]; dsimp only; omega)) ?_ (fun X q C1 h => h.elim)
    rintro _ _ ⟨rfl, rfl⟩
    dsimp only [List.cons_append, List.nil_append, Option.toList]
    refine gg_istore_n (lv' := [_, _, _, _, _]) (pc := 81) E dX5_readsRoof_81 rfl (Nat.le_of_ble_eq_true rfl) rfl rfl ?_
    refine gg_aload_n (pc := 82) E dX5_readsRoof_82 rfl rfl ?_
    refine gg_iconst (v := 0) (pc := 83) E dX5_readsRoof_83 (by decide) ?_
    refine gg_sipush (v := 999) (pc := 84) E dX5_readsRoof_84 (by decide) ?_
    refine gg_callV (F := [_, _]) (As := [_, _]) (rest := []) (pc := 87) E ck_X5 (cx_X5_number hl (Xi_num (Xi_num (Xi_num (Xi_rrB hX))))) (cwV 2 E.2.2.2.2.1 (lw_V q3025 q3027 qs81 q179 q3028) rfl rfl rfl (by decide +kernel) ⟨by rw [hRf]; exact Nat.le_of_ble_eq_true rfl, by rw [hRl]; exact Nat.le_of_ble_eq_true rfl⟩) dX5_readsRoof_87 [0] (by decide) rfl rfl (List.forall_mem_cons.mpr ⟨(gg_r 0 rfl), (fun _ h => by cases h)⟩) (gg_i 0 rfl) rfl rfl (Nat.le_of_ble_eq_true rfl) (by first | (rw [hRc]; exact Nat.le_of_ble_eq_true rfl) | (rw [hRc]; dsimp only; omega)) (by first | (rw [hRs]; exact Nat.le_of_ble_eq_true rfl) | (rw [hRs]; dsimp only; omega)) ?_ (fun X q C1 h => h.elim)
    rintro _ _ ⟨rfl, rfl⟩
    dsimp only [List.cons_append, List.nil_append, Option.toList]
    refine gg_istore (lv' := [_, _, _, _, _]) (pc := 90) E dX5_readsRoof_90 (Nat.le_of_ble_eq_true rfl) rfl rfl ?_
    refine gg_aload_n (pc := 92) E dX5_readsRoof_92 rfl rfl ?_
    refine gg_get (pc := 93) E ck_X5 20 q2879 rfl (by decide) dX5_readsRoof_93 (gg_i 0 rfl) rfl ?_
    refine gg_if_ne (tgt := 108) (pc := 96) E dX5_readsRoof_96 (by decide) (fun c96 => ?_) (fun c96 => ?_)
    · refine gg_vret (pc := 108) E Fn rfl dX5_readsRoof_108 (by first | exact Nat.le_of_ble_eq_true rfl | (dsimp only; omega)) (by first | exact Nat.le_of_ble_eq_true rfl | (dsimp only; omega)) ?_
      exact ⟨rfl, by unfold rrR; rw [if_neg (show ¬ rrX row nr b bn sp x 20 = 0 from c96)]; rfl⟩
    · have hlt := (rr_0 (show rrX row nr b bn sp x 20 = 0 from c96)).2.1
      refine gg_aload_n (pc := 99) E dX5_readsRoof_99 rfl rfl ?_
      refine gg_iload_n (pc := 100) E dX5_readsRoof_100 rfl rfl ?_
      refine gg_iload_n (pc := 101) E dX5_readsRoof_101 rfl rfl ?_
      refine gg_iload_n (pc := 102) E dX5_readsRoof_102 rfl rfl ?_
      refine gg_iload (pc := 103) E dX5_readsRoof_103 rfl ?_
      refine gg_callV (F := [_, _]) (As := [_, _, _, _]) (rest := []) (pc := 105) E ck_X5 (ct_X5_newRoof (nr := nr) (len := spn (rrA b bn nr x) (Ln (rrA b bn nr x))) hl hnr hlt (show rrX row nr b bn sp x 8 = _ from rr_8) spn_6.1) (cwV 4 E.2.2.2.2.1 (lw_V q2845 q2847 qs67 q179 q2848) rfl rfl rfl (by decide +kernel) ⟨by rw [hRf]; exact Nat.le_of_ble_eq_true rfl, by rw [hRl]; exact Nat.le_of_ble_eq_true rfl⟩) dX5_readsRoof_105 [1] (by decide) rfl rfl (List.forall_mem_cons.mpr ⟨(gg_i 0 rfl), (List.forall_mem_cons.mpr ⟨(gg_i 1 rfl), (fun _ h => by cases h)⟩)⟩) (gg_i 0 rfl) rfl rfl (Nat.le_of_ble_eq_true rfl) (by first | (rw [hRc]; exact Nat.le_of_ble_eq_true rfl) | (rw [hRc]; dsimp only; omega)) (by first | (rw [hRs]; exact Nat.le_of_ble_eq_true rfl) | (rw [hRs]; dsimp only; omega)) ?_ (fun X q C1 h => h.elim)
      rintro _ _ ⟨rfl, rfl⟩
      dsimp only [List.cons_append, List.nil_append, Option.toList]
      refine gg_up1 ?_
      refine gg_vret (pc := 108) E Fn rfl dX5_readsRoof_108 (by first | exact Nat.le_of_ble_eq_true rfl | (dsimp only; omega)) (by first | exact Nat.le_of_ble_eq_true rfl | (dsimp only; omega)) ?_
      exact ⟨rfl, by unfold rrR; rw [if_pos (show rrX row nr b bn sp x 20 = 0 from c96)]; rfl⟩
set_option maxHeartbeats 4000000 in
theorem ct_X5_readsWay {l : Launch} (hl : l.stackTraces = false) {g : gg_G}  {h : Nat} {ad : Nat → Nat} {x : Nat → Int32} {row : Nat → Int32} {b sp : Nat → Int32} {bn nr nw : Nat} (hnr : row 0 = nI nr) (hr10 : nr ≤ 10) (hnw : row 1 = nI nw) (hw20 : nw ≤ 20) (hX : Xi bn x) : gg_C l g yX5_readsWay (ws_ yX5_readsWay cX5_readsWay 4 none) { frames := 4, cells := 0, slots := 0, locals := 89 } [.ref h] [((ad 12), gg_ab g 800 b)] [[(h, .inl (4, mo_f ad x))], [((ad 0), gg_ai g 1030 row)], [((ad 7), gg_ai g 6 sp)]] (fun vv CC => vv = none ∧ CC = [[(h, .inl (4, mo_f ad (rwX row nr nw b bn sp x)))], [((ad 0), gg_ai g 1030 (rwR row nr nw b bn sp x))], [((ad 7), gg_ai g 6 (rwS row nr nw b bn sp x))]]) gg_no := by
  refine gg_of (lv := [_, _, _, _]) (by decide) hl (Nat.le_of_ble_eq_true rfl) rfl ?_
  intro p e R s m args below meth c A Q hRf hRl hRc hRs E Fn hnm hex
  refine gg_aload_n (pc := 0) E dX5_readsWay_0 rfl rfl ?_
  refine gg_aload_n (pc := 1) E dX5_readsWay_1 rfl rfl ?_
  refine gg_get (pc := 2) E ck_X5 0 q2859 rfl (by decide) dX5_readsWay_2 (gg_i 0 rfl) rfl ?_
  refine gg_iconst (v := 1) (pc := 5) E dX5_readsWay_5 (by decide) ?_
  refine gg_ialdN (pc := 6) E 1 rfl (by omega) (by omega) dX5_readsWay_6 (gg_i 1 rfl) ?_
  rw [hnw]
  refine gg_bipush (v := 20) (pc := 7) E dX5_readsWay_7 (by decide) ?_
  refine gg_icmpB_ge (pc := 9) E dX5_readsWay_9 dX5_readsWay_12 dX5_readsWay_13 dX5_readsWay_16 ?_
  refine gg_topI (y := if nw < 20 then 1 else 0) (gg_ifc (by rw [show (20 : Int32) = nI 20 from rfl, nI_leI (by omega) (by omega)]; omega)) ?_
  refine gg_iconst (v := 5) (pc := 17) E dX5_readsWay_17 (by decide) ?_
  refine gg_callV (F := [_, _]) (As := [_, _]) (rest := []) (pc := 18) E ck_X5 (ct_X5_need hl ) (cwV 2 E.2.2.2.2.1 (lw_V q3013 q3015 qs78 q179 q3016) rfl rfl rfl (by decide +kernel) ⟨by rw [hRf]; exact Nat.le_of_ble_eq_true rfl, by rw [hRl]; exact Nat.le_of_ble_eq_true rfl⟩) dX5_readsWay_18 [0] (by decide) rfl rfl (fun _ h => by cases h) (gg_i 0 rfl) rfl rfl (Nat.le_of_ble_eq_true rfl) (by first | (rw [hRc]; exact Nat.le_of_ble_eq_true rfl) | (rw [hRc]; dsimp only; omega)) (by first | (rw [hRs]; exact Nat.le_of_ble_eq_true rfl) | (rw [hRs]; dsimp only; omega)) ?_ (fun X q C1 h => h.elim)
  rintro _ _ ⟨rfl, rfl⟩
  dsimp only [List.cons_append, List.nil_append, Option.toList]
  refine gg_aload_n (pc := 21) E dX5_readsWay_21 rfl rfl ?_
  refine gg_callV (F := [_, _]) (As := []) (rest := []) (pc := 22) E ck_X5 (cx_X5_goesOn hl (Xi_nd (k := 5) (by decide) hX)) (cwV 0 E.2.2.2.2.1 (lw_V q2984 q2986 qs72 q179 q2987) rfl rfl rfl (by decide +kernel) ⟨by rw [hRf]; exact Nat.le_of_ble_eq_true rfl, by rw [hRl]; exact Nat.le_of_ble_eq_true rfl⟩) dX5_readsWay_22 [0] (by decide) rfl rfl (List.forall_mem_cons.mpr ⟨(gg_r 0 rfl), (fun _ h => by cases h)⟩) (gg_i 0 rfl) rfl rfl (Nat.le_of_ble_eq_true rfl) (by first | (rw [hRc]; exact Nat.le_of_ble_eq_true rfl) | (rw [hRc]; dsimp only; omega)) (by first | (rw [hRs]; exact Nat.le_of_ble_eq_true rfl) | (rw [hRs]; dsimp only; omega)) ?_ (fun X q C1 h => h.elim)
  rintro _ _ ⟨rfl, rfl⟩
  dsimp only [List.cons_append, List.nil_append, Option.toList]
  refine gg_aload_n (pc := 25) E dX5_readsWay_25 rfl rfl ?_
  refine gg_iconst (v := (-1)) (pc := 26) E dX5_readsWay_26 (by decide) ?_
  refine gg_callV (F := [_]) (As := [_]) (rest := []) (pc := 27) E ck_X5 (cx_X5_roofOfText hl hnr hr10 (Xi_rwA hX)) (cwV 1 E.2.2.2.2.1 (lw_V q3038 q3040 qs84 q179 q3041) rfl rfl rfl (by decide +kernel) ⟨by rw [hRf]; exact Nat.le_of_ble_eq_true rfl, by rw [hRl]; exact Nat.le_of_ble_eq_true rfl⟩) dX5_readsWay_27 [0, 2] (by decide) rfl rfl (List.forall_mem_cons.mpr ⟨(gg_i 0 rfl), (List.forall_mem_cons.mpr ⟨(gg_r 0 rfl), (fun _ h => by cases h)⟩)⟩) (gg_i 0 rfl) rfl rfl (Nat.le_of_ble_eq_true rfl) (by first | (rw [hRc]; exact Nat.le_of_ble_eq_true rfl) | (rw [hRc]; dsimp only; omega)) (by first | (rw [hRs]; exact Nat.le_of_ble_eq_true rfl) | (rw [hRs]; dsimp only; omega)) ?_ (fun X q C1 h => h.elim)
  rintro _ _ ⟨rfl, rfl⟩
  dsimp only [List.cons_append, List.nil_append, Option.toList]
  refine gg_up1 ?_
  refine gg_up2 ?_
  refine gg_istore_n (lv' := [_, _, _, _]) (pc := 30) E dX5_readsWay_30 rfl (Nat.le_of_ble_eq_true rfl) rfl rfl ?_
  refine gg_aload_n (pc := 31) E dX5_readsWay_31 rfl rfl ?_
  refine gg_iload_n (pc := 32) E dX5_readsWay_32 rfl rfl ?_
  refine gg_callV (F := [_]) (As := [_]) (rest := []) (pc := 33) E ck_X5 (cx_X5_roofHere hl hnr hr10 (Xi_rt (Xi_rwA hX))) (cwV 1 E.2.2.2.2.1 (lw_V q3042 q3044 qs85 q179 q3045) rfl rfl rfl (by decide +kernel) ⟨by rw [hRf]; exact Nat.le_of_ble_eq_true rfl, by rw [hRl]; exact Nat.le_of_ble_eq_true rfl⟩) dX5_readsWay_33 [0, 2] (by decide) rfl rfl (List.forall_mem_cons.mpr ⟨(gg_i 0 rfl), (List.forall_mem_cons.mpr ⟨(gg_r 0 rfl), (fun _ h => by cases h)⟩)⟩) (gg_i 0 rfl) rfl rfl (Nat.le_of_ble_eq_true rfl) (by first | (rw [hRc]; exact Nat.le_of_ble_eq_true rfl) | (rw [hRc]; dsimp only; omega)) (by first | (rw [hRs]; exact Nat.le_of_ble_eq_true rfl) | (rw [hRs]; dsimp only; omega)) ?_ (fun X q C1 h => h.elim)
  rintro _ _ ⟨rfl, rfl⟩
  dsimp only [List.cons_append, List.nil_append, Option.toList]
  refine gg_up1 ?_
  refine gg_up2 ?_
  refine gg_istore_n (lv' := [_, _, _, _]) (pc := 36) E dX5_readsWay_36 rfl (Nat.le_of_ble_eq_true rfl) rfl rfl ?_
  refine gg_aload_n (pc := 37) E dX5_readsWay_37 rfl rfl ?_
  refine gg_aload_n (pc := 38) E dX5_readsWay_38 rfl rfl ?_
  refine gg_get (pc := 39) E ck_X5 20 q2879 rfl (by decide) dX5_readsWay_39 (gg_i 0 rfl) rfl ?_
  refine gg_if_gt (tgt := 55) (pc := 42) E dX5_readsWay_42 (by decide) (fun c42 => ?_) (fun c42 => ?_)
  · refine gg_iconst (v := 1) (pc := 55) E dX5_readsWay_55 (by decide) ?_
    refine gg_goto (tgt := 60) (pc := 56) E dX5_readsWay_56 (by decide) ?_
    refine gg_topI (y := if 0 < (rwC row nr nw b bn sp x) 20 ∨ wyI row nw (rwa row nr nw b bn sp x) (rwb row nr nw b bn sp x) = -1 then 1 else 0) (if_pos (Or.inl c42)).symm ?_
    refine gg_iconst (v := 4) (pc := 60) E dX5_readsWay_60 (by decide) ?_
    refine gg_callV (F := [_, _]) (As := [_, _]) (rest := []) (pc := 61) E ck_X5 (ct_X5_need hl ) (cwV 2 E.2.2.2.2.1 (lw_V q3013 q3015 qs78 q179 q3016) rfl rfl rfl (by decide +kernel) ⟨by rw [hRf]; exact Nat.le_of_ble_eq_true rfl, by rw [hRl]; exact Nat.le_of_ble_eq_true rfl⟩) dX5_readsWay_61 [0] (by decide) rfl rfl (fun _ h => by cases h) (gg_i 0 rfl) rfl rfl (Nat.le_of_ble_eq_true rfl) (by first | (rw [hRc]; exact Nat.le_of_ble_eq_true rfl) | (rw [hRc]; dsimp only; omega)) (by first | (rw [hRs]; exact Nat.le_of_ble_eq_true rfl) | (rw [hRs]; dsimp only; omega)) ?_ (fun X q C1 h => h.elim)
    rintro _ _ ⟨rfl, rfl⟩
    dsimp only [List.cons_append, List.nil_append, Option.toList]
    refine gg_aload_n (pc := 64) E dX5_readsWay_64 rfl rfl ?_
    refine gg_callV (F := [_, _]) (As := []) (rest := []) (pc := 65) E ck_X5 (cx_X5_goesOn hl (Xi_nd (k := 4) (by decide) (Xi_rwC hX))) (cwV 0 E.2.2.2.2.1 (lw_V q2984 q2986 qs72 q179 q2987) rfl rfl rfl (by decide +kernel) ⟨by rw [hRf]; exact Nat.le_of_ble_eq_true rfl, by rw [hRl]; exact Nat.le_of_ble_eq_true rfl⟩) dX5_readsWay_65 [0] (by decide) rfl rfl (List.forall_mem_cons.mpr ⟨(gg_r 0 rfl), (fun _ h => by cases h)⟩) (gg_i 0 rfl) rfl rfl (Nat.le_of_ble_eq_true rfl) (by first | (rw [hRc]; exact Nat.le_of_ble_eq_true rfl) | (rw [hRc]; dsimp only; omega)) (by first | (rw [hRs]; exact Nat.le_of_ble_eq_true rfl) | (rw [hRs]; dsimp only; omega)) ?_ (fun X q C1 h => h.elim)
    rintro _ _ ⟨rfl, rfl⟩
    dsimp only [List.cons_append, List.nil_append, Option.toList]
    refine gg_aload_n (pc := 68) E dX5_readsWay_68 rfl rfl ?_
    refine gg_iconst (v := 1) (pc := 69) E dX5_readsWay_69 (by decide) ?_
    refine gg_bipush (v := 9) (pc := 70) E dX5_readsWay_70 (by decide) ?_
    refine gg_callV (F := [_, _]) (As := [_, _]) (rest := []) (pc := 72) E ck_X5 (cx_X5_number hl (Xi_rwD hX)) (cwV 2 E.2.2.2.2.1 (lw_V q3025 q3027 qs81 q179 q3028) rfl rfl rfl (by decide +kernel) ⟨by rw [hRf]; exact Nat.le_of_ble_eq_true rfl, by rw [hRl]; exact Nat.le_of_ble_eq_true rfl⟩) dX5_readsWay_72 [0] (by decide) rfl rfl (List.forall_mem_cons.mpr ⟨(gg_r 0 rfl), (fun _ h => by cases h)⟩) (gg_i 0 rfl) rfl rfl (Nat.le_of_ble_eq_true rfl) (by first | (rw [hRc]; exact Nat.le_of_ble_eq_true rfl) | (rw [hRc]; dsimp only; omega)) (by first | (rw [hRs]; exact Nat.le_of_ble_eq_true rfl) | (rw [hRs]; dsimp only; omega)) ?_ (fun X q C1 h => h.elim)
    rintro _ _ ⟨rfl, rfl⟩
    dsimp only [List.cons_append, List.nil_append, Option.toList]
    refine gg_istore_n (lv' := [_, _, _, _]) (pc := 75) E dX5_readsWay_75 rfl (Nat.le_of_ble_eq_true rfl) rfl rfl ?_
    refine gg_aload_n (pc := 76) E dX5_readsWay_76 rfl rfl ?_
    refine gg_get (pc := 77) E ck_X5 20 q2879 rfl (by decide) dX5_readsWay_77 (gg_i 0 rfl) rfl ?_
    refine gg_if_ne (tgt := 90) (pc := 80) E dX5_readsWay_80 (by decide) (fun c80 => ?_) (fun c80 => ?_)
    · refine gg_vret (pc := 90) E Fn rfl dX5_readsWay_90 (by first | exact Nat.le_of_ble_eq_true rfl | (dsimp only; omega)) (by first | exact Nat.le_of_ble_eq_true rfl | (dsimp only; omega)) ?_
      exact ⟨rfl, by unfold rwR; rw [if_neg (show ¬ (rwX row nr nw b bn sp x) 20 = 0 from c80)]; rfl⟩
    · have hlt := (rw_0 (show (rwX row nr nw b bn sp x) 20 = 0 from c80)).2.1
      refine gg_aload_n (pc := 83) E dX5_readsWay_83 rfl rfl ?_
      refine gg_iload_n (pc := 84) E dX5_readsWay_84 rfl rfl ?_
      refine gg_iload_n (pc := 85) E dX5_readsWay_85 rfl rfl ?_
      refine gg_iload_n (pc := 86) E dX5_readsWay_86 rfl rfl ?_
      refine gg_callV (F := [_, _]) (As := [_, _, _]) (rest := []) (pc := 87) E ck_X5 (ct_X5_newWay hl (hnw) (hlt)) (cwV 3 E.2.2.2.2.1 (lw_V q2852 q2854 qs68 q179 q2855) rfl rfl rfl (by decide +kernel) ⟨by rw [hRf]; exact Nat.le_of_ble_eq_true rfl, by rw [hRl]; exact Nat.le_of_ble_eq_true rfl⟩) dX5_readsWay_87 [1] (by decide) rfl rfl (List.forall_mem_cons.mpr ⟨(gg_i 0 rfl), (fun _ h => by cases h)⟩) (gg_i 0 rfl) rfl rfl (Nat.le_of_ble_eq_true rfl) (by first | (rw [hRc]; exact Nat.le_of_ble_eq_true rfl) | (rw [hRc]; dsimp only; omega)) (by first | (rw [hRs]; exact Nat.le_of_ble_eq_true rfl) | (rw [hRs]; dsimp only; omega)) ?_ (fun X q C1 h => h.elim)
      rintro _ _ ⟨rfl, rfl⟩
      dsimp only [List.cons_append, List.nil_append, Option.toList]
      refine gg_up1 ?_
      refine gg_vret (pc := 90) E Fn rfl dX5_readsWay_90 (by first | exact Nat.le_of_ble_eq_true rfl | (dsimp only; omega)) (by first | exact Nat.le_of_ble_eq_true rfl | (dsimp only; omega)) ?_
      exact ⟨rfl, by unfold rwR; rw [if_pos (show  (rwX row nr nw b bn sp x) 20 = 0 from c80)]; rfl⟩
  · refine gg_aload_n (pc := 45) E dX5_readsWay_45 rfl rfl ?_
    refine gg_iload_n (pc := 46) E dX5_readsWay_46 rfl rfl ?_
    refine gg_iload_n (pc := 47) E dX5_readsWay_47 rfl rfl ?_
    refine gg_callV (F := [_, _, _]) (As := [_, _]) (rest := [_]) (pc := 48) E ck_X5 (ct_X5_wayBetween hl (hnw) (hw20)) (cwV 2 E.2.2.2.2.1 (lw_V q3047 q3049 qs86 q179 q3050) rfl rfl rfl (by decide +kernel) ⟨by rw [hRf]; exact Nat.le_of_ble_eq_true rfl, by rw [hRl]; exact Nat.le_of_ble_eq_true rfl⟩) dX5_readsWay_48 [] (by decide) rfl rfl (List.forall_mem_cons.mpr ⟨(gg_i 0 rfl), (List.forall_mem_cons.mpr ⟨(gg_i 1 rfl), (fun _ h => by cases h)⟩)⟩) (gg_i 0 rfl) rfl rfl (Nat.le_of_ble_eq_true rfl) (by first | (rw [hRc]; exact Nat.le_of_ble_eq_true rfl) | (rw [hRc]; dsimp only; omega)) (by first | (rw [hRs]; exact Nat.le_of_ble_eq_true rfl) | (rw [hRs]; dsimp only; omega)) ?_ (fun X q C1 h => h.elim)
    rintro _ _ ⟨rfl, rfl⟩
    dsimp only [List.cons_append, List.nil_append, Option.toList]
    refine gg_iconst (v := (-1)) (pc := 51) E dX5_readsWay_51 (by decide) ?_
    refine gg_icmpB_ne (pc := 52) E dX5_readsWay_52 dX5_readsWay_55 dX5_readsWay_56 dX5_readsWay_59 ?_
    refine gg_topI (y := if 0 < (rwC row nr nw b bn sp x) 20 ∨ wyI row nw (rwa row nr nw b bn sp x) (rwb row nr nw b bn sp x) = -1 then 1 else 0) (gg_ifc ⟨fun q => Or.inr q, fun q => q.resolve_left c42⟩) ?_
    refine gg_iconst (v := 4) (pc := 60) E dX5_readsWay_60 (by decide) ?_
    refine gg_callV (F := [_, _]) (As := [_, _]) (rest := []) (pc := 61) E ck_X5 (ct_X5_need hl ) (cwV 2 E.2.2.2.2.1 (lw_V q3013 q3015 qs78 q179 q3016) rfl rfl rfl (by decide +kernel) ⟨by rw [hRf]; exact Nat.le_of_ble_eq_true rfl, by rw [hRl]; exact Nat.le_of_ble_eq_true rfl⟩) dX5_readsWay_61 [0] (by decide) rfl rfl (fun _ h => by cases h) (gg_i 0 rfl) rfl rfl (Nat.le_of_ble_eq_true rfl) (by first | (rw [hRc]; exact Nat.le_of_ble_eq_true rfl) | (rw [hRc]; dsimp only; omega)) (by first | (rw [hRs]; exact Nat.le_of_ble_eq_true rfl) | (rw [hRs]; dsimp only; omega)) ?_ (fun X q C1 h => h.elim)
    rintro _ _ ⟨rfl, rfl⟩
    dsimp only [List.cons_append, List.nil_append, Option.toList]
    refine gg_aload_n (pc := 64) E dX5_readsWay_64 rfl rfl ?_
    refine gg_callV (F := [_, _]) (As := []) (rest := []) (pc := 65) E ck_X5 (cx_X5_goesOn hl (Xi_nd (k := 4) (by decide) (Xi_rwC hX))) (cwV 0 E.2.2.2.2.1 (lw_V q2984 q2986 qs72 q179 q2987) rfl rfl rfl (by decide +kernel) ⟨by rw [hRf]; exact Nat.le_of_ble_eq_true rfl, by rw [hRl]; exact Nat.le_of_ble_eq_true rfl⟩) dX5_readsWay_65 [0] (by decide) rfl rfl (List.forall_mem_cons.mpr ⟨(gg_r 0 rfl), (fun _ h => by cases h)⟩) (gg_i 0 rfl) rfl rfl (Nat.le_of_ble_eq_true rfl) (by first | (rw [hRc]; exact Nat.le_of_ble_eq_true rfl) | (rw [hRc]; dsimp only; omega)) (by first | (rw [hRs]; exact Nat.le_of_ble_eq_true rfl) | (rw [hRs]; dsimp only; omega)) ?_ (fun X q C1 h => h.elim)
    rintro _ _ ⟨rfl, rfl⟩
    dsimp only [List.cons_append, List.nil_append, Option.toList]
    refine gg_aload_n (pc := 68) E dX5_readsWay_68 rfl rfl ?_
    refine gg_iconst (v := 1) (pc := 69) E dX5_readsWay_69 (by decide) ?_
    refine gg_bipush (v := 9) (pc := 70) E dX5_readsWay_70 (by decide) ?_
    refine gg_callV (F := [_, _]) (As := [_, _]) (rest := []) (pc := 72) E ck_X5 (cx_X5_number hl (Xi_rwD hX)) (cwV 2 E.2.2.2.2.1 (lw_V q3025 q3027 qs81 q179 q3028) rfl rfl rfl (by decide +kernel) ⟨by rw [hRf]; exact Nat.le_of_ble_eq_true rfl, by rw [hRl]; exact Nat.le_of_ble_eq_true rfl⟩) dX5_readsWay_72 [0] (by decide) rfl rfl (List.forall_mem_cons.mpr ⟨(gg_r 0 rfl), (fun _ h => by cases h)⟩) (gg_i 0 rfl) rfl rfl (Nat.le_of_ble_eq_true rfl) (by first | (rw [hRc]; exact Nat.le_of_ble_eq_true rfl) | (rw [hRc]; dsimp only; omega)) (by first | (rw [hRs]; exact Nat.le_of_ble_eq_true rfl) | (rw [hRs]; dsimp only; omega)) ?_ (fun X q C1 h => h.elim)
    rintro _ _ ⟨rfl, rfl⟩
    dsimp only [List.cons_append, List.nil_append, Option.toList]
    refine gg_istore_n (lv' := [_, _, _, _]) (pc := 75) E dX5_readsWay_75 rfl (Nat.le_of_ble_eq_true rfl) rfl rfl ?_
    refine gg_aload_n (pc := 76) E dX5_readsWay_76 rfl rfl ?_
    refine gg_get (pc := 77) E ck_X5 20 q2879 rfl (by decide) dX5_readsWay_77 (gg_i 0 rfl) rfl ?_
    refine gg_if_ne (tgt := 90) (pc := 80) E dX5_readsWay_80 (by decide) (fun c80 => ?_) (fun c80 => ?_)
    · refine gg_vret (pc := 90) E Fn rfl dX5_readsWay_90 (by first | exact Nat.le_of_ble_eq_true rfl | (dsimp only; omega)) (by first | exact Nat.le_of_ble_eq_true rfl | (dsimp only; omega)) ?_
      exact ⟨rfl, by unfold rwR; rw [if_neg (show ¬ (rwX row nr nw b bn sp x) 20 = 0 from c80)]; rfl⟩
    · have hlt := (rw_0 (show (rwX row nr nw b bn sp x) 20 = 0 from c80)).2.1
      refine gg_aload_n (pc := 83) E dX5_readsWay_83 rfl rfl ?_
      refine gg_iload_n (pc := 84) E dX5_readsWay_84 rfl rfl ?_
      refine gg_iload_n (pc := 85) E dX5_readsWay_85 rfl rfl ?_
      refine gg_iload_n (pc := 86) E dX5_readsWay_86 rfl rfl ?_
      refine gg_callV (F := [_, _]) (As := [_, _, _]) (rest := []) (pc := 87) E ck_X5 (ct_X5_newWay hl (hnw) (hlt)) (cwV 3 E.2.2.2.2.1 (lw_V q2852 q2854 qs68 q179 q2855) rfl rfl rfl (by decide +kernel) ⟨by rw [hRf]; exact Nat.le_of_ble_eq_true rfl, by rw [hRl]; exact Nat.le_of_ble_eq_true rfl⟩) dX5_readsWay_87 [1] (by decide) rfl rfl (List.forall_mem_cons.mpr ⟨(gg_i 0 rfl), (fun _ h => by cases h)⟩) (gg_i 0 rfl) rfl rfl (Nat.le_of_ble_eq_true rfl) (by first | (rw [hRc]; exact Nat.le_of_ble_eq_true rfl) | (rw [hRc]; dsimp only; omega)) (by first | (rw [hRs]; exact Nat.le_of_ble_eq_true rfl) | (rw [hRs]; dsimp only; omega)) ?_ (fun X q C1 h => h.elim)
      rintro _ _ ⟨rfl, rfl⟩
      dsimp only [List.cons_append, List.nil_append, Option.toList]
      refine gg_up1 ?_
      refine gg_vret (pc := 90) E Fn rfl dX5_readsWay_90 (by first | exact Nat.le_of_ble_eq_true rfl | (dsimp only; omega)) (by first | exact Nat.le_of_ble_eq_true rfl | (dsimp only; omega)) ?_
      exact ⟨rfl, by unfold rwR; rw [if_pos (show  (rwX row nr nw b bn sp x) 20 = 0 from c80)]; rfl⟩
set_option maxHeartbeats 4000000 in
theorem ct_X5_readsSetting {l : Launch} (hl : l.stackTraces = false) {g : gg_G}  {h : Nat} {ad : Nat → Nat} {x : Nat → Int32} {row : Nat → Int32} {b : Nat → Int32} {bn : Nat} (hX : Xi bn x) : gg_C l g yX5_readsSetting (ws_ yX5_readsSetting cX5_readsSetting 3 none) { frames := 6, cells := 0, slots := 0, locals := 127 } [.ref h] [((ad 12), gg_ab g 800 b)] [[(h, .inl (4, mo_f ad x))], [((ad 0), gg_ai g 1030 row)]] (fun vv CC => vv = none ∧ CC = [[(h, .inl (4, mo_f ad (rsX b bn x)))], [((ad 0), gg_ai g 1030 (rsR row b bn x))]]) gg_no := by
  refine gg_of (lv := [_, _, _]) (by decide) hl (Nat.le_of_ble_eq_true rfl) rfl ?_
  intro p e R s m args below meth c A Q hRf hRl hRc hRs E Fn hnm hex
  refine gg_aload_n (pc := 0) E dX5_readsSetting_0 rfl rfl ?_
  refine gg_callV (F := [_, _]) (As := []) (rest := []) (pc := 1) E ck_X5 (cx_X5_settingHere hl hX) (cwV 0 E.2.2.2.2.1 (lw_V q3059 q3061 qs89 q179 q3062) rfl rfl rfl (by decide +kernel) ⟨by rw [hRf]; exact Nat.le_of_ble_eq_true rfl, by rw [hRl]; exact Nat.le_of_ble_eq_true rfl⟩) dX5_readsSetting_1 [] (by decide) rfl rfl (List.forall_mem_cons.mpr ⟨(gg_i 0 rfl), (List.forall_mem_cons.mpr ⟨(gg_r 0 rfl), (fun _ h => by cases h)⟩)⟩) (gg_i 0 rfl) rfl rfl (Nat.le_of_ble_eq_true rfl) (by first | (rw [hRc]; exact Nat.le_of_ble_eq_true rfl) | (rw [hRc]; dsimp only; omega)) (by first | (rw [hRs]; exact Nat.le_of_ble_eq_true rfl) | (rw [hRs]; dsimp only; omega)) ?_ (fun X q C1 h => h.elim)
  rintro _ _ ⟨rfl, rfl⟩
  dsimp only [List.cons_append, List.nil_append, Option.toList]
  refine gg_istore_n (lv' := [_, _, _]) (pc := 4) E dX5_readsSetting_4 rfl (Nat.le_of_ble_eq_true rfl) rfl rfl ?_
  refine gg_aload_n (pc := 5) E dX5_readsSetting_5 rfl rfl ?_
  refine gg_iload_n (pc := 6) E dX5_readsSetting_6 rfl rfl ?_
  refine gg_iconst (v := (-1)) (pc := 7) E dX5_readsSetting_7 (by decide) ?_
  refine gg_icmpB_eq (pc := 8) E dX5_readsSetting_8 dX5_readsSetting_11 dX5_readsSetting_12 dX5_readsSetting_15 ?_
  refine gg_iconst (v := 1) (pc := 16) E dX5_readsSetting_16 (by decide) ?_
  refine gg_callV (F := [_]) (As := [_, _]) (rest := []) (pc := 17) E ck_X5 (ct_X5_need hl ) (cwV 2 E.2.2.2.2.1 (lw_V q3013 q3015 qs78 q179 q3016) rfl rfl rfl (by decide +kernel) ⟨by rw [hRf]; exact Nat.le_of_ble_eq_true rfl, by rw [hRl]; exact Nat.le_of_ble_eq_true rfl⟩) dX5_readsSetting_17 [0] (by decide) rfl rfl (fun _ h => by cases h) (gg_i 0 rfl) rfl rfl (Nat.le_of_ble_eq_true rfl) (by first | (rw [hRc]; exact Nat.le_of_ble_eq_true rfl) | (rw [hRc]; dsimp only; omega)) (by first | (rw [hRs]; exact Nat.le_of_ble_eq_true rfl) | (rw [hRs]; dsimp only; omega)) ?_ (fun X q C1 h => h.elim)
  rintro _ _ ⟨rfl, rfl⟩
  dsimp only [List.cons_append, List.nil_append, Option.toList]
  refine gg_aload_n (pc := 20) E dX5_readsSetting_20 rfl rfl ?_
  refine gg_callV (F := [_]) (As := []) (rest := []) (pc := 21) E ck_X5 (cx_X5_goesOn hl (Xi_nd (k := 1) (by decide) hX)) (cwV 0 E.2.2.2.2.1 (lw_V q2984 q2986 qs72 q179 q2987) rfl rfl rfl (by decide +kernel) ⟨by rw [hRf]; exact Nat.le_of_ble_eq_true rfl, by rw [hRl]; exact Nat.le_of_ble_eq_true rfl⟩) dX5_readsSetting_21 [0] (by decide) rfl rfl (List.forall_mem_cons.mpr ⟨(gg_r 0 rfl), (fun _ h => by cases h)⟩) (gg_i 0 rfl) rfl rfl (Nat.le_of_ble_eq_true rfl) (by first | (rw [hRc]; exact Nat.le_of_ble_eq_true rfl) | (rw [hRc]; dsimp only; omega)) (by first | (rw [hRs]; exact Nat.le_of_ble_eq_true rfl) | (rw [hRs]; dsimp only; omega)) ?_ (fun X q C1 h => h.elim)
  rintro _ _ ⟨rfl, rfl⟩
  dsimp only [List.cons_append, List.nil_append, Option.toList]
  refine gg_aload_n (pc := 24) E dX5_readsSetting_24 rfl rfl ?_
  refine gg_get (pc := 25) E ck_X5 20 q2879 rfl (by decide) dX5_readsSetting_25 (gg_i 0 rfl) rfl ?_
  refine gg_if_ne (tgt := 51) (pc := 28) E dX5_readsSetting_28 (by decide) (fun c28 => ?_) (fun c28 => ?_)
  · refine gg_vret (pc := 51) E Fn rfl dX5_readsSetting_51 (by first | exact Nat.le_of_ble_eq_true rfl | (dsimp only; omega)) (by first | exact Nat.le_of_ble_eq_true rfl | (dsimp only; omega)) ?_
    exact ⟨rfl, by unfold rsX rsR; rw [if_neg (show ¬ rsA b bn x 20 = 0 from c28), if_neg (show ¬ rsA b bn x 20 = 0 from c28)]; rfl⟩
  · obtain ⟨-, u, hu1, hu2, hu3⟩ := rsA_0 (show rsA b bn x 20 = 0 from c28)
    refine gg_aload_n (pc := 31) E dX5_readsSetting_31 rfl rfl ?_
    refine gg_iload_n (pc := 32) E dX5_readsSetting_32 rfl rfl ?_
    refine gg_callS (F := [_, _]) (As := [_]) (rest := [_]) (pc := 33) E (ct_X5_lowOf hl ) (va_cwS 1 E.2.2.2.2.1 (lw_S q3066 q3067 q179 q3068) rfl rfl rfl (by decide +kernel) ⟨by rw [hRf]; exact Nat.le_of_ble_eq_true rfl, by rw [hRl]; exact Nat.le_of_ble_eq_true rfl⟩) dX5_readsSetting_33 [] (by decide) rfl rfl (fun _ h => by cases h) rfl rfl (Nat.le_of_ble_eq_true rfl) (by first | (rw [hRc]; exact Nat.le_of_ble_eq_true rfl) | (rw [hRc]; dsimp only; omega)) (by first | (rw [hRs]; exact Nat.le_of_ble_eq_true rfl) | (rw [hRs]; dsimp only; omega)) ?_ (fun X q C1 h => h.elim)
    rintro _ _ ⟨rfl, rfl⟩
    dsimp only [List.cons_append, List.nil_append, Option.toList]
    refine gg_iload_n (pc := 36) E dX5_readsSetting_36 rfl rfl ?_
    refine gg_callS (F := [_, _]) (As := [_]) (rest := [_, _]) (pc := 37) E (ct_X5_highOf hl ) (va_cwS 1 E.2.2.2.2.1 (lw_S q3069 q3070 q179 q3071) rfl rfl rfl (by decide +kernel) ⟨by rw [hRf]; exact Nat.le_of_ble_eq_true rfl, by rw [hRl]; exact Nat.le_of_ble_eq_true rfl⟩) dX5_readsSetting_37 [] (by decide) rfl rfl (fun _ h => by cases h) rfl rfl (Nat.le_of_ble_eq_true rfl) (by first | (rw [hRc]; exact Nat.le_of_ble_eq_true rfl) | (rw [hRc]; dsimp only; omega)) (by first | (rw [hRs]; exact Nat.le_of_ble_eq_true rfl) | (rw [hRs]; dsimp only; omega)) ?_ (fun X q C1 h => h.elim)
    rintro _ _ ⟨rfl, rfl⟩
    dsimp only [List.cons_append, List.nil_append, Option.toList]
    refine gg_callV (F := [_]) (As := [_, _]) (rest := []) (pc := 40) E ck_X5 (cx_X5_number hl (Xi_rsA hX)) (cwV 2 E.2.2.2.2.1 (lw_V q3025 q3027 qs81 q179 q3028) rfl rfl rfl (by decide +kernel) ⟨by rw [hRf]; exact Nat.le_of_ble_eq_true rfl, by rw [hRl]; exact Nat.le_of_ble_eq_true rfl⟩) dX5_readsSetting_40 [0] (by decide) rfl rfl (List.forall_mem_cons.mpr ⟨(gg_r 0 rfl), (fun _ h => by cases h)⟩) (gg_i 0 rfl) rfl rfl (Nat.le_of_ble_eq_true rfl) (by first | (rw [hRc]; exact Nat.le_of_ble_eq_true rfl) | (rw [hRc]; dsimp only; omega)) (by first | (rw [hRs]; exact Nat.le_of_ble_eq_true rfl) | (rw [hRs]; dsimp only; omega)) ?_ (fun X q C1 h => h.elim)
    rintro _ _ ⟨rfl, rfl⟩
    dsimp only [List.cons_append, List.nil_append, Option.toList]
    refine gg_istore_n (lv' := [_, _, _]) (pc := 43) E dX5_readsSetting_43 rfl (Nat.le_of_ble_eq_true rfl) rfl rfl ?_
    refine gg_aload_n (pc := 44) E dX5_readsSetting_44 rfl rfl ?_
    refine gg_get (pc := 45) E ck_X5 0 q2859 rfl (by decide) dX5_readsSetting_45 (gg_i 0 rfl) rfl ?_
    refine gg_iload_n (pc := 48) E dX5_readsSetting_48 rfl rfl ?_
    refine gg_topI (y := nI u) hu3 ?_
    refine gg_iload_n (pc := 49) E dX5_readsSetting_49 rfl rfl ?_
    refine gg_iastN (M' := [_, _]) (pc := 50) E u rfl (by omega) (by omega) dX5_readsSetting_50 1 rfl rfl ?_
    refine gg_vret (pc := 51) E Fn rfl dX5_readsSetting_51 (by first | exact Nat.le_of_ble_eq_true rfl | (dsimp only; omega)) (by first | exact Nat.le_of_ble_eq_true rfl | (dsimp only; omega)) ?_
    exact ⟨rfl, by unfold rsX rsR; rw [if_pos (show rsA b bn x 20 = 0 from c28), if_pos (show rsA b bn x 20 = 0 from c28), hu3, tn_nI (by omega)]; rfl⟩
set_option maxHeartbeats 4000000 in
theorem ct_X5_readsStatement {l : Launch} (hl : l.stackTraces = false) {g : gg_G}  {h : Nat} {ad : Nat → Nat} {x : Nat → Int32} {row : Nat → Int32} {b sp : Nat → Int32} {bn : Nat} (hR : Ri row) (hX : Xi bn x) : gg_C l g yX5_readsStatement (ws_ yX5_readsStatement cX5_readsStatement 1 none) { frames := 7, cells := 0, slots := 0, locals := 149 } [.ref h] [((ad 12), gg_ab g 800 b)] [[(h, .inl (4, mo_f ad x))], [((ad 0), gg_ai g 1030 row)], [((ad 7), gg_ai g 6 sp)]] (fun vv CC => vv = none ∧ CC = [[(h, .inl (4, mo_f ad ((stp b bn x row sp).1)))], [((ad 0), gg_ai g 1030 ((stp b bn x row sp).2.1))], [((ad 7), gg_ai g 6 ((stp b bn x row sp).2.2))]]) gg_no := by
  refine gg_of (lv := [_]) (by decide) hl (Nat.le_of_ble_eq_true rfl) rfl ?_
  intro p e R s m args below meth c A Q hRf hRl hRc hRs E Fn hnm hex
  obtain ⟨hnr, hr10, hnw, hw20⟩ := hR
  refine gg_aload_n (pc := 0) E dX5_readsStatement_0 rfl rfl ?_
  refine gg_ldcSw (pc := 1) E 16 rfl dX5_readsStatement_1 ?_
  refine gg_callV (F := [_, _, _]) (As := [_]) (rest := []) (pc := 4) E ck_X5 (cx_X5_isWord hl (by omega) (by decide) hX) (cwV 1 E.2.2.2.2.1 (lw_V q3005 q3007 qs76 q179 q3008) rfl rfl rfl (by decide +kernel) ⟨by rw [hRf]; exact Nat.le_of_ble_eq_true rfl, by rw [hRl]; exact Nat.le_of_ble_eq_true rfl⟩) dX5_readsStatement_4 [] (by decide) rfl rfl (List.forall_mem_cons.mpr ⟨(gg_i 0 rfl), (List.forall_mem_cons.mpr ⟨(gg_r 0 rfl), (List.forall_mem_cons.mpr ⟨(gg_ks 32 rfl), (List.forall_mem_cons.mpr ⟨(gg_ks 33 rfl), (fun _ h => by cases h)⟩)⟩)⟩)⟩) (gg_i 0 rfl) rfl rfl (Nat.le_of_ble_eq_true rfl) (by first | (rw [hRc]; exact Nat.le_of_ble_eq_true rfl) | (rw [hRc]; dsimp only; omega)) (by first | (rw [hRs]; exact Nat.le_of_ble_eq_true rfl) | (rw [hRs]; dsimp only; omega)) ?_ (fun X q C1 h => h.elim)
  rintro _ _ ⟨rfl, rfl⟩
  dsimp only [List.cons_append, List.nil_append, Option.toList]
  refine gg_ifP_eq (tgt := 17) (pc := 7) E dX5_readsStatement_7 (by decide) (fun c7 => ?_) (fun c7 => ?_)
  · refine gg_aload_n (pc := 17) E dX5_readsStatement_17 rfl rfl ?_
    refine gg_ldcSw (pc := 18) E 17 rfl dX5_readsStatement_18 ?_
    refine gg_callV (F := [_, _, _]) (As := [_]) (rest := []) (pc := 21) E ck_X5 (cx_X5_isWord hl (by omega) (by decide) hX) (cwV 1 E.2.2.2.2.1 (lw_V q3005 q3007 qs76 q179 q3008) rfl rfl rfl (by decide +kernel) ⟨by rw [hRf]; exact Nat.le_of_ble_eq_true rfl, by rw [hRl]; exact Nat.le_of_ble_eq_true rfl⟩) dX5_readsStatement_21 [] (by decide) rfl rfl (List.forall_mem_cons.mpr ⟨(gg_i 0 rfl), (List.forall_mem_cons.mpr ⟨(gg_r 0 rfl), (List.forall_mem_cons.mpr ⟨(gg_ks 34 rfl), (List.forall_mem_cons.mpr ⟨(gg_ks 35 rfl), (fun _ h => by cases h)⟩)⟩)⟩)⟩) (gg_i 0 rfl) rfl rfl (Nat.le_of_ble_eq_true rfl) (by first | (rw [hRc]; exact Nat.le_of_ble_eq_true rfl) | (rw [hRc]; dsimp only; omega)) (by first | (rw [hRs]; exact Nat.le_of_ble_eq_true rfl) | (rw [hRs]; dsimp only; omega)) ?_ (fun X q C1 h => h.elim)
    rintro _ _ ⟨rfl, rfl⟩
    dsimp only [List.cons_append, List.nil_append, Option.toList]
    refine gg_ifP_eq (tgt := 34) (pc := 24) E dX5_readsStatement_24 (by decide) (fun c24 => ?_) (fun c24 => ?_)
    · refine gg_aload_n (pc := 34) E dX5_readsStatement_34 rfl rfl ?_
      refine gg_callV (F := [_]) (As := []) (rest := []) (pc := 35) E ck_X5 (ct_X5_readsSetting hl (hX)) (cwV 0 E.2.2.2.2.1 (lw_V q3055 q3057 qs88 q179 q3058) rfl rfl rfl (by decide +kernel) ⟨by rw [hRf]; exact Nat.le_of_ble_eq_true rfl, by rw [hRl]; exact Nat.le_of_ble_eq_true rfl⟩) dX5_readsStatement_35 [0, 1] (by decide) rfl rfl (List.forall_mem_cons.mpr ⟨(gg_r 0 rfl), (fun _ h => by cases h)⟩) (gg_i 0 rfl) rfl rfl (Nat.le_of_ble_eq_true rfl) (by first | (rw [hRc]; exact Nat.le_of_ble_eq_true rfl) | (rw [hRc]; dsimp only; omega)) (by first | (rw [hRs]; exact Nat.le_of_ble_eq_true rfl) | (rw [hRs]; dsimp only; omega)) ?_ (fun X q C1 h => h.elim)
      rintro _ _ ⟨rfl, rfl⟩
      dsimp only [List.cons_append, List.nil_append, Option.toList]
      refine gg_up1 ?_
      refine gg_up1 ?_
      refine gg_aload_n (pc := 38) E dX5_readsStatement_38 rfl rfl ?_
      refine gg_callV (F := [_, _]) (As := []) (rest := []) (pc := 39) E ck_X5 (cx_X5_semicolon hl (Xi_rs hX)) (cwV 0 E.2.2.2.2.1 (lw_V q3072 q3074 qs90 q179 q3075) rfl rfl rfl (by decide +kernel) ⟨by rw [hRf]; exact Nat.le_of_ble_eq_true rfl, by rw [hRl]; exact Nat.le_of_ble_eq_true rfl⟩) dX5_readsStatement_39 [0] (by decide) rfl rfl (List.forall_mem_cons.mpr ⟨(gg_r 0 rfl), (fun _ h => by cases h)⟩) (gg_i 0 rfl) rfl rfl (Nat.le_of_ble_eq_true rfl) (by first | (rw [hRc]; exact Nat.le_of_ble_eq_true rfl) | (rw [hRc]; dsimp only; omega)) (by first | (rw [hRs]; exact Nat.le_of_ble_eq_true rfl) | (rw [hRs]; dsimp only; omega)) ?_ (fun X q C1 h => h.elim)
      rintro _ _ ⟨rfl, rfl⟩
      dsimp only [List.cons_append, List.nil_append, Option.toList]
      refine gg_vret (pc := 42) E Fn rfl dX5_readsStatement_42 (by first | exact Nat.le_of_ble_eq_true rfl | (dsimp only; omega)) (by first | exact Nat.le_of_ble_eq_true rfl | (dsimp only; omega)) ?_
      refine ⟨rfl, ?_⟩
      rw [stp_3 c7 c24]
      dsimp only
      unfold smX
      rfl
    · refine gg_aload_n (pc := 27) E dX5_readsStatement_27 rfl rfl ?_
      refine gg_callV (F := []) (As := []) (rest := []) (pc := 28) E ck_X5 (ct_X5_readsWay hl (hnr) (hr10) (hnw) (hw20) (hX)) (cwV 0 E.2.2.2.2.1 (lw_V q3034 q3036 qs83 q179 q3037) rfl rfl rfl (by decide +kernel) ⟨by rw [hRf]; exact Nat.le_of_ble_eq_true rfl, by rw [hRl]; exact Nat.le_of_ble_eq_true rfl⟩) dX5_readsStatement_28 [0, 1, 2] (by decide) rfl rfl (List.forall_mem_cons.mpr ⟨(gg_r 0 rfl), (fun _ h => by cases h)⟩) (gg_i 0 rfl) rfl rfl (Nat.le_of_ble_eq_true rfl) (by first | (rw [hRc]; exact Nat.le_of_ble_eq_true rfl) | (rw [hRc]; dsimp only; omega)) (by first | (rw [hRs]; exact Nat.le_of_ble_eq_true rfl) | (rw [hRs]; dsimp only; omega)) ?_ (fun X q C1 h => h.elim)
      rintro _ _ ⟨rfl, rfl⟩
      dsimp only [List.cons_append, List.nil_append, Option.toList]
      refine gg_up2 ?_
      refine gg_up2 ?_
      refine gg_up2 ?_
      refine gg_goto (tgt := 38) (pc := 31) E dX5_readsStatement_31 (by decide) ?_
      refine gg_aload_n (pc := 38) E dX5_readsStatement_38 rfl rfl ?_
      refine gg_callV (F := [_, _]) (As := []) (rest := []) (pc := 39) E ck_X5 (cx_X5_semicolon hl (Xi_rw hX)) (cwV 0 E.2.2.2.2.1 (lw_V q3072 q3074 qs90 q179 q3075) rfl rfl rfl (by decide +kernel) ⟨by rw [hRf]; exact Nat.le_of_ble_eq_true rfl, by rw [hRl]; exact Nat.le_of_ble_eq_true rfl⟩) dX5_readsStatement_39 [0] (by decide) rfl rfl (List.forall_mem_cons.mpr ⟨(gg_r 0 rfl), (fun _ h => by cases h)⟩) (gg_i 0 rfl) rfl rfl (Nat.le_of_ble_eq_true rfl) (by first | (rw [hRc]; exact Nat.le_of_ble_eq_true rfl) | (rw [hRc]; dsimp only; omega)) (by first | (rw [hRs]; exact Nat.le_of_ble_eq_true rfl) | (rw [hRs]; dsimp only; omega)) ?_ (fun X q C1 h => h.elim)
      rintro _ _ ⟨rfl, rfl⟩
      dsimp only [List.cons_append, List.nil_append, Option.toList]
      refine gg_vret (pc := 42) E Fn rfl dX5_readsStatement_42 (by first | exact Nat.le_of_ble_eq_true rfl | (dsimp only; omega)) (by first | exact Nat.le_of_ble_eq_true rfl | (dsimp only; omega)) ?_
      refine ⟨rfl, ?_⟩
      rw [stp_2 c7 c24]
      dsimp only
      unfold smX
      rfl
  · refine gg_aload_n (pc := 10) E dX5_readsStatement_10 rfl rfl ?_
    refine gg_callV (F := []) (As := []) (rest := []) (pc := 11) E ck_X5 (ct_X5_readsRoof hl (hnr) (hr10) (hX)) (cwV 0 E.2.2.2.2.1 (lw_V q3009 q3011 qs77 q179 q3012) rfl rfl rfl (by decide +kernel) ⟨by rw [hRf]; exact Nat.le_of_ble_eq_true rfl, by rw [hRl]; exact Nat.le_of_ble_eq_true rfl⟩) dX5_readsStatement_11 [0, 1, 2] (by decide) rfl rfl (List.forall_mem_cons.mpr ⟨(gg_r 0 rfl), (fun _ h => by cases h)⟩) (gg_i 0 rfl) rfl rfl (Nat.le_of_ble_eq_true rfl) (by first | (rw [hRc]; exact Nat.le_of_ble_eq_true rfl) | (rw [hRc]; dsimp only; omega)) (by first | (rw [hRs]; exact Nat.le_of_ble_eq_true rfl) | (rw [hRs]; dsimp only; omega)) ?_ (fun X q C1 h => h.elim)
    rintro _ _ ⟨rfl, rfl⟩
    dsimp only [List.cons_append, List.nil_append, Option.toList]
    refine gg_up2 ?_
    refine gg_up2 ?_
    refine gg_up2 ?_
    refine gg_goto (tgt := 38) (pc := 14) E dX5_readsStatement_14 (by decide) ?_
    refine gg_aload_n (pc := 38) E dX5_readsStatement_38 rfl rfl ?_
    refine gg_callV (F := [_, _]) (As := []) (rest := []) (pc := 39) E ck_X5 (cx_X5_semicolon hl (Xi_rr hX)) (cwV 0 E.2.2.2.2.1 (lw_V q3072 q3074 qs90 q179 q3075) rfl rfl rfl (by decide +kernel) ⟨by rw [hRf]; exact Nat.le_of_ble_eq_true rfl, by rw [hRl]; exact Nat.le_of_ble_eq_true rfl⟩) dX5_readsStatement_39 [0] (by decide) rfl rfl (List.forall_mem_cons.mpr ⟨(gg_r 0 rfl), (fun _ h => by cases h)⟩) (gg_i 0 rfl) rfl rfl (Nat.le_of_ble_eq_true rfl) (by first | (rw [hRc]; exact Nat.le_of_ble_eq_true rfl) | (rw [hRc]; dsimp only; omega)) (by first | (rw [hRs]; exact Nat.le_of_ble_eq_true rfl) | (rw [hRs]; dsimp only; omega)) ?_ (fun X q C1 h => h.elim)
    rintro _ _ ⟨rfl, rfl⟩
    dsimp only [List.cons_append, List.nil_append, Option.toList]
    refine gg_vret (pc := 42) E Fn rfl dX5_readsStatement_42 (by first | exact Nat.le_of_ble_eq_true rfl | (dsimp only; omega)) (by first | exact Nat.le_of_ble_eq_true rfl | (dsimp only; omega)) ?_
    refine ⟨rfl, ?_⟩
    rw [stp_1 c7]
    dsimp only
    unfold smX
    rfl
set_option maxHeartbeats 4000000 in
theorem ct_X5_loadPost {l : Launch} (hl : l.stackTraces = false) {g : gg_G}  {h : Nat} {ad : Nat → Nat} {x : Nat → Int32} {row : Nat → Int32} {b sp asd : Nat → Int32} {bn : Nat} (hx : x 13 = nI bn) (hb8 : bn ≤ 800) : gg_C l g yX5_loadPost (ws_ yX5_loadPost cX5_loadPost 1 (some .int)) { frames := 8, cells := 0, slots := 0, locals := 169 } [.ref h] [((ad 12), gg_ab g 800 b)] [[(h, .inl (4, mo_f ad x))], [((ad 0), gg_ai g 1030 row)], [((ad 1), gg_ai g 1030 asd)], [((ad 7), gg_ai g 6 sp)]] (fun vv CC => vv = some (.int (if ldY b bn x sp 20 = 0 then (ldS b bn x sp).2.1 1 else -1)) ∧ CC = [[(h, .inl (4, mo_f ad (ldX b bn x sp)))], [((ad 0), gg_ai g 1030 (ldR b bn x row sp))], [((ad 1), gg_ai g 1030 row)], [((ad 7), gg_ai g 6 ((ldS b bn x sp).2.2))]]) gg_no := by
  refine gg_of (lv := [_]) (by decide) hl (Nat.le_of_ble_eq_true rfl) rfl ?_
  intro p e R s m args below meth c A Q hRf hRl hRc hRs E Fn hnm hex
  refine gg_aload_n (pc := 0) E dX5_loadPost_0 rfl rfl ?_
  refine gg_iconst (v := 0) (pc := 1) E dX5_loadPost_1 (by decide) ?_
  refine gg_putM (M' := [_, _, _, _]) (pc := 2) E ck_X5 6 q2865 rfl (by decide) dX5_loadPost_2 0 rfl rfl (rfl) rfl (Nat.le_of_ble_eq_true rfl) rfl rfl ?_
  refine gg_aload_n (pc := 5) E dX5_loadPost_5 rfl rfl ?_
  refine gg_aload_n (pc := 6) E dX5_loadPost_6 rfl rfl ?_
  refine gg_get (pc := 7) E ck_X5 1 q2860 rfl (by decide) dX5_loadPost_7 (gg_i 0 rfl) rfl ?_
  refine gg_callV (F := [_, _, _]) (As := [_]) (rest := []) (pc := 10) E ck_X5 (ct_X5_copies hl ) (cwV 1 E.2.2.2.2.1 (lw_V q2976 q2978 qs70 q179 q2979) rfl rfl rfl (by decide +kernel) ⟨by rw [hRf]; exact Nat.le_of_ble_eq_true rfl, by rw [hRl]; exact Nat.le_of_ble_eq_true rfl⟩) dX5_loadPost_10 [2] (by decide) rfl rfl (List.forall_mem_cons.mpr ⟨(gg_i 0 rfl), (List.forall_mem_cons.mpr ⟨(gg_i 1 rfl), (fun _ h => by cases h)⟩)⟩) (gg_i 0 rfl) rfl rfl (Nat.le_of_ble_eq_true rfl) (by first | (rw [hRc]; exact Nat.le_of_ble_eq_true rfl) | (rw [hRc]; dsimp only; omega)) (by first | (rw [hRs]; exact Nat.le_of_ble_eq_true rfl) | (rw [hRs]; dsimp only; omega)) ?_ (fun X q C1 h => h.elim)
  rintro _ _ ⟨rfl, rfl⟩
  dsimp only [List.cons_append, List.nil_append, Option.toList]
  refine gg_up2 ?_
  refine gg_aload_n (pc := 13) E dX5_loadPost_13 rfl rfl ?_
  refine gg_callV (F := [_, _, _]) (As := []) (rest := []) (pc := 14) E ck_X5 (ct_X5_clears hl ) (cwV 0 E.2.2.2.2.1 (lw_V q2838 q2840 qs66 q179 q2841) rfl rfl rfl (by decide +kernel) ⟨by rw [hRf]; exact Nat.le_of_ble_eq_true rfl, by rw [hRl]; exact Nat.le_of_ble_eq_true rfl⟩) dX5_loadPost_14 [1] (by decide) rfl rfl (List.forall_mem_cons.mpr ⟨(gg_i 0 rfl), (fun _ h => by cases h)⟩) (gg_i 0 rfl) rfl rfl (Nat.le_of_ble_eq_true rfl) (by first | (rw [hRc]; exact Nat.le_of_ble_eq_true rfl) | (rw [hRc]; dsimp only; omega)) (by first | (rw [hRs]; exact Nat.le_of_ble_eq_true rfl) | (rw [hRs]; dsimp only; omega)) ?_ (fun X q C1 h => h.elim)
  rintro _ _ ⟨rfl, rfl⟩
  dsimp only [List.cons_append, List.nil_append, Option.toList]
  refine gg_up1 ?_
  refine gg_aload_n (pc := 17) E dX5_loadPost_17 rfl rfl ?_
  refine gg_callV (F := [_, _, _]) (As := []) (rest := []) (pc := 18) E ck_X5 (ct_X5_starts hl ((pk_un (by omega)).trans hx) (hb8)) (cwV 0 E.2.2.2.2.1 (lw_V q2980 q2982 qs71 q179 q2983) rfl rfl rfl (by decide +kernel) ⟨by rw [hRf]; exact Nat.le_of_ble_eq_true rfl, by rw [hRl]; exact Nat.le_of_ble_eq_true rfl⟩) dX5_loadPost_18 [0] (by decide) rfl rfl (List.forall_mem_cons.mpr ⟨(gg_r 0 rfl), (fun _ h => by cases h)⟩) (gg_i 0 rfl) rfl rfl (Nat.le_of_ble_eq_true rfl) (by first | (rw [hRc]; exact Nat.le_of_ble_eq_true rfl) | (rw [hRc]; dsimp only; omega)) (by first | (rw [hRs]; exact Nat.le_of_ble_eq_true rfl) | (rw [hRs]; dsimp only; omega)) ?_ (fun X q C1 h => h.elim)
  rintro _ _ ⟨rfl, rfl⟩
  dsimp only [List.cons_append, List.nil_append, Option.toList]
  have L21 : ∀ (n : Nat) (k : Nat) (Xs Rs Ss : Nat → Int32), (if Xs 20 = 0 then bn + 1 - tn (Xs 17) else 0) < n → (it (stpF b bn) k (ld0 b bn x sp) = (Xs, Rs, Ss)) → (∀ j, j < k → goesC (it (stpF b bn) j (ld0 b bn x sp))) → (Xi bn Xs) → (Ri Rs) → gg_W p l e R s m args below meth c g A 1 Q 0 0 [[(h, .inl (4, mo_f ad Xs))], [((ad 0), gg_ai g 1030 Rs)], [((ad 1), gg_ai g 1030 row)], [((ad 7), gg_ai g 6 Ss)]] [some (.ref h)] [] 21 := by
    intro n21
    induction n21 with
    | zero => intro k Xs Rs Ss hmz; exact absurd hmz (Nat.not_lt_zero _)
    | succ n21 ih21 =>
      intro k Xs Rs Ss hm21 hit hall hXX hRR
      refine gg_aload_n (pc := 21) E dX5_loadPost_21 rfl rfl ?_
      refine gg_get (pc := 22) E ck_X5 20 q2879 rfl (by decide) dX5_loadPost_22 (gg_i 0 rfl) rfl ?_
      refine gg_if_ne (tgt := 42) (pc := 25) E dX5_loadPost_25 (by decide) (fun c25 => ?_) (fun c25 => ?_)
      · have hLD : ldS b bn x sp = (Xs, Rs, Ss) := (LD_eq ⟨hall, by rw [hit]; exact fun q => c25 q.1⟩).trans hit
        have hY : ldY b bn x sp = nd Xs (if ¬ Rs 0 ≤ 1 then 1 else 0) 6 := by unfold ldY; rw [hLD]
        have hY0 : 0 ≤ ldY b bn x sp 20 := by rw [hY]; exact nd_20 (by decide) hXX.2.2.2.2.2.2
        refine gg_aload_n (pc := 42) E dX5_loadPost_42 rfl rfl ?_
        refine gg_aload_n (pc := 43) E dX5_loadPost_43 rfl rfl ?_
        refine gg_get (pc := 44) E ck_X5 0 q2859 rfl (by decide) dX5_loadPost_44 (gg_i 0 rfl) rfl ?_
        refine gg_iconst (v := 0) (pc := 47) E dX5_loadPost_47 (by decide) ?_
        refine gg_ialdN (pc := 48) E 0 rfl (by omega) (by omega) dX5_loadPost_48 (gg_i 1 rfl) ?_
        refine gg_iconst (v := 1) (pc := 49) E dX5_loadPost_49 (by decide) ?_
        refine gg_icmpB_le (pc := 50) E dX5_loadPost_50 dX5_loadPost_53 dX5_loadPost_54 dX5_loadPost_57 ?_
        refine gg_bipush (v := 6) (pc := 58) E dX5_loadPost_58 (by decide) ?_
        refine gg_callV (F := [_, _, _]) (As := [_, _]) (rest := []) (pc := 60) E ck_X5 (ct_X5_need hl ) (cwV 2 E.2.2.2.2.1 (lw_V q3013 q3015 qs78 q179 q3016) rfl rfl rfl (by decide +kernel) ⟨by rw [hRf]; exact Nat.le_of_ble_eq_true rfl, by rw [hRl]; exact Nat.le_of_ble_eq_true rfl⟩) dX5_loadPost_60 [0] (by decide) rfl rfl (fun _ h => by cases h) (gg_i 0 rfl) rfl rfl (Nat.le_of_ble_eq_true rfl) (by first | (rw [hRc]; exact Nat.le_of_ble_eq_true rfl) | (rw [hRc]; dsimp only; omega)) (by first | (rw [hRs]; exact Nat.le_of_ble_eq_true rfl) | (rw [hRs]; dsimp only; omega)) ?_ (fun X q C1 h => h.elim)
        rintro _ _ ⟨rfl, rfl⟩
        dsimp only [List.cons_append, List.nil_append, Option.toList]
        refine gg_aload_n (pc := 63) E dX5_loadPost_63 rfl rfl ?_
        refine gg_callV (F := [_, _, _]) (As := []) (rest := []) (pc := 64) E ck_X5 (ct_X5_ending hl ) (cwV 0 E.2.2.2.2.1 (lw_V q3076 q3078 qs91 q179 q3079) rfl rfl rfl (by decide +kernel) ⟨by rw [hRf]; exact Nat.le_of_ble_eq_true rfl, by rw [hRl]; exact Nat.le_of_ble_eq_true rfl⟩) dX5_loadPost_64 [0] (by decide) rfl rfl (fun _ h => by cases h) (gg_i 0 rfl) rfl rfl (Nat.le_of_ble_eq_true rfl) (by first | (rw [hRc]; exact Nat.le_of_ble_eq_true rfl) | (rw [hRc]; dsimp only; omega)) (by first | (rw [hRs]; exact Nat.le_of_ble_eq_true rfl) | (rw [hRs]; dsimp only; omega)) ?_ (fun X q C1 h => h.elim)
        rintro _ _ ⟨rfl, rfl⟩
        dsimp only [List.cons_append, List.nil_append, Option.toList]
        refine gg_aload_n (pc := 67) E dX5_loadPost_67 rfl rfl ?_
        refine gg_get (pc := 68) E ck_X5 20 q2879 rfl (by decide) dX5_loadPost_68 (gg_i 0 rfl) rfl ?_
        refine gg_if_le (tgt := 84) (pc := 71) E dX5_loadPost_71 (by decide) (fun c71 => ?_) (fun c71 => ?_)
        · refine gg_aload_n (pc := 84) E dX5_loadPost_84 rfl rfl ?_
          refine gg_iconst (v := 0) (pc := 85) E dX5_loadPost_85 (by decide) ?_
          refine gg_putM (M' := [_, _, _, _]) (pc := 86) E ck_X5 4 q2863 rfl (by decide) dX5_loadPost_86 0 rfl rfl (rfl) rfl (Nat.le_of_ble_eq_true rfl) rfl rfl ?_
          refine gg_aload_n (pc := 89) E dX5_loadPost_89 rfl rfl ?_
          refine gg_iconst (v := 0) (pc := 90) E dX5_loadPost_90 (by decide) ?_
          refine gg_putM (M' := [_, _, _, _]) (pc := 91) E ck_X5 5 q2864 rfl (by decide) dX5_loadPost_91 0 rfl rfl (gg_nz (by first | decide | assumption | exact gg_b01 | (split <;> decide))) rfl (Nat.le_of_ble_eq_true rfl) rfl rfl ?_
          refine gg_aload_n (pc := 94) E dX5_loadPost_94 rfl rfl ?_
          refine gg_get (pc := 95) E ck_X5 0 q2859 rfl (by decide) dX5_loadPost_95 (gg_i 0 rfl) rfl ?_
          refine gg_iconst (v := 1) (pc := 98) E dX5_loadPost_98 (by decide) ?_
          refine gg_ialdN (pc := 99) E 1 rfl (by omega) (by omega) dX5_loadPost_99 (gg_i 1 rfl) ?_
          refine gg_iret (pc := 100) E Fn rfl (rfl) dX5_loadPost_100 (by first | exact Nat.le_of_ble_eq_true rfl | (dsimp only; omega)) (by first | exact Nat.le_of_ble_eq_true rfl | (dsimp only; omega)) ?_
          have hc : enX (nd Xs (if ¬ Rs 0 ≤ 1 then 1 else 0) 6) 20 ≤ 0 := c71
          rw [en_20, ← hY] at hc
          have hz : ldY b bn x sp 20 = 0 := z_of hY0 hc
          refine ⟨?_, ?_⟩
          · rw [if_pos hz, hLD]
          · unfold ldX ldR
            rw [if_pos hz, if_pos hz, hY, hLD]
            rfl
        · refine gg_aload_n (pc := 74) E dX5_loadPost_74 rfl rfl ?_
          refine gg_aload_n (pc := 75) E dX5_loadPost_75 rfl rfl ?_
          refine gg_get (pc := 76) E ck_X5 1 q2860 rfl (by decide) dX5_loadPost_76 (gg_i 0 rfl) rfl ?_
          refine gg_iconst (v := (-1)) (pc := 79) E dX5_loadPost_79 (by decide) ?_
          refine gg_callV (F := [_, _, _]) (As := [_, _]) (rest := []) (pc := 80) E ck_X5 (ct_X5_gives hl ) (cwV 2 E.2.2.2.2.1 (lw_V q3080 q3082 qs92 q179 q3083) rfl rfl rfl (by decide +kernel) ⟨by rw [hRf]; exact Nat.le_of_ble_eq_true rfl, by rw [hRl]; exact Nat.le_of_ble_eq_true rfl⟩) dX5_loadPost_80 [1] (by decide) rfl rfl (List.forall_mem_cons.mpr ⟨(gg_i 0 rfl), (List.forall_mem_cons.mpr ⟨(gg_i 1 rfl), (fun _ h => by cases h)⟩)⟩) (gg_i 0 rfl) rfl rfl (Nat.le_of_ble_eq_true rfl) (by first | (rw [hRc]; exact Nat.le_of_ble_eq_true rfl) | (rw [hRc]; dsimp only; omega)) (by first | (rw [hRs]; exact Nat.le_of_ble_eq_true rfl) | (rw [hRs]; dsimp only; omega)) ?_ (fun X q C1 h => h.elim)
          rintro _ _ ⟨rfl, rfl⟩
          dsimp only [List.cons_append, List.nil_append, Option.toList]
          refine gg_up1 ?_
          refine gg_iret (pc := 83) E Fn rfl (rfl) dX5_loadPost_83 (by first | exact Nat.le_of_ble_eq_true rfl | (dsimp only; omega)) (by first | exact Nat.le_of_ble_eq_true rfl | (dsimp only; omega)) ?_
          have hc : ¬ enX (nd Xs (if ¬ Rs 0 ≤ 1 then 1 else 0) 6) 20 ≤ 0 := c71
          rw [en_20, ← hY] at hc
          have hz : ¬ ldY b bn x sp 20 = 0 := fun q => hc (Int32.le_of_eq q)
          refine ⟨?_, ?_⟩
          · rw [if_neg hz]
          · unfold ldX ldR
            rw [if_neg hz, if_neg hz, hY, hLD]
            rfl
      · refine gg_aload_n (pc := 28) E dX5_loadPost_28 rfl rfl ?_
        refine gg_get (pc := 29) E ck_X5 18 q2877 rfl (by decide) dX5_loadPost_29 (gg_i 0 rfl) rfl ?_
        refine gg_if_eq (tgt := 42) (pc := 32) E dX5_loadPost_32 (by decide) (fun c32 => ?_) (fun c32 => ?_)
        · have hLD : ldS b bn x sp = (Xs, Rs, Ss) := (LD_eq ⟨hall, by rw [hit]; exact fun q => q.2 c32⟩).trans hit
          have hY : ldY b bn x sp = nd Xs (if ¬ Rs 0 ≤ 1 then 1 else 0) 6 := by unfold ldY; rw [hLD]
          have hY0 : 0 ≤ ldY b bn x sp 20 := by rw [hY]; exact nd_20 (by decide) hXX.2.2.2.2.2.2
          refine gg_aload_n (pc := 42) E dX5_loadPost_42 rfl rfl ?_
          refine gg_aload_n (pc := 43) E dX5_loadPost_43 rfl rfl ?_
          refine gg_get (pc := 44) E ck_X5 0 q2859 rfl (by decide) dX5_loadPost_44 (gg_i 0 rfl) rfl ?_
          refine gg_iconst (v := 0) (pc := 47) E dX5_loadPost_47 (by decide) ?_
          refine gg_ialdN (pc := 48) E 0 rfl (by omega) (by omega) dX5_loadPost_48 (gg_i 1 rfl) ?_
          refine gg_iconst (v := 1) (pc := 49) E dX5_loadPost_49 (by decide) ?_
          refine gg_icmpB_le (pc := 50) E dX5_loadPost_50 dX5_loadPost_53 dX5_loadPost_54 dX5_loadPost_57 ?_
          refine gg_bipush (v := 6) (pc := 58) E dX5_loadPost_58 (by decide) ?_
          refine gg_callV (F := [_, _, _]) (As := [_, _]) (rest := []) (pc := 60) E ck_X5 (ct_X5_need hl ) (cwV 2 E.2.2.2.2.1 (lw_V q3013 q3015 qs78 q179 q3016) rfl rfl rfl (by decide +kernel) ⟨by rw [hRf]; exact Nat.le_of_ble_eq_true rfl, by rw [hRl]; exact Nat.le_of_ble_eq_true rfl⟩) dX5_loadPost_60 [0] (by decide) rfl rfl (fun _ h => by cases h) (gg_i 0 rfl) rfl rfl (Nat.le_of_ble_eq_true rfl) (by first | (rw [hRc]; exact Nat.le_of_ble_eq_true rfl) | (rw [hRc]; dsimp only; omega)) (by first | (rw [hRs]; exact Nat.le_of_ble_eq_true rfl) | (rw [hRs]; dsimp only; omega)) ?_ (fun X q C1 h => h.elim)
          rintro _ _ ⟨rfl, rfl⟩
          dsimp only [List.cons_append, List.nil_append, Option.toList]
          refine gg_aload_n (pc := 63) E dX5_loadPost_63 rfl rfl ?_
          refine gg_callV (F := [_, _, _]) (As := []) (rest := []) (pc := 64) E ck_X5 (ct_X5_ending hl ) (cwV 0 E.2.2.2.2.1 (lw_V q3076 q3078 qs91 q179 q3079) rfl rfl rfl (by decide +kernel) ⟨by rw [hRf]; exact Nat.le_of_ble_eq_true rfl, by rw [hRl]; exact Nat.le_of_ble_eq_true rfl⟩) dX5_loadPost_64 [0] (by decide) rfl rfl (fun _ h => by cases h) (gg_i 0 rfl) rfl rfl (Nat.le_of_ble_eq_true rfl) (by first | (rw [hRc]; exact Nat.le_of_ble_eq_true rfl) | (rw [hRc]; dsimp only; omega)) (by first | (rw [hRs]; exact Nat.le_of_ble_eq_true rfl) | (rw [hRs]; dsimp only; omega)) ?_ (fun X q C1 h => h.elim)
          rintro _ _ ⟨rfl, rfl⟩
          dsimp only [List.cons_append, List.nil_append, Option.toList]
          refine gg_aload_n (pc := 67) E dX5_loadPost_67 rfl rfl ?_
          refine gg_get (pc := 68) E ck_X5 20 q2879 rfl (by decide) dX5_loadPost_68 (gg_i 0 rfl) rfl ?_
          refine gg_if_le (tgt := 84) (pc := 71) E dX5_loadPost_71 (by decide) (fun c71 => ?_) (fun c71 => ?_)
          · refine gg_aload_n (pc := 84) E dX5_loadPost_84 rfl rfl ?_
            refine gg_iconst (v := 0) (pc := 85) E dX5_loadPost_85 (by decide) ?_
            refine gg_putM (M' := [_, _, _, _]) (pc := 86) E ck_X5 4 q2863 rfl (by decide) dX5_loadPost_86 0 rfl rfl (rfl) rfl (Nat.le_of_ble_eq_true rfl) rfl rfl ?_
            refine gg_aload_n (pc := 89) E dX5_loadPost_89 rfl rfl ?_
            refine gg_iconst (v := 0) (pc := 90) E dX5_loadPost_90 (by decide) ?_
            refine gg_putM (M' := [_, _, _, _]) (pc := 91) E ck_X5 5 q2864 rfl (by decide) dX5_loadPost_91 0 rfl rfl (gg_nz (by first | decide | assumption | exact gg_b01 | (split <;> decide))) rfl (Nat.le_of_ble_eq_true rfl) rfl rfl ?_
            refine gg_aload_n (pc := 94) E dX5_loadPost_94 rfl rfl ?_
            refine gg_get (pc := 95) E ck_X5 0 q2859 rfl (by decide) dX5_loadPost_95 (gg_i 0 rfl) rfl ?_
            refine gg_iconst (v := 1) (pc := 98) E dX5_loadPost_98 (by decide) ?_
            refine gg_ialdN (pc := 99) E 1 rfl (by omega) (by omega) dX5_loadPost_99 (gg_i 1 rfl) ?_
            refine gg_iret (pc := 100) E Fn rfl (rfl) dX5_loadPost_100 (by first | exact Nat.le_of_ble_eq_true rfl | (dsimp only; omega)) (by first | exact Nat.le_of_ble_eq_true rfl | (dsimp only; omega)) ?_
            have hc : enX (nd Xs (if ¬ Rs 0 ≤ 1 then 1 else 0) 6) 20 ≤ 0 := c71
            rw [en_20, ← hY] at hc
            have hz : ldY b bn x sp 20 = 0 := z_of hY0 hc
            refine ⟨?_, ?_⟩
            · rw [if_pos hz, hLD]
            · unfold ldX ldR
              rw [if_pos hz, if_pos hz, hY, hLD]
              rfl
          · refine gg_aload_n (pc := 74) E dX5_loadPost_74 rfl rfl ?_
            refine gg_aload_n (pc := 75) E dX5_loadPost_75 rfl rfl ?_
            refine gg_get (pc := 76) E ck_X5 1 q2860 rfl (by decide) dX5_loadPost_76 (gg_i 0 rfl) rfl ?_
            refine gg_iconst (v := (-1)) (pc := 79) E dX5_loadPost_79 (by decide) ?_
            refine gg_callV (F := [_, _, _]) (As := [_, _]) (rest := []) (pc := 80) E ck_X5 (ct_X5_gives hl ) (cwV 2 E.2.2.2.2.1 (lw_V q3080 q3082 qs92 q179 q3083) rfl rfl rfl (by decide +kernel) ⟨by rw [hRf]; exact Nat.le_of_ble_eq_true rfl, by rw [hRl]; exact Nat.le_of_ble_eq_true rfl⟩) dX5_loadPost_80 [1] (by decide) rfl rfl (List.forall_mem_cons.mpr ⟨(gg_i 0 rfl), (List.forall_mem_cons.mpr ⟨(gg_i 1 rfl), (fun _ h => by cases h)⟩)⟩) (gg_i 0 rfl) rfl rfl (Nat.le_of_ble_eq_true rfl) (by first | (rw [hRc]; exact Nat.le_of_ble_eq_true rfl) | (rw [hRc]; dsimp only; omega)) (by first | (rw [hRs]; exact Nat.le_of_ble_eq_true rfl) | (rw [hRs]; dsimp only; omega)) ?_ (fun X q C1 h => h.elim)
            rintro _ _ ⟨rfl, rfl⟩
            dsimp only [List.cons_append, List.nil_append, Option.toList]
            refine gg_up1 ?_
            refine gg_iret (pc := 83) E Fn rfl (rfl) dX5_loadPost_83 (by first | exact Nat.le_of_ble_eq_true rfl | (dsimp only; omega)) (by first | exact Nat.le_of_ble_eq_true rfl | (dsimp only; omega)) ?_
            have hc : ¬ enX (nd Xs (if ¬ Rs 0 ≤ 1 then 1 else 0) 6) 20 ≤ 0 := c71
            rw [en_20, ← hY] at hc
            have hz : ¬ ldY b bn x sp 20 = 0 := fun q => hc (Int32.le_of_eq q)
            refine ⟨?_, ?_⟩
            · rw [if_neg hz]
            · unfold ldX ldR
              rw [if_neg hz, if_neg hz, hY, hLD]
              rfl
        · refine gg_aload_n (pc := 35) E dX5_loadPost_35 rfl rfl ?_
          refine gg_callV (F := [_]) (As := []) (rest := []) (pc := 36) E ck_X5 (ct_X5_readsStatement hl (hRR) (hXX)) (cwV 0 E.2.2.2.2.1 (lw_V q3000 q3002 qs75 q179 q3003) rfl rfl rfl (by decide +kernel) ⟨by rw [hRf]; exact Nat.le_of_ble_eq_true rfl, by rw [hRl]; exact Nat.le_of_ble_eq_true rfl⟩) dX5_loadPost_36 [0, 1, 3] (by decide) rfl rfl (List.forall_mem_cons.mpr ⟨(gg_r 0 rfl), (fun _ h => by cases h)⟩) (gg_i 0 rfl) rfl rfl (Nat.le_of_ble_eq_true rfl) (by first | (rw [hRc]; exact Nat.le_of_ble_eq_true rfl) | (rw [hRc]; dsimp only; omega)) (by first | (rw [hRs]; exact Nat.le_of_ble_eq_true rfl) | (rw [hRs]; dsimp only; omega)) ?_ (fun X q C1 h => h.elim)
          rintro _ _ ⟨rfl, rfl⟩
          dsimp only [List.cons_append, List.nil_append, Option.toList]
          refine gg_up2 ?_
          refine gg_up2 ?_
          refine gg_up3 ?_
          refine gg_goto (tgt := 21) (pc := 39) E dX5_loadPost_39 (by decide) ?_
          refine gg_cv rfl (gg_leS gg_le0) rfl (by first | exact Nat.le_refl _ | (dsimp only; omega)) (by first | exact Nat.le_refl _ | (dsimp only; omega)) (ih21 (k + 1) (stp b bn Xs Rs Ss).1 (stp b bn Xs Rs Ss).2.1 (stp b bn Xs Rs Ss).2.2 (ld_dec hXX c25 hm21) (by show stpF b bn (it (stpF b bn) k (ld0 b bn x sp)) = _; rw [hit]; rfl) (all_s hall (by rw [hit]; exact ⟨c25, c32⟩)) (Xi_stp hXX) (Ri_stp hRR))
  refine gg_cv rfl (gg_leS gg_le0) rfl (by first | exact Nat.le_refl _ | (dsimp only; omega)) (by first | exact Nat.le_refl _ | (dsimp only; omega)) (L21 _ 0 (bgX b bn (upd x 6 0)) cl0 sp (Nat.lt_succ_self _) (rfl) (fun j hj => absurd hj (Nat.not_lt_zero j)) (Xi_bg ((pk_un (by omega)).trans hx) hb8) (Ri_cl))

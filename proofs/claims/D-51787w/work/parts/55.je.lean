set_option maxRecDepth 100000
/-! ===== ways, stops, who comes first ===== -/
/-- a way joins two roofs -/
abbrev joP (f s a b : Int32) : Prop := f = a ∧ s = b ∨ f = b ∧ s = a
/-- as Integer.compare answers -/
def icm (x y : Int32) : Int32 := if x < y then -1 else if x = y then 0 else 1
/-- the nearer stop first -/
def npC (f1 r1 f2 r2 : Int32) : Int32 := if f1 = f2 then icm r1 r2 else icm f1 f2
theorem jo_wy {row : Nat → Int32} {nr nw i : Nat} {a b : Int32} (hw : Ww row nr nw) (hi : i < nw) : joP (row (160 + 3 * i)) (row (160 + 3 * i + 1)) a b ↔ (¬ a = b ∧ (row (160 + 3 * i) = a ∨ row (160 + 3 * i + 1) = a) ∧ (row (160 + 3 * i) = b ∨ row (160 + 3 * i + 1) = b)) := by
  have h := hw.2.2.2 i hi
  have h10 := hw.2.2.1
  have hne : ¬ row (160 + 3 * i) = row (160 + 3 * i + 1) := by
    rw [h.1, h.2.1]
    exact nI_ne (by omega) (by omega) h.2.2.2.2.2.1
  constructor
  · rintro (⟨p, q⟩ | ⟨p, q⟩)
    · exact ⟨fun e => hne (p.trans (e.trans q.symm)), Or.inl p, Or.inr q⟩
    · exact ⟨fun e => hne (p.trans (e.symm.trans q.symm)), Or.inr q, Or.inl p⟩
  · rintro ⟨n, p | p, q | q⟩
    · exact absurd (p.symm.trans q) n
    · exact Or.inl ⟨p, q⟩
    · exact Or.inr ⟨q, p⟩
    · exact absurd (p.symm.trans q) n
/-- the way between two roofs, by its object -/
def btw (wo : Nat → Nat) (row : Nat → Int32) (nw : Nat) (a b : Int32) : Option Nat := if wyI row nw a b = -1 then none else some (wo (tn (wyI row nw a b)))
theorem btw_y {wo : Nat → Nat} {row : Nat → Int32} {nr nw k : Nat} {a b : Int32} (hw : Ww row nr nw) (hk : k < nw) (h : joP (row (160 + 3 * k)) (row (160 + 3 * k + 1)) a b) (hall : ∀ j, j < k → ¬ joP (row (160 + 3 * j)) (row (160 + 3 * j + 1)) a b) : btw wo row nw a b = some (wo k) := by
  have h20 := hw.2.1
  have e : wyI row nw a b = nI k := fi_some hk ((jo_wy hw hk).mp h) fun j hj q => hall j hj ((jo_wy hw (by omega)).mpr q)
  unfold btw
  rw [e, if_neg (nI_nm1 (by omega)), tn_nI (by omega)]
theorem btw_n {wo : Nat → Nat} {row : Nat → Int32} {nr nw : Nat} {a b : Int32} (hw : Ww row nr nw) (hall : ∀ j, j < nw → ¬ joP (row (160 + 3 * j)) (row (160 + 3 * j + 1)) a b) : btw wo row nw a b = none := if_pos (fi_none fun j hj q => hall j hj ((jo_wy hw hj).mpr q))
set_option maxHeartbeats 4000000 in
theorem ct_J17_compare {l : Launch} (hl : l.stackTraces = false) {g : gg_G}  {a1 b1 : Int32}  : gg_C l g yJ17_compare (ws_ yJ17_compare cJ17_compare 2 (some .int)) { frames := 0, cells := 0, slots := 0, locals := 0 } [.int a1, .int b1] [] [] (fun vv CC => vv = some (.int (icm a1 b1)) ∧ CC = []) gg_no := by
  refine gg_of (lv := [_, _]) (by decide) hl (Nat.le_of_ble_eq_true rfl) rfl ?_
  intro p e R s m args below meth c A Q hRf hRl hRc hRs E Fn hnm hex
  refine gg_iload_n (pc := 0) E dJ17_compare_0 rfl rfl ?_
  refine gg_iload_n (pc := 1) E dJ17_compare_1 rfl rfl ?_
  refine gg_icmp_ge (tgt := 9) (pc := 2) E dJ17_compare_2 (by decide) (fun c2 => ?_) (fun c2 => ?_)
  · refine gg_iload_n (pc := 9) E dJ17_compare_9 rfl rfl ?_
    refine gg_iload_n (pc := 10) E dJ17_compare_10 rfl rfl ?_
    refine gg_icmp_ne (tgt := 18) (pc := 11) E dJ17_compare_11 (by decide) (fun c11 => ?_) (fun c11 => ?_)
    · refine gg_iconst (v := 1) (pc := 18) E dJ17_compare_18 (by decide) ?_
      refine gg_iret (pc := 19) E Fn rfl (rfl) dJ17_compare_19 (by first | exact Nat.le_of_ble_eq_true rfl | (dsimp only; omega)) (by first | exact Nat.le_of_ble_eq_true rfl | (dsimp only; omega)) ?_
      unfold icm
      exact ⟨by rw [if_neg (by first | exact c2 | exact Int32.not_lt.mpr c2), if_neg c11], rfl⟩
    · refine gg_iconst (v := 0) (pc := 14) E dJ17_compare_14 (by decide) ?_
      refine gg_goto (tgt := 19) (pc := 15) E dJ17_compare_15 (by decide) ?_
      refine gg_iret (pc := 19) E Fn rfl (rfl) dJ17_compare_19 (by first | exact Nat.le_of_ble_eq_true rfl | (dsimp only; omega)) (by first | exact Nat.le_of_ble_eq_true rfl | (dsimp only; omega)) ?_
      unfold icm
      exact ⟨by rw [if_neg (by first | exact c2 | exact Int32.not_lt.mpr c2), if_pos c11], rfl⟩
  · refine gg_iconst (v := (-1)) (pc := 5) E dJ17_compare_5 (by decide) ?_
    refine gg_goto (tgt := 19) (pc := 6) E dJ17_compare_6 (by decide) ?_
    refine gg_iret (pc := 19) E Fn rfl (rfl) dJ17_compare_19 (by first | exact Nat.le_of_ble_eq_true rfl | (dsimp only; omega)) (by first | exact Nat.le_of_ble_eq_true rfl | (dsimp only; omega)) ?_
    unfold icm
    exact ⟨by rw [if_pos (by first | exact c2 | exact Int32.not_le.mp c2 | exact Decidable.not_not.mp c2)], rfl⟩
set_option maxHeartbeats 4000000 in
theorem ct_X9_init {l : Launch} (hl : l.stackTraces = false) {g : gg_G}  {h : Nat}  : gg_C l g yX9_init (ws_ yX9_init cX9_init 1 none) { frames := 1, cells := 0, slots := 0, locals := 16 } [.ref h] [(h, .inl (8, []))] [] (fun vv CC => vv = none ∧ CC = []) gg_no := by
  refine gg_of (lv := [_]) (by decide) hl (Nat.le_of_ble_eq_true rfl) rfl ?_
  intro p e R s m args below meth c A Q hRf hRl hRc hRs E Fn hnm hex
  refine gg_aload_n (pc := 0) E dX9_init_0 rfl rfl ?_
  refine gg_objInit (pc := 1) E q1732 dX9_init_1 (by rw [hRf]; exact Nat.le_of_ble_eq_true rfl) (by rw [hRl]; exact Nat.le_of_ble_eq_true rfl) ?_
  refine gg_vret (pc := 4) E Fn rfl dX9_init_4 (by first | exact Nat.le_of_ble_eq_true rfl | (dsimp only; omega)) (by first | exact Nat.le_of_ble_eq_true rfl | (dsimp only; omega)) ?_
  exact ⟨rfl, rfl⟩
set_option maxHeartbeats 4000000 in
theorem ct_X9_compare_2 {l : Launch} (hl : l.stackTraces = false) {g : gg_G}  {h : Nat} {q1 q2 : Nat} {r1 f1 r2 f2 : Int32}  : gg_C l g yX9_compare_2 (ws_ yX9_compare_2 cX9_compare_2 3 (some .int)) { frames := 1, cells := 0, slots := 0, locals := 21 } [.ref h, .ref q1, .ref q2] [(h, .inl (8, [])), (q1, .inl (9, [.int r1, .int f1])), (q2, .inl (9, [.int r2, .int f2]))] [] (fun vv CC => vv = some (.int (npC f1 r1 f2 r2)) ∧ CC = []) gg_no := by
  refine gg_of (lv := [_, _, _]) (by decide) hl (Nat.le_of_ble_eq_true rfl) rfl ?_
  intro p e R s m args below meth c A Q hRf hRl hRc hRs E Fn hnm hex
  refine gg_aload_n (pc := 0) E dX9_compare_2_0 rfl rfl ?_
  refine gg_callV (F := []) (As := []) (rest := []) (pc := 1) E ck_X10 (ct_X10_far hl ) (cwV 0 E.2.2.2.2.1 (lw_V q1828 q1829 q1830 q196 q1831) rfl rfl rfl (by decide +kernel) ⟨by rw [hRf]; exact Nat.le_of_ble_eq_true rfl, by rw [hRl]; exact Nat.le_of_ble_eq_true rfl⟩) dX9_compare_2_1 [] (by decide) rfl rfl (List.forall_mem_cons.mpr ⟨(gg_r 1 rfl), (fun _ h => by cases h)⟩) (gg_r 1 rfl) rfl rfl (Nat.le_of_ble_eq_true rfl) (by first | (rw [hRc]; exact Nat.le_of_ble_eq_true rfl) | (rw [hRc]; dsimp only; omega)) (by first | (rw [hRs]; exact Nat.le_of_ble_eq_true rfl) | (rw [hRs]; dsimp only; omega)) ?_ (fun X q C1 h => h.elim)
  rintro _ _ ⟨rfl, rfl⟩
  dsimp only [List.cons_append, List.nil_append, Option.toList]
  refine gg_aload_n (pc := 4) E dX9_compare_2_4 rfl rfl ?_
  refine gg_callV (F := []) (As := []) (rest := [_]) (pc := 5) E ck_X10 (ct_X10_far hl ) (cwV 0 E.2.2.2.2.1 (lw_V q1828 q1829 q1830 q196 q1831) rfl rfl rfl (by decide +kernel) ⟨by rw [hRf]; exact Nat.le_of_ble_eq_true rfl, by rw [hRl]; exact Nat.le_of_ble_eq_true rfl⟩) dX9_compare_2_5 [] (by decide) rfl rfl (List.forall_mem_cons.mpr ⟨(gg_r 2 rfl), (fun _ h => by cases h)⟩) (gg_r 2 rfl) rfl rfl (Nat.le_of_ble_eq_true rfl) (by first | (rw [hRc]; exact Nat.le_of_ble_eq_true rfl) | (rw [hRc]; dsimp only; omega)) (by first | (rw [hRs]; exact Nat.le_of_ble_eq_true rfl) | (rw [hRs]; dsimp only; omega)) ?_ (fun X q C1 h => h.elim)
  rintro _ _ ⟨rfl, rfl⟩
  dsimp only [List.cons_append, List.nil_append, Option.toList]
  refine gg_icmp_eq (tgt := 25) (pc := 8) E dX9_compare_2_8 (by decide) (fun c8 => ?_) (fun c8 => ?_)
  · refine gg_aload_n (pc := 25) E dX9_compare_2_25 rfl rfl ?_
    refine gg_callV (F := []) (As := []) (rest := []) (pc := 26) E ck_X10 (ct_X10_roof hl ) (cwV 0 E.2.2.2.2.1 (lw_V q1835 q1836 q1837 q196 q1838) rfl rfl rfl (by decide +kernel) ⟨by rw [hRf]; exact Nat.le_of_ble_eq_true rfl, by rw [hRl]; exact Nat.le_of_ble_eq_true rfl⟩) dX9_compare_2_26 [] (by decide) rfl rfl (List.forall_mem_cons.mpr ⟨(gg_r 1 rfl), (fun _ h => by cases h)⟩) (gg_r 1 rfl) rfl rfl (Nat.le_of_ble_eq_true rfl) (by first | (rw [hRc]; exact Nat.le_of_ble_eq_true rfl) | (rw [hRc]; dsimp only; omega)) (by first | (rw [hRs]; exact Nat.le_of_ble_eq_true rfl) | (rw [hRs]; dsimp only; omega)) ?_ (fun X q C1 h => h.elim)
    rintro _ _ ⟨rfl, rfl⟩
    dsimp only [List.cons_append, List.nil_append, Option.toList]
    refine gg_aload_n (pc := 29) E dX9_compare_2_29 rfl rfl ?_
    refine gg_callV (F := []) (As := []) (rest := [_]) (pc := 30) E ck_X10 (ct_X10_roof hl ) (cwV 0 E.2.2.2.2.1 (lw_V q1835 q1836 q1837 q196 q1838) rfl rfl rfl (by decide +kernel) ⟨by rw [hRf]; exact Nat.le_of_ble_eq_true rfl, by rw [hRl]; exact Nat.le_of_ble_eq_true rfl⟩) dX9_compare_2_30 [] (by decide) rfl rfl (List.forall_mem_cons.mpr ⟨(gg_r 2 rfl), (fun _ h => by cases h)⟩) (gg_r 2 rfl) rfl rfl (Nat.le_of_ble_eq_true rfl) (by first | (rw [hRc]; exact Nat.le_of_ble_eq_true rfl) | (rw [hRc]; dsimp only; omega)) (by first | (rw [hRs]; exact Nat.le_of_ble_eq_true rfl) | (rw [hRs]; dsimp only; omega)) ?_ (fun X q C1 h => h.elim)
    rintro _ _ ⟨rfl, rfl⟩
    dsimp only [List.cons_append, List.nil_append, Option.toList]
    refine gg_callS (F := []) (As := [_, _]) (rest := []) (pc := 33) E (ct_J17_compare hl ) (va_cwS 2 E.2.2.2.2.1 (lw_S q1832 q1833 q171 q1834) rfl rfl rfl (by decide +kernel) ⟨by rw [hRf]; exact Nat.le_of_ble_eq_true rfl, by rw [hRl]; exact Nat.le_of_ble_eq_true rfl⟩) dX9_compare_2_33 [] (by decide) rfl rfl (fun _ h => by cases h) rfl rfl (Nat.le_of_ble_eq_true rfl) (by first | (rw [hRc]; exact Nat.le_of_ble_eq_true rfl) | (rw [hRc]; dsimp only; omega)) (by first | (rw [hRs]; exact Nat.le_of_ble_eq_true rfl) | (rw [hRs]; dsimp only; omega)) ?_ (fun X q C1 h => h.elim)
    rintro _ _ ⟨rfl, rfl⟩
    dsimp only [List.cons_append, List.nil_append, Option.toList]
    refine gg_iret (pc := 36) E Fn rfl (rfl) dX9_compare_2_36 (by first | exact Nat.le_of_ble_eq_true rfl | (dsimp only; omega)) (by first | exact Nat.le_of_ble_eq_true rfl | (dsimp only; omega)) ?_
    unfold npC
    exact ⟨by rw [if_pos c8], rfl⟩
  · refine gg_aload_n (pc := 11) E dX9_compare_2_11 rfl rfl ?_
    refine gg_callV (F := []) (As := []) (rest := []) (pc := 12) E ck_X10 (ct_X10_far hl ) (cwV 0 E.2.2.2.2.1 (lw_V q1828 q1829 q1830 q196 q1831) rfl rfl rfl (by decide +kernel) ⟨by rw [hRf]; exact Nat.le_of_ble_eq_true rfl, by rw [hRl]; exact Nat.le_of_ble_eq_true rfl⟩) dX9_compare_2_12 [] (by decide) rfl rfl (List.forall_mem_cons.mpr ⟨(gg_r 1 rfl), (fun _ h => by cases h)⟩) (gg_r 1 rfl) rfl rfl (Nat.le_of_ble_eq_true rfl) (by first | (rw [hRc]; exact Nat.le_of_ble_eq_true rfl) | (rw [hRc]; dsimp only; omega)) (by first | (rw [hRs]; exact Nat.le_of_ble_eq_true rfl) | (rw [hRs]; dsimp only; omega)) ?_ (fun X q C1 h => h.elim)
    rintro _ _ ⟨rfl, rfl⟩
    dsimp only [List.cons_append, List.nil_append, Option.toList]
    refine gg_aload_n (pc := 15) E dX9_compare_2_15 rfl rfl ?_
    refine gg_callV (F := []) (As := []) (rest := [_]) (pc := 16) E ck_X10 (ct_X10_far hl ) (cwV 0 E.2.2.2.2.1 (lw_V q1828 q1829 q1830 q196 q1831) rfl rfl rfl (by decide +kernel) ⟨by rw [hRf]; exact Nat.le_of_ble_eq_true rfl, by rw [hRl]; exact Nat.le_of_ble_eq_true rfl⟩) dX9_compare_2_16 [] (by decide) rfl rfl (List.forall_mem_cons.mpr ⟨(gg_r 2 rfl), (fun _ h => by cases h)⟩) (gg_r 2 rfl) rfl rfl (Nat.le_of_ble_eq_true rfl) (by first | (rw [hRc]; exact Nat.le_of_ble_eq_true rfl) | (rw [hRc]; dsimp only; omega)) (by first | (rw [hRs]; exact Nat.le_of_ble_eq_true rfl) | (rw [hRs]; dsimp only; omega)) ?_ (fun X q C1 h => h.elim)
    rintro _ _ ⟨rfl, rfl⟩
    dsimp only [List.cons_append, List.nil_append, Option.toList]
    refine gg_callS (F := []) (As := [_, _]) (rest := []) (pc := 19) E (ct_J17_compare hl ) (va_cwS 2 E.2.2.2.2.1 (lw_S q1832 q1833 q171 q1834) rfl rfl rfl (by decide +kernel) ⟨by rw [hRf]; exact Nat.le_of_ble_eq_true rfl, by rw [hRl]; exact Nat.le_of_ble_eq_true rfl⟩) dX9_compare_2_19 [] (by decide) rfl rfl (fun _ h => by cases h) rfl rfl (Nat.le_of_ble_eq_true rfl) (by first | (rw [hRc]; exact Nat.le_of_ble_eq_true rfl) | (rw [hRc]; dsimp only; omega)) (by first | (rw [hRs]; exact Nat.le_of_ble_eq_true rfl) | (rw [hRs]; dsimp only; omega)) ?_ (fun X q C1 h => h.elim)
    rintro _ _ ⟨rfl, rfl⟩
    dsimp only [List.cons_append, List.nil_append, Option.toList]
    refine gg_goto (tgt := 36) (pc := 22) E dX9_compare_2_22 (by decide) ?_
    refine gg_iret (pc := 36) E Fn rfl (rfl) dX9_compare_2_36 (by first | exact Nat.le_of_ble_eq_true rfl | (dsimp only; omega)) (by first | exact Nat.le_of_ble_eq_true rfl | (dsimp only; omega)) ?_
    unfold npC
    exact ⟨by rw [if_neg c8], rfl⟩
set_option maxHeartbeats 4000000 in
theorem ct_X9_compare {l : Launch} (hl : l.stackTraces = false) {g : gg_G}  {h : Nat} {q1 q2 : Nat} {r1 f1 r2 f2 : Int32}  : gg_C l g yX9_compare (ws_ yX9_compare cX9_compare 3 (some .int)) { frames := 2, cells := 0, slots := 0, locals := 43 } [.ref h, .ref q1, .ref q2] [(h, .inl (8, [])), (q1, .inl (9, [.int r1, .int f1])), (q2, .inl (9, [.int r2, .int f2]))] [] (fun vv CC => vv = some (.int (npC f1 r1 f2 r2)) ∧ CC = []) gg_no := by
  refine gg_of (lv := [_, _, _]) (by decide) hl (Nat.le_of_ble_eq_true rfl) rfl ?_
  intro p e R s m args below meth c A Q hRf hRl hRc hRs E Fn hnm hex
  refine gg_aload_n (pc := 0) E dX9_compare_0 rfl rfl ?_
  refine gg_aload_n (pc := 1) E dX9_compare_1 rfl rfl ?_
  refine gg_cast (pc := 2) E ck_X10 q1823 (Or.inl rfl) dX9_compare_2 (gg_r 1 rfl) ?_
  refine gg_aload_n (pc := 5) E dX9_compare_5 rfl rfl ?_
  refine gg_cast (pc := 6) E ck_X10 q1823 (Or.inl rfl) dX9_compare_6 (gg_r 2 rfl) ?_
  refine gg_callV (F := []) (As := [_, _]) (rest := []) (pc := 9) E ck_X9 (ct_X9_compare_2 hl ) (cwV 2 E.2.2.2.2.1 (lw_V q1824 q1825 q1826 q195 q1827) rfl rfl rfl (by decide +kernel) ⟨by rw [hRf]; exact Nat.le_of_ble_eq_true rfl, by rw [hRl]; exact Nat.le_of_ble_eq_true rfl⟩) dX9_compare_9 [] (by decide) rfl rfl (List.forall_mem_cons.mpr ⟨(gg_r 0 rfl), (List.forall_mem_cons.mpr ⟨(gg_r 1 rfl), (List.forall_mem_cons.mpr ⟨(gg_r 2 rfl), (fun _ h => by cases h)⟩)⟩)⟩) (gg_r 0 rfl) rfl rfl (Nat.le_of_ble_eq_true rfl) (by first | (rw [hRc]; exact Nat.le_of_ble_eq_true rfl) | (rw [hRc]; dsimp only; omega)) (by first | (rw [hRs]; exact Nat.le_of_ble_eq_true rfl) | (rw [hRs]; dsimp only; omega)) ?_ (fun X q C1 h => h.elim)
  rintro _ _ ⟨rfl, rfl⟩
  dsimp only [List.cons_append, List.nil_append, Option.toList]
  refine gg_iret (pc := 12) E Fn rfl (rfl) dX9_compare_12 (by first | exact Nat.le_of_ble_eq_true rfl | (dsimp only; omega)) (by first | exact Nat.le_of_ble_eq_true rfl | (dsimp only; omega)) ?_
  exact ⟨rfl, rfl⟩
set_option maxHeartbeats 4000000 in
theorem ct_X11_init {l : Launch} (hl : l.stackTraces = false) {g : gg_G}  {h : Nat}  : gg_C l g yX11_init (ws_ yX11_init cX11_init 1 none) { frames := 1, cells := 0, slots := 0, locals := 16 } [.ref h] [(h, .inl (10, []))] [] (fun vv CC => vv = none ∧ CC = []) gg_no := by
  refine gg_of (lv := [_]) (by decide) hl (Nat.le_of_ble_eq_true rfl) rfl ?_
  intro p e R s m args below meth c A Q hRf hRl hRc hRs E Fn hnm hex
  refine gg_aload_n (pc := 0) E dX11_init_0 rfl rfl ?_
  refine gg_objInit (pc := 1) E q2637 dX11_init_1 (by rw [hRf]; exact Nat.le_of_ble_eq_true rfl) (by rw [hRl]; exact Nat.le_of_ble_eq_true rfl) ?_
  refine gg_vret (pc := 4) E Fn rfl dX11_init_4 (by first | exact Nat.le_of_ble_eq_true rfl | (dsimp only; omega)) (by first | exact Nat.le_of_ble_eq_true rfl | (dsimp only; omega)) ?_
  exact ⟨rfl, rfl⟩
set_option maxHeartbeats 4000000 in
theorem ct_X2_between {l : Launch} (hl : l.stackTraces = false) {g : gg_G}  {w : Nat} {ad : Nat → Nat} {t7 c7 : Int32} {v7 : Value} {nd wo : Nat → Nat} {m2 : Int32} {nw : Nat} {row : Nat → Int32} {a1 b1 : Int32} {P : gg_S} {sn : Nat → Nat} {nt nr : Nat} (hP : Po g P sn wo row nw nt) (hw : Ww row nr nw) : gg_C l g yX2_between (ws_ yX2_between cX2_between 5 (some (.object "WhistlePosts$Way"))) { frames := 12, cells := 1, slots := 5, locals := 223 } [.ref w, .int a1, .int b1] ([(w, .inl (1, [.ref (ad 1), .ref (ad 3), .ref (ad 4), .ref (ad 6), .ref (ad 7), .int t7, .int c7, v7])), ((ad 3), .inl (15, [.int m2, .int (nI nw), llF nd nw, llL nd nw]))] ++ ((llS nd wo nw) ++ P)) [] (fun vv CC => vv = some (va_rf (btw wo row nw a1 b1)) ∧ CC = []) gg_no := by
  refine gg_of (lv := [_, _, _, _, _]) (by decide) hl (Nat.le_of_ble_eq_true rfl) rfl ?_
  intro p e R s m args below meth c A Q hRf hRl hRc hRs E Fn hnm hex
  have h20 := hw.2.1
  refine gg_aload_n (pc := 0) E dX2_between_0 rfl rfl ?_
  refine gg_get (pc := 1) E ck_X2 1 q601 rfl (by decide) dX2_between_1 (gg_r 0 rfl) rfl ?_
  refine gg_callU (F := []) (As := []) (rest := []) (pc := 4) E ck_J19 (ct_J18_iterator hl (by omega)) (va_cwU (own := "WhistlePosts$World") (C := "java/util/LinkedList") (index := 58) (x := ⟨"java/util/LinkedList", "iterator", "()Ljava/util/Iterator;"⟩) (owner := "java/util/AbstractSequentialList") 0 E.2.2.2.2.1 (lw_app (lw_in _ [1190, 1191, 1193, 1194, 172] (by decide +kernel) (by decide +kernel)) (lw_meth q1195)) rfl rfl rfl rfl (by decide +kernel) ⟨by rw [hRf]; exact Nat.le_of_ble_eq_true rfl, by rw [hRl]; exact Nat.le_of_ble_eq_true rfl⟩) dX2_between_4 [] (by decide) rfl rfl (List.forall_mem_append.mpr ⟨(List.forall_mem_cons.mpr ⟨(gg_r 1 rfl), (fun _ h => by cases h)⟩), (fun q hq => gg_rm (List.mem_append_right _ (List.mem_append_left _ (hq))))⟩) (gg_r 1 rfl) rfl rfl (Nat.le_of_ble_eq_true rfl) (by first | (rw [hRc]; exact Nat.le_of_ble_eq_true rfl) | (rw [hRc]; dsimp only; omega)) (by first | (rw [hRs]; exact Nat.le_of_ble_eq_true rfl) | (rw [hRs]; dsimp only; omega)) ?_ (fun X q C1 h => h.elim)
  rintro _ _ ⟨i1, rfl, rfl⟩
  dsimp only [List.cons_append, List.nil_append, Option.toList]
  refine gg_astore_n (lv' := [_, _, _, _, _]) (pc := 7) E dX2_between_7 rfl (Nat.le_of_ble_eq_true rfl) rfl rfl ?_
  have L8 : ∀ (n : Nat) (k : Nat) (v : Value), nw - k < n → (k ≤ nw) → (∀ j, j < k → ¬ joP (row (160 + 3 * j)) (row (160 + 3 * j + 1)) a1 b1) → gg_W p l e R s m args below meth c g A 5 Q (0 + 1) (0 + 5) [[(i1, .inl (19, [v, va_rf (if k < nw then some (nd k) else none), .int (nI k), .int m2, .ref (ad 3)]))]] [some (.ref w), some (.int a1), some (.int b1), some (.ref i1), none] [] 8 := by
    intro n8
    induction n8 with
    | zero => intro k v hmz; exact absurd hmz (Nat.not_lt_zero _)
    | succ n8 ih8 =>
      intro k v hm8 hk hall
      refine gg_aload_n (pc := 8) E dX2_between_8 rfl rfl ?_
      refine gg_callF (F := [_]) (As := []) (rest := []) (pc := 9) E ck_J28 (ct_J28_hasNext hl (hk) (by omega)) (gg_cwF 0 E (x := ⟨"java/util/Iterator", "hasNext", "()Z"⟩) (by decide) nq1310 nq1308 nq1306 (lw_app (lw_in _ [1283, 1307, 1309, 188] (by decide +kernel) (by decide +kernel)) (lw_meth q1311)) (by decide +kernel) ⟨by rw [hRf]; exact Nat.le_of_ble_eq_true rfl, by rw [hRl]; exact Nat.le_of_ble_eq_true rfl⟩) dX2_between_9 [] (by decide) rfl rfl (List.forall_mem_cons.mpr ⟨(gg_i 0 rfl), (List.forall_mem_cons.mpr ⟨(gg_r 1 rfl), (fun _ h => by cases h)⟩)⟩) (gg_i 0 rfl) rfl rfl (Nat.le_of_ble_eq_true rfl) (by first | (rw [hRc]; exact Nat.le_of_ble_eq_true rfl) | (rw [hRc]; dsimp only; omega)) (by first | (rw [hRs]; exact Nat.le_of_ble_eq_true rfl) | (rw [hRs]; dsimp only; omega)) ?_ (fun X q C1 h => h.elim)
      rintro _ _ ⟨rfl, rfl⟩
      dsimp only [List.cons_append, List.nil_append, Option.toList]
      refine gg_ifP_eq (tgt := 44) (pc := 14) E dX2_between_14 (by decide) (fun c14 => ?_) (fun c14 => ?_)
      · obtain rfl : k = nw := by omega
        refine gg_let rfl rfl ?_
        refine gg_null (pc := 44) E dX2_between_44 ?_
        refine gg_aret (pc := 45) E Fn rfl (Or.inl ⟨_, rfl⟩) (Or.inl rfl) dX2_between_45 (by first | exact Nat.le_of_ble_eq_true rfl | (dsimp only; omega)) (by first | exact Nat.le_of_ble_eq_true rfl | (dsimp only; omega)) ?_
        exact ⟨by rw [btw_n hw hall]; rfl, rfl⟩
      · refine gg_aload_n (pc := 17) E dX2_between_17 rfl rfl ?_
        refine gg_callF (F := []) (As := []) (rest := []) (pc := 18) E ck_J28 (ct_J28_next hl (by omega) (by omega)) (gg_cwF 0 E (x := ⟨"java/util/Iterator", "next", "()Ljava/lang/Object;"⟩) (by decide) nq1423 nq1421 nq1306 (lw_app (lw_in _ [1313, 1420, 1422, 188] (by decide +kernel) (by decide +kernel)) (lw_meth q1424)) (by decide +kernel) ⟨by rw [hRf]; exact Nat.le_of_ble_eq_true rfl, by rw [hRl]; exact Nat.le_of_ble_eq_true rfl⟩) dX2_between_18 [0] (by decide) rfl rfl (List.forall_mem_append.mpr ⟨(List.forall_mem_cons.mpr ⟨(gg_r 1 rfl), (fun _ h => by cases h)⟩), (fun q hq => gg_rm (List.mem_append_right _ (List.mem_append_left _ (hq))))⟩) (gg_i 0 rfl) rfl rfl (Nat.le_of_ble_eq_true rfl) (by first | (rw [hRc]; exact Nat.le_of_ble_eq_true rfl) | (rw [hRc]; dsimp only; omega)) (by first | (rw [hRs]; exact Nat.le_of_ble_eq_true rfl) | (rw [hRs]; dsimp only; omega)) ?_ (fun X q C1 h => h.elim)
        rintro _ _ ⟨rfl, rfl⟩
        dsimp only [List.cons_append, List.nil_append, Option.toList]
        refine gg_cast (pc := 23) E ck_X4 q1432 (Or.inl rfl) dX2_between_23 (gg_rm (List.mem_append_right _ (List.mem_append_right _ (hP.2 k (by omega))))) ?_
        refine gg_astore (lv' := [_, _, _, _, _]) (pc := 26) E dX2_between_26 (Nat.le_of_ble_eq_true rfl) rfl rfl ?_
        refine gg_aload (pc := 28) E dX2_between_28 rfl ?_
        refine gg_iload_n (pc := 30) E dX2_between_30 rfl rfl ?_
        refine gg_iload_n (pc := 31) E dX2_between_31 rfl rfl ?_
        refine gg_callV (F := [_]) (As := [_, _]) (rest := []) (pc := 32) E ck_X4 (ct_X4_joins hl ) (cwV 2 E.2.2.2.2.1 (lw_V q1433 q1434 q1435 q177 q1436) rfl rfl rfl (by decide +kernel) ⟨by rw [hRf]; exact Nat.le_of_ble_eq_true rfl, by rw [hRl]; exact Nat.le_of_ble_eq_true rfl⟩) dX2_between_32 [] (by decide) rfl rfl (List.forall_mem_cons.mpr ⟨(gg_rm (List.mem_append_right _ (List.mem_append_right _ (hP.2 k (by omega))))), (fun _ h => by cases h)⟩) (gg_rm (List.mem_append_right _ (List.mem_append_right _ (hP.2 k (by omega))))) rfl rfl (Nat.le_of_ble_eq_true rfl) (by first | (rw [hRc]; exact Nat.le_of_ble_eq_true rfl) | (rw [hRc]; dsimp only; omega)) (by first | (rw [hRs]; exact Nat.le_of_ble_eq_true rfl) | (rw [hRs]; dsimp only; omega)) ?_ (fun X q C1 h => h.elim)
        rintro _ _ ⟨rfl, rfl⟩
        dsimp only [List.cons_append, List.nil_append, Option.toList]
        refine gg_ifP_eq (tgt := 41) (pc := 35) E dX2_between_35 (by decide) (fun c35 => ?_) (fun c35 => ?_)
        · refine gg_goto (tgt := 8) (pc := 41) E dX2_between_41 (by decide) ?_
          refine gg_cv rfl (gg_leS (gg_leS (gg_leS (gg_leS (gg_leN gg_le0))))) rfl (by first | exact Nat.le_refl _ | (dsimp only; omega)) (by first | exact Nat.le_refl _ | (dsimp only; omega)) (ih8 (k + 1) (.ref (nd k)) (by omega) (by omega) (all_s hall c35))
        · refine gg_let rfl rfl ?_
          refine gg_aload (pc := 38) E dX2_between_38 rfl ?_
          refine gg_aret (pc := 40) E Fn rfl (Or.inl ⟨_, rfl⟩) (Or.inr ⟨_, rfl⟩) dX2_between_40 (by first | exact Nat.le_of_ble_eq_true rfl | (dsimp only; omega)) (by first | exact Nat.le_of_ble_eq_true rfl | (dsimp only; omega)) ?_
          exact ⟨by rw [btw_y hw c14 c35 hall]; rfl, rfl⟩
  refine gg_cv rfl (gg_leS (gg_leS (gg_leS (gg_leS (gg_leN gg_le0))))) rfl (by first | exact Nat.le_refl _ | (dsimp only; omega)) (by first | exact Nat.le_refl _ | (dsimp only; omega)) (L8 _ 0 .null (Nat.lt_succ_self _) (Nat.zero_le _) (fun j hj => absurd hj (Nat.not_lt_zero j)))

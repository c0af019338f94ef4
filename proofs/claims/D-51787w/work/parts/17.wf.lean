set_option maxRecDepth 100000
abbrev m60 (x : Int32) : Int32 := x - x / 60 * 60
abbrev tn (k : Int32) : Nat := k.toInt.toNat
abbrev nl (row : Nat → Int32) (k : Nat) : Nat := tn (row (25 + 13 * k))
theorem nI_ne {w v : Nat} (h1 : w < 2 ^ 31) (h2 : v < 2 ^ 31) (h : w ≠ v) : ¬ nI w = nI v := fun q => h ((nI_eq h1 h2).mp q)
theorem tn_nI {j : Nat} (h : j < 2 ^ 31) : tn (nI j) = j := by
  unfold tn
  rw [nI_toInt h]
  rfl
theorem k_nI {k : Int32} {n : Nat} (h : 0 ≤ k.toInt ∧ k.toInt < n) : ∃ j, j < n ∧ k = nI j := by
  have h0 : ¬ k < 0 := by
    rw [Int32.lt_iff_toInt_lt]
    have : (0 : Int32).toInt = 0 := by decide
    omega
  obtain ⟨j, hj, rfl⟩ := nI_of h0
  rw [nI_toInt hj] at h
  exact ⟨j, by omega, rfl⟩
theorem th_1 {P : Prop} [Decidable P] : th (if P then 1 else 0) 1 1 = 0 ↔ P := by
  unfold th
  by_cases h : P <;> simp [h]
theorem th_2 {P W : Prop} [Decidable P] [Decidable W] : th (if P then 1 else 0) (if W then 1 else 0) 1 = 0 ↔ P ∧ W := by
  unfold th
  by_cases h : P <;> by_cases h' : W <;> simp [h, h']
theorem in_ab {a b : Int64} {k : Int32} {A B : Int} (ha : a.toInt = A) (hb : b.toInt = B) : (a ≤ k.toInt64 ∧ k.toInt64 ≤ b) ↔ A ≤ k.toInt ∧ k.toInt ≤ B := by
  rw [Int64.le_iff_toInt_le, Int64.le_iff_toInt_le, ha, hb, Int32.toInt_toInt64]
/-- what a roof's place in the order of those that wait is -/
def plc (row : Nat → Int32) (a : Int32) (t nt : Nat) : Int32 := sm (fun i => if (row (220 + 27 * i + 3) = 0 ∧ row (220 + 27 * i + 4) = a) ∧ (0 < br row i - br row t ∨ br row i - br row t = 0 ∧ i < t) then 1 else 0) nt
abbrev isR (nr : Nat) (k : Int32) : Prop := 0 ≤ k.toInt ∧ k.toInt < nr
def qWaiting (row : Nat → Int32) (nr nt : Nat) (k pl : Int32) : Int32 := if isR nr k then fi (fun i => (row (220 + 27 * i + 3) = 0 ∧ row (220 + 27 * i + 4) = k) ∧ plc row k i nt = pl) nt else 0
noncomputable def rea (row : Nat → Int32) (nw nt i : Nat) : Int32 := if ¬ row (220 + 27 * i + 3) = 0 then 1 else if dist row nw (-1) (tg row i) (ta row i) = none then 2 else if ¬ m60 (row 3 + 1) < row 5 then 3 else if row 3 + 1 < row (25 + 13 * ta row i + 11) then 4 else if row (25 + 13 * ts row i + 10) < row (25 + 13 * ta row i + 9) * br row i then 5 else if fas row nw (ta row i) nt = some i then 0 else 6
noncomputable def cau (row : Nat → Int32) (nw nt i : Nat) (re : Int32) : Int32 := if re = 1 then 100 + row (220 + 27 * i + 3) else if re = 2 then 200 + row (220 + 27 * i + 1) else if re = 3 then 300 + m60 (row 3 + 1) else if re = 4 then 400 + row (25 + 13 * ta row i + 11) - row 3 - 1 else if re = 5 then 500 + row (25 + 13 * ta row i + 9) * br row i - row (25 + 13 * ts row i + 10) else if re = 6 then 600 + dI (fas row nw (ta row i) nt) else 0
noncomputable def qWhy (row : Nat → Int32) (nw nt : Nat) (k de : Int32) : Int32 := if isR nt k ∧ 0 ≤ de.toInt ∧ de.toInt ≤ 1 then (if de = 0 then rea row nw nt (tn k) else cau row nw nt (tn k) (rea row nw nt (tn k))) else 0
def qCount (row : Nat → Int32) (pm : Int32) (nr nt : Nat) (wh : Int32) : Int32 := if 0 ≤ wh.toInt ∧ wh.toInt ≤ 13 then (if wh.toInt < 3 then row (tn wh) else if wh.toInt < 7 then sm (fun i => if row (220 + 27 * i + 3) = wh - 3 then 1 else 0) nt else if wh = 11 then sm (fun i => if row 3 < row (25 + 13 * i + 11) then 1 else 0) nr else if wh = 12 then sm (fun i => row (25 + 13 * i + 10)) nr else if wh = 13 then pm else row (tn wh - 4)) else 0
def qAccount (row : Nat → Int32) (wh : Int32) : Int32 := if 0 ≤ wh.toInt ∧ wh.toInt ≤ 10 then row (10 + tn wh) else 0
def qName (row : Nat → Int32) (nr : Nat) (k ix : Int32) : Int32 := if isR nr k then (if 0 ≤ ix.toInt ∧ ix.toInt < nl row (tn k) then row (25 + 13 * tn k + 1 + tn ix) else -1) else 0
def qRoof (row : Nat → Int32) (nr nw nt : Nat) (k wh : Int32) : Int32 := if isR nr k ∧ 0 ≤ wh.toInt ∧ wh.toInt ≤ 7 then (if wh = 4 then mx 0 (row (25 + 13 * tn k + 11) - row 3) else if wh = 5 then sm (fun i => if row (220 + 27 * i + 3) = 0 ∧ row (220 + 27 * i + 4) = k then 1 else 0) nt else if wh = 6 then sm (fun i => if row (160 + 3 * i) = k ∨ row (160 + 3 * i + 1) = k then 1 else 0) nw else if wh = 7 then row (25 + 13 * tn k + 12) else row (25 + 13 * tn k + 7 + tn wh)) else 0
def qWay (row : Nat → Int32) (nw : Nat) (k wh : Int32) : Int32 := if isR nw k ∧ 0 ≤ wh.toInt ∧ wh.toInt ≤ 2 then row (160 + 3 * tn k + tn wh) else 0
noncomputable def qRoute (row : Nat → Int32) (nr nw : Nat) (k o : Int32) : Int32 := if isR nr k ∧ isR nr o then dI (dist row nw (-1) (tn o) (tn k)) else 0
noncomputable def qNext (row : Nat → Int32) (nr nw : Nat) (k o : Int32) : Int32 := if isR nr k ∧ isR nr o then dI (nxt row nw (tn k) (tn o)) else 0
def unl (row : Nat → Int32) (t : Nat) : Int32 := sm (fun i => if ¬ row (220 + 27 * t + 11 + i) = row (220 + 27 * t + 19 + i) then 1 else 0) (tno row t)
def qTune (row : Nat → Int32) (nt : Nat) (k wh : Int32) : Int32 := if isR nt k ∧ 0 ≤ wh.toInt ∧ wh.toInt ≤ 11 then (if wh = 9 then br row (tn k) else if wh = 10 then unl row (tn k) else if wh = 11 then row (220 + 27 * tn k + 9) else row (220 + 27 * tn k + tn wh)) else 0
def qNote (row : Nat → Int32) (nt : Nat) (k ix he : Int32) : Int32 := if isR nt k then (if 0 ≤ ix.toInt ∧ ix.toInt < tno row (tn k) then row (220 + 27 * tn k + (if he = 0 then 11 else 19) + tn ix) else -1) else 0
theorem fas_eq {row : Nat → Int32} {nw k nt i : Nat} (ht : nt ≤ 30) (hi : i < nt) (h : dI (fas row nw k nt) = nI i) : fas row nw k nt = some i := by
  cases hf : fas row nw k nt with
  | none => rw [hf] at h; exact absurd h.symm (nI_nm1 (by omega))
  | some b =>
    have := fas_lt nt b hf
    rw [hf, dI_some, nI_eq (by omega) (by omega)] at h
    rw [h]
/-- a tune's state: waits, in the air, there, lost -/
def Sw (row : Nat → Int32) (t : Nat) : Prop := ∃ st, row (220 + 27 * t + 3) = nI st ∧ st ≤ 3 ∧ (st = 2 → ta row t = tg row t) ∧ (st = 0 → ta row t ≠ tg row t) ∧ (st = 1 ↔ ¬ row (220 + 27 * t + 5) = -1)
/-- what holds of the row at all times -/
def Gw (row : Nat → Int32) (nr nw nt : Nat) : Prop := row 0 = nI nr ∧ Ww row nr nw ∧ Tw row nr nt ∧ (∀ k, k < nr → (row (25 + 13 * k) = nI (nl row k) ∧ 1 ≤ nl row k ∧ nl row k ≤ 6) ∧ 1 ≤ (row (25 + 13 * k + 7)).toInt ∧ (row (25 + 13 * k + 7)).toInt ≤ 8 ∧ 0 ≤ (row (25 + 13 * k + 8)).toInt ∧ (row (25 + 13 * k + 8)).toInt ≤ 9) ∧ ∀ t, t < nt → Sw row t
set_option maxHeartbeats 4000000 in
theorem ct_X5_placeOf {l : Launch} (hl : l.stackTraces = false) {g : gg_G}  {h : Nat} {ad : Nat → Nat} {x : Nat → Int32} {row : Nat → Int32} {t nt : Nat} {a : Int32} (hnt : row 2 = nI nt) (ht30 : nt ≤ 30) (htt : t < nt) : gg_C l g yX5_placeOf (ws_ yX5_placeOf cX5_placeOf 6 (some .int)) { frames := 2, cells := 0, slots := 0, locals := 42 } [.ref h, .int (nI t), .int a] [(h, .inl (4, mo_f ad x)), ((ad 0), gg_ai g 1030 row)] [] (fun vv CC => vv = some (.int (plc row a t nt)) ∧ CC = []) gg_no := by
  refine gg_of (lv := [_, _, _, _, _, _]) (by decide) hl (Nat.le_of_ble_eq_true rfl) rfl ?_
  intro p e R s m args below meth c A Q hRf hRl hRc hRs E Fn hnm hex
  refine gg_iconst (v := 0) (pc := 0) E dX5_placeOf_0 (by decide) ?_
  refine gg_istore_n (lv' := [_, _, _, _, _, _]) (pc := 1) E dX5_placeOf_1 rfl (Nat.le_of_ble_eq_true rfl) rfl rfl ?_
  refine gg_iconst (v := 0) (pc := 2) E dX5_placeOf_2 (by decide) ?_
  refine gg_istore (lv' := [_, _, _, _, _, _]) (pc := 3) E dX5_placeOf_3 (Nat.le_of_ble_eq_true rfl) rfl rfl ?_
  have L5 : ∀ (n : Nat) (i : Nat), nt - i < n → (i ≤ nt) → gg_W p l e R s m args below meth c g A 6 Q 0 0 [] [some (.ref h), some (.int (nI t)), some (.int a), some (.int (plc row a t i)), some (.int (nI i)), none] [] 5 := by
    intro n5
    induction n5 with
    | zero => intro i hmz; exact absurd hmz (Nat.not_lt_zero _)
    | succ n5 ih5 =>
      intro i hm5 hi
      refine gg_iload (pc := 5) E dX5_placeOf_5 rfl ?_
      refine gg_aload_n (pc := 7) E dX5_placeOf_7 rfl rfl ?_
      refine gg_get (pc := 8) E ck_X5 0 q2859 rfl (by decide) dX5_placeOf_8 (gg_r 0 rfl) rfl ?_
      refine gg_iconst (v := 2) (pc := 11) E dX5_placeOf_11 (by decide) ?_
      refine gg_ialdN (pc := 12) E 2 rfl (by omega) (by omega) dX5_placeOf_12 (gg_r 1 rfl) ?_
      rw [hnt]
      refine gg_icmpN_ge (tgt := 73) (pc := 13) E i nt rfl rfl (by omega) (by omega) dX5_placeOf_13 (by decide) (fun c13 => ?_) (fun c13 => ?_)
      · refine gg_iload_n (pc := 73) E dX5_placeOf_73 rfl rfl ?_
        refine gg_iret (pc := 74) E Fn rfl (rfl) dX5_placeOf_74 (by first | exact Nat.le_of_ble_eq_true rfl | (dsimp only; omega)) (by first | exact Nat.le_of_ble_eq_true rfl | (dsimp only; omega)) ?_
        have e : i = nt := by omega
        subst e
        exact ⟨rfl, rfl⟩
      · refine gg_aload_n (pc := 16) E dX5_placeOf_16 rfl rfl ?_
        refine gg_iload (pc := 17) E dX5_placeOf_17 rfl ?_
        refine gg_callV (F := []) (As := [.int (nI i)]) (rest := []) (pc := 19) E ck_X5 (ct_X5_bars hl (by first | assumption | omega)) (cwV 1 E.2.2.2.2.1 (lw_V q3180 q3182 qs113 q179 q3183) rfl rfl rfl (by decide +kernel) ⟨by rw [hRf]; exact Nat.le_of_ble_eq_true rfl, by rw [hRl]; exact Nat.le_of_ble_eq_true rfl⟩) dX5_placeOf_19 [] (by decide) rfl rfl (List.forall_mem_cons.mpr ⟨(gg_r 0 rfl), (List.forall_mem_cons.mpr ⟨(gg_r 1 rfl), (fun _ h => by cases h)⟩)⟩) (gg_r 0 rfl) rfl rfl (Nat.le_of_ble_eq_true rfl) (by first | (rw [hRc]; exact Nat.le_of_ble_eq_true rfl) | (rw [hRc]; dsimp only; omega)) (by first | (rw [hRs]; exact Nat.le_of_ble_eq_true rfl) | (rw [hRs]; dsimp only; omega)) ?_ (fun X q C1 h => h.elim)
        rintro _ _ ⟨rfl, rfl⟩
        dsimp only [List.cons_append, List.nil_append, Option.toList]
        refine gg_aload_n (pc := 22) E dX5_placeOf_22 rfl rfl ?_
        refine gg_iload_n (pc := 23) E dX5_placeOf_23 rfl rfl ?_
        refine gg_callV (F := []) (As := [.int (nI t)]) (rest := [_]) (pc := 24) E ck_X5 (ct_X5_bars hl (by first | assumption | omega)) (cwV 1 E.2.2.2.2.1 (lw_V q3180 q3182 qs113 q179 q3183) rfl rfl rfl (by decide +kernel) ⟨by rw [hRf]; exact Nat.le_of_ble_eq_true rfl, by rw [hRl]; exact Nat.le_of_ble_eq_true rfl⟩) dX5_placeOf_24 [] (by decide) rfl rfl (List.forall_mem_cons.mpr ⟨(gg_r 0 rfl), (List.forall_mem_cons.mpr ⟨(gg_r 1 rfl), (fun _ h => by cases h)⟩)⟩) (gg_r 0 rfl) rfl rfl (Nat.le_of_ble_eq_true rfl) (by first | (rw [hRc]; exact Nat.le_of_ble_eq_true rfl) | (rw [hRc]; dsimp only; omega)) (by first | (rw [hRs]; exact Nat.le_of_ble_eq_true rfl) | (rw [hRs]; dsimp only; omega)) ?_ (fun X q C1 h => h.elim)
        rintro _ _ ⟨rfl, rfl⟩
        dsimp only [List.cons_append, List.nil_append, Option.toList]
        refine gg_isub (pc := 27) E dX5_placeOf_27 ?_
        refine gg_istore (lv' := [_, _, _, _, _, _]) (pc := 28) E dX5_placeOf_28 (Nat.le_of_ble_eq_true rfl) rfl rfl ?_
        refine gg_iload_n (pc := 30) E dX5_placeOf_30 rfl rfl ?_
        refine gg_aload_n (pc := 31) E dX5_placeOf_31 rfl rfl ?_
        refine gg_iload (pc := 32) E dX5_placeOf_32 rfl ?_
        refine gg_iload_n (pc := 34) E dX5_placeOf_34 rfl rfl ?_
        refine gg_callV (F := []) (As := [.int (nI i), _]) (rest := [_]) (pc := 35) E ck_X5 (ct_X5_waitsAt hl (by first | assumption | omega)) (cwV 2 E.2.2.2.2.1 (lw_V q3176 q3178 qs112 q179 q3179) rfl rfl rfl (by decide +kernel) ⟨by rw [hRf]; exact Nat.le_of_ble_eq_true rfl, by rw [hRl]; exact Nat.le_of_ble_eq_true rfl⟩) dX5_placeOf_35 [] (by decide) rfl rfl (List.forall_mem_cons.mpr ⟨(gg_r 0 rfl), (List.forall_mem_cons.mpr ⟨(gg_r 1 rfl), (fun _ h => by cases h)⟩)⟩) (gg_r 0 rfl) rfl rfl (Nat.le_of_ble_eq_true rfl) (by first | (rw [hRc]; exact Nat.le_of_ble_eq_true rfl) | (rw [hRc]; dsimp only; omega)) (by first | (rw [hRs]; exact Nat.le_of_ble_eq_true rfl) | (rw [hRs]; dsimp only; omega)) ?_ (fun X q C1 h => h.elim)
        rintro _ _ ⟨rfl, rfl⟩
        dsimp only [List.cons_append, List.nil_append, Option.toList]
        refine gg_ifP_eq (tgt := 61) (pc := 38) E dX5_placeOf_38 (by decide) (fun c38 => ?_) (fun c38 => ?_)
        · refine gg_iconst (v := 0) (pc := 61) E dX5_placeOf_61 (by decide) ?_
          refine gg_topI (y := if (row (220 + 27 * i + 3) = 0 ∧ row (220 + 27 * i + 4) = a) ∧ (0 < br row i - br row t ∨ br row i - br row t = 0 ∧ i < t) then 1 else 0) (if_neg (fun q => c38 q.1)).symm ?_
          refine gg_callS (F := []) (As := [_]) (rest := [_]) (pc := 62) E (ct_X5_one hl ) (va_cwS 1 E.2.2.2.2.1 (lw_S q3124 q3125 q179 q3126) rfl rfl rfl (by decide +kernel) ⟨by rw [hRf]; exact Nat.le_of_ble_eq_true rfl, by rw [hRl]; exact Nat.le_of_ble_eq_true rfl⟩) dX5_placeOf_62 [] (by decide) rfl rfl (fun _ h => by cases h) rfl rfl (Nat.le_of_ble_eq_true rfl) (by first | (rw [hRc]; exact Nat.le_of_ble_eq_true rfl) | (rw [hRc]; dsimp only; omega)) (by first | (rw [hRs]; exact Nat.le_of_ble_eq_true rfl) | (rw [hRs]; dsimp only; omega)) ?_ (fun X q C1 h => h.elim)
          rintro _ _ ⟨rfl, rfl⟩
          dsimp only [List.cons_append, List.nil_append, Option.toList]
          refine gg_iadd (pc := 65) E dX5_placeOf_65 ?_
          refine gg_istore_n (lv' := [_, _, _, _, _, _]) (pc := 66) E dX5_placeOf_66 rfl (Nat.le_of_ble_eq_true rfl) rfl rfl ?_
          refine gg_iincN (k := 1) (lv' := [_, _, _, _, _, _]) (pc := 67) E i dX5_placeOf_67 rfl rfl rfl (Nat.le_of_ble_eq_true rfl) rfl rfl ?_
          refine gg_goto (tgt := 5) (pc := 70) E dX5_placeOf_70 (by decide) ?_
          refine gg_cv rfl (gg_leS (gg_leS (gg_leS (gg_leS (gg_leS (gg_leN gg_le0)))))) rfl (by first | exact Nat.le_refl _ | (dsimp only; omega)) (by first | exact Nat.le_refl _ | (dsimp only; omega)) (ih5 (i + 1) (by omega) (by omega))
        · refine gg_iload (pc := 41) E dX5_placeOf_41 rfl ?_
          refine gg_if_gt (tgt := 57) (pc := 43) E dX5_placeOf_43 (by decide) (fun c43 => ?_) (fun c43 => ?_)
          · refine gg_iconst (v := 1) (pc := 57) E dX5_placeOf_57 (by decide) ?_
            refine gg_goto (tgt := 62) (pc := 58) E dX5_placeOf_58 (by decide) ?_
            refine gg_topI (y := if (row (220 + 27 * i + 3) = 0 ∧ row (220 + 27 * i + 4) = a) ∧ (0 < br row i - br row t ∨ br row i - br row t = 0 ∧ i < t) then 1 else 0) (if_pos ⟨c38, Or.inl c43⟩).symm ?_
            refine gg_callS (F := []) (As := [_]) (rest := [_]) (pc := 62) E (ct_X5_one hl ) (va_cwS 1 E.2.2.2.2.1 (lw_S q3124 q3125 q179 q3126) rfl rfl rfl (by decide +kernel) ⟨by rw [hRf]; exact Nat.le_of_ble_eq_true rfl, by rw [hRl]; exact Nat.le_of_ble_eq_true rfl⟩) dX5_placeOf_62 [] (by decide) rfl rfl (fun _ h => by cases h) rfl rfl (Nat.le_of_ble_eq_true rfl) (by first | (rw [hRc]; exact Nat.le_of_ble_eq_true rfl) | (rw [hRc]; dsimp only; omega)) (by first | (rw [hRs]; exact Nat.le_of_ble_eq_true rfl) | (rw [hRs]; dsimp only; omega)) ?_ (fun X q C1 h => h.elim)
            rintro _ _ ⟨rfl, rfl⟩
            dsimp only [List.cons_append, List.nil_append, Option.toList]
            refine gg_iadd (pc := 65) E dX5_placeOf_65 ?_
            refine gg_istore_n (lv' := [_, _, _, _, _, _]) (pc := 66) E dX5_placeOf_66 rfl (Nat.le_of_ble_eq_true rfl) rfl rfl ?_
            refine gg_iincN (k := 1) (lv' := [_, _, _, _, _, _]) (pc := 67) E i dX5_placeOf_67 rfl rfl rfl (Nat.le_of_ble_eq_true rfl) rfl rfl ?_
            refine gg_goto (tgt := 5) (pc := 70) E dX5_placeOf_70 (by decide) ?_
            refine gg_cv rfl (gg_leS (gg_leS (gg_leS (gg_leS (gg_leS (gg_leN gg_le0)))))) rfl (by first | exact Nat.le_refl _ | (dsimp only; omega)) (by first | exact Nat.le_refl _ | (dsimp only; omega)) (ih5 (i + 1) (by omega) (by omega))
          · refine gg_iload (pc := 46) E dX5_placeOf_46 rfl ?_
            refine gg_if_ne (tgt := 61) (pc := 48) E dX5_placeOf_48 (by decide) (fun c48 => ?_) (fun c48 => ?_)
            · refine gg_iconst (v := 0) (pc := 61) E dX5_placeOf_61 (by decide) ?_
              refine gg_topI (y := if (row (220 + 27 * i + 3) = 0 ∧ row (220 + 27 * i + 4) = a) ∧ (0 < br row i - br row t ∨ br row i - br row t = 0 ∧ i < t) then 1 else 0) (if_neg (fun q => q.2.elim c43 (fun z => c48 z.1))).symm ?_
              refine gg_callS (F := []) (As := [_]) (rest := [_]) (pc := 62) E (ct_X5_one hl ) (va_cwS 1 E.2.2.2.2.1 (lw_S q3124 q3125 q179 q3126) rfl rfl rfl (by decide +kernel) ⟨by rw [hRf]; exact Nat.le_of_ble_eq_true rfl, by rw [hRl]; exact Nat.le_of_ble_eq_true rfl⟩) dX5_placeOf_62 [] (by decide) rfl rfl (fun _ h => by cases h) rfl rfl (Nat.le_of_ble_eq_true rfl) (by first | (rw [hRc]; exact Nat.le_of_ble_eq_true rfl) | (rw [hRc]; dsimp only; omega)) (by first | (rw [hRs]; exact Nat.le_of_ble_eq_true rfl) | (rw [hRs]; dsimp only; omega)) ?_ (fun X q C1 h => h.elim)
              rintro _ _ ⟨rfl, rfl⟩
              dsimp only [List.cons_append, List.nil_append, Option.toList]
              refine gg_iadd (pc := 65) E dX5_placeOf_65 ?_
              refine gg_istore_n (lv' := [_, _, _, _, _, _]) (pc := 66) E dX5_placeOf_66 rfl (Nat.le_of_ble_eq_true rfl) rfl rfl ?_
              refine gg_iincN (k := 1) (lv' := [_, _, _, _, _, _]) (pc := 67) E i dX5_placeOf_67 rfl rfl rfl (Nat.le_of_ble_eq_true rfl) rfl rfl ?_
              refine gg_goto (tgt := 5) (pc := 70) E dX5_placeOf_70 (by decide) ?_
              refine gg_cv rfl (gg_leS (gg_leS (gg_leS (gg_leS (gg_leS (gg_leN gg_le0)))))) rfl (by first | exact Nat.le_refl _ | (dsimp only; omega)) (by first | exact Nat.le_refl _ | (dsimp only; omega)) (ih5 (i + 1) (by omega) (by omega))
            · refine gg_iload (pc := 51) E dX5_placeOf_51 rfl ?_
              refine gg_iload_n (pc := 53) E dX5_placeOf_53 rfl rfl ?_
              refine gg_icmpN_ge (tgt := 61) (pc := 54) E i t rfl rfl (by omega) (by omega) dX5_placeOf_54 (by decide) (fun c54 => ?_) (fun c54 => ?_)
              · refine gg_iconst (v := 0) (pc := 61) E dX5_placeOf_61 (by decide) ?_
                refine gg_topI (y := if (row (220 + 27 * i + 3) = 0 ∧ row (220 + 27 * i + 4) = a) ∧ (0 < br row i - br row t ∨ br row i - br row t = 0 ∧ i < t) then 1 else 0) (if_neg (fun q => q.2.elim c43 (fun z => absurd z.2 (Nat.not_lt.mpr c54)))).symm ?_
                refine gg_callS (F := []) (As := [_]) (rest := [_]) (pc := 62) E (ct_X5_one hl ) (va_cwS 1 E.2.2.2.2.1 (lw_S q3124 q3125 q179 q3126) rfl rfl rfl (by decide +kernel) ⟨by rw [hRf]; exact Nat.le_of_ble_eq_true rfl, by rw [hRl]; exact Nat.le_of_ble_eq_true rfl⟩) dX5_placeOf_62 [] (by decide) rfl rfl (fun _ h => by cases h) rfl rfl (Nat.le_of_ble_eq_true rfl) (by first | (rw [hRc]; exact Nat.le_of_ble_eq_true rfl) | (rw [hRc]; dsimp only; omega)) (by first | (rw [hRs]; exact Nat.le_of_ble_eq_true rfl) | (rw [hRs]; dsimp only; omega)) ?_ (fun X q C1 h => h.elim)
                rintro _ _ ⟨rfl, rfl⟩
                dsimp only [List.cons_append, List.nil_append, Option.toList]
                refine gg_iadd (pc := 65) E dX5_placeOf_65 ?_
                refine gg_istore_n (lv' := [_, _, _, _, _, _]) (pc := 66) E dX5_placeOf_66 rfl (Nat.le_of_ble_eq_true rfl) rfl rfl ?_
                refine gg_iincN (k := 1) (lv' := [_, _, _, _, _, _]) (pc := 67) E i dX5_placeOf_67 rfl rfl rfl (Nat.le_of_ble_eq_true rfl) rfl rfl ?_
                refine gg_goto (tgt := 5) (pc := 70) E dX5_placeOf_70 (by decide) ?_
                refine gg_cv rfl (gg_leS (gg_leS (gg_leS (gg_leS (gg_leS (gg_leN gg_le0)))))) rfl (by first | exact Nat.le_refl _ | (dsimp only; omega)) (by first | exact Nat.le_refl _ | (dsimp only; omega)) (ih5 (i + 1) (by omega) (by omega))
              · refine gg_iconst (v := 1) (pc := 57) E dX5_placeOf_57 (by decide) ?_
                refine gg_goto (tgt := 62) (pc := 58) E dX5_placeOf_58 (by decide) ?_
                refine gg_topI (y := if (row (220 + 27 * i + 3) = 0 ∧ row (220 + 27 * i + 4) = a) ∧ (0 < br row i - br row t ∨ br row i - br row t = 0 ∧ i < t) then 1 else 0) (if_pos ⟨c38, Or.inr ⟨c48, c54⟩⟩).symm ?_
                refine gg_callS (F := []) (As := [_]) (rest := [_]) (pc := 62) E (ct_X5_one hl ) (va_cwS 1 E.2.2.2.2.1 (lw_S q3124 q3125 q179 q3126) rfl rfl rfl (by decide +kernel) ⟨by rw [hRf]; exact Nat.le_of_ble_eq_true rfl, by rw [hRl]; exact Nat.le_of_ble_eq_true rfl⟩) dX5_placeOf_62 [] (by decide) rfl rfl (fun _ h => by cases h) rfl rfl (Nat.le_of_ble_eq_true rfl) (by first | (rw [hRc]; exact Nat.le_of_ble_eq_true rfl) | (rw [hRc]; dsimp only; omega)) (by first | (rw [hRs]; exact Nat.le_of_ble_eq_true rfl) | (rw [hRs]; dsimp only; omega)) ?_ (fun X q C1 h => h.elim)
                rintro _ _ ⟨rfl, rfl⟩
                dsimp only [List.cons_append, List.nil_append, Option.toList]
                refine gg_iadd (pc := 65) E dX5_placeOf_65 ?_
                refine gg_istore_n (lv' := [_, _, _, _, _, _]) (pc := 66) E dX5_placeOf_66 rfl (Nat.le_of_ble_eq_true rfl) rfl rfl ?_
                refine gg_iincN (k := 1) (lv' := [_, _, _, _, _, _]) (pc := 67) E i dX5_placeOf_67 rfl rfl rfl (Nat.le_of_ble_eq_true rfl) rfl rfl ?_
                refine gg_goto (tgt := 5) (pc := 70) E dX5_placeOf_70 (by decide) ?_
                refine gg_cv rfl (gg_leS (gg_leS (gg_leS (gg_leS (gg_leS (gg_leN gg_le0)))))) rfl (by first | exact Nat.le_refl _ | (dsimp only; omega)) (by first | exact Nat.le_refl _ | (dsimp only; omega)) (ih5 (i + 1) (by omega) (by omega))
  refine gg_cv rfl (gg_leS (gg_leS (gg_leS (gg_leS (gg_leS (gg_leN gg_le0)))))) rfl (by first | exact Nat.le_refl _ | (dsimp only; omega)) (by first | exact Nat.le_refl _ | (dsimp only; omega)) (L5 _ 0 (Nat.lt_succ_self _) (Nat.zero_le _))
set_option maxHeartbeats 4000000 in
theorem ct_X5_waiting {l : Launch} (hl : l.stackTraces = false) {g : gg_G}  {h : Nat} {ad : Nat → Nat} {x : Nat → Int32} {row : Nat → Int32} {k pl : Int32} {nr nw nt : Nat} (hG : Gw row nr nw nt) : gg_C l g yX5_waiting (ws_ yX5_waiting cX5_waiting 4 (some .int)) { frames := 3, cells := 0, slots := 0, locals := 67 } [.ref h, .int k, .int pl] [((ad 0), gg_ai g 1030 row)] [[(h, .inl (4, mo_f ad x))]] (fun vv CC => vv = some (.int (qWaiting row nr nt k pl)) ∧ CC = [[(h, .inl (4, mo_f ad (upd x 6 (th (if 0 ≤ k.toInt ∧ k.toInt < nr then 1 else 0) 1 1))))]]) gg_no := by
  refine gg_of (lv := [_, _, _, _]) (by decide) hl (Nat.le_of_ble_eq_true rfl) rfl ?_
  intro p e R s m args below meth c A Q hRf hRl hRc hRs E Fn hnm hex
  have hG0 := hG
  obtain ⟨hnr, hw, ht, hG4, hGS⟩ := hG
  have hnw := hw.1
  have hw20 := hw.2.1
  have hr10 := hw.2.2.1
  have hnt := ht.1
  have ht30 := ht.2.1
  refine gg_aload_n (pc := 0) E dX5_waiting_0 rfl rfl ?_
  refine gg_aload_n (pc := 1) E dX5_waiting_1 rfl rfl ?_
  refine gg_iload_n (pc := 2) E dX5_waiting_2 rfl rfl ?_
  refine gg_callV (F := [_]) (As := [_]) (rest := [_]) (pc := 3) E ck_X5 (ct_X5_isRoof hl (by first | assumption | omega) (by first | assumption | omega)) (cwV 1 E.2.2.2.2.1 (lw_V q3266 q3268 qs131 q179 q3269) rfl rfl rfl (by decide +kernel) ⟨by rw [hRf]; exact Nat.le_of_ble_eq_true rfl, by rw [hRl]; exact Nat.le_of_ble_eq_true rfl⟩) dX5_waiting_3 [] (by decide) rfl rfl (List.forall_mem_cons.mpr ⟨(gg_i 0 rfl), (List.forall_mem_cons.mpr ⟨(gg_r 0 rfl), (fun _ h => by cases h)⟩)⟩) (gg_i 0 rfl) rfl rfl (Nat.le_of_ble_eq_true rfl) (by first | (rw [hRc]; exact Nat.le_of_ble_eq_true rfl) | (rw [hRc]; dsimp only; omega)) (by first | (rw [hRs]; exact Nat.le_of_ble_eq_true rfl) | (rw [hRs]; dsimp only; omega)) ?_ (fun X q C1 h => h.elim)
  rintro _ _ ⟨rfl, rfl⟩
  dsimp only [List.cons_append, List.nil_append, Option.toList]
  refine gg_iconst (v := 1) (pc := 6) E dX5_waiting_6 (by decide) ?_
  refine gg_iconst (v := 1) (pc := 7) E dX5_waiting_7 (by decide) ?_
  refine gg_callV (F := []) (As := [_, _, _]) (rest := []) (pc := 8) E ck_X5 (ct_X5_may hl ) (cwV 3 E.2.2.2.2.1 (lw_V q3241 q3243 qs127 q179 q3244) rfl rfl rfl (by decide +kernel) ⟨by rw [hRf]; exact Nat.le_of_ble_eq_true rfl, by rw [hRl]; exact Nat.le_of_ble_eq_true rfl⟩) dX5_waiting_8 [0] (by decide) rfl rfl (fun _ h => by cases h) (gg_i 0 rfl) rfl rfl (Nat.le_of_ble_eq_true rfl) (by first | (rw [hRc]; exact Nat.le_of_ble_eq_true rfl) | (rw [hRc]; dsimp only; omega)) (by first | (rw [hRs]; exact Nat.le_of_ble_eq_true rfl) | (rw [hRs]; dsimp only; omega)) ?_ (fun X q C1 h => h.elim)
  rintro _ _ ⟨rfl, rfl⟩
  dsimp only [List.cons_append, List.nil_append, Option.toList]
  refine gg_ifP_ne (tgt := 16) (pc := 11) E dX5_waiting_11 (by decide) (fun c11 => ?_) (fun c11 => ?_)
  · refine gg_iconst (v := 0) (pc := 16) E dX5_waiting_16 (by decide) ?_
    refine gg_istore_n (lv' := [_, _, _, _]) (pc := 17) E dX5_waiting_17 rfl (Nat.le_of_ble_eq_true rfl) rfl rfl ?_
    have L18 : ∀ (n : Nat) (i : Nat), nt - i < n → (i ≤ nt) → (∀ j, j < i → ¬ ((row (220 + 27 * j + 3) = 0 ∧ row (220 + 27 * j + 4) = k) ∧ plc row k j nt = pl)) → gg_W p l e R s m args below meth c g A 4 Q 0 0 [[(h, .inl (4, mo_f ad (upd x 6 (th (if 0 ≤ k.toInt ∧ k.toInt < nr then 1 else 0) 1 1))))]] [some (.ref h), some (.int k), some (.int pl), some (.int (nI i))] [] 18 := by
      intro n18
      induction n18 with
      | zero => intro i hmz; exact absurd hmz (Nat.not_lt_zero _)
      | succ n18 ih18 =>
        intro i hm18 hi hm
        refine gg_iload_n (pc := 18) E dX5_waiting_18 rfl rfl ?_
        refine gg_aload_n (pc := 19) E dX5_waiting_19 rfl rfl ?_
        refine gg_get (pc := 20) E ck_X5 0 q2859 rfl (by decide) dX5_waiting_20 (gg_i 0 rfl) rfl ?_
        refine gg_iconst (v := 2) (pc := 23) E dX5_waiting_23 (by decide) ?_
        refine gg_ialdN (pc := 24) E 2 rfl (by omega) (by omega) dX5_waiting_24 (gg_r 0 rfl) ?_
        rw [hnt]
        refine gg_icmpN_ge (tgt := 55) (pc := 25) E i nt rfl rfl (by omega) (by omega) dX5_waiting_25 (by decide) (fun c25 => ?_) (fun c25 => ?_)
        · refine gg_iconst (v := (-1)) (pc := 55) E dX5_waiting_55 (by decide) ?_
          refine gg_iret (pc := 56) E Fn rfl (rfl) dX5_waiting_56 (by first | exact Nat.le_of_ble_eq_true rfl | (dsimp only; omega)) (by first | exact Nat.le_of_ble_eq_true rfl | (dsimp only; omega)) ?_
          have e : i = nt := by omega
          subst e
          exact ⟨by unfold qWaiting; rw [if_pos (th_1.mp c11), fi_none hm], rfl⟩
        · refine gg_aload_n (pc := 28) E dX5_waiting_28 rfl rfl ?_
          refine gg_iload_n (pc := 29) E dX5_waiting_29 rfl rfl ?_
          refine gg_iload_n (pc := 30) E dX5_waiting_30 rfl rfl ?_
          refine gg_callV (F := [_]) (As := [.int (nI i), _]) (rest := []) (pc := 31) E ck_X5 (ct_X5_waitsAt hl (by first | assumption | omega)) (cwV 2 E.2.2.2.2.1 (lw_V q3176 q3178 qs112 q179 q3179) rfl rfl rfl (by decide +kernel) ⟨by rw [hRf]; exact Nat.le_of_ble_eq_true rfl, by rw [hRl]; exact Nat.le_of_ble_eq_true rfl⟩) dX5_waiting_31 [] (by decide) rfl rfl (List.forall_mem_cons.mpr ⟨(gg_i 0 rfl), (List.forall_mem_cons.mpr ⟨(gg_r 0 rfl), (fun _ h => by cases h)⟩)⟩) (gg_i 0 rfl) rfl rfl (Nat.le_of_ble_eq_true rfl) (by first | (rw [hRc]; exact Nat.le_of_ble_eq_true rfl) | (rw [hRc]; dsimp only; omega)) (by first | (rw [hRs]; exact Nat.le_of_ble_eq_true rfl) | (rw [hRs]; dsimp only; omega)) ?_ (fun X q C1 h => h.elim)
          rintro _ _ ⟨rfl, rfl⟩
          dsimp only [List.cons_append, List.nil_append, Option.toList]
          refine gg_ifP_eq (tgt := 49) (pc := 34) E dX5_waiting_34 (by decide) (fun c34 => ?_) (fun c34 => ?_)
          · refine gg_iincN (k := 1) (lv' := [_, _, _, _]) (pc := 49) E i dX5_waiting_49 rfl rfl rfl (Nat.le_of_ble_eq_true rfl) rfl rfl ?_
            refine gg_goto (tgt := 18) (pc := 52) E dX5_waiting_52 (by decide) ?_
            refine gg_cv rfl (gg_leS (gg_leS (gg_leS (gg_leS gg_le0)))) rfl (by first | exact Nat.le_refl _ | (dsimp only; omega)) (by first | exact Nat.le_refl _ | (dsimp only; omega)) (ih18 (i + 1) (by omega) (by omega) (all_s hm (fun q => by first | exact c34 q.1 | exact c44 q.2)))
          · refine gg_aload_n (pc := 37) E dX5_waiting_37 rfl rfl ?_
            refine gg_iload_n (pc := 38) E dX5_waiting_38 rfl rfl ?_
            refine gg_iload_n (pc := 39) E dX5_waiting_39 rfl rfl ?_
            refine gg_callV (F := [_]) (As := [.int (nI i), _]) (rest := []) (pc := 40) E ck_X5 (ct_X5_placeOf hl (by first | assumption | omega) (by first | assumption | omega) (by first | assumption | omega)) (cwV 2 E.2.2.2.2.1 (lw_V q3317 q3319 qs136 q179 q3320) rfl rfl rfl (by decide +kernel) ⟨by rw [hRf]; exact Nat.le_of_ble_eq_true rfl, by rw [hRl]; exact Nat.le_of_ble_eq_true rfl⟩) dX5_waiting_40 [] (by decide) rfl rfl (List.forall_mem_cons.mpr ⟨(gg_i 0 rfl), (List.forall_mem_cons.mpr ⟨(gg_r 0 rfl), (fun _ h => by cases h)⟩)⟩) (gg_i 0 rfl) rfl rfl (Nat.le_of_ble_eq_true rfl) (by first | (rw [hRc]; exact Nat.le_of_ble_eq_true rfl) | (rw [hRc]; dsimp only; omega)) (by first | (rw [hRs]; exact Nat.le_of_ble_eq_true rfl) | (rw [hRs]; dsimp only; omega)) ?_ (fun X q C1 h => h.elim)
            rintro _ _ ⟨rfl, rfl⟩
            dsimp only [List.cons_append, List.nil_append, Option.toList]
            refine gg_iload_n (pc := 43) E dX5_waiting_43 rfl rfl ?_
            refine gg_icmp_ne (tgt := 49) (pc := 44) E dX5_waiting_44 (by decide) (fun c44 => ?_) (fun c44 => ?_)
            · refine gg_iincN (k := 1) (lv' := [_, _, _, _]) (pc := 49) E i dX5_waiting_49 rfl rfl rfl (Nat.le_of_ble_eq_true rfl) rfl rfl ?_
              refine gg_goto (tgt := 18) (pc := 52) E dX5_waiting_52 (by decide) ?_
              refine gg_cv rfl (gg_leS (gg_leS (gg_leS (gg_leS gg_le0)))) rfl (by first | exact Nat.le_refl _ | (dsimp only; omega)) (by first | exact Nat.le_refl _ | (dsimp only; omega)) (ih18 (i + 1) (by omega) (by omega) (all_s hm (fun q => by first | exact c34 q.1 | exact c44 q.2)))
            · refine gg_iload_n (pc := 47) E dX5_waiting_47 rfl rfl ?_
              refine gg_iret (pc := 48) E Fn rfl (rfl) dX5_waiting_48 (by first | exact Nat.le_of_ble_eq_true rfl | (dsimp only; omega)) (by first | exact Nat.le_of_ble_eq_true rfl | (dsimp only; omega)) ?_
              exact ⟨by unfold qWaiting; rw [if_pos (th_1.mp c11), fi_some (by omega) ⟨c34, c44⟩ hm], rfl⟩
    refine gg_cv rfl (gg_leS (gg_leS (gg_leS (gg_leS gg_le0)))) rfl (by first | exact Nat.le_refl _ | (dsimp only; omega)) (by first | exact Nat.le_refl _ | (dsimp only; omega)) (L18 _ 0 (Nat.lt_succ_self _) (Nat.zero_le _) (fun j hj => absurd hj (Nat.not_lt_zero j)))
  · refine gg_iconst (v := 0) (pc := 14) E dX5_waiting_14 (by decide) ?_
    refine gg_iret (pc := 15) E Fn rfl (rfl) dX5_waiting_15 (by first | exact Nat.le_of_ble_eq_true rfl | (dsimp only; omega)) (by first | exact Nat.le_of_ble_eq_true rfl | (dsimp only; omega)) ?_
    exact ⟨by unfold qWaiting; rw [if_neg (fun q => c11 (th_1.mpr q))], rfl⟩
set_option maxHeartbeats 4000000 in
theorem ct_X5_reason {l : Launch} (hl : l.stackTraces = false) {g : gg_G}  {h : Nat} {ad : Nat → Nat} {x : Nat → Int32} {row : Nat → Int32} {sums : Nat → Int32} {i : Nat} {nr nw nt : Nat} (hG : Gw row nr nw nt) (hi : i < nt) : gg_C l g yX5_reason (ws_ yX5_reason cX5_reason 4 (some .int)) { frames := 7, cells := 0, slots := 0, locals := 162 } [.ref h, .int (nI i)] [(h, .inl (4, mo_f ad x)), ((ad 0), gg_ai g 1030 row)] [[((ad 9), gg_ai g 10 sums)]] (fun vv CC => ∃ (sums1 : Nat → Int32), vv = some (.int (rea row nw nt i)) ∧ CC = [[((ad 9), gg_ai g 10 sums1)]]) gg_no := by
  refine gg_of (lv := [_, _, _, _]) (by decide) hl (Nat.le_of_ble_eq_true rfl) rfl ?_
  intro p e R s m args below meth c A Q hRf hRl hRc hRs E Fn hnm hex
  have hG0 := hG
  obtain ⟨hnr, hw, ht, hG4, hGS⟩ := hG
  have hnw := hw.1
  have hw20 := hw.2.1
  have hr10 := hw.2.2.1
  have hnt := ht.1
  have ht30 := ht.2.1
  obtain ⟨g1, g2, g3, g4, g5, g6, g7, g8, g9, g10⟩ := ht.2.2.2 i (by omega)
  refine gg_iload_n (pc := 0) E dX5_reason_0 rfl rfl ?_
  refine gg_callS (F := [_]) (As := [.int (nI i)]) (rest := []) (pc := 1) E (ct_X5_t hl ) (va_cwS 1 E.2.2.2.2.1 (lw_S q3121 q3122 q179 q3123) rfl rfl rfl (by decide +kernel) ⟨by rw [hRf]; exact Nat.le_of_ble_eq_true rfl, by rw [hRl]; exact Nat.le_of_ble_eq_true rfl⟩) dX5_reason_1 [] (by decide) rfl rfl (fun _ h => by cases h) rfl rfl (Nat.le_of_ble_eq_true rfl) (by first | (rw [hRc]; exact Nat.le_of_ble_eq_true rfl) | (rw [hRc]; dsimp only; omega)) (by first | (rw [hRs]; exact Nat.le_of_ble_eq_true rfl) | (rw [hRs]; dsimp only; omega)) ?_ (fun X q C1 h => h.elim)
  rintro _ _ ⟨rfl, rfl⟩
  dsimp only [List.cons_append, List.nil_append, Option.toList]
  refine gg_istore_n (lv' := [_, _, _, _]) (pc := 4) E dX5_reason_4 rfl (Nat.le_of_ble_eq_true rfl) rfl rfl ?_
  refine gg_aload_n (pc := 5) E dX5_reason_5 rfl rfl ?_
  refine gg_get (pc := 6) E ck_X5 0 q2859 rfl (by decide) dX5_reason_6 (gg_r 0 rfl) rfl ?_
  refine gg_iload_n (pc := 9) E dX5_reason_9 rfl rfl ?_
  refine gg_iconst (v := 4) (pc := 10) E dX5_reason_10 (by decide) ?_
  refine gg_iaddN (pc := 11) E (220 + 27 * i) 4 rfl rfl dX5_reason_11 ?_
  refine gg_ialdN (pc := 12) E ((220 + 27 * i) + 4) rfl (by omega) (by omega) dX5_reason_12 (gg_r 1 rfl) ?_
  rw [g4]
  refine gg_istore_n (lv' := [_, _, _, _]) (pc := 13) E dX5_reason_13 rfl (Nat.le_of_ble_eq_true rfl) rfl rfl ?_
  refine gg_aload_n (pc := 14) E dX5_reason_14 rfl rfl ?_
  refine gg_get (pc := 15) E ck_X5 0 q2859 rfl (by decide) dX5_reason_15 (gg_r 0 rfl) rfl ?_
  refine gg_iload_n (pc := 18) E dX5_reason_18 rfl rfl ?_
  refine gg_iconst (v := 3) (pc := 19) E dX5_reason_19 (by decide) ?_
  refine gg_iaddN (pc := 20) E (220 + 27 * i) 3 rfl rfl dX5_reason_20 ?_
  refine gg_ialdN (pc := 21) E ((220 + 27 * i) + 3) rfl (by omega) (by omega) dX5_reason_21 (gg_r 1 rfl) ?_
  refine gg_if_eq (tgt := 27) (pc := 22) E dX5_reason_22 (by decide) (fun c22 => ?_) (fun c22 => ?_)
  · refine gg_aload_n (pc := 27) E dX5_reason_27 rfl rfl ?_
    refine gg_iload_n (pc := 28) E dX5_reason_28 rfl rfl ?_
    refine gg_aload_n (pc := 29) E dX5_reason_29 rfl rfl ?_
    refine gg_get (pc := 30) E ck_X5 0 q2859 rfl (by decide) dX5_reason_30 (gg_r 0 rfl) rfl ?_
    refine gg_iload_n (pc := 33) E dX5_reason_33 rfl rfl ?_
    refine gg_iconst (v := 1) (pc := 34) E dX5_reason_34 (by decide) ?_
    refine gg_iaddN (pc := 35) E (220 + 27 * i) 1 rfl rfl dX5_reason_35 ?_
    refine gg_ialdN (pc := 36) E ((220 + 27 * i) + 1) rfl (by omega) (by omega) dX5_reason_36 (gg_r 1 rfl) ?_
    rw [g2]
    refine gg_callV (F := []) (As := [.int (nI (ta row i)), .int (nI (tg row i))]) (rest := []) (pc := 37) E ck_X5 (ct_X5_sumTo hl (hw) (by omega) (by omega)) (cwV 2 E.2.2.2.2.1 (lw_V q3200 q3202 qs118 q179 q3203) rfl rfl rfl (by decide +kernel) ⟨by rw [hRf]; exact Nat.le_of_ble_eq_true rfl, by rw [hRl]; exact Nat.le_of_ble_eq_true rfl⟩) dX5_reason_37 [0] (by decide) rfl rfl (List.forall_mem_cons.mpr ⟨(gg_r 0 rfl), (List.forall_mem_cons.mpr ⟨(gg_r 1 rfl), (fun _ h => by cases h)⟩)⟩) (gg_r 0 rfl) rfl rfl (Nat.le_of_ble_eq_true rfl) (by first | (rw [hRc]; exact Nat.le_of_ble_eq_true rfl) | (rw [hRc]; dsimp only; omega)) (by first | (rw [hRs]; exact Nat.le_of_ble_eq_true rfl) | (rw [hRs]; dsimp only; omega)) ?_ (fun X q C1 h => h.elim)
    rintro _ _ ⟨rfl, rfl⟩
    dsimp only [List.cons_append, List.nil_append, Option.toList]
    refine gg_iconst (v := (-1)) (pc := 40) E dX5_reason_40 (by decide) ?_
    refine gg_icmp_ne (tgt := 46) (pc := 41) E dX5_reason_41 (by decide) (fun c41 => ?_) (fun c41 => ?_)
    · refine gg_aload_n (pc := 46) E dX5_reason_46 rfl rfl ?_
      refine gg_get (pc := 47) E ck_X5 0 q2859 rfl (by decide) dX5_reason_47 (gg_r 0 rfl) rfl ?_
      refine gg_iconst (v := 3) (pc := 50) E dX5_reason_50 (by decide) ?_
      refine gg_ialdN (pc := 51) E 3 rfl (by omega) (by omega) dX5_reason_51 (gg_r 1 rfl) ?_
      refine gg_iconst (v := 1) (pc := 52) E dX5_reason_52 (by decide) ?_
      refine gg_iadd (pc := 53) E dX5_reason_53 ?_
      refine gg_bipush (v := 60) (pc := 54) E dX5_reason_54 (by decide) ?_
      refine gg_irem (pc := 56) E dX5_reason_56 (by decide) ?_
      refine gg_aload_n (pc := 57) E dX5_reason_57 rfl rfl ?_
      refine gg_get (pc := 58) E ck_X5 0 q2859 rfl (by decide) dX5_reason_58 (gg_r 0 rfl) rfl ?_
      refine gg_iconst (v := 5) (pc := 61) E dX5_reason_61 (by decide) ?_
      refine gg_ialdN (pc := 62) E 5 rfl (by omega) (by omega) dX5_reason_62 (gg_r 1 rfl) ?_
      refine gg_icmp_lt (tgt := 68) (pc := 63) E dX5_reason_63 (by decide) (fun c63 => ?_) (fun c63 => ?_)
      · refine gg_aload_n (pc := 68) E dX5_reason_68 rfl rfl ?_
        refine gg_iload_n (pc := 69) E dX5_reason_69 rfl rfl ?_
        refine gg_aload_n (pc := 70) E dX5_reason_70 rfl rfl ?_
        refine gg_get (pc := 71) E ck_X5 0 q2859 rfl (by decide) dX5_reason_71 (gg_r 0 rfl) rfl ?_
        refine gg_iconst (v := 3) (pc := 74) E dX5_reason_74 (by decide) ?_
        refine gg_ialdN (pc := 75) E 3 rfl (by omega) (by omega) dX5_reason_75 (gg_r 1 rfl) ?_
        refine gg_iconst (v := 1) (pc := 76) E dX5_reason_76 (by decide) ?_
        refine gg_iadd (pc := 77) E dX5_reason_77 ?_
        refine gg_callV (F := [_]) (As := [.int (nI (ta row i)), _]) (rest := []) (pc := 78) E ck_X5 (ct_X5_isBusy hl (by first | assumption | omega)) (cwV 2 E.2.2.2.2.1 (lw_V q3168 q3170 qs110 q179 q3171) rfl rfl rfl (by decide +kernel) ⟨by rw [hRf]; exact Nat.le_of_ble_eq_true rfl, by rw [hRl]; exact Nat.le_of_ble_eq_true rfl⟩) dX5_reason_78 [] (by decide) rfl rfl (List.forall_mem_cons.mpr ⟨(gg_r 0 rfl), (List.forall_mem_cons.mpr ⟨(gg_r 1 rfl), (fun _ h => by cases h)⟩)⟩) (gg_r 0 rfl) rfl rfl (Nat.le_of_ble_eq_true rfl) (by first | (rw [hRc]; exact Nat.le_of_ble_eq_true rfl) | (rw [hRc]; dsimp only; omega)) (by first | (rw [hRs]; exact Nat.le_of_ble_eq_true rfl) | (rw [hRs]; dsimp only; omega)) ?_ (fun X q C1 h => h.elim)
        rintro _ _ ⟨rfl, rfl⟩
        dsimp only [List.cons_append, List.nil_append, Option.toList]
        refine gg_ifP_eq (tgt := 86) (pc := 81) E dX5_reason_81 (by decide) (fun c81 => ?_) (fun c81 => ?_)
        · refine gg_aload_n (pc := 86) E dX5_reason_86 rfl rfl ?_
          refine gg_iload_n (pc := 87) E dX5_reason_87 rfl rfl ?_
          refine gg_callV (F := [_]) (As := [.int (nI i)]) (rest := []) (pc := 88) E ck_X5 (ct_X5_purseFor hl (by omega) (g1) (by omega)) (cwV 1 E.2.2.2.2.1 (lw_V q3188 q3190 qs115 q179 q3191) rfl rfl rfl (by decide +kernel) ⟨by rw [hRf]; exact Nat.le_of_ble_eq_true rfl, by rw [hRl]; exact Nat.le_of_ble_eq_true rfl⟩) dX5_reason_88 [] (by decide) rfl rfl (List.forall_mem_cons.mpr ⟨(gg_r 0 rfl), (List.forall_mem_cons.mpr ⟨(gg_r 1 rfl), (fun _ h => by cases h)⟩)⟩) (gg_r 0 rfl) rfl rfl (Nat.le_of_ble_eq_true rfl) (by first | (rw [hRc]; exact Nat.le_of_ble_eq_true rfl) | (rw [hRc]; dsimp only; omega)) (by first | (rw [hRs]; exact Nat.le_of_ble_eq_true rfl) | (rw [hRs]; dsimp only; omega)) ?_ (fun X q C1 h => h.elim)
          rintro _ _ ⟨rfl, rfl⟩
          dsimp only [List.cons_append, List.nil_append, Option.toList]
          refine gg_aload_n (pc := 91) E dX5_reason_91 rfl rfl ?_
          refine gg_iload_n (pc := 92) E dX5_reason_92 rfl rfl ?_
          refine gg_iload_n (pc := 93) E dX5_reason_93 rfl rfl ?_
          refine gg_callV (F := [_]) (As := [.int (nI i), .int (nI (ta row i))]) (rest := [_]) (pc := 94) E ck_X5 (ct_X5_feeAt hl (by first | assumption | omega) (by first | assumption | omega)) (cwV 2 E.2.2.2.2.1 (lw_V q3192 q3194 qs116 q179 q3195) rfl rfl rfl (by decide +kernel) ⟨by rw [hRf]; exact Nat.le_of_ble_eq_true rfl, by rw [hRl]; exact Nat.le_of_ble_eq_true rfl⟩) dX5_reason_94 [] (by decide) rfl rfl (List.forall_mem_cons.mpr ⟨(gg_r 0 rfl), (List.forall_mem_cons.mpr ⟨(gg_r 1 rfl), (fun _ h => by cases h)⟩)⟩) (gg_r 0 rfl) rfl rfl (Nat.le_of_ble_eq_true rfl) (by first | (rw [hRc]; exact Nat.le_of_ble_eq_true rfl) | (rw [hRc]; dsimp only; omega)) (by first | (rw [hRs]; exact Nat.le_of_ble_eq_true rfl) | (rw [hRs]; dsimp only; omega)) ?_ (fun X q C1 h => h.elim)
          rintro _ _ ⟨rfl, rfl⟩
          dsimp only [List.cons_append, List.nil_append, Option.toList]
          refine gg_icmp_ge (tgt := 102) (pc := 97) E dX5_reason_97 (by decide) (fun c97 => ?_) (fun c97 => ?_)
          · refine gg_aload_n (pc := 102) E dX5_reason_102 rfl rfl ?_
            refine gg_iload_n (pc := 103) E dX5_reason_103 rfl rfl ?_
            refine gg_callV (F := []) (As := [.int (nI (ta row i))]) (rest := []) (pc := 104) E ck_X5 (ct_X5_firstAt hl (hw) (ht) (by omega)) (cwV 1 E.2.2.2.2.1 (lw_V q3172 q3174 qs111 q179 q3175) rfl rfl rfl (by decide +kernel) ⟨by rw [hRf]; exact Nat.le_of_ble_eq_true rfl, by rw [hRl]; exact Nat.le_of_ble_eq_true rfl⟩) dX5_reason_104 [0] (by decide) rfl rfl (List.forall_mem_cons.mpr ⟨(gg_r 0 rfl), (List.forall_mem_cons.mpr ⟨(gg_r 1 rfl), (fun _ h => by cases h)⟩)⟩) (gg_r 0 rfl) rfl rfl (Nat.le_of_ble_eq_true rfl) (by first | (rw [hRc]; exact Nat.le_of_ble_eq_true rfl) | (rw [hRc]; dsimp only; omega)) (by first | (rw [hRs]; exact Nat.le_of_ble_eq_true rfl) | (rw [hRs]; dsimp only; omega)) ?_ (fun X q C1 h => h.elim)
            rintro _ _ ⟨sums1_1, rfl, rfl⟩
            dsimp only [List.cons_append, List.nil_append, Option.toList]
            refine gg_iload_n (pc := 107) E dX5_reason_107 rfl rfl ?_
            refine gg_icmp_ne (tgt := 115) (pc := 108) E dX5_reason_108 (by decide) (fun c108 => ?_) (fun c108 => ?_)
            · refine gg_bipush (v := 6) (pc := 115) E dX5_reason_115 (by decide) ?_
              refine gg_iret (pc := 117) E Fn rfl (rfl) dX5_reason_117 (by first | exact Nat.le_of_ble_eq_true rfl | (dsimp only; omega)) (by first | exact Nat.le_of_ble_eq_true rfl | (dsimp only; omega)) ?_
              refine ⟨_, ?_, rfl⟩
              unfold rea
              rw [if_neg (fun q => q c22), if_neg (fun q => c41 (by rw [q]; rfl)), if_neg (fun q => q c63), if_neg c81, if_neg (show ¬ row (25 + 13 * ts row i + 10) < row (25 + 13 * ta row i + 9) * br row i from Int32.not_lt.mpr c97)]
              first | rw [if_neg (fun q => c108 (by rw [q]; rfl))] | rw [if_pos (fas_eq ht30 hi c108)]
            · refine gg_iconst (v := 0) (pc := 111) E dX5_reason_111 (by decide) ?_
              refine gg_goto (tgt := 117) (pc := 112) E dX5_reason_112 (by decide) ?_
              refine gg_iret (pc := 117) E Fn rfl (rfl) dX5_reason_117 (by first | exact Nat.le_of_ble_eq_true rfl | (dsimp only; omega)) (by first | exact Nat.le_of_ble_eq_true rfl | (dsimp only; omega)) ?_
              refine ⟨_, ?_, rfl⟩
              unfold rea
              rw [if_neg (fun q => q c22), if_neg (fun q => c41 (by rw [q]; rfl)), if_neg (fun q => q c63), if_neg c81, if_neg (show ¬ row (25 + 13 * ts row i + 10) < row (25 + 13 * ta row i + 9) * br row i from Int32.not_lt.mpr c97)]
              first | rw [if_neg (fun q => c108 (by rw [q]; rfl))] | rw [if_pos (fas_eq ht30 hi c108)]
          · refine gg_iconst (v := 5) (pc := 100) E dX5_reason_100 (by decide) ?_
            refine gg_iret (pc := 101) E Fn rfl (rfl) dX5_reason_101 (by first | exact Nat.le_of_ble_eq_true rfl | (dsimp only; omega)) (by first | exact Nat.le_of_ble_eq_true rfl | (dsimp only; omega)) ?_
            exact ⟨_, by unfold rea; rw [if_neg (fun q => q c22), if_neg (fun q => c41 (by rw [q]; rfl)), if_neg (fun q => q c63), if_neg c81, if_pos (show row (25 + 13 * ts row i + 10) < row (25 + 13 * ta row i + 9) * br row i from Int32.not_le.mp c97)], rfl⟩
        · refine gg_iconst (v := 4) (pc := 84) E dX5_reason_84 (by decide) ?_
          refine gg_iret (pc := 85) E Fn rfl (rfl) dX5_reason_85 (by first | exact Nat.le_of_ble_eq_true rfl | (dsimp only; omega)) (by first | exact Nat.le_of_ble_eq_true rfl | (dsimp only; omega)) ?_
          exact ⟨_, by unfold rea; rw [if_neg (fun q => q c22), if_neg (fun q => c41 (by rw [q]; rfl)), if_neg (fun q => q c63), if_pos c81], rfl⟩
      · refine gg_iconst (v := 3) (pc := 66) E dX5_reason_66 (by decide) ?_
        refine gg_iret (pc := 67) E Fn rfl (rfl) dX5_reason_67 (by first | exact Nat.le_of_ble_eq_true rfl | (dsimp only; omega)) (by first | exact Nat.le_of_ble_eq_true rfl | (dsimp only; omega)) ?_
        exact ⟨_, by unfold rea; rw [if_neg (fun q => q c22), if_neg (fun q => c41 (by rw [q]; rfl)), if_pos c63], rfl⟩
    · refine gg_iconst (v := 2) (pc := 44) E dX5_reason_44 (by decide) ?_
      refine gg_iret (pc := 45) E Fn rfl (rfl) dX5_reason_45 (by first | exact Nat.le_of_ble_eq_true rfl | (dsimp only; omega)) (by first | exact Nat.le_of_ble_eq_true rfl | (dsimp only; omega)) ?_
      exact ⟨_, by unfold rea; rw [if_neg (fun q => q c22), if_pos (dI_m1 (dist81 hw (by omega) _) c41)], rfl⟩
  · refine gg_iconst (v := 1) (pc := 25) E dX5_reason_25 (by decide) ?_
    refine gg_iret (pc := 26) E Fn rfl (rfl) dX5_reason_26 (by first | exact Nat.le_of_ble_eq_true rfl | (dsimp only; omega)) (by first | exact Nat.le_of_ble_eq_true rfl | (dsimp only; omega)) ?_
    exact ⟨_, by unfold rea; rw [if_pos c22], rfl⟩
set_option maxHeartbeats 4000000 in
theorem ct_X5_cause {l : Launch} (hl : l.stackTraces = false) {g : gg_G}  {h : Nat} {ad : Nat → Nat} {x : Nat → Int32} {row : Nat → Int32} {sums : Nat → Int32} {i : Nat} {re : Int32} {nr nw nt : Nat} (hG : Gw row nr nw nt) (hi : i < nt) : gg_C l g yX5_cause (ws_ yX5_cause cX5_cause 5 (some .int)) { frames := 7, cells := 0, slots := 0, locals := 162 } [.ref h, .int (nI i), .int re] [(h, .inl (4, mo_f ad x)), ((ad 0), gg_ai g 1030 row)] [[((ad 9), gg_ai g 10 sums)]] (fun vv CC => ∃ (sums1 : Nat → Int32), vv = some (.int (cau row nw nt i re)) ∧ CC = [[((ad 9), gg_ai g 10 sums1)]]) gg_no := by
  refine gg_of (lv := [_, _, _, _, _]) (by decide) hl (Nat.le_of_ble_eq_true rfl) rfl ?_
  intro p e R s m args below meth c A Q hRf hRl hRc hRs E Fn hnm hex
  have hG0 := hG
  obtain ⟨hnr, hw, ht, hG4, hGS⟩ := hG
  have hnw := hw.1
  have hw20 := hw.2.1
  have hr10 := hw.2.2.1
  have hnt := ht.1
  have ht30 := ht.2.1
  obtain ⟨g1, g2, g3, g4, g5, g6, g7, g8, g9, g10⟩ := ht.2.2.2 i (by omega)
  refine gg_iload_n (pc := 0) E dX5_cause_0 rfl rfl ?_
  refine gg_callS (F := [_]) (As := [.int (nI i)]) (rest := []) (pc := 1) E (ct_X5_t hl ) (va_cwS 1 E.2.2.2.2.1 (lw_S q3121 q3122 q179 q3123) rfl rfl rfl (by decide +kernel) ⟨by rw [hRf]; exact Nat.le_of_ble_eq_true rfl, by rw [hRl]; exact Nat.le_of_ble_eq_true rfl⟩) dX5_cause_1 [] (by decide) rfl rfl (fun _ h => by cases h) rfl rfl (Nat.le_of_ble_eq_true rfl) (by first | (rw [hRc]; exact Nat.le_of_ble_eq_true rfl) | (rw [hRc]; dsimp only; omega)) (by first | (rw [hRs]; exact Nat.le_of_ble_eq_true rfl) | (rw [hRs]; dsimp only; omega)) ?_ (fun X q C1 h => h.elim)
  rintro _ _ ⟨rfl, rfl⟩
  dsimp only [List.cons_append, List.nil_append, Option.toList]
  refine gg_istore_n (lv' := [_, _, _, _, _]) (pc := 4) E dX5_cause_4 rfl (Nat.le_of_ble_eq_true rfl) rfl rfl ?_
  refine gg_aload_n (pc := 5) E dX5_cause_5 rfl rfl ?_
  refine gg_get (pc := 6) E ck_X5 0 q2859 rfl (by decide) dX5_cause_6 (gg_r 0 rfl) rfl ?_
  refine gg_iload_n (pc := 9) E dX5_cause_9 rfl rfl ?_
  refine gg_iconst (v := 4) (pc := 10) E dX5_cause_10 (by decide) ?_
  refine gg_iaddN (pc := 11) E (220 + 27 * i) 4 rfl rfl dX5_cause_11 ?_
  refine gg_ialdN (pc := 12) E ((220 + 27 * i) + 4) rfl (by omega) (by omega) dX5_cause_12 (gg_r 1 rfl) ?_
  rw [g4]
  refine gg_istore (lv' := [_, _, _, _, _]) (pc := 13) E dX5_cause_13 (Nat.le_of_ble_eq_true rfl) rfl rfl ?_
  refine gg_iload_n (pc := 15) E dX5_cause_15 rfl rfl ?_
  by_cases ho16 : re.toInt < 1 ∨ 6 < re.toInt
  · refine gg_tableOut (tgt := 153) (pc := 16) E dX5_cause_16 ho16 (by decide) ?_
    refine gg_iconst (v := 0) (pc := 153) E dX5_cause_153 (by decide) ?_
    refine gg_iret (pc := 154) E Fn rfl (rfl) dX5_cause_154 (by first | exact Nat.le_of_ble_eq_true rfl | (dsimp only; omega)) (by first | exact Nat.le_of_ble_eq_true rfl | (dsimp only; omega)) ?_
    exact ⟨_, by unfold cau; rw [if_neg (by rintro rfl; revert ho16; decide), if_neg (by rintro rfl; revert ho16; decide), if_neg (by rintro rfl; revert ho16; decide), if_neg (by rintro rfl; revert ho16; decide), if_neg (by rintro rfl; revert ho16; decide), if_neg (by rintro rfl; revert ho16; decide)], rfl⟩
  have hv16 : re.toInt = 1 ∨ re.toInt = 2 ∨ re.toInt = 3 ∨ re.toInt = 4 ∨ re.toInt = 5 ∨ re.toInt = 6 := by omega
  rcases hv16 with hv16 | hv16 | hv16 | hv16 | hv16 | hv16
  · have hz16 : re = 1 := Int32.toInt_inj.mp (by rw [hv16]; decide)
    subst hz16
    refine gg_tableIn (off := 40) (tgt := 56) (pc := 16) E dX5_cause_16 (by decide) (by decide) rfl (by decide) ?_
    refine gg_bipush (v := 100) (pc := 56) E dX5_cause_56 (by decide) ?_
    refine gg_aload_n (pc := 58) E dX5_cause_58 rfl rfl ?_
    refine gg_get (pc := 59) E ck_X5 0 q2859 rfl (by decide) dX5_cause_59 (gg_r 0 rfl) rfl ?_
    refine gg_iload_n (pc := 62) E dX5_cause_62 rfl rfl ?_
    refine gg_iconst (v := 3) (pc := 63) E dX5_cause_63 (by decide) ?_
    refine gg_iaddN (pc := 64) E (220 + 27 * i) 3 rfl rfl dX5_cause_64 ?_
    refine gg_ialdN (pc := 65) E ((220 + 27 * i) + 3) rfl (by omega) (by omega) dX5_cause_65 (gg_r 1 rfl) ?_
    refine gg_iadd (pc := 66) E dX5_cause_66 ?_
    refine gg_iret (pc := 67) E Fn rfl (rfl) dX5_cause_67 (by first | exact Nat.le_of_ble_eq_true rfl | (dsimp only; omega)) (by first | exact Nat.le_of_ble_eq_true rfl | (dsimp only; omega)) ?_
    exact ⟨_, by unfold cau; rw [if_pos rfl] <;> rfl, rfl⟩
  · have hz16 : re = 2 := Int32.toInt_inj.mp (by rw [hv16]; decide)
    subst hz16
    refine gg_tableIn (off := 52) (tgt := 68) (pc := 16) E dX5_cause_16 (by decide) (by decide) rfl (by decide) ?_
    refine gg_sipush (v := 200) (pc := 68) E dX5_cause_68 (by decide) ?_
    refine gg_aload_n (pc := 71) E dX5_cause_71 rfl rfl ?_
    refine gg_get (pc := 72) E ck_X5 0 q2859 rfl (by decide) dX5_cause_72 (gg_r 0 rfl) rfl ?_
    refine gg_iload_n (pc := 75) E dX5_cause_75 rfl rfl ?_
    refine gg_iconst (v := 1) (pc := 76) E dX5_cause_76 (by decide) ?_
    refine gg_iaddN (pc := 77) E (220 + 27 * i) 1 rfl rfl dX5_cause_77 ?_
    refine gg_ialdN (pc := 78) E ((220 + 27 * i) + 1) rfl (by omega) (by omega) dX5_cause_78 (gg_r 1 rfl) ?_
    refine gg_iadd (pc := 79) E dX5_cause_79 ?_
    refine gg_iret (pc := 80) E Fn rfl (rfl) dX5_cause_80 (by first | exact Nat.le_of_ble_eq_true rfl | (dsimp only; omega)) (by first | exact Nat.le_of_ble_eq_true rfl | (dsimp only; omega)) ?_
    exact ⟨_, by unfold cau; rw [if_neg (by decide), if_pos rfl] <;> rfl, rfl⟩
  · have hz16 : re = 3 := Int32.toInt_inj.mp (by rw [hv16]; decide)
    subst hz16
    refine gg_tableIn (off := 65) (tgt := 81) (pc := 16) E dX5_cause_16 (by decide) (by decide) rfl (by decide) ?_
    refine gg_sipush (v := 300) (pc := 81) E dX5_cause_81 (by decide) ?_
    refine gg_aload_n (pc := 84) E dX5_cause_84 rfl rfl ?_
    refine gg_get (pc := 85) E ck_X5 0 q2859 rfl (by decide) dX5_cause_85 (gg_r 0 rfl) rfl ?_
    refine gg_iconst (v := 3) (pc := 88) E dX5_cause_88 (by decide) ?_
    refine gg_ialdN (pc := 89) E 3 rfl (by omega) (by omega) dX5_cause_89 (gg_r 1 rfl) ?_
    refine gg_iconst (v := 1) (pc := 90) E dX5_cause_90 (by decide) ?_
    refine gg_iadd (pc := 91) E dX5_cause_91 ?_
    refine gg_bipush (v := 60) (pc := 92) E dX5_cause_92 (by decide) ?_
    refine gg_irem (pc := 94) E dX5_cause_94 (by decide) ?_
    refine gg_iadd (pc := 95) E dX5_cause_95 ?_
    refine gg_iret (pc := 96) E Fn rfl (rfl) dX5_cause_96 (by first | exact Nat.le_of_ble_eq_true rfl | (dsimp only; omega)) (by first | exact Nat.le_of_ble_eq_true rfl | (dsimp only; omega)) ?_
    exact ⟨_, by unfold cau; rw [if_neg (by decide), if_neg (by decide), if_pos rfl] <;> rfl, rfl⟩
  · have hz16 : re = 4 := Int32.toInt_inj.mp (by rw [hv16]; decide)
    subst hz16
    refine gg_tableIn (off := 81) (tgt := 97) (pc := 16) E dX5_cause_16 (by decide) (by decide) rfl (by decide) ?_
    refine gg_sipush (v := 400) (pc := 97) E dX5_cause_97 (by decide) ?_
    refine gg_aload_n (pc := 100) E dX5_cause_100 rfl rfl ?_
    refine gg_get (pc := 101) E ck_X5 0 q2859 rfl (by decide) dX5_cause_101 (gg_r 0 rfl) rfl ?_
    refine gg_iload (pc := 104) E dX5_cause_104 rfl ?_
    refine gg_callS (F := [_]) (As := [.int (nI (ta row i))]) (rest := [_, _]) (pc := 106) E (ct_X5_r hl ) (va_cwS 1 E.2.2.2.2.1 (lw_S q2849 q2850 q179 q2851) rfl rfl rfl (by decide +kernel) ⟨by rw [hRf]; exact Nat.le_of_ble_eq_true rfl, by rw [hRl]; exact Nat.le_of_ble_eq_true rfl⟩) dX5_cause_106 [] (by decide) rfl rfl (fun _ h => by cases h) rfl rfl (Nat.le_of_ble_eq_true rfl) (by first | (rw [hRc]; exact Nat.le_of_ble_eq_true rfl) | (rw [hRc]; dsimp only; omega)) (by first | (rw [hRs]; exact Nat.le_of_ble_eq_true rfl) | (rw [hRs]; dsimp only; omega)) ?_ (fun X q C1 h => h.elim)
    rintro _ _ ⟨rfl, rfl⟩
    dsimp only [List.cons_append, List.nil_append, Option.toList]
    refine gg_bipush (v := 11) (pc := 109) E dX5_cause_109 (by decide) ?_
    refine gg_iaddN (pc := 111) E (25 + 13 * (ta row i)) 11 rfl rfl dX5_cause_111 ?_
    refine gg_ialdN (pc := 112) E ((25 + 13 * (ta row i)) + 11) rfl (by omega) (by omega) dX5_cause_112 (gg_r 1 rfl) ?_
    refine gg_iadd (pc := 113) E dX5_cause_113 ?_
    refine gg_aload_n (pc := 114) E dX5_cause_114 rfl rfl ?_
    refine gg_get (pc := 115) E ck_X5 0 q2859 rfl (by decide) dX5_cause_115 (gg_r 0 rfl) rfl ?_
    refine gg_iconst (v := 3) (pc := 118) E dX5_cause_118 (by decide) ?_
    refine gg_ialdN (pc := 119) E 3 rfl (by omega) (by omega) dX5_cause_119 (gg_r 1 rfl) ?_
    refine gg_isub (pc := 120) E dX5_cause_120 ?_
    refine gg_iconst (v := 1) (pc := 121) E dX5_cause_121 (by decide) ?_
    refine gg_isub (pc := 122) E dX5_cause_122 ?_
    refine gg_iret (pc := 123) E Fn rfl (rfl) dX5_cause_123 (by first | exact Nat.le_of_ble_eq_true rfl | (dsimp only; omega)) (by first | exact Nat.le_of_ble_eq_true rfl | (dsimp only; omega)) ?_
    exact ⟨_, by unfold cau; rw [if_neg (by decide), if_neg (by decide), if_neg (by decide), if_pos rfl] <;> rfl, rfl⟩
  · have hz16 : re = 5 := Int32.toInt_inj.mp (by rw [hv16]; decide)
    subst hz16
    refine gg_tableIn (off := 108) (tgt := 124) (pc := 16) E dX5_cause_16 (by decide) (by decide) rfl (by decide) ?_
    refine gg_sipush (v := 500) (pc := 124) E dX5_cause_124 (by decide) ?_
    refine gg_aload_n (pc := 127) E dX5_cause_127 rfl rfl ?_
    refine gg_iload_n (pc := 128) E dX5_cause_128 rfl rfl ?_
    refine gg_iload (pc := 129) E dX5_cause_129 rfl ?_
    refine gg_callV (F := [_]) (As := [.int (nI i), .int (nI (ta row i))]) (rest := [_]) (pc := 131) E ck_X5 (ct_X5_feeAt hl (by first | assumption | omega) (by first | assumption | omega)) (cwV 2 E.2.2.2.2.1 (lw_V q3192 q3194 qs116 q179 q3195) rfl rfl rfl (by decide +kernel) ⟨by rw [hRf]; exact Nat.le_of_ble_eq_true rfl, by rw [hRl]; exact Nat.le_of_ble_eq_true rfl⟩) dX5_cause_131 [] (by decide) rfl rfl (List.forall_mem_cons.mpr ⟨(gg_r 0 rfl), (List.forall_mem_cons.mpr ⟨(gg_r 1 rfl), (fun _ h => by cases h)⟩)⟩) (gg_r 0 rfl) rfl rfl (Nat.le_of_ble_eq_true rfl) (by first | (rw [hRc]; exact Nat.le_of_ble_eq_true rfl) | (rw [hRc]; dsimp only; omega)) (by first | (rw [hRs]; exact Nat.le_of_ble_eq_true rfl) | (rw [hRs]; dsimp only; omega)) ?_ (fun X q C1 h => h.elim)
    rintro _ _ ⟨rfl, rfl⟩
    dsimp only [List.cons_append, List.nil_append, Option.toList]
    refine gg_iadd (pc := 134) E dX5_cause_134 ?_
    refine gg_aload_n (pc := 135) E dX5_cause_135 rfl rfl ?_
    refine gg_iload_n (pc := 136) E dX5_cause_136 rfl rfl ?_
    refine gg_callV (F := [_]) (As := [.int (nI i)]) (rest := [_]) (pc := 137) E ck_X5 (ct_X5_purseFor hl (by omega) (g1) (by omega)) (cwV 1 E.2.2.2.2.1 (lw_V q3188 q3190 qs115 q179 q3191) rfl rfl rfl (by decide +kernel) ⟨by rw [hRf]; exact Nat.le_of_ble_eq_true rfl, by rw [hRl]; exact Nat.le_of_ble_eq_true rfl⟩) dX5_cause_137 [] (by decide) rfl rfl (List.forall_mem_cons.mpr ⟨(gg_r 0 rfl), (List.forall_mem_cons.mpr ⟨(gg_r 1 rfl), (fun _ h => by cases h)⟩)⟩) (gg_r 0 rfl) rfl rfl (Nat.le_of_ble_eq_true rfl) (by first | (rw [hRc]; exact Nat.le_of_ble_eq_true rfl) | (rw [hRc]; dsimp only; omega)) (by first | (rw [hRs]; exact Nat.le_of_ble_eq_true rfl) | (rw [hRs]; dsimp only; omega)) ?_ (fun X q C1 h => h.elim)
    rintro _ _ ⟨rfl, rfl⟩
    dsimp only [List.cons_append, List.nil_append, Option.toList]
    refine gg_isub (pc := 140) E dX5_cause_140 ?_
    refine gg_iret (pc := 141) E Fn rfl (rfl) dX5_cause_141 (by first | exact Nat.le_of_ble_eq_true rfl | (dsimp only; omega)) (by first | exact Nat.le_of_ble_eq_true rfl | (dsimp only; omega)) ?_
    exact ⟨_, by unfold cau; rw [if_neg (by decide), if_neg (by decide), if_neg (by decide), if_neg (by decide), if_pos rfl] <;> rfl, rfl⟩
  · have hz16 : re = 6 := Int32.toInt_inj.mp (by rw [hv16]; decide)
    subst hz16
    refine gg_tableIn (off := 126) (tgt := 142) (pc := 16) E dX5_cause_16 (by decide) (by decide) rfl (by decide) ?_
    refine gg_sipush (v := 600) (pc := 142) E dX5_cause_142 (by decide) ?_
    refine gg_aload_n (pc := 145) E dX5_cause_145 rfl rfl ?_
    refine gg_iload (pc := 146) E dX5_cause_146 rfl ?_
    refine gg_callV (F := []) (As := [.int (nI (ta row i))]) (rest := [_]) (pc := 148) E ck_X5 (ct_X5_firstAt hl (hw) (ht) (by omega)) (cwV 1 E.2.2.2.2.1 (lw_V q3172 q3174 qs111 q179 q3175) rfl rfl rfl (by decide +kernel) ⟨by rw [hRf]; exact Nat.le_of_ble_eq_true rfl, by rw [hRl]; exact Nat.le_of_ble_eq_true rfl⟩) dX5_cause_148 [0] (by decide) rfl rfl (List.forall_mem_cons.mpr ⟨(gg_r 0 rfl), (List.forall_mem_cons.mpr ⟨(gg_r 1 rfl), (fun _ h => by cases h)⟩)⟩) (gg_r 0 rfl) rfl rfl (Nat.le_of_ble_eq_true rfl) (by first | (rw [hRc]; exact Nat.le_of_ble_eq_true rfl) | (rw [hRc]; dsimp only; omega)) (by first | (rw [hRs]; exact Nat.le_of_ble_eq_true rfl) | (rw [hRs]; dsimp only; omega)) ?_ (fun X q C1 h => h.elim)
    rintro _ _ ⟨sums1_1, rfl, rfl⟩
    dsimp only [List.cons_append, List.nil_append, Option.toList]
    refine gg_iadd (pc := 151) E dX5_cause_151 ?_
    refine gg_iret (pc := 152) E Fn rfl (rfl) dX5_cause_152 (by first | exact Nat.le_of_ble_eq_true rfl | (dsimp only; omega)) (by first | exact Nat.le_of_ble_eq_true rfl | (dsimp only; omega)) ?_
    exact ⟨_, by unfold cau; rw [if_neg (by decide), if_neg (by decide), if_neg (by decide), if_neg (by decide), if_neg (by decide), if_pos rfl] <;> rfl, rfl⟩
set_option maxHeartbeats 4000000 in
theorem ct_X5_why {l : Launch} (hl : l.stackTraces = false) {g : gg_G}  {h : Nat} {ad : Nat → Nat} {x : Nat → Int32} {row : Nat → Int32} {sums : Nat → Int32} {k de : Int32} {nr nw nt : Nat} (hG : Gw row nr nw nt) : gg_C l g yX5_why (ws_ yX5_why cX5_why 4 (some .int)) { frames := 8, cells := 0, slots := 0, locals := 186 } [.ref h, .int k, .int de] [((ad 0), gg_ai g 1030 row)] [[(h, .inl (4, mo_f ad x))], [((ad 9), gg_ai g 10 sums)]] (fun vv CC => ∃ (sums1 : Nat → Int32), vv = some (.int (qWhy row nw nt k de)) ∧ CC = [[(h, .inl (4, mo_f ad (upd x 6 (th (if 0 ≤ k.toInt ∧ k.toInt < nt then 1 else 0) (if 0 ≤ de.toInt ∧ de.toInt ≤ 1 then 1 else 0) 1))))], [((ad 9), gg_ai g 10 sums1)]]) gg_no := by
  refine gg_of (lv := [_, _, _, _]) (by decide) hl (Nat.le_of_ble_eq_true rfl) rfl ?_
  intro p e R s m args below meth c A Q hRf hRl hRc hRs E Fn hnm hex
  have hG0 := hG
  obtain ⟨hnr, hw, ht, hG4, hGS⟩ := hG
  have hnw := hw.1
  have hw20 := hw.2.1
  have hr10 := hw.2.2.1
  have hnt := ht.1
  have ht30 := ht.2.1
  refine gg_aload_n (pc := 0) E dX5_why_0 rfl rfl ?_
  refine gg_aload_n (pc := 1) E dX5_why_1 rfl rfl ?_
  refine gg_iload_n (pc := 2) E dX5_why_2 rfl rfl ?_
  refine gg_callV (F := [_, _]) (As := [_]) (rest := [_]) (pc := 3) E ck_X5 (ct_X5_isTune hl (by first | assumption | omega) (by first | assumption | omega)) (cwV 1 E.2.2.2.2.1 (lw_V q3304 q3306 qs135 q179 q3307) rfl rfl rfl (by decide +kernel) ⟨by rw [hRf]; exact Nat.le_of_ble_eq_true rfl, by rw [hRl]; exact Nat.le_of_ble_eq_true rfl⟩) dX5_why_3 [] (by decide) rfl rfl (List.forall_mem_cons.mpr ⟨(gg_i 0 rfl), (List.forall_mem_cons.mpr ⟨(gg_r 0 rfl), (fun _ h => by cases h)⟩)⟩) (gg_i 0 rfl) rfl rfl (Nat.le_of_ble_eq_true rfl) (by first | (rw [hRc]; exact Nat.le_of_ble_eq_true rfl) | (rw [hRc]; dsimp only; omega)) (by first | (rw [hRs]; exact Nat.le_of_ble_eq_true rfl) | (rw [hRs]; dsimp only; omega)) ?_ (fun X q C1 h => h.elim)
  rintro _ _ ⟨rfl, rfl⟩
  dsimp only [List.cons_append, List.nil_append, Option.toList]
  refine gg_iload_n (pc := 6) E dX5_why_6 rfl rfl ?_
  refine gg_i2l (pc := 7) E dX5_why_7 rfl ?_
  refine gg_lconst (v := 0) (pc := 8) E dX5_why_8 (by decide) ?_
  refine gg_lconst (v := 1) (pc := 9) E dX5_why_9 (by decide) ?_
  refine gg_callS (F := [_, _]) (As := [_, _, _]) (rest := [_, _]) (pc := 10) E (ct_X5_in hl ) (va_cwS 3 E.2.2.2.2.1 (lw_S q2961 q2962 q179 q2963) rfl rfl rfl (by decide +kernel) ⟨by rw [hRf]; exact Nat.le_of_ble_eq_true rfl, by rw [hRl]; exact Nat.le_of_ble_eq_true rfl⟩) dX5_why_10 [] (by decide) rfl rfl (fun _ h => by cases h) rfl rfl (Nat.le_of_ble_eq_true rfl) (by first | (rw [hRc]; exact Nat.le_of_ble_eq_true rfl) | (rw [hRc]; dsimp only; omega)) (by first | (rw [hRs]; exact Nat.le_of_ble_eq_true rfl) | (rw [hRs]; dsimp only; omega)) ?_ (fun X q C1 h => h.elim)
  rintro _ _ ⟨rfl, rfl⟩
  dsimp only [List.cons_append, List.nil_append, Option.toList]
  refine gg_topI (y := if 0 ≤ de.toInt ∧ de.toInt ≤ 1 then 1 else 0) (gg_ifc (in_ab (by decide) (by decide))) ?_
  refine gg_iconst (v := 1) (pc := 13) E dX5_why_13 (by decide) ?_
  refine gg_callV (F := [_]) (As := [_, _, _]) (rest := []) (pc := 14) E ck_X5 (ct_X5_may hl ) (cwV 3 E.2.2.2.2.1 (lw_V q3241 q3243 qs127 q179 q3244) rfl rfl rfl (by decide +kernel) ⟨by rw [hRf]; exact Nat.le_of_ble_eq_true rfl, by rw [hRl]; exact Nat.le_of_ble_eq_true rfl⟩) dX5_why_14 [0] (by decide) rfl rfl (fun _ h => by cases h) (gg_i 0 rfl) rfl rfl (Nat.le_of_ble_eq_true rfl) (by first | (rw [hRc]; exact Nat.le_of_ble_eq_true rfl) | (rw [hRc]; dsimp only; omega)) (by first | (rw [hRs]; exact Nat.le_of_ble_eq_true rfl) | (rw [hRs]; dsimp only; omega)) ?_ (fun X q C1 h => h.elim)
  rintro _ _ ⟨rfl, rfl⟩
  dsimp only [List.cons_append, List.nil_append, Option.toList]
  refine gg_ifP_ne (tgt := 22) (pc := 17) E dX5_why_17 (by decide) (fun c17 => ?_) (fun c17 => ?_)
  · obtain ⟨i, hi, hiq⟩ := k_nI (th_2.mp c17).1
    subst hiq
    refine gg_aload_n (pc := 22) E dX5_why_22 rfl rfl ?_
    refine gg_iload_n (pc := 23) E dX5_why_23 rfl rfl ?_
    refine gg_callV (F := [_]) (As := [.int (nI i)]) (rest := []) (pc := 24) E ck_X5 (ct_X5_reason hl (hG0) (by omega)) (cwV 1 E.2.2.2.2.1 (lw_V q3325 q3327 qs137 q179 q3328) rfl rfl rfl (by decide +kernel) ⟨by rw [hRf]; exact Nat.le_of_ble_eq_true rfl, by rw [hRl]; exact Nat.le_of_ble_eq_true rfl⟩) dX5_why_24 [1] (by decide) rfl rfl (List.forall_mem_cons.mpr ⟨(gg_i 0 rfl), (List.forall_mem_cons.mpr ⟨(gg_r 0 rfl), (fun _ h => by cases h)⟩)⟩) (gg_i 0 rfl) rfl rfl (Nat.le_of_ble_eq_true rfl) (by first | (rw [hRc]; exact Nat.le_of_ble_eq_true rfl) | (rw [hRc]; dsimp only; omega)) (by first | (rw [hRs]; exact Nat.le_of_ble_eq_true rfl) | (rw [hRs]; dsimp only; omega)) ?_ (fun X q C1 h => h.elim)
    rintro _ _ ⟨sums1_1, rfl, rfl⟩
    dsimp only [List.cons_append, List.nil_append, Option.toList]
    refine gg_up1 ?_
    refine gg_istore_n (lv' := [_, _, _, _]) (pc := 27) E dX5_why_27 rfl (Nat.le_of_ble_eq_true rfl) rfl rfl ?_
    refine gg_iload_n (pc := 28) E dX5_why_28 rfl rfl ?_
    refine gg_if_ne (tgt := 36) (pc := 29) E dX5_why_29 (by decide) (fun c29 => ?_) (fun c29 => ?_)
    · refine gg_aload_n (pc := 36) E dX5_why_36 rfl rfl ?_
      refine gg_iload_n (pc := 37) E dX5_why_37 rfl rfl ?_
      refine gg_iload_n (pc := 38) E dX5_why_38 rfl rfl ?_
      refine gg_callV (F := [_]) (As := [.int (nI i), _]) (rest := []) (pc := 39) E ck_X5 (ct_X5_cause hl (hG0) (by omega)) (cwV 2 E.2.2.2.2.1 (lw_V q3329 q3331 qs138 q179 q3332) rfl rfl rfl (by decide +kernel) ⟨by rw [hRf]; exact Nat.le_of_ble_eq_true rfl, by rw [hRl]; exact Nat.le_of_ble_eq_true rfl⟩) dX5_why_39 [1] (by decide) rfl rfl (List.forall_mem_cons.mpr ⟨(gg_i 0 rfl), (List.forall_mem_cons.mpr ⟨(gg_r 0 rfl), (fun _ h => by cases h)⟩)⟩) (gg_i 0 rfl) rfl rfl (Nat.le_of_ble_eq_true rfl) (by first | (rw [hRc]; exact Nat.le_of_ble_eq_true rfl) | (rw [hRc]; dsimp only; omega)) (by first | (rw [hRs]; exact Nat.le_of_ble_eq_true rfl) | (rw [hRs]; dsimp only; omega)) ?_ (fun X q C1 h => h.elim)
      rintro _ _ ⟨sums1_2, rfl, rfl⟩
      dsimp only [List.cons_append, List.nil_append, Option.toList]
      refine gg_up1 ?_
      refine gg_iret (pc := 42) E Fn rfl (rfl) dX5_why_42 (by first | exact Nat.le_of_ble_eq_true rfl | (dsimp only; omega)) (by first | exact Nat.le_of_ble_eq_true rfl | (dsimp only; omega)) ?_
      exact ⟨_, by unfold qWhy; rw [if_pos (th_2.mp c17), tn_nI (j := i) (by omega), if_neg c29], rfl⟩
    · refine gg_iload_n (pc := 32) E dX5_why_32 rfl rfl ?_
      refine gg_goto (tgt := 42) (pc := 33) E dX5_why_33 (by decide) ?_
      refine gg_iret (pc := 42) E Fn rfl (rfl) dX5_why_42 (by first | exact Nat.le_of_ble_eq_true rfl | (dsimp only; omega)) (by first | exact Nat.le_of_ble_eq_true rfl | (dsimp only; omega)) ?_
      exact ⟨_, by unfold qWhy; rw [if_pos (th_2.mp c17), tn_nI (j := i) (by omega), if_pos c29], rfl⟩
  · refine gg_iconst (v := 0) (pc := 20) E dX5_why_20 (by decide) ?_
    refine gg_iret (pc := 21) E Fn rfl (rfl) dX5_why_21 (by first | exact Nat.le_of_ble_eq_true rfl | (dsimp only; omega)) (by first | exact Nat.le_of_ble_eq_true rfl | (dsimp only; omega)) ?_
    exact ⟨_, by unfold qWhy; rw [if_neg (fun q => c17 (th_2.mpr q))], rfl⟩
set_option maxHeartbeats 4000000 in
theorem ct_X5_count {l : Launch} (hl : l.stackTraces = false) {g : gg_G}  {h : Nat} {ad : Nat → Nat} {x : Nat → Int32} {row : Nat → Int32} {wh : Int32} {nr nw nt : Nat} (hG : Gw row nr nw nt) : gg_C l g yX5_count (ws_ yX5_count cX5_count 2 (some .int)) { frames := 3, cells := 0, slots := 0, locals := 64 } [.ref h, .int wh] [((ad 0), gg_ai g 1030 row)] [[(h, .inl (4, mo_f ad x))]] (fun vv CC => vv = some (.int (qCount row (x 4) nr nt wh)) ∧ CC = [[(h, .inl (4, mo_f ad (upd x 6 (th (if 0 ≤ wh.toInt ∧ wh.toInt ≤ 13 then 1 else 0) 1 1))))]]) gg_no := by
  refine gg_of (lv := [_, _]) (by decide) hl (Nat.le_of_ble_eq_true rfl) rfl ?_
  intro p e R s m args below meth c A Q hRf hRl hRc hRs E Fn hnm hex
  have hG0 := hG
  obtain ⟨hnr, hw, ht, hG4, hGS⟩ := hG
  have hnw := hw.1
  have hw20 := hw.2.1
  have hr10 := hw.2.2.1
  have hnt := ht.1
  have ht30 := ht.2.1
  refine gg_aload_n (pc := 0) E dX5_count_0 rfl rfl ?_
  refine gg_iload_n (pc := 1) E dX5_count_1 rfl rfl ?_
  refine gg_i2l (pc := 2) E dX5_count_2 rfl ?_
  refine gg_lconst (v := 0) (pc := 3) E dX5_count_3 (by decide) ?_
  refine gg_ldc2 (pc := 4) E q3240 dX5_count_4 ?_
  refine gg_callS (F := [_]) (As := [_, _, _]) (rest := [_]) (pc := 7) E (ct_X5_in hl ) (va_cwS 3 E.2.2.2.2.1 (lw_S q2961 q2962 q179 q2963) rfl rfl rfl (by decide +kernel) ⟨by rw [hRf]; exact Nat.le_of_ble_eq_true rfl, by rw [hRl]; exact Nat.le_of_ble_eq_true rfl⟩) dX5_count_7 [] (by decide) rfl rfl (fun _ h => by cases h) rfl rfl (Nat.le_of_ble_eq_true rfl) (by first | (rw [hRc]; exact Nat.le_of_ble_eq_true rfl) | (rw [hRc]; dsimp only; omega)) (by first | (rw [hRs]; exact Nat.le_of_ble_eq_true rfl) | (rw [hRs]; dsimp only; omega)) ?_ (fun X q C1 h => h.elim)
  rintro _ _ ⟨rfl, rfl⟩
  dsimp only [List.cons_append, List.nil_append, Option.toList]
  refine gg_topI (y := if 0 ≤ wh.toInt ∧ wh.toInt ≤ 13 then 1 else 0) (gg_ifc (in_ab (by decide) (by decide))) ?_
  refine gg_iconst (v := 1) (pc := 10) E dX5_count_10 (by decide) ?_
  refine gg_iconst (v := 1) (pc := 11) E dX5_count_11 (by decide) ?_
  refine gg_callV (F := []) (As := [_, _, _]) (rest := []) (pc := 12) E ck_X5 (ct_X5_may hl ) (cwV 3 E.2.2.2.2.1 (lw_V q3241 q3243 qs127 q179 q3244) rfl rfl rfl (by decide +kernel) ⟨by rw [hRf]; exact Nat.le_of_ble_eq_true rfl, by rw [hRl]; exact Nat.le_of_ble_eq_true rfl⟩) dX5_count_12 [0] (by decide) rfl rfl (fun _ h => by cases h) (gg_i 0 rfl) rfl rfl (Nat.le_of_ble_eq_true rfl) (by first | (rw [hRc]; exact Nat.le_of_ble_eq_true rfl) | (rw [hRc]; dsimp only; omega)) (by first | (rw [hRs]; exact Nat.le_of_ble_eq_true rfl) | (rw [hRs]; dsimp only; omega)) ?_ (fun X q C1 h => h.elim)
  rintro _ _ ⟨rfl, rfl⟩
  dsimp only [List.cons_append, List.nil_append, Option.toList]
  refine gg_ifP_ne (tgt := 20) (pc := 15) E dX5_count_15 (by decide) (fun c15 => ?_) (fun c15 => ?_)
  · refine gg_iload_n (pc := 20) E dX5_count_20 rfl rfl ?_
    by_cases ho21 : wh.toInt < 0 ∨ 13 < wh.toInt
    · exact absurd (th_1.mp c15) (by omega)
    have hv21 : wh.toInt = 0 ∨ wh.toInt = 1 ∨ wh.toInt = 2 ∨ wh.toInt = 3 ∨ wh.toInt = 4 ∨ wh.toInt = 5 ∨ wh.toInt = 6 ∨ wh.toInt = 7 ∨ wh.toInt = 8 ∨ wh.toInt = 9 ∨ wh.toInt = 10 ∨ wh.toInt = 11 ∨ wh.toInt = 12 ∨ wh.toInt = 13 := by omega
    rcases hv21 with hv21 | hv21 | hv21 | hv21 | hv21 | hv21 | hv21 | hv21 | hv21 | hv21 | hv21 | hv21 | hv21 | hv21
    · have hz21 : wh = 0 := Int32.toInt_inj.mp (by rw [hv21]; decide)
      subst hz21
      refine gg_tableIn (off := 71) (tgt := 92) (pc := 21) E dX5_count_21 (by decide) (by decide) rfl (by decide) ?_
      refine gg_aload_n (pc := 92) E dX5_count_92 rfl rfl ?_
      refine gg_get (pc := 93) E ck_X5 0 q2859 rfl (by decide) dX5_count_93 (gg_i 0 rfl) rfl ?_
      refine gg_iload_n (pc := 96) E dX5_count_96 rfl rfl ?_
      refine gg_ialdN (pc := 97) E 0 rfl (by omega) (by omega) dX5_count_97 (gg_r 0 rfl) ?_
      refine gg_iret (pc := 98) E Fn rfl (rfl) dX5_count_98 (by first | exact Nat.le_of_ble_eq_true rfl | (dsimp only; omega)) (by first | exact Nat.le_of_ble_eq_true rfl | (dsimp only; omega)) ?_
      exact ⟨by unfold qCount; rw [if_pos (th_1.mp c15)] <;> rfl, rfl⟩
    · have hz21 : wh = 1 := Int32.toInt_inj.mp (by rw [hv21]; decide)
      subst hz21
      refine gg_tableIn (off := 71) (tgt := 92) (pc := 21) E dX5_count_21 (by decide) (by decide) rfl (by decide) ?_
      refine gg_aload_n (pc := 92) E dX5_count_92 rfl rfl ?_
      refine gg_get (pc := 93) E ck_X5 0 q2859 rfl (by decide) dX5_count_93 (gg_i 0 rfl) rfl ?_
      refine gg_iload_n (pc := 96) E dX5_count_96 rfl rfl ?_
      refine gg_ialdN (pc := 97) E 1 rfl (by omega) (by omega) dX5_count_97 (gg_r 0 rfl) ?_
      refine gg_iret (pc := 98) E Fn rfl (rfl) dX5_count_98 (by first | exact Nat.le_of_ble_eq_true rfl | (dsimp only; omega)) (by first | exact Nat.le_of_ble_eq_true rfl | (dsimp only; omega)) ?_
      exact ⟨by unfold qCount; rw [if_pos (th_1.mp c15)] <;> rfl, rfl⟩
    · have hz21 : wh = 2 := Int32.toInt_inj.mp (by rw [hv21]; decide)
      subst hz21
      refine gg_tableIn (off := 71) (tgt := 92) (pc := 21) E dX5_count_21 (by decide) (by decide) rfl (by decide) ?_
      refine gg_aload_n (pc := 92) E dX5_count_92 rfl rfl ?_
      refine gg_get (pc := 93) E ck_X5 0 q2859 rfl (by decide) dX5_count_93 (gg_i 0 rfl) rfl ?_
      refine gg_iload_n (pc := 96) E dX5_count_96 rfl rfl ?_
      refine gg_ialdN (pc := 97) E 2 rfl (by omega) (by omega) dX5_count_97 (gg_r 0 rfl) ?_
      refine gg_iret (pc := 98) E Fn rfl (rfl) dX5_count_98 (by first | exact Nat.le_of_ble_eq_true rfl | (dsimp only; omega)) (by first | exact Nat.le_of_ble_eq_true rfl | (dsimp only; omega)) ?_
      exact ⟨by unfold qCount; rw [if_pos (th_1.mp c15)] <;> rfl, rfl⟩
    · have hz21 : wh = 3 := Int32.toInt_inj.mp (by rw [hv21]; decide)
      subst hz21
      refine gg_tableIn (off := 78) (tgt := 99) (pc := 21) E dX5_count_21 (by decide) (by decide) rfl (by decide) ?_
      refine gg_aload_n (pc := 99) E dX5_count_99 rfl rfl ?_
      refine gg_iload_n (pc := 100) E dX5_count_100 rfl rfl ?_
      refine gg_iconst (v := 3) (pc := 101) E dX5_count_101 (by decide) ?_
      refine gg_isub (pc := 102) E dX5_count_102 ?_
      refine gg_callV (F := [_]) (As := [_]) (rest := []) (pc := 103) E ck_X5 (ct_X5_those hl (by first | assumption | omega) (by first | assumption | omega)) (cwV 1 E.2.2.2.2.1 (lw_V q3245 q3247 qs128 q179 q3248) rfl rfl rfl (by decide +kernel) ⟨by rw [hRf]; exact Nat.le_of_ble_eq_true rfl, by rw [hRl]; exact Nat.le_of_ble_eq_true rfl⟩) dX5_count_103 [] (by decide) rfl rfl (List.forall_mem_cons.mpr ⟨(gg_i 0 rfl), (List.forall_mem_cons.mpr ⟨(gg_r 0 rfl), (fun _ h => by cases h)⟩)⟩) (gg_i 0 rfl) rfl rfl (Nat.le_of_ble_eq_true rfl) (by first | (rw [hRc]; exact Nat.le_of_ble_eq_true rfl) | (rw [hRc]; dsimp only; omega)) (by first | (rw [hRs]; exact Nat.le_of_ble_eq_true rfl) | (rw [hRs]; dsimp only; omega)) ?_ (fun X q C1 h => h.elim)
      rintro _ _ ⟨rfl, rfl⟩
      dsimp only [List.cons_append, List.nil_append, Option.toList]
      refine gg_iret (pc := 106) E Fn rfl (rfl) dX5_count_106 (by first | exact Nat.le_of_ble_eq_true rfl | (dsimp only; omega)) (by first | exact Nat.le_of_ble_eq_true rfl | (dsimp only; omega)) ?_
      exact ⟨by unfold qCount; rw [if_pos (th_1.mp c15)] <;> rfl, rfl⟩
    · have hz21 : wh = 4 := Int32.toInt_inj.mp (by rw [hv21]; decide)
      subst hz21
      refine gg_tableIn (off := 78) (tgt := 99) (pc := 21) E dX5_count_21 (by decide) (by decide) rfl (by decide) ?_
      refine gg_aload_n (pc := 99) E dX5_count_99 rfl rfl ?_
      refine gg_iload_n (pc := 100) E dX5_count_100 rfl rfl ?_
      refine gg_iconst (v := 3) (pc := 101) E dX5_count_101 (by decide) ?_
      refine gg_isub (pc := 102) E dX5_count_102 ?_
      refine gg_callV (F := [_]) (As := [_]) (rest := []) (pc := 103) E ck_X5 (ct_X5_those hl (by first | assumption | omega) (by first | assumption | omega)) (cwV 1 E.2.2.2.2.1 (lw_V q3245 q3247 qs128 q179 q3248) rfl rfl rfl (by decide +kernel) ⟨by rw [hRf]; exact Nat.le_of_ble_eq_true rfl, by rw [hRl]; exact Nat.le_of_ble_eq_true rfl⟩) dX5_count_103 [] (by decide) rfl rfl (List.forall_mem_cons.mpr ⟨(gg_i 0 rfl), (List.forall_mem_cons.mpr ⟨(gg_r 0 rfl), (fun _ h => by cases h)⟩)⟩) (gg_i 0 rfl) rfl rfl (Nat.le_of_ble_eq_true rfl) (by first | (rw [hRc]; exact Nat.le_of_ble_eq_true rfl) | (rw [hRc]; dsimp only; omega)) (by first | (rw [hRs]; exact Nat.le_of_ble_eq_true rfl) | (rw [hRs]; dsimp only; omega)) ?_ (fun X q C1 h => h.elim)
      rintro _ _ ⟨rfl, rfl⟩
      dsimp only [List.cons_append, List.nil_append, Option.toList]
      refine gg_iret (pc := 106) E Fn rfl (rfl) dX5_count_106 (by first | exact Nat.le_of_ble_eq_true rfl | (dsimp only; omega)) (by first | exact Nat.le_of_ble_eq_true rfl | (dsimp only; omega)) ?_
      exact ⟨by unfold qCount; rw [if_pos (th_1.mp c15)] <;> rfl, rfl⟩
    · have hz21 : wh = 5 := Int32.toInt_inj.mp (by rw [hv21]; decide)
      subst hz21
      refine gg_tableIn (off := 78) (tgt := 99) (pc := 21) E dX5_count_21 (by decide) (by decide) rfl (by decide) ?_
      refine gg_aload_n (pc := 99) E dX5_count_99 rfl rfl ?_
      refine gg_iload_n (pc := 100) E dX5_count_100 rfl rfl ?_
      refine gg_iconst (v := 3) (pc := 101) E dX5_count_101 (by decide) ?_
      refine gg_isub (pc := 102) E dX5_count_102 ?_
      refine gg_callV (F := [_]) (As := [_]) (rest := []) (pc := 103) E ck_X5 (ct_X5_those hl (by first | assumption | omega) (by first | assumption | omega)) (cwV 1 E.2.2.2.2.1 (lw_V q3245 q3247 qs128 q179 q3248) rfl rfl rfl (by decide +kernel) ⟨by rw [hRf]; exact Nat.le_of_ble_eq_true rfl, by rw [hRl]; exact Nat.le_of_ble_eq_true rfl⟩) dX5_count_103 [] (by decide) rfl rfl (List.forall_mem_cons.mpr ⟨(gg_i 0 rfl), (List.forall_mem_cons.mpr ⟨(gg_r 0 rfl), (fun _ h => by cases h)⟩)⟩) (gg_i 0 rfl) rfl rfl (Nat.le_of_ble_eq_true rfl) (by first | (rw [hRc]; exact Nat.le_of_ble_eq_true rfl) | (rw [hRc]; dsimp only; omega)) (by first | (rw [hRs]; exact Nat.le_of_ble_eq_true rfl) | (rw [hRs]; dsimp only; omega)) ?_ (fun X q C1 h => h.elim)
      rintro _ _ ⟨rfl, rfl⟩
      dsimp only [List.cons_append, List.nil_append, Option.toList]
      refine gg_iret (pc := 106) E Fn rfl (rfl) dX5_count_106 (by first | exact Nat.le_of_ble_eq_true rfl | (dsimp only; omega)) (by first | exact Nat.le_of_ble_eq_true rfl | (dsimp only; omega)) ?_
      exact ⟨by unfold qCount; rw [if_pos (th_1.mp c15)] <;> rfl, rfl⟩
    · have hz21 : wh = 6 := Int32.toInt_inj.mp (by rw [hv21]; decide)
      subst hz21
      refine gg_tableIn (off := 78) (tgt := 99) (pc := 21) E dX5_count_21 (by decide) (by decide) rfl (by decide) ?_
      refine gg_aload_n (pc := 99) E dX5_count_99 rfl rfl ?_
      refine gg_iload_n (pc := 100) E dX5_count_100 rfl rfl ?_
      refine gg_iconst (v := 3) (pc := 101) E dX5_count_101 (by decide) ?_
      refine gg_isub (pc := 102) E dX5_count_102 ?_
      refine gg_callV (F := [_]) (As := [_]) (rest := []) (pc := 103) E ck_X5 (ct_X5_those hl (by first | assumption | omega) (by first | assumption | omega)) (cwV 1 E.2.2.2.2.1 (lw_V q3245 q3247 qs128 q179 q3248) rfl rfl rfl (by decide +kernel) ⟨by rw [hRf]; exact Nat.le_of_ble_eq_true rfl, by rw [hRl]; exact Nat.le_of_ble_eq_true rfl⟩) dX5_count_103 [] (by decide) rfl rfl (List.forall_mem_cons.mpr ⟨(gg_i 0 rfl), (List.forall_mem_cons.mpr ⟨(gg_r 0 rfl), (fun _ h => by cases h)⟩)⟩) (gg_i 0 rfl) rfl rfl (Nat.le_of_ble_eq_true rfl) (by first | (rw [hRc]; exact Nat.le_of_ble_eq_true rfl) | (rw [hRc]; dsimp only; omega)) (by first | (rw [hRs]; exact Nat.le_of_ble_eq_true rfl) | (rw [hRs]; dsimp only; omega)) ?_ (fun X q C1 h => h.elim)
      rintro _ _ ⟨rfl, rfl⟩
      dsimp only [List.cons_append, List.nil_append, Option.toList]
      refine gg_iret (pc := 106) E Fn rfl (rfl) dX5_count_106 (by first | exact Nat.le_of_ble_eq_true rfl | (dsimp only; omega)) (by first | exact Nat.le_of_ble_eq_true rfl | (dsimp only; omega)) ?_
      exact ⟨by unfold qCount; rw [if_pos (th_1.mp c15)] <;> rfl, rfl⟩
    · have hz21 : wh = 7 := Int32.toInt_inj.mp (by rw [hv21]; decide)
      subst hz21
      refine gg_tableIn (off := 101) (tgt := 122) (pc := 21) E dX5_count_21 (by decide) (by decide) rfl (by decide) ?_
      refine gg_aload_n (pc := 122) E dX5_count_122 rfl rfl ?_
      refine gg_get (pc := 123) E ck_X5 0 q2859 rfl (by decide) dX5_count_123 (gg_i 0 rfl) rfl ?_
      refine gg_iload_n (pc := 126) E dX5_count_126 rfl rfl ?_
      refine gg_iconst (v := 4) (pc := 127) E dX5_count_127 (by decide) ?_
      refine gg_isubN (pc := 128) E 7 4 rfl rfl (by decide) dX5_count_128 ?_
      refine gg_ialdN (pc := 129) E (7 - 4) rfl (by omega) (by omega) dX5_count_129 (gg_r 0 rfl) ?_
      refine gg_iret (pc := 130) E Fn rfl (rfl) dX5_count_130 (by first | exact Nat.le_of_ble_eq_true rfl | (dsimp only; omega)) (by first | exact Nat.le_of_ble_eq_true rfl | (dsimp only; omega)) ?_
      exact ⟨by unfold qCount; rw [if_pos (th_1.mp c15)] <;> rfl, rfl⟩
    · have hz21 : wh = 8 := Int32.toInt_inj.mp (by rw [hv21]; decide)
      subst hz21
      refine gg_tableIn (off := 101) (tgt := 122) (pc := 21) E dX5_count_21 (by decide) (by decide) rfl (by decide) ?_
      refine gg_aload_n (pc := 122) E dX5_count_122 rfl rfl ?_
      refine gg_get (pc := 123) E ck_X5 0 q2859 rfl (by decide) dX5_count_123 (gg_i 0 rfl) rfl ?_
      refine gg_iload_n (pc := 126) E dX5_count_126 rfl rfl ?_
      refine gg_iconst (v := 4) (pc := 127) E dX5_count_127 (by decide) ?_
      refine gg_isubN (pc := 128) E 8 4 rfl rfl (by decide) dX5_count_128 ?_
      refine gg_ialdN (pc := 129) E (8 - 4) rfl (by omega) (by omega) dX5_count_129 (gg_r 0 rfl) ?_
      refine gg_iret (pc := 130) E Fn rfl (rfl) dX5_count_130 (by first | exact Nat.le_of_ble_eq_true rfl | (dsimp only; omega)) (by first | exact Nat.le_of_ble_eq_true rfl | (dsimp only; omega)) ?_
      exact ⟨by unfold qCount; rw [if_pos (th_1.mp c15)] <;> rfl, rfl⟩
    · have hz21 : wh = 9 := Int32.toInt_inj.mp (by rw [hv21]; decide)
      subst hz21
      refine gg_tableIn (off := 101) (tgt := 122) (pc := 21) E dX5_count_21 (by decide) (by decide) rfl (by decide) ?_
      refine gg_aload_n (pc := 122) E dX5_count_122 rfl rfl ?_
      refine gg_get (pc := 123) E ck_X5 0 q2859 rfl (by decide) dX5_count_123 (gg_i 0 rfl) rfl ?_
      refine gg_iload_n (pc := 126) E dX5_count_126 rfl rfl ?_
      refine gg_iconst (v := 4) (pc := 127) E dX5_count_127 (by decide) ?_
      refine gg_isubN (pc := 128) E 9 4 rfl rfl (by decide) dX5_count_128 ?_
      refine gg_ialdN (pc := 129) E (9 - 4) rfl (by omega) (by omega) dX5_count_129 (gg_r 0 rfl) ?_
      refine gg_iret (pc := 130) E Fn rfl (rfl) dX5_count_130 (by first | exact Nat.le_of_ble_eq_true rfl | (dsimp only; omega)) (by first | exact Nat.le_of_ble_eq_true rfl | (dsimp only; omega)) ?_
      exact ⟨by unfold qCount; rw [if_pos (th_1.mp c15)] <;> rfl, rfl⟩
    · have hz21 : wh = 10 := Int32.toInt_inj.mp (by rw [hv21]; decide)
      subst hz21
      refine gg_tableIn (off := 101) (tgt := 122) (pc := 21) E dX5_count_21 (by decide) (by decide) rfl (by decide) ?_
      refine gg_aload_n (pc := 122) E dX5_count_122 rfl rfl ?_
      refine gg_get (pc := 123) E ck_X5 0 q2859 rfl (by decide) dX5_count_123 (gg_i 0 rfl) rfl ?_
      refine gg_iload_n (pc := 126) E dX5_count_126 rfl rfl ?_
      refine gg_iconst (v := 4) (pc := 127) E dX5_count_127 (by decide) ?_
      refine gg_isubN (pc := 128) E 10 4 rfl rfl (by decide) dX5_count_128 ?_
      refine gg_ialdN (pc := 129) E (10 - 4) rfl (by omega) (by omega) dX5_count_129 (gg_r 0 rfl) ?_
      refine gg_iret (pc := 130) E Fn rfl (rfl) dX5_count_130 (by first | exact Nat.le_of_ble_eq_true rfl | (dsimp only; omega)) (by first | exact Nat.le_of_ble_eq_true rfl | (dsimp only; omega)) ?_
      exact ⟨by unfold qCount; rw [if_pos (th_1.mp c15)] <;> rfl, rfl⟩
    · have hz21 : wh = 11 := Int32.toInt_inj.mp (by rw [hv21]; decide)
      subst hz21
      refine gg_tableIn (off := 86) (tgt := 107) (pc := 21) E dX5_count_21 (by decide) (by decide) rfl (by decide) ?_
      refine gg_aload_n (pc := 107) E dX5_count_107 rfl rfl ?_
      refine gg_callV (F := [_]) (As := []) (rest := []) (pc := 108) E ck_X5 (ct_X5_busyMany hl (by first | assumption | omega) (by first | assumption | omega)) (cwV 0 E.2.2.2.2.1 (lw_V q3249 q3251 qs129 q179 q3252) rfl rfl rfl (by decide +kernel) ⟨by rw [hRf]; exact Nat.le_of_ble_eq_true rfl, by rw [hRl]; exact Nat.le_of_ble_eq_true rfl⟩) dX5_count_108 [] (by decide) rfl rfl (List.forall_mem_cons.mpr ⟨(gg_i 0 rfl), (List.forall_mem_cons.mpr ⟨(gg_r 0 rfl), (fun _ h => by cases h)⟩)⟩) (gg_i 0 rfl) rfl rfl (Nat.le_of_ble_eq_true rfl) (by first | (rw [hRc]; exact Nat.le_of_ble_eq_true rfl) | (rw [hRc]; dsimp only; omega)) (by first | (rw [hRs]; exact Nat.le_of_ble_eq_true rfl) | (rw [hRs]; dsimp only; omega)) ?_ (fun X q C1 h => h.elim)
      rintro _ _ ⟨rfl, rfl⟩
      dsimp only [List.cons_append, List.nil_append, Option.toList]
      refine gg_iret (pc := 111) E Fn rfl (rfl) dX5_count_111 (by first | exact Nat.le_of_ble_eq_true rfl | (dsimp only; omega)) (by first | exact Nat.le_of_ble_eq_true rfl | (dsimp only; omega)) ?_
      exact ⟨by unfold qCount; rw [if_pos (th_1.mp c15)] <;> rfl, rfl⟩
    · have hz21 : wh = 12 := Int32.toInt_inj.mp (by rw [hv21]; decide)
      subst hz21
      refine gg_tableIn (off := 91) (tgt := 112) (pc := 21) E dX5_count_21 (by decide) (by decide) rfl (by decide) ?_
      refine gg_aload_n (pc := 112) E dX5_count_112 rfl rfl ?_
      refine gg_callV (F := [_]) (As := []) (rest := []) (pc := 113) E ck_X5 (ct_X5_purses hl (by first | assumption | omega) (by first | assumption | omega)) (cwV 0 E.2.2.2.2.1 (lw_V q3253 q3255 qs130 q179 q3256) rfl rfl rfl (by decide +kernel) ⟨by rw [hRf]; exact Nat.le_of_ble_eq_true rfl, by rw [hRl]; exact Nat.le_of_ble_eq_true rfl⟩) dX5_count_113 [] (by decide) rfl rfl (List.forall_mem_cons.mpr ⟨(gg_i 0 rfl), (List.forall_mem_cons.mpr ⟨(gg_r 0 rfl), (fun _ h => by cases h)⟩)⟩) (gg_i 0 rfl) rfl rfl (Nat.le_of_ble_eq_true rfl) (by first | (rw [hRc]; exact Nat.le_of_ble_eq_true rfl) | (rw [hRc]; dsimp only; omega)) (by first | (rw [hRs]; exact Nat.le_of_ble_eq_true rfl) | (rw [hRs]; dsimp only; omega)) ?_ (fun X q C1 h => h.elim)
      rintro _ _ ⟨rfl, rfl⟩
      dsimp only [List.cons_append, List.nil_append, Option.toList]
      refine gg_iret (pc := 116) E Fn rfl (rfl) dX5_count_116 (by first | exact Nat.le_of_ble_eq_true rfl | (dsimp only; omega)) (by first | exact Nat.le_of_ble_eq_true rfl | (dsimp only; omega)) ?_
      exact ⟨by unfold qCount; rw [if_pos (th_1.mp c15)] <;> rfl, rfl⟩
    · have hz21 : wh = 13 := Int32.toInt_inj.mp (by rw [hv21]; decide)
      subst hz21
      refine gg_tableIn (off := 96) (tgt := 117) (pc := 21) E dX5_count_21 (by decide) (by decide) rfl (by decide) ?_
      refine gg_aload_n (pc := 117) E dX5_count_117 rfl rfl ?_
      refine gg_get (pc := 118) E ck_X5 4 q2863 rfl (by decide) dX5_count_118 (gg_i 0 rfl) rfl ?_
      refine gg_iret (pc := 121) E Fn rfl (rfl) dX5_count_121 (by first | exact Nat.le_of_ble_eq_true rfl | (dsimp only; omega)) (by first | exact Nat.le_of_ble_eq_true rfl | (dsimp only; omega)) ?_
      exact ⟨by unfold qCount; rw [if_pos (th_1.mp c15)] <;> rfl, rfl⟩
  · refine gg_iconst (v := 0) (pc := 18) E dX5_count_18 (by decide) ?_
    refine gg_iret (pc := 19) E Fn rfl (rfl) dX5_count_19 (by first | exact Nat.le_of_ble_eq_true rfl | (dsimp only; omega)) (by first | exact Nat.le_of_ble_eq_true rfl | (dsimp only; omega)) ?_
    exact ⟨by unfold qCount; rw [if_neg (fun q => c15 (th_1.mpr q))], rfl⟩
set_option maxHeartbeats 4000000 in
theorem ct_X5_account {l : Launch} (hl : l.stackTraces = false) {g : gg_G}  {h : Nat} {ad : Nat → Nat} {x : Nat → Int32} {row : Nat → Int32} {wh : Int32} {nr nw nt : Nat} (hG : Gw row nr nw nt) : gg_C l g yX5_account (ws_ yX5_account cX5_account 2 (some .int)) { frames := 1, cells := 0, slots := 0, locals := 25 } [.ref h, .int wh] [((ad 0), gg_ai g 1030 row)] [[(h, .inl (4, mo_f ad x))]] (fun vv CC => vv = some (.int (qAccount row wh)) ∧ CC = [[(h, .inl (4, mo_f ad (upd x 6 (th (if 0 ≤ wh.toInt ∧ wh.toInt ≤ 10 then 1 else 0) 1 1))))]]) gg_no := by
  refine gg_of (lv := [_, _]) (by decide) hl (Nat.le_of_ble_eq_true rfl) rfl ?_
  intro p e R s m args below meth c A Q hRf hRl hRc hRs E Fn hnm hex
  have hG0 := hG
  obtain ⟨hnr, hw, ht, hG4, hGS⟩ := hG
  have hnw := hw.1
  have hw20 := hw.2.1
  have hr10 := hw.2.2.1
  have hnt := ht.1
  have ht30 := ht.2.1
  refine gg_aload_n (pc := 0) E dX5_account_0 rfl rfl ?_
  refine gg_iload_n (pc := 1) E dX5_account_1 rfl rfl ?_
  refine gg_i2l (pc := 2) E dX5_account_2 rfl ?_
  refine gg_lconst (v := 0) (pc := 3) E dX5_account_3 (by decide) ?_
  refine gg_ldc2 (pc := 4) E q3261 dX5_account_4 ?_
  refine gg_callS (F := [_]) (As := [_, _, _]) (rest := [_]) (pc := 7) E (ct_X5_in hl ) (va_cwS 3 E.2.2.2.2.1 (lw_S q2961 q2962 q179 q2963) rfl rfl rfl (by decide +kernel) ⟨by rw [hRf]; exact Nat.le_of_ble_eq_true rfl, by rw [hRl]; exact Nat.le_of_ble_eq_true rfl⟩) dX5_account_7 [] (by decide) rfl rfl (fun _ h => by cases h) rfl rfl (Nat.le_of_ble_eq_true rfl) (by first | (rw [hRc]; exact Nat.le_of_ble_eq_true rfl) | (rw [hRc]; dsimp only; omega)) (by first | (rw [hRs]; exact Nat.le_of_ble_eq_true rfl) | (rw [hRs]; dsimp only; omega)) ?_ (fun X q C1 h => h.elim)
  rintro _ _ ⟨rfl, rfl⟩
  dsimp only [List.cons_append, List.nil_append, Option.toList]
  refine gg_topI (y := if 0 ≤ wh.toInt ∧ wh.toInt ≤ 10 then 1 else 0) (gg_ifc (in_ab (by decide) (by decide))) ?_
  refine gg_iconst (v := 1) (pc := 10) E dX5_account_10 (by decide) ?_
  refine gg_iconst (v := 1) (pc := 11) E dX5_account_11 (by decide) ?_
  refine gg_callV (F := []) (As := [_, _, _]) (rest := []) (pc := 12) E ck_X5 (ct_X5_may hl ) (cwV 3 E.2.2.2.2.1 (lw_V q3241 q3243 qs127 q179 q3244) rfl rfl rfl (by decide +kernel) ⟨by rw [hRf]; exact Nat.le_of_ble_eq_true rfl, by rw [hRl]; exact Nat.le_of_ble_eq_true rfl⟩) dX5_account_12 [0] (by decide) rfl rfl (fun _ h => by cases h) (gg_i 0 rfl) rfl rfl (Nat.le_of_ble_eq_true rfl) (by first | (rw [hRc]; exact Nat.le_of_ble_eq_true rfl) | (rw [hRc]; dsimp only; omega)) (by first | (rw [hRs]; exact Nat.le_of_ble_eq_true rfl) | (rw [hRs]; dsimp only; omega)) ?_ (fun X q C1 h => h.elim)
  rintro _ _ ⟨rfl, rfl⟩
  dsimp only [List.cons_append, List.nil_append, Option.toList]
  refine gg_ifP_eq (tgt := 30) (pc := 15) E dX5_account_15 (by decide) (fun c15 => ?_) (fun c15 => ?_)
  · refine gg_iconst (v := 0) (pc := 30) E dX5_account_30 (by decide) ?_
    refine gg_iret (pc := 31) E Fn rfl (rfl) dX5_account_31 (by first | exact Nat.le_of_ble_eq_true rfl | (dsimp only; omega)) (by first | exact Nat.le_of_ble_eq_true rfl | (dsimp only; omega)) ?_
    exact ⟨by unfold qAccount; rw [if_neg (fun q => c15 (th_1.mpr q))], rfl⟩
  · obtain ⟨u, hu, huq⟩ := k_nI (n := 11) (k := wh) (by have := th_1.mp c15; omega)
    subst huq
    refine gg_aload_n (pc := 18) E dX5_account_18 rfl rfl ?_
    refine gg_get (pc := 19) E ck_X5 0 q2859 rfl (by decide) dX5_account_19 (gg_i 0 rfl) rfl ?_
    refine gg_bipush (v := 10) (pc := 22) E dX5_account_22 (by decide) ?_
    refine gg_iload_n (pc := 24) E dX5_account_24 rfl rfl ?_
    refine gg_iaddN (pc := 25) E 10 u rfl rfl dX5_account_25 ?_
    refine gg_ialdN (pc := 26) E (10 + u) rfl (by omega) (by omega) dX5_account_26 (gg_r 0 rfl) ?_
    refine gg_goto (tgt := 31) (pc := 27) E dX5_account_27 (by decide) ?_
    refine gg_iret (pc := 31) E Fn rfl (rfl) dX5_account_31 (by first | exact Nat.le_of_ble_eq_true rfl | (dsimp only; omega)) (by first | exact Nat.le_of_ble_eq_true rfl | (dsimp only; omega)) ?_
    exact ⟨by unfold qAccount; rw [if_pos (th_1.mp c15), tn_nI (j := u) (by omega)] <;> rfl, rfl⟩
set_option maxHeartbeats 4000000 in
theorem ct_X5_nameByte {l : Launch} (hl : l.stackTraces = false) {g : gg_G}  {h : Nat} {ad : Nat → Nat} {x : Nat → Int32} {row : Nat → Int32} {k ix : Int32} {nr nw nt : Nat} (hG : Gw row nr nw nt) : gg_C l g yX5_nameByte (ws_ yX5_nameByte cX5_nameByte 3 (some .int)) { frames := 2, cells := 0, slots := 0, locals := 46 } [.ref h, .int k, .int ix] [((ad 0), gg_ai g 1030 row)] [[(h, .inl (4, mo_f ad x))]] (fun vv CC => vv = some (.int (qName row nr k ix)) ∧ CC = [[(h, .inl (4, mo_f ad (upd x 6 (th (if 0 ≤ k.toInt ∧ k.toInt < nr then 1 else 0) 1 1))))]]) gg_no := by
  refine gg_of (lv := [_, _, _]) (by decide) hl (Nat.le_of_ble_eq_true rfl) rfl ?_
  intro p e R s m args below meth c A Q hRf hRl hRc hRs E Fn hnm hex
  have hG0 := hG
  obtain ⟨hnr, hw, ht, hG4, hGS⟩ := hG
  have hnw := hw.1
  have hw20 := hw.2.1
  have hr10 := hw.2.2.1
  have hnt := ht.1
  have ht30 := ht.2.1
  refine gg_aload_n (pc := 0) E dX5_nameByte_0 rfl rfl ?_
  refine gg_aload_n (pc := 1) E dX5_nameByte_1 rfl rfl ?_
  refine gg_iload_n (pc := 2) E dX5_nameByte_2 rfl rfl ?_
  refine gg_callV (F := [_]) (As := [_]) (rest := [_]) (pc := 3) E ck_X5 (ct_X5_isRoof hl (by first | assumption | omega) (by first | assumption | omega)) (cwV 1 E.2.2.2.2.1 (lw_V q3266 q3268 qs131 q179 q3269) rfl rfl rfl (by decide +kernel) ⟨by rw [hRf]; exact Nat.le_of_ble_eq_true rfl, by rw [hRl]; exact Nat.le_of_ble_eq_true rfl⟩) dX5_nameByte_3 [] (by decide) rfl rfl (List.forall_mem_cons.mpr ⟨(gg_i 0 rfl), (List.forall_mem_cons.mpr ⟨(gg_r 0 rfl), (fun _ h => by cases h)⟩)⟩) (gg_i 0 rfl) rfl rfl (Nat.le_of_ble_eq_true rfl) (by first | (rw [hRc]; exact Nat.le_of_ble_eq_true rfl) | (rw [hRc]; dsimp only; omega)) (by first | (rw [hRs]; exact Nat.le_of_ble_eq_true rfl) | (rw [hRs]; dsimp only; omega)) ?_ (fun X q C1 h => h.elim)
  rintro _ _ ⟨rfl, rfl⟩
  dsimp only [List.cons_append, List.nil_append, Option.toList]
  refine gg_iconst (v := 1) (pc := 6) E dX5_nameByte_6 (by decide) ?_
  refine gg_iconst (v := 1) (pc := 7) E dX5_nameByte_7 (by decide) ?_
  refine gg_callV (F := []) (As := [_, _, _]) (rest := []) (pc := 8) E ck_X5 (ct_X5_may hl ) (cwV 3 E.2.2.2.2.1 (lw_V q3241 q3243 qs127 q179 q3244) rfl rfl rfl (by decide +kernel) ⟨by rw [hRf]; exact Nat.le_of_ble_eq_true rfl, by rw [hRl]; exact Nat.le_of_ble_eq_true rfl⟩) dX5_nameByte_8 [0] (by decide) rfl rfl (fun _ h => by cases h) (gg_i 0 rfl) rfl rfl (Nat.le_of_ble_eq_true rfl) (by first | (rw [hRc]; exact Nat.le_of_ble_eq_true rfl) | (rw [hRc]; dsimp only; omega)) (by first | (rw [hRs]; exact Nat.le_of_ble_eq_true rfl) | (rw [hRs]; dsimp only; omega)) ?_ (fun X q C1 h => h.elim)
  rintro _ _ ⟨rfl, rfl⟩
  dsimp only [List.cons_append, List.nil_append, Option.toList]
  refine gg_ifP_ne (tgt := 16) (pc := 11) E dX5_nameByte_11 (by decide) (fun c11 => ?_) (fun c11 => ?_)
  · obtain ⟨j, hj, hjq⟩ := k_nI (th_1.mp c11)
    subst hjq
    have hG5 := hG4 j hj
    refine gg_iload_n (pc := 16) E dX5_nameByte_16 rfl rfl ?_
    refine gg_i2l (pc := 17) E dX5_nameByte_17 rfl ?_
    refine gg_lconst (v := 0) (pc := 18) E dX5_nameByte_18 (by decide) ?_
    refine gg_aload_n (pc := 19) E dX5_nameByte_19 rfl rfl ?_
    refine gg_get (pc := 20) E ck_X5 0 q2859 rfl (by decide) dX5_nameByte_20 (gg_i 0 rfl) rfl ?_
    refine gg_iload_n (pc := 23) E dX5_nameByte_23 rfl rfl ?_
    refine gg_callS (F := [_]) (As := [.int (nI j)]) (rest := [_, _, _]) (pc := 24) E (ct_X5_r hl ) (va_cwS 1 E.2.2.2.2.1 (lw_S q2849 q2850 q179 q2851) rfl rfl rfl (by decide +kernel) ⟨by rw [hRf]; exact Nat.le_of_ble_eq_true rfl, by rw [hRl]; exact Nat.le_of_ble_eq_true rfl⟩) dX5_nameByte_24 [] (by decide) rfl rfl (fun _ h => by cases h) rfl rfl (Nat.le_of_ble_eq_true rfl) (by first | (rw [hRc]; exact Nat.le_of_ble_eq_true rfl) | (rw [hRc]; dsimp only; omega)) (by first | (rw [hRs]; exact Nat.le_of_ble_eq_true rfl) | (rw [hRs]; dsimp only; omega)) ?_ (fun X q C1 h => h.elim)
    rintro _ _ ⟨rfl, rfl⟩
    dsimp only [List.cons_append, List.nil_append, Option.toList]
    refine gg_ialdN (pc := 27) E (25 + 13 * j) rfl (by omega) (by omega) dX5_nameByte_27 (gg_r 0 rfl) ?_
    rw [hG5.1.1]
    refine gg_iconst (v := 1) (pc := 28) E dX5_nameByte_28 (by decide) ?_
    refine gg_isub (pc := 29) E dX5_nameByte_29 ?_
    refine gg_i2l (pc := 30) E dX5_nameByte_30 rfl ?_
    refine gg_callS (F := [_]) (As := [_, _, _]) (rest := []) (pc := 31) E (ct_X5_in hl ) (va_cwS 3 E.2.2.2.2.1 (lw_S q2961 q2962 q179 q2963) rfl rfl rfl (by decide +kernel) ⟨by rw [hRf]; exact Nat.le_of_ble_eq_true rfl, by rw [hRl]; exact Nat.le_of_ble_eq_true rfl⟩) dX5_nameByte_31 [] (by decide) rfl rfl (fun _ h => by cases h) rfl rfl (Nat.le_of_ble_eq_true rfl) (by first | (rw [hRc]; exact Nat.le_of_ble_eq_true rfl) | (rw [hRc]; dsimp only; omega)) (by first | (rw [hRs]; exact Nat.le_of_ble_eq_true rfl) | (rw [hRs]; dsimp only; omega)) ?_ (fun X q C1 h => h.elim)
    rintro _ _ ⟨rfl, rfl⟩
    dsimp only [List.cons_append, List.nil_append, Option.toList]
    refine gg_topI (y := if 0 ≤ ix.toInt ∧ ix.toInt < nl row j then 1 else 0) (gg_ifc (in_rng0 (n := nl row j) (by omega))) ?_
    refine gg_ifP_eq (tgt := 53) (pc := 34) E dX5_nameByte_34 (by decide) (fun c34 => ?_) (fun c34 => ?_)
    · refine gg_iconst (v := (-1)) (pc := 53) E dX5_nameByte_53 (by decide) ?_
      refine gg_iret (pc := 54) E Fn rfl (rfl) dX5_nameByte_54 (by first | exact Nat.le_of_ble_eq_true rfl | (dsimp only; omega)) (by first | exact Nat.le_of_ble_eq_true rfl | (dsimp only; omega)) ?_
      exact ⟨by unfold qName; rw [if_pos (th_1.mp c11), tn_nI (j := j) (by omega), if_neg c34], rfl⟩
    · obtain ⟨u, hu, huq⟩ := k_nI c34
      subst huq
      refine gg_aload_n (pc := 37) E dX5_nameByte_37 rfl rfl ?_
      refine gg_get (pc := 38) E ck_X5 0 q2859 rfl (by decide) dX5_nameByte_38 (gg_i 0 rfl) rfl ?_
      refine gg_iload_n (pc := 41) E dX5_nameByte_41 rfl rfl ?_
      refine gg_callS (F := [_]) (As := [.int (nI j)]) (rest := [_]) (pc := 42) E (ct_X5_r hl ) (va_cwS 1 E.2.2.2.2.1 (lw_S q2849 q2850 q179 q2851) rfl rfl rfl (by decide +kernel) ⟨by rw [hRf]; exact Nat.le_of_ble_eq_true rfl, by rw [hRl]; exact Nat.le_of_ble_eq_true rfl⟩) dX5_nameByte_42 [] (by decide) rfl rfl (fun _ h => by cases h) rfl rfl (Nat.le_of_ble_eq_true rfl) (by first | (rw [hRc]; exact Nat.le_of_ble_eq_true rfl) | (rw [hRc]; dsimp only; omega)) (by first | (rw [hRs]; exact Nat.le_of_ble_eq_true rfl) | (rw [hRs]; dsimp only; omega)) ?_ (fun X q C1 h => h.elim)
      rintro _ _ ⟨rfl, rfl⟩
      dsimp only [List.cons_append, List.nil_append, Option.toList]
      refine gg_iconst (v := 1) (pc := 45) E dX5_nameByte_45 (by decide) ?_
      refine gg_iaddN (pc := 46) E (25 + 13 * j) 1 rfl rfl dX5_nameByte_46 ?_
      refine gg_iload_n (pc := 47) E dX5_nameByte_47 rfl rfl ?_
      refine gg_iaddN (pc := 48) E ((25 + 13 * j) + 1) u rfl rfl dX5_nameByte_48 ?_
      refine gg_ialdN (pc := 49) E ((25 + 13 * j) + 1 + u) rfl (by omega) (by omega) dX5_nameByte_49 (gg_r 0 rfl) ?_
      refine gg_goto (tgt := 54) (pc := 50) E dX5_nameByte_50 (by decide) ?_
      refine gg_iret (pc := 54) E Fn rfl (rfl) dX5_nameByte_54 (by first | exact Nat.le_of_ble_eq_true rfl | (dsimp only; omega)) (by first | exact Nat.le_of_ble_eq_true rfl | (dsimp only; omega)) ?_
      exact ⟨by unfold qName; rw [if_pos (th_1.mp c11), tn_nI (j := j) (by omega), if_pos c34, tn_nI (j := u) (by omega)], rfl⟩
  · refine gg_iconst (v := 0) (pc := 14) E dX5_nameByte_14 (by decide) ?_
    refine gg_iret (pc := 15) E Fn rfl (rfl) dX5_nameByte_15 (by first | exact Nat.le_of_ble_eq_true rfl | (dsimp only; omega)) (by first | exact Nat.le_of_ble_eq_true rfl | (dsimp only; omega)) ?_
    exact ⟨by unfold qName; rw [if_neg (fun q => c11 (th_1.mpr q))], rfl⟩
set_option maxHeartbeats 4000000 in
theorem ct_X5_roof {l : Launch} (hl : l.stackTraces = false) {g : gg_G}  {h : Nat} {ad : Nat → Nat} {x : Nat → Int32} {row : Nat → Int32} {k wh : Int32} {nr nw nt : Nat} (hG : Gw row nr nw nt) : gg_C l g yX5_roof (ws_ yX5_roof cX5_roof 3 (some .int)) { frames := 3, cells := 0, slots := 0, locals := 65 } [.ref h, .int k, .int wh] [((ad 0), gg_ai g 1030 row)] [[(h, .inl (4, mo_f ad x))]] (fun vv CC => vv = some (.int (qRoof row nr nw nt k wh)) ∧ CC = [[(h, .inl (4, mo_f ad (upd x 6 (th (if 0 ≤ k.toInt ∧ k.toInt < nr then 1 else 0) (if 0 ≤ wh.toInt ∧ wh.toInt ≤ 7 then 1 else 0) 1))))]]) gg_no := by
  refine gg_of (lv := [_, _, _]) (by decide) hl (Nat.le_of_ble_eq_true rfl) rfl ?_
  intro p e R s m args below meth c A Q hRf hRl hRc hRs E Fn hnm hex
  have hG0 := hG
  obtain ⟨hnr, hw, ht, hG4, hGS⟩ := hG
  have hnw := hw.1
  have hw20 := hw.2.1
  have hr10 := hw.2.2.1
  have hnt := ht.1
  have ht30 := ht.2.1
  refine gg_aload_n (pc := 0) E dX5_roof_0 rfl rfl ?_
  refine gg_aload_n (pc := 1) E dX5_roof_1 rfl rfl ?_
  refine gg_iload_n (pc := 2) E dX5_roof_2 rfl rfl ?_
  refine gg_callV (F := [_]) (As := [_]) (rest := [_]) (pc := 3) E ck_X5 (ct_X5_isRoof hl (by first | assumption | omega) (by first | assumption | omega)) (cwV 1 E.2.2.2.2.1 (lw_V q3266 q3268 qs131 q179 q3269) rfl rfl rfl (by decide +kernel) ⟨by rw [hRf]; exact Nat.le_of_ble_eq_true rfl, by rw [hRl]; exact Nat.le_of_ble_eq_true rfl⟩) dX5_roof_3 [] (by decide) rfl rfl (List.forall_mem_cons.mpr ⟨(gg_i 0 rfl), (List.forall_mem_cons.mpr ⟨(gg_r 0 rfl), (fun _ h => by cases h)⟩)⟩) (gg_i 0 rfl) rfl rfl (Nat.le_of_ble_eq_true rfl) (by first | (rw [hRc]; exact Nat.le_of_ble_eq_true rfl) | (rw [hRc]; dsimp only; omega)) (by first | (rw [hRs]; exact Nat.le_of_ble_eq_true rfl) | (rw [hRs]; dsimp only; omega)) ?_ (fun X q C1 h => h.elim)
  rintro _ _ ⟨rfl, rfl⟩
  dsimp only [List.cons_append, List.nil_append, Option.toList]
  refine gg_iload_n (pc := 6) E dX5_roof_6 rfl rfl ?_
  refine gg_i2l (pc := 7) E dX5_roof_7 rfl ?_
  refine gg_lconst (v := 0) (pc := 8) E dX5_roof_8 (by decide) ?_
  refine gg_ldc2 (pc := 9) E q3274 dX5_roof_9 ?_
  refine gg_callS (F := [_]) (As := [_, _, _]) (rest := [_, _]) (pc := 12) E (ct_X5_in hl ) (va_cwS 3 E.2.2.2.2.1 (lw_S q2961 q2962 q179 q2963) rfl rfl rfl (by decide +kernel) ⟨by rw [hRf]; exact Nat.le_of_ble_eq_true rfl, by rw [hRl]; exact Nat.le_of_ble_eq_true rfl⟩) dX5_roof_12 [] (by decide) rfl rfl (fun _ h => by cases h) rfl rfl (Nat.le_of_ble_eq_true rfl) (by first | (rw [hRc]; exact Nat.le_of_ble_eq_true rfl) | (rw [hRc]; dsimp only; omega)) (by first | (rw [hRs]; exact Nat.le_of_ble_eq_true rfl) | (rw [hRs]; dsimp only; omega)) ?_ (fun X q C1 h => h.elim)
  rintro _ _ ⟨rfl, rfl⟩
  dsimp only [List.cons_append, List.nil_append, Option.toList]
  refine gg_topI (y := if 0 ≤ wh.toInt ∧ wh.toInt ≤ 7 then 1 else 0) (gg_ifc (in_ab (by decide) (by decide))) ?_
  refine gg_iconst (v := 1) (pc := 15) E dX5_roof_15 (by decide) ?_
  refine gg_callV (F := []) (As := [_, _, _]) (rest := []) (pc := 16) E ck_X5 (ct_X5_may hl ) (cwV 3 E.2.2.2.2.1 (lw_V q3241 q3243 qs127 q179 q3244) rfl rfl rfl (by decide +kernel) ⟨by rw [hRf]; exact Nat.le_of_ble_eq_true rfl, by rw [hRl]; exact Nat.le_of_ble_eq_true rfl⟩) dX5_roof_16 [0] (by decide) rfl rfl (fun _ h => by cases h) (gg_i 0 rfl) rfl rfl (Nat.le_of_ble_eq_true rfl) (by first | (rw [hRc]; exact Nat.le_of_ble_eq_true rfl) | (rw [hRc]; dsimp only; omega)) (by first | (rw [hRs]; exact Nat.le_of_ble_eq_true rfl) | (rw [hRs]; dsimp only; omega)) ?_ (fun X q C1 h => h.elim)
  rintro _ _ ⟨rfl, rfl⟩
  dsimp only [List.cons_append, List.nil_append, Option.toList]
  refine gg_ifP_ne (tgt := 24) (pc := 19) E dX5_roof_19 (by decide) (fun c19 => ?_) (fun c19 => ?_)
  · obtain ⟨j, hj, hjq⟩ := k_nI (th_2.mp c19).1
    subst hjq
    refine gg_iload_n (pc := 24) E dX5_roof_24 rfl rfl ?_
    by_cases ho25 : wh.toInt < 4 ∨ 7 < wh.toInt
    · refine gg_tableOut (tgt := 105) (pc := 25) E dX5_roof_25 ho25 (by decide) ?_
      obtain ⟨u, hu, huq⟩ := k_nI (n := 4) (k := wh) (by have := th_2.mp c19; omega)
      subst huq
      refine gg_aload_n (pc := 105) E dX5_roof_105 rfl rfl ?_
      refine gg_get (pc := 106) E ck_X5 0 q2859 rfl (by decide) dX5_roof_106 (gg_i 0 rfl) rfl ?_
      refine gg_iload_n (pc := 109) E dX5_roof_109 rfl rfl ?_
      refine gg_callS (F := [_]) (As := [.int (nI j)]) (rest := [_]) (pc := 110) E (ct_X5_r hl ) (va_cwS 1 E.2.2.2.2.1 (lw_S q2849 q2850 q179 q2851) rfl rfl rfl (by decide +kernel) ⟨by rw [hRf]; exact Nat.le_of_ble_eq_true rfl, by rw [hRl]; exact Nat.le_of_ble_eq_true rfl⟩) dX5_roof_110 [] (by decide) rfl rfl (fun _ h => by cases h) rfl rfl (Nat.le_of_ble_eq_true rfl) (by first | (rw [hRc]; exact Nat.le_of_ble_eq_true rfl) | (rw [hRc]; dsimp only; omega)) (by first | (rw [hRs]; exact Nat.le_of_ble_eq_true rfl) | (rw [hRs]; dsimp only; omega)) ?_ (fun X q C1 h => h.elim)
      rintro _ _ ⟨rfl, rfl⟩
      dsimp only [List.cons_append, List.nil_append, Option.toList]
      refine gg_bipush (v := 7) (pc := 113) E dX5_roof_113 (by decide) ?_
      refine gg_iaddN (pc := 115) E (25 + 13 * j) 7 rfl rfl dX5_roof_115 ?_
      refine gg_iload_n (pc := 116) E dX5_roof_116 rfl rfl ?_
      refine gg_iaddN (pc := 117) E ((25 + 13 * j) + 7) u rfl rfl dX5_roof_117 ?_
      refine gg_ialdN (pc := 118) E ((25 + 13 * j) + 7 + u) rfl (by omega) (by omega) dX5_roof_118 (gg_r 0 rfl) ?_
      refine gg_iret (pc := 119) E Fn rfl (rfl) dX5_roof_119 (by first | exact Nat.le_of_ble_eq_true rfl | (dsimp only; omega)) (by first | exact Nat.le_of_ble_eq_true rfl | (dsimp only; omega)) ?_
      exact ⟨by unfold qRoof; rw [if_pos (th_2.mp c19), tn_nI (j := j) (by omega), tn_nI (j := u) (by omega), if_neg (show ¬ nI u = (4 : Int32) from nI_ne (v := 4) (by omega) (by omega) (by omega)), if_neg (show ¬ nI u = (5 : Int32) from nI_ne (v := 5) (by omega) (by omega) (by omega)), if_neg (show ¬ nI u = (6 : Int32) from nI_ne (v := 6) (by omega) (by omega) (by omega)), if_neg (show ¬ nI u = (7 : Int32) from nI_ne (v := 7) (by omega) (by omega) (by omega))], rfl⟩
    have hv25 : wh.toInt = 4 ∨ wh.toInt = 5 ∨ wh.toInt = 6 ∨ wh.toInt = 7 := by omega
    rcases hv25 with hv25 | hv25 | hv25 | hv25
    · have hz25 : wh = 4 := Int32.toInt_inj.mp (by rw [hv25]; decide)
      subst hz25
      refine gg_tableIn (off := 31) (tgt := 56) (pc := 25) E dX5_roof_25 (by decide) (by decide) rfl (by decide) ?_
      refine gg_iconst (v := 0) (pc := 56) E dX5_roof_56 (by decide) ?_
      refine gg_aload_n (pc := 57) E dX5_roof_57 rfl rfl ?_
      refine gg_get (pc := 58) E ck_X5 0 q2859 rfl (by decide) dX5_roof_58 (gg_i 0 rfl) rfl ?_
      refine gg_iload_n (pc := 61) E dX5_roof_61 rfl rfl ?_
      refine gg_callS (F := [_]) (As := [.int (nI j)]) (rest := [_, _]) (pc := 62) E (ct_X5_r hl ) (va_cwS 1 E.2.2.2.2.1 (lw_S q2849 q2850 q179 q2851) rfl rfl rfl (by decide +kernel) ⟨by rw [hRf]; exact Nat.le_of_ble_eq_true rfl, by rw [hRl]; exact Nat.le_of_ble_eq_true rfl⟩) dX5_roof_62 [] (by decide) rfl rfl (fun _ h => by cases h) rfl rfl (Nat.le_of_ble_eq_true rfl) (by first | (rw [hRc]; exact Nat.le_of_ble_eq_true rfl) | (rw [hRc]; dsimp only; omega)) (by first | (rw [hRs]; exact Nat.le_of_ble_eq_true rfl) | (rw [hRs]; dsimp only; omega)) ?_ (fun X q C1 h => h.elim)
      rintro _ _ ⟨rfl, rfl⟩
      dsimp only [List.cons_append, List.nil_append, Option.toList]
      refine gg_bipush (v := 11) (pc := 65) E dX5_roof_65 (by decide) ?_
      refine gg_iaddN (pc := 67) E (25 + 13 * j) 11 rfl rfl dX5_roof_67 ?_
      refine gg_ialdN (pc := 68) E ((25 + 13 * j) + 11) rfl (by omega) (by omega) dX5_roof_68 (gg_r 0 rfl) ?_
      refine gg_aload_n (pc := 69) E dX5_roof_69 rfl rfl ?_
      refine gg_get (pc := 70) E ck_X5 0 q2859 rfl (by decide) dX5_roof_70 (gg_i 0 rfl) rfl ?_
      refine gg_iconst (v := 3) (pc := 73) E dX5_roof_73 (by decide) ?_
      refine gg_ialdN (pc := 74) E 3 rfl (by omega) (by omega) dX5_roof_74 (gg_r 0 rfl) ?_
      refine gg_isub (pc := 75) E dX5_roof_75 ?_
      refine gg_mmax (pc := 76) E q3046 q341 q165 q342 dX5_roof_76 (by rw [hRf]; exact Nat.le_of_ble_eq_true rfl) (by rw [hRl]; exact Nat.le_of_ble_eq_true rfl) (by rw [hRc]; first | exact Nat.le_of_ble_eq_true rfl | (dsimp only; omega)) (by rw [hRs]; first | exact Nat.le_of_ble_eq_true rfl | (dsimp only; omega)) ?_
      refine gg_iret (pc := 79) E Fn rfl (rfl) dX5_roof_79 (by first | exact Nat.le_of_ble_eq_true rfl | (dsimp only; omega)) (by first | exact Nat.le_of_ble_eq_true rfl | (dsimp only; omega)) ?_
      exact ⟨by unfold qRoof; rw [if_pos (th_2.mp c19), tn_nI (j := j) (by omega)] <;> rfl, rfl⟩
    · have hz25 : wh = 5 := Int32.toInt_inj.mp (by rw [hv25]; decide)
      subst hz25
      refine gg_tableIn (off := 55) (tgt := 80) (pc := 25) E dX5_roof_25 (by decide) (by decide) rfl (by decide) ?_
      refine gg_aload_n (pc := 80) E dX5_roof_80 rfl rfl ?_
      refine gg_iload_n (pc := 81) E dX5_roof_81 rfl rfl ?_
      refine gg_callV (F := [_]) (As := [_]) (rest := []) (pc := 82) E ck_X5 (ct_X5_waitingMany hl (by first | assumption | omega) (by first | assumption | omega)) (cwV 1 E.2.2.2.2.1 (lw_V q3275 q3277 qs132 q179 q3278) rfl rfl rfl (by decide +kernel) ⟨by rw [hRf]; exact Nat.le_of_ble_eq_true rfl, by rw [hRl]; exact Nat.le_of_ble_eq_true rfl⟩) dX5_roof_82 [] (by decide) rfl rfl (List.forall_mem_cons.mpr ⟨(gg_i 0 rfl), (List.forall_mem_cons.mpr ⟨(gg_r 0 rfl), (fun _ h => by cases h)⟩)⟩) (gg_i 0 rfl) rfl rfl (Nat.le_of_ble_eq_true rfl) (by first | (rw [hRc]; exact Nat.le_of_ble_eq_true rfl) | (rw [hRc]; dsimp only; omega)) (by first | (rw [hRs]; exact Nat.le_of_ble_eq_true rfl) | (rw [hRs]; dsimp only; omega)) ?_ (fun X q C1 h => h.elim)
      rintro _ _ ⟨rfl, rfl⟩
      dsimp only [List.cons_append, List.nil_append, Option.toList]
      refine gg_iret (pc := 85) E Fn rfl (rfl) dX5_roof_85 (by first | exact Nat.le_of_ble_eq_true rfl | (dsimp only; omega)) (by first | exact Nat.le_of_ble_eq_true rfl | (dsimp only; omega)) ?_
      exact ⟨by unfold qRoof; rw [if_pos (th_2.mp c19), tn_nI (j := j) (by omega)] <;> rfl, rfl⟩
    · have hz25 : wh = 6 := Int32.toInt_inj.mp (by rw [hv25]; decide)
      subst hz25
      refine gg_tableIn (off := 61) (tgt := 86) (pc := 25) E dX5_roof_25 (by decide) (by decide) rfl (by decide) ?_
      refine gg_aload_n (pc := 86) E dX5_roof_86 rfl rfl ?_
      refine gg_iload_n (pc := 87) E dX5_roof_87 rfl rfl ?_
      refine gg_callV (F := [_]) (As := [_]) (rest := []) (pc := 88) E ck_X5 (ct_X5_waysAt hl (by first | assumption | omega) (by first | assumption | omega)) (cwV 1 E.2.2.2.2.1 (lw_V q3279 q3281 qs133 q179 q3282) rfl rfl rfl (by decide +kernel) ⟨by rw [hRf]; exact Nat.le_of_ble_eq_true rfl, by rw [hRl]; exact Nat.le_of_ble_eq_true rfl⟩) dX5_roof_88 [] (by decide) rfl rfl (List.forall_mem_cons.mpr ⟨(gg_i 0 rfl), (List.forall_mem_cons.mpr ⟨(gg_r 0 rfl), (fun _ h => by cases h)⟩)⟩) (gg_i 0 rfl) rfl rfl (Nat.le_of_ble_eq_true rfl) (by first | (rw [hRc]; exact Nat.le_of_ble_eq_true rfl) | (rw [hRc]; dsimp only; omega)) (by first | (rw [hRs]; exact Nat.le_of_ble_eq_true rfl) | (rw [hRs]; dsimp only; omega)) ?_ (fun X q C1 h => h.elim)
      rintro _ _ ⟨rfl, rfl⟩
      dsimp only [List.cons_append, List.nil_append, Option.toList]
      refine gg_iret (pc := 91) E Fn rfl (rfl) dX5_roof_91 (by first | exact Nat.le_of_ble_eq_true rfl | (dsimp only; omega)) (by first | exact Nat.le_of_ble_eq_true rfl | (dsimp only; omega)) ?_
      exact ⟨by unfold qRoof; rw [if_pos (th_2.mp c19), tn_nI (j := j) (by omega)] <;> rfl, rfl⟩
    · have hz25 : wh = 7 := Int32.toInt_inj.mp (by rw [hv25]; decide)
      subst hz25
      refine gg_tableIn (off := 67) (tgt := 92) (pc := 25) E dX5_roof_25 (by decide) (by decide) rfl (by decide) ?_
      refine gg_aload_n (pc := 92) E dX5_roof_92 rfl rfl ?_
      refine gg_get (pc := 93) E ck_X5 0 q2859 rfl (by decide) dX5_roof_93 (gg_i 0 rfl) rfl ?_
      refine gg_iload_n (pc := 96) E dX5_roof_96 rfl rfl ?_
      refine gg_callS (F := [_]) (As := [.int (nI j)]) (rest := [_]) (pc := 97) E (ct_X5_r hl ) (va_cwS 1 E.2.2.2.2.1 (lw_S q2849 q2850 q179 q2851) rfl rfl rfl (by decide +kernel) ⟨by rw [hRf]; exact Nat.le_of_ble_eq_true rfl, by rw [hRl]; exact Nat.le_of_ble_eq_true rfl⟩) dX5_roof_97 [] (by decide) rfl rfl (fun _ h => by cases h) rfl rfl (Nat.le_of_ble_eq_true rfl) (by first | (rw [hRc]; exact Nat.le_of_ble_eq_true rfl) | (rw [hRc]; dsimp only; omega)) (by first | (rw [hRs]; exact Nat.le_of_ble_eq_true rfl) | (rw [hRs]; dsimp only; omega)) ?_ (fun X q C1 h => h.elim)
      rintro _ _ ⟨rfl, rfl⟩
      dsimp only [List.cons_append, List.nil_append, Option.toList]
      refine gg_bipush (v := 12) (pc := 100) E dX5_roof_100 (by decide) ?_
      refine gg_iaddN (pc := 102) E (25 + 13 * j) 12 rfl rfl dX5_roof_102 ?_
      refine gg_ialdN (pc := 103) E ((25 + 13 * j) + 12) rfl (by omega) (by omega) dX5_roof_103 (gg_r 0 rfl) ?_
      refine gg_iret (pc := 104) E Fn rfl (rfl) dX5_roof_104 (by first | exact Nat.le_of_ble_eq_true rfl | (dsimp only; omega)) (by first | exact Nat.le_of_ble_eq_true rfl | (dsimp only; omega)) ?_
      exact ⟨by unfold qRoof; rw [if_pos (th_2.mp c19), tn_nI (j := j) (by omega)] <;> rfl, rfl⟩
  · refine gg_iconst (v := 0) (pc := 22) E dX5_roof_22 (by decide) ?_
    refine gg_iret (pc := 23) E Fn rfl (rfl) dX5_roof_23 (by first | exact Nat.le_of_ble_eq_true rfl | (dsimp only; omega)) (by first | exact Nat.le_of_ble_eq_true rfl | (dsimp only; omega)) ?_
    exact ⟨by unfold qRoof; rw [if_neg (fun q => c19 (th_2.mpr q))], rfl⟩
set_option maxHeartbeats 4000000 in
theorem ct_X5_way {l : Launch} (hl : l.stackTraces = false) {g : gg_G}  {h : Nat} {ad : Nat → Nat} {x : Nat → Int32} {row : Nat → Int32} {k wh : Int32} {nr nw nt : Nat} (hG : Gw row nr nw nt) : gg_C l g yX5_way (ws_ yX5_way cX5_way 3 (some .int)) { frames := 1, cells := 0, slots := 0, locals := 25 } [.ref h, .int k, .int wh] [((ad 0), gg_ai g 1030 row)] [[(h, .inl (4, mo_f ad x))]] (fun vv CC => vv = some (.int (qWay row nw k wh)) ∧ CC = [[(h, .inl (4, mo_f ad (upd x 6 (th (if 0 ≤ k.toInt ∧ k.toInt < nw then 1 else 0) (if 0 ≤ wh.toInt ∧ wh.toInt ≤ 2 then 1 else 0) 1))))]]) gg_no := by
  refine gg_of (lv := [_, _, _]) (by decide) hl (Nat.le_of_ble_eq_true rfl) rfl ?_
  intro p e R s m args below meth c A Q hRf hRl hRc hRs E Fn hnm hex
  have hG0 := hG
  obtain ⟨hnr, hw, ht, hG4, hGS⟩ := hG
  have hnw := hw.1
  have hw20 := hw.2.1
  have hr10 := hw.2.2.1
  have hnt := ht.1
  have ht30 := ht.2.1
  refine gg_aload_n (pc := 0) E dX5_way_0 rfl rfl ?_
  refine gg_iload_n (pc := 1) E dX5_way_1 rfl rfl ?_
  refine gg_i2l (pc := 2) E dX5_way_2 rfl ?_
  refine gg_lconst (v := 0) (pc := 3) E dX5_way_3 (by decide) ?_
  refine gg_aload_n (pc := 4) E dX5_way_4 rfl rfl ?_
  refine gg_get (pc := 5) E ck_X5 0 q2859 rfl (by decide) dX5_way_5 (gg_i 0 rfl) rfl ?_
  refine gg_iconst (v := 1) (pc := 8) E dX5_way_8 (by decide) ?_
  refine gg_ialdN (pc := 9) E 1 rfl (by omega) (by omega) dX5_way_9 (gg_r 0 rfl) ?_
  rw [hnw]
  refine gg_iconst (v := 1) (pc := 10) E dX5_way_10 (by decide) ?_
  refine gg_isub (pc := 11) E dX5_way_11 ?_
  refine gg_i2l (pc := 12) E dX5_way_12 rfl ?_
  refine gg_callS (F := [_]) (As := [_, _, _]) (rest := [_]) (pc := 13) E (ct_X5_in hl ) (va_cwS 3 E.2.2.2.2.1 (lw_S q2961 q2962 q179 q2963) rfl rfl rfl (by decide +kernel) ⟨by rw [hRf]; exact Nat.le_of_ble_eq_true rfl, by rw [hRl]; exact Nat.le_of_ble_eq_true rfl⟩) dX5_way_13 [] (by decide) rfl rfl (fun _ h => by cases h) rfl rfl (Nat.le_of_ble_eq_true rfl) (by first | (rw [hRc]; exact Nat.le_of_ble_eq_true rfl) | (rw [hRc]; dsimp only; omega)) (by first | (rw [hRs]; exact Nat.le_of_ble_eq_true rfl) | (rw [hRs]; dsimp only; omega)) ?_ (fun X q C1 h => h.elim)
  rintro _ _ ⟨rfl, rfl⟩
  dsimp only [List.cons_append, List.nil_append, Option.toList]
  refine gg_topI (y := if 0 ≤ k.toInt ∧ k.toInt < nw then 1 else 0) (gg_ifc (in_rng0 (n := nw) (by omega))) ?_
  refine gg_iload_n (pc := 16) E dX5_way_16 rfl rfl ?_
  refine gg_i2l (pc := 17) E dX5_way_17 rfl ?_
  refine gg_lconst (v := 0) (pc := 18) E dX5_way_18 (by decide) ?_
  refine gg_ldc2 (pc := 19) E q3287 dX5_way_19 ?_
  refine gg_callS (F := [_]) (As := [_, _, _]) (rest := [_, _]) (pc := 22) E (ct_X5_in hl ) (va_cwS 3 E.2.2.2.2.1 (lw_S q2961 q2962 q179 q2963) rfl rfl rfl (by decide +kernel) ⟨by rw [hRf]; exact Nat.le_of_ble_eq_true rfl, by rw [hRl]; exact Nat.le_of_ble_eq_true rfl⟩) dX5_way_22 [] (by decide) rfl rfl (fun _ h => by cases h) rfl rfl (Nat.le_of_ble_eq_true rfl) (by first | (rw [hRc]; exact Nat.le_of_ble_eq_true rfl) | (rw [hRc]; dsimp only; omega)) (by first | (rw [hRs]; exact Nat.le_of_ble_eq_true rfl) | (rw [hRs]; dsimp only; omega)) ?_ (fun X q C1 h => h.elim)
  rintro _ _ ⟨rfl, rfl⟩
  dsimp only [List.cons_append, List.nil_append, Option.toList]
  refine gg_topI (y := if 0 ≤ wh.toInt ∧ wh.toInt ≤ 2 then 1 else 0) (gg_ifc (in_ab (by decide) (by decide))) ?_
  refine gg_iconst (v := 1) (pc := 25) E dX5_way_25 (by decide) ?_
  refine gg_callV (F := []) (As := [_, _, _]) (rest := []) (pc := 26) E ck_X5 (ct_X5_may hl ) (cwV 3 E.2.2.2.2.1 (lw_V q3241 q3243 qs127 q179 q3244) rfl rfl rfl (by decide +kernel) ⟨by rw [hRf]; exact Nat.le_of_ble_eq_true rfl, by rw [hRl]; exact Nat.le_of_ble_eq_true rfl⟩) dX5_way_26 [0] (by decide) rfl rfl (fun _ h => by cases h) (gg_i 0 rfl) rfl rfl (Nat.le_of_ble_eq_true rfl) (by first | (rw [hRc]; exact Nat.le_of_ble_eq_true rfl) | (rw [hRc]; dsimp only; omega)) (by first | (rw [hRs]; exact Nat.le_of_ble_eq_true rfl) | (rw [hRs]; dsimp only; omega)) ?_ (fun X q C1 h => h.elim)
  rintro _ _ ⟨rfl, rfl⟩
  dsimp only [List.cons_append, List.nil_append, Option.toList]
  refine gg_ifP_eq (tgt := 46) (pc := 29) E dX5_way_29 (by decide) (fun c29 => ?_) (fun c29 => ?_)
  · refine gg_iconst (v := 0) (pc := 46) E dX5_way_46 (by decide) ?_
    refine gg_iret (pc := 47) E Fn rfl (rfl) dX5_way_47 (by first | exact Nat.le_of_ble_eq_true rfl | (dsimp only; omega)) (by first | exact Nat.le_of_ble_eq_true rfl | (dsimp only; omega)) ?_
    exact ⟨by unfold qWay; rw [if_neg (fun q => c29 (th_2.mpr q))], rfl⟩
  · obtain ⟨i, hi, hiq⟩ := k_nI (th_2.mp c29).1
    subst hiq
    obtain ⟨u, hu, huq⟩ := k_nI (n := 3) (k := wh) (by have := th_2.mp c29; omega)
    subst huq
    refine gg_aload_n (pc := 32) E dX5_way_32 rfl rfl ?_
    refine gg_get (pc := 33) E ck_X5 0 q2859 rfl (by decide) dX5_way_33 (gg_i 0 rfl) rfl ?_
    refine gg_iload_n (pc := 36) E dX5_way_36 rfl rfl ?_
    refine gg_callS (F := [_]) (As := [.int (nI i)]) (rest := [_]) (pc := 37) E (ct_X5_w hl ) (va_cwS 1 E.2.2.2.2.1 (lw_S q2856 q2857 q179 q2858) rfl rfl rfl (by decide +kernel) ⟨by rw [hRf]; exact Nat.le_of_ble_eq_true rfl, by rw [hRl]; exact Nat.le_of_ble_eq_true rfl⟩) dX5_way_37 [] (by decide) rfl rfl (fun _ h => by cases h) rfl rfl (Nat.le_of_ble_eq_true rfl) (by first | (rw [hRc]; exact Nat.le_of_ble_eq_true rfl) | (rw [hRc]; dsimp only; omega)) (by first | (rw [hRs]; exact Nat.le_of_ble_eq_true rfl) | (rw [hRs]; dsimp only; omega)) ?_ (fun X q C1 h => h.elim)
    rintro _ _ ⟨rfl, rfl⟩
    dsimp only [List.cons_append, List.nil_append, Option.toList]
    refine gg_iload_n (pc := 40) E dX5_way_40 rfl rfl ?_
    refine gg_iaddN (pc := 41) E (160 + 3 * i) u rfl rfl dX5_way_41 ?_
    refine gg_ialdN (pc := 42) E ((160 + 3 * i) + u) rfl (by omega) (by omega) dX5_way_42 (gg_r 0 rfl) ?_
    refine gg_goto (tgt := 47) (pc := 43) E dX5_way_43 (by decide) ?_
    refine gg_iret (pc := 47) E Fn rfl (rfl) dX5_way_47 (by first | exact Nat.le_of_ble_eq_true rfl | (dsimp only; omega)) (by first | exact Nat.le_of_ble_eq_true rfl | (dsimp only; omega)) ?_
    exact ⟨by unfold qWay; rw [if_pos (th_2.mp c29), tn_nI (j := i) (by omega), tn_nI (j := u) (by omega)] <;> rfl, rfl⟩
set_option maxHeartbeats 4000000 in
theorem ct_X5_route {l : Launch} (hl : l.stackTraces = false) {g : gg_G}  {h : Nat} {ad : Nat → Nat} {x : Nat → Int32} {row : Nat → Int32} {sums : Nat → Int32} {k o : Int32} {nr nw nt : Nat} (hG : Gw row nr nw nt) : gg_C l g yX5_route (ws_ yX5_route cX5_route 3 (some .int)) { frames := 5, cells := 0, slots := 0, locals := 112 } [.ref h, .int k, .int o] [((ad 0), gg_ai g 1030 row)] [[(h, .inl (4, mo_f ad x))], [((ad 9), gg_ai g 10 sums)]] (fun vv CC => ∃ (sums1 : Nat → Int32), vv = some (.int (qRoute row nr nw k o)) ∧ CC = [[(h, .inl (4, mo_f ad (upd x 6 (th (if (0 ≤ k.toInt ∧ k.toInt < nr) ∧ 0 ≤ o.toInt ∧ o.toInt < nr then 1 else 0) 1 1))))], [((ad 9), gg_ai g 10 sums1)]]) gg_no := by
  refine gg_of (lv := [_, _, _]) (by decide) hl (Nat.le_of_ble_eq_true rfl) rfl ?_
  intro p e R s m args below meth c A Q hRf hRl hRc hRs E Fn hnm hex
  have hG0 := hG
  obtain ⟨hnr, hw, ht, hG4, hGS⟩ := hG
  have hnw := hw.1
  have hw20 := hw.2.1
  have hr10 := hw.2.2.1
  have hnt := ht.1
  have ht30 := ht.2.1
  refine gg_aload_n (pc := 0) E dX5_route_0 rfl rfl ?_
  refine gg_aload_n (pc := 1) E dX5_route_1 rfl rfl ?_
  refine gg_iload_n (pc := 2) E dX5_route_2 rfl rfl ?_
  refine gg_iload_n (pc := 3) E dX5_route_3 rfl rfl ?_
  refine gg_callV (F := [_, _]) (As := [_, _]) (rest := [_]) (pc := 4) E ck_X5 (ct_X5_areRoofs hl (by first | assumption | omega) (by first | assumption | omega)) (cwV 2 E.2.2.2.2.1 (lw_V q3292 q3294 qs134 q179 q3295) rfl rfl rfl (by decide +kernel) ⟨by rw [hRf]; exact Nat.le_of_ble_eq_true rfl, by rw [hRl]; exact Nat.le_of_ble_eq_true rfl⟩) dX5_route_4 [] (by decide) rfl rfl (List.forall_mem_cons.mpr ⟨(gg_i 0 rfl), (List.forall_mem_cons.mpr ⟨(gg_r 0 rfl), (fun _ h => by cases h)⟩)⟩) (gg_i 0 rfl) rfl rfl (Nat.le_of_ble_eq_true rfl) (by first | (rw [hRc]; exact Nat.le_of_ble_eq_true rfl) | (rw [hRc]; dsimp only; omega)) (by first | (rw [hRs]; exact Nat.le_of_ble_eq_true rfl) | (rw [hRs]; dsimp only; omega)) ?_ (fun X q C1 h => h.elim)
  rintro _ _ ⟨rfl, rfl⟩
  dsimp only [List.cons_append, List.nil_append, Option.toList]
  refine gg_iconst (v := 1) (pc := 7) E dX5_route_7 (by decide) ?_
  refine gg_iconst (v := 1) (pc := 8) E dX5_route_8 (by decide) ?_
  refine gg_callV (F := [_]) (As := [_, _, _]) (rest := []) (pc := 9) E ck_X5 (ct_X5_may hl ) (cwV 3 E.2.2.2.2.1 (lw_V q3241 q3243 qs127 q179 q3244) rfl rfl rfl (by decide +kernel) ⟨by rw [hRf]; exact Nat.le_of_ble_eq_true rfl, by rw [hRl]; exact Nat.le_of_ble_eq_true rfl⟩) dX5_route_9 [0] (by decide) rfl rfl (fun _ h => by cases h) (gg_i 0 rfl) rfl rfl (Nat.le_of_ble_eq_true rfl) (by first | (rw [hRc]; exact Nat.le_of_ble_eq_true rfl) | (rw [hRc]; dsimp only; omega)) (by first | (rw [hRs]; exact Nat.le_of_ble_eq_true rfl) | (rw [hRs]; dsimp only; omega)) ?_ (fun X q C1 h => h.elim)
  rintro _ _ ⟨rfl, rfl⟩
  dsimp only [List.cons_append, List.nil_append, Option.toList]
  refine gg_ifP_eq (tgt := 24) (pc := 12) E dX5_route_12 (by decide) (fun c12 => ?_) (fun c12 => ?_)
  · refine gg_iconst (v := 0) (pc := 24) E dX5_route_24 (by decide) ?_
    refine gg_iret (pc := 25) E Fn rfl (rfl) dX5_route_25 (by first | exact Nat.le_of_ble_eq_true rfl | (dsimp only; omega)) (by first | exact Nat.le_of_ble_eq_true rfl | (dsimp only; omega)) ?_
    exact ⟨_, by unfold qRoute; rw [if_neg (fun q => c12 (th_1.mpr q))], rfl⟩
  · obtain ⟨j, hj, hjq⟩ := k_nI (th_1.mp c12).1
    subst hjq
    obtain ⟨go, hgo, hgoq⟩ := k_nI (th_1.mp c12).2
    subst hgoq
    refine gg_aload_n (pc := 15) E dX5_route_15 rfl rfl ?_
    refine gg_iload_n (pc := 16) E dX5_route_16 rfl rfl ?_
    refine gg_iload_n (pc := 17) E dX5_route_17 rfl rfl ?_
    refine gg_callV (F := [_]) (As := [.int (nI j), .int (nI go)]) (rest := []) (pc := 18) E ck_X5 (ct_X5_sumTo hl (hw) (by omega) (by omega)) (cwV 2 E.2.2.2.2.1 (lw_V q3200 q3202 qs118 q179 q3203) rfl rfl rfl (by decide +kernel) ⟨by rw [hRf]; exact Nat.le_of_ble_eq_true rfl, by rw [hRl]; exact Nat.le_of_ble_eq_true rfl⟩) dX5_route_18 [1] (by decide) rfl rfl (List.forall_mem_cons.mpr ⟨(gg_i 0 rfl), (List.forall_mem_cons.mpr ⟨(gg_r 0 rfl), (fun _ h => by cases h)⟩)⟩) (gg_i 0 rfl) rfl rfl (Nat.le_of_ble_eq_true rfl) (by first | (rw [hRc]; exact Nat.le_of_ble_eq_true rfl) | (rw [hRc]; dsimp only; omega)) (by first | (rw [hRs]; exact Nat.le_of_ble_eq_true rfl) | (rw [hRs]; dsimp only; omega)) ?_ (fun X q C1 h => h.elim)
    rintro _ _ ⟨rfl, rfl⟩
    dsimp only [List.cons_append, List.nil_append, Option.toList]
    refine gg_up1 ?_
    refine gg_goto (tgt := 25) (pc := 21) E dX5_route_21 (by decide) ?_
    refine gg_iret (pc := 25) E Fn rfl (rfl) dX5_route_25 (by first | exact Nat.le_of_ble_eq_true rfl | (dsimp only; omega)) (by first | exact Nat.le_of_ble_eq_true rfl | (dsimp only; omega)) ?_
    exact ⟨_, by unfold qRoute; rw [if_pos (th_1.mp c12), tn_nI (j := go) (by omega), tn_nI (j := j) (by omega)] <;> rfl, rfl⟩
set_option maxHeartbeats 4000000 in
theorem ct_X5_next {l : Launch} (hl : l.stackTraces = false) {g : gg_G}  {h : Nat} {ad : Nat → Nat} {x : Nat → Int32} {row : Nat → Int32} {sums : Nat → Int32} {k o : Int32} {nr nw nt : Nat} (hG : Gw row nr nw nt) : gg_C l g yX5_next (ws_ yX5_next cX5_next 3 (some .int)) { frames := 6, cells := 0, slots := 0, locals := 138 } [.ref h, .int k, .int o] [((ad 0), gg_ai g 1030 row)] [[(h, .inl (4, mo_f ad x))], [((ad 9), gg_ai g 10 sums)]] (fun vv CC => ∃ (sums1 : Nat → Int32), vv = some (.int (qNext row nr nw k o)) ∧ CC = [[(h, .inl (4, mo_f ad (upd x 6 (th (if (0 ≤ k.toInt ∧ k.toInt < nr) ∧ 0 ≤ o.toInt ∧ o.toInt < nr then 1 else 0) 1 1))))], [((ad 9), gg_ai g 10 sums1)]]) gg_no := by
  refine gg_of (lv := [_, _, _]) (by decide) hl (Nat.le_of_ble_eq_true rfl) rfl ?_
  intro p e R s m args below meth c A Q hRf hRl hRc hRs E Fn hnm hex
  have hG0 := hG
  obtain ⟨hnr, hw, ht, hG4, hGS⟩ := hG
  have hnw := hw.1
  have hw20 := hw.2.1
  have hr10 := hw.2.2.1
  have hnt := ht.1
  have ht30 := ht.2.1
  refine gg_aload_n (pc := 0) E dX5_next_0 rfl rfl ?_
  refine gg_aload_n (pc := 1) E dX5_next_1 rfl rfl ?_
  refine gg_iload_n (pc := 2) E dX5_next_2 rfl rfl ?_
  refine gg_iload_n (pc := 3) E dX5_next_3 rfl rfl ?_
  refine gg_callV (F := [_, _]) (As := [_, _]) (rest := [_]) (pc := 4) E ck_X5 (ct_X5_areRoofs hl (by first | assumption | omega) (by first | assumption | omega)) (cwV 2 E.2.2.2.2.1 (lw_V q3292 q3294 qs134 q179 q3295) rfl rfl rfl (by decide +kernel) ⟨by rw [hRf]; exact Nat.le_of_ble_eq_true rfl, by rw [hRl]; exact Nat.le_of_ble_eq_true rfl⟩) dX5_next_4 [] (by decide) rfl rfl (List.forall_mem_cons.mpr ⟨(gg_i 0 rfl), (List.forall_mem_cons.mpr ⟨(gg_r 0 rfl), (fun _ h => by cases h)⟩)⟩) (gg_i 0 rfl) rfl rfl (Nat.le_of_ble_eq_true rfl) (by first | (rw [hRc]; exact Nat.le_of_ble_eq_true rfl) | (rw [hRc]; dsimp only; omega)) (by first | (rw [hRs]; exact Nat.le_of_ble_eq_true rfl) | (rw [hRs]; dsimp only; omega)) ?_ (fun X q C1 h => h.elim)
  rintro _ _ ⟨rfl, rfl⟩
  dsimp only [List.cons_append, List.nil_append, Option.toList]
  refine gg_iconst (v := 1) (pc := 7) E dX5_next_7 (by decide) ?_
  refine gg_iconst (v := 1) (pc := 8) E dX5_next_8 (by decide) ?_
  refine gg_callV (F := [_]) (As := [_, _, _]) (rest := []) (pc := 9) E ck_X5 (ct_X5_may hl ) (cwV 3 E.2.2.2.2.1 (lw_V q3241 q3243 qs127 q179 q3244) rfl rfl rfl (by decide +kernel) ⟨by rw [hRf]; exact Nat.le_of_ble_eq_true rfl, by rw [hRl]; exact Nat.le_of_ble_eq_true rfl⟩) dX5_next_9 [0] (by decide) rfl rfl (fun _ h => by cases h) (gg_i 0 rfl) rfl rfl (Nat.le_of_ble_eq_true rfl) (by first | (rw [hRc]; exact Nat.le_of_ble_eq_true rfl) | (rw [hRc]; dsimp only; omega)) (by first | (rw [hRs]; exact Nat.le_of_ble_eq_true rfl) | (rw [hRs]; dsimp only; omega)) ?_ (fun X q C1 h => h.elim)
  rintro _ _ ⟨rfl, rfl⟩
  dsimp only [List.cons_append, List.nil_append, Option.toList]
  refine gg_ifP_eq (tgt := 24) (pc := 12) E dX5_next_12 (by decide) (fun c12 => ?_) (fun c12 => ?_)
  · refine gg_iconst (v := 0) (pc := 24) E dX5_next_24 (by decide) ?_
    refine gg_iret (pc := 25) E Fn rfl (rfl) dX5_next_25 (by first | exact Nat.le_of_ble_eq_true rfl | (dsimp only; omega)) (by first | exact Nat.le_of_ble_eq_true rfl | (dsimp only; omega)) ?_
    exact ⟨_, by unfold qNext; rw [if_neg (fun q => c12 (th_1.mpr q))], rfl⟩
  · obtain ⟨j, hj, hjq⟩ := k_nI (th_1.mp c12).1
    subst hjq
    obtain ⟨go, hgo, hgoq⟩ := k_nI (th_1.mp c12).2
    subst hgoq
    refine gg_aload_n (pc := 15) E dX5_next_15 rfl rfl ?_
    refine gg_iload_n (pc := 16) E dX5_next_16 rfl rfl ?_
    refine gg_iload_n (pc := 17) E dX5_next_17 rfl rfl ?_
    refine gg_callV (F := [_]) (As := [.int (nI j), .int (nI go)]) (rest := []) (pc := 18) E ck_X5 (ct_X5_nextTo hl (hw) (by omega) (by omega)) (cwV 2 E.2.2.2.2.1 (lw_V q3196 q3198 qs117 q179 q3199) rfl rfl rfl (by decide +kernel) ⟨by rw [hRf]; exact Nat.le_of_ble_eq_true rfl, by rw [hRl]; exact Nat.le_of_ble_eq_true rfl⟩) dX5_next_18 [1] (by decide) rfl rfl (List.forall_mem_cons.mpr ⟨(gg_i 0 rfl), (List.forall_mem_cons.mpr ⟨(gg_r 0 rfl), (fun _ h => by cases h)⟩)⟩) (gg_i 0 rfl) rfl rfl (Nat.le_of_ble_eq_true rfl) (by first | (rw [hRc]; exact Nat.le_of_ble_eq_true rfl) | (rw [hRc]; dsimp only; omega)) (by first | (rw [hRs]; exact Nat.le_of_ble_eq_true rfl) | (rw [hRs]; dsimp only; omega)) ?_ (fun X q C1 h => h.elim)
    rintro _ _ ⟨sums1_1, rfl, rfl⟩
    dsimp only [List.cons_append, List.nil_append, Option.toList]
    refine gg_up1 ?_
    refine gg_goto (tgt := 25) (pc := 21) E dX5_next_21 (by decide) ?_
    refine gg_iret (pc := 25) E Fn rfl (rfl) dX5_next_25 (by first | exact Nat.le_of_ble_eq_true rfl | (dsimp only; omega)) (by first | exact Nat.le_of_ble_eq_true rfl | (dsimp only; omega)) ?_
    exact ⟨_, by unfold qNext; rw [if_pos (th_1.mp c12), tn_nI (j := j) (by omega), tn_nI (j := go) (by omega)] <;> rfl, rfl⟩
set_option maxHeartbeats 4000000 in
theorem ct_X5_tune {l : Launch} (hl : l.stackTraces = false) {g : gg_G}  {h : Nat} {ad : Nat → Nat} {x : Nat → Int32} {row : Nat → Int32} {k wh : Int32} {nr nw nt : Nat} (hG : Gw row nr nw nt) : gg_C l g yX5_tune (ws_ yX5_tune cX5_tune 3 (some .int)) { frames := 2, cells := 0, slots := 0, locals := 46 } [.ref h, .int k, .int wh] [((ad 0), gg_ai g 1030 row)] [[(h, .inl (4, mo_f ad x))]] (fun vv CC => vv = some (.int (qTune row nt k wh)) ∧ CC = [[(h, .inl (4, mo_f ad (upd x 6 (th (if 0 ≤ k.toInt ∧ k.toInt < nt then 1 else 0) (if 0 ≤ wh.toInt ∧ wh.toInt ≤ 11 then 1 else 0) 1))))]]) gg_no := by
  refine gg_of (lv := [_, _, _]) (by decide) hl (Nat.le_of_ble_eq_true rfl) rfl ?_
  intro p e R s m args below meth c A Q hRf hRl hRc hRs E Fn hnm hex
  have hG0 := hG
  obtain ⟨hnr, hw, ht, hG4, hGS⟩ := hG
  have hnw := hw.1
  have hw20 := hw.2.1
  have hr10 := hw.2.2.1
  have hnt := ht.1
  have ht30 := ht.2.1
  refine gg_aload_n (pc := 0) E dX5_tune_0 rfl rfl ?_
  refine gg_aload_n (pc := 1) E dX5_tune_1 rfl rfl ?_
  refine gg_iload_n (pc := 2) E dX5_tune_2 rfl rfl ?_
  refine gg_callV (F := [_]) (As := [_]) (rest := [_]) (pc := 3) E ck_X5 (ct_X5_isTune hl (by first | assumption | omega) (by first | assumption | omega)) (cwV 1 E.2.2.2.2.1 (lw_V q3304 q3306 qs135 q179 q3307) rfl rfl rfl (by decide +kernel) ⟨by rw [hRf]; exact Nat.le_of_ble_eq_true rfl, by rw [hRl]; exact Nat.le_of_ble_eq_true rfl⟩) dX5_tune_3 [] (by decide) rfl rfl (List.forall_mem_cons.mpr ⟨(gg_i 0 rfl), (List.forall_mem_cons.mpr ⟨(gg_r 0 rfl), (fun _ h => by cases h)⟩)⟩) (gg_i 0 rfl) rfl rfl (Nat.le_of_ble_eq_true rfl) (by first | (rw [hRc]; exact Nat.le_of_ble_eq_true rfl) | (rw [hRc]; dsimp only; omega)) (by first | (rw [hRs]; exact Nat.le_of_ble_eq_true rfl) | (rw [hRs]; dsimp only; omega)) ?_ (fun X q C1 h => h.elim)
  rintro _ _ ⟨rfl, rfl⟩
  dsimp only [List.cons_append, List.nil_append, Option.toList]
  refine gg_iload_n (pc := 6) E dX5_tune_6 rfl rfl ?_
  refine gg_i2l (pc := 7) E dX5_tune_7 rfl ?_
  refine gg_lconst (v := 0) (pc := 8) E dX5_tune_8 (by decide) ?_
  refine gg_ldc2 (pc := 9) E q3308 dX5_tune_9 ?_
  refine gg_callS (F := [_]) (As := [_, _, _]) (rest := [_, _]) (pc := 12) E (ct_X5_in hl ) (va_cwS 3 E.2.2.2.2.1 (lw_S q2961 q2962 q179 q2963) rfl rfl rfl (by decide +kernel) ⟨by rw [hRf]; exact Nat.le_of_ble_eq_true rfl, by rw [hRl]; exact Nat.le_of_ble_eq_true rfl⟩) dX5_tune_12 [] (by decide) rfl rfl (fun _ h => by cases h) rfl rfl (Nat.le_of_ble_eq_true rfl) (by first | (rw [hRc]; exact Nat.le_of_ble_eq_true rfl) | (rw [hRc]; dsimp only; omega)) (by first | (rw [hRs]; exact Nat.le_of_ble_eq_true rfl) | (rw [hRs]; dsimp only; omega)) ?_ (fun X q C1 h => h.elim)
  rintro _ _ ⟨rfl, rfl⟩
  dsimp only [List.cons_append, List.nil_append, Option.toList]
  refine gg_topI (y := if 0 ≤ wh.toInt ∧ wh.toInt ≤ 11 then 1 else 0) (gg_ifc (in_ab (by decide) (by decide))) ?_
  refine gg_iconst (v := 1) (pc := 15) E dX5_tune_15 (by decide) ?_
  refine gg_callV (F := []) (As := [_, _, _]) (rest := []) (pc := 16) E ck_X5 (ct_X5_may hl ) (cwV 3 E.2.2.2.2.1 (lw_V q3241 q3243 qs127 q179 q3244) rfl rfl rfl (by decide +kernel) ⟨by rw [hRf]; exact Nat.le_of_ble_eq_true rfl, by rw [hRl]; exact Nat.le_of_ble_eq_true rfl⟩) dX5_tune_16 [0] (by decide) rfl rfl (fun _ h => by cases h) (gg_i 0 rfl) rfl rfl (Nat.le_of_ble_eq_true rfl) (by first | (rw [hRc]; exact Nat.le_of_ble_eq_true rfl) | (rw [hRc]; dsimp only; omega)) (by first | (rw [hRs]; exact Nat.le_of_ble_eq_true rfl) | (rw [hRs]; dsimp only; omega)) ?_ (fun X q C1 h => h.elim)
  rintro _ _ ⟨rfl, rfl⟩
  dsimp only [List.cons_append, List.nil_append, Option.toList]
  refine gg_ifP_ne (tgt := 24) (pc := 19) E dX5_tune_19 (by decide) (fun c19 => ?_) (fun c19 => ?_)
  · obtain ⟨i, hi, hiq⟩ := k_nI (th_2.mp c19).1
    subst hiq
    obtain ⟨g1, g2, g3, g4, g5, g6, g7, g8, g9, g10⟩ := ht.2.2.2 i (by omega)
    refine gg_iload_n (pc := 24) E dX5_tune_24 rfl rfl ?_
    by_cases ho25 : wh.toInt < 9 ∨ 11 < wh.toInt
    · refine gg_tableOut (tgt := 77) (pc := 25) E dX5_tune_25 ho25 (by decide) ?_
      obtain ⟨u, hu, huq⟩ := k_nI (n := 9) (k := wh) (by have := th_2.mp c19; omega)
      subst huq
      refine gg_aload_n (pc := 77) E dX5_tune_77 rfl rfl ?_
      refine gg_get (pc := 78) E ck_X5 0 q2859 rfl (by decide) dX5_tune_78 (gg_i 0 rfl) rfl ?_
      refine gg_iload_n (pc := 81) E dX5_tune_81 rfl rfl ?_
      refine gg_callS (F := [_]) (As := [.int (nI i)]) (rest := [_]) (pc := 82) E (ct_X5_t hl ) (va_cwS 1 E.2.2.2.2.1 (lw_S q3121 q3122 q179 q3123) rfl rfl rfl (by decide +kernel) ⟨by rw [hRf]; exact Nat.le_of_ble_eq_true rfl, by rw [hRl]; exact Nat.le_of_ble_eq_true rfl⟩) dX5_tune_82 [] (by decide) rfl rfl (fun _ h => by cases h) rfl rfl (Nat.le_of_ble_eq_true rfl) (by first | (rw [hRc]; exact Nat.le_of_ble_eq_true rfl) | (rw [hRc]; dsimp only; omega)) (by first | (rw [hRs]; exact Nat.le_of_ble_eq_true rfl) | (rw [hRs]; dsimp only; omega)) ?_ (fun X q C1 h => h.elim)
      rintro _ _ ⟨rfl, rfl⟩
      dsimp only [List.cons_append, List.nil_append, Option.toList]
      refine gg_iload_n (pc := 85) E dX5_tune_85 rfl rfl ?_
      refine gg_iaddN (pc := 86) E (220 + 27 * i) u rfl rfl dX5_tune_86 ?_
      refine gg_ialdN (pc := 87) E ((220 + 27 * i) + u) rfl (by omega) (by omega) dX5_tune_87 (gg_r 0 rfl) ?_
      refine gg_iret (pc := 88) E Fn rfl (rfl) dX5_tune_88 (by first | exact Nat.le_of_ble_eq_true rfl | (dsimp only; omega)) (by first | exact Nat.le_of_ble_eq_true rfl | (dsimp only; omega)) ?_
      exact ⟨by unfold qTune; rw [if_pos (th_2.mp c19), tn_nI (j := i) (by omega), tn_nI (j := u) (by omega), if_neg (show ¬ nI u = (9 : Int32) from nI_ne (v := 9) (by omega) (by omega) (by omega)), if_neg (show ¬ nI u = (10 : Int32) from nI_ne (v := 10) (by omega) (by omega) (by omega)), if_neg (show ¬ nI u = (11 : Int32) from nI_ne (v := 11) (by omega) (by omega) (by omega))], rfl⟩
    have hv25 : wh.toInt = 9 ∨ wh.toInt = 10 ∨ wh.toInt = 11 := by omega
    rcases hv25 with hv25 | hv25 | hv25
    · have hz25 : wh = 9 := Int32.toInt_inj.mp (by rw [hv25]; decide)
      subst hz25
      refine gg_tableIn (off := 27) (tgt := 52) (pc := 25) E dX5_tune_25 (by decide) (by decide) rfl (by decide) ?_
      refine gg_aload_n (pc := 52) E dX5_tune_52 rfl rfl ?_
      refine gg_iload_n (pc := 53) E dX5_tune_53 rfl rfl ?_
      refine gg_callV (F := [_]) (As := [.int (nI i)]) (rest := []) (pc := 54) E ck_X5 (ct_X5_bars hl (by first | assumption | omega)) (cwV 1 E.2.2.2.2.1 (lw_V q3180 q3182 qs113 q179 q3183) rfl rfl rfl (by decide +kernel) ⟨by rw [hRf]; exact Nat.le_of_ble_eq_true rfl, by rw [hRl]; exact Nat.le_of_ble_eq_true rfl⟩) dX5_tune_54 [] (by decide) rfl rfl (List.forall_mem_cons.mpr ⟨(gg_i 0 rfl), (List.forall_mem_cons.mpr ⟨(gg_r 0 rfl), (fun _ h => by cases h)⟩)⟩) (gg_i 0 rfl) rfl rfl (Nat.le_of_ble_eq_true rfl) (by first | (rw [hRc]; exact Nat.le_of_ble_eq_true rfl) | (rw [hRc]; dsimp only; omega)) (by first | (rw [hRs]; exact Nat.le_of_ble_eq_true rfl) | (rw [hRs]; dsimp only; omega)) ?_ (fun X q C1 h => h.elim)
      rintro _ _ ⟨rfl, rfl⟩
      dsimp only [List.cons_append, List.nil_append, Option.toList]
      refine gg_iret (pc := 57) E Fn rfl (rfl) dX5_tune_57 (by first | exact Nat.le_of_ble_eq_true rfl | (dsimp only; omega)) (by first | exact Nat.le_of_ble_eq_true rfl | (dsimp only; omega)) ?_
      exact ⟨by unfold qTune; rw [if_pos (th_2.mp c19), tn_nI (j := i) (by omega)] <;> rfl, rfl⟩
    · have hz25 : wh = 10 := Int32.toInt_inj.mp (by rw [hv25]; decide)
      subst hz25
      refine gg_tableIn (off := 33) (tgt := 58) (pc := 25) E dX5_tune_25 (by decide) (by decide) rfl (by decide) ?_
      refine gg_aload_n (pc := 58) E dX5_tune_58 rfl rfl ?_
      refine gg_iload_n (pc := 59) E dX5_tune_59 rfl rfl ?_
      refine gg_callV (F := [_]) (As := [.int (nI i)]) (rest := []) (pc := 60) E ck_X5 (ct_X5_unlike hl (by omega) (g3) (by omega)) (cwV 1 E.2.2.2.2.1 (lw_V q3160 q3162 qs108 q179 q3163) rfl rfl rfl (by decide +kernel) ⟨by rw [hRf]; exact Nat.le_of_ble_eq_true rfl, by rw [hRl]; exact Nat.le_of_ble_eq_true rfl⟩) dX5_tune_60 [] (by decide) rfl rfl (List.forall_mem_cons.mpr ⟨(gg_i 0 rfl), (List.forall_mem_cons.mpr ⟨(gg_r 0 rfl), (fun _ h => by cases h)⟩)⟩) (gg_i 0 rfl) rfl rfl (Nat.le_of_ble_eq_true rfl) (by first | (rw [hRc]; exact Nat.le_of_ble_eq_true rfl) | (rw [hRc]; dsimp only; omega)) (by first | (rw [hRs]; exact Nat.le_of_ble_eq_true rfl) | (rw [hRs]; dsimp only; omega)) ?_ (fun X q C1 h => h.elim)
      rintro _ _ ⟨rfl, rfl⟩
      dsimp only [List.cons_append, List.nil_append, Option.toList]
      refine gg_iret (pc := 63) E Fn rfl (rfl) dX5_tune_63 (by first | exact Nat.le_of_ble_eq_true rfl | (dsimp only; omega)) (by first | exact Nat.le_of_ble_eq_true rfl | (dsimp only; omega)) ?_
      exact ⟨by unfold qTune; rw [if_pos (th_2.mp c19), tn_nI (j := i) (by omega)] <;> rfl, rfl⟩
    · have hz25 : wh = 11 := Int32.toInt_inj.mp (by rw [hv25]; decide)
      subst hz25
      refine gg_tableIn (off := 39) (tgt := 64) (pc := 25) E dX5_tune_25 (by decide) (by decide) rfl (by decide) ?_
      refine gg_aload_n (pc := 64) E dX5_tune_64 rfl rfl ?_
      refine gg_get (pc := 65) E ck_X5 0 q2859 rfl (by decide) dX5_tune_65 (gg_i 0 rfl) rfl ?_
      refine gg_iload_n (pc := 68) E dX5_tune_68 rfl rfl ?_
      refine gg_callS (F := [_]) (As := [.int (nI i)]) (rest := [_]) (pc := 69) E (ct_X5_t hl ) (va_cwS 1 E.2.2.2.2.1 (lw_S q3121 q3122 q179 q3123) rfl rfl rfl (by decide +kernel) ⟨by rw [hRf]; exact Nat.le_of_ble_eq_true rfl, by rw [hRl]; exact Nat.le_of_ble_eq_true rfl⟩) dX5_tune_69 [] (by decide) rfl rfl (fun _ h => by cases h) rfl rfl (Nat.le_of_ble_eq_true rfl) (by first | (rw [hRc]; exact Nat.le_of_ble_eq_true rfl) | (rw [hRc]; dsimp only; omega)) (by first | (rw [hRs]; exact Nat.le_of_ble_eq_true rfl) | (rw [hRs]; dsimp only; omega)) ?_ (fun X q C1 h => h.elim)
      rintro _ _ ⟨rfl, rfl⟩
      dsimp only [List.cons_append, List.nil_append, Option.toList]
      refine gg_bipush (v := 9) (pc := 72) E dX5_tune_72 (by decide) ?_
      refine gg_iaddN (pc := 74) E (220 + 27 * i) 9 rfl rfl dX5_tune_74 ?_
      refine gg_ialdN (pc := 75) E ((220 + 27 * i) + 9) rfl (by omega) (by omega) dX5_tune_75 (gg_r 0 rfl) ?_
      refine gg_iret (pc := 76) E Fn rfl (rfl) dX5_tune_76 (by first | exact Nat.le_of_ble_eq_true rfl | (dsimp only; omega)) (by first | exact Nat.le_of_ble_eq_true rfl | (dsimp only; omega)) ?_
      exact ⟨by unfold qTune; rw [if_pos (th_2.mp c19), tn_nI (j := i) (by omega)] <;> rfl, rfl⟩
  · refine gg_iconst (v := 0) (pc := 22) E dX5_tune_22 (by decide) ?_
    refine gg_iret (pc := 23) E Fn rfl (rfl) dX5_tune_23 (by first | exact Nat.le_of_ble_eq_true rfl | (dsimp only; omega)) (by first | exact Nat.le_of_ble_eq_true rfl | (dsimp only; omega)) ?_
    exact ⟨by unfold qTune; rw [if_neg (fun q => c19 (th_2.mpr q))], rfl⟩
set_option maxHeartbeats 4000000 in
theorem ct_X5_note {l : Launch} (hl : l.stackTraces = false) {g : gg_G}  {h : Nat} {ad : Nat → Nat} {x : Nat → Int32} {row : Nat → Int32} {k ix he : Int32} {nr nw nt : Nat} (hG : Gw row nr nw nt) : gg_C l g yX5_note (ws_ yX5_note cX5_note 5 (some .int)) { frames := 2, cells := 0, slots := 0, locals := 46 } [.ref h, .int k, .int ix, .int he] [((ad 0), gg_ai g 1030 row)] [[(h, .inl (4, mo_f ad x))]] (fun vv CC => vv = some (.int (qNote row nt k ix he)) ∧ CC = [[(h, .inl (4, mo_f ad (upd x 6 (th (if 0 ≤ k.toInt ∧ k.toInt < nt then 1 else 0) 1 1))))]]) gg_no := by
  refine gg_of (lv := [_, _, _, _, _]) (by decide) hl (Nat.le_of_ble_eq_true rfl) rfl ?_
  intro p e R s m args below meth c A Q hRf hRl hRc hRs E Fn hnm hex
  have hG0 := hG
  obtain ⟨hnr, hw, ht, hG4, hGS⟩ := hG
  have hnw := hw.1
  have hw20 := hw.2.1
  have hr10 := hw.2.2.1
  have hnt := ht.1
  have ht30 := ht.2.1
  refine gg_aload_n (pc := 0) E dX5_note_0 rfl rfl ?_
  refine gg_aload_n (pc := 1) E dX5_note_1 rfl rfl ?_
  refine gg_iload_n (pc := 2) E dX5_note_2 rfl rfl ?_
  refine gg_callV (F := [_]) (As := [_]) (rest := [_]) (pc := 3) E ck_X5 (ct_X5_isTune hl (by first | assumption | omega) (by first | assumption | omega)) (cwV 1 E.2.2.2.2.1 (lw_V q3304 q3306 qs135 q179 q3307) rfl rfl rfl (by decide +kernel) ⟨by rw [hRf]; exact Nat.le_of_ble_eq_true rfl, by rw [hRl]; exact Nat.le_of_ble_eq_true rfl⟩) dX5_note_3 [] (by decide) rfl rfl (List.forall_mem_cons.mpr ⟨(gg_i 0 rfl), (List.forall_mem_cons.mpr ⟨(gg_r 0 rfl), (fun _ h => by cases h)⟩)⟩) (gg_i 0 rfl) rfl rfl (Nat.le_of_ble_eq_true rfl) (by first | (rw [hRc]; exact Nat.le_of_ble_eq_true rfl) | (rw [hRc]; dsimp only; omega)) (by first | (rw [hRs]; exact Nat.le_of_ble_eq_true rfl) | (rw [hRs]; dsimp only; omega)) ?_ (fun X q C1 h => h.elim)
  rintro _ _ ⟨rfl, rfl⟩
  dsimp only [List.cons_append, List.nil_append, Option.toList]
  refine gg_iconst (v := 1) (pc := 6) E dX5_note_6 (by decide) ?_
  refine gg_iconst (v := 1) (pc := 7) E dX5_note_7 (by decide) ?_
  refine gg_callV (F := []) (As := [_, _, _]) (rest := []) (pc := 8) E ck_X5 (ct_X5_may hl ) (cwV 3 E.2.2.2.2.1 (lw_V q3241 q3243 qs127 q179 q3244) rfl rfl rfl (by decide +kernel) ⟨by rw [hRf]; exact Nat.le_of_ble_eq_true rfl, by rw [hRl]; exact Nat.le_of_ble_eq_true rfl⟩) dX5_note_8 [0] (by decide) rfl rfl (fun _ h => by cases h) (gg_i 0 rfl) rfl rfl (Nat.le_of_ble_eq_true rfl) (by first | (rw [hRc]; exact Nat.le_of_ble_eq_true rfl) | (rw [hRc]; dsimp only; omega)) (by first | (rw [hRs]; exact Nat.le_of_ble_eq_true rfl) | (rw [hRs]; dsimp only; omega)) ?_ (fun X q C1 h => h.elim)
  rintro _ _ ⟨rfl, rfl⟩
  dsimp only [List.cons_append, List.nil_append, Option.toList]
  refine gg_ifP_ne (tgt := 16) (pc := 11) E dX5_note_11 (by decide) (fun c11 => ?_) (fun c11 => ?_)
  · obtain ⟨i, hi, hiq⟩ := k_nI (th_1.mp c11)
    subst hiq
    obtain ⟨g1, g2, g3, g4, g5, g6, g7, g8, g9, g10⟩ := ht.2.2.2 i (by omega)
    refine gg_iload_n (pc := 16) E dX5_note_16 rfl rfl ?_
    refine gg_i2l (pc := 17) E dX5_note_17 rfl ?_
    refine gg_lconst (v := 0) (pc := 18) E dX5_note_18 (by decide) ?_
    refine gg_aload_n (pc := 19) E dX5_note_19 rfl rfl ?_
    refine gg_get (pc := 20) E ck_X5 0 q2859 rfl (by decide) dX5_note_20 (gg_i 0 rfl) rfl ?_
    refine gg_iload_n (pc := 23) E dX5_note_23 rfl rfl ?_
    refine gg_callS (F := [_]) (As := [.int (nI i)]) (rest := [_, _, _]) (pc := 24) E (ct_X5_t hl ) (va_cwS 1 E.2.2.2.2.1 (lw_S q3121 q3122 q179 q3123) rfl rfl rfl (by decide +kernel) ⟨by rw [hRf]; exact Nat.le_of_ble_eq_true rfl, by rw [hRl]; exact Nat.le_of_ble_eq_true rfl⟩) dX5_note_24 [] (by decide) rfl rfl (fun _ h => by cases h) rfl rfl (Nat.le_of_ble_eq_true rfl) (by first | (rw [hRc]; exact Nat.le_of_ble_eq_true rfl) | (rw [hRc]; dsimp only; omega)) (by first | (rw [hRs]; exact Nat.le_of_ble_eq_true rfl) | (rw [hRs]; dsimp only; omega)) ?_ (fun X q C1 h => h.elim)
    rintro _ _ ⟨rfl, rfl⟩
    dsimp only [List.cons_append, List.nil_append, Option.toList]
    refine gg_iconst (v := 2) (pc := 27) E dX5_note_27 (by decide) ?_
    refine gg_iaddN (pc := 28) E (220 + 27 * i) 2 rfl rfl dX5_note_28 ?_
    refine gg_ialdN (pc := 29) E ((220 + 27 * i) + 2) rfl (by omega) (by omega) dX5_note_29 (gg_r 0 rfl) ?_
    rw [g3]
    refine gg_iconst (v := 1) (pc := 30) E dX5_note_30 (by decide) ?_
    refine gg_isub (pc := 31) E dX5_note_31 ?_
    refine gg_i2l (pc := 32) E dX5_note_32 rfl ?_
    refine gg_callS (F := [_]) (As := [_, _, _]) (rest := []) (pc := 33) E (ct_X5_in hl ) (va_cwS 3 E.2.2.2.2.1 (lw_S q2961 q2962 q179 q2963) rfl rfl rfl (by decide +kernel) ⟨by rw [hRf]; exact Nat.le_of_ble_eq_true rfl, by rw [hRl]; exact Nat.le_of_ble_eq_true rfl⟩) dX5_note_33 [] (by decide) rfl rfl (fun _ h => by cases h) rfl rfl (Nat.le_of_ble_eq_true rfl) (by first | (rw [hRc]; exact Nat.le_of_ble_eq_true rfl) | (rw [hRc]; dsimp only; omega)) (by first | (rw [hRs]; exact Nat.le_of_ble_eq_true rfl) | (rw [hRs]; dsimp only; omega)) ?_ (fun X q C1 h => h.elim)
    rintro _ _ ⟨rfl, rfl⟩
    dsimp only [List.cons_append, List.nil_append, Option.toList]
    refine gg_topI (y := if 0 ≤ ix.toInt ∧ ix.toInt < tno row i then 1 else 0) (gg_ifc (in_rng0 (n := tno row i) (by omega))) ?_
    refine gg_istore (lv' := [_, _, _, _, _]) (pc := 36) E dX5_note_36 (Nat.le_of_ble_eq_true rfl) rfl rfl ?_
    refine gg_iload (pc := 38) E dX5_note_38 rfl ?_
    refine gg_ifP_eq (tgt := 69) (pc := 40) E dX5_note_40 (by decide) (fun c40 => ?_) (fun c40 => ?_)
    · refine gg_iconst (v := (-1)) (pc := 69) E dX5_note_69 (by decide) ?_
      refine gg_iret (pc := 70) E Fn rfl (rfl) dX5_note_70 (by first | exact Nat.le_of_ble_eq_true rfl | (dsimp only; omega)) (by first | exact Nat.le_of_ble_eq_true rfl | (dsimp only; omega)) ?_
      exact ⟨by unfold qNote; rw [if_pos (th_1.mp c11), tn_nI (j := i) (by omega), if_neg c40], rfl⟩
    · obtain ⟨u, hu, huq⟩ := k_nI c40
      subst huq
      refine gg_aload_n (pc := 43) E dX5_note_43 rfl rfl ?_
      refine gg_get (pc := 44) E ck_X5 0 q2859 rfl (by decide) dX5_note_44 (gg_i 0 rfl) rfl ?_
      refine gg_iload_n (pc := 47) E dX5_note_47 rfl rfl ?_
      refine gg_callS (F := [_]) (As := [.int (nI i)]) (rest := [_]) (pc := 48) E (ct_X5_t hl ) (va_cwS 1 E.2.2.2.2.1 (lw_S q3121 q3122 q179 q3123) rfl rfl rfl (by decide +kernel) ⟨by rw [hRf]; exact Nat.le_of_ble_eq_true rfl, by rw [hRl]; exact Nat.le_of_ble_eq_true rfl⟩) dX5_note_48 [] (by decide) rfl rfl (fun _ h => by cases h) rfl rfl (Nat.le_of_ble_eq_true rfl) (by first | (rw [hRc]; exact Nat.le_of_ble_eq_true rfl) | (rw [hRc]; dsimp only; omega)) (by first | (rw [hRs]; exact Nat.le_of_ble_eq_true rfl) | (rw [hRs]; dsimp only; omega)) ?_ (fun X q C1 h => h.elim)
      rintro _ _ ⟨rfl, rfl⟩
      dsimp only [List.cons_append, List.nil_append, Option.toList]
      refine gg_iload_n (pc := 51) E dX5_note_51 rfl rfl ?_
      refine gg_if_eq (tgt := 60) (pc := 52) E dX5_note_52 (by decide) (fun c52 => ?_) (fun c52 => ?_)
      · refine gg_bipush (v := 11) (pc := 60) E dX5_note_60 (by decide) ?_
        refine gg_iaddN (pc := 62) E (220 + 27 * i) 11 rfl rfl dX5_note_62 ?_
        refine gg_iload_n (pc := 63) E dX5_note_63 rfl rfl ?_
        refine gg_iaddN (pc := 64) E ((220 + 27 * i) + 11) u rfl rfl dX5_note_64 ?_
        refine gg_ialdN (pc := 65) E ((220 + 27 * i) + 11 + u) rfl (by omega) (by omega) dX5_note_65 (gg_r 0 rfl) ?_
        refine gg_goto (tgt := 70) (pc := 66) E dX5_note_66 (by decide) ?_
        refine gg_iret (pc := 70) E Fn rfl (rfl) dX5_note_70 (by first | exact Nat.le_of_ble_eq_true rfl | (dsimp only; omega)) (by first | exact Nat.le_of_ble_eq_true rfl | (dsimp only; omega)) ?_
        exact ⟨by unfold qNote; rw [if_pos (th_1.mp c11), tn_nI (j := i) (by omega), if_pos c40, tn_nI (j := u) (by omega), if_pos c52], rfl⟩
      · refine gg_bipush (v := 19) (pc := 55) E dX5_note_55 (by decide) ?_
        refine gg_goto (tgt := 62) (pc := 57) E dX5_note_57 (by decide) ?_
        refine gg_iaddN (pc := 62) E (220 + 27 * i) 19 rfl rfl dX5_note_62 ?_
        refine gg_iload_n (pc := 63) E dX5_note_63 rfl rfl ?_
        refine gg_iaddN (pc := 64) E ((220 + 27 * i) + 19) u rfl rfl dX5_note_64 ?_
        refine gg_ialdN (pc := 65) E ((220 + 27 * i) + 19 + u) rfl (by omega) (by omega) dX5_note_65 (gg_r 0 rfl) ?_
        refine gg_goto (tgt := 70) (pc := 66) E dX5_note_66 (by decide) ?_
        refine gg_iret (pc := 70) E Fn rfl (rfl) dX5_note_70 (by first | exact Nat.le_of_ble_eq_true rfl | (dsimp only; omega)) (by first | exact Nat.le_of_ble_eq_true rfl | (dsimp only; omega)) ?_
        exact ⟨by unfold qNote; rw [if_pos (th_1.mp c11), tn_nI (j := i) (by omega), if_pos c40, tn_nI (j := u) (by omega), if_neg c52], rfl⟩
  · refine gg_iconst (v := 0) (pc := 14) E dX5_note_14 (by decide) ?_
    refine gg_iret (pc := 15) E Fn rfl (rfl) dX5_note_15 (by first | exact Nat.le_of_ble_eq_true rfl | (dsimp only; omega)) (by first | exact Nat.le_of_ble_eq_true rfl | (dsimp only; omega)) ?_
    exact ⟨by unfold qNote; rw [if_neg (fun q => c11 (th_1.mpr q))], rfl⟩

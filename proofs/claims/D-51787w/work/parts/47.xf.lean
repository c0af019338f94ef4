set_option maxRecDepth 100000
theorem ls_self {α : Type} {M : List α} {i : Nat} {S : α} (h : M[i]? = some S) : M.set i S = M := by
  obtain ⟨hl, rfl⟩ := List.getElem?_eq_some_iff.mp h
  exact List.set_getElem_self hl
section GGcel
variable {p : Program} {l : Launch} {e : Env} {R : Room} {s : State} {m : MethodId} {args : Array Value} {below : List Frame} {meth : Method} {c : Code} {g : gg_G} {A : Nat → Prop} {ro : gg_S} {nL : Nat} {Q : State → Prop} {kc ns : Nat} {M : List gg_S} {lv : List (Option Value)} {st : List Value} {pc : Nat} {cc : ByteArray} {own : String}
/-- a cell of the same contents -/
theorem gg_cel {a : Nat} {x y : gg_E} {M' : List gg_S} (i : Nat) (hm : M[i]? = some [(a, x)]) (h : x = y) (hM : M.set i [(a, y)] = M') (K : gg_W p l e R s m args below meth c g A nL Q kc ns M' lv st pc) : gg_W p l e R s m args below meth c g A nL Q kc ns M lv st pc := by
  subst hM h
  rw [show M.set i [(a, x)] = M from ls_self hm] at K
  exact K
end GGcel
theorem ct_X5_numberF {l : Launch} (hl : l.stackTraces = false) {g : gg_G}  {h : Nat} {ad : Nat → Nat} {x : Nat → Int32} {b : Nat → Int32} {bn : Nat} {lo1 hi1 : Int32} (hX : Xi bn x) : gg_C l g yX5_number (ws_ yX5_number cX5_number 4 (some .int)) { frames := 3, cells := 0, slots := 0, locals := 66 } [.ref h, .int lo1, .int hi1] [((ad 12), gg_ab g 800 b)] [[(h, .inl (4, mo_f ad x))]] (fun vv CC => vv = some (.int (nhV x lo1 hi1)) ∧ CC = [[(h, .inl (4, mo_f ad (numX b bn x lo1 hi1)))]]) gg_no := cx_X5_number hl hX
theorem ct_X5_semicolonF {l : Launch} (hl : l.stackTraces = false) {g : gg_G}  {h : Nat} {ad : Nat → Nat} {x : Nat → Int32} {b : Nat → Int32} {bn : Nat} (hX : Xi bn x) : gg_C l g yX5_semicolon (ws_ yX5_semicolon cX5_semicolon 1 none) { frames := 3, cells := 0, slots := 0, locals := 66 } [.ref h] [((ad 12), gg_ab g 800 b)] [[(h, .inl (4, mo_f ad x))]] (fun vv CC => vv = none ∧ CC = [[(h, .inl (4, mo_f ad (smX b bn x)))]]) gg_no := cx_X5_semicolon hl hX
theorem ct_X5_roofOfTextF {l : Launch} (hl : l.stackTraces = false) {g : gg_G}  {h : Nat} {ad : Nat → Nat} {x : Nat → Int32} {row : Nat → Int32} {b sp : Nat → Int32} {bn nr : Nat} {no : Int32} (hnr : row 0 = nI nr) (hr10 : nr ≤ 10) (hX : Xi bn x) : gg_C l g yX5_roofOfText (ws_ yX5_roofOfText cX5_roofOfText 3 (some .int)) { frames := 3, cells := 0, slots := 0, locals := 66 } [.ref h, .int no] [((ad 0), gg_ai g 1030 row), ((ad 12), gg_ab g 800 b)] [[(h, .inl (4, mo_f ad x))], [((ad 7), gg_ai g 6 sp)]] (fun vv CC => vv = some (.int (rtV row nr b sp x)) ∧ CC = [[(h, .inl (4, mo_f ad (rtX row nr b bn sp x no)))], [((ad 7), gg_ai g 6 (spS b sp x))]]) gg_no := cx_X5_roofOfText hl hnr hr10 hX
theorem ct_X5_settingHereF {l : Launch} (hl : l.stackTraces = false) {g : gg_G}  {h : Nat} {ad : Nat → Nat} {x : Nat → Int32} {b : Nat → Int32} {bn : Nat} (hX : Xi bn x) : gg_C l g yX5_settingHere (ws_ yX5_settingHere cX5_settingHere 1 (some .int)) { frames := 5, cells := 0, slots := 0, locals := 107 } [.ref h] [(h, .inl (4, mo_f ad x)), ((ad 12), gg_ab g 800 b)] [] (fun vv CC => vv = some (.int (stH x b (Fm x) (Ln x))) ∧ CC = []) gg_no := cx_X5_settingHere hl hX
theorem ct_X5_kindHereF {l : Launch} (hl : l.stackTraces = false) {g : gg_G}  {h : Nat} {ad : Nat → Nat} {x : Nat → Int32} {b : Nat → Int32} {bn : Nat} (hX : Xi bn x) : gg_C l g yX5_kindHere (ws_ yX5_kindHere cX5_kindHere 1 (some .int)) { frames := 6, cells := 0, slots := 0, locals := 127 } [.ref h] [(h, .inl (4, mo_f ad x)), ((ad 12), gg_ab g 800 b)] [] (fun vv CC => vv = some (.int (kdH x b (Fm x) (Ln x))) ∧ CC = []) gg_no := cx_X5_kindHere hl hX
set_option maxHeartbeats 4000000 in
theorem ct_X5_readsNotes {l : Launch} (hl : l.stackTraces = false) {g : gg_G}  {h : Nat} {ad : Nat → Nat} {x : Nat → Int32} {b D : Nat → Int32} {bn at1 : Nat} (hX : Xi bn x) (hat : at1 + 12 ≤ 360) : gg_C l g yX5_readsNotes (ws_ yX5_readsNotes cX5_readsNotes 4 none) { frames := 3, cells := 0, slots := 0, locals := 66 } [.ref h, .int (nI at1)] [((ad 12), gg_ab g 800 b)] [[(h, .inl (4, mo_f ad x))], [((ad 22), gg_ai g 360 D)]] (fun vv CC => vv = none ∧ CC = [[(h, .inl (4, mo_f ad ((ntL b bn at1 x D).1)))], [((ad 22), gg_ai g 360 (upd (ntL b bn at1 x D).2.1 (at1 + 3) (nI (ntL b bn at1 x D).2.2)))]]) gg_no := by
  refine gg_of (lv := [_, _, _, _]) (by decide) hl (Nat.le_of_ble_eq_true rfl) rfl ?_
  intro p e R s m args below meth c A Q hRf hRl hRc hRs E Fn hnm hex
  refine gg_iconst (v := 0) (pc := 0) E dX5_readsNotes_0 (by decide) ?_
  refine gg_istore_n (lv' := [_, _, _, _]) (pc := 1) E dX5_readsNotes_1 rfl (Nat.le_of_ble_eq_true rfl) rfl rfl ?_
  have L2 : ∀ (n : Nat) (k : Nat) (X Y : Nat → Int32) (mn1 : Nat), (if X 20 = 0 then bn + 1 - tn (X 17) else 0) < n → (it (ntF b bn at1) k (x, D, 0) = (X, Y, mn1)) → (∀ j, j < k → ntC (it (ntF b bn at1) j (ntF b bn at1 (x, D, 0)))) → (Xi bn X) → (mn1 ≤ 8) → gg_W p l e R s m args below meth c g A 4 Q 0 0 [[(h, .inl (4, mo_f ad X))], [((ad 22), gg_ai g 360 Y)]] [some (.ref h), some (.int (nI at1)), some (.int (nI mn1)), none] [] 2 := by
    intro n2
    induction n2 with
    | zero => intro k X Y mn1 hmz; exact absurd hmz (Nat.not_lt_zero _)
    | succ n2 ih2 =>
      intro k X Y mn1 hm2 hit hall hXX hm8
      refine gg_aload_n (pc := 2) E dX5_readsNotes_2 rfl rfl ?_
      refine gg_iconst (v := 0) (pc := 3) E dX5_readsNotes_3 (by decide) ?_
      refine gg_bipush (v := 7) (pc := 4) E dX5_readsNotes_4 (by decide) ?_
      refine gg_callV (F := [_]) (As := [_, _]) (rest := []) (pc := 6) E ck_X5 (ct_X5_numberHere hl ) (cwV 2 E.2.2.2.2.1 (lw_V q3029 q3031 qs82 q179 q3032) rfl rfl rfl (by decide +kernel) ⟨by rw [hRf]; exact Nat.le_of_ble_eq_true rfl, by rw [hRl]; exact Nat.le_of_ble_eq_true rfl⟩) dX5_readsNotes_6 [0] (by decide) rfl rfl (fun _ h => by cases h) (gg_i 0 rfl) rfl rfl (Nat.le_of_ble_eq_true rfl) (by first | (rw [hRc]; exact Nat.le_of_ble_eq_true rfl) | (rw [hRc]; dsimp only; omega)) (by first | (rw [hRs]; exact Nat.le_of_ble_eq_true rfl) | (rw [hRs]; dsimp only; omega)) ?_ (fun X q C1 h => h.elim)
      rintro _ _ ⟨rfl, rfl⟩
      dsimp only [List.cons_append, List.nil_append, Option.toList]
      refine gg_istore_n (lv' := [_, _, _, _]) (pc := 9) E dX5_readsNotes_9 rfl (Nat.le_of_ble_eq_true rfl) rfl rfl ?_
      refine gg_aload_n (pc := 10) E dX5_readsNotes_10 rfl rfl ?_
      refine gg_iload_n (pc := 11) E dX5_readsNotes_11 rfl rfl ?_
      refine gg_bipush (v := 8) (pc := 12) E dX5_readsNotes_12 (by decide) ?_
      refine gg_icmpB_ge (pc := 14) E dX5_readsNotes_14 dX5_readsNotes_17 dX5_readsNotes_18 dX5_readsNotes_21 ?_
      refine gg_topI (y := if mn1 < 8 then 1 else 0) (gg_ifc (by rw [show (8 : Int32) = nI 8 from rfl, nI_leI (by omega) (by omega)]; omega)) ?_
      refine gg_iconst (v := 5) (pc := 22) E dX5_readsNotes_22 (by decide) ?_
      refine gg_callV (F := [_]) (As := [_, _]) (rest := []) (pc := 23) E ck_X5 (ct_X5_need hl ) (cwV 2 E.2.2.2.2.1 (lw_V q3013 q3015 qs78 q179 q3016) rfl rfl rfl (by decide +kernel) ⟨by rw [hRf]; exact Nat.le_of_ble_eq_true rfl, by rw [hRl]; exact Nat.le_of_ble_eq_true rfl⟩) dX5_readsNotes_23 [0] (by decide) rfl rfl (fun _ h => by cases h) (gg_i 0 rfl) rfl rfl (Nat.le_of_ble_eq_true rfl) (by first | (rw [hRc]; exact Nat.le_of_ble_eq_true rfl) | (rw [hRc]; dsimp only; omega)) (by first | (rw [hRs]; exact Nat.le_of_ble_eq_true rfl) | (rw [hRs]; dsimp only; omega)) ?_ (fun X q C1 h => h.elim)
      rintro _ _ ⟨rfl, rfl⟩
      dsimp only [List.cons_append, List.nil_append, Option.toList]
      refine gg_aload_n (pc := 26) E dX5_readsNotes_26 rfl rfl ?_
      refine gg_get (pc := 27) E ck_X5 20 q2879 rfl (by decide) dX5_readsNotes_27 (gg_i 0 rfl) rfl ?_
      refine gg_if_ne (tgt := 47) (pc := 30) E dX5_readsNotes_30 (by decide) (fun c30 => ?_) (fun c30 => ?_)
      · refine gg_aload_n (pc := 47) E dX5_readsNotes_47 rfl rfl ?_
        refine gg_callV (F := [_]) (As := []) (rest := []) (pc := 48) E ck_X5 (cx_X5_goesOn hl (Xi_ntA hXX)) (cwV 0 E.2.2.2.2.1 (lw_V q2984 q2986 qs72 q179 q2987) rfl rfl rfl (by decide +kernel) ⟨by rw [hRf]; exact Nat.le_of_ble_eq_true rfl, by rw [hRl]; exact Nat.le_of_ble_eq_true rfl⟩) dX5_readsNotes_48 [0] (by decide) rfl rfl (List.forall_mem_cons.mpr ⟨(gg_r 0 rfl), (fun _ h => by cases h)⟩) (gg_i 0 rfl) rfl rfl (Nat.le_of_ble_eq_true rfl) (by first | (rw [hRc]; exact Nat.le_of_ble_eq_true rfl) | (rw [hRc]; dsimp only; omega)) (by first | (rw [hRs]; exact Nat.le_of_ble_eq_true rfl) | (rw [hRs]; dsimp only; omega)) ?_ (fun X q C1 h => h.elim)
        rintro _ _ ⟨rfl, rfl⟩
        dsimp only [List.cons_append, List.nil_append, Option.toList]
        refine gg_aload_n (pc := 51) E dX5_readsNotes_51 rfl rfl ?_
        refine gg_get (pc := 52) E ck_X5 20 q2879 rfl (by decide) dX5_readsNotes_52 (gg_i 0 rfl) rfl ?_
        refine gg_if_ne (tgt := 66) (pc := 55) E dX5_readsNotes_55 (by decide) (fun c55 => ?_) (fun c55 => ?_)
        · have hc3 : ¬ ntA X mn1 20 = 0 := c30
          have hst : ntF b bn at1 (X, Y, mn1) = (goX b bn (ntA X mn1), Y, mn1) := by
            unfold ntF
            dsimp only
            rw [if_neg hc3, if_neg hc3]
          have hnx : it (ntF b bn at1) (k + 1) (x, D, 0) = (goX b bn (ntA X mn1), Y, mn1) := by show ntF b bn at1 (it (ntF b bn at1) k (x, D, 0)) = _; rw [hit]; exact hst
          have hL : ntL b bn at1 x D = (goX b bn (ntA X mn1), Y, mn1) := by
            unfold ntL
            rw [LD_eq (k := k) ⟨hall, by rw [it_s, hnx]; exact fun q => c55 q.1⟩, it_s, hnx]
          refine gg_aload_n (pc := 66) E dX5_readsNotes_66 rfl rfl ?_
          refine gg_get (pc := 67) E ck_X5 22 q2881 rfl (by decide) dX5_readsNotes_67 (gg_i 0 rfl) rfl ?_
          refine gg_iload_n (pc := 70) E dX5_readsNotes_70 rfl rfl ?_
          refine gg_iconst (v := 3) (pc := 71) E dX5_readsNotes_71 (by decide) ?_
          refine gg_iaddN (pc := 72) E at1 3 rfl rfl dX5_readsNotes_72 ?_
          refine gg_iload_n (pc := 73) E dX5_readsNotes_73 rfl rfl ?_
          refine gg_iastN (M' := [_, _]) (pc := 74) E (at1 + 3) rfl (by omega) (by omega) dX5_readsNotes_74 1 rfl rfl ?_
          refine gg_vret (pc := 75) E Fn rfl dX5_readsNotes_75 (by first | exact Nat.le_of_ble_eq_true rfl | (dsimp only; omega)) (by first | exact Nat.le_of_ble_eq_true rfl | (dsimp only; omega)) ?_
          refine ⟨rfl, ?_⟩
          rw [hL]
        · refine gg_aload_n (pc := 58) E dX5_readsNotes_58 rfl rfl ?_
          refine gg_get (pc := 59) E ck_X5 18 q2877 rfl (by decide) dX5_readsNotes_59 (gg_i 0 rfl) rfl ?_
          refine gg_iconst (v := 2) (pc := 62) E dX5_readsNotes_62 (by decide) ?_
          refine gg_icmp_eq (tgt := 2) (pc := 63) E dX5_readsNotes_63 (by decide) (fun c63 => ?_) (fun c63 => ?_)
          · have hc3 : ¬ ntA X mn1 20 = 0 := c30
            have hst : ntF b bn at1 (X, Y, mn1) = (goX b bn (ntA X mn1), Y, mn1) := by
              unfold ntF
              dsimp only
              rw [if_neg hc3, if_neg hc3]
            have hnx : it (ntF b bn at1) (k + 1) (x, D, 0) = (goX b bn (ntA X mn1), Y, mn1) := by show ntF b bn at1 (it (ntF b bn at1) k (x, D, 0)) = _; rw [hit]; exact hst
            refine gg_cv rfl (gg_leS (gg_leS (gg_leS (gg_leN gg_le0)))) rfl (by first | exact Nat.le_refl _ | (dsimp only; omega)) (by first | exact Nat.le_refl _ | (dsimp only; omega)) (ih2 (k + 1) (goX b bn (ntA X mn1)) Y mn1 (nt_dec (k := mn1) hXX hm2 c55 c63) (hnx) (all_s hall (by rw [it_s, hnx]; exact ⟨c55, c63⟩)) (Xi_go (Xi_ntA hXX)) (by have h9 := nt_le (b := b) (bn := bn) (at1 := at1) (s := (X, Y, mn1)) hm8; rw [hst] at h9; exact h9))
          · have hc3 : ¬ ntA X mn1 20 = 0 := c30
            have hst : ntF b bn at1 (X, Y, mn1) = (goX b bn (ntA X mn1), Y, mn1) := by
              unfold ntF
              dsimp only
              rw [if_neg hc3, if_neg hc3]
            have hnx : it (ntF b bn at1) (k + 1) (x, D, 0) = (goX b bn (ntA X mn1), Y, mn1) := by show ntF b bn at1 (it (ntF b bn at1) k (x, D, 0)) = _; rw [hit]; exact hst
            have hL : ntL b bn at1 x D = (goX b bn (ntA X mn1), Y, mn1) := by
              unfold ntL
              rw [LD_eq (k := k) ⟨hall, by rw [it_s, hnx]; exact fun q => c63 q.2⟩, it_s, hnx]
            refine gg_aload_n (pc := 66) E dX5_readsNotes_66 rfl rfl ?_
            refine gg_get (pc := 67) E ck_X5 22 q2881 rfl (by decide) dX5_readsNotes_67 (gg_i 0 rfl) rfl ?_
            refine gg_iload_n (pc := 70) E dX5_readsNotes_70 rfl rfl ?_
            refine gg_iconst (v := 3) (pc := 71) E dX5_readsNotes_71 (by decide) ?_
            refine gg_iaddN (pc := 72) E at1 3 rfl rfl dX5_readsNotes_72 ?_
            refine gg_iload_n (pc := 73) E dX5_readsNotes_73 rfl rfl ?_
            refine gg_iastN (M' := [_, _]) (pc := 74) E (at1 + 3) rfl (by omega) (by omega) dX5_readsNotes_74 1 rfl rfl ?_
            refine gg_vret (pc := 75) E Fn rfl dX5_readsNotes_75 (by first | exact Nat.le_of_ble_eq_true rfl | (dsimp only; omega)) (by first | exact Nat.le_of_ble_eq_true rfl | (dsimp only; omega)) ?_
            refine ⟨rfl, ?_⟩
            rw [hL]
      · refine gg_aload_n (pc := 33) E dX5_readsNotes_33 rfl rfl ?_
        refine gg_get (pc := 34) E ck_X5 22 q2881 rfl (by decide) dX5_readsNotes_34 (gg_i 0 rfl) rfl ?_
        refine gg_iload_n (pc := 37) E dX5_readsNotes_37 rfl rfl ?_
        refine gg_iconst (v := 4) (pc := 38) E dX5_readsNotes_38 (by decide) ?_
        refine gg_iaddN (pc := 39) E at1 4 rfl rfl dX5_readsNotes_39 ?_
        refine gg_iload_n (pc := 40) E dX5_readsNotes_40 rfl rfl ?_
        refine gg_iaddN (pc := 41) E (at1 + 4) mn1 rfl rfl dX5_readsNotes_41 ?_
        refine gg_iload_n (pc := 42) E dX5_readsNotes_42 rfl rfl ?_
        have hm7 : mn1 < 8 := ((nd_0 (x := nhX X 0 7) (P := mn1 < 8) (k := 5) (by decide)).mp c30).2
        refine gg_iastN (M' := [_, _]) (pc := 43) E (at1 + 4 + mn1) rfl (by omega) (by omega) dX5_readsNotes_43 1 rfl rfl ?_
        refine gg_iincN (k := 1) (lv' := [_, _, _, _]) (pc := 44) E mn1 dX5_readsNotes_44 rfl rfl rfl (Nat.le_of_ble_eq_true rfl) rfl rfl ?_
        refine gg_aload_n (pc := 47) E dX5_readsNotes_47 rfl rfl ?_
        refine gg_callV (F := [_]) (As := []) (rest := []) (pc := 48) E ck_X5 (cx_X5_goesOn hl (Xi_ntA hXX)) (cwV 0 E.2.2.2.2.1 (lw_V q2984 q2986 qs72 q179 q2987) rfl rfl rfl (by decide +kernel) ⟨by rw [hRf]; exact Nat.le_of_ble_eq_true rfl, by rw [hRl]; exact Nat.le_of_ble_eq_true rfl⟩) dX5_readsNotes_48 [0] (by decide) rfl rfl (List.forall_mem_cons.mpr ⟨(gg_r 0 rfl), (fun _ h => by cases h)⟩) (gg_i 0 rfl) rfl rfl (Nat.le_of_ble_eq_true rfl) (by first | (rw [hRc]; exact Nat.le_of_ble_eq_true rfl) | (rw [hRc]; dsimp only; omega)) (by first | (rw [hRs]; exact Nat.le_of_ble_eq_true rfl) | (rw [hRs]; dsimp only; omega)) ?_ (fun X q C1 h => h.elim)
        rintro _ _ ⟨rfl, rfl⟩
        dsimp only [List.cons_append, List.nil_append, Option.toList]
        refine gg_aload_n (pc := 51) E dX5_readsNotes_51 rfl rfl ?_
        refine gg_get (pc := 52) E ck_X5 20 q2879 rfl (by decide) dX5_readsNotes_52 (gg_i 0 rfl) rfl ?_
        refine gg_if_ne (tgt := 66) (pc := 55) E dX5_readsNotes_55 (by decide) (fun c55 => ?_) (fun c55 => ?_)
        · have hc3 : ntA X mn1 20 = 0 := c30
          have hst : ntF b bn at1 (X, Y, mn1) = (goX b bn (ntA X mn1), upd Y (at1 + 4 + mn1) (nhV X 0 7), mn1 + 1) := by
            unfold ntF
            dsimp only
            rw [if_pos hc3, if_pos hc3]
          have hnx : it (ntF b bn at1) (k + 1) (x, D, 0) = (goX b bn (ntA X mn1), upd Y (at1 + 4 + mn1) (nhV X 0 7), mn1 + 1) := by show ntF b bn at1 (it (ntF b bn at1) k (x, D, 0)) = _; rw [hit]; exact hst
          have hL : ntL b bn at1 x D = (goX b bn (ntA X mn1), upd Y (at1 + 4 + mn1) (nhV X 0 7), mn1 + 1) := by
            unfold ntL
            rw [LD_eq (k := k) ⟨hall, by rw [it_s, hnx]; exact fun q => c55 q.1⟩, it_s, hnx]
          refine gg_aload_n (pc := 66) E dX5_readsNotes_66 rfl rfl ?_
          refine gg_get (pc := 67) E ck_X5 22 q2881 rfl (by decide) dX5_readsNotes_67 (gg_i 0 rfl) rfl ?_
          refine gg_iload_n (pc := 70) E dX5_readsNotes_70 rfl rfl ?_
          refine gg_iconst (v := 3) (pc := 71) E dX5_readsNotes_71 (by decide) ?_
          refine gg_iaddN (pc := 72) E at1 3 rfl rfl dX5_readsNotes_72 ?_
          refine gg_iload_n (pc := 73) E dX5_readsNotes_73 rfl rfl ?_
          refine gg_iastN (M' := [_, _]) (pc := 74) E (at1 + 3) rfl (by omega) (by omega) dX5_readsNotes_74 1 rfl rfl ?_
          refine gg_vret (pc := 75) E Fn rfl dX5_readsNotes_75 (by first | exact Nat.le_of_ble_eq_true rfl | (dsimp only; omega)) (by first | exact Nat.le_of_ble_eq_true rfl | (dsimp only; omega)) ?_
          refine ⟨rfl, ?_⟩
          rw [hL]
        · refine gg_aload_n (pc := 58) E dX5_readsNotes_58 rfl rfl ?_
          refine gg_get (pc := 59) E ck_X5 18 q2877 rfl (by decide) dX5_readsNotes_59 (gg_i 0 rfl) rfl ?_
          refine gg_iconst (v := 2) (pc := 62) E dX5_readsNotes_62 (by decide) ?_
          refine gg_icmp_eq (tgt := 2) (pc := 63) E dX5_readsNotes_63 (by decide) (fun c63 => ?_) (fun c63 => ?_)
          · have hc3 : ntA X mn1 20 = 0 := c30
            have hst : ntF b bn at1 (X, Y, mn1) = (goX b bn (ntA X mn1), upd Y (at1 + 4 + mn1) (nhV X 0 7), mn1 + 1) := by
              unfold ntF
              dsimp only
              rw [if_pos hc3, if_pos hc3]
            have hnx : it (ntF b bn at1) (k + 1) (x, D, 0) = (goX b bn (ntA X mn1), upd Y (at1 + 4 + mn1) (nhV X 0 7), mn1 + 1) := by show ntF b bn at1 (it (ntF b bn at1) k (x, D, 0)) = _; rw [hit]; exact hst
            refine gg_cv rfl (gg_leS (gg_leS (gg_leS (gg_leN gg_le0)))) rfl (by first | exact Nat.le_refl _ | (dsimp only; omega)) (by first | exact Nat.le_refl _ | (dsimp only; omega)) (ih2 (k + 1) (goX b bn (ntA X mn1)) (upd Y (at1 + 4 + mn1) (nhV X 0 7)) (mn1 + 1) (nt_dec (k := mn1) hXX hm2 c55 c63) (hnx) (all_s hall (by rw [it_s, hnx]; exact ⟨c55, c63⟩)) (Xi_go (Xi_ntA hXX)) (by have h9 := nt_le (b := b) (bn := bn) (at1 := at1) (s := (X, Y, mn1)) hm8; rw [hst] at h9; exact h9))
          · have hc3 : ntA X mn1 20 = 0 := c30
            have hst : ntF b bn at1 (X, Y, mn1) = (goX b bn (ntA X mn1), upd Y (at1 + 4 + mn1) (nhV X 0 7), mn1 + 1) := by
              unfold ntF
              dsimp only
              rw [if_pos hc3, if_pos hc3]
            have hnx : it (ntF b bn at1) (k + 1) (x, D, 0) = (goX b bn (ntA X mn1), upd Y (at1 + 4 + mn1) (nhV X 0 7), mn1 + 1) := by show ntF b bn at1 (it (ntF b bn at1) k (x, D, 0)) = _; rw [hit]; exact hst
            have hL : ntL b bn at1 x D = (goX b bn (ntA X mn1), upd Y (at1 + 4 + mn1) (nhV X 0 7), mn1 + 1) := by
              unfold ntL
              rw [LD_eq (k := k) ⟨hall, by rw [it_s, hnx]; exact fun q => c63 q.2⟩, it_s, hnx]
            refine gg_aload_n (pc := 66) E dX5_readsNotes_66 rfl rfl ?_
            refine gg_get (pc := 67) E ck_X5 22 q2881 rfl (by decide) dX5_readsNotes_67 (gg_i 0 rfl) rfl ?_
            refine gg_iload_n (pc := 70) E dX5_readsNotes_70 rfl rfl ?_
            refine gg_iconst (v := 3) (pc := 71) E dX5_readsNotes_71 (by decide) ?_
            refine gg_iaddN (pc := 72) E at1 3 rfl rfl dX5_readsNotes_72 ?_
            refine gg_iload_n (pc := 73) E dX5_readsNotes_73 rfl rfl ?_
            refine gg_iastN (M' := [_, _]) (pc := 74) E (at1 + 3) rfl (by omega) (by omega) dX5_readsNotes_74 1 rfl rfl ?_
            refine gg_vret (pc := 75) E Fn rfl dX5_readsNotes_75 (by first | exact Nat.le_of_ble_eq_true rfl | (dsimp only; omega)) (by first | exact Nat.le_of_ble_eq_true rfl | (dsimp only; omega)) ?_
            refine ⟨rfl, ?_⟩
            rw [hL]
  refine gg_cv rfl (gg_leS (gg_leS (gg_leS (gg_leN gg_le0)))) rfl (by first | exact Nat.le_refl _ | (dsimp only; omega)) (by first | exact Nat.le_refl _ | (dsimp only; omega)) (L2 _ 0 x D 0 (Nat.lt_succ_self _) (rfl) (fun j hj => absurd hj (Nat.not_lt_zero j)) (hX) (Nat.zero_le _))
set_option maxHeartbeats 40000000 in
theorem ct_X5_readsDeed {l : Launch} (hl : l.stackTraces = false) {g : gg_G}  {h : Nat} {ad : Nat → Nat} {x : Nat → Int32} {row : Nat → Int32} {b sp D : Nat → Int32} {bn nr dm : Nat} (hnr : row 0 = nI nr) (hr10 : nr ≤ 10) (hX : Xi bn x) (hdm : x 23 = nI dm) (hdm3 : dm ≤ 30) : gg_C l g yX5_readsDeed (ws_ yX5_readsDeed cX5_readsDeed 4 none) { frames := 7, cells := 0, slots := 0, locals := 147 } [.ref h] [((ad 0), gg_ai g 1030 row), ((ad 12), gg_ab g 800 b)] [[(h, .inl (4, mo_f ad x))], [((ad 7), gg_ai g 6 sp)], [((ad 22), gg_ai g 360 D)]] (fun vv CC => vv = none ∧ CC = [[(h, .inl (4, mo_f ad ((rdT row nr b bn dm x sp D).1)))], [((ad 7), gg_ai g 6 ((rdT row nr b bn dm x sp D).2.1))], [((ad 22), gg_ai g 360 ((rdT row nr b bn dm x sp D).2.2))]]) gg_no := by
  refine gg_of (lv := [_, _, _, _]) (by decide) hl (Nat.le_of_ble_eq_true rfl) rfl ?_
  intro p e R s m args below meth c A Q hRf hRl hRc hRs E Fn hnm hex
  refine gg_aload_n (pc := 0) E dX5_readsDeed_0 rfl rfl ?_
  refine gg_callV (F := [_, _, _]) (As := []) (rest := []) (pc := 1) E ck_X5 (ct_X5_kindHereF hl (hX)) (cwV 0 E.2.2.2.2.1 (lw_V q3092 q3094 qs94 q179 q3095) rfl rfl rfl (by decide +kernel) ⟨by rw [hRf]; exact Nat.le_of_ble_eq_true rfl, by rw [hRl]; exact Nat.le_of_ble_eq_true rfl⟩) dX5_readsDeed_1 [] (by decide) rfl rfl (List.forall_mem_cons.mpr ⟨(gg_i 0 rfl), (List.forall_mem_cons.mpr ⟨(gg_r 1 rfl), (fun _ h => by cases h)⟩)⟩) (gg_i 0 rfl) rfl rfl (Nat.le_of_ble_eq_true rfl) (by first | (rw [hRc]; exact Nat.le_of_ble_eq_true rfl) | (rw [hRc]; dsimp only; omega)) (by first | (rw [hRs]; exact Nat.le_of_ble_eq_true rfl) | (rw [hRs]; dsimp only; omega)) ?_ (fun X q C1 h => h.elim)
  rintro _ _ ⟨rfl, rfl⟩
  dsimp only [List.cons_append, List.nil_append, Option.toList]
  refine gg_istore_n (lv' := [_, _, _, _]) (pc := 4) E dX5_readsDeed_4 rfl (Nat.le_of_ble_eq_true rfl) rfl rfl ?_
  refine gg_aload_n (pc := 5) E dX5_readsDeed_5 rfl rfl ?_
  refine gg_callV (F := [_, _, _]) (As := []) (rest := []) (pc := 6) E ck_X5 (ct_X5_settingHereF hl (hX)) (cwV 0 E.2.2.2.2.1 (lw_V q3059 q3061 qs89 q179 q3062) rfl rfl rfl (by decide +kernel) ⟨by rw [hRf]; exact Nat.le_of_ble_eq_true rfl, by rw [hRl]; exact Nat.le_of_ble_eq_true rfl⟩) dX5_readsDeed_6 [] (by decide) rfl rfl (List.forall_mem_cons.mpr ⟨(gg_i 0 rfl), (List.forall_mem_cons.mpr ⟨(gg_r 1 rfl), (fun _ h => by cases h)⟩)⟩) (gg_i 0 rfl) rfl rfl (Nat.le_of_ble_eq_true rfl) (by first | (rw [hRc]; exact Nat.le_of_ble_eq_true rfl) | (rw [hRc]; dsimp only; omega)) (by first | (rw [hRs]; exact Nat.le_of_ble_eq_true rfl) | (rw [hRs]; dsimp only; omega)) ?_ (fun X q C1 h => h.elim)
  rintro _ _ ⟨rfl, rfl⟩
  dsimp only [List.cons_append, List.nil_append, Option.toList]
  refine gg_istore_n (lv' := [_, _, _, _]) (pc := 9) E dX5_readsDeed_9 rfl (Nat.le_of_ble_eq_true rfl) rfl rfl ?_
  refine gg_aload_n (pc := 10) E dX5_readsDeed_10 rfl rfl ?_
  refine gg_iload_n (pc := 11) E dX5_readsDeed_11 rfl rfl ?_
  refine gg_iconst (v := (-1)) (pc := 12) E dX5_readsDeed_12 (by decide) ?_
  refine gg_icmpB_eq (pc := 13) E dX5_readsDeed_13 dX5_readsDeed_16 dX5_readsDeed_17 dX5_readsDeed_20 ?_
  refine gg_iconst (v := 1) (pc := 21) E dX5_readsDeed_21 (by decide) ?_
  refine gg_callV (F := [_, _]) (As := [_, _]) (rest := []) (pc := 22) E ck_X5 (ct_X5_need hl ) (cwV 2 E.2.2.2.2.1 (lw_V q3013 q3015 qs78 q179 q3016) rfl rfl rfl (by decide +kernel) ⟨by rw [hRf]; exact Nat.le_of_ble_eq_true rfl, by rw [hRl]; exact Nat.le_of_ble_eq_true rfl⟩) dX5_readsDeed_22 [0] (by decide) rfl rfl (fun _ h => by cases h) (gg_i 0 rfl) rfl rfl (Nat.le_of_ble_eq_true rfl) (by first | (rw [hRc]; exact Nat.le_of_ble_eq_true rfl) | (rw [hRc]; dsimp only; omega)) (by first | (rw [hRs]; exact Nat.le_of_ble_eq_true rfl) | (rw [hRs]; dsimp only; omega)) ?_ (fun X q C1 h => h.elim)
  rintro _ _ ⟨rfl, rfl⟩
  dsimp only [List.cons_append, List.nil_append, Option.toList]
  refine gg_aload_n (pc := 25) E dX5_readsDeed_25 rfl rfl ?_
  refine gg_aload_n (pc := 26) E dX5_readsDeed_26 rfl rfl ?_
  refine gg_get (pc := 27) E ck_X5 23 q2882 rfl (by decide) dX5_readsDeed_27 (gg_i 0 rfl) rfl ?_
  refine gg_topI (y := nI dm) ((nd_out (by omega) (by omega)).trans hdm) ?_
  refine gg_bipush (v := 30) (pc := 30) E dX5_readsDeed_30 (by decide) ?_
  refine gg_icmpB_ge (pc := 32) E dX5_readsDeed_32 dX5_readsDeed_35 dX5_readsDeed_36 dX5_readsDeed_39 ?_
  refine gg_topI (y := if dm < 30 then 1 else 0) (gg_ifc (by rw [show (30 : Int32) = nI 30 from rfl, nI_leI (by omega) (by omega)]; omega)) ?_
  refine gg_iconst (v := 5) (pc := 40) E dX5_readsDeed_40 (by decide) ?_
  refine gg_callV (F := [_, _]) (As := [_, _]) (rest := []) (pc := 41) E ck_X5 (ct_X5_need hl ) (cwV 2 E.2.2.2.2.1 (lw_V q3013 q3015 qs78 q179 q3016) rfl rfl rfl (by decide +kernel) ⟨by rw [hRf]; exact Nat.le_of_ble_eq_true rfl, by rw [hRl]; exact Nat.le_of_ble_eq_true rfl⟩) dX5_readsDeed_41 [0] (by decide) rfl rfl (fun _ h => by cases h) (gg_i 0 rfl) rfl rfl (Nat.le_of_ble_eq_true rfl) (by first | (rw [hRc]; exact Nat.le_of_ble_eq_true rfl) | (rw [hRc]; dsimp only; omega)) (by first | (rw [hRs]; exact Nat.le_of_ble_eq_true rfl) | (rw [hRs]; dsimp only; omega)) ?_ (fun X q C1 h => h.elim)
  rintro _ _ ⟨rfl, rfl⟩
  dsimp only [List.cons_append, List.nil_append, Option.toList]
  refine gg_aload_n (pc := 44) E dX5_readsDeed_44 rfl rfl ?_
  refine gg_callV (F := [_, _]) (As := []) (rest := []) (pc := 45) E ck_X5 (cx_X5_goesOn hl (Xi_nd (k := 5) (by decide) (Xi_nd (k := 1) (by decide) hX))) (cwV 0 E.2.2.2.2.1 (lw_V q2984 q2986 qs72 q179 q2987) rfl rfl rfl (by decide +kernel) ⟨by rw [hRf]; exact Nat.le_of_ble_eq_true rfl, by rw [hRl]; exact Nat.le_of_ble_eq_true rfl⟩) dX5_readsDeed_45 [0] (by decide) rfl rfl (List.forall_mem_cons.mpr ⟨(gg_r 1 rfl), (fun _ h => by cases h)⟩) (gg_i 0 rfl) rfl rfl (Nat.le_of_ble_eq_true rfl) (by first | (rw [hRc]; exact Nat.le_of_ble_eq_true rfl) | (rw [hRc]; dsimp only; omega)) (by first | (rw [hRs]; exact Nat.le_of_ble_eq_true rfl) | (rw [hRs]; dsimp only; omega)) ?_ (fun X q C1 h => h.elim)
  rintro _ _ ⟨rfl, rfl⟩
  dsimp only [List.cons_append, List.nil_append, Option.toList]
  refine gg_cel (y := .inl (4, mo_f ad (rdA b bn dm x))) 0 rfl (congrArg (fun z : Nat → Int32 => (Sum.inl (4, mo_f ad z) : gg_E)) (show _ = rdA b bn dm x from rfl)) rfl ?_
  refine gg_aload_n (pc := 48) E dX5_readsDeed_48 rfl rfl ?_
  refine gg_get (pc := 49) E ck_X5 20 q2879 rfl (by decide) dX5_readsDeed_49 (gg_i 0 rfl) rfl ?_
  refine gg_if_le (tgt := 56) (pc := 52) E dX5_readsDeed_52 (by decide) (fun c52 => ?_) (fun c52 => ?_)
  · have hfz : rdA b bn dm x 20 = 0 := z_of (Xi_rdA hX).2.2.2.2.2.2 c52
    obtain ⟨hf0, hdm30, hk⟩ := rdA_0 hfz
    refine gg_bipush (v := 12) (pc := 56) E dX5_readsDeed_56 (by decide) ?_
    refine gg_aload_n (pc := 58) E dX5_readsDeed_58 rfl rfl ?_
    refine gg_get (pc := 59) E ck_X5 23 q2882 rfl (by decide) dX5_readsDeed_59 (gg_i 0 rfl) rfl ?_
    refine gg_topI (y := nI dm) (rdA_23.trans hdm) ?_
    refine gg_imulN (pc := 62) E 12 dm rfl rfl dX5_readsDeed_62 ?_
    refine gg_istore_n (lv' := [_, _, _, _]) (pc := 63) E dX5_readsDeed_63 rfl (Nat.le_of_ble_eq_true rfl) rfl rfl ?_
    refine gg_aload_n (pc := 64) E dX5_readsDeed_64 rfl rfl ?_
    refine gg_get (pc := 65) E ck_X5 22 q2881 rfl (by decide) dX5_readsDeed_65 (gg_i 0 rfl) rfl ?_
    refine gg_iload_n (pc := 68) E dX5_readsDeed_68 rfl rfl ?_
    refine gg_iload_n (pc := 69) E dX5_readsDeed_69 rfl rfl ?_
    refine gg_iastN (M' := [_, _, _]) (pc := 70) E (12 * dm) rfl (by omega) (by omega) dX5_readsDeed_70 2 rfl rfl ?_
    refine gg_iload_n (pc := 71) E dX5_readsDeed_71 rfl rfl ?_
    rcases hk with hk | hk | hk | hk | hk | hk
    · refine gg_topI (y := 0) hk ?_
      refine gg_tableIn (off := 36) (tgt := 108) (pc := 72) E dX5_readsDeed_72 (by decide) (by decide) rfl (by decide) ?_
      refine gg_cel (y := gg_ai g 360 (rdD b dm x D)) 2 rfl (congrArg (gg_ai g 360) (show _ = rdD b dm x D from rfl)) rfl ?_
      refine gg_aload_n (pc := 108) E dX5_readsDeed_108 rfl rfl ?_
      refine gg_get (pc := 109) E ck_X5 22 q2881 rfl (by decide) dX5_readsDeed_109 (gg_i 0 rfl) rfl ?_
      refine gg_iload_n (pc := 112) E dX5_readsDeed_112 rfl rfl ?_
      refine gg_iconst (v := 1) (pc := 113) E dX5_readsDeed_113 (by decide) ?_
      refine gg_iaddN (pc := 114) E (12 * dm) 1 rfl rfl dX5_readsDeed_114 ?_
      refine gg_aload_n (pc := 115) E dX5_readsDeed_115 rfl rfl ?_
      refine gg_iconst (v := (-1)) (pc := 116) E dX5_readsDeed_116 (by decide) ?_
      refine gg_callV (F := [_]) (As := [_]) (rest := [_, _]) (pc := 117) E ck_X5 (ct_X5_roofOfTextF hl (hnr) (hr10) ((Xi_rdA hX))) (cwV 1 E.2.2.2.2.1 (lw_V q3038 q3040 qs84 q179 q3041) rfl rfl rfl (by decide +kernel) ⟨by rw [hRf]; exact Nat.le_of_ble_eq_true rfl, by rw [hRl]; exact Nat.le_of_ble_eq_true rfl⟩) dX5_readsDeed_117 [0, 1] (by decide) rfl rfl (List.forall_mem_cons.mpr ⟨(gg_r 0 rfl), (List.forall_mem_cons.mpr ⟨(gg_r 1 rfl), (fun _ h => by cases h)⟩)⟩) (gg_i 0 rfl) rfl rfl (Nat.le_of_ble_eq_true rfl) (by first | (rw [hRc]; exact Nat.le_of_ble_eq_true rfl) | (rw [hRc]; dsimp only; omega)) (by first | (rw [hRs]; exact Nat.le_of_ble_eq_true rfl) | (rw [hRs]; dsimp only; omega)) ?_ (fun X q C1 h => h.elim)
      rintro _ _ ⟨rfl, rfl⟩
      dsimp only [List.cons_append, List.nil_append, Option.toList]
      refine gg_up1 ?_
      refine gg_up1 ?_
      refine gg_iastN (M' := [_, _, _]) (pc := 120) E (12 * dm + 1) rfl (by omega) (by omega) dX5_readsDeed_120 2 rfl rfl ?_
      refine gg_aload_n (pc := 121) E dX5_readsDeed_121 rfl rfl ?_
      refine gg_get (pc := 122) E ck_X5 22 q2881 rfl (by decide) dX5_readsDeed_122 (gg_i 0 rfl) rfl ?_
      refine gg_iload_n (pc := 125) E dX5_readsDeed_125 rfl rfl ?_
      refine gg_iconst (v := 2) (pc := 126) E dX5_readsDeed_126 (by decide) ?_
      refine gg_iaddN (pc := 127) E (12 * dm) 2 rfl rfl dX5_readsDeed_127 ?_
      refine gg_aload_n (pc := 128) E dX5_readsDeed_128 rfl rfl ?_
      refine gg_aload_n (pc := 129) E dX5_readsDeed_129 rfl rfl ?_
      refine gg_get (pc := 130) E ck_X5 22 q2881 rfl (by decide) dX5_readsDeed_130 (gg_i 0 rfl) rfl ?_
      refine gg_iload_n (pc := 133) E dX5_readsDeed_133 rfl rfl ?_
      refine gg_iconst (v := 1) (pc := 134) E dX5_readsDeed_134 (by decide) ?_
      refine gg_iaddN (pc := 135) E (12 * dm) 1 rfl rfl dX5_readsDeed_135 ?_
      refine gg_ialdN (pc := 136) E (12 * dm + 1) rfl (by omega) (by omega) dX5_readsDeed_136 (gg_i 2 rfl) ?_
      refine gg_topI (y := r1V row nr b sp (rdA b bn dm x)) (by exact pk_us) ?_
      refine gg_callV (F := [_]) (As := [_]) (rest := [_, _]) (pc := 137) E ck_X5 (ct_X5_roofOfTextF hl (hnr) (hr10) ((Xi_rt (Xi_rdA hX)))) (cwV 1 E.2.2.2.2.1 (lw_V q3038 q3040 qs84 q179 q3041) rfl rfl rfl (by decide +kernel) ⟨by rw [hRf]; exact Nat.le_of_ble_eq_true rfl, by rw [hRl]; exact Nat.le_of_ble_eq_true rfl⟩) dX5_readsDeed_137 [0, 1] (by decide) rfl rfl (List.forall_mem_cons.mpr ⟨(gg_r 0 rfl), (List.forall_mem_cons.mpr ⟨(gg_r 1 rfl), (fun _ h => by cases h)⟩)⟩) (gg_i 0 rfl) rfl rfl (Nat.le_of_ble_eq_true rfl) (by first | (rw [hRc]; exact Nat.le_of_ble_eq_true rfl) | (rw [hRc]; dsimp only; omega)) (by first | (rw [hRs]; exact Nat.le_of_ble_eq_true rfl) | (rw [hRs]; dsimp only; omega)) ?_ (fun X q C1 h => h.elim)
      rintro _ _ ⟨rfl, rfl⟩
      dsimp only [List.cons_append, List.nil_append, Option.toList]
      refine gg_up1 ?_
      refine gg_up1 ?_
      refine gg_iastN (M' := [_, _, _]) (pc := 140) E (12 * dm + 2) rfl (by omega) (by omega) dX5_readsDeed_140 2 rfl rfl ?_
      refine gg_aload_n (pc := 141) E dX5_readsDeed_141 rfl rfl ?_
      refine gg_iload_n (pc := 142) E dX5_readsDeed_142 rfl rfl ?_
      refine gg_callV (F := [_]) (As := [.int (nI (12 * dm))]) (rest := []) (pc := 143) E ck_X5 (ct_X5_readsNotes hl ((Xi_rt (Xi_rt (Xi_rdA hX)))) (by omega)) (cwV 1 E.2.2.2.2.1 (lw_V q3101 q3103 qs95 q179 q3104) rfl rfl rfl (by decide +kernel) ⟨by rw [hRf]; exact Nat.le_of_ble_eq_true rfl, by rw [hRl]; exact Nat.le_of_ble_eq_true rfl⟩) dX5_readsDeed_143 [0, 2] (by decide) rfl rfl (List.forall_mem_cons.mpr ⟨(gg_r 1 rfl), (fun _ h => by cases h)⟩) (gg_i 0 rfl) rfl rfl (Nat.le_of_ble_eq_true rfl) (by first | (rw [hRc]; exact Nat.le_of_ble_eq_true rfl) | (rw [hRc]; dsimp only; omega)) (by first | (rw [hRs]; exact Nat.le_of_ble_eq_true rfl) | (rw [hRs]; dsimp only; omega)) ?_ (fun X q C1 h => h.elim)
      rintro _ _ ⟨rfl, rfl⟩
      dsimp only [List.cons_append, List.nil_append, Option.toList]
      refine gg_up1 ?_
      refine gg_up2 ?_
      refine gg_goto (tgt := 264) (pc := 146) E dX5_readsDeed_146 (by decide) ?_
      refine gg_aload_n (pc := 264) E dX5_readsDeed_264 rfl rfl ?_
      refine gg_callV (F := [_, _]) (As := []) (rest := []) (pc := 265) E ck_X5 (ct_X5_semicolonF hl ((Xi_nt (Xi_rt (Xi_rt (Xi_rdA hX)))))) (cwV 0 E.2.2.2.2.1 (lw_V q3072 q3074 qs90 q179 q3075) rfl rfl rfl (by decide +kernel) ⟨by rw [hRf]; exact Nat.le_of_ble_eq_true rfl, by rw [hRl]; exact Nat.le_of_ble_eq_true rfl⟩) dX5_readsDeed_265 [0] (by decide) rfl rfl (List.forall_mem_cons.mpr ⟨(gg_r 1 rfl), (fun _ h => by cases h)⟩) (gg_i 0 rfl) rfl rfl (Nat.le_of_ble_eq_true rfl) (by first | (rw [hRc]; exact Nat.le_of_ble_eq_true rfl) | (rw [hRc]; dsimp only; omega)) (by first | (rw [hRs]; exact Nat.le_of_ble_eq_true rfl) | (rw [hRs]; dsimp only; omega)) ?_ (fun X q C1 h => h.elim)
      rintro _ _ ⟨rfl, rfl⟩
      dsimp only [List.cons_append, List.nil_append, Option.toList]
      have hB : rdB row nr b bn dm x sp D = rB0 row nr b bn dm x sp D := by
        unfold rdB
        rw [if_pos (Or.inl hk)]
      obtain ⟨Z, hZ⟩ : ∃ Z : Nat → Int32, Z = smX b bn (rdB row nr b bn dm x sp D).1 := ⟨_, rfl⟩
      refine gg_cel (y := .inl (4, mo_f ad Z)) 0 rfl (congrArg (fun z : Nat → Int32 => (Sum.inl (4, mo_f ad z) : gg_E)) (by rw [hZ, hB]; unfold rB0; (try dsimp only); (try unfold r2X r2V r1X r1V); (try unfold r1X r1V); (try rfl))) rfl ?_
      refine gg_aload_n (pc := 268) E dX5_readsDeed_268 rfl rfl ?_
      refine gg_dup (pc := 269) E dX5_readsDeed_269 rfl ?_
      refine gg_get (pc := 270) E ck_X5 23 q2882 rfl (by decide) dX5_readsDeed_270 (gg_i 0 rfl) rfl ?_
      refine gg_topI (y := nI dm) (by rw [hZ]; exact (sm_o (by omega) (by omega) (by omega) (by omega) (by omega) (by omega) ).trans ((rdB_o (by omega) (by omega) (by omega) (by omega) (by omega) (by omega) (by omega) ).trans hdm)) ?_
      refine gg_iconst (v := 1) (pc := 273) E dX5_readsDeed_273 (by decide) ?_
      refine gg_iaddN (pc := 274) E dm 1 rfl rfl dX5_readsDeed_274 ?_
      refine gg_putM (M' := [_, _, _]) (pc := 275) E ck_X5 23 q2882 rfl (by decide) dX5_readsDeed_275 0 rfl rfl (rfl) rfl (Nat.le_of_ble_eq_true rfl) rfl rfl ?_
      refine gg_vret (pc := 278) E Fn rfl dX5_readsDeed_278 (by first | exact Nat.le_of_ble_eq_true rfl | (dsimp only; omega)) (by first | exact Nat.le_of_ble_eq_true rfl | (dsimp only; omega)) ?_
      refine ⟨rfl, ?_⟩
      rw [rdT_y hfz]
      dsimp only
      rw [← hZ, hB]
      unfold rB0
      try dsimp only
      try unfold r2S r2X r2V r1X r1V
      try unfold r1X r1V
      try rfl
    · refine gg_topI (y := 1) hk ?_
      refine gg_tableIn (off := 36) (tgt := 108) (pc := 72) E dX5_readsDeed_72 (by decide) (by decide) rfl (by decide) ?_
      refine gg_cel (y := gg_ai g 360 (rdD b dm x D)) 2 rfl (congrArg (gg_ai g 360) (show _ = rdD b dm x D from rfl)) rfl ?_
      refine gg_aload_n (pc := 108) E dX5_readsDeed_108 rfl rfl ?_
      refine gg_get (pc := 109) E ck_X5 22 q2881 rfl (by decide) dX5_readsDeed_109 (gg_i 0 rfl) rfl ?_
      refine gg_iload_n (pc := 112) E dX5_readsDeed_112 rfl rfl ?_
      refine gg_iconst (v := 1) (pc := 113) E dX5_readsDeed_113 (by decide) ?_
      refine gg_iaddN (pc := 114) E (12 * dm) 1 rfl rfl dX5_readsDeed_114 ?_
      refine gg_aload_n (pc := 115) E dX5_readsDeed_115 rfl rfl ?_
      refine gg_iconst (v := (-1)) (pc := 116) E dX5_readsDeed_116 (by decide) ?_
      refine gg_callV (F := [_]) (As := [_]) (rest := [_, _]) (pc := 117) E ck_X5 (ct_X5_roofOfTextF hl (hnr) (hr10) ((Xi_rdA hX))) (cwV 1 E.2.2.2.2.1 (lw_V q3038 q3040 qs84 q179 q3041) rfl rfl rfl (by decide +kernel) ⟨by rw [hRf]; exact Nat.le_of_ble_eq_true rfl, by rw [hRl]; exact Nat.le_of_ble_eq_true rfl⟩) dX5_readsDeed_117 [0, 1] (by decide) rfl rfl (List.forall_mem_cons.mpr ⟨(gg_r 0 rfl), (List.forall_mem_cons.mpr ⟨(gg_r 1 rfl), (fun _ h => by cases h)⟩)⟩) (gg_i 0 rfl) rfl rfl (Nat.le_of_ble_eq_true rfl) (by first | (rw [hRc]; exact Nat.le_of_ble_eq_true rfl) | (rw [hRc]; dsimp only; omega)) (by first | (rw [hRs]; exact Nat.le_of_ble_eq_true rfl) | (rw [hRs]; dsimp only; omega)) ?_ (fun X q C1 h => h.elim)
      rintro _ _ ⟨rfl, rfl⟩
      dsimp only [List.cons_append, List.nil_append, Option.toList]
      refine gg_up1 ?_
      refine gg_up1 ?_
      refine gg_iastN (M' := [_, _, _]) (pc := 120) E (12 * dm + 1) rfl (by omega) (by omega) dX5_readsDeed_120 2 rfl rfl ?_
      refine gg_aload_n (pc := 121) E dX5_readsDeed_121 rfl rfl ?_
      refine gg_get (pc := 122) E ck_X5 22 q2881 rfl (by decide) dX5_readsDeed_122 (gg_i 0 rfl) rfl ?_
      refine gg_iload_n (pc := 125) E dX5_readsDeed_125 rfl rfl ?_
      refine gg_iconst (v := 2) (pc := 126) E dX5_readsDeed_126 (by decide) ?_
      refine gg_iaddN (pc := 127) E (12 * dm) 2 rfl rfl dX5_readsDeed_127 ?_
      refine gg_aload_n (pc := 128) E dX5_readsDeed_128 rfl rfl ?_
      refine gg_aload_n (pc := 129) E dX5_readsDeed_129 rfl rfl ?_
      refine gg_get (pc := 130) E ck_X5 22 q2881 rfl (by decide) dX5_readsDeed_130 (gg_i 0 rfl) rfl ?_
      refine gg_iload_n (pc := 133) E dX5_readsDeed_133 rfl rfl ?_
      refine gg_iconst (v := 1) (pc := 134) E dX5_readsDeed_134 (by decide) ?_
      refine gg_iaddN (pc := 135) E (12 * dm) 1 rfl rfl dX5_readsDeed_135 ?_
      refine gg_ialdN (pc := 136) E (12 * dm + 1) rfl (by omega) (by omega) dX5_readsDeed_136 (gg_i 2 rfl) ?_
      refine gg_topI (y := r1V row nr b sp (rdA b bn dm x)) (by exact pk_us) ?_
      refine gg_callV (F := [_]) (As := [_]) (rest := [_, _]) (pc := 137) E ck_X5 (ct_X5_roofOfTextF hl (hnr) (hr10) ((Xi_rt (Xi_rdA hX)))) (cwV 1 E.2.2.2.2.1 (lw_V q3038 q3040 qs84 q179 q3041) rfl rfl rfl (by decide +kernel) ⟨by rw [hRf]; exact Nat.le_of_ble_eq_true rfl, by rw [hRl]; exact Nat.le_of_ble_eq_true rfl⟩) dX5_readsDeed_137 [0, 1] (by decide) rfl rfl (List.forall_mem_cons.mpr ⟨(gg_r 0 rfl), (List.forall_mem_cons.mpr ⟨(gg_r 1 rfl), (fun _ h => by cases h)⟩)⟩) (gg_i 0 rfl) rfl rfl (Nat.le_of_ble_eq_true rfl) (by first | (rw [hRc]; exact Nat.le_of_ble_eq_true rfl) | (rw [hRc]; dsimp only; omega)) (by first | (rw [hRs]; exact Nat.le_of_ble_eq_true rfl) | (rw [hRs]; dsimp only; omega)) ?_ (fun X q C1 h => h.elim)
      rintro _ _ ⟨rfl, rfl⟩
      dsimp only [List.cons_append, List.nil_append, Option.toList]
      refine gg_up1 ?_
      refine gg_up1 ?_
      refine gg_iastN (M' := [_, _, _]) (pc := 140) E (12 * dm + 2) rfl (by omega) (by omega) dX5_readsDeed_140 2 rfl rfl ?_
      refine gg_aload_n (pc := 141) E dX5_readsDeed_141 rfl rfl ?_
      refine gg_iload_n (pc := 142) E dX5_readsDeed_142 rfl rfl ?_
      refine gg_callV (F := [_]) (As := [.int (nI (12 * dm))]) (rest := []) (pc := 143) E ck_X5 (ct_X5_readsNotes hl ((Xi_rt (Xi_rt (Xi_rdA hX)))) (by omega)) (cwV 1 E.2.2.2.2.1 (lw_V q3101 q3103 qs95 q179 q3104) rfl rfl rfl (by decide +kernel) ⟨by rw [hRf]; exact Nat.le_of_ble_eq_true rfl, by rw [hRl]; exact Nat.le_of_ble_eq_true rfl⟩) dX5_readsDeed_143 [0, 2] (by decide) rfl rfl (List.forall_mem_cons.mpr ⟨(gg_r 1 rfl), (fun _ h => by cases h)⟩) (gg_i 0 rfl) rfl rfl (Nat.le_of_ble_eq_true rfl) (by first | (rw [hRc]; exact Nat.le_of_ble_eq_true rfl) | (rw [hRc]; dsimp only; omega)) (by first | (rw [hRs]; exact Nat.le_of_ble_eq_true rfl) | (rw [hRs]; dsimp only; omega)) ?_ (fun X q C1 h => h.elim)
      rintro _ _ ⟨rfl, rfl⟩
      dsimp only [List.cons_append, List.nil_append, Option.toList]
      refine gg_up1 ?_
      refine gg_up2 ?_
      refine gg_goto (tgt := 264) (pc := 146) E dX5_readsDeed_146 (by decide) ?_
      refine gg_aload_n (pc := 264) E dX5_readsDeed_264 rfl rfl ?_
      refine gg_callV (F := [_, _]) (As := []) (rest := []) (pc := 265) E ck_X5 (ct_X5_semicolonF hl ((Xi_nt (Xi_rt (Xi_rt (Xi_rdA hX)))))) (cwV 0 E.2.2.2.2.1 (lw_V q3072 q3074 qs90 q179 q3075) rfl rfl rfl (by decide +kernel) ⟨by rw [hRf]; exact Nat.le_of_ble_eq_true rfl, by rw [hRl]; exact Nat.le_of_ble_eq_true rfl⟩) dX5_readsDeed_265 [0] (by decide) rfl rfl (List.forall_mem_cons.mpr ⟨(gg_r 1 rfl), (fun _ h => by cases h)⟩) (gg_i 0 rfl) rfl rfl (Nat.le_of_ble_eq_true rfl) (by first | (rw [hRc]; exact Nat.le_of_ble_eq_true rfl) | (rw [hRc]; dsimp only; omega)) (by first | (rw [hRs]; exact Nat.le_of_ble_eq_true rfl) | (rw [hRs]; dsimp only; omega)) ?_ (fun X q C1 h => h.elim)
      rintro _ _ ⟨rfl, rfl⟩
      dsimp only [List.cons_append, List.nil_append, Option.toList]
      have hB : rdB row nr b bn dm x sp D = rB0 row nr b bn dm x sp D := by
        unfold rdB
        rw [if_pos (Or.inr hk)]
      obtain ⟨Z, hZ⟩ : ∃ Z : Nat → Int32, Z = smX b bn (rdB row nr b bn dm x sp D).1 := ⟨_, rfl⟩
      refine gg_cel (y := .inl (4, mo_f ad Z)) 0 rfl (congrArg (fun z : Nat → Int32 => (Sum.inl (4, mo_f ad z) : gg_E)) (by rw [hZ, hB]; unfold rB0; (try dsimp only); (try unfold r2X r2V r1X r1V); (try unfold r1X r1V); (try rfl))) rfl ?_
      refine gg_aload_n (pc := 268) E dX5_readsDeed_268 rfl rfl ?_
      refine gg_dup (pc := 269) E dX5_readsDeed_269 rfl ?_
      refine gg_get (pc := 270) E ck_X5 23 q2882 rfl (by decide) dX5_readsDeed_270 (gg_i 0 rfl) rfl ?_
      refine gg_topI (y := nI dm) (by rw [hZ]; exact (sm_o (by omega) (by omega) (by omega) (by omega) (by omega) (by omega) ).trans ((rdB_o (by omega) (by omega) (by omega) (by omega) (by omega) (by omega) (by omega) ).trans hdm)) ?_
      refine gg_iconst (v := 1) (pc := 273) E dX5_readsDeed_273 (by decide) ?_
      refine gg_iaddN (pc := 274) E dm 1 rfl rfl dX5_readsDeed_274 ?_
      refine gg_putM (M' := [_, _, _]) (pc := 275) E ck_X5 23 q2882 rfl (by decide) dX5_readsDeed_275 0 rfl rfl (rfl) rfl (Nat.le_of_ble_eq_true rfl) rfl rfl ?_
      refine gg_vret (pc := 278) E Fn rfl dX5_readsDeed_278 (by first | exact Nat.le_of_ble_eq_true rfl | (dsimp only; omega)) (by first | exact Nat.le_of_ble_eq_true rfl | (dsimp only; omega)) ?_
      refine ⟨rfl, ?_⟩
      rw [rdT_y hfz]
      dsimp only
      rw [← hZ, hB]
      unfold rB0
      try dsimp only
      try unfold r2S r2X r2V r1X r1V
      try unfold r1X r1V
      try rfl
    · refine gg_topI (y := 2) hk ?_
      refine gg_tableIn (off := 77) (tgt := 149) (pc := 72) E dX5_readsDeed_72 (by decide) (by decide) rfl (by decide) ?_
      refine gg_cel (y := gg_ai g 360 (rdD b dm x D)) 2 rfl (congrArg (gg_ai g 360) (show _ = rdD b dm x D from rfl)) rfl ?_
      refine gg_aload_n (pc := 149) E dX5_readsDeed_149 rfl rfl ?_
      refine gg_get (pc := 150) E ck_X5 22 q2881 rfl (by decide) dX5_readsDeed_150 (gg_i 0 rfl) rfl ?_
      refine gg_iload_n (pc := 153) E dX5_readsDeed_153 rfl rfl ?_
      refine gg_iconst (v := 1) (pc := 154) E dX5_readsDeed_154 (by decide) ?_
      refine gg_iaddN (pc := 155) E (12 * dm) 1 rfl rfl dX5_readsDeed_155 ?_
      refine gg_aload_n (pc := 156) E dX5_readsDeed_156 rfl rfl ?_
      refine gg_iconst (v := 1) (pc := 157) E dX5_readsDeed_157 (by decide) ?_
      refine gg_sipush (v := 200) (pc := 158) E dX5_readsDeed_158 (by decide) ?_
      refine gg_callV (F := [_, _]) (As := [_, _]) (rest := [_, _]) (pc := 161) E ck_X5 (ct_X5_numberF hl ((Xi_rdA hX))) (cwV 2 E.2.2.2.2.1 (lw_V q3025 q3027 qs81 q179 q3028) rfl rfl rfl (by decide +kernel) ⟨by rw [hRf]; exact Nat.le_of_ble_eq_true rfl, by rw [hRl]; exact Nat.le_of_ble_eq_true rfl⟩) dX5_readsDeed_161 [0] (by decide) rfl rfl (List.forall_mem_cons.mpr ⟨(gg_r 1 rfl), (fun _ h => by cases h)⟩) (gg_i 0 rfl) rfl rfl (Nat.le_of_ble_eq_true rfl) (by first | (rw [hRc]; exact Nat.le_of_ble_eq_true rfl) | (rw [hRc]; dsimp only; omega)) (by first | (rw [hRs]; exact Nat.le_of_ble_eq_true rfl) | (rw [hRs]; dsimp only; omega)) ?_ (fun X q C1 h => h.elim)
      rintro _ _ ⟨rfl, rfl⟩
      dsimp only [List.cons_append, List.nil_append, Option.toList]
      refine gg_iastN (M' := [_, _, _]) (pc := 164) E (12 * dm + 1) rfl (by omega) (by omega) dX5_readsDeed_164 2 rfl rfl ?_
      refine gg_goto (tgt := 264) (pc := 165) E dX5_readsDeed_165 (by decide) ?_
      refine gg_aload_n (pc := 264) E dX5_readsDeed_264 rfl rfl ?_
      refine gg_callV (F := [_, _]) (As := []) (rest := []) (pc := 265) E ck_X5 (ct_X5_semicolonF hl ((Xi_num (Xi_rdA hX)))) (cwV 0 E.2.2.2.2.1 (lw_V q3072 q3074 qs90 q179 q3075) rfl rfl rfl (by decide +kernel) ⟨by rw [hRf]; exact Nat.le_of_ble_eq_true rfl, by rw [hRl]; exact Nat.le_of_ble_eq_true rfl⟩) dX5_readsDeed_265 [0] (by decide) rfl rfl (List.forall_mem_cons.mpr ⟨(gg_r 1 rfl), (fun _ h => by cases h)⟩) (gg_i 0 rfl) rfl rfl (Nat.le_of_ble_eq_true rfl) (by first | (rw [hRc]; exact Nat.le_of_ble_eq_true rfl) | (rw [hRc]; dsimp only; omega)) (by first | (rw [hRs]; exact Nat.le_of_ble_eq_true rfl) | (rw [hRs]; dsimp only; omega)) ?_ (fun X q C1 h => h.elim)
      rintro _ _ ⟨rfl, rfl⟩
      dsimp only [List.cons_append, List.nil_append, Option.toList]
      have hB : rdB row nr b bn dm x sp D = rB2 row nr b bn dm x sp D := by
        unfold rdB
        rw [if_neg (show ¬ (kdH x b (Fm x) (Ln x) = 0 ∨ kdH x b (Fm x) (Ln x) = 1) from fun q => q.elim (fun z => absurd (hk.symm.trans z) (by decide)) (fun z => absurd (hk.symm.trans z) (by decide))), if_pos hk]
      obtain ⟨Z, hZ⟩ : ∃ Z : Nat → Int32, Z = smX b bn (rdB row nr b bn dm x sp D).1 := ⟨_, rfl⟩
      refine gg_cel (y := .inl (4, mo_f ad Z)) 0 rfl (congrArg (fun z : Nat → Int32 => (Sum.inl (4, mo_f ad z) : gg_E)) (by rw [hZ, hB]; unfold rB2; (try dsimp only); (try unfold r2X r2V r1X r1V); (try unfold r1X r1V); (try rfl))) rfl ?_
      refine gg_aload_n (pc := 268) E dX5_readsDeed_268 rfl rfl ?_
      refine gg_dup (pc := 269) E dX5_readsDeed_269 rfl ?_
      refine gg_get (pc := 270) E ck_X5 23 q2882 rfl (by decide) dX5_readsDeed_270 (gg_i 0 rfl) rfl ?_
      refine gg_topI (y := nI dm) (by rw [hZ]; exact (sm_o (by omega) (by omega) (by omega) (by omega) (by omega) (by omega) ).trans ((rdB_o (by omega) (by omega) (by omega) (by omega) (by omega) (by omega) (by omega) ).trans hdm)) ?_
      refine gg_iconst (v := 1) (pc := 273) E dX5_readsDeed_273 (by decide) ?_
      refine gg_iaddN (pc := 274) E dm 1 rfl rfl dX5_readsDeed_274 ?_
      refine gg_putM (M' := [_, _, _]) (pc := 275) E ck_X5 23 q2882 rfl (by decide) dX5_readsDeed_275 0 rfl rfl (rfl) rfl (Nat.le_of_ble_eq_true rfl) rfl rfl ?_
      refine gg_vret (pc := 278) E Fn rfl dX5_readsDeed_278 (by first | exact Nat.le_of_ble_eq_true rfl | (dsimp only; omega)) (by first | exact Nat.le_of_ble_eq_true rfl | (dsimp only; omega)) ?_
      refine ⟨rfl, ?_⟩
      rw [rdT_y hfz]
      dsimp only
      rw [← hZ, hB]
      unfold rB2
      try dsimp only
      try unfold r2S r2X r2V r1X r1V
      try unfold r1X r1V
      try rfl
    · refine gg_topI (y := 3) hk ?_
      refine gg_tableIn (off := 96) (tgt := 168) (pc := 72) E dX5_readsDeed_72 (by decide) (by decide) rfl (by decide) ?_
      refine gg_cel (y := gg_ai g 360 (rdD b dm x D)) 2 rfl (congrArg (gg_ai g 360) (show _ = rdD b dm x D from rfl)) rfl ?_
      refine gg_aload_n (pc := 168) E dX5_readsDeed_168 rfl rfl ?_
      refine gg_get (pc := 169) E ck_X5 22 q2881 rfl (by decide) dX5_readsDeed_169 (gg_i 0 rfl) rfl ?_
      refine gg_iload_n (pc := 172) E dX5_readsDeed_172 rfl rfl ?_
      refine gg_iconst (v := 1) (pc := 173) E dX5_readsDeed_173 (by decide) ?_
      refine gg_iaddN (pc := 174) E (12 * dm) 1 rfl rfl dX5_readsDeed_174 ?_
      refine gg_aload_n (pc := 175) E dX5_readsDeed_175 rfl rfl ?_
      refine gg_iconst (v := (-1)) (pc := 176) E dX5_readsDeed_176 (by decide) ?_
      refine gg_callV (F := [_]) (As := [_]) (rest := [_, _]) (pc := 177) E ck_X5 (ct_X5_roofOfTextF hl (hnr) (hr10) ((Xi_rdA hX))) (cwV 1 E.2.2.2.2.1 (lw_V q3038 q3040 qs84 q179 q3041) rfl rfl rfl (by decide +kernel) ⟨by rw [hRf]; exact Nat.le_of_ble_eq_true rfl, by rw [hRl]; exact Nat.le_of_ble_eq_true rfl⟩) dX5_readsDeed_177 [0, 1] (by decide) rfl rfl (List.forall_mem_cons.mpr ⟨(gg_r 0 rfl), (List.forall_mem_cons.mpr ⟨(gg_r 1 rfl), (fun _ h => by cases h)⟩)⟩) (gg_i 0 rfl) rfl rfl (Nat.le_of_ble_eq_true rfl) (by first | (rw [hRc]; exact Nat.le_of_ble_eq_true rfl) | (rw [hRc]; dsimp only; omega)) (by first | (rw [hRs]; exact Nat.le_of_ble_eq_true rfl) | (rw [hRs]; dsimp only; omega)) ?_ (fun X q C1 h => h.elim)
      rintro _ _ ⟨rfl, rfl⟩
      dsimp only [List.cons_append, List.nil_append, Option.toList]
      refine gg_up1 ?_
      refine gg_up1 ?_
      refine gg_iastN (M' := [_, _, _]) (pc := 180) E (12 * dm + 1) rfl (by omega) (by omega) dX5_readsDeed_180 2 rfl rfl ?_
      refine gg_aload_n (pc := 181) E dX5_readsDeed_181 rfl rfl ?_
      refine gg_get (pc := 182) E ck_X5 22 q2881 rfl (by decide) dX5_readsDeed_182 (gg_i 0 rfl) rfl ?_
      refine gg_iload_n (pc := 185) E dX5_readsDeed_185 rfl rfl ?_
      refine gg_iconst (v := 2) (pc := 186) E dX5_readsDeed_186 (by decide) ?_
      refine gg_iaddN (pc := 187) E (12 * dm) 2 rfl rfl dX5_readsDeed_187 ?_
      refine gg_aload_n (pc := 188) E dX5_readsDeed_188 rfl rfl ?_
      refine gg_iconst (v := 1) (pc := 189) E dX5_readsDeed_189 (by decide) ?_
      refine gg_bipush (v := 99) (pc := 190) E dX5_readsDeed_190 (by decide) ?_
      refine gg_callV (F := [_, _]) (As := [_, _]) (rest := [_, _]) (pc := 192) E ck_X5 (ct_X5_numberF hl ((Xi_rt (Xi_rdA hX)))) (cwV 2 E.2.2.2.2.1 (lw_V q3025 q3027 qs81 q179 q3028) rfl rfl rfl (by decide +kernel) ⟨by rw [hRf]; exact Nat.le_of_ble_eq_true rfl, by rw [hRl]; exact Nat.le_of_ble_eq_true rfl⟩) dX5_readsDeed_192 [0] (by decide) rfl rfl (List.forall_mem_cons.mpr ⟨(gg_r 1 rfl), (fun _ h => by cases h)⟩) (gg_i 0 rfl) rfl rfl (Nat.le_of_ble_eq_true rfl) (by first | (rw [hRc]; exact Nat.le_of_ble_eq_true rfl) | (rw [hRc]; dsimp only; omega)) (by first | (rw [hRs]; exact Nat.le_of_ble_eq_true rfl) | (rw [hRs]; dsimp only; omega)) ?_ (fun X q C1 h => h.elim)
      rintro _ _ ⟨rfl, rfl⟩
      dsimp only [List.cons_append, List.nil_append, Option.toList]
      refine gg_iastN (M' := [_, _, _]) (pc := 195) E (12 * dm + 2) rfl (by omega) (by omega) dX5_readsDeed_195 2 rfl rfl ?_
      refine gg_goto (tgt := 264) (pc := 196) E dX5_readsDeed_196 (by decide) ?_
      refine gg_aload_n (pc := 264) E dX5_readsDeed_264 rfl rfl ?_
      refine gg_callV (F := [_, _]) (As := []) (rest := []) (pc := 265) E ck_X5 (ct_X5_semicolonF hl ((Xi_num (Xi_rt (Xi_rdA hX))))) (cwV 0 E.2.2.2.2.1 (lw_V q3072 q3074 qs90 q179 q3075) rfl rfl rfl (by decide +kernel) ⟨by rw [hRf]; exact Nat.le_of_ble_eq_true rfl, by rw [hRl]; exact Nat.le_of_ble_eq_true rfl⟩) dX5_readsDeed_265 [0] (by decide) rfl rfl (List.forall_mem_cons.mpr ⟨(gg_r 1 rfl), (fun _ h => by cases h)⟩) (gg_i 0 rfl) rfl rfl (Nat.le_of_ble_eq_true rfl) (by first | (rw [hRc]; exact Nat.le_of_ble_eq_true rfl) | (rw [hRc]; dsimp only; omega)) (by first | (rw [hRs]; exact Nat.le_of_ble_eq_true rfl) | (rw [hRs]; dsimp only; omega)) ?_ (fun X q C1 h => h.elim)
      rintro _ _ ⟨rfl, rfl⟩
      dsimp only [List.cons_append, List.nil_append, Option.toList]
      have hB : rdB row nr b bn dm x sp D = rB3 row nr b bn dm x sp D := by
        unfold rdB
        rw [if_neg (show ¬ (kdH x b (Fm x) (Ln x) = 0 ∨ kdH x b (Fm x) (Ln x) = 1) from fun q => q.elim (fun z => absurd (hk.symm.trans z) (by decide)) (fun z => absurd (hk.symm.trans z) (by decide))), if_neg (show ¬ kdH x b (Fm x) (Ln x) = 2 from fun q => absurd (hk.symm.trans q) (by decide)), if_pos hk]
      obtain ⟨Z, hZ⟩ : ∃ Z : Nat → Int32, Z = smX b bn (rdB row nr b bn dm x sp D).1 := ⟨_, rfl⟩
      refine gg_cel (y := .inl (4, mo_f ad Z)) 0 rfl (congrArg (fun z : Nat → Int32 => (Sum.inl (4, mo_f ad z) : gg_E)) (by rw [hZ, hB]; unfold rB3; (try dsimp only); (try unfold r2X r2V r1X r1V); (try unfold r1X r1V); (try rfl))) rfl ?_
      refine gg_aload_n (pc := 268) E dX5_readsDeed_268 rfl rfl ?_
      refine gg_dup (pc := 269) E dX5_readsDeed_269 rfl ?_
      refine gg_get (pc := 270) E ck_X5 23 q2882 rfl (by decide) dX5_readsDeed_270 (gg_i 0 rfl) rfl ?_
      refine gg_topI (y := nI dm) (by rw [hZ]; exact (sm_o (by omega) (by omega) (by omega) (by omega) (by omega) (by omega) ).trans ((rdB_o (by omega) (by omega) (by omega) (by omega) (by omega) (by omega) (by omega) ).trans hdm)) ?_
      refine gg_iconst (v := 1) (pc := 273) E dX5_readsDeed_273 (by decide) ?_
      refine gg_iaddN (pc := 274) E dm 1 rfl rfl dX5_readsDeed_274 ?_
      refine gg_putM (M' := [_, _, _]) (pc := 275) E ck_X5 23 q2882 rfl (by decide) dX5_readsDeed_275 0 rfl rfl (rfl) rfl (Nat.le_of_ble_eq_true rfl) rfl rfl ?_
      refine gg_vret (pc := 278) E Fn rfl dX5_readsDeed_278 (by first | exact Nat.le_of_ble_eq_true rfl | (dsimp only; omega)) (by first | exact Nat.le_of_ble_eq_true rfl | (dsimp only; omega)) ?_
      refine ⟨rfl, ?_⟩
      rw [rdT_y hfz]
      dsimp only
      rw [← hZ, hB]
      unfold rB3
      try dsimp only
      try unfold r2S r2X r2V r1X r1V
      try unfold r1X r1V
      try rfl
    · refine gg_topI (y := 4) hk ?_
      refine gg_tableIn (off := 127) (tgt := 199) (pc := 72) E dX5_readsDeed_72 (by decide) (by decide) rfl (by decide) ?_
      refine gg_cel (y := gg_ai g 360 (rdD b dm x D)) 2 rfl (congrArg (gg_ai g 360) (show _ = rdD b dm x D from rfl)) rfl ?_
      refine gg_aload_n (pc := 199) E dX5_readsDeed_199 rfl rfl ?_
      refine gg_get (pc := 200) E ck_X5 22 q2881 rfl (by decide) dX5_readsDeed_200 (gg_i 0 rfl) rfl ?_
      refine gg_iload_n (pc := 203) E dX5_readsDeed_203 rfl rfl ?_
      refine gg_iconst (v := 1) (pc := 204) E dX5_readsDeed_204 (by decide) ?_
      refine gg_iaddN (pc := 205) E (12 * dm) 1 rfl rfl dX5_readsDeed_205 ?_
      refine gg_aload_n (pc := 206) E dX5_readsDeed_206 rfl rfl ?_
      refine gg_iconst (v := (-1)) (pc := 207) E dX5_readsDeed_207 (by decide) ?_
      refine gg_callV (F := [_]) (As := [_]) (rest := [_, _]) (pc := 208) E ck_X5 (ct_X5_roofOfTextF hl (hnr) (hr10) ((Xi_rdA hX))) (cwV 1 E.2.2.2.2.1 (lw_V q3038 q3040 qs84 q179 q3041) rfl rfl rfl (by decide +kernel) ⟨by rw [hRf]; exact Nat.le_of_ble_eq_true rfl, by rw [hRl]; exact Nat.le_of_ble_eq_true rfl⟩) dX5_readsDeed_208 [0, 1] (by decide) rfl rfl (List.forall_mem_cons.mpr ⟨(gg_r 0 rfl), (List.forall_mem_cons.mpr ⟨(gg_r 1 rfl), (fun _ h => by cases h)⟩)⟩) (gg_i 0 rfl) rfl rfl (Nat.le_of_ble_eq_true rfl) (by first | (rw [hRc]; exact Nat.le_of_ble_eq_true rfl) | (rw [hRc]; dsimp only; omega)) (by first | (rw [hRs]; exact Nat.le_of_ble_eq_true rfl) | (rw [hRs]; dsimp only; omega)) ?_ (fun X q C1 h => h.elim)
      rintro _ _ ⟨rfl, rfl⟩
      dsimp only [List.cons_append, List.nil_append, Option.toList]
      refine gg_up1 ?_
      refine gg_up1 ?_
      refine gg_iastN (M' := [_, _, _]) (pc := 211) E (12 * dm + 1) rfl (by omega) (by omega) dX5_readsDeed_211 2 rfl rfl ?_
      refine gg_aload_n (pc := 212) E dX5_readsDeed_212 rfl rfl ?_
      refine gg_get (pc := 213) E ck_X5 22 q2881 rfl (by decide) dX5_readsDeed_213 (gg_i 0 rfl) rfl ?_
      refine gg_iload_n (pc := 216) E dX5_readsDeed_216 rfl rfl ?_
      refine gg_iconst (v := 2) (pc := 217) E dX5_readsDeed_217 (by decide) ?_
      refine gg_iaddN (pc := 218) E (12 * dm) 2 rfl rfl dX5_readsDeed_218 ?_
      refine gg_aload_n (pc := 219) E dX5_readsDeed_219 rfl rfl ?_
      refine gg_aload_n (pc := 220) E dX5_readsDeed_220 rfl rfl ?_
      refine gg_get (pc := 221) E ck_X5 22 q2881 rfl (by decide) dX5_readsDeed_221 (gg_i 0 rfl) rfl ?_
      refine gg_iload_n (pc := 224) E dX5_readsDeed_224 rfl rfl ?_
      refine gg_iconst (v := 1) (pc := 225) E dX5_readsDeed_225 (by decide) ?_
      refine gg_iaddN (pc := 226) E (12 * dm) 1 rfl rfl dX5_readsDeed_226 ?_
      refine gg_ialdN (pc := 227) E (12 * dm + 1) rfl (by omega) (by omega) dX5_readsDeed_227 (gg_i 2 rfl) ?_
      refine gg_topI (y := r1V row nr b sp (rdA b bn dm x)) (by exact pk_us) ?_
      refine gg_callV (F := [_]) (As := [_]) (rest := [_, _]) (pc := 228) E ck_X5 (ct_X5_roofOfTextF hl (hnr) (hr10) ((Xi_rt (Xi_rdA hX)))) (cwV 1 E.2.2.2.2.1 (lw_V q3038 q3040 qs84 q179 q3041) rfl rfl rfl (by decide +kernel) ⟨by rw [hRf]; exact Nat.le_of_ble_eq_true rfl, by rw [hRl]; exact Nat.le_of_ble_eq_true rfl⟩) dX5_readsDeed_228 [0, 1] (by decide) rfl rfl (List.forall_mem_cons.mpr ⟨(gg_r 0 rfl), (List.forall_mem_cons.mpr ⟨(gg_r 1 rfl), (fun _ h => by cases h)⟩)⟩) (gg_i 0 rfl) rfl rfl (Nat.le_of_ble_eq_true rfl) (by first | (rw [hRc]; exact Nat.le_of_ble_eq_true rfl) | (rw [hRc]; dsimp only; omega)) (by first | (rw [hRs]; exact Nat.le_of_ble_eq_true rfl) | (rw [hRs]; dsimp only; omega)) ?_ (fun X q C1 h => h.elim)
      rintro _ _ ⟨rfl, rfl⟩
      dsimp only [List.cons_append, List.nil_append, Option.toList]
      refine gg_up1 ?_
      refine gg_up1 ?_
      refine gg_iastN (M' := [_, _, _]) (pc := 231) E (12 * dm + 2) rfl (by omega) (by omega) dX5_readsDeed_231 2 rfl rfl ?_
      refine gg_goto (tgt := 264) (pc := 232) E dX5_readsDeed_232 (by decide) ?_
      refine gg_aload_n (pc := 264) E dX5_readsDeed_264 rfl rfl ?_
      refine gg_callV (F := [_, _]) (As := []) (rest := []) (pc := 265) E ck_X5 (ct_X5_semicolonF hl ((Xi_rt (Xi_rt (Xi_rdA hX))))) (cwV 0 E.2.2.2.2.1 (lw_V q3072 q3074 qs90 q179 q3075) rfl rfl rfl (by decide +kernel) ⟨by rw [hRf]; exact Nat.le_of_ble_eq_true rfl, by rw [hRl]; exact Nat.le_of_ble_eq_true rfl⟩) dX5_readsDeed_265 [0] (by decide) rfl rfl (List.forall_mem_cons.mpr ⟨(gg_r 1 rfl), (fun _ h => by cases h)⟩) (gg_i 0 rfl) rfl rfl (Nat.le_of_ble_eq_true rfl) (by first | (rw [hRc]; exact Nat.le_of_ble_eq_true rfl) | (rw [hRc]; dsimp only; omega)) (by first | (rw [hRs]; exact Nat.le_of_ble_eq_true rfl) | (rw [hRs]; dsimp only; omega)) ?_ (fun X q C1 h => h.elim)
      rintro _ _ ⟨rfl, rfl⟩
      dsimp only [List.cons_append, List.nil_append, Option.toList]
      have hB : rdB row nr b bn dm x sp D = rB4 row nr b bn dm x sp D := by
        unfold rdB
        rw [if_neg (show ¬ (kdH x b (Fm x) (Ln x) = 0 ∨ kdH x b (Fm x) (Ln x) = 1) from fun q => q.elim (fun z => absurd (hk.symm.trans z) (by decide)) (fun z => absurd (hk.symm.trans z) (by decide))), if_neg (show ¬ kdH x b (Fm x) (Ln x) = 2 from fun q => absurd (hk.symm.trans q) (by decide)), if_neg (show ¬ kdH x b (Fm x) (Ln x) = 3 from fun q => absurd (hk.symm.trans q) (by decide)), if_pos hk]
      obtain ⟨Z, hZ⟩ : ∃ Z : Nat → Int32, Z = smX b bn (rdB row nr b bn dm x sp D).1 := ⟨_, rfl⟩
      refine gg_cel (y := .inl (4, mo_f ad Z)) 0 rfl (congrArg (fun z : Nat → Int32 => (Sum.inl (4, mo_f ad z) : gg_E)) (by rw [hZ, hB]; unfold rB4; (try dsimp only); (try unfold r2X r2V r1X r1V); (try unfold r1X r1V); (try rfl))) rfl ?_
      refine gg_aload_n (pc := 268) E dX5_readsDeed_268 rfl rfl ?_
      refine gg_dup (pc := 269) E dX5_readsDeed_269 rfl ?_
      refine gg_get (pc := 270) E ck_X5 23 q2882 rfl (by decide) dX5_readsDeed_270 (gg_i 0 rfl) rfl ?_
      refine gg_topI (y := nI dm) (by rw [hZ]; exact (sm_o (by omega) (by omega) (by omega) (by omega) (by omega) (by omega) ).trans ((rdB_o (by omega) (by omega) (by omega) (by omega) (by omega) (by omega) (by omega) ).trans hdm)) ?_
      refine gg_iconst (v := 1) (pc := 273) E dX5_readsDeed_273 (by decide) ?_
      refine gg_iaddN (pc := 274) E dm 1 rfl rfl dX5_readsDeed_274 ?_
      refine gg_putM (M' := [_, _, _]) (pc := 275) E ck_X5 23 q2882 rfl (by decide) dX5_readsDeed_275 0 rfl rfl (rfl) rfl (Nat.le_of_ble_eq_true rfl) rfl rfl ?_
      refine gg_vret (pc := 278) E Fn rfl dX5_readsDeed_278 (by first | exact Nat.le_of_ble_eq_true rfl | (dsimp only; omega)) (by first | exact Nat.le_of_ble_eq_true rfl | (dsimp only; omega)) ?_
      refine ⟨rfl, ?_⟩
      rw [rdT_y hfz]
      dsimp only
      rw [← hZ, hB]
      unfold rB4
      try dsimp only
      try unfold r2S r2X r2V r1X r1V
      try unfold r1X r1V
      try rfl
    · refine gg_topI (y := 5) hk ?_
      refine gg_tableOut (tgt := 235) (pc := 72) E dX5_readsDeed_72 (by decide) (by decide) ?_
      refine gg_cel (y := gg_ai g 360 (rdD b dm x D)) 2 rfl (congrArg (gg_ai g 360) (show _ = rdD b dm x D from rfl)) rfl ?_
      refine gg_aload_n (pc := 235) E dX5_readsDeed_235 rfl rfl ?_
      refine gg_get (pc := 236) E ck_X5 22 q2881 rfl (by decide) dX5_readsDeed_236 (gg_i 0 rfl) rfl ?_
      refine gg_iload_n (pc := 239) E dX5_readsDeed_239 rfl rfl ?_
      refine gg_iconst (v := 1) (pc := 240) E dX5_readsDeed_240 (by decide) ?_
      refine gg_iaddN (pc := 241) E (12 * dm) 1 rfl rfl dX5_readsDeed_241 ?_
      refine gg_iload_n (pc := 242) E dX5_readsDeed_242 rfl rfl ?_
      refine gg_iastN (M' := [_, _, _]) (pc := 243) E (12 * dm + 1) rfl (by omega) (by omega) dX5_readsDeed_243 2 rfl rfl ?_
      refine gg_aload_n (pc := 244) E dX5_readsDeed_244 rfl rfl ?_
      refine gg_get (pc := 245) E ck_X5 22 q2881 rfl (by decide) dX5_readsDeed_245 (gg_i 0 rfl) rfl ?_
      refine gg_iload_n (pc := 248) E dX5_readsDeed_248 rfl rfl ?_
      refine gg_iconst (v := 2) (pc := 249) E dX5_readsDeed_249 (by decide) ?_
      refine gg_iaddN (pc := 250) E (12 * dm) 2 rfl rfl dX5_readsDeed_250 ?_
      refine gg_aload_n (pc := 251) E dX5_readsDeed_251 rfl rfl ?_
      refine gg_iload_n (pc := 252) E dX5_readsDeed_252 rfl rfl ?_
      refine gg_callS (F := [_, _, _]) (As := [_]) (rest := [_, _, _]) (pc := 253) E (ct_X5_lowOf hl ) (va_cwS 1 E.2.2.2.2.1 (lw_S q3066 q3067 q179 q3068) rfl rfl rfl (by decide +kernel) ⟨by rw [hRf]; exact Nat.le_of_ble_eq_true rfl, by rw [hRl]; exact Nat.le_of_ble_eq_true rfl⟩) dX5_readsDeed_253 [] (by decide) rfl rfl (fun _ h => by cases h) rfl rfl (Nat.le_of_ble_eq_true rfl) (by first | (rw [hRc]; exact Nat.le_of_ble_eq_true rfl) | (rw [hRc]; dsimp only; omega)) (by first | (rw [hRs]; exact Nat.le_of_ble_eq_true rfl) | (rw [hRs]; dsimp only; omega)) ?_ (fun X q C1 h => h.elim)
      rintro _ _ ⟨rfl, rfl⟩
      dsimp only [List.cons_append, List.nil_append, Option.toList]
      refine gg_iload_n (pc := 256) E dX5_readsDeed_256 rfl rfl ?_
      refine gg_callS (F := [_, _, _]) (As := [_]) (rest := [_, _, _, _]) (pc := 257) E (ct_X5_highOf hl ) (va_cwS 1 E.2.2.2.2.1 (lw_S q3069 q3070 q179 q3071) rfl rfl rfl (by decide +kernel) ⟨by rw [hRf]; exact Nat.le_of_ble_eq_true rfl, by rw [hRl]; exact Nat.le_of_ble_eq_true rfl⟩) dX5_readsDeed_257 [] (by decide) rfl rfl (fun _ h => by cases h) rfl rfl (Nat.le_of_ble_eq_true rfl) (by first | (rw [hRc]; exact Nat.le_of_ble_eq_true rfl) | (rw [hRc]; dsimp only; omega)) (by first | (rw [hRs]; exact Nat.le_of_ble_eq_true rfl) | (rw [hRs]; dsimp only; omega)) ?_ (fun X q C1 h => h.elim)
      rintro _ _ ⟨rfl, rfl⟩
      dsimp only [List.cons_append, List.nil_append, Option.toList]
      refine gg_callV (F := [_, _]) (As := [_, _]) (rest := [_, _]) (pc := 260) E ck_X5 (ct_X5_numberF hl ((Xi_rdA hX))) (cwV 2 E.2.2.2.2.1 (lw_V q3025 q3027 qs81 q179 q3028) rfl rfl rfl (by decide +kernel) ⟨by rw [hRf]; exact Nat.le_of_ble_eq_true rfl, by rw [hRl]; exact Nat.le_of_ble_eq_true rfl⟩) dX5_readsDeed_260 [0] (by decide) rfl rfl (List.forall_mem_cons.mpr ⟨(gg_r 1 rfl), (fun _ h => by cases h)⟩) (gg_i 0 rfl) rfl rfl (Nat.le_of_ble_eq_true rfl) (by first | (rw [hRc]; exact Nat.le_of_ble_eq_true rfl) | (rw [hRc]; dsimp only; omega)) (by first | (rw [hRs]; exact Nat.le_of_ble_eq_true rfl) | (rw [hRs]; dsimp only; omega)) ?_ (fun X q C1 h => h.elim)
      rintro _ _ ⟨rfl, rfl⟩
      dsimp only [List.cons_append, List.nil_append, Option.toList]
      refine gg_iastN (M' := [_, _, _]) (pc := 263) E (12 * dm + 2) rfl (by omega) (by omega) dX5_readsDeed_263 2 rfl rfl ?_
      refine gg_aload_n (pc := 264) E dX5_readsDeed_264 rfl rfl ?_
      refine gg_callV (F := [_, _]) (As := []) (rest := []) (pc := 265) E ck_X5 (ct_X5_semicolonF hl ((Xi_num (Xi_rdA hX)))) (cwV 0 E.2.2.2.2.1 (lw_V q3072 q3074 qs90 q179 q3075) rfl rfl rfl (by decide +kernel) ⟨by rw [hRf]; exact Nat.le_of_ble_eq_true rfl, by rw [hRl]; exact Nat.le_of_ble_eq_true rfl⟩) dX5_readsDeed_265 [0] (by decide) rfl rfl (List.forall_mem_cons.mpr ⟨(gg_r 1 rfl), (fun _ h => by cases h)⟩) (gg_i 0 rfl) rfl rfl (Nat.le_of_ble_eq_true rfl) (by first | (rw [hRc]; exact Nat.le_of_ble_eq_true rfl) | (rw [hRc]; dsimp only; omega)) (by first | (rw [hRs]; exact Nat.le_of_ble_eq_true rfl) | (rw [hRs]; dsimp only; omega)) ?_ (fun X q C1 h => h.elim)
      rintro _ _ ⟨rfl, rfl⟩
      dsimp only [List.cons_append, List.nil_append, Option.toList]
      have hB : rdB row nr b bn dm x sp D = rB5 row nr b bn dm x sp D := by
        unfold rdB
        rw [if_neg (show ¬ (kdH x b (Fm x) (Ln x) = 0 ∨ kdH x b (Fm x) (Ln x) = 1) from fun q => q.elim (fun z => absurd (hk.symm.trans z) (by decide)) (fun z => absurd (hk.symm.trans z) (by decide))), if_neg (show ¬ kdH x b (Fm x) (Ln x) = 2 from fun q => absurd (hk.symm.trans q) (by decide)), if_neg (show ¬ kdH x b (Fm x) (Ln x) = 3 from fun q => absurd (hk.symm.trans q) (by decide)), if_neg (show ¬ kdH x b (Fm x) (Ln x) = 4 from fun q => absurd (hk.symm.trans q) (by decide))]
      obtain ⟨Z, hZ⟩ : ∃ Z : Nat → Int32, Z = smX b bn (rdB row nr b bn dm x sp D).1 := ⟨_, rfl⟩
      refine gg_cel (y := .inl (4, mo_f ad Z)) 0 rfl (congrArg (fun z : Nat → Int32 => (Sum.inl (4, mo_f ad z) : gg_E)) (by rw [hZ, hB]; unfold rB5; (try dsimp only); (try unfold r2X r2V r1X r1V); (try unfold r1X r1V); (try rfl))) rfl ?_
      refine gg_aload_n (pc := 268) E dX5_readsDeed_268 rfl rfl ?_
      refine gg_dup (pc := 269) E dX5_readsDeed_269 rfl ?_
      refine gg_get (pc := 270) E ck_X5 23 q2882 rfl (by decide) dX5_readsDeed_270 (gg_i 0 rfl) rfl ?_
      refine gg_topI (y := nI dm) (by rw [hZ]; exact (sm_o (by omega) (by omega) (by omega) (by omega) (by omega) (by omega) ).trans ((rdB_o (by omega) (by omega) (by omega) (by omega) (by omega) (by omega) (by omega) ).trans hdm)) ?_
      refine gg_iconst (v := 1) (pc := 273) E dX5_readsDeed_273 (by decide) ?_
      refine gg_iaddN (pc := 274) E dm 1 rfl rfl dX5_readsDeed_274 ?_
      refine gg_putM (M' := [_, _, _]) (pc := 275) E ck_X5 23 q2882 rfl (by decide) dX5_readsDeed_275 0 rfl rfl (rfl) rfl (Nat.le_of_ble_eq_true rfl) rfl rfl ?_
      refine gg_vret (pc := 278) E Fn rfl dX5_readsDeed_278 (by first | exact Nat.le_of_ble_eq_true rfl | (dsimp only; omega)) (by first | exact Nat.le_of_ble_eq_true rfl | (dsimp only; omega)) ?_
      refine ⟨rfl, ?_⟩
      rw [rdT_y hfz]
      dsimp only
      rw [← hZ, hB]
      unfold rB5
      try dsimp only
      try unfold r2S r2X r2V r1X r1V
      try unfold r1X r1V
      try rfl
  · refine gg_vret (pc := 55) E Fn rfl dX5_readsDeed_55 (by first | exact Nat.le_of_ble_eq_true rfl | (dsimp only; omega)) (by first | exact Nat.le_of_ble_eq_true rfl | (dsimp only; omega)) ?_
    refine ⟨rfl, ?_⟩
    rw [rdT_n (show ¬ rdA b bn dm x 20 = 0 from fun q => c52 (Int32.le_of_eq q))]
    try rfl
set_option maxHeartbeats 4000000 in
theorem ct_X5_sendsDeed {l : Launch} (hl : l.stackTraces = false) {g : gg_G}  {h : Nat} {ad : Nat → Nat} {x : Nat → Int32} {row : Nat → Int32} {su D : Nat → Int32} {at1 mny nt : Nat} (hmy : D (at1 + 3) = nI mny) (hmy8 : mny ≤ 8) (hat : at1 + 12 ≤ 360) (hnt : row 2 = nI nt) (ht29 : nt < 30) : gg_C l g yX5_sendsDeed (ws_ yX5_sendsDeed cX5_sendsDeed 3 (some .int)) { frames := 3, cells := 0, slots := 0, locals := 69 } [.ref h, .int (nI at1)] [((ad 22), gg_ai g 360 D)] [[(h, .inl (4, mo_f ad x))], [((ad 0), gg_ai g 1030 row)], [((ad 10), gg_ai g 8 su)]] (fun vv CC => vv = some (.int (nI nt)) ∧ CC = [[(h, .inl (4, mo_f ad (upd x 11 (nI mny))))], [((ad 0), gg_ai g 1030 (ntu row nt mny (fun i => D (at1 + 4 + i)) (D (at1 + 1)) (D (at1 + 2)) 0 (if D at1 = 1 then 1 else 0)))], [((ad 10), gg_ai g 8 (ub su 0 mny (fun i => D (at1 + 4 + i))))]]) gg_no := by
  refine gg_of (lv := [_, _, _]) (by decide) hl (Nat.le_of_ble_eq_true rfl) rfl ?_
  intro p e R s m args below meth c A Q hRf hRl hRc hRs E Fn hnm hex
  refine gg_aload_n (pc := 0) E dX5_sendsDeed_0 rfl rfl ?_
  refine gg_aload_n (pc := 1) E dX5_sendsDeed_1 rfl rfl ?_
  refine gg_get (pc := 2) E ck_X5 22 q2881 rfl (by decide) dX5_sendsDeed_2 (gg_i 0 rfl) rfl ?_
  refine gg_iload_n (pc := 5) E dX5_sendsDeed_5 rfl rfl ?_
  refine gg_iconst (v := 3) (pc := 6) E dX5_sendsDeed_6 (by decide) ?_
  refine gg_iaddN (pc := 7) E at1 3 rfl rfl dX5_sendsDeed_7 ?_
  refine gg_ialdN (pc := 8) E (at1 + 3) rfl (by omega) (by omega) dX5_sendsDeed_8 (gg_r 0 rfl) ?_
  rw [hmy]
  refine gg_putM (M' := [_, _, _]) (pc := 9) E ck_X5 11 q2870 rfl (by decide) dX5_sendsDeed_9 0 rfl rfl (rfl) rfl (Nat.le_of_ble_eq_true rfl) rfl rfl ?_
  refine gg_iconst (v := 0) (pc := 12) E dX5_sendsDeed_12 (by decide) ?_
  refine gg_istore_n (lv' := [_, _, _]) (pc := 13) E dX5_sendsDeed_13 rfl (Nat.le_of_ble_eq_true rfl) rfl rfl ?_
  have L14 : ∀ (n : Nat) (i : Nat), mny - i < n → (i ≤ mny) → gg_W p l e R s m args below meth c g A 3 Q 0 0 [[(h, .inl (4, mo_f ad (upd x 11 (nI mny))))], [((ad 0), gg_ai g 1030 row)], [((ad 10), gg_ai g 8 (ub su 0 i (fun i => D (at1 + 4 + i))))]] [some (.ref h), some (.int (nI at1)), some (.int (nI i))] [] 14 := by
    intro n14
    induction n14 with
    | zero => intro i hmz; exact absurd hmz (Nat.not_lt_zero _)
    | succ n14 ih14 =>
      intro i hm14 hi
      refine gg_iload_n (pc := 14) E dX5_sendsDeed_14 rfl rfl ?_
      refine gg_aload_n (pc := 15) E dX5_sendsDeed_15 rfl rfl ?_
      refine gg_get (pc := 16) E ck_X5 11 q2870 rfl (by decide) dX5_sendsDeed_16 (gg_i 0 rfl) rfl ?_
      refine gg_topI (y := nI mny) pk_us ?_
      refine gg_icmpN_ge (tgt := 44) (pc := 19) E i mny rfl rfl (by omega) (by omega) dX5_sendsDeed_19 (by decide) (fun c19 => ?_) (fun c19 => ?_)
      · refine gg_aload_n (pc := 44) E dX5_sendsDeed_44 rfl rfl ?_
        refine gg_aload_n (pc := 45) E dX5_sendsDeed_45 rfl rfl ?_
        refine gg_get (pc := 46) E ck_X5 22 q2881 rfl (by decide) dX5_sendsDeed_46 (gg_i 0 rfl) rfl ?_
        refine gg_iload_n (pc := 49) E dX5_sendsDeed_49 rfl rfl ?_
        refine gg_iconst (v := 1) (pc := 50) E dX5_sendsDeed_50 (by decide) ?_
        refine gg_iaddN (pc := 51) E at1 1 rfl rfl dX5_sendsDeed_51 ?_
        refine gg_ialdN (pc := 52) E (at1 + 1) rfl (by omega) (by omega) dX5_sendsDeed_52 (gg_r 0 rfl) ?_
        refine gg_aload_n (pc := 53) E dX5_sendsDeed_53 rfl rfl ?_
        refine gg_get (pc := 54) E ck_X5 22 q2881 rfl (by decide) dX5_sendsDeed_54 (gg_i 0 rfl) rfl ?_
        refine gg_iload_n (pc := 57) E dX5_sendsDeed_57 rfl rfl ?_
        refine gg_iconst (v := 2) (pc := 58) E dX5_sendsDeed_58 (by decide) ?_
        refine gg_iaddN (pc := 59) E at1 2 rfl rfl dX5_sendsDeed_59 ?_
        refine gg_ialdN (pc := 60) E (at1 + 2) rfl (by omega) (by omega) dX5_sendsDeed_60 (gg_r 0 rfl) ?_
        refine gg_iconst (v := 0) (pc := 61) E dX5_sendsDeed_61 (by decide) ?_
        refine gg_aload_n (pc := 62) E dX5_sendsDeed_62 rfl rfl ?_
        refine gg_get (pc := 63) E ck_X5 22 q2881 rfl (by decide) dX5_sendsDeed_63 (gg_i 0 rfl) rfl ?_
        refine gg_iload_n (pc := 66) E dX5_sendsDeed_66 rfl rfl ?_
        refine gg_ialdN (pc := 67) E at1 rfl (by omega) (by omega) dX5_sendsDeed_67 (gg_r 0 rfl) ?_
        refine gg_iconst (v := 1) (pc := 68) E dX5_sendsDeed_68 (by decide) ?_
        refine gg_icmpB_ne (pc := 69) E dX5_sendsDeed_69 dX5_sendsDeed_72 dX5_sendsDeed_73 dX5_sendsDeed_76 ?_
        refine gg_callV (F := [_, _]) (As := [_, _, _, _]) (rest := []) (pc := 77) E ck_X5 (ct_X5_newTune (nt := nt) (mny := mny) hl hnt ht29 pk_us hmy8 (Or.inl rfl) gg_b01) (cwV 4 E.2.2.2.2.1 (lw_V q3117 q3119 qs99 q179 q3120) rfl rfl rfl (by decide +kernel) ⟨by rw [hRf]; exact Nat.le_of_ble_eq_true rfl, by rw [hRl]; exact Nat.le_of_ble_eq_true rfl⟩) dX5_sendsDeed_77 [1] (by decide) rfl rfl (List.forall_mem_cons.mpr ⟨(gg_i 0 rfl), (List.forall_mem_cons.mpr ⟨(gg_i 1 rfl), (fun _ h => by cases h)⟩)⟩) (gg_i 0 rfl) rfl rfl (Nat.le_of_ble_eq_true rfl) (by first | (rw [hRc]; exact Nat.le_of_ble_eq_true rfl) | (rw [hRc]; dsimp only; omega)) (by first | (rw [hRs]; exact Nat.le_of_ble_eq_true rfl) | (rw [hRs]; dsimp only; omega)) ?_ (fun X q C1 h => h.elim)
        rintro _ _ ⟨rfl, rfl⟩
        dsimp only [List.cons_append, List.nil_append, Option.toList]
        refine gg_up1 ?_
        refine gg_iret (pc := 80) E Fn rfl (rfl) dX5_sendsDeed_80 (by first | exact Nat.le_of_ble_eq_true rfl | (dsimp only; omega)) (by first | exact Nat.le_of_ble_eq_true rfl | (dsimp only; omega)) ?_
        obtain rfl : i = mny := by omega
        exact ⟨rfl, by rw [ntu_su (su := ub su 0 i (fun i => D (at1 + 4 + i))) (su' := fun i => D (at1 + 4 + i)) (fun k hk => by rw [ub_in _ _ _ _ (Nat.zero_le _) (by omega)]; rfl)]⟩
      · refine gg_aload_n (pc := 22) E dX5_sendsDeed_22 rfl rfl ?_
        refine gg_get (pc := 23) E ck_X5 10 q2869 rfl (by decide) dX5_sendsDeed_23 (gg_i 0 rfl) rfl ?_
        refine gg_iload_n (pc := 26) E dX5_sendsDeed_26 rfl rfl ?_
        refine gg_aload_n (pc := 27) E dX5_sendsDeed_27 rfl rfl ?_
        refine gg_get (pc := 28) E ck_X5 22 q2881 rfl (by decide) dX5_sendsDeed_28 (gg_i 0 rfl) rfl ?_
        refine gg_iload_n (pc := 31) E dX5_sendsDeed_31 rfl rfl ?_
        refine gg_iconst (v := 4) (pc := 32) E dX5_sendsDeed_32 (by decide) ?_
        refine gg_iaddN (pc := 33) E at1 4 rfl rfl dX5_sendsDeed_33 ?_
        refine gg_iload_n (pc := 34) E dX5_sendsDeed_34 rfl rfl ?_
        refine gg_iaddN (pc := 35) E (at1 + 4) i rfl rfl dX5_sendsDeed_35 ?_
        refine gg_ialdN (pc := 36) E (at1 + 4 + i) rfl (by omega) (by omega) dX5_sendsDeed_36 (gg_r 0 rfl) ?_
        refine gg_iastN (M' := [_, _, _]) (pc := 37) E i rfl (by omega) (by omega) dX5_sendsDeed_37 2 rfl rfl ?_
        refine gg_iincN (k := 1) (lv' := [_, _, _]) (pc := 38) E i dX5_sendsDeed_38 rfl rfl rfl (Nat.le_of_ble_eq_true rfl) rfl rfl ?_
        refine gg_goto (tgt := 14) (pc := 41) E dX5_sendsDeed_41 (by decide) ?_
        refine gg_cv ?_ (gg_leS (gg_leS (gg_leS gg_le0))) rfl (by first | exact Nat.le_refl _ | (dsimp only; omega)) (by first | exact Nat.le_refl _ | (dsimp only; omega)) (ih14 (i + 1) (by omega) (by omega))
        · rw [ub0_1 _ _ _ _ rfl]
  refine gg_cv ?_ (gg_leS (gg_leS (gg_leS gg_le0))) rfl (by first | exact Nat.le_refl _ | (dsimp only; omega)) (by first | exact Nat.le_refl _ | (dsimp only; omega)) (L14 _ 0 (Nat.lt_succ_self _) (Nat.zero_le _))
  · first | (rw [ub_0]; done) | (rw [ub_0]; rfl)

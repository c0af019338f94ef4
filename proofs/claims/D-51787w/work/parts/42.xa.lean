set_option maxRecDepth 100000
theorem rhX_out {row : Nat → Int32} {nr : Nat} {b sp x : Nat → Int32} {n f0 j : Nat} {no : Int32} (h8 : j ≠ 8) (h : j ≠ 20) (h2 : j ≠ 21) : rhX row nr b sp x n f0 no j = x j := by
  unfold rhX
  rw [nd_out h h2]
  unfold rhX1 spY
  rw [pk_un h8, nd_out h h2]
set_option maxHeartbeats 4000000 in
theorem ct_X5_roofOfText {l : Launch} (hl : l.stackTraces = false) {g : gg_G}  {h : Nat} {ad : Nat → Nat} {x : Nat → Int32} {row : Nat → Int32} {b sp : Nat → Int32} {p0 f0 nr bn : Nat} {no : Int32} (hnr : row 0 = nI nr) (hr10 : nr ≤ 10) (hx : x 13 = nI bn) (hbn : bn ≤ 800) (hp : x 17 = nI p0) (hf : x 16 = nI f0) (hfp : f0 ≤ p0) (hpb : p0 ≤ bn) : gg_C l g yX5_roofOfText (ws_ yX5_roofOfText cX5_roofOfText 3 (some .int)) { frames := 3, cells := 0, slots := 0, locals := 66 } [.ref h, .int no] [((ad 0), gg_ai g 1030 row), ((ad 12), gg_ab g 800 b)] [[(h, .inl (4, mo_f ad x))], [((ad 7), gg_ai g 6 sp)]] (fun vv CC => vv = some (.int (mx 0 (rhV row nr b sp x (p0 - f0) f0))) ∧ CC = [[(h, .inl (4, mo_f ad (goX b bn (rhX row nr b sp x (p0 - f0) f0 no))))], [((ad 7), gg_ai g 6 (ub sp 0 (spn x (p0 - f0)) (fun i => b (f0 + i))))]]) gg_no := by
  refine gg_of (lv := [_, _, _]) (by decide) hl (Nat.le_of_ble_eq_true rfl) rfl ?_
  intro p e R s m args below meth c A Q hRf hRl hRc hRs E Fn hnm hex
  refine gg_aload_n (pc := 0) E dX5_roofOfText_0 rfl rfl ?_
  refine gg_iload_n (pc := 1) E dX5_roofOfText_1 rfl rfl ?_
  refine gg_callV (F := []) (As := [_]) (rest := []) (pc := 2) E ck_X5 (ct_X5_roofHere hl (hnr) (hr10) (hp) (hf) (hfp) (by omega)) (cwV 1 E.2.2.2.2.1 (lw_V q3042 q3044 qs85 q179 q3045) rfl rfl rfl (by decide +kernel) ⟨by rw [hRf]; exact Nat.le_of_ble_eq_true rfl, by rw [hRl]; exact Nat.le_of_ble_eq_true rfl⟩) dX5_roofOfText_2 [0, 1] (by decide) rfl rfl (List.forall_mem_cons.mpr ⟨(gg_r 0 rfl), (List.forall_mem_cons.mpr ⟨(gg_r 1 rfl), (fun _ h => by cases h)⟩)⟩) (gg_i 0 rfl) rfl rfl (Nat.le_of_ble_eq_true rfl) (by first | (rw [hRc]; exact Nat.le_of_ble_eq_true rfl) | (rw [hRc]; dsimp only; omega)) (by first | (rw [hRs]; exact Nat.le_of_ble_eq_true rfl) | (rw [hRs]; dsimp only; omega)) ?_ (fun X q C1 h => h.elim)
  rintro _ _ ⟨rfl, rfl⟩
  dsimp only [List.cons_append, List.nil_append, Option.toList]
  refine gg_up1 ?_
  refine gg_up1 ?_
  refine gg_istore_n (lv' := [_, _, _]) (pc := 5) E dX5_roofOfText_5 rfl (Nat.le_of_ble_eq_true rfl) rfl rfl ?_
  refine gg_aload_n (pc := 6) E dX5_roofOfText_6 rfl rfl ?_
  refine gg_callV (F := [_]) (As := []) (rest := []) (pc := 7) E ck_X5 (ct_X5_goesOn hl ((rhX_out (by omega) (by omega) (by omega)).trans hx) (hbn) ((rhX_out (by omega) (by omega) (by omega)).trans hp) (hpb)) (cwV 0 E.2.2.2.2.1 (lw_V q2984 q2986 qs72 q179 q2987) rfl rfl rfl (by decide +kernel) ⟨by rw [hRf]; exact Nat.le_of_ble_eq_true rfl, by rw [hRl]; exact Nat.le_of_ble_eq_true rfl⟩) dX5_roofOfText_7 [0] (by decide) rfl rfl (List.forall_mem_cons.mpr ⟨(gg_r 1 rfl), (fun _ h => by cases h)⟩) (gg_i 0 rfl) rfl rfl (Nat.le_of_ble_eq_true rfl) (by first | (rw [hRc]; exact Nat.le_of_ble_eq_true rfl) | (rw [hRc]; dsimp only; omega)) (by first | (rw [hRs]; exact Nat.le_of_ble_eq_true rfl) | (rw [hRs]; dsimp only; omega)) ?_ (fun X q C1 h => h.elim)
  rintro _ _ ⟨rfl, rfl⟩
  dsimp only [List.cons_append, List.nil_append, Option.toList]
  refine gg_iload_n (pc := 10) E dX5_roofOfText_10 rfl rfl ?_
  refine gg_iret (pc := 11) E Fn rfl (rfl) dX5_roofOfText_11 (by first | exact Nat.le_of_ble_eq_true rfl | (dsimp only; omega)) (by first | exact Nat.le_of_ble_eq_true rfl | (dsimp only; omega)) ?_
  exact ⟨rfl, rfl⟩

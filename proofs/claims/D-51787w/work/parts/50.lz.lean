set_option maxRecDepth 100000
/-! the reference's first row: four roofs, four ways -/
def nps (i : Nat) : Nat := [0, 6, 11, 16, 20].getD i 0
def nln (i : Nat) : Nat := [5, 4, 4, 3].getD i 0
def its16 : Nat → Int32 := fun j => nI ([4, 2, 1, 30, 2, 0, 2, 20, 3, 5, 0, 9, 8, 1, 3, 40].getD j 0)
def icS : Nat → (Nat → Int32)
  | 0 => fun _ => 0
  | i + 1 => ub (icS i) 0 (nln i) (fun j => gg_byt gg_tx15 (nps i + j))
def icR : Nat → (Nat → Int32)
  | 0 => cl0
  | i + 1 => nro (icR i) i (nln i) (icS (i + 1)) (its16 (4 * i)) (its16 (4 * i + 1)) (its16 (4 * i + 2)) (its16 (4 * i + 3))
def icX : Nat → Int32 := upd (fun _ => 0) 15 (-1)
def row0 : Nat → Int32 := nwy (nwy (nwy (nwy (icR 4) 0 0 1 4) 1 1 2 6) 2 0 2 9) 3 2 3 3
theorem ic_b : ∀ i, i < 4 → ∀ j, j < 6 → (j ≤ nln i → (gg_byt gg_tx15 (nps i + j) = 32 ↔ j = nln i) ∧ nps i + j < 20) ∧ nln i ≤ 5 ∧ nps i + (nln i + 1) = nps (i + 1) := by decide
theorem ic_p : ∀ i, i < 5 → (nps i < 20 ↔ i < 4) := by decide
theorem np_20 : ∀ i, i ≤ 4 → nps i ≤ 20 := by decide
theorem icR_0 : ∀ i, icR i 0 = nI i
  | 0 => rfl
  | i + 1 => by
    unfold icR nro
    exact pk_us
theorem nln_6 {i : Nat} : nln i ≤ 6 := by
  by_cases h : i < 4
  · have := (ic_b i h 0 (by omega)).2.1; omega
  · unfold nln
    rw [List.getD_eq_getElem?_getD, List.getElem?_eq_none (by simp; omega)]
    exact Nat.zero_le _
theorem icR_1 : ∀ i, i ≤ 4 → icR i 1 = 0
  | 0, _ => rfl
  | i + 1, h => by
    unfold icR nro
    rw [pk_un (by omega), pk_un (by omega), pk_un (by omega), pk_un (by omega), pk_un (by omega), pk_un (by omega), ub_out _ _ _ _ (by omega), pk_un (by omega)]
    exact icR_1 i (by omega)
theorem nwy_1 {row : Nat → Int32} {nw : Nat} {a b f : Int32} : nwy row nw a b f 1 = nI (nw + 1) := by
  unfold nwy
  exact pk_us
theorem its_16 : ∀ k, k < 16 → upd (upd (upd (upd (upd (upd (upd (upd (upd (upd (upd (upd (upd (upd (upd (upd (fun _ => 0) 0 4) 1 2) 2 1) 3 30) 4 2) 5 0) 6 2) 7 20) 8 3) 9 5) 10 0) 11 9) 12 8) 13 1) 14 3) 15 40 k = its16 k := by decide
set_option maxHeartbeats 40000000 in
theorem ct_X5_init {l : Launch} (hl : l.stackTraces = false) {g : gg_G}  {h : Nat}  : gg_C l g yX5_init (ws_ yX5_init cX5_init 5 none) { frames := 4, cells := 13, slots := 12850, locals := 85 } [.ref h] [] [[(h, .inl (4, [.null, .null, .null, .null, .int 0, .int 0, .int 0, .null, .int 0, .null, .null, .int 0, .null, .int 0, .int 0, .int 0, .int 0, .int 0, .int 0, .int 0, .int 0, .int 0, .null, .int 0, .null, .null, .null, .int 0]))]] (fun vv CC => ∃ (ad : Nat → Nat) (v : Int32), vv = none ∧ CC = [[(h, .inl (4, mo_f ad (upd icX 8 v)))], [((ad 0), gg_ai g 1030 row0)], [((ad 1), gg_ai g 1030 (fun _ => 0))], [((ad 2), gg_ai g 1030 (fun _ => 0))], [((ad 3), gg_ai g 8240 (fun _ => 0))], [((ad 7), gg_ai g 6 (icS 4))], [((ad 9), gg_ai g 10 (fun _ => 0))], [((ad 10), gg_ai g 8 (fun _ => 0))], [((ad 12), gg_ab g 800 (fun _ => 0))], [((ad 22), gg_ai g 360 (fun _ => 0))], [((ad 24), gg_ai g 10 (fun _ => 0))], [((ad 25), gg_az g 10 (fun _ => 0))], [((ad 26), gg_ab g 300 (fun _ => 0))]]) gg_no := by
  refine gg_of (lv := [_, _, _, _, _]) (by decide) hl (Nat.le_of_ble_eq_true rfl) rfl ?_
  intro p e R s m args below meth c A Q hRf hRl hRc hRs E Fn hnm hex
  refine gg_aload_n (pc := 0) E dX5_init_0 rfl rfl ?_
  refine gg_objInit (pc := 1) E q2837 dX5_init_1 (by rw [hRf]; exact Nat.le_of_ble_eq_true rfl) (by rw [hRl]; exact Nat.le_of_ble_eq_true rfl) ?_
  refine gg_aload_n (pc := 4) E dX5_init_4 rfl rfl ?_
  refine gg_sipush (v := 1030) (pc := 5) E dX5_init_5 (by decide) ?_
  refine gg_newa (N := 1030) (pc := 8) E 0 (ty := .int) rfl rfl q631 dX5_init_8 (by decide) (by decide) (by decide) (by first | (rw [hRc]; exact Nat.le_of_ble_eq_true rfl) | (rw [hRc]; dsimp only; omega)) (by first | (rw [hRs]; exact Nat.le_of_ble_eq_true rfl) | (rw [hRs]; dsimp only; omega)) (fun _ => rfl) (fun a1 => ?_)
  dsimp only [List.cons_append, List.nil_append]
  refine gg_putF (fs' := [_, _, _, _, _, _, _, _, _, _, _, _, _, _, _, _, _, _, _, _, _, _, _, _, _, _, _, _]) (M' := [_, _]) (pc := 10) E ck_X5 0 q2859 rfl (by decide) hnm dX5_init_10 0 rfl rfl (rfl) rfl (Nat.le_of_ble_eq_true rfl) rfl rfl ?_
  refine gg_aload_n (pc := 13) E dX5_init_13 rfl rfl ?_
  refine gg_sipush (v := 1030) (pc := 14) E dX5_init_14 (by decide) ?_
  refine gg_newa (N := 1030) (pc := 17) E 0 (ty := .int) rfl rfl q631 dX5_init_17 (by decide) (by decide) (by decide) (by first | (rw [hRc]; exact Nat.le_of_ble_eq_true rfl) | (rw [hRc]; dsimp only; omega)) (by first | (rw [hRs]; exact Nat.le_of_ble_eq_true rfl) | (rw [hRs]; dsimp only; omega)) (fun _ => rfl) (fun a2 => ?_)
  dsimp only [List.cons_append, List.nil_append]
  refine gg_putF (fs' := [_, _, _, _, _, _, _, _, _, _, _, _, _, _, _, _, _, _, _, _, _, _, _, _, _, _, _, _]) (M' := [_, _, _]) (pc := 19) E ck_X5 1 q2860 rfl (by decide) hnm dX5_init_19 0 rfl rfl (rfl) rfl (Nat.le_of_ble_eq_true rfl) rfl rfl ?_
  refine gg_aload_n (pc := 22) E dX5_init_22 rfl rfl ?_
  refine gg_sipush (v := 1030) (pc := 23) E dX5_init_23 (by decide) ?_
  refine gg_newa (N := 1030) (pc := 26) E 0 (ty := .int) rfl rfl q631 dX5_init_26 (by decide) (by decide) (by decide) (by first | (rw [hRc]; exact Nat.le_of_ble_eq_true rfl) | (rw [hRc]; dsimp only; omega)) (by first | (rw [hRs]; exact Nat.le_of_ble_eq_true rfl) | (rw [hRs]; dsimp only; omega)) (fun _ => rfl) (fun a3 => ?_)
  dsimp only [List.cons_append, List.nil_append]
  refine gg_putF (fs' := [_, _, _, _, _, _, _, _, _, _, _, _, _, _, _, _, _, _, _, _, _, _, _, _, _, _, _, _]) (M' := [_, _, _, _]) (pc := 28) E ck_X5 2 q2861 rfl (by decide) hnm dX5_init_28 0 rfl rfl (rfl) rfl (Nat.le_of_ble_eq_true rfl) rfl rfl ?_
  refine gg_aload_n (pc := 31) E dX5_init_31 rfl rfl ?_
  refine gg_sipush (v := 8240) (pc := 32) E dX5_init_32 (by decide) ?_
  refine gg_newa (N := 8240) (pc := 35) E 0 (ty := .int) rfl rfl q631 dX5_init_35 (by decide) (by decide) (by decide) (by first | (rw [hRc]; exact Nat.le_of_ble_eq_true rfl) | (rw [hRc]; dsimp only; omega)) (by first | (rw [hRs]; exact Nat.le_of_ble_eq_true rfl) | (rw [hRs]; dsimp only; omega)) (fun _ => rfl) (fun a4 => ?_)
  dsimp only [List.cons_append, List.nil_append]
  refine gg_putF (fs' := [_, _, _, _, _, _, _, _, _, _, _, _, _, _, _, _, _, _, _, _, _, _, _, _, _, _, _, _]) (M' := [_, _, _, _, _]) (pc := 37) E ck_X5 3 q2862 rfl (by decide) hnm dX5_init_37 0 rfl rfl (rfl) rfl (Nat.le_of_ble_eq_true rfl) rfl rfl ?_
  refine gg_aload_n (pc := 40) E dX5_init_40 rfl rfl ?_
  refine gg_bipush (v := 6) (pc := 41) E dX5_init_41 (by decide) ?_
  refine gg_newa (N := 6) (pc := 43) E 0 (ty := .int) rfl rfl q631 dX5_init_43 (by decide) (by decide) (by decide) (by first | (rw [hRc]; exact Nat.le_of_ble_eq_true rfl) | (rw [hRc]; dsimp only; omega)) (by first | (rw [hRs]; exact Nat.le_of_ble_eq_true rfl) | (rw [hRs]; dsimp only; omega)) (fun _ => rfl) (fun a5 => ?_)
  dsimp only [List.cons_append, List.nil_append]
  refine gg_putF (fs' := [_, _, _, _, _, _, _, _, _, _, _, _, _, _, _, _, _, _, _, _, _, _, _, _, _, _, _, _]) (M' := [_, _, _, _, _, _]) (pc := 45) E ck_X5 7 q2866 rfl (by decide) hnm dX5_init_45 0 rfl rfl (rfl) rfl (Nat.le_of_ble_eq_true rfl) rfl rfl ?_
  refine gg_aload_n (pc := 48) E dX5_init_48 rfl rfl ?_
  refine gg_bipush (v := 10) (pc := 49) E dX5_init_49 (by decide) ?_
  refine gg_newa (N := 10) (pc := 51) E 0 (ty := .int) rfl rfl q631 dX5_init_51 (by decide) (by decide) (by decide) (by first | (rw [hRc]; exact Nat.le_of_ble_eq_true rfl) | (rw [hRc]; dsimp only; omega)) (by first | (rw [hRs]; exact Nat.le_of_ble_eq_true rfl) | (rw [hRs]; dsimp only; omega)) (fun _ => rfl) (fun a6 => ?_)
  dsimp only [List.cons_append, List.nil_append]
  refine gg_putF (fs' := [_, _, _, _, _, _, _, _, _, _, _, _, _, _, _, _, _, _, _, _, _, _, _, _, _, _, _, _]) (M' := [_, _, _, _, _, _, _]) (pc := 53) E ck_X5 9 q2868 rfl (by decide) hnm dX5_init_53 0 rfl rfl (rfl) rfl (Nat.le_of_ble_eq_true rfl) rfl rfl ?_
  refine gg_aload_n (pc := 56) E dX5_init_56 rfl rfl ?_
  refine gg_bipush (v := 8) (pc := 57) E dX5_init_57 (by decide) ?_
  refine gg_newa (N := 8) (pc := 59) E 0 (ty := .int) rfl rfl q631 dX5_init_59 (by decide) (by decide) (by decide) (by first | (rw [hRc]; exact Nat.le_of_ble_eq_true rfl) | (rw [hRc]; dsimp only; omega)) (by first | (rw [hRs]; exact Nat.le_of_ble_eq_true rfl) | (rw [hRs]; dsimp only; omega)) (fun _ => rfl) (fun a7 => ?_)
  dsimp only [List.cons_append, List.nil_append]
  refine gg_putF (fs' := [_, _, _, _, _, _, _, _, _, _, _, _, _, _, _, _, _, _, _, _, _, _, _, _, _, _, _, _]) (M' := [_, _, _, _, _, _, _, _]) (pc := 61) E ck_X5 10 q2869 rfl (by decide) hnm dX5_init_61 0 rfl rfl (rfl) rfl (Nat.le_of_ble_eq_true rfl) rfl rfl ?_
  refine gg_aload_n (pc := 64) E dX5_init_64 rfl rfl ?_
  refine gg_sipush (v := 800) (pc := 65) E dX5_init_65 (by decide) ?_
  refine gg_newa (N := 800) (pc := 68) E 1 (ty := .byte) rfl rfl q316 dX5_init_68 (by decide) (by decide) (by decide) (by first | (rw [hRc]; exact Nat.le_of_ble_eq_true rfl) | (rw [hRc]; dsimp only; omega)) (by first | (rw [hRs]; exact Nat.le_of_ble_eq_true rfl) | (rw [hRs]; dsimp only; omega)) (fun _ => rfl) (fun a8 => ?_)
  dsimp only [List.cons_append, List.nil_append]
  refine gg_putF (fs' := [_, _, _, _, _, _, _, _, _, _, _, _, _, _, _, _, _, _, _, _, _, _, _, _, _, _, _, _]) (M' := [_, _, _, _, _, _, _, _, _]) (pc := 70) E ck_X5 12 q2871 rfl (by decide) hnm dX5_init_70 0 rfl rfl (rfl) rfl (Nat.le_of_ble_eq_true rfl) rfl rfl ?_
  refine gg_aload_n (pc := 73) E dX5_init_73 rfl rfl ?_
  refine gg_iconst (v := (-1)) (pc := 74) E dX5_init_74 (by decide) ?_
  refine gg_put (fs' := [_, _, _, _, _, _, _, _, _, _, _, _, _, _, _, _, _, _, _, _, _, _, _, _, _, _, _, _]) (M' := [_, _, _, _, _, _, _, _, _]) (pc := 75) E ck_X5 15 q2874 rfl (by decide) dX5_init_75 0 rfl rfl (rfl) rfl (Nat.le_of_ble_eq_true rfl) rfl rfl ?_
  refine gg_aload_n (pc := 78) E dX5_init_78 rfl rfl ?_
  refine gg_sipush (v := 360) (pc := 79) E dX5_init_79 (by decide) ?_
  refine gg_newa (N := 360) (pc := 82) E 0 (ty := .int) rfl rfl q631 dX5_init_82 (by decide) (by decide) (by decide) (by first | (rw [hRc]; exact Nat.le_of_ble_eq_true rfl) | (rw [hRc]; dsimp only; omega)) (by first | (rw [hRs]; exact Nat.le_of_ble_eq_true rfl) | (rw [hRs]; dsimp only; omega)) (fun _ => rfl) (fun a9 => ?_)
  dsimp only [List.cons_append, List.nil_append]
  refine gg_putF (fs' := [_, _, _, _, _, _, _, _, _, _, _, _, _, _, _, _, _, _, _, _, _, _, _, _, _, _, _, _]) (M' := [_, _, _, _, _, _, _, _, _, _]) (pc := 84) E ck_X5 22 q2881 rfl (by decide) hnm dX5_init_84 0 rfl rfl (rfl) rfl (Nat.le_of_ble_eq_true rfl) rfl rfl ?_
  refine gg_aload_n (pc := 87) E dX5_init_87 rfl rfl ?_
  refine gg_bipush (v := 10) (pc := 88) E dX5_init_88 (by decide) ?_
  refine gg_newa (N := 10) (pc := 90) E 0 (ty := .int) rfl rfl q631 dX5_init_90 (by decide) (by decide) (by decide) (by first | (rw [hRc]; exact Nat.le_of_ble_eq_true rfl) | (rw [hRc]; dsimp only; omega)) (by first | (rw [hRs]; exact Nat.le_of_ble_eq_true rfl) | (rw [hRs]; dsimp only; omega)) (fun _ => rfl) (fun a10 => ?_)
  dsimp only [List.cons_append, List.nil_append]
  refine gg_putF (fs' := [_, _, _, _, _, _, _, _, _, _, _, _, _, _, _, _, _, _, _, _, _, _, _, _, _, _, _, _]) (M' := [_, _, _, _, _, _, _, _, _, _, _]) (pc := 92) E ck_X5 24 q2883 rfl (by decide) hnm dX5_init_92 0 rfl rfl (rfl) rfl (Nat.le_of_ble_eq_true rfl) rfl rfl ?_
  refine gg_aload_n (pc := 95) E dX5_init_95 rfl rfl ?_
  refine gg_bipush (v := 10) (pc := 96) E dX5_init_96 (by decide) ?_
  refine gg_newa (N := 10) (pc := 98) E 2 (ty := .boolean) rfl rfl q2944 dX5_init_98 (by decide) (by decide) (by decide) (by first | (rw [hRc]; exact Nat.le_of_ble_eq_true rfl) | (rw [hRc]; dsimp only; omega)) (by first | (rw [hRs]; exact Nat.le_of_ble_eq_true rfl) | (rw [hRs]; dsimp only; omega)) (fun _ => rfl) (fun a11 => ?_)
  dsimp only [List.cons_append, List.nil_append]
  refine gg_putF (fs' := [_, _, _, _, _, _, _, _, _, _, _, _, _, _, _, _, _, _, _, _, _, _, _, _, _, _, _, _]) (M' := [_, _, _, _, _, _, _, _, _, _, _, _]) (pc := 100) E ck_X5 25 q2884 rfl (by decide) hnm dX5_init_100 0 rfl rfl (rfl) rfl (Nat.le_of_ble_eq_true rfl) rfl rfl ?_
  refine gg_aload_n (pc := 103) E dX5_init_103 rfl rfl ?_
  refine gg_sipush (v := 300) (pc := 104) E dX5_init_104 (by decide) ?_
  refine gg_newa (N := 300) (pc := 107) E 1 (ty := .byte) rfl rfl q316 dX5_init_107 (by decide) (by decide) (by decide) (by first | (rw [hRc]; exact Nat.le_of_ble_eq_true rfl) | (rw [hRc]; dsimp only; omega)) (by first | (rw [hRs]; exact Nat.le_of_ble_eq_true rfl) | (rw [hRs]; dsimp only; omega)) (fun _ => rfl) (fun a12 => ?_)
  dsimp only [List.cons_append, List.nil_append]
  refine gg_putF (fs' := [_, _, _, _, _, _, _, _, _, _, _, _, _, _, _, _, _, _, _, _, _, _, _, _, _, _, _, _]) (M' := [_, _, _, _, _, _, _, _, _, _, _, _, _]) (pc := 109) E ck_X5 26 q2885 rfl (by decide) hnm dX5_init_109 0 rfl rfl (rfl) rfl (Nat.le_of_ble_eq_true rfl) rfl rfl ?_
  obtain ⟨ad, rfl, rfl, rfl, rfl, rfl, rfl, rfl, rfl, rfl, rfl, rfl, rfl⟩ : ∃ ad : Nat → Nat, ad 0 = a1 ∧ ad 1 = a2 ∧ ad 2 = a3 ∧ ad 3 = a4 ∧ ad 7 = a5 ∧ ad 9 = a6 ∧ ad 10 = a7 ∧ ad 12 = a8 ∧ ad 22 = a9 ∧ ad 24 = a10 ∧ ad 25 = a11 ∧ ad 26 = a12 := ⟨fun k => if k = 0 then a1 else if k = 1 then a2 else if k = 2 then a3 else if k = 3 then a4 else if k = 7 then a5 else if k = 9 then a6 else if k = 10 then a7 else if k = 12 then a8 else if k = 22 then a9 else if k = 24 then a10 else if k = 25 then a11 else if k = 26 then a12 else 0, rfl, rfl, rfl, rfl, rfl, rfl, rfl, rfl, rfl, rfl, rfl, rfl⟩
  refine gg_cel (y := .inl (4, mo_f ad icX)) 0 rfl rfl rfl ?_
  refine gg_aload_n (pc := 112) E dX5_init_112 rfl rfl ?_
  refine gg_callV (F := [_, _, _, _, _, _, _, _, _, _, _, _]) (As := []) (rest := []) (pc := 113) E ck_X5 (ct_X5_clears hl ) (cwV 0 E.2.2.2.2.1 (lw_V q2838 q2840 qs66 q179 q2841) rfl rfl rfl (by decide +kernel) ⟨by rw [hRf]; exact Nat.le_of_ble_eq_true rfl, by rw [hRl]; exact Nat.le_of_ble_eq_true rfl⟩) dX5_init_113 [1] (by decide) rfl rfl (List.forall_mem_cons.mpr ⟨(gg_i 0 rfl), (fun _ h => by cases h)⟩) (gg_i 0 rfl) rfl rfl (Nat.le_of_ble_eq_true rfl) (by first | (rw [hRc]; exact Nat.le_of_ble_eq_true rfl) | (rw [hRc]; dsimp only; omega)) (by first | (rw [hRs]; exact Nat.le_of_ble_eq_true rfl) | (rw [hRs]; dsimp only; omega)) ?_ (fun X q C1 h => h.elim)
  rintro _ _ ⟨rfl, rfl⟩
  dsimp only [List.cons_append, List.nil_append, Option.toList]
  refine gg_up1 ?_
  refine gg_ldcS (pc := 116) E 15 rfl dX5_init_116 ?_
  refine gg_astore_n (lv' := [_, _, _, _, _]) (pc := 118) E dX5_init_118 rfl (Nat.le_of_ble_eq_true rfl) rfl rfl ?_
  refine gg_bipush (v := 16) (pc := 119) E dX5_init_119 (by decide) ?_
  refine gg_newa (N := 16) (pc := 121) E 0 (ty := .int) rfl rfl q631 dX5_init_121 (by decide) (by decide) (by decide) (by first | (rw [hRc]; exact Nat.le_of_ble_eq_true rfl) | (rw [hRc]; dsimp only; omega)) (by first | (rw [hRs]; exact Nat.le_of_ble_eq_true rfl) | (rw [hRs]; dsimp only; omega)) (fun _ => rfl) (fun a13 => ?_)
  dsimp only [List.cons_append, List.nil_append]
  refine gg_dup (pc := 123) E dX5_init_123 rfl ?_
  refine gg_iconst (v := 0) (pc := 124) E dX5_init_124 (by decide) ?_
  refine gg_iconst (v := 4) (pc := 125) E dX5_init_125 (by decide) ?_
  refine gg_iastN (M' := [_, _, _, _, _, _, _, _, _, _, _, _, _, _]) (pc := 126) E 0 rfl (by omega) (by omega) dX5_init_126 13 rfl rfl ?_
  refine gg_dup (pc := 127) E dX5_init_127 rfl ?_
  refine gg_iconst (v := 1) (pc := 128) E dX5_init_128 (by decide) ?_
  refine gg_iconst (v := 2) (pc := 129) E dX5_init_129 (by decide) ?_
  refine gg_iastN (M' := [_, _, _, _, _, _, _, _, _, _, _, _, _, _]) (pc := 130) E 1 rfl (by omega) (by omega) dX5_init_130 13 rfl rfl ?_
  refine gg_dup (pc := 131) E dX5_init_131 rfl ?_
  refine gg_iconst (v := 2) (pc := 132) E dX5_init_132 (by decide) ?_
  refine gg_iconst (v := 1) (pc := 133) E dX5_init_133 (by decide) ?_
  refine gg_iastN (M' := [_, _, _, _, _, _, _, _, _, _, _, _, _, _]) (pc := 134) E 2 rfl (by omega) (by omega) dX5_init_134 13 rfl rfl ?_
  refine gg_dup (pc := 135) E dX5_init_135 rfl ?_
  refine gg_iconst (v := 3) (pc := 136) E dX5_init_136 (by decide) ?_
  refine gg_bipush (v := 30) (pc := 137) E dX5_init_137 (by decide) ?_
  refine gg_iastN (M' := [_, _, _, _, _, _, _, _, _, _, _, _, _, _]) (pc := 139) E 3 rfl (by omega) (by omega) dX5_init_139 13 rfl rfl ?_
  refine gg_dup (pc := 140) E dX5_init_140 rfl ?_
  refine gg_iconst (v := 4) (pc := 141) E dX5_init_141 (by decide) ?_
  refine gg_iconst (v := 2) (pc := 142) E dX5_init_142 (by decide) ?_
  refine gg_iastN (M' := [_, _, _, _, _, _, _, _, _, _, _, _, _, _]) (pc := 143) E 4 rfl (by omega) (by omega) dX5_init_143 13 rfl rfl ?_
  refine gg_dup (pc := 144) E dX5_init_144 rfl ?_
  refine gg_iconst (v := 5) (pc := 145) E dX5_init_145 (by decide) ?_
  refine gg_iconst (v := 0) (pc := 146) E dX5_init_146 (by decide) ?_
  refine gg_iastN (M' := [_, _, _, _, _, _, _, _, _, _, _, _, _, _]) (pc := 147) E 5 rfl (by omega) (by omega) dX5_init_147 13 rfl rfl ?_
  refine gg_dup (pc := 148) E dX5_init_148 rfl ?_
  refine gg_bipush (v := 6) (pc := 149) E dX5_init_149 (by decide) ?_
  refine gg_iconst (v := 2) (pc := 151) E dX5_init_151 (by decide) ?_
  refine gg_iastN (M' := [_, _, _, _, _, _, _, _, _, _, _, _, _, _]) (pc := 152) E 6 rfl (by omega) (by omega) dX5_init_152 13 rfl rfl ?_
  refine gg_dup (pc := 153) E dX5_init_153 rfl ?_
  refine gg_bipush (v := 7) (pc := 154) E dX5_init_154 (by decide) ?_
  refine gg_bipush (v := 20) (pc := 156) E dX5_init_156 (by decide) ?_
  refine gg_iastN (M' := [_, _, _, _, _, _, _, _, _, _, _, _, _, _]) (pc := 158) E 7 rfl (by omega) (by omega) dX5_init_158 13 rfl rfl ?_
  refine gg_dup (pc := 159) E dX5_init_159 rfl ?_
  refine gg_bipush (v := 8) (pc := 160) E dX5_init_160 (by decide) ?_
  refine gg_iconst (v := 3) (pc := 162) E dX5_init_162 (by decide) ?_
  refine gg_iastN (M' := [_, _, _, _, _, _, _, _, _, _, _, _, _, _]) (pc := 163) E 8 rfl (by omega) (by omega) dX5_init_163 13 rfl rfl ?_
  refine gg_dup (pc := 164) E dX5_init_164 rfl ?_
  refine gg_bipush (v := 9) (pc := 165) E dX5_init_165 (by decide) ?_
  refine gg_iconst (v := 5) (pc := 167) E dX5_init_167 (by decide) ?_
  refine gg_iastN (M' := [_, _, _, _, _, _, _, _, _, _, _, _, _, _]) (pc := 168) E 9 rfl (by omega) (by omega) dX5_init_168 13 rfl rfl ?_
  refine gg_dup (pc := 169) E dX5_init_169 rfl ?_
  refine gg_bipush (v := 10) (pc := 170) E dX5_init_170 (by decide) ?_
  refine gg_iconst (v := 0) (pc := 172) E dX5_init_172 (by decide) ?_
  refine gg_iastN (M' := [_, _, _, _, _, _, _, _, _, _, _, _, _, _]) (pc := 173) E 10 rfl (by omega) (by omega) dX5_init_173 13 rfl rfl ?_
  refine gg_dup (pc := 174) E dX5_init_174 rfl ?_
  refine gg_bipush (v := 11) (pc := 175) E dX5_init_175 (by decide) ?_
  refine gg_bipush (v := 9) (pc := 177) E dX5_init_177 (by decide) ?_
  refine gg_iastN (M' := [_, _, _, _, _, _, _, _, _, _, _, _, _, _]) (pc := 179) E 11 rfl (by omega) (by omega) dX5_init_179 13 rfl rfl ?_
  refine gg_dup (pc := 180) E dX5_init_180 rfl ?_
  refine gg_bipush (v := 12) (pc := 181) E dX5_init_181 (by decide) ?_
  refine gg_bipush (v := 8) (pc := 183) E dX5_init_183 (by decide) ?_
  refine gg_iastN (M' := [_, _, _, _, _, _, _, _, _, _, _, _, _, _]) (pc := 185) E 12 rfl (by omega) (by omega) dX5_init_185 13 rfl rfl ?_
  refine gg_dup (pc := 186) E dX5_init_186 rfl ?_
  refine gg_bipush (v := 13) (pc := 187) E dX5_init_187 (by decide) ?_
  refine gg_iconst (v := 1) (pc := 189) E dX5_init_189 (by decide) ?_
  refine gg_iastN (M' := [_, _, _, _, _, _, _, _, _, _, _, _, _, _]) (pc := 190) E 13 rfl (by omega) (by omega) dX5_init_190 13 rfl rfl ?_
  refine gg_dup (pc := 191) E dX5_init_191 rfl ?_
  refine gg_bipush (v := 14) (pc := 192) E dX5_init_192 (by decide) ?_
  refine gg_iconst (v := 3) (pc := 194) E dX5_init_194 (by decide) ?_
  refine gg_iastN (M' := [_, _, _, _, _, _, _, _, _, _, _, _, _, _]) (pc := 195) E 14 rfl (by omega) (by omega) dX5_init_195 13 rfl rfl ?_
  refine gg_dup (pc := 196) E dX5_init_196 rfl ?_
  refine gg_bipush (v := 15) (pc := 197) E dX5_init_197 (by decide) ?_
  refine gg_bipush (v := 40) (pc := 199) E dX5_init_199 (by decide) ?_
  refine gg_iastN (M' := [_, _, _, _, _, _, _, _, _, _, _, _, _, _]) (pc := 201) E 15 rfl (by omega) (by omega) dX5_init_201 13 rfl rfl ?_
  refine gg_cel (y := gg_ai g 16 its16) 13 rfl (gg_ai_congr its_16) rfl ?_
  refine gg_astore_n (lv' := [_, _, _, _, _]) (pc := 202) E dX5_init_202 rfl (Nat.le_of_ble_eq_true rfl) rfl rfl ?_
  refine gg_iconst (v := 0) (pc := 203) E dX5_init_203 (by decide) ?_
  refine gg_istore_n (lv' := [_, _, _, _, _]) (pc := 204) E dX5_init_204 rfl (Nat.le_of_ble_eq_true rfl) rfl rfl ?_
  have L205 : ∀ (n : Nat) (i : Nat) (v : Int32), 4 - i < n → (i ≤ 4) → gg_W p l e R s m args below meth c g A 5 Q 13 12850 [[(h, .inl (4, mo_f ad (upd icX 8 v)))], [((ad 0), gg_ai g 1030 (icR i))], [((ad 1), gg_ai g 1030 (fun _ => 0))], [((ad 2), gg_ai g 1030 (fun _ => 0))], [((ad 3), gg_ai g 8240 (fun _ => 0))], [((ad 7), gg_ai g 6 (icS i))], [((ad 9), gg_ai g 10 (fun _ => 0))], [((ad 10), gg_ai g 8 (fun _ => 0))], [((ad 12), gg_ab g 800 (fun _ => 0))], [((ad 22), gg_ai g 360 (fun _ => 0))], [((ad 24), gg_ai g 10 (fun _ => 0))], [((ad 25), gg_az g 10 (fun _ => 0))], [((ad 26), gg_ab g 300 (fun _ => 0))], [(a13, gg_ai g 16 its16)]] [some (.ref h), some (.ref (g.2.2.1 130)), some (.ref a13), some (.int (nI (nps i))), none] [] 205 := by
    intro n205
    induction n205 with
    | zero => intro i v hmz; exact absurd hmz (Nat.not_lt_zero _)
    | succ n205 ih205 =>
      intro i v hm205 hi
      refine gg_iload_n (pc := 205) E dX5_init_205 rfl rfl ?_
      refine gg_aload_n (pc := 206) E dX5_init_206 rfl rfl ?_
      refine gg_callV (F := [_, _, _, _, _, _, _, _, _, _, _, _, _, _]) (As := []) (rest := [_]) (pc := 207) E ck_J9 (ct_J9_length hl ) (cwV 0 E.2.2.2.2.1 (lw_V q2843 q396 q397 q162 q398) rfl rfl rfl (by decide +kernel) ⟨by rw [hRf]; exact Nat.le_of_ble_eq_true rfl, by rw [hRl]; exact Nat.le_of_ble_eq_true rfl⟩) dX5_init_207 [] (by decide) rfl rfl (List.forall_mem_cons.mpr ⟨(gg_ks 30 rfl), (List.forall_mem_cons.mpr ⟨(gg_ks 31 rfl), (fun _ h => by cases h)⟩)⟩) (gg_ks 30 rfl) rfl rfl (Nat.le_of_ble_eq_true rfl) (by first | (rw [hRc]; exact Nat.le_of_ble_eq_true rfl) | (rw [hRc]; dsimp only; omega)) (by first | (rw [hRs]; exact Nat.le_of_ble_eq_true rfl) | (rw [hRs]; dsimp only; omega)) ?_ (fun X q C1 h => h.elim)
      rintro _ _ ⟨rfl, rfl⟩
      dsimp only [List.cons_append, List.nil_append, Option.toList]
      have hnp := np_20 i hi
      refine gg_icmpN_ge (tgt := 313) (pc := 210) E (nps i) 20 rfl rfl (by omega) (by omega) dX5_init_210 (by decide) (fun c210 => ?_) (fun c210 => ?_)
      · obtain rfl : i = 4 := by have h9 := ic_p i (by omega); omega
        refine gg_aload_n (pc := 313) E dX5_init_313 rfl rfl ?_
        refine gg_iconst (v := 0) (pc := 314) E dX5_init_314 (by decide) ?_
        refine gg_iconst (v := 1) (pc := 315) E dX5_init_315 (by decide) ?_
        refine gg_iconst (v := 4) (pc := 316) E dX5_init_316 (by decide) ?_
        refine gg_callV (F := [_, _, _, _, _, _, _, _, _, _, _, _, _]) (As := [_, _, _]) (rest := []) (pc := 317) E ck_X5 (ct_X5_newWay (nw := 0) hl (icR_1 4 (Nat.le_refl _)) (by omega)) (cwV 3 E.2.2.2.2.1 (lw_V q2852 q2854 qs68 q179 q2855) rfl rfl rfl (by decide +kernel) ⟨by rw [hRf]; exact Nat.le_of_ble_eq_true rfl, by rw [hRl]; exact Nat.le_of_ble_eq_true rfl⟩) dX5_init_317 [1] (by decide) rfl rfl (List.forall_mem_cons.mpr ⟨(gg_i 0 rfl), (fun _ h => by cases h)⟩) (gg_i 0 rfl) rfl rfl (Nat.le_of_ble_eq_true rfl) (by first | (rw [hRc]; exact Nat.le_of_ble_eq_true rfl) | (rw [hRc]; dsimp only; omega)) (by first | (rw [hRs]; exact Nat.le_of_ble_eq_true rfl) | (rw [hRs]; dsimp only; omega)) ?_ (fun X q C1 h => h.elim)
        rintro _ _ ⟨rfl, rfl⟩
        dsimp only [List.cons_append, List.nil_append, Option.toList]
        refine gg_up1 ?_
        refine gg_aload_n (pc := 320) E dX5_init_320 rfl rfl ?_
        refine gg_iconst (v := 1) (pc := 321) E dX5_init_321 (by decide) ?_
        refine gg_iconst (v := 2) (pc := 322) E dX5_init_322 (by decide) ?_
        refine gg_bipush (v := 6) (pc := 323) E dX5_init_323 (by decide) ?_
        refine gg_callV (F := [_, _, _, _, _, _, _, _, _, _, _, _, _]) (As := [_, _, _]) (rest := []) (pc := 325) E ck_X5 (ct_X5_newWay (nw := 1) hl nwy_1 (by omega)) (cwV 3 E.2.2.2.2.1 (lw_V q2852 q2854 qs68 q179 q2855) rfl rfl rfl (by decide +kernel) ⟨by rw [hRf]; exact Nat.le_of_ble_eq_true rfl, by rw [hRl]; exact Nat.le_of_ble_eq_true rfl⟩) dX5_init_325 [1] (by decide) rfl rfl (List.forall_mem_cons.mpr ⟨(gg_i 0 rfl), (fun _ h => by cases h)⟩) (gg_i 0 rfl) rfl rfl (Nat.le_of_ble_eq_true rfl) (by first | (rw [hRc]; exact Nat.le_of_ble_eq_true rfl) | (rw [hRc]; dsimp only; omega)) (by first | (rw [hRs]; exact Nat.le_of_ble_eq_true rfl) | (rw [hRs]; dsimp only; omega)) ?_ (fun X q C1 h => h.elim)
        rintro _ _ ⟨rfl, rfl⟩
        dsimp only [List.cons_append, List.nil_append, Option.toList]
        refine gg_up1 ?_
        refine gg_aload_n (pc := 328) E dX5_init_328 rfl rfl ?_
        refine gg_iconst (v := 0) (pc := 329) E dX5_init_329 (by decide) ?_
        refine gg_iconst (v := 2) (pc := 330) E dX5_init_330 (by decide) ?_
        refine gg_bipush (v := 9) (pc := 331) E dX5_init_331 (by decide) ?_
        refine gg_callV (F := [_, _, _, _, _, _, _, _, _, _, _, _, _]) (As := [_, _, _]) (rest := []) (pc := 333) E ck_X5 (ct_X5_newWay (nw := 2) hl nwy_1 (by omega)) (cwV 3 E.2.2.2.2.1 (lw_V q2852 q2854 qs68 q179 q2855) rfl rfl rfl (by decide +kernel) ⟨by rw [hRf]; exact Nat.le_of_ble_eq_true rfl, by rw [hRl]; exact Nat.le_of_ble_eq_true rfl⟩) dX5_init_333 [1] (by decide) rfl rfl (List.forall_mem_cons.mpr ⟨(gg_i 0 rfl), (fun _ h => by cases h)⟩) (gg_i 0 rfl) rfl rfl (Nat.le_of_ble_eq_true rfl) (by first | (rw [hRc]; exact Nat.le_of_ble_eq_true rfl) | (rw [hRc]; dsimp only; omega)) (by first | (rw [hRs]; exact Nat.le_of_ble_eq_true rfl) | (rw [hRs]; dsimp only; omega)) ?_ (fun X q C1 h => h.elim)
        rintro _ _ ⟨rfl, rfl⟩
        dsimp only [List.cons_append, List.nil_append, Option.toList]
        refine gg_up1 ?_
        refine gg_aload_n (pc := 336) E dX5_init_336 rfl rfl ?_
        refine gg_iconst (v := 2) (pc := 337) E dX5_init_337 (by decide) ?_
        refine gg_iconst (v := 3) (pc := 338) E dX5_init_338 (by decide) ?_
        refine gg_iconst (v := 3) (pc := 339) E dX5_init_339 (by decide) ?_
        refine gg_callV (F := [_, _, _, _, _, _, _, _, _, _, _, _, _]) (As := [_, _, _]) (rest := []) (pc := 340) E ck_X5 (ct_X5_newWay (nw := 3) hl nwy_1 (by omega)) (cwV 3 E.2.2.2.2.1 (lw_V q2852 q2854 qs68 q179 q2855) rfl rfl rfl (by decide +kernel) ⟨by rw [hRf]; exact Nat.le_of_ble_eq_true rfl, by rw [hRl]; exact Nat.le_of_ble_eq_true rfl⟩) dX5_init_340 [1] (by decide) rfl rfl (List.forall_mem_cons.mpr ⟨(gg_i 0 rfl), (fun _ h => by cases h)⟩) (gg_i 0 rfl) rfl rfl (Nat.le_of_ble_eq_true rfl) (by first | (rw [hRc]; exact Nat.le_of_ble_eq_true rfl) | (rw [hRc]; dsimp only; omega)) (by first | (rw [hRs]; exact Nat.le_of_ble_eq_true rfl) | (rw [hRs]; dsimp only; omega)) ?_ (fun X q C1 h => h.elim)
        rintro _ _ ⟨rfl, rfl⟩
        dsimp only [List.cons_append, List.nil_append, Option.toList]
        refine gg_up1 ?_
        refine gg_let rfl rfl ?_
        refine gg_vret (pc := 343) E Fn rfl dX5_init_343 (by first | exact Nat.le_of_ble_eq_true rfl | (dsimp only; omega)) (by first | exact Nat.le_of_ble_eq_true rfl | (dsimp only; omega)) ?_
        exact ⟨ad, v, rfl, rfl⟩
      · have hi4 : i < 4 := by have h9 := ic_p i (by omega); omega
        have hln := (ic_b i hi4 0 (by omega)).2.1
        refine gg_aload_n (pc := 213) E dX5_init_213 rfl rfl ?_
        refine gg_iconst (v := 0) (pc := 214) E dX5_init_214 (by decide) ?_
        refine gg_putM (M' := [_, _, _, _, _, _, _, _, _, _, _, _, _, _]) (pc := 215) E ck_X5 8 q2867 rfl (by decide) dX5_init_215 0 rfl rfl (rfl) rfl (Nat.le_of_ble_eq_true rfl) rfl rfl ?_
        have L218 : ∀ (n : Nat) (j : Nat), nln i - j < n → (j ≤ nln i) → gg_W p l e R s m args below meth c g A 5 Q 13 12850 [[(h, .inl (4, mo_f ad (upd icX 8 (nI j))))], [((ad 0), gg_ai g 1030 (icR i))], [((ad 1), gg_ai g 1030 (fun _ => 0))], [((ad 2), gg_ai g 1030 (fun _ => 0))], [((ad 3), gg_ai g 8240 (fun _ => 0))], [((ad 7), gg_ai g 6 (ub (icS i) 0 j (fun j => gg_byt gg_tx15 (nps i + j))))], [((ad 9), gg_ai g 10 (fun _ => 0))], [((ad 10), gg_ai g 8 (fun _ => 0))], [((ad 12), gg_ab g 800 (fun _ => 0))], [((ad 22), gg_ai g 360 (fun _ => 0))], [((ad 24), gg_ai g 10 (fun _ => 0))], [((ad 25), gg_az g 10 (fun _ => 0))], [((ad 26), gg_ab g 300 (fun _ => 0))], [(a13, gg_ai g 16 its16)]] [some (.ref h), some (.ref (g.2.2.1 130)), some (.ref a13), some (.int (nI (nps i))), none] [] 218 := by
          intro n218
          induction n218 with
          | zero => intro j hmz; exact absurd hmz (Nat.not_lt_zero _)
          | succ n218 ih218 =>
            intro j hm218 hj
            refine gg_aload_n (pc := 218) E dX5_init_218 rfl rfl ?_
            refine gg_iload_n (pc := 219) E dX5_init_219 rfl rfl ?_
            refine gg_aload_n (pc := 220) E dX5_init_220 rfl rfl ?_
            refine gg_get (pc := 221) E ck_X5 8 q2867 rfl (by decide) dX5_init_221 (gg_i 0 rfl) rfl ?_
            refine gg_topI (y := nI j) pk_us ?_
            refine gg_iaddN (pc := 224) E (nps i) j rfl rfl dX5_init_224 ?_
            refine gg_callV (F := [_, _, _, _, _, _, _, _, _, _, _, _, _, _]) (As := [.int (nI ((nps i) + j))]) (rest := []) (pc := 225) E ck_J9 (ct_J9_charAt hl (((ic_b i hi4 j (by omega)).1 hj).2) (by omega) (by decide)) (cwV 1 E.2.2.2.2.1 (lw_V q2844 q2562 q2563 q162 q2564) rfl rfl rfl (by decide +kernel) ⟨by rw [hRf]; exact Nat.le_of_ble_eq_true rfl, by rw [hRl]; exact Nat.le_of_ble_eq_true rfl⟩) dX5_init_225 [] (by decide) rfl rfl (List.forall_mem_cons.mpr ⟨(gg_ks 30 rfl), (List.forall_mem_cons.mpr ⟨(gg_ks 31 rfl), (fun _ h => by cases h)⟩)⟩) (gg_ks 30 rfl) rfl rfl (Nat.le_of_ble_eq_true rfl) (by first | (rw [hRc]; exact Nat.le_of_ble_eq_true rfl) | (rw [hRc]; dsimp only; omega)) (by first | (rw [hRs]; exact Nat.le_of_ble_eq_true rfl) | (rw [hRs]; dsimp only; omega)) ?_ (fun X q C1 h => h.elim)
            rintro _ _ ⟨rfl, rfl⟩
            dsimp only [List.cons_append, List.nil_append, Option.toList]
            refine gg_bipush (v := 32) (pc := 228) E dX5_init_228 (by decide) ?_
            refine gg_icmp_eq (tgt := 265) (pc := 230) E dX5_init_230 (by decide) (fun c230 => ?_) (fun c230 => ?_)
            · have hjn : j = nln i := ((ic_b i hi4 j (by omega)).1 hj).1.mp c230
              subst hjn
              refine gg_iconst (v := 4) (pc := 265) E dX5_init_265 (by decide) ?_
              refine gg_aload_n (pc := 266) E dX5_init_266 rfl rfl ?_
              refine gg_get (pc := 267) E ck_X5 0 q2859 rfl (by decide) dX5_init_267 (gg_i 0 rfl) rfl ?_
              refine gg_iconst (v := 0) (pc := 270) E dX5_init_270 (by decide) ?_
              refine gg_ialdN (pc := 271) E 0 rfl (by omega) (by omega) dX5_init_271 (gg_i 1 rfl) ?_
              rw [icR_0 i]
              refine gg_imulN (pc := 272) E 4 i rfl rfl dX5_init_272 ?_
              refine gg_istore (lv' := [_, _, _, _, _]) (pc := 273) E dX5_init_273 (Nat.le_of_ble_eq_true rfl) rfl rfl ?_
              refine gg_aload_n (pc := 275) E dX5_init_275 rfl rfl ?_
              refine gg_aload_n (pc := 276) E dX5_init_276 rfl rfl ?_
              refine gg_iload (pc := 277) E dX5_init_277 rfl ?_
              refine gg_ialdN (pc := 279) E (4 * i) rfl (by omega) (by omega) dX5_init_279 (gg_i 13 rfl) ?_
              refine gg_aload_n (pc := 280) E dX5_init_280 rfl rfl ?_
              refine gg_iload (pc := 281) E dX5_init_281 rfl ?_
              refine gg_iconst (v := 1) (pc := 283) E dX5_init_283 (by decide) ?_
              refine gg_iaddN (pc := 284) E (4 * i) 1 rfl rfl dX5_init_284 ?_
              refine gg_ialdN (pc := 285) E (4 * i + 1) rfl (by omega) (by omega) dX5_init_285 (gg_i 13 rfl) ?_
              refine gg_aload_n (pc := 286) E dX5_init_286 rfl rfl ?_
              refine gg_iload (pc := 287) E dX5_init_287 rfl ?_
              refine gg_iconst (v := 2) (pc := 289) E dX5_init_289 (by decide) ?_
              refine gg_iaddN (pc := 290) E (4 * i) 2 rfl rfl dX5_init_290 ?_
              refine gg_ialdN (pc := 291) E (4 * i + 2) rfl (by omega) (by omega) dX5_init_291 (gg_i 13 rfl) ?_
              refine gg_aload_n (pc := 292) E dX5_init_292 rfl rfl ?_
              refine gg_iload (pc := 293) E dX5_init_293 rfl ?_
              refine gg_iconst (v := 3) (pc := 295) E dX5_init_295 (by decide) ?_
              refine gg_iaddN (pc := 296) E (4 * i) 3 rfl rfl dX5_init_296 ?_
              refine gg_ialdN (pc := 297) E (4 * i + 3) rfl (by omega) (by omega) dX5_init_297 (gg_i 13 rfl) ?_
              refine gg_callV (F := [_, _, _, _, _, _, _, _, _, _, _, _, _]) (As := [_, _, _, _]) (rest := []) (pc := 298) E ck_X5 (ct_X5_newRoof (nr := i) (len := nln i) hl (icR_0 i) (by omega) pk_us nln_6) (cwV 4 E.2.2.2.2.1 (lw_V q2845 q2847 qs67 q179 q2848) rfl rfl rfl (by decide +kernel) ⟨by rw [hRf]; exact Nat.le_of_ble_eq_true rfl, by rw [hRl]; exact Nat.le_of_ble_eq_true rfl⟩) dX5_init_298 [1] (by decide) rfl rfl (List.forall_mem_cons.mpr ⟨(gg_i 0 rfl), (List.forall_mem_cons.mpr ⟨(gg_i 4 rfl), (fun _ h => by cases h)⟩)⟩) (gg_i 0 rfl) rfl rfl (Nat.le_of_ble_eq_true rfl) (by first | (rw [hRc]; exact Nat.le_of_ble_eq_true rfl) | (rw [hRc]; dsimp only; omega)) (by first | (rw [hRs]; exact Nat.le_of_ble_eq_true rfl) | (rw [hRs]; dsimp only; omega)) ?_ (fun X q C1 h => h.elim)
              rintro _ _ ⟨rfl, rfl⟩
              dsimp only [List.cons_append, List.nil_append, Option.toList]
              refine gg_up1 ?_
              refine gg_iload_n (pc := 301) E dX5_init_301 rfl rfl ?_
              refine gg_aload_n (pc := 302) E dX5_init_302 rfl rfl ?_
              refine gg_get (pc := 303) E ck_X5 8 q2867 rfl (by decide) dX5_init_303 (gg_i 0 rfl) rfl ?_
              refine gg_topI (y := nI (nln i)) pk_us ?_
              refine gg_iconst (v := 1) (pc := 306) E dX5_init_306 (by decide) ?_
              refine gg_iaddN (pc := 307) E (nln i) 1 rfl rfl dX5_init_307 ?_
              refine gg_iaddN (pc := 308) E (nps i) ((nln i) + 1) rfl rfl dX5_init_308 ?_
              refine gg_istore_n (lv' := [_, _, _, _, _]) (pc := 309) E dX5_init_309 rfl (Nat.le_of_ble_eq_true rfl) rfl rfl ?_
              refine gg_goto (tgt := 205) (pc := 310) E dX5_init_310 (by decide) ?_
              refine gg_cv rfl ?_ rfl (by first | exact Nat.le_refl _ | (dsimp only; omega)) (by first | exact Nat.le_refl _ | (dsimp only; omega)) (ih205 (i + 1) (nI (nln i)) (by omega) (by omega))
              · rw [show nps i + (nln i + 1) = nps (i + 1) from (ic_b i hi4 0 (by omega)).2.2]; exact ⟨Or.inr rfl, Or.inr rfl, Or.inr rfl, Or.inr rfl, Or.inl rfl, trivial⟩
            · refine gg_aload_n (pc := 233) E dX5_init_233 rfl rfl ?_
              refine gg_get (pc := 234) E ck_X5 7 q2866 rfl (by decide) dX5_init_234 (gg_i 0 rfl) rfl ?_
              refine gg_aload_n (pc := 237) E dX5_init_237 rfl rfl ?_
              refine gg_get (pc := 238) E ck_X5 8 q2867 rfl (by decide) dX5_init_238 (gg_i 0 rfl) rfl ?_
              refine gg_topI (y := nI j) pk_us ?_
              refine gg_aload_n (pc := 241) E dX5_init_241 rfl rfl ?_
              refine gg_iload_n (pc := 242) E dX5_init_242 rfl rfl ?_
              refine gg_aload_n (pc := 243) E dX5_init_243 rfl rfl ?_
              refine gg_get (pc := 244) E ck_X5 8 q2867 rfl (by decide) dX5_init_244 (gg_i 0 rfl) rfl ?_
              refine gg_topI (y := nI j) pk_us ?_
              refine gg_iaddN (pc := 247) E (nps i) j rfl rfl dX5_init_247 ?_
              refine gg_callV (F := [_, _, _, _, _, _, _, _, _, _, _, _, _, _]) (As := [.int (nI ((nps i) + j))]) (rest := [_, _]) (pc := 248) E ck_J9 (ct_J9_charAt hl (((ic_b i hi4 j (by omega)).1 hj).2) (by omega) (by decide)) (cwV 1 E.2.2.2.2.1 (lw_V q2844 q2562 q2563 q162 q2564) rfl rfl rfl (by decide +kernel) ⟨by rw [hRf]; exact Nat.le_of_ble_eq_true rfl, by rw [hRl]; exact Nat.le_of_ble_eq_true rfl⟩) dX5_init_248 [] (by decide) rfl rfl (List.forall_mem_cons.mpr ⟨(gg_ks 30 rfl), (List.forall_mem_cons.mpr ⟨(gg_ks 31 rfl), (fun _ h => by cases h)⟩)⟩) (gg_ks 30 rfl) rfl rfl (Nat.le_of_ble_eq_true rfl) (by first | (rw [hRc]; exact Nat.le_of_ble_eq_true rfl) | (rw [hRc]; dsimp only; omega)) (by first | (rw [hRs]; exact Nat.le_of_ble_eq_true rfl) | (rw [hRs]; dsimp only; omega)) ?_ (fun X q C1 h => h.elim)
              rintro _ _ ⟨rfl, rfl⟩
              dsimp only [List.cons_append, List.nil_append, Option.toList]
              refine gg_iastN (M' := [_, _, _, _, _, _, _, _, _, _, _, _, _, _]) (pc := 251) E j rfl (by omega) (by omega) dX5_init_251 5 rfl rfl ?_
              refine gg_aload_n (pc := 252) E dX5_init_252 rfl rfl ?_
              refine gg_dup (pc := 253) E dX5_init_253 rfl ?_
              refine gg_get (pc := 254) E ck_X5 8 q2867 rfl (by decide) dX5_init_254 (gg_i 0 rfl) rfl ?_
              refine gg_topI (y := nI j) pk_us ?_
              refine gg_iconst (v := 1) (pc := 257) E dX5_init_257 (by decide) ?_
              refine gg_iaddN (pc := 258) E j 1 rfl rfl dX5_init_258 ?_
              refine gg_putM (M' := [_, _, _, _, _, _, _, _, _, _, _, _, _, _]) (pc := 259) E ck_X5 8 q2867 rfl (by decide) dX5_init_259 0 rfl rfl (rfl) rfl (Nat.le_of_ble_eq_true rfl) rfl rfl ?_
              refine gg_goto (tgt := 218) (pc := 262) E dX5_init_262 (by decide) ?_
              have h9 : j ≠ nln i := fun q => c230 (((ic_b i hi4 j (by omega)).1 hj).1.mpr q)
              refine gg_cv ?_ (gg_leS (gg_leS (gg_leS (gg_leS (gg_leN gg_le0))))) rfl (by first | exact Nat.le_refl _ | (dsimp only; omega)) (by first | exact Nat.le_refl _ | (dsimp only; omega)) (ih218 (j + 1) (by omega) (by omega))
              · rw [upd_2, ub0_1 _ _ _ _ rfl]
        refine gg_cv ?_ (gg_leS (gg_leS (gg_leS (gg_leS (gg_leN gg_le0))))) rfl (by first | exact Nat.le_refl _ | (dsimp only; omega)) (by first | exact Nat.le_refl _ | (dsimp only; omega)) (L218 _ 0 (Nat.lt_succ_self _) (Nat.zero_le _))
        · rw [upd_2, ub_0]; rfl
  refine gg_cv ?_ (gg_leS (gg_leS (gg_leS (gg_leS (gg_leN gg_le0))))) rfl (by first | exact Nat.le_refl _ | (dsimp only; omega)) (by first | exact Nat.le_refl _ | (dsimp only; omega)) (L205 _ 0 0 (Nat.lt_succ_self _) (Nat.zero_le _))
  · rw [show upd icX 8 0 = icX from (mu_k (x := icX) (k := 8) (v := 0) rfl).symm]; rfl

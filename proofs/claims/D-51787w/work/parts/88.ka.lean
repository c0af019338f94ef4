set_option maxRecDepth 100000
/-! ===== a roof by its name ===== -/
/-- the roofs' names: Strings and their bytes -/
def Nm (g : gg_G) (NP : gg_S) (nm nv : Nat → Nat) (nh nz : Nat → Int32) (row : Nat → Int32) (nr : Nat) : Prop := ∀ k, k < nr → (nm k, (.inl (13, [.ref (nv k), .int 0, .int (nh k), .int (nz k)]) : gg_E)) ∈ NP ∧ (nv k, gg_ab g (nl row k) (fun j => row (25 + 13 * k + 1 + j))) ∈ NP
theorem nm_y {row : Nat → Int32} {nr n k : Nat} {f : Nat → Int32} (hnl : ∀ k, k < nr → row (25 + 13 * k) = nI (nl row k) ∧ nl row k ≤ 6) (hk : k < nr) (h : eqP (nl row k) (fun j => row (25 + 13 * k + 1 + j)) n f) (hall : ∀ j, j < k → ¬ (row (25 + 13 * j) = nI n ∧ ∀ i, i < n → row (25 + 13 * j + 1 + i) = f i)) : nmI row nr n f = nI k :=
  fi_some hk ⟨by rw [(hnl k hk).1, h.1], fun j hj => h.2 j (by rw [h.1]; exact hj)⟩ hall
theorem nm_n {row : Nat → Int32} {nr n k : Nat} {f : Nat → Int32} (hnl : ∀ k, k < nr → row (25 + 13 * k) = nI (nl row k) ∧ nl row k ≤ 6) (hn : n < 2 ^ 30) (hk : k < nr) (h : ¬ eqP (nl row k) (fun j => row (25 + 13 * k + 1 + j)) n f) : ¬ (row (25 + 13 * k) = nI n ∧ ∀ i, i < n → row (25 + 13 * k + 1 + i) = f i) := by
  intro q
  have h1 := hnl k hk
  have e : nl row k = n := (nI_eq (by omega) (by omega)).mp (h1.1.symm.trans q.1)
  exact h ⟨e, fun j hj => q.2 j (by omega)⟩
theorem nmI_none {row : Nat → Int32} {nr n : Nat} {f : Nat → Int32} (hall : ∀ j, j < nr → ¬ (row (25 + 13 * j) = nI n ∧ ∀ i, i < n → row (25 + 13 * j + 1 + i) = f i)) : nmI row nr n f = -1 := fi_none hall
set_option maxHeartbeats 4000000 in
theorem ct_X2_named {l : Launch} (hl : l.stackTraces = false) {g : gg_G}  {w : Nat} {ad : Nat → Nat} {t7 c7 : Int32} {v7 : Value} {ra nm : Nat → Nat} {m1 : Int32} {nr : Nat} {row : Nat → Int32} {nv : Nat → Nat} {nh nz : Nat → Int32} {NP : gg_S} {s1 v1 n1 : Nat} {f1 : Nat → Int32} {h1 z1 : Int32} (hN : Nm g NP nm nv nh nz row nr) (hnl : ∀ k, k < nr → row (25 + 13 * k) = nI (nl row k) ∧ nl row k ≤ 6) (hr10 : nr ≤ 10) (hn1 : n1 < 2 ^ 30) : gg_C l g yX2_named (ws_ yX2_named cX2_named 3 (some .int)) { frames := 4, cells := 0, slots := 0, locals := 85 } [.ref w, .ref s1] ([(w, .inl (1, [.ref (ad 1), .ref (ad 3), .ref (ad 4), .ref (ad 6), .ref (ad 7), .int t7, .int c7, v7])), ((ad 1), .inl (11, [.int m1, .ref (ad 2), .int (nI nr)])), ((ad 2), gg_ao g 4 10 (lsF ra nr)), (s1, .inl (13, [.ref v1, .int 0, .int h1, .int z1])), (v1, gg_ab g n1 f1)] ++ ((mp (rfN ra nm row) nr) ++ NP)) [] (fun vv CC => vv = some (.int (nmI row nr n1 f1)) ∧ CC = []) gg_no := by
  refine gg_of (lv := [_, _, _]) (by decide) hl (Nat.le_of_ble_eq_true rfl) rfl ?_
  intro p e R s m args below meth c A Q hRf hRl hRc hRs E Fn hnm hex
  refine gg_iconst (v := 0) (pc := 0) E dX2_named_0 (by decide) ?_
  refine gg_istore_n (lv' := [_, _, _]) (pc := 1) E dX2_named_1 rfl (Nat.le_of_ble_eq_true rfl) rfl rfl ?_
  have L2 : ∀ (n : Nat) (k : Nat), nr - k < n → (k ≤ nr) → (∀ j, j < k → ¬ (row (25 + 13 * j) = nI n1 ∧ ∀ i, i < n1 → row (25 + 13 * j + 1 + i) = f1 i)) → gg_W p l e R s m args below meth c g A 3 Q 0 0 [] [some (.ref w), some (.ref s1), some (.int (nI k))] [] 2 := by
    intro n2
    induction n2 with
    | zero => intro k hmz; exact absurd hmz (Nat.not_lt_zero _)
    | succ n2 ih2 =>
      intro k hm2 hk hall
      refine gg_iload_n (pc := 2) E dX2_named_2 rfl rfl ?_
      refine gg_aload_n (pc := 3) E dX2_named_3 rfl rfl ?_
      refine gg_get (pc := 4) E ck_X2 0 q598 rfl (by decide) dX2_named_4 (gg_r 0 rfl) rfl ?_
      refine gg_callF (F := []) (As := []) (rest := [_]) (pc := 7) E ck_J2 (ct_J2_size hl ) (gg_cwF 0 E (x := ⟨"java/util/List", "size", "()I"⟩) (by decide) nq1046 nq1044 nq683 (lw_app (lw_in _ [1095, 1043, 1045, 155] (by decide +kernel) (by decide +kernel)) (lw_meth q1047)) (by decide +kernel) ⟨by rw [hRf]; exact Nat.le_of_ble_eq_true rfl, by rw [hRl]; exact Nat.le_of_ble_eq_true rfl⟩) dX2_named_7 [] (by decide) rfl rfl (List.forall_mem_cons.mpr ⟨(gg_r 1 rfl), (fun _ h => by cases h)⟩) (gg_r 1 rfl) rfl rfl (Nat.le_of_ble_eq_true rfl) (by first | (rw [hRc]; exact Nat.le_of_ble_eq_true rfl) | (rw [hRc]; dsimp only; omega)) (by first | (rw [hRs]; exact Nat.le_of_ble_eq_true rfl) | (rw [hRs]; dsimp only; omega)) ?_ (fun X q C1 h => h.elim)
      rintro _ _ ⟨rfl, rfl⟩
      dsimp only [List.cons_append, List.nil_append, Option.toList]
      refine gg_icmpN_ge (tgt := 38) (pc := 12) E k nr rfl rfl (by omega) (by omega) dX2_named_12 (by decide) (fun c12 => ?_) (fun c12 => ?_)
      · refine gg_iconst (v := (-1)) (pc := 38) E dX2_named_38 (by decide) ?_
        refine gg_iret (pc := 39) E Fn rfl (rfl) dX2_named_39 (by first | exact Nat.le_of_ble_eq_true rfl | (dsimp only; omega)) (by first | exact Nat.le_of_ble_eq_true rfl | (dsimp only; omega)) ?_
        exact ⟨by rw [nmI_none (fun j hj => hall j (by omega))], rfl⟩
      · refine gg_aload_n (pc := 15) E dX2_named_15 rfl rfl ?_
        refine gg_iload_n (pc := 16) E dX2_named_16 rfl rfl ?_
        refine gg_callV (F := []) (As := [.int (nI k)]) (rest := []) (pc := 17) E ck_X2 (ct_X2_roof hl (c12) (hr10)) (cwV 1 E.2.2.2.2.1 (lw_V q1096 q1097 q1098 q152 q1099) rfl rfl rfl (by decide +kernel) ⟨by rw [hRf]; exact Nat.le_of_ble_eq_true rfl, by rw [hRl]; exact Nat.le_of_ble_eq_true rfl⟩) dX2_named_17 [] (by decide) rfl rfl (List.forall_mem_append.mpr ⟨(List.forall_mem_cons.mpr ⟨(gg_r 0 rfl), (List.forall_mem_cons.mpr ⟨(gg_r 1 rfl), (List.forall_mem_cons.mpr ⟨(gg_r 2 rfl), (fun _ h => by cases h)⟩)⟩)⟩), (fun q hq => gg_rm (List.mem_append_right _ (List.mem_append_left _ (hq))))⟩) (gg_r 0 rfl) rfl rfl (Nat.le_of_ble_eq_true rfl) (by first | (rw [hRc]; exact Nat.le_of_ble_eq_true rfl) | (rw [hRc]; dsimp only; omega)) (by first | (rw [hRs]; exact Nat.le_of_ble_eq_true rfl) | (rw [hRs]; dsimp only; omega)) ?_ (fun X q C1 h => h.elim)
        rintro _ _ ⟨rfl, rfl⟩
        dsimp only [List.cons_append, List.nil_append, Option.toList]
        refine gg_getN (pc := 20) E ck_X3 0 nq640 rfl (by decide) dX2_named_20 (gg_rm (List.mem_append_right _ (List.mem_append_left _ (mp_mem (by omega))))) rfl ?_
        refine gg_aload_n (pc := 23) E dX2_named_23 rfl rfl ?_
        refine gg_callV (F := []) (As := [_]) (rest := []) (pc := 24) E ck_J9 (ct_J9_equals hl (by have := (hnl k c12).2; omega) hn1) (cwV 1 E.2.2.2.2.1 (lw_V q1161 q1027 q1028 q162 q1029) rfl rfl rfl (by decide +kernel) ⟨by rw [hRf]; exact Nat.le_of_ble_eq_true rfl, by rw [hRl]; exact Nat.le_of_ble_eq_true rfl⟩) dX2_named_24 [] (by decide) rfl rfl (List.forall_mem_cons.mpr ⟨(gg_rm (List.mem_append_right _ (List.mem_append_right _ ((hN k (by omega)).1)))), (List.forall_mem_cons.mpr ⟨(gg_rm (List.mem_append_right _ (List.mem_append_right _ ((hN k (by omega)).2)))), (List.forall_mem_cons.mpr ⟨(gg_r 3 rfl), (List.forall_mem_cons.mpr ⟨(gg_r 4 rfl), (fun _ h => by cases h)⟩)⟩)⟩)⟩) (gg_rm (List.mem_append_right _ (List.mem_append_right _ ((hN k (by omega)).1)))) rfl rfl (Nat.le_of_ble_eq_true rfl) (by first | (rw [hRc]; exact Nat.le_of_ble_eq_true rfl) | (rw [hRc]; dsimp only; omega)) (by first | (rw [hRs]; exact Nat.le_of_ble_eq_true rfl) | (rw [hRs]; dsimp only; omega)) ?_ (fun X q C1 h => h.elim)
        rintro _ _ ⟨rfl, rfl⟩
        dsimp only [List.cons_append, List.nil_append, Option.toList]
        refine gg_if_eq (tgt := 32) (pc := 27) E dX2_named_27 (by decide) (fun c27 => ?_) (fun c27 => ?_)
        · refine gg_iincN (k := 1) (lv' := [_, _, _]) (pc := 32) E k dX2_named_32 rfl rfl rfl (Nat.le_of_ble_eq_true rfl) rfl rfl ?_
          refine gg_goto (tgt := 2) (pc := 35) E dX2_named_35 (by decide) ?_
          refine gg_cv rfl (gg_leS (gg_leS (gg_leS gg_le0))) rfl (by first | exact Nat.le_refl _ | omega | (dsimp only; omega)) (by first | exact Nat.le_refl _ | omega | (dsimp only; omega)) (ih2 (k + 1) (by omega) (by omega) (fun j hj => by rcases Nat.lt_or_ge j k with q | q; (· exact hall j q); (· obtain rfl : k = j := (by omega); exact nm_n hnl hn1 c12 (eqS_0 c27))))
        · refine gg_iload_n (pc := 30) E dX2_named_30 rfl rfl ?_
          refine gg_iret (pc := 31) E Fn rfl (rfl) dX2_named_31 (by first | exact Nat.le_of_ble_eq_true rfl | (dsimp only; omega)) (by first | exact Nat.le_of_ble_eq_true rfl | (dsimp only; omega)) ?_
          exact ⟨by rw [nm_y hnl c12 (eqS_1 c27) hall], rfl⟩
  refine gg_cv rfl (gg_leS (gg_leS (gg_leS gg_le0))) rfl (by first | exact Nat.le_refl _ | omega | (dsimp only; omega)) (by first | exact Nat.le_refl _ | omega | (dsimp only; omega)) (L2 _ 0 (Nat.lt_succ_self _) (Nat.zero_le _) (fun j h => absurd h (Nat.not_lt_zero j)))

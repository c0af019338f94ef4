set_option maxRecDepth 100000
/-! ===== the queue of tunes: the dearer first ===== -/
def kyT (row : Nat → Int32) (k : Nat) : Nat := (1000 - baN (tno row k)) * 100 + k
def dpC (row : Nat → Int32) (i j : Nat) : Int32 := if i = j then 0 else if deaP (tno row i) i (tno row j) j then -1 else 1
theorem dp_lt {row : Nat → Int32} {nt i j : Nat} (h : ∀ t, t < nt → row (220 + 27 * t + 2) = nI (tno row t) ∧ tno row t ≤ 8 ∧ t < 30) (hi : i < nt) (hj : j < nt) : dpC row i j < 0 ↔ kyT row i < kyT row j := by
  have a := h i hi
  have b := h j hj
  have c1 : baN (tno row i) ≤ 2 := by unfold baN; omega
  have c2 : baN (tno row j) ≤ 2 := by unfold baN; omega
  unfold dpC kyT
  by_cases e : i = j
  · rw [if_pos e, e]
    exact ⟨fun q => absurd q (by decide), fun q => absurd q (Nat.lt_irrefl _)⟩
  · rw [if_neg e]
    by_cases d : deaP (tno row i) i (tno row j) j
    · rw [if_pos d]
      unfold deaP at d
      exact ⟨fun _ => by omega, fun _ => by decide⟩
    · rw [if_neg d]
      unfold deaP at d
      exact ⟨fun q => absurd q (by decide), fun q => by omega⟩
theorem dp_gt {row : Nat → Int32} {nt i j : Nat} (h : ∀ t, t < nt → row (220 + 27 * t + 2) = nI (tno row t) ∧ tno row t ≤ 8 ∧ t < 30) (hi : i < nt) (hj : j < nt) : 0 < dpC row i j ↔ kyT row j < kyT row i := by
  have a := h i hi
  have b := h j hj
  have c1 : baN (tno row i) ≤ 2 := by unfold baN; omega
  have c2 : baN (tno row j) ≤ 2 := by unfold baN; omega
  unfold dpC kyT
  by_cases e : i = j
  · rw [if_pos e, e]
    exact ⟨fun q => absurd q (by decide), fun q => absurd q (Nat.lt_irrefl _)⟩
  · rw [if_neg e]
    by_cases d : deaP (tno row i) i (tno row j) j
    · rw [if_pos d]
      unfold deaP at d
      exact ⟨fun q => absurd q (by decide), fun q => by omega⟩
    · rw [if_neg d]
      unfold deaP at d
      exact ⟨fun _ => by omega, fun _ => by decide⟩
set_option maxHeartbeats 4000000 in
theorem ct_X11_compare_2 {l : Launch} (hl : l.stackTraces = false) {g : gg_G}  {cm0 i1 j1 nt : Nat} {tu sn hd : Nat → Nat} {row : Nat → Int32} {P : gg_S} {wo : Nat → Nat} {nw : Nat} (hkey : ∀ t, t < nt → row (220 + 27 * t + 2) = nI (tno row t) ∧ tno row t ≤ 8 ∧ t < 30) (hP : Po g P sn wo row nw nt) (hinj : ∀ i j, i < nt → j < nt → tu i = tu j → i = j) (hi : i1 < nt) (hj : j1 < nt) : gg_C l g yX11_compare_2 (ws_ yX11_compare_2 cX11_compare_2 3 (some .int)) { frames := 3, cells := 0, slots := 0, locals := 61 } [.ref cm0, .ref (tu i1), .ref (tu j1)] ([(cm0, .inl (10, []))] ++ ((mp (tuN tu sn hd row) nt) ++ P)) [] (fun vv CC => vv = some (.int (dpC row i1 j1)) ∧ CC = []) gg_no := by
  refine gg_of (lv := [_, _, _]) (by decide) hl (Nat.le_of_ble_eq_true rfl) rfl ?_
  intro p e R s m args below meth c A Q hRf hRl hRc hRs E Fn hnm hex
  have hki := hkey i1 hi
  have hkj := hkey j1 hj
  refine gg_aload_n (pc := 0) E dX11_compare_2_0 rfl rfl ?_
  refine gg_aload_n (pc := 1) E dX11_compare_2_1 rfl rfl ?_
  refine gg_acmp_ne (rx := (some (tu i1))) (ry := (some (tu j1))) (tgt := 9) (pc := 2) E dX11_compare_2_2 (by decide) (fun c2 => ?_) (fun c2 => ?_)
  · refine gg_aload_n (pc := 9) E dX11_compare_2_9 rfl rfl ?_
    refine gg_aload_n (pc := 10) E dX11_compare_2_10 rfl rfl ?_
    refine gg_callV (F := []) (As := [_]) (rest := []) (pc := 11) E ck_X8 (ct_X8_isDearer hl (by omega) (by omega) (by omega) (by omega)) (cwV 1 E.2.2.2.2.1 (lw_V q1812 q1813 q1814 q192 q1815) rfl rfl rfl (by decide +kernel) ⟨by rw [hRf]; exact Nat.le_of_ble_eq_true rfl, by rw [hRl]; exact Nat.le_of_ble_eq_true rfl⟩) dX11_compare_2_11 [] (by decide) rfl rfl (List.forall_mem_cons.mpr ⟨(gg_rm (List.mem_append_right _ (List.mem_append_left _ (mp_mem (by first | omega | exact hlt _ (by omega)))))), (List.forall_mem_cons.mpr ⟨(gg_rm (List.mem_append_right _ (List.mem_append_right _ (hP.1 i1 (by first | omega | exact hlt _ (by omega)))))), (List.forall_mem_cons.mpr ⟨(gg_rm (List.mem_append_right _ (List.mem_append_left _ (mp_mem (by first | omega | exact hlt _ (by omega)))))), (List.forall_mem_cons.mpr ⟨(gg_rm (List.mem_append_right _ (List.mem_append_right _ (hP.1 j1 (by first | omega | exact hlt _ (by omega)))))), (fun _ h => by cases h)⟩)⟩)⟩)⟩) (gg_rm (List.mem_append_right _ (List.mem_append_left _ (mp_mem (by first | omega | exact hlt _ (by omega)))))) rfl rfl (Nat.le_of_ble_eq_true rfl) (by first | (rw [hRc]; exact Nat.le_of_ble_eq_true rfl) | (rw [hRc]; dsimp only; omega)) (by first | (rw [hRs]; exact Nat.le_of_ble_eq_true rfl) | (rw [hRs]; dsimp only; omega)) ?_ (fun X q C1 h => h.elim)
    rintro _ _ ⟨rfl, rfl⟩
    dsimp only [List.cons_append, List.nil_append, Option.toList]
    refine gg_ifP_eq (tgt := 21) (pc := 14) E dX11_compare_2_14 (by decide) (fun c14 => ?_) (fun c14 => ?_)
    · refine gg_iconst (v := 1) (pc := 21) E dX11_compare_2_21 (by decide) ?_
      refine gg_iret (pc := 22) E Fn rfl (rfl) dX11_compare_2_22 (by first | exact Nat.le_of_ble_eq_true rfl | (dsimp only; omega)) (by first | exact Nat.le_of_ble_eq_true rfl | (dsimp only; omega)) ?_
      exact ⟨by unfold dpC; rw [if_neg (fun q => c2 (by rw [q])), if_neg c14], rfl⟩
    · refine gg_iconst (v := (-1)) (pc := 17) E dX11_compare_2_17 (by decide) ?_
      refine gg_goto (tgt := 22) (pc := 18) E dX11_compare_2_18 (by decide) ?_
      refine gg_iret (pc := 22) E Fn rfl (rfl) dX11_compare_2_22 (by first | exact Nat.le_of_ble_eq_true rfl | (dsimp only; omega)) (by first | exact Nat.le_of_ble_eq_true rfl | (dsimp only; omega)) ?_
      exact ⟨by unfold dpC; rw [if_neg (fun q => c2 (by rw [q])), if_pos c14], rfl⟩
  · refine gg_iconst (v := 0) (pc := 5) E dX11_compare_2_5 (by decide) ?_
    refine gg_goto (tgt := 22) (pc := 6) E dX11_compare_2_6 (by decide) ?_
    refine gg_iret (pc := 22) E Fn rfl (rfl) dX11_compare_2_22 (by first | exact Nat.le_of_ble_eq_true rfl | (dsimp only; omega)) (by first | exact Nat.le_of_ble_eq_true rfl | (dsimp only; omega)) ?_
    exact ⟨by unfold dpC; rw [if_pos (hinj _ _ hi hj (Option.some.inj c2))], rfl⟩
set_option maxHeartbeats 4000000 in
theorem ct_X11_compare {l : Launch} (hl : l.stackTraces = false) {g : gg_G}  {cm0 i1 j1 nt : Nat} {tu sn hd : Nat → Nat} {row : Nat → Int32} {P : gg_S} {wo : Nat → Nat} {nw : Nat} (hkey : ∀ t, t < nt → row (220 + 27 * t + 2) = nI (tno row t) ∧ tno row t ≤ 8 ∧ t < 30) (hP : Po g P sn wo row nw nt) (hinj : ∀ i j, i < nt → j < nt → tu i = tu j → i = j) (hi : i1 < nt) (hj : j1 < nt) : gg_C l g yX11_compare (ws_ yX11_compare cX11_compare 3 (some .int)) { frames := 4, cells := 0, slots := 0, locals := 83 } [.ref cm0, .ref (tu i1), .ref (tu j1)] ([(cm0, .inl (10, []))] ++ ((mp (tuN tu sn hd row) nt) ++ P)) [] (fun vv CC => vv = some (.int (dpC row i1 j1)) ∧ CC = []) gg_no := by
  refine gg_of (lv := [_, _, _]) (by decide) hl (Nat.le_of_ble_eq_true rfl) rfl ?_
  intro p e R s m args below meth c A Q hRf hRl hRc hRs E Fn hnm hex
  have hki := hkey i1 hi
  have hkj := hkey j1 hj
  refine gg_aload_n (pc := 0) E dX11_compare_0 rfl rfl ?_
  refine gg_aload_n (pc := 1) E dX11_compare_1 rfl rfl ?_
  refine gg_cast (pc := 2) E ck_X8 q1807 (Or.inl rfl) dX11_compare_2 (gg_rm (List.mem_append_right _ (List.mem_append_left _ (mp_mem (by first | omega | exact hlt _ (by omega)))))) ?_
  refine gg_aload_n (pc := 5) E dX11_compare_5 rfl rfl ?_
  refine gg_cast (pc := 6) E ck_X8 q1807 (Or.inl rfl) dX11_compare_6 (gg_rm (List.mem_append_right _ (List.mem_append_left _ (mp_mem (by first | omega | exact hlt _ (by omega)))))) ?_
  refine gg_callV (F := []) (As := [_, _]) (rest := []) (pc := 9) E ck_X11 (ct_X11_compare_2 hl hkey hP hinj hi hj) (cwV 2 E.2.2.2.2.1 (lw_V q1808 q1809 q1810 q202 q1811) rfl rfl rfl (by decide +kernel) ⟨by rw [hRf]; exact Nat.le_of_ble_eq_true rfl, by rw [hRl]; exact Nat.le_of_ble_eq_true rfl⟩) dX11_compare_9 [] (by decide) rfl rfl (List.forall_mem_append.mpr ⟨(List.forall_mem_cons.mpr ⟨(gg_r 0 rfl), (fun _ h => by cases h)⟩), (List.forall_mem_append.mpr ⟨(fun q hq => gg_rm (List.mem_append_right _ (List.mem_append_left _ (hq)))), (fun q hq => gg_rm (List.mem_append_right _ (List.mem_append_right _ (hq))))⟩)⟩) (gg_r 0 rfl) rfl rfl (Nat.le_of_ble_eq_true rfl) (by first | (rw [hRc]; exact Nat.le_of_ble_eq_true rfl) | (rw [hRc]; dsimp only; omega)) (by first | (rw [hRs]; exact Nat.le_of_ble_eq_true rfl) | (rw [hRs]; dsimp only; omega)) ?_ (fun X q C1 h => h.elim)
  rintro _ _ ⟨rfl, rfl⟩
  dsimp only [List.cons_append, List.nil_append, Option.toList]
  refine gg_iret (pc := 12) E Fn rfl (rfl) dX11_compare_12 (by first | exact Nat.le_of_ble_eq_true rfl | (dsimp only; omega)) (by first | exact Nat.le_of_ble_eq_true rfl | (dsimp only; omega)) ?_
  exact ⟨rfl, rfl⟩
set_option maxHeartbeats 4000000 in
theorem ct_J32_siftUpUsingComparatorT {l : Launch} (hl : l.stackTraces = false) {g : gg_G}  {ea cm0 cap n1 x1 nt : Nat} {tu sn hd Qa : Nat → Nat} {row : Nat → Int32} {P : gg_S} {wo : Nat → Nat} {nw : Nat} (hn : n1 < cap) (hcap : cap ≤ 90) (hkey : ∀ t, t < nt → row (220 + 27 * t + 2) = nI (tno row t) ∧ tno row t ≤ 8 ∧ t < 30) (hP : Po g P sn wo row nw nt) (hinj : ∀ i j, i < nt → j < nt → tu i = tu j → i = j) (hx1 : x1 < nt) (hQ : ∀ j, j < n1 → Qa j < nt) (hHp : Hp (kyT row) Qa n1) : gg_C l g yJ32_siftUpUsingComparator (ws_ yJ32_siftUpUsingComparator cJ32_siftUpUsingComparator 6 none) { frames := 6, cells := 0, slots := 0, locals := 140 } [.int (nI n1), .ref (tu x1), .ref ea, .ref cm0] ([(cm0, .inl (10, []))] ++ ((mp (tuN tu sn hd row) nt) ++ P)) [[(ea, gg_ao g 4 cap (lsF (fun j => tu (Qa j)) (n1)))]] (fun vv CC => ∃ (Q3 : Nat → Nat), (Hp (kyT row) Q3 (n1 + 1) ∧ (∀ i, Qi Q3 (n1 + 1) i ↔ Qi Qa n1 i ∨ i = x1) ∧ (Qj Qa n1 → ¬ Qi Qa n1 x1 → Qj Q3 (n1 + 1))) ∧ vv = none ∧ CC = [[(ea, gg_ao g 4 cap (lsF (fun j => tu (Q3 j)) (n1 + 1)))]]) gg_no := by
  refine gg_of (lv := [_, _, _, _, _, _]) (by decide) hl (Nat.le_of_ble_eq_true rfl) rfl ?_
  intro p e R s m args below meth c A Q hRf hRl hRc hRs E Fn hnm hex
  have L0 : ∀ (n : Nat) (k : Nat) (Q2 : Nat → Nat) (f2 : Nat → Option Nat), k < n → (k ≤ n1) → (Up (kyT row) Q2 (n1 + 1) k) → (Q2 k = x1) → (∀ i, Qi Q2 (n1 + 1) i ↔ Qi Qa n1 i ∨ i = x1) → (Qj Qa n1 → ¬ Qi Qa n1 x1 → Qj Q2 (n1 + 1)) → (∀ j, j ≠ k → f2 j = lsF (fun j => tu (Q2 j)) (n1 + 1) j) → (∀ j, j < n1 + 1 → Q2 j < nt) → gg_W p l e R s m args below meth c g A 6 Q 0 0 [[(ea, gg_ao g 4 cap f2)]] [some (.int (nI k)), some (.ref (tu x1)), some (.ref ea), some (.ref cm0), none, none] [] 0 := by
    intro n0
    induction n0 with
    | zero => intro k Q2 f2 hmz; exact absurd hmz (Nat.not_lt_zero _)
    | succ n0 ih0 =>
      intro k Q2 f2 hm0 hk hup hx hset hinj hf hlt
      refine gg_iload_n (pc := 0) E dJ32_siftUpUsingComparator_0 rfl rfl ?_
      refine gg_ifN_le (tgt := 43) (pc := 1) E k rfl (by omega) dJ32_siftUpUsingComparator_1 (by decide) (fun c1 => ?_) (fun c1 => ?_)
      · refine gg_aload_n (pc := 43) E dJ32_siftUpUsingComparator_43 rfl rfl ?_
        refine gg_iload_n (pc := 44) E dJ32_siftUpUsingComparator_44 rfl rfl ?_
        refine gg_aload_n (pc := 45) E dJ32_siftUpUsingComparator_45 rfl rfl ?_
        refine gg_aastRN (M' := [_]) (pc := 46) E 4 rfl k rfl (by omega) (by omega) dJ32_siftUpUsingComparator_46 0 rfl (gg_isaO E (gg_rm (List.mem_append_right _ (List.mem_append_left _ (mp_mem (by first | omega | exact hlt _ (by omega)))))) ck_X8 nq3513) rfl ?_
        refine gg_vret (pc := 47) E Fn rfl dJ32_siftUpUsingComparator_47 (by first | exact Nat.le_of_ble_eq_true rfl | (dsimp only; omega)) (by first | exact Nat.le_of_ble_eq_true rfl | (dsimp only; omega)) ?_
        exact ⟨Q2, ⟨up_done hup (Or.inl (by omega)), hset, hinj⟩, rfl, by rw [fin_f (by omega) hx hf]⟩
      · refine gg_iload_n (pc := 4) E dJ32_siftUpUsingComparator_4 rfl rfl ?_
        refine gg_iconst (v := 1) (pc := 5) E dJ32_siftUpUsingComparator_5 (by decide) ?_
        refine gg_isubN (pc := 6) E k 1 rfl rfl (by omega) dJ32_siftUpUsingComparator_6 ?_
        refine gg_iconst (v := 1) (pc := 7) E dJ32_siftUpUsingComparator_7 (by decide) ?_
        refine gg_iushr (pc := 8) E dJ32_siftUpUsingComparator_8 rfl ?_
        refine gg_topI (y := nI ((k - 1) / 2)) (ush1 _ (by omega)) ?_
        refine gg_istore (lv' := [_, _, _, _, _, _]) (pc := 9) E dJ32_siftUpUsingComparator_9 (Nat.le_of_ble_eq_true rfl) rfl rfl ?_
        refine gg_aload_n (pc := 11) E dJ32_siftUpUsingComparator_11 rfl rfl ?_
        refine gg_iload (pc := 12) E dJ32_siftUpUsingComparator_12 rfl ?_
        refine gg_aaldN (pc := 14) E 4 rfl ((k - 1) / 2) rfl (by omega) (by omega) dJ32_siftUpUsingComparator_14 (gg_i 0 rfl) ?_
        refine gg_topV (show va_rf (f2 ((k - 1) / 2)) = .ref (tu (Q2 ((k - 1) / 2))) from by rw [hf _ (by omega), lsF_at (by omega)]; rfl) ?_
        refine gg_astore (lv' := [_, _, _, _, _, _]) (pc := 15) E dJ32_siftUpUsingComparator_15 (Nat.le_of_ble_eq_true rfl) rfl rfl ?_
        refine gg_aload_n (pc := 17) E dJ32_siftUpUsingComparator_17 rfl rfl ?_
        refine gg_aload_n (pc := 18) E dJ32_siftUpUsingComparator_18 rfl rfl ?_
        refine gg_aload (pc := 19) E dJ32_siftUpUsingComparator_19 rfl ?_
        refine gg_callF (F := [_]) (As := [_, _]) (rest := []) (pc := 21) E ck_X11 (ct_X11_compare hl (by first | assumption | omega | exact hlt _ (by omega)) (by first | assumption | omega | exact hlt _ (by omega)) (by first | assumption | omega | exact hlt _ (by omega)) (by first | assumption | omega | exact hlt _ (by omega)) (by first | assumption | omega | exact hlt _ (by omega))) (gg_cwF 2 E (x := ⟨"java/util/Comparator", "compare", "(Ljava/lang/Object;Ljava/lang/Object;)I"⟩) (by decide) nq1805 nq1803 nq1801 (lw_app (lw_in _ [1798, 1802, 1804, 202] (by decide +kernel) (by decide +kernel)) (lw_meth q1806)) (by decide +kernel) ⟨by rw [hRf]; exact Nat.le_of_ble_eq_true rfl, by rw [hRl]; exact Nat.le_of_ble_eq_true rfl⟩) dJ32_siftUpUsingComparator_21 [] (by decide) rfl rfl (List.forall_mem_append.mpr ⟨(List.forall_mem_cons.mpr ⟨(gg_r 0 rfl), (fun _ h => by cases h)⟩), (List.forall_mem_append.mpr ⟨(fun q hq => gg_rm (List.mem_append_right _ (List.mem_append_left _ (hq)))), (fun q hq => gg_rm (List.mem_append_right _ (List.mem_append_right _ (hq))))⟩)⟩) (gg_r 0 rfl) rfl rfl (Nat.le_of_ble_eq_true rfl) (by first | (rw [hRc]; exact Nat.le_of_ble_eq_true rfl) | (rw [hRc]; dsimp only; omega)) (by first | (rw [hRs]; exact Nat.le_of_ble_eq_true rfl) | (rw [hRs]; dsimp only; omega)) ?_ (fun X q C1 h => h.elim)
        rintro _ _ ⟨rfl, rfl⟩
        dsimp only [List.cons_append, List.nil_append, Option.toList]
        refine gg_if_lt (tgt := 32) (pc := 26) E dJ32_siftUpUsingComparator_26 (by decide) (fun c26 => ?_) (fun c26 => ?_)
        · refine gg_aload_n (pc := 32) E dJ32_siftUpUsingComparator_32 rfl rfl ?_
          refine gg_iload_n (pc := 33) E dJ32_siftUpUsingComparator_33 rfl rfl ?_
          refine gg_aload (pc := 34) E dJ32_siftUpUsingComparator_34 rfl ?_
          refine gg_aastRN (M' := [_]) (pc := 36) E 4 rfl k rfl (by omega) (by omega) dJ32_siftUpUsingComparator_36 0 rfl (gg_isaO E (gg_rm (List.mem_append_right _ (List.mem_append_left _ (mp_mem (by first | omega | exact hlt _ (by omega)))))) ck_X8 nq3513) rfl ?_
          refine gg_iload (pc := 37) E dJ32_siftUpUsingComparator_37 rfl ?_
          refine gg_istore_n (lv' := [_, _, _, _, _, _]) (pc := 39) E dJ32_siftUpUsingComparator_39 rfl (Nat.le_of_ble_eq_true rfl) rfl rfl ?_
          refine gg_goto (tgt := 0) (pc := 40) E dJ32_siftUpUsingComparator_40 (by decide) ?_
          refine gg_cv rfl (gg_leS (gg_leS (gg_leS (gg_leS (gg_leN (gg_leN gg_le0)))))) rfl (by first | exact Nat.le_refl _ | omega | (dsimp only; omega)) (by first | exact Nat.le_refl _ | omega | (dsimp only; omega)) (ih0 ((k - 1) / 2) (sw Q2 k ((k - 1) / 2)) (va_up f2 k (some (tu (Q2 ((k - 1) / 2))))) (by omega) (by omega) (up_step hup (by omega) (by omega) (by rw [hx]; exact (dp_lt hkey hx1 (hlt _ (by omega))).mp c26)) (sw_b.trans hx) (fun i => (sw_Qi (by omega) (by omega)).trans (hset i)) (fun a b => sw_Qj (by omega) (by omega) (hinj a b)) (sw_f (by omega) hf) (sw_lt (by omega) (by omega) hlt))
        · refine gg_goto (tgt := 43) (pc := 29) E dJ32_siftUpUsingComparator_29 (by decide) ?_
          refine gg_aload_n (pc := 43) E dJ32_siftUpUsingComparator_43 rfl rfl ?_
          refine gg_iload_n (pc := 44) E dJ32_siftUpUsingComparator_44 rfl rfl ?_
          refine gg_aload_n (pc := 45) E dJ32_siftUpUsingComparator_45 rfl rfl ?_
          refine gg_aastRN (M' := [_]) (pc := 46) E 4 rfl k rfl (by omega) (by omega) dJ32_siftUpUsingComparator_46 0 rfl (gg_isaO E (gg_rm (List.mem_append_right _ (List.mem_append_left _ (mp_mem (by first | omega | exact hlt _ (by omega)))))) ck_X8 nq3513) rfl ?_
          refine gg_vret (pc := 47) E Fn rfl dJ32_siftUpUsingComparator_47 (by first | exact Nat.le_of_ble_eq_true rfl | (dsimp only; omega)) (by first | exact Nat.le_of_ble_eq_true rfl | (dsimp only; omega)) ?_
          exact ⟨Q2, ⟨up_done hup (Or.inr (by rw [hx]; exact Nat.le_of_not_lt fun q => c26 ((dp_lt hkey hx1 (hlt _ (by omega))).mpr q))), hset, hinj⟩, rfl, by rw [fin_f (by omega) hx hf]⟩
  refine gg_cv rfl (gg_leS (gg_leS (gg_leS (gg_leS (gg_leN (gg_leN gg_le0)))))) rfl (by first | exact Nat.le_refl _ | omega | (dsimp only; omega)) (by first | exact Nat.le_refl _ | omega | (dsimp only; omega)) (L0 _ n1 (llU Qa n1 x1) (lsF (fun j => tu (Qa j)) n1) (Nat.lt_succ_self _) (Nat.le_refl _) (up_start hHp) (llU_n) (fun i => push_Qi) (fun a b => push_Qj a b) (fun j hj => pu_f hj) (fun j hj => by unfold llU; split; exact hx1; exact hQ j (by omega)))
set_option maxHeartbeats 4000000 in
theorem ct_J32_siftDownUsingComparatorT {l : Launch} (hl : l.stackTraces = false) {g : gg_G}  {ea cm0 cap n1 x1 nt : Nat} {tu sn hd Qa : Nat → Nat} {row : Nat → Int32} {P : gg_S} {wo : Nat → Nat} {nw : Nat} (hn : n1 < cap) (hn0 : 1 ≤ n1) (hcap : cap ≤ 90) (hkey : ∀ t, t < nt → row (220 + 27 * t + 2) = nI (tno row t) ∧ tno row t ≤ 8 ∧ t < 30) (hP : Po g P sn wo row nw nt) (hinj : ∀ i j, i < nt → j < nt → tu i = tu j → i = j) (hx1 : x1 < nt) (hQ : ∀ j, j < n1 → Qa j < nt) (hHp : Hp (kyT row) Qa (n1 + 1)) (hxn : Qa n1 = x1) : gg_C l g yJ32_siftDownUsingComparator (ws_ yJ32_siftDownUsingComparator cJ32_siftDownUsingComparator 9 none) { frames := 6, cells := 0, slots := 0, locals := 140 } [.int (nI 0), .ref (tu x1), .ref ea, .int (nI n1), .ref cm0] ([(cm0, .inl (10, []))] ++ ((mp (tuN tu sn hd row) nt) ++ P)) [[(ea, gg_ao g 4 cap (lsF (fun j => tu (Qa j)) (n1)))]] (fun vv CC => ∃ (Q3 : Nat → Nat), (Hp (kyT row) Q3 n1 ∧ (∀ i, Qi Q3 n1 i ↔ Qi (llU Qa 0 x1) n1 i) ∧ (Qj (llU Qa 0 x1) n1 → Qj Q3 n1)) ∧ vv = none ∧ CC = [[(ea, gg_ao g 4 cap (lsF (fun j => tu (Q3 j)) (n1)))]]) gg_no := by
  refine gg_of (lv := [_, _, _, _, _, _, _, _, _]) (by decide) hl (Nat.le_of_ble_eq_true rfl) rfl ?_
  intro p e R s m args below meth c A Q hRf hRl hRc hRs E Fn hnm hex
  refine gg_iload_n (pc := 0) E dJ32_siftDownUsingComparator_0 rfl rfl ?_
  refine gg_iconst (v := 1) (pc := 1) E dJ32_siftDownUsingComparator_1 (by decide) ?_
  refine gg_iushr (pc := 2) E dJ32_siftDownUsingComparator_2 rfl ?_
  refine gg_topI (y := nI (n1 / 2)) (ush1 _ (by omega)) ?_
  refine gg_istore (lv' := [_, _, _, _, _, _, _, _, _]) (pc := 3) E dJ32_siftDownUsingComparator_3 (Nat.le_of_ble_eq_true rfl) rfl rfl ?_
  have L5 : ∀ (n : Nat) (k : Nat) (Q2 : Nat → Nat) (f2 : Nat → Option Nat), n1 - k < n → (k < n1) → (Dn (kyT row) Q2 n1 k) → (Q2 k = x1) → (∀ i, Qi Q2 n1 i ↔ Qi (llU Qa 0 x1) n1 i) → (Qj (llU Qa 0 x1) n1 → Qj Q2 n1) → (∀ j, j ≠ k → f2 j = lsF (fun j => tu (Q2 j)) n1 j) → (∀ j, j < n1 → Q2 j < nt) → gg_W p l e R s m args below meth c g A 9 Q 0 0 [[(ea, gg_ao g 4 cap f2)]] [some (.int (nI k)), some (.ref (tu x1)), some (.ref ea), some (.int (nI n1)), some (.ref cm0), some (.int (nI (n1 / 2))), none, none, none] [] 5 := by
    intro n5
    induction n5 with
    | zero => intro k Q2 f2 hmz; exact absurd hmz (Nat.not_lt_zero _)
    | succ n5 ih5 =>
      intro k Q2 f2 hm5 hk hup hx hset hinj hf hlt
      refine gg_iload_n (pc := 5) E dJ32_siftDownUsingComparator_5 rfl rfl ?_
      refine gg_iload (pc := 6) E dJ32_siftDownUsingComparator_6 rfl ?_
      refine gg_icmpN_ge (tgt := 88) (pc := 8) E k (n1 / 2) rfl rfl (by omega) (by omega) dJ32_siftDownUsingComparator_8 (by decide) (fun c8 => ?_) (fun c8 => ?_)
      · refine gg_aload_n (pc := 88) E dJ32_siftDownUsingComparator_88 rfl rfl ?_
        refine gg_iload_n (pc := 89) E dJ32_siftDownUsingComparator_89 rfl rfl ?_
        refine gg_aload_n (pc := 90) E dJ32_siftDownUsingComparator_90 rfl rfl ?_
        refine gg_aastRN (M' := [_]) (pc := 91) E 4 rfl k rfl (by omega) (by omega) dJ32_siftDownUsingComparator_91 0 rfl (gg_isaO E (gg_rm (List.mem_append_right _ (List.mem_append_left _ (mp_mem (by first | omega | exact hlt _ (by omega)))))) ck_X8 nq3513) rfl ?_
        refine gg_vret (pc := 92) E Fn rfl dJ32_siftDownUsingComparator_92 (by first | exact Nat.le_of_ble_eq_true rfl | (dsimp only; omega)) (by first | exact Nat.le_of_ble_eq_true rfl | (dsimp only; omega)) ?_
        exact ⟨Q2, ⟨dn_done hup (fun j j0 hj e9 => by omega), hset, hinj⟩, rfl, by rw [fin_f (by omega) hx hf]⟩
      · refine gg_iload_n (pc := 11) E dJ32_siftDownUsingComparator_11 rfl rfl ?_
        refine gg_iconst (v := 1) (pc := 12) E dJ32_siftDownUsingComparator_12 (by decide) ?_
        refine gg_ishl (pc := 13) E dJ32_siftDownUsingComparator_13 ?_
        refine gg_topI (y := nI (2 * k)) (shl1 _ (by omega)) ?_
        refine gg_iconst (v := 1) (pc := 14) E dJ32_siftDownUsingComparator_14 (by decide) ?_
        refine gg_iaddN (pc := 15) E (2 * k) 1 rfl rfl dJ32_siftDownUsingComparator_15 ?_
        refine gg_istore (lv' := [_, _, _, _, _, _, _, _, _]) (pc := 16) E dJ32_siftDownUsingComparator_16 (Nat.le_of_ble_eq_true rfl) rfl rfl ?_
        refine gg_aload_n (pc := 18) E dJ32_siftDownUsingComparator_18 rfl rfl ?_
        refine gg_iload (pc := 19) E dJ32_siftDownUsingComparator_19 rfl ?_
        refine gg_aaldN (pc := 21) E 4 rfl ((2 * k) + 1) rfl (by omega) (by omega) dJ32_siftDownUsingComparator_21 (gg_i 0 rfl) ?_
        refine gg_topV (show va_rf (f2 (2 * k + 1)) = .ref (tu (Q2 (2 * k + 1))) from by rw [hf _ (by omega), lsF_at (by omega)]; rfl) ?_
        refine gg_astore (lv' := [_, _, _, _, _, _, _, _, _]) (pc := 22) E dJ32_siftDownUsingComparator_22 (Nat.le_of_ble_eq_true rfl) rfl rfl ?_
        refine gg_iload (pc := 24) E dJ32_siftDownUsingComparator_24 rfl ?_
        refine gg_iconst (v := 1) (pc := 26) E dJ32_siftDownUsingComparator_26 (by decide) ?_
        refine gg_iaddN (pc := 27) E ((2 * k) + 1) 1 rfl rfl dJ32_siftDownUsingComparator_27 ?_
        refine gg_istore (lv' := [_, _, _, _, _, _, _, _, _]) (pc := 28) E dJ32_siftDownUsingComparator_28 (Nat.le_of_ble_eq_true rfl) rfl rfl ?_
        refine gg_iload (pc := 30) E dJ32_siftDownUsingComparator_30 rfl ?_
        refine gg_iload_n (pc := 32) E dJ32_siftDownUsingComparator_32 rfl rfl ?_
        refine gg_icmpN_ge (tgt := 61) (pc := 33) E ((2 * k) + 1 + 1) n1 rfl rfl (by omega) (by omega) dJ32_siftDownUsingComparator_33 (by decide) (fun c33 => ?_) (fun c33 => ?_)
        · refine gg_aload (pc := 61) E dJ32_siftDownUsingComparator_61 rfl ?_
          refine gg_aload_n (pc := 63) E dJ32_siftDownUsingComparator_63 rfl rfl ?_
          refine gg_aload (pc := 64) E dJ32_siftDownUsingComparator_64 rfl ?_
          refine gg_callF (F := [_]) (As := [_, _]) (rest := []) (pc := 66) E ck_X11 (ct_X11_compare hl (by first | assumption | omega | exact hlt _ (by omega)) (by first | assumption | omega | exact hlt _ (by omega)) (by first | assumption | omega | exact hlt _ (by omega)) (by first | assumption | omega | exact hlt _ (by omega)) (by first | assumption | omega | exact hlt _ (by omega))) (gg_cwF 2 E (x := ⟨"java/util/Comparator", "compare", "(Ljava/lang/Object;Ljava/lang/Object;)I"⟩) (by decide) nq1805 nq1803 nq1801 (lw_app (lw_in _ [1798, 1802, 1804, 202] (by decide +kernel) (by decide +kernel)) (lw_meth q1806)) (by decide +kernel) ⟨by rw [hRf]; exact Nat.le_of_ble_eq_true rfl, by rw [hRl]; exact Nat.le_of_ble_eq_true rfl⟩) dJ32_siftDownUsingComparator_66 [] (by decide) rfl rfl (List.forall_mem_append.mpr ⟨(List.forall_mem_cons.mpr ⟨(gg_r 0 rfl), (fun _ h => by cases h)⟩), (List.forall_mem_append.mpr ⟨(fun q hq => gg_rm (List.mem_append_right _ (List.mem_append_left _ (hq)))), (fun q hq => gg_rm (List.mem_append_right _ (List.mem_append_right _ (hq))))⟩)⟩) (gg_r 0 rfl) rfl rfl (Nat.le_of_ble_eq_true rfl) (by first | (rw [hRc]; exact Nat.le_of_ble_eq_true rfl) | (rw [hRc]; dsimp only; omega)) (by first | (rw [hRs]; exact Nat.le_of_ble_eq_true rfl) | (rw [hRs]; dsimp only; omega)) ?_ (fun X q C1 h => h.elim)
          rintro _ _ ⟨rfl, rfl⟩
          dsimp only [List.cons_append, List.nil_append, Option.toList]
          refine gg_if_gt (tgt := 77) (pc := 71) E dJ32_siftDownUsingComparator_71 (by decide) (fun c71 => ?_) (fun c71 => ?_)
          · refine gg_aload_n (pc := 77) E dJ32_siftDownUsingComparator_77 rfl rfl ?_
            refine gg_iload_n (pc := 78) E dJ32_siftDownUsingComparator_78 rfl rfl ?_
            refine gg_aload (pc := 79) E dJ32_siftDownUsingComparator_79 rfl ?_
            refine gg_aastRN (M' := [_]) (pc := 81) E 4 rfl k rfl (by omega) (by omega) dJ32_siftDownUsingComparator_81 0 rfl (gg_isaO E (gg_rm (List.mem_append_right _ (List.mem_append_left _ (mp_mem (by first | omega | exact hlt _ (by omega)))))) ck_X8 nq3513) rfl ?_
            refine gg_iload (pc := 82) E dJ32_siftDownUsingComparator_82 rfl ?_
            refine gg_istore_n (lv' := [_, _, _, _, _, _, _, _, _]) (pc := 84) E dJ32_siftDownUsingComparator_84 rfl (Nat.le_of_ble_eq_true rfl) rfl rfl ?_
            refine gg_goto (tgt := 5) (pc := 85) E dJ32_siftDownUsingComparator_85 (by decide) ?_
            refine gg_cv rfl (gg_leS (gg_leS (gg_leS (gg_leS (gg_leS (gg_leS (gg_leN (gg_leN (gg_leN gg_le0))))))))) rfl (by first | exact Nat.le_refl _ | omega | (dsimp only; omega)) (by first | exact Nat.le_refl _ | omega | (dsimp only; omega)) (ih5 (2 * k + 1) (sw Q2 k (2 * k + 1)) (va_up f2 k (some (tu (Q2 (2 * k + 1))))) (by omega) (by omega) (dn_step hup (by omega) (by omega) (by omega) (fun j j0 hj e9 => Nat.le_of_eq (by rw [show j = 2 * k + 1 by omega])) (by rw [hx]; exact (dp_gt hkey hx1 (hlt _ (by omega))).mp c71)) (sw_b.trans hx) (fun i => (sw_Qi (by omega) (by omega)).trans (hset i)) (fun a => sw_Qj (by omega) (by omega) (hinj a)) (sw_f (by omega) hf) (sw_lt (by omega) (by omega) hlt))
          · refine gg_goto (tgt := 88) (pc := 74) E dJ32_siftDownUsingComparator_74 (by decide) ?_
            refine gg_aload_n (pc := 88) E dJ32_siftDownUsingComparator_88 rfl rfl ?_
            refine gg_iload_n (pc := 89) E dJ32_siftDownUsingComparator_89 rfl rfl ?_
            refine gg_aload_n (pc := 90) E dJ32_siftDownUsingComparator_90 rfl rfl ?_
            refine gg_aastRN (M' := [_]) (pc := 91) E 4 rfl k rfl (by omega) (by omega) dJ32_siftDownUsingComparator_91 0 rfl (gg_isaO E (gg_rm (List.mem_append_right _ (List.mem_append_left _ (mp_mem (by first | omega | exact hlt _ (by omega)))))) ck_X8 nq3513) rfl ?_
            refine gg_vret (pc := 92) E Fn rfl dJ32_siftDownUsingComparator_92 (by first | exact Nat.le_of_ble_eq_true rfl | (dsimp only; omega)) (by first | exact Nat.le_of_ble_eq_true rfl | (dsimp only; omega)) ?_
            have hmn : ∀ j, 0 < j → j < n1 → (j - 1) / 2 = k → (kyT row) (Q2 (2 * k + 1)) ≤ (kyT row) (Q2 j) := (fun j j0 hj e9 => Nat.le_of_eq (by rw [show j = 2 * k + 1 by omega]))
            exact ⟨Q2, ⟨dn_done hup (fun j j0 hj e9 => Nat.le_trans (by rw [hx]; exact Nat.le_of_not_lt fun q => c71 ((dp_gt hkey hx1 (hlt _ (by omega))).mpr q)) (hmn j j0 hj e9)), hset, hinj⟩, rfl, by rw [fin_f (by omega) hx hf]⟩
        · refine gg_aload (pc := 36) E dJ32_siftDownUsingComparator_36 rfl ?_
          refine gg_aload (pc := 38) E dJ32_siftDownUsingComparator_38 rfl ?_
          refine gg_aload_n (pc := 40) E dJ32_siftDownUsingComparator_40 rfl rfl ?_
          refine gg_iload (pc := 41) E dJ32_siftDownUsingComparator_41 rfl ?_
          refine gg_aaldN (pc := 43) E 4 rfl ((2 * k) + 1 + 1) rfl (by omega) (by omega) dJ32_siftDownUsingComparator_43 (gg_i 0 rfl) ?_
          refine gg_topV (show va_rf (f2 (2 * k + 1 + 1)) = .ref (tu (Q2 (2 * k + 1 + 1))) from by rw [hf _ (by omega), lsF_at (by omega)]; rfl) ?_
          refine gg_callF (F := [_]) (As := [_, _]) (rest := []) (pc := 44) E ck_X11 (ct_X11_compare hl (by first | assumption | omega | exact hlt _ (by omega)) (by first | assumption | omega | exact hlt _ (by omega)) (by first | assumption | omega | exact hlt _ (by omega)) (by first | assumption | omega | exact hlt _ (by omega)) (by first | assumption | omega | exact hlt _ (by omega))) (gg_cwF 2 E (x := ⟨"java/util/Comparator", "compare", "(Ljava/lang/Object;Ljava/lang/Object;)I"⟩) (by decide) nq1805 nq1803 nq1801 (lw_app (lw_in _ [1798, 1802, 1804, 202] (by decide +kernel) (by decide +kernel)) (lw_meth q1806)) (by decide +kernel) ⟨by rw [hRf]; exact Nat.le_of_ble_eq_true rfl, by rw [hRl]; exact Nat.le_of_ble_eq_true rfl⟩) dJ32_siftDownUsingComparator_44 [] (by decide) rfl rfl (List.forall_mem_append.mpr ⟨(List.forall_mem_cons.mpr ⟨(gg_r 0 rfl), (fun _ h => by cases h)⟩), (List.forall_mem_append.mpr ⟨(fun q hq => gg_rm (List.mem_append_right _ (List.mem_append_left _ (hq)))), (fun q hq => gg_rm (List.mem_append_right _ (List.mem_append_right _ (hq))))⟩)⟩) (gg_r 0 rfl) rfl rfl (Nat.le_of_ble_eq_true rfl) (by first | (rw [hRc]; exact Nat.le_of_ble_eq_true rfl) | (rw [hRc]; dsimp only; omega)) (by first | (rw [hRs]; exact Nat.le_of_ble_eq_true rfl) | (rw [hRs]; dsimp only; omega)) ?_ (fun X q C1 h => h.elim)
          rintro _ _ ⟨rfl, rfl⟩
          dsimp only [List.cons_append, List.nil_append, Option.toList]
          refine gg_if_le (tgt := 61) (pc := 49) E dJ32_siftDownUsingComparator_49 (by decide) (fun c49 => ?_) (fun c49 => ?_)
          · refine gg_aload (pc := 61) E dJ32_siftDownUsingComparator_61 rfl ?_
            refine gg_aload_n (pc := 63) E dJ32_siftDownUsingComparator_63 rfl rfl ?_
            refine gg_aload (pc := 64) E dJ32_siftDownUsingComparator_64 rfl ?_
            refine gg_callF (F := [_]) (As := [_, _]) (rest := []) (pc := 66) E ck_X11 (ct_X11_compare hl (by first | assumption | omega | exact hlt _ (by omega)) (by first | assumption | omega | exact hlt _ (by omega)) (by first | assumption | omega | exact hlt _ (by omega)) (by first | assumption | omega | exact hlt _ (by omega)) (by first | assumption | omega | exact hlt _ (by omega))) (gg_cwF 2 E (x := ⟨"java/util/Comparator", "compare", "(Ljava/lang/Object;Ljava/lang/Object;)I"⟩) (by decide) nq1805 nq1803 nq1801 (lw_app (lw_in _ [1798, 1802, 1804, 202] (by decide +kernel) (by decide +kernel)) (lw_meth q1806)) (by decide +kernel) ⟨by rw [hRf]; exact Nat.le_of_ble_eq_true rfl, by rw [hRl]; exact Nat.le_of_ble_eq_true rfl⟩) dJ32_siftDownUsingComparator_66 [] (by decide) rfl rfl (List.forall_mem_append.mpr ⟨(List.forall_mem_cons.mpr ⟨(gg_r 0 rfl), (fun _ h => by cases h)⟩), (List.forall_mem_append.mpr ⟨(fun q hq => gg_rm (List.mem_append_right _ (List.mem_append_left _ (hq)))), (fun q hq => gg_rm (List.mem_append_right _ (List.mem_append_right _ (hq))))⟩)⟩) (gg_r 0 rfl) rfl rfl (Nat.le_of_ble_eq_true rfl) (by first | (rw [hRc]; exact Nat.le_of_ble_eq_true rfl) | (rw [hRc]; dsimp only; omega)) (by first | (rw [hRs]; exact Nat.le_of_ble_eq_true rfl) | (rw [hRs]; dsimp only; omega)) ?_ (fun X q C1 h => h.elim)
            rintro _ _ ⟨rfl, rfl⟩
            dsimp only [List.cons_append, List.nil_append, Option.toList]
            refine gg_if_gt (tgt := 77) (pc := 71) E dJ32_siftDownUsingComparator_71 (by decide) (fun c71 => ?_) (fun c71 => ?_)
            · refine gg_aload_n (pc := 77) E dJ32_siftDownUsingComparator_77 rfl rfl ?_
              refine gg_iload_n (pc := 78) E dJ32_siftDownUsingComparator_78 rfl rfl ?_
              refine gg_aload (pc := 79) E dJ32_siftDownUsingComparator_79 rfl ?_
              refine gg_aastRN (M' := [_]) (pc := 81) E 4 rfl k rfl (by omega) (by omega) dJ32_siftDownUsingComparator_81 0 rfl (gg_isaO E (gg_rm (List.mem_append_right _ (List.mem_append_left _ (mp_mem (by first | omega | exact hlt _ (by omega)))))) ck_X8 nq3513) rfl ?_
              refine gg_iload (pc := 82) E dJ32_siftDownUsingComparator_82 rfl ?_
              refine gg_istore_n (lv' := [_, _, _, _, _, _, _, _, _]) (pc := 84) E dJ32_siftDownUsingComparator_84 rfl (Nat.le_of_ble_eq_true rfl) rfl rfl ?_
              refine gg_goto (tgt := 5) (pc := 85) E dJ32_siftDownUsingComparator_85 (by decide) ?_
              refine gg_cv rfl (gg_leS (gg_leS (gg_leS (gg_leS (gg_leS (gg_leS (gg_leN (gg_leN (gg_leN gg_le0))))))))) rfl (by first | exact Nat.le_refl _ | omega | (dsimp only; omega)) (by first | exact Nat.le_refl _ | omega | (dsimp only; omega)) (ih5 (2 * k + 1) (sw Q2 k (2 * k + 1)) (va_up f2 k (some (tu (Q2 (2 * k + 1))))) (by omega) (by omega) (dn_step hup (by omega) (by omega) (by omega) (fun j j0 hj e9 => (show j = 2 * k + 1 ∨ j = 2 * k + 1 + 1 by omega).elim (fun z => Nat.le_of_eq (by rw [z])) (fun z => by rw [z]; exact Nat.le_of_not_lt fun q => absurd ((dp_gt hkey (hlt _ (by omega)) (hlt _ (by omega))).mpr q) (Int32.not_lt.mpr c49))) (by rw [hx]; exact (dp_gt hkey hx1 (hlt _ (by omega))).mp c71)) (sw_b.trans hx) (fun i => (sw_Qi (by omega) (by omega)).trans (hset i)) (fun a => sw_Qj (by omega) (by omega) (hinj a)) (sw_f (by omega) hf) (sw_lt (by omega) (by omega) hlt))
            · refine gg_goto (tgt := 88) (pc := 74) E dJ32_siftDownUsingComparator_74 (by decide) ?_
              refine gg_aload_n (pc := 88) E dJ32_siftDownUsingComparator_88 rfl rfl ?_
              refine gg_iload_n (pc := 89) E dJ32_siftDownUsingComparator_89 rfl rfl ?_
              refine gg_aload_n (pc := 90) E dJ32_siftDownUsingComparator_90 rfl rfl ?_
              refine gg_aastRN (M' := [_]) (pc := 91) E 4 rfl k rfl (by omega) (by omega) dJ32_siftDownUsingComparator_91 0 rfl (gg_isaO E (gg_rm (List.mem_append_right _ (List.mem_append_left _ (mp_mem (by first | omega | exact hlt _ (by omega)))))) ck_X8 nq3513) rfl ?_
              refine gg_vret (pc := 92) E Fn rfl dJ32_siftDownUsingComparator_92 (by first | exact Nat.le_of_ble_eq_true rfl | (dsimp only; omega)) (by first | exact Nat.le_of_ble_eq_true rfl | (dsimp only; omega)) ?_
              have hmn : ∀ j, 0 < j → j < n1 → (j - 1) / 2 = k → (kyT row) (Q2 (2 * k + 1)) ≤ (kyT row) (Q2 j) := (fun j j0 hj e9 => (show j = 2 * k + 1 ∨ j = 2 * k + 1 + 1 by omega).elim (fun z => Nat.le_of_eq (by rw [z])) (fun z => by rw [z]; exact Nat.le_of_not_lt fun q => absurd ((dp_gt hkey (hlt _ (by omega)) (hlt _ (by omega))).mpr q) (Int32.not_lt.mpr c49)))
              exact ⟨Q2, ⟨dn_done hup (fun j j0 hj e9 => Nat.le_trans (by rw [hx]; exact Nat.le_of_not_lt fun q => c71 ((dp_gt hkey hx1 (hlt _ (by omega))).mpr q)) (hmn j j0 hj e9)), hset, hinj⟩, rfl, by rw [fin_f (by omega) hx hf]⟩
          · refine gg_aload_n (pc := 52) E dJ32_siftDownUsingComparator_52 rfl rfl ?_
            refine gg_iload (pc := 53) E dJ32_siftDownUsingComparator_53 rfl ?_
            refine gg_dup (pc := 55) E dJ32_siftDownUsingComparator_55 rfl ?_
            refine gg_istore (lv' := [_, _, _, _, _, _, _, _, _]) (pc := 56) E dJ32_siftDownUsingComparator_56 (Nat.le_of_ble_eq_true rfl) rfl rfl ?_
            refine gg_aaldN (pc := 58) E 4 rfl ((2 * k) + 1 + 1) rfl (by omega) (by omega) dJ32_siftDownUsingComparator_58 (gg_i 0 rfl) ?_
            refine gg_topV (show va_rf (f2 (2 * k + 1 + 1)) = .ref (tu (Q2 (2 * k + 1 + 1))) from by rw [hf _ (by omega), lsF_at (by omega)]; rfl) ?_
            refine gg_astore (lv' := [_, _, _, _, _, _, _, _, _]) (pc := 59) E dJ32_siftDownUsingComparator_59 (Nat.le_of_ble_eq_true rfl) rfl rfl ?_
            refine gg_aload (pc := 61) E dJ32_siftDownUsingComparator_61 rfl ?_
            refine gg_aload_n (pc := 63) E dJ32_siftDownUsingComparator_63 rfl rfl ?_
            refine gg_aload (pc := 64) E dJ32_siftDownUsingComparator_64 rfl ?_
            refine gg_callF (F := [_]) (As := [_, _]) (rest := []) (pc := 66) E ck_X11 (ct_X11_compare hl (by first | assumption | omega | exact hlt _ (by omega)) (by first | assumption | omega | exact hlt _ (by omega)) (by first | assumption | omega | exact hlt _ (by omega)) (by first | assumption | omega | exact hlt _ (by omega)) (by first | assumption | omega | exact hlt _ (by omega))) (gg_cwF 2 E (x := ⟨"java/util/Comparator", "compare", "(Ljava/lang/Object;Ljava/lang/Object;)I"⟩) (by decide) nq1805 nq1803 nq1801 (lw_app (lw_in _ [1798, 1802, 1804, 202] (by decide +kernel) (by decide +kernel)) (lw_meth q1806)) (by decide +kernel) ⟨by rw [hRf]; exact Nat.le_of_ble_eq_true rfl, by rw [hRl]; exact Nat.le_of_ble_eq_true rfl⟩) dJ32_siftDownUsingComparator_66 [] (by decide) rfl rfl (List.forall_mem_append.mpr ⟨(List.forall_mem_cons.mpr ⟨(gg_r 0 rfl), (fun _ h => by cases h)⟩), (List.forall_mem_append.mpr ⟨(fun q hq => gg_rm (List.mem_append_right _ (List.mem_append_left _ (hq)))), (fun q hq => gg_rm (List.mem_append_right _ (List.mem_append_right _ (hq))))⟩)⟩) (gg_r 0 rfl) rfl rfl (Nat.le_of_ble_eq_true rfl) (by first | (rw [hRc]; exact Nat.le_of_ble_eq_true rfl) | (rw [hRc]; dsimp only; omega)) (by first | (rw [hRs]; exact Nat.le_of_ble_eq_true rfl) | (rw [hRs]; dsimp only; omega)) ?_ (fun X q C1 h => h.elim)
            rintro _ _ ⟨rfl, rfl⟩
            dsimp only [List.cons_append, List.nil_append, Option.toList]
            refine gg_if_gt (tgt := 77) (pc := 71) E dJ32_siftDownUsingComparator_71 (by decide) (fun c71 => ?_) (fun c71 => ?_)
            · refine gg_aload_n (pc := 77) E dJ32_siftDownUsingComparator_77 rfl rfl ?_
              refine gg_iload_n (pc := 78) E dJ32_siftDownUsingComparator_78 rfl rfl ?_
              refine gg_aload (pc := 79) E dJ32_siftDownUsingComparator_79 rfl ?_
              refine gg_aastRN (M' := [_]) (pc := 81) E 4 rfl k rfl (by omega) (by omega) dJ32_siftDownUsingComparator_81 0 rfl (gg_isaO E (gg_rm (List.mem_append_right _ (List.mem_append_left _ (mp_mem (by first | omega | exact hlt _ (by omega)))))) ck_X8 nq3513) rfl ?_
              refine gg_iload (pc := 82) E dJ32_siftDownUsingComparator_82 rfl ?_
              refine gg_istore_n (lv' := [_, _, _, _, _, _, _, _, _]) (pc := 84) E dJ32_siftDownUsingComparator_84 rfl (Nat.le_of_ble_eq_true rfl) rfl rfl ?_
              refine gg_goto (tgt := 5) (pc := 85) E dJ32_siftDownUsingComparator_85 (by decide) ?_
              refine gg_cv rfl (gg_leS (gg_leS (gg_leS (gg_leS (gg_leS (gg_leS (gg_leN (gg_leN (gg_leN gg_le0))))))))) rfl (by first | exact Nat.le_refl _ | omega | (dsimp only; omega)) (by first | exact Nat.le_refl _ | omega | (dsimp only; omega)) (ih5 (2 * k + 1 + 1) (sw Q2 k (2 * k + 1 + 1)) (va_up f2 k (some (tu (Q2 (2 * k + 1 + 1))))) (by omega) (by omega) (dn_step hup (by omega) (by omega) (by omega) (fun j j0 hj e9 => (show j = 2 * k + 1 ∨ j = 2 * k + 1 + 1 by omega).elim (fun z => by rw [z]; exact Nat.le_of_lt ((dp_gt hkey (hlt _ (by omega)) (hlt _ (by omega))).mp (Int32.not_le.mp c49))) (fun z => Nat.le_of_eq (by rw [z]))) (by rw [hx]; exact (dp_gt hkey hx1 (hlt _ (by omega))).mp c71)) (sw_b.trans hx) (fun i => (sw_Qi (by omega) (by omega)).trans (hset i)) (fun a => sw_Qj (by omega) (by omega) (hinj a)) (sw_f (by omega) hf) (sw_lt (by omega) (by omega) hlt))
            · refine gg_goto (tgt := 88) (pc := 74) E dJ32_siftDownUsingComparator_74 (by decide) ?_
              refine gg_aload_n (pc := 88) E dJ32_siftDownUsingComparator_88 rfl rfl ?_
              refine gg_iload_n (pc := 89) E dJ32_siftDownUsingComparator_89 rfl rfl ?_
              refine gg_aload_n (pc := 90) E dJ32_siftDownUsingComparator_90 rfl rfl ?_
              refine gg_aastRN (M' := [_]) (pc := 91) E 4 rfl k rfl (by omega) (by omega) dJ32_siftDownUsingComparator_91 0 rfl (gg_isaO E (gg_rm (List.mem_append_right _ (List.mem_append_left _ (mp_mem (by first | omega | exact hlt _ (by omega)))))) ck_X8 nq3513) rfl ?_
              refine gg_vret (pc := 92) E Fn rfl dJ32_siftDownUsingComparator_92 (by first | exact Nat.le_of_ble_eq_true rfl | (dsimp only; omega)) (by first | exact Nat.le_of_ble_eq_true rfl | (dsimp only; omega)) ?_
              have hmn : ∀ j, 0 < j → j < n1 → (j - 1) / 2 = k → (kyT row) (Q2 (2 * k + 1 + 1)) ≤ (kyT row) (Q2 j) := (fun j j0 hj e9 => (show j = 2 * k + 1 ∨ j = 2 * k + 1 + 1 by omega).elim (fun z => by rw [z]; exact Nat.le_of_lt ((dp_gt hkey (hlt _ (by omega)) (hlt _ (by omega))).mp (Int32.not_le.mp c49))) (fun z => Nat.le_of_eq (by rw [z])))
              exact ⟨Q2, ⟨dn_done hup (fun j j0 hj e9 => Nat.le_trans (by rw [hx]; exact Nat.le_of_not_lt fun q => c71 ((dp_gt hkey hx1 (hlt _ (by omega))).mpr q)) (hmn j j0 hj e9)), hset, hinj⟩, rfl, by rw [fin_f (by omega) hx hf]⟩
  refine gg_cv rfl (gg_leS (gg_leS (gg_leS (gg_leS (gg_leS (gg_leS (gg_leN (gg_leN (gg_leN gg_le0))))))))) rfl (by first | exact Nat.le_refl _ | omega | (dsimp only; omega)) (by first | exact Nat.le_refl _ | omega | (dsimp only; omega)) (L5 _ 0 (llU Qa 0 x1) (lsF (fun j => tu (Qa j)) n1) (Nat.lt_succ_self _) (by omega) (by rw [← hxn]; exact dn_start hHp) (llU_n) (fun i => Iff.rfl) (id) (fun j hj => dn_f hj) (fun j hj => by unfold llU; split; exact hx1; exact hQ j hj))
set_option maxHeartbeats 4000000 in
theorem ct_J32_siftUpT {l : Launch} (hl : l.stackTraces = false) {g : gg_G}  {h : Nat} {mc1 : Int32} {ea cm0 cap n1 x1 nt : Nat} {tu sn hd Qa : Nat → Nat} {row : Nat → Int32} {P : gg_S} {wo : Nat → Nat} {nw : Nat} (hn : n1 < cap) (hcap : cap ≤ 90) (hkey : ∀ t, t < nt → row (220 + 27 * t + 2) = nI (tno row t) ∧ tno row t ≤ 8 ∧ t < 30) (hP : Po g P sn wo row nw nt) (hinj : ∀ i j, i < nt → j < nt → tu i = tu j → i = j) (hx1 : x1 < nt) (hQ : ∀ j, j < n1 → Qa j < nt) (hHp : Hp (kyT row) Qa n1) : gg_C l g yJ32_siftUp (ws_ yJ32_siftUp cJ32_siftUp 3 none) { frames := 7, cells := 0, slots := 0, locals := 165 } [.ref h, .int (nI n1), .ref (tu x1)] ([(h, .inl (20, [.ref ea, .int (nI n1), .ref cm0, .int mc1])), (cm0, .inl (10, []))] ++ ((mp (tuN tu sn hd row) nt) ++ P)) [[(ea, gg_ao g 4 cap (lsF (fun j => tu (Qa j)) (n1)))]] (fun vv CC => ∃ (Q3 : Nat → Nat), (Hp (kyT row) Q3 (n1 + 1) ∧ (∀ i, Qi Q3 (n1 + 1) i ↔ Qi Qa n1 i ∨ i = x1) ∧ (Qj Qa n1 → ¬ Qi Qa n1 x1 → Qj Q3 (n1 + 1))) ∧ vv = none ∧ CC = [[(ea, gg_ao g 4 cap (lsF (fun j => tu (Q3 j)) (n1 + 1)))]]) gg_no := by
  refine gg_of (lv := [_, _, _]) (by decide) hl (Nat.le_of_ble_eq_true rfl) rfl ?_
  intro p e R s m args below meth c A Q hRf hRl hRc hRs E Fn hnm hex
  refine gg_aload_n (pc := 0) E dJ32_siftUp_0 rfl rfl ?_
  refine gg_get (pc := 1) E ck_J32 2 q1752 rfl (by decide) dJ32_siftUp_1 (gg_r 0 rfl) rfl ?_
  refine gg_ifnull (pc := 4) E dJ32_siftUp_4 ?_
  refine gg_iload_n (pc := 7) E dJ32_siftUp_7 rfl rfl ?_
  refine gg_aload_n (pc := 8) E dJ32_siftUp_8 rfl rfl ?_
  refine gg_aload_n (pc := 9) E dJ32_siftUp_9 rfl rfl ?_
  refine gg_get (pc := 10) E ck_J32 0 q1750 rfl (by decide) dJ32_siftUp_10 (gg_r 0 rfl) rfl ?_
  refine gg_aload_n (pc := 13) E dJ32_siftUp_13 rfl rfl ?_
  refine gg_get (pc := 14) E ck_J32 2 q1752 rfl (by decide) dJ32_siftUp_14 (gg_r 0 rfl) rfl ?_
  refine gg_callS (F := []) (As := [.int (nI n1), _, _, _]) (rest := []) (pc := 17) E (ct_J32_siftUpUsingComparatorT hl (by first | assumption | omega | exact hlt _ (by omega)) (by first | assumption | omega | exact hlt _ (by omega)) (by first | assumption | omega | exact hlt _ (by omega)) (by first | assumption | omega | exact hlt _ (by omega)) (by first | assumption | omega | exact hlt _ (by omega)) (by first | assumption | omega | exact hlt _ (by omega)) (by first | assumption | omega | exact hlt _ (by omega)) (by first | assumption | omega | exact hlt _ (by omega))) (va_cwS 4 E.2.2.2.2.1 (lw_S q1794 q1795 q194 q1796) rfl rfl rfl (by decide +kernel) ⟨by rw [hRf]; exact Nat.le_of_ble_eq_true rfl, by rw [hRl]; exact Nat.le_of_ble_eq_true rfl⟩) dJ32_siftUp_17 [0] (by decide) rfl rfl (List.forall_mem_append.mpr ⟨(List.forall_mem_cons.mpr ⟨(gg_r 1 rfl), (fun _ h => by cases h)⟩), (List.forall_mem_append.mpr ⟨(fun q hq => gg_rm (List.mem_append_right _ (List.mem_append_left _ (hq)))), (fun q hq => gg_rm (List.mem_append_right _ (List.mem_append_right _ (hq))))⟩)⟩) rfl rfl (Nat.le_of_ble_eq_true rfl) (by first | (rw [hRc]; exact Nat.le_of_ble_eq_true rfl) | (rw [hRc]; dsimp only; omega)) (by first | (rw [hRs]; exact Nat.le_of_ble_eq_true rfl) | (rw [hRs]; dsimp only; omega)) ?_ (fun X q C1 h => h.elim)
  rintro _ _ ⟨Q3, hp, rfl, rfl⟩
  dsimp only [List.cons_append, List.nil_append, Option.toList]
  refine gg_goto (tgt := 32) (pc := 20) E dJ32_siftUp_20 (by decide) ?_
  refine gg_vret (pc := 32) E Fn rfl dJ32_siftUp_32 (by first | exact Nat.le_of_ble_eq_true rfl | (dsimp only; omega)) (by first | exact Nat.le_of_ble_eq_true rfl | (dsimp only; omega)) ?_
  exact ⟨Q3, hp, rfl, rfl⟩
set_option maxHeartbeats 4000000 in
theorem ct_J32_offerT {l : Launch} (hl : l.stackTraces = false) {g : gg_G}  {h : Nat} {mc1 : Int32} {ea cm0 cap n1 x1 nt : Nat} {tu sn hd Qa : Nat → Nat} {row : Nat → Int32} {P : gg_S} {wo : Nat → Nat} {nw : Nat} (hn : n1 < cap) (hcap : cap ≤ 90) (hkey : ∀ t, t < nt → row (220 + 27 * t + 2) = nI (tno row t) ∧ tno row t ≤ 8 ∧ t < 30) (hP : Po g P sn wo row nw nt) (hinj : ∀ i j, i < nt → j < nt → tu i = tu j → i = j) (hx1 : x1 < nt) (hQ : ∀ j, j < n1 → Qa j < nt) (hHp : Hp (kyT row) Qa n1) : gg_C l g yJ32_offer (ws_ yJ32_offer cJ32_offer 3 (some .boolean)) { frames := 8, cells := 0, slots := 0, locals := 187 } [.ref h, .ref (tu x1)] ([(cm0, .inl (10, []))] ++ ((mp (tuN tu sn hd row) nt) ++ P)) [[(h, .inl (20, [.ref ea, .int (nI n1), .ref cm0, .int mc1]))], [(ea, gg_ao g 4 cap (lsF (fun j => tu (Qa j)) (n1)))]] (fun vv CC => ∃ (Q3 : Nat → Nat), (Hp (kyT row) Q3 (n1 + 1) ∧ (∀ i, Qi Q3 (n1 + 1) i ↔ Qi Qa n1 i ∨ i = x1) ∧ (Qj Qa n1 → ¬ Qi Qa n1 x1 → Qj Q3 (n1 + 1))) ∧ vv = some (.int 1) ∧ CC = [[(h, .inl (20, [.ref ea, .int (nI (n1 + 1)), .ref cm0, .int (mc1 + 1)]))], [(ea, gg_ao g 4 cap (lsF (fun j => tu (Q3 j)) (n1 + 1)))]]) gg_no := by
  refine gg_of (lv := [_, _, _]) (by decide) hl (Nat.le_of_ble_eq_true rfl) rfl ?_
  intro p e R s m args below meth c A Q hRf hRl hRc hRs E Fn hnm hex
  refine gg_aload_n (pc := 0) E dJ32_offer_0 rfl rfl ?_
  refine gg_ifnonnull (tgt := 12) (pc := 1) E dJ32_offer_1 (by decide) ?_
  refine gg_aload_n (pc := 12) E dJ32_offer_12 rfl rfl ?_
  refine gg_dup (pc := 13) E dJ32_offer_13 rfl ?_
  refine gg_get (pc := 14) E ck_J32 3 q1753 rfl (by decide) dJ32_offer_14 (gg_i 0 rfl) rfl ?_
  refine gg_iconst (v := 1) (pc := 17) E dJ32_offer_17 (by decide) ?_
  refine gg_iadd (pc := 18) E dJ32_offer_18 ?_
  refine gg_put (fs' := [_, _, _, _]) (M' := [_, _]) (pc := 19) E ck_J32 3 q1753 rfl (by decide) dJ32_offer_19 0 rfl rfl (rfl) rfl (Nat.le_of_ble_eq_true rfl) rfl rfl ?_
  refine gg_aload_n (pc := 22) E dJ32_offer_22 rfl rfl ?_
  refine gg_get (pc := 23) E ck_J32 1 q1751 rfl (by decide) dJ32_offer_23 (gg_i 0 rfl) rfl ?_
  refine gg_istore_n (lv' := [_, _, _]) (pc := 26) E dJ32_offer_26 rfl (Nat.le_of_ble_eq_true rfl) rfl rfl ?_
  refine gg_iload_n (pc := 27) E dJ32_offer_27 rfl rfl ?_
  refine gg_aload_n (pc := 28) E dJ32_offer_28 rfl rfl ?_
  refine gg_get (pc := 29) E ck_J32 0 q1750 rfl (by decide) dJ32_offer_29 (gg_i 0 rfl) rfl ?_
  refine gg_alen (pc := 32) E 4 rfl dJ32_offer_32 (gg_i 1 rfl) ?_
  refine gg_icmpN_lt (tgt := 43) (pc := 33) E n1 cap rfl rfl (by omega) (by omega) dJ32_offer_33 (by decide) (fun c33 => ?_) (fun c33 => ?_)
  rotate_left
  · exact absurd hn (by omega)
  refine gg_aload_n (pc := 43) E dJ32_offer_43 rfl rfl ?_
  refine gg_iload_n (pc := 44) E dJ32_offer_44 rfl rfl ?_
  refine gg_aload_n (pc := 45) E dJ32_offer_45 rfl rfl ?_
  refine gg_callV (F := [_]) (As := [.int (nI n1), _]) (rest := []) (pc := 46) E ck_J32 (ct_J32_siftUpT hl (by first | assumption | omega | exact hlt _ (by omega)) (by first | assumption | omega | exact hlt _ (by omega)) (by first | assumption | omega | exact hlt _ (by omega)) (by first | assumption | omega | exact hlt _ (by omega)) (by first | assumption | omega | exact hlt _ (by omega)) (by first | assumption | omega | exact hlt _ (by omega)) (by first | assumption | omega | exact hlt _ (by omega)) (by first | assumption | omega | exact hlt _ (by omega))) (cwV 2 E.2.2.2.2.1 (lw_V q1790 q1792 qs39 q194 q1793) rfl rfl rfl (by decide +kernel) ⟨by rw [hRf]; exact Nat.le_of_ble_eq_true rfl, by rw [hRl]; exact Nat.le_of_ble_eq_true rfl⟩) dJ32_offer_46 [1] (by decide) rfl rfl (List.forall_mem_append.mpr ⟨(List.forall_mem_cons.mpr ⟨(gg_i 0 rfl), (List.forall_mem_cons.mpr ⟨(gg_r 0 rfl), (fun _ h => by cases h)⟩)⟩), (List.forall_mem_append.mpr ⟨(fun q hq => gg_rm (List.mem_append_right _ (List.mem_append_left _ (hq)))), (fun q hq => gg_rm (List.mem_append_right _ (List.mem_append_right _ (hq))))⟩)⟩) (gg_i 0 rfl) rfl rfl (Nat.le_of_ble_eq_true rfl) (by first | (rw [hRc]; exact Nat.le_of_ble_eq_true rfl) | (rw [hRc]; dsimp only; omega)) (by first | (rw [hRs]; exact Nat.le_of_ble_eq_true rfl) | (rw [hRs]; dsimp only; omega)) ?_ (fun X q C1 h => h.elim)
  rintro _ _ ⟨Q3, hp, rfl, rfl⟩
  dsimp only [List.cons_append, List.nil_append, Option.toList]
  refine gg_up1 ?_
  refine gg_aload_n (pc := 49) E dJ32_offer_49 rfl rfl ?_
  refine gg_iload_n (pc := 50) E dJ32_offer_50 rfl rfl ?_
  refine gg_iconst (v := 1) (pc := 51) E dJ32_offer_51 (by decide) ?_
  refine gg_iaddN (pc := 52) E n1 1 rfl rfl dJ32_offer_52 ?_
  refine gg_put (fs' := [_, _, _, _]) (M' := [_, _]) (pc := 53) E ck_J32 1 q1751 rfl (by decide) dJ32_offer_53 0 rfl rfl (rfl) rfl (Nat.le_of_ble_eq_true rfl) rfl rfl ?_
  refine gg_iconst (v := 1) (pc := 56) E dJ32_offer_56 (by decide) ?_
  refine gg_iret (pc := 57) E Fn rfl (gg_nz (by first | decide | assumption | exact gg_b01 | (split <;> decide))) dJ32_offer_57 (by first | exact Nat.le_of_ble_eq_true rfl | (dsimp only; omega)) (by first | exact Nat.le_of_ble_eq_true rfl | (dsimp only; omega)) ?_
  exact ⟨Q3, hp, rfl, rfl⟩
set_option maxHeartbeats 4000000 in
theorem ct_J32_addT {l : Launch} (hl : l.stackTraces = false) {g : gg_G}  {h : Nat} {mc1 : Int32} {ea cm0 cap n1 x1 nt : Nat} {tu sn hd Qa : Nat → Nat} {row : Nat → Int32} {P : gg_S} {wo : Nat → Nat} {nw : Nat} (hn : n1 < cap) (hcap : cap ≤ 90) (hkey : ∀ t, t < nt → row (220 + 27 * t + 2) = nI (tno row t) ∧ tno row t ≤ 8 ∧ t < 30) (hP : Po g P sn wo row nw nt) (hinj : ∀ i j, i < nt → j < nt → tu i = tu j → i = j) (hx1 : x1 < nt) (hQ : ∀ j, j < n1 → Qa j < nt) (hHp : Hp (kyT row) Qa n1) : gg_C l g yJ32_add (ws_ yJ32_add cJ32_add 2 (some .boolean)) { frames := 9, cells := 0, slots := 0, locals := 209 } [.ref h, .ref (tu x1)] ([(cm0, .inl (10, []))] ++ ((mp (tuN tu sn hd row) nt) ++ P)) [[(h, .inl (20, [.ref ea, .int (nI n1), .ref cm0, .int mc1]))], [(ea, gg_ao g 4 cap (lsF (fun j => tu (Qa j)) (n1)))]] (fun vv CC => ∃ (Q3 : Nat → Nat), (Hp (kyT row) Q3 (n1 + 1) ∧ (∀ i, Qi Q3 (n1 + 1) i ↔ Qi Qa n1 i ∨ i = x1) ∧ (Qj Qa n1 → ¬ Qi Qa n1 x1 → Qj Q3 (n1 + 1))) ∧ vv = some (.int 1) ∧ CC = [[(h, .inl (20, [.ref ea, .int (nI (n1 + 1)), .ref cm0, .int (mc1 + 1)]))], [(ea, gg_ao g 4 cap (lsF (fun j => tu (Q3 j)) (n1 + 1)))]]) gg_no := by
  refine gg_of (lv := [_, _]) (by decide) hl (Nat.le_of_ble_eq_true rfl) rfl ?_
  intro p e R s m args below meth c A Q hRf hRl hRc hRs E Fn hnm hex
  refine gg_aload_n (pc := 0) E dJ32_add_0 rfl rfl ?_
  refine gg_aload_n (pc := 1) E dJ32_add_1 rfl rfl ?_
  refine gg_callV (F := []) (As := [_]) (rest := []) (pc := 2) E ck_J32 (ct_J32_offerT hl (by first | assumption | omega | exact hlt _ (by omega)) (by first | assumption | omega | exact hlt _ (by omega)) (by first | assumption | omega | exact hlt _ (by omega)) (by first | assumption | omega | exact hlt _ (by omega)) (by first | assumption | omega | exact hlt _ (by omega)) (by first | assumption | omega | exact hlt _ (by omega)) (by first | assumption | omega | exact hlt _ (by omega)) (by first | assumption | omega | exact hlt _ (by omega))) (cwV 1 E.2.2.2.2.1 (lw_V q1780 q1781 q1782 q194 q1783) rfl rfl rfl (by decide +kernel) ⟨by rw [hRf]; exact Nat.le_of_ble_eq_true rfl, by rw [hRl]; exact Nat.le_of_ble_eq_true rfl⟩) dJ32_add_2 [0, 1] (by decide) rfl rfl (List.forall_mem_append.mpr ⟨(List.forall_mem_cons.mpr ⟨(gg_r 0 rfl), (fun _ h => by cases h)⟩), (List.forall_mem_append.mpr ⟨(fun q hq => gg_rm (List.mem_append_right _ (List.mem_append_left _ (hq)))), (fun q hq => gg_rm (List.mem_append_right _ (List.mem_append_right _ (hq))))⟩)⟩) (gg_i 0 rfl) rfl rfl (Nat.le_of_ble_eq_true rfl) (by first | (rw [hRc]; exact Nat.le_of_ble_eq_true rfl) | (rw [hRc]; dsimp only; omega)) (by first | (rw [hRs]; exact Nat.le_of_ble_eq_true rfl) | (rw [hRs]; dsimp only; omega)) ?_ (fun X q C1 h => h.elim)
  rintro _ _ ⟨Q3, hp, rfl, rfl⟩
  dsimp only [List.cons_append, List.nil_append, Option.toList]
  refine gg_up1 ?_
  refine gg_up1 ?_
  refine gg_iret (pc := 5) E Fn rfl (gg_nz (by first | decide | assumption | exact gg_b01 | (split <;> decide))) dJ32_add_5 (by first | exact Nat.le_of_ble_eq_true rfl | (dsimp only; omega)) (by first | exact Nat.le_of_ble_eq_true rfl | (dsimp only; omega)) ?_
  exact ⟨Q3, hp, rfl, rfl⟩
set_option maxHeartbeats 4000000 in
theorem ct_J32_pollT {l : Launch} (hl : l.stackTraces = false) {g : gg_G}  {h : Nat} {mc1 : Int32} {ea cm0 cap n1 nt : Nat} {tu sn hd Qa : Nat → Nat} {row : Nat → Int32} {P : gg_S} {wo : Nat → Nat} {nw : Nat} (hn : n1 < cap) (hcap : cap ≤ 90) (hkey : ∀ t, t < nt → row (220 + 27 * t + 2) = nI (tno row t) ∧ tno row t ≤ 8 ∧ t < 30) (hP : Po g P sn wo row nw nt) (hinj : ∀ i j, i < nt → j < nt → tu i = tu j → i = j) (hQ : ∀ j, j < n1 + 1 → Qa j < nt) (hHp : Hp (kyT row) Qa (n1 + 1)) : gg_C l g yJ32_poll (ws_ yJ32_poll cJ32_poll 6 (some (.object "java/lang/Object"))) { frames := 7, cells := 0, slots := 0, locals := 168 } [.ref h] ([(cm0, .inl (10, []))] ++ ((mp (tuN tu sn hd row) nt) ++ P)) [[(h, .inl (20, [.ref ea, .int (nI (n1 + 1)), .ref cm0, .int mc1]))], [(ea, gg_ao g 4 cap (lsF (fun j => tu (Qa j)) (n1 + 1)))]] (fun vv CC => ∃ (Q3 : Nat → Nat), (Hp (kyT row) Q3 n1 ∧ (∀ i, Qi Q3 n1 i ↔ Qi (llU Qa 0 (Qa n1)) n1 i) ∧ (Qj (llU Qa 0 (Qa n1)) n1 → Qj Q3 n1)) ∧ vv = some (.ref (tu (Qa 0))) ∧ CC = [[(h, .inl (20, [.ref ea, .int (nI n1), .ref cm0, .int (mc1 + 1)]))], [(ea, gg_ao g 4 cap (lsF (fun j => tu (Q3 j)) (n1)))]]) gg_no := by
  refine gg_of (lv := [_, _, _, _, _, _]) (by decide) hl (Nat.le_of_ble_eq_true rfl) rfl ?_
  intro p e R s m args below meth c A Q hRf hRl hRc hRs E Fn hnm hex
  refine gg_aload_n (pc := 0) E dJ32_poll_0 rfl rfl ?_
  refine gg_get (pc := 1) E ck_J32 0 q1750 rfl (by decide) dJ32_poll_1 (gg_i 0 rfl) rfl ?_
  refine gg_dup (pc := 4) E dJ32_poll_4 rfl ?_
  refine gg_astore_n (lv' := [_, _, _, _, _, _]) (pc := 5) E dJ32_poll_5 rfl (Nat.le_of_ble_eq_true rfl) rfl rfl ?_
  refine gg_iconst (v := 0) (pc := 6) E dJ32_poll_6 (by decide) ?_
  refine gg_aaldN (pc := 7) E 4 rfl 0 rfl (by omega) (by omega) dJ32_poll_7 (gg_i 1 rfl) ?_
  refine gg_topV (show va_rf (lsF (fun j => tu (Qa j)) (n1 + 1) 0) = .ref (tu (Qa 0)) from by rw [lsF_at (by omega)]; rfl) ?_
  refine gg_dup (pc := 8) E dJ32_poll_8 rfl ?_
  refine gg_astore_n (lv' := [_, _, _, _, _, _]) (pc := 9) E dJ32_poll_9 rfl (Nat.le_of_ble_eq_true rfl) rfl rfl ?_
  refine gg_ifnull (pc := 10) E dJ32_poll_10 ?_
  refine gg_aload_n (pc := 13) E dJ32_poll_13 rfl rfl ?_
  refine gg_dup (pc := 14) E dJ32_poll_14 rfl ?_
  refine gg_get (pc := 15) E ck_J32 3 q1753 rfl (by decide) dJ32_poll_15 (gg_i 0 rfl) rfl ?_
  refine gg_iconst (v := 1) (pc := 18) E dJ32_poll_18 (by decide) ?_
  refine gg_iadd (pc := 19) E dJ32_poll_19 ?_
  refine gg_put (fs' := [_, _, _, _]) (M' := [_, _]) (pc := 20) E ck_J32 3 q1753 rfl (by decide) dJ32_poll_20 0 rfl rfl (rfl) rfl (Nat.le_of_ble_eq_true rfl) rfl rfl ?_
  refine gg_aload_n (pc := 23) E dJ32_poll_23 rfl rfl ?_
  refine gg_aload_n (pc := 24) E dJ32_poll_24 rfl rfl ?_
  refine gg_dup (pc := 25) E dJ32_poll_25 rfl ?_
  refine gg_get (pc := 26) E ck_J32 1 q1751 rfl (by decide) dJ32_poll_26 (gg_i 0 rfl) rfl ?_
  refine gg_iconst (v := 1) (pc := 29) E dJ32_poll_29 (by decide) ?_
  refine gg_isubN (pc := 30) E (n1 + 1) 1 rfl rfl (by omega) dJ32_poll_30 ?_
  refine gg_topI (y := nI n1) rfl ?_
  refine gg_dup_x1 (pc := 31) E dJ32_poll_31 rfl rfl ?_
  refine gg_put (fs' := [_, _, _, _]) (M' := [_, _]) (pc := 32) E ck_J32 1 q1751 rfl (by decide) dJ32_poll_32 0 rfl rfl (rfl) rfl (Nat.le_of_ble_eq_true rfl) rfl rfl ?_
  refine gg_dup (pc := 35) E dJ32_poll_35 rfl ?_
  refine gg_istore_n (lv' := [_, _, _, _, _, _]) (pc := 36) E dJ32_poll_36 rfl (Nat.le_of_ble_eq_true rfl) rfl rfl ?_
  refine gg_aaldN (pc := 37) E 4 rfl n1 rfl (by omega) (by omega) dJ32_poll_37 (gg_i 1 rfl) ?_
  refine gg_topV (show va_rf (lsF (fun j => tu (Qa j)) (n1 + 1) n1) = .ref (tu (Qa n1)) from by rw [lsF_at (by omega)]; rfl) ?_
  refine gg_astore (lv' := [_, _, _, _, _, _]) (pc := 38) E dJ32_poll_38 (Nat.le_of_ble_eq_true rfl) rfl rfl ?_
  refine gg_aload_n (pc := 40) E dJ32_poll_40 rfl rfl ?_
  refine gg_iload_n (pc := 41) E dJ32_poll_41 rfl rfl ?_
  refine gg_null (pc := 42) E dJ32_poll_42 ?_
  refine gg_aastNN (M' := [_, _]) (pc := 43) E 4 rfl n1 rfl (by omega) (by omega) dJ32_poll_43 1 rfl rfl ?_
  refine gg_cel (y := gg_ao g 4 cap (lsF (fun j => tu (Qa j)) n1)) 1 rfl (congrArg (gg_ao g 4 cap) lsF_pop) rfl ?_
  refine gg_iload_n (pc := 44) E dJ32_poll_44 rfl rfl ?_
  refine gg_ifN_le (tgt := 79) (pc := 45) E n1 rfl (by omega) dJ32_poll_45 (by decide) (fun c45 => ?_) (fun c45 => ?_)
  · refine gg_aload_n (pc := 79) E dJ32_poll_79 rfl rfl ?_
    refine gg_aret (pc := 80) E Fn rfl (Or.inl ⟨_, rfl⟩) (Or.inr ⟨_, rfl⟩) dJ32_poll_80 (by first | exact Nat.le_of_ble_eq_true rfl | (dsimp only; omega)) (by first | exact Nat.le_of_ble_eq_true rfl | (dsimp only; omega)) ?_
    obtain rfl : n1 = 0 := by omega
    exact ⟨(llU Qa 0 (Qa 0)), ⟨fun j h0 hj => by omega, fun i => Iff.rfl, id⟩, rfl, by rw [lsF_0, lsF_0]; rfl⟩
  · refine gg_aload_n (pc := 48) E dJ32_poll_48 rfl rfl ?_
    refine gg_get (pc := 49) E ck_J32 2 q1752 rfl (by decide) dJ32_poll_49 (gg_i 0 rfl) rfl ?_
    refine gg_dup (pc := 52) E dJ32_poll_52 rfl ?_
    refine gg_astore (lv' := [_, _, _, _, _, _]) (pc := 53) E dJ32_poll_53 (Nat.le_of_ble_eq_true rfl) rfl rfl ?_
    refine gg_ifnonnull (tgt := 69) (pc := 55) E dJ32_poll_55 (by decide) ?_
    refine gg_iconst (v := 0) (pc := 69) E dJ32_poll_69 (by decide) ?_
    refine gg_aload (pc := 70) E dJ32_poll_70 rfl ?_
    refine gg_aload_n (pc := 72) E dJ32_poll_72 rfl rfl ?_
    refine gg_iload_n (pc := 73) E dJ32_poll_73 rfl rfl ?_
    refine gg_aload (pc := 74) E dJ32_poll_74 rfl ?_
    refine gg_callS (F := [_]) (As := [_, _, _, .int (nI n1), _]) (rest := []) (pc := 76) E (ct_J32_siftDownUsingComparatorT (Qa := Qa) hl hn (by omega) hcap hkey hP hinj (hQ n1 (by omega)) (fun j hj => hQ j (by omega)) hHp rfl) (va_cwS 5 E.2.2.2.2.1 (lw_S q2057 q2058 q194 q2059) rfl rfl rfl (by decide +kernel) ⟨by rw [hRf]; exact Nat.le_of_ble_eq_true rfl, by rw [hRl]; exact Nat.le_of_ble_eq_true rfl⟩) dJ32_poll_76 [1] (by decide) rfl rfl (List.forall_mem_append.mpr ⟨(List.forall_mem_cons.mpr ⟨(gg_r 0 rfl), (fun _ h => by cases h)⟩), (List.forall_mem_append.mpr ⟨(fun q hq => gg_rm (List.mem_append_right _ (List.mem_append_left _ (hq)))), (fun q hq => gg_rm (List.mem_append_right _ (List.mem_append_right _ (hq))))⟩)⟩) rfl rfl (Nat.le_of_ble_eq_true rfl) (by first | (rw [hRc]; exact Nat.le_of_ble_eq_true rfl) | (rw [hRc]; dsimp only; omega)) (by first | (rw [hRs]; exact Nat.le_of_ble_eq_true rfl) | (rw [hRs]; dsimp only; omega)) ?_ (fun X q C1 h => h.elim)
    rintro _ _ ⟨Q3, hp, rfl, rfl⟩
    dsimp only [List.cons_append, List.nil_append, Option.toList]
    refine gg_up1 ?_
    refine gg_aload_n (pc := 79) E dJ32_poll_79 rfl rfl ?_
    refine gg_aret (pc := 80) E Fn rfl (Or.inl ⟨_, rfl⟩) (Or.inr ⟨_, rfl⟩) dJ32_poll_80 (by first | exact Nat.le_of_ble_eq_true rfl | (dsimp only; omega)) (by first | exact Nat.le_of_ble_eq_true rfl | (dsimp only; omega)) ?_
    exact ⟨Q3, hp, rfl, rfl⟩
set_option maxHeartbeats 4000000 in
theorem ct_J32_peekT {l : Launch} (hl : l.stackTraces = false) {g : gg_G}  {h : Nat} {mc1 : Int32} {ea cm0 cap n1 nt : Nat} {tu sn hd Qa : Nat → Nat} {row : Nat → Int32} {P : gg_S} {wo : Nat → Nat} {nw : Nat} (hn : n1 < cap) (hcap : cap ≤ 90) : gg_C l g yJ32_peek (ws_ yJ32_peek cJ32_peek 1 (some (.object "java/lang/Object"))) { frames := 0, cells := 0, slots := 0, locals := 0 } [.ref h] [(h, .inl (20, [.ref ea, .int (nI (n1 + 1)), .ref cm0, .int mc1])), (ea, gg_ao g 4 cap (lsF (fun j => tu (Qa j)) (n1 + 1)))] [] (fun vv CC => vv = some (.ref (tu (Qa 0))) ∧ CC = []) gg_no := by
  refine gg_of (lv := [_]) (by decide) hl (Nat.le_of_ble_eq_true rfl) rfl ?_
  intro p e R s m args below meth c A Q hRf hRl hRc hRs E Fn hnm hex
  refine gg_aload_n (pc := 0) E dJ32_peek_0 rfl rfl ?_
  refine gg_get (pc := 1) E ck_J32 0 q1750 rfl (by decide) dJ32_peek_1 (gg_r 0 rfl) rfl ?_
  refine gg_iconst (v := 0) (pc := 4) E dJ32_peek_4 (by decide) ?_
  refine gg_aaldN (pc := 5) E 4 rfl 0 rfl (by omega) (by omega) dJ32_peek_5 (gg_r 1 rfl) ?_
  refine gg_topV (show va_rf (lsF (fun j => tu (Qa j)) (n1 + 1) 0) = .ref (tu (Qa 0)) from by rw [lsF_at (by omega)]; rfl) ?_
  refine gg_aret (pc := 6) E Fn rfl (Or.inl ⟨_, rfl⟩) (Or.inr ⟨_, rfl⟩) dJ32_peek_6 (by first | exact Nat.le_of_ble_eq_true rfl | (dsimp only; omega)) (by first | exact Nat.le_of_ble_eq_true rfl | (dsimp only; omega)) ?_
  exact ⟨rfl, rfl⟩
set_option maxHeartbeats 4000000 in
theorem ct_J32_offerGT {l : Launch} (hl : l.stackTraces = false) {g : gg_G}  {h : Nat} {mc1 : Int32} {ea cm0 cap n1 x1 nt : Nat} {tu sn hd Qa : Nat → Nat} {row : Nat → Int32} {P : gg_S} {wo : Nat → Nat} {nw : Nat} (hn : n1 = cap) (hc64 : cap < 42) (hcap : cap ≤ 90) (hkey : ∀ t, t < nt → row (220 + 27 * t + 2) = nI (tno row t) ∧ tno row t ≤ 8 ∧ t < 30) (hP : Po g P sn wo row nw nt) (hinj : ∀ i j, i < nt → j < nt → tu i = tu j → i = j) (hx1 : x1 < nt) (hQ : ∀ j, j < n1 → Qa j < nt) (hHp : Hp (kyT row) Qa n1) : gg_C l g yJ32_offer (ws_ yJ32_offer cJ32_offer 3 (some .boolean)) { frames := 8, cells := 1, slots := (cap + (cap + 2)), locals := 187 } [.ref h, .ref (tu x1)] ([(cm0, .inl (10, []))] ++ ((mp (tuN tu sn hd row) nt) ++ P)) [[(h, .inl (20, [.ref ea, .int (nI n1), .ref cm0, .int mc1]))], [(ea, gg_ao g 4 cap (lsF (fun j => tu (Qa j)) (n1)))]] (fun vv CC => ∃ (e2 : Nat) (Q3 : Nat → Nat), (Hp (kyT row) Q3 (n1 + 1) ∧ (∀ i, Qi Q3 (n1 + 1) i ↔ Qi Qa n1 i ∨ i = x1) ∧ (Qj Qa n1 → ¬ Qi Qa n1 x1 → Qj Q3 (n1 + 1))) ∧ vv = some (.int 1) ∧ CC = [[(h, .inl (20, [.ref e2, .int (nI (n1 + 1)), .ref cm0, .int (mc1 + 1)]))], [(e2, gg_ao g 4 (cap + (cap + 2)) (lsF (fun j => tu (Q3 j)) (n1 + 1)))]]) gg_no := by
  refine gg_of (lv := [_, _, _]) (by decide) hl (Nat.le_of_ble_eq_true rfl) rfl ?_
  intro p e R s m args below meth c A Q hRf hRl hRc hRs E Fn hnm hex
  refine gg_aload_n (pc := 0) E dJ32_offer_0 rfl rfl ?_
  refine gg_ifnonnull (tgt := 12) (pc := 1) E dJ32_offer_1 (by decide) ?_
  refine gg_aload_n (pc := 12) E dJ32_offer_12 rfl rfl ?_
  refine gg_dup (pc := 13) E dJ32_offer_13 rfl ?_
  refine gg_get (pc := 14) E ck_J32 3 q1753 rfl (by decide) dJ32_offer_14 (gg_i 0 rfl) rfl ?_
  refine gg_iconst (v := 1) (pc := 17) E dJ32_offer_17 (by decide) ?_
  refine gg_iadd (pc := 18) E dJ32_offer_18 ?_
  refine gg_put (fs' := [_, _, _, _]) (M' := [_, _]) (pc := 19) E ck_J32 3 q1753 rfl (by decide) dJ32_offer_19 0 rfl rfl (rfl) rfl (Nat.le_of_ble_eq_true rfl) rfl rfl ?_
  refine gg_aload_n (pc := 22) E dJ32_offer_22 rfl rfl ?_
  refine gg_get (pc := 23) E ck_J32 1 q1751 rfl (by decide) dJ32_offer_23 (gg_i 0 rfl) rfl ?_
  refine gg_istore_n (lv' := [_, _, _]) (pc := 26) E dJ32_offer_26 rfl (Nat.le_of_ble_eq_true rfl) rfl rfl ?_
  refine gg_iload_n (pc := 27) E dJ32_offer_27 rfl rfl ?_
  refine gg_aload_n (pc := 28) E dJ32_offer_28 rfl rfl ?_
  refine gg_get (pc := 29) E ck_J32 0 q1750 rfl (by decide) dJ32_offer_29 (gg_i 0 rfl) rfl ?_
  refine gg_alen (pc := 32) E 4 rfl dJ32_offer_32 (gg_i 1 rfl) ?_
  refine gg_icmpN_lt (tgt := 43) (pc := 33) E n1 cap rfl rfl (by omega) (by omega) dJ32_offer_33 (by decide) (fun c33 => ?_) (fun c33 => ?_)
  · exact absurd c33 (by omega)
  refine gg_aload_n (pc := 36) E dJ32_offer_36 rfl rfl ?_
  refine gg_iload_n (pc := 37) E dJ32_offer_37 rfl rfl ?_
  refine gg_iconst (v := 1) (pc := 38) E dJ32_offer_38 (by decide) ?_
  refine gg_iaddN (pc := 39) E n1 1 rfl rfl dJ32_offer_39 ?_
  refine gg_callV (F := []) (As := [.int (nI (n1 + 1))]) (rest := []) (pc := 40) E ck_J32 (ct_J32_grow (n0 := cap) (SG := mp (tuN tu sn hd row) nt) hl (fun j y hj hy => by subst hn; rw [lsF_at hj] at hy; cases hy; exact ⟨_, by exact mp_mem (hQ j hj)⟩) ck_X8 (gg_nwi q3513 rfl) (by omega) (by omega)) (cwV 1 E.2.2.2.2.1 (lw_V q1784 q1786 qs38 q194 q1787) rfl rfl rfl (by decide +kernel) ⟨by rw [hRf]; exact Nat.le_of_ble_eq_true rfl, by rw [hRl]; exact Nat.le_of_ble_eq_true rfl⟩) dJ32_offer_40 [0, 1] (by decide) rfl rfl (List.forall_mem_append.mpr ⟨(fun _ h => by cases h), (fun q hq => gg_rm (List.mem_append_right _ (List.mem_append_left _ (hq))))⟩) (gg_i 0 rfl) rfl rfl (Nat.le_of_ble_eq_true rfl) (by first | (rw [hRc]; exact Nat.le_of_ble_eq_true rfl) | (rw [hRc]; dsimp only; omega)) (by first | (rw [hRs]; exact Nat.le_of_ble_eq_true rfl) | (rw [hRs]; dsimp only; omega)) ?_ (fun X q C1 h => h.elim)
  rintro _ _ ⟨e2, rfl, rfl⟩
  dsimp only [List.cons_append, List.nil_append, Option.toList]
  refine gg_up1 ?_
  refine gg_up1 ?_
  refine gg_cel (y := gg_ao g 4 (cap + (cap + 2)) (lsF (fun j => tu (Qa j)) n1)) 1 rfl (congrArg (gg_ao g 4 (cap + (cap + 2))) (gr_f hn)) rfl ?_
  refine gg_aload_n (pc := 43) E dJ32_offer_43 rfl rfl ?_
  refine gg_iload_n (pc := 44) E dJ32_offer_44 rfl rfl ?_
  refine gg_aload_n (pc := 45) E dJ32_offer_45 rfl rfl ?_
  refine gg_callV (F := [_]) (As := [.int (nI n1), _]) (rest := []) (pc := 46) E ck_J32 (ct_J32_siftUpT (cap := (cap + (cap + 2))) (Qa := Qa) hl (by omega) (by omega) hkey hP hinj hx1 hQ hHp) (cwV 2 E.2.2.2.2.1 (lw_V q1790 q1792 qs39 q194 q1793) rfl rfl rfl (by decide +kernel) ⟨by rw [hRf]; exact Nat.le_of_ble_eq_true rfl, by rw [hRl]; exact Nat.le_of_ble_eq_true rfl⟩) dJ32_offer_46 [1] (by decide) rfl rfl (List.forall_mem_append.mpr ⟨(List.forall_mem_cons.mpr ⟨(gg_i 0 rfl), (List.forall_mem_cons.mpr ⟨(gg_r 0 rfl), (fun _ h => by cases h)⟩)⟩), (List.forall_mem_append.mpr ⟨(fun q hq => gg_rm (List.mem_append_right _ (List.mem_append_left _ (hq)))), (fun q hq => gg_rm (List.mem_append_right _ (List.mem_append_right _ (hq))))⟩)⟩) (gg_i 0 rfl) rfl rfl (Nat.le_of_ble_eq_true rfl) (by first | (rw [hRc]; exact Nat.le_of_ble_eq_true rfl) | (rw [hRc]; dsimp only; omega)) (by first | (rw [hRs]; exact Nat.le_of_ble_eq_true rfl) | (rw [hRs]; dsimp only; omega)) ?_ (fun X q C1 h => h.elim)
  rintro _ _ ⟨Q3, hp, rfl, rfl⟩
  dsimp only [List.cons_append, List.nil_append, Option.toList]
  refine gg_up1 ?_
  refine gg_aload_n (pc := 49) E dJ32_offer_49 rfl rfl ?_
  refine gg_iload_n (pc := 50) E dJ32_offer_50 rfl rfl ?_
  refine gg_iconst (v := 1) (pc := 51) E dJ32_offer_51 (by decide) ?_
  refine gg_iaddN (pc := 52) E n1 1 rfl rfl dJ32_offer_52 ?_
  refine gg_put (fs' := [_, _, _, _]) (M' := [_, _]) (pc := 53) E ck_J32 1 q1751 rfl (by decide) dJ32_offer_53 0 rfl rfl (rfl) rfl (Nat.le_of_ble_eq_true rfl) rfl rfl ?_
  refine gg_iconst (v := 1) (pc := 56) E dJ32_offer_56 (by decide) ?_
  refine gg_iret (pc := 57) E Fn rfl (gg_nz (by first | decide | assumption | exact gg_b01 | (split <;> decide))) dJ32_offer_57 (by first | exact Nat.le_of_ble_eq_true rfl | (dsimp only; omega)) (by first | exact Nat.le_of_ble_eq_true rfl | (dsimp only; omega)) ?_
  exact ⟨e2, Q3, hp, rfl, rfl⟩
set_option maxHeartbeats 4000000 in
theorem ct_J32_addGT {l : Launch} (hl : l.stackTraces = false) {g : gg_G}  {h : Nat} {mc1 : Int32} {ea cm0 cap n1 x1 nt : Nat} {tu sn hd Qa : Nat → Nat} {row : Nat → Int32} {P : gg_S} {wo : Nat → Nat} {nw : Nat} (hn : n1 = cap) (hc64 : cap < 42) (hcap : cap ≤ 90) (hkey : ∀ t, t < nt → row (220 + 27 * t + 2) = nI (tno row t) ∧ tno row t ≤ 8 ∧ t < 30) (hP : Po g P sn wo row nw nt) (hinj : ∀ i j, i < nt → j < nt → tu i = tu j → i = j) (hx1 : x1 < nt) (hQ : ∀ j, j < n1 → Qa j < nt) (hHp : Hp (kyT row) Qa n1) : gg_C l g yJ32_add (ws_ yJ32_add cJ32_add 2 (some .boolean)) { frames := 9, cells := 1, slots := (cap + (cap + 2)), locals := 209 } [.ref h, .ref (tu x1)] ([(cm0, .inl (10, []))] ++ ((mp (tuN tu sn hd row) nt) ++ P)) [[(h, .inl (20, [.ref ea, .int (nI n1), .ref cm0, .int mc1]))], [(ea, gg_ao g 4 cap (lsF (fun j => tu (Qa j)) (n1)))]] (fun vv CC => ∃ (e2 : Nat) (Q3 : Nat → Nat), (Hp (kyT row) Q3 (n1 + 1) ∧ (∀ i, Qi Q3 (n1 + 1) i ↔ Qi Qa n1 i ∨ i = x1) ∧ (Qj Qa n1 → ¬ Qi Qa n1 x1 → Qj Q3 (n1 + 1))) ∧ vv = some (.int 1) ∧ CC = [[(h, .inl (20, [.ref e2, .int (nI (n1 + 1)), .ref cm0, .int (mc1 + 1)]))], [(e2, gg_ao g 4 (cap + (cap + 2)) (lsF (fun j => tu (Q3 j)) (n1 + 1)))]]) gg_no := by
  refine gg_of (lv := [_, _]) (by decide) hl (Nat.le_of_ble_eq_true rfl) rfl ?_
  intro p e R s m args below meth c A Q hRf hRl hRc hRs E Fn hnm hex
  refine gg_aload_n (pc := 0) E dJ32_add_0 rfl rfl ?_
  refine gg_aload_n (pc := 1) E dJ32_add_1 rfl rfl ?_
  refine gg_callV (F := []) (As := [_]) (rest := []) (pc := 2) E ck_J32 (ct_J32_offerGT hl hn hc64 hcap hkey hP hinj hx1 hQ hHp) (cwV 1 E.2.2.2.2.1 (lw_V q1780 q1781 q1782 q194 q1783) rfl rfl rfl (by decide +kernel) ⟨by rw [hRf]; exact Nat.le_of_ble_eq_true rfl, by rw [hRl]; exact Nat.le_of_ble_eq_true rfl⟩) dJ32_add_2 [0, 1] (by decide) rfl rfl (List.forall_mem_append.mpr ⟨(List.forall_mem_cons.mpr ⟨(gg_r 0 rfl), (fun _ h => by cases h)⟩), (List.forall_mem_append.mpr ⟨(fun q hq => gg_rm (List.mem_append_right _ (List.mem_append_left _ (hq)))), (fun q hq => gg_rm (List.mem_append_right _ (List.mem_append_right _ (hq))))⟩)⟩) (gg_i 0 rfl) rfl rfl (Nat.le_of_ble_eq_true rfl) (by first | (rw [hRc]; exact Nat.le_of_ble_eq_true rfl) | (rw [hRc]; dsimp only; omega)) (by first | (rw [hRs]; exact Nat.le_of_ble_eq_true rfl) | (rw [hRs]; dsimp only; omega)) ?_ (fun X q C1 h => h.elim)
  rintro _ _ ⟨e2, Q3, hp, rfl, rfl⟩
  dsimp only [List.cons_append, List.nil_append, Option.toList]
  refine gg_up1 ?_
  refine gg_up1 ?_
  refine gg_iret (pc := 5) E Fn rfl (gg_nz (by first | decide | assumption | exact gg_b01 | (split <;> decide))) dJ32_add_5 (by first | exact Nat.le_of_ble_eq_true rfl | (dsimp only; omega)) (by first | exact Nat.le_of_ble_eq_true rfl | (dsimp only; omega)) ?_
  exact ⟨e2, Q3, hp, rfl, rfl⟩

set_option maxRecDepth 100000
/-! ===== whether all agrees ===== -/
theorem rk_D {row : Nat → Int32} {nr nw g : Nat} (hw : Ww row nr nw) (hg : g < nr) : ∀ v x, dist row nw (-1) g v = some x → v < nr := by
  intro v x hv
  have hg10 : g < 10 := by have := hw.2.2.1; omega
  by_cases e : v = g
  · omega
  · obtain ⟨i, u, y, hE, -, -⟩ := (dist_is (wo := -1) hw hg10).1.2.2 v x hv e
    have := hw.2.2.2 i hE.1
    rcases hE.2.2 with ⟨a, b⟩ | ⟨a, b⟩ <;> omega
theorem d0_I {g k : Nat} : (if k = g then (0 : Int32) else -1) = dI (d0 g k) := by
  unfold d0
  by_cases e : k = g
  · rw [if_pos e, if_pos e]
    rfl
  · rw [if_neg e, if_neg e]
    rfl
theorem ag_s {row : Nat → Int32} {j st : Nat} (hs : row (220 + 27 * j + 3) = nI st) (h3 : st ≤ 3) : ∀ k, k < 4 → upd (fun k => sm (fun i => if row (220 + 27 * i + 3) = nI k then 1 else 0) j) st ((fun k => sm (fun i => if row (220 + 27 * i + 3) = nI k then 1 else 0) j) st + 1) k = sm (fun i => if row (220 + 27 * i + 3) = nI k then 1 else 0) (j + 1) := by
  intro k hk
  have e : sm (fun i => if row (220 + 27 * i + 3) = nI k then 1 else 0) (j + 1) = sm (fun i => if row (220 + 27 * i + 3) = nI k then 1 else 0) j + (if row (220 + 27 * j + 3) = nI k then 1 else 0) := rfl
  rw [e, hs]
  by_cases c : k = st
  · subst c
    rw [pk_us, if_pos rfl]
  · rw [pk_un c, if_neg (nI_ne (by omega) (by omega) (fun q => c q.symm)), Int32.add_zero]
theorem ag_eq {a b : Prop} [Decidable a] [Decidable b] (h : a ↔ b) : (if a then (1 : Int32) else 0) = if b then 1 else 0 := by
  by_cases c : a
  · rw [if_pos c, if_pos (h.mp c)]
  · rw [if_neg c, if_neg (fun q => c (h.mpr q))]
set_option maxHeartbeats 4000000 in
theorem ct_X2_betters {l : Launch} (hl : l.stackTraces = false) {g : gg_G}  {ls n1 u1 v1 : Nat} {F : Nat → Int32} {f3 : Int32} (hu : u1 < n1) (hv : v1 < n1) (hn : n1 ≤ 1000) : gg_C l g yX2_betters (ws_ yX2_betters cX2_betters 4 none) { frames := 0, cells := 0, slots := 0, locals := 0 } [.ref ls, .int (nI u1), .int (nI v1), .int f3] [] [[(ls, gg_ai g n1 F)]] (fun vv CC => vv = none ∧ CC = [[(ls, gg_ai g n1 (btF F u1 v1 f3))]]) gg_no := by
  refine gg_of (lv := [_, _, _, _]) (by decide) hl (Nat.le_of_ble_eq_true rfl) rfl ?_
  intro p e R s m args below meth c A Q hRf hRl hRc hRs E Fn hnm hex
  refine gg_aload_n (pc := 0) E dX2_betters_0 rfl rfl ?_
  refine gg_iload_n (pc := 1) E dX2_betters_1 rfl rfl ?_
  refine gg_ialdN (pc := 2) E u1 rfl (by omega) (by omega) dX2_betters_2 (gg_i 0 rfl) ?_
  refine gg_iconst (v := (-1)) (pc := 3) E dX2_betters_3 (by decide) ?_
  refine gg_icmp_eq (tgt := 33) (pc := 4) E dX2_betters_4 (by decide) (fun c4 => ?_) (fun c4 => ?_)
  · refine gg_vret (pc := 33) E Fn rfl dX2_betters_33 (by first | exact Nat.le_of_ble_eq_true rfl | (dsimp only; omega)) (by first | exact Nat.le_of_ble_eq_true rfl | (dsimp only; omega)) ?_
    exact ⟨rfl, by rw [show btF F u1 v1 f3 = F from if_pos (Or.inl c4)]⟩
  · refine gg_aload_n (pc := 7) E dX2_betters_7 rfl rfl ?_
    refine gg_iload_n (pc := 8) E dX2_betters_8 rfl rfl ?_
    refine gg_ialdN (pc := 9) E v1 rfl (by omega) (by omega) dX2_betters_9 (gg_i 0 rfl) ?_
    refine gg_iconst (v := (-1)) (pc := 10) E dX2_betters_10 (by decide) ?_
    refine gg_icmp_eq (tgt := 25) (pc := 11) E dX2_betters_11 (by decide) (fun c11 => ?_) (fun c11 => ?_)
    · refine gg_aload_n (pc := 25) E dX2_betters_25 rfl rfl ?_
      refine gg_iload_n (pc := 26) E dX2_betters_26 rfl rfl ?_
      refine gg_aload_n (pc := 27) E dX2_betters_27 rfl rfl ?_
      refine gg_iload_n (pc := 28) E dX2_betters_28 rfl rfl ?_
      refine gg_ialdN (pc := 29) E u1 rfl (by omega) (by omega) dX2_betters_29 (gg_i 0 rfl) ?_
      refine gg_iload_n (pc := 30) E dX2_betters_30 rfl rfl ?_
      refine gg_iadd (pc := 31) E dX2_betters_31 ?_
      refine gg_iastN (M' := [_]) (pc := 32) E v1 rfl (by omega) (by omega) dX2_betters_32 0 rfl rfl ?_
      refine gg_vret (pc := 33) E Fn rfl dX2_betters_33 (by first | exact Nat.le_of_ble_eq_true rfl | (dsimp only; omega)) (by first | exact Nat.le_of_ble_eq_true rfl | (dsimp only; omega)) ?_
      exact ⟨rfl, by rw [show btF F u1 v1 f3 = upd F v1 (F u1 + f3) from if_neg (fun q => q.elim c4 (fun z => z.1 c11))]⟩
    · refine gg_aload_n (pc := 14) E dX2_betters_14 rfl rfl ?_
      refine gg_iload_n (pc := 15) E dX2_betters_15 rfl rfl ?_
      refine gg_ialdN (pc := 16) E v1 rfl (by omega) (by omega) dX2_betters_16 (gg_i 0 rfl) ?_
      refine gg_aload_n (pc := 17) E dX2_betters_17 rfl rfl ?_
      refine gg_iload_n (pc := 18) E dX2_betters_18 rfl rfl ?_
      refine gg_ialdN (pc := 19) E u1 rfl (by omega) (by omega) dX2_betters_19 (gg_i 0 rfl) ?_
      refine gg_iload_n (pc := 20) E dX2_betters_20 rfl rfl ?_
      refine gg_iadd (pc := 21) E dX2_betters_21 ?_
      refine gg_icmp_le (tgt := 33) (pc := 22) E dX2_betters_22 (by decide) (fun c22 => ?_) (fun c22 => ?_)
      · refine gg_vret (pc := 33) E Fn rfl dX2_betters_33 (by first | exact Nat.le_of_ble_eq_true rfl | (dsimp only; omega)) (by first | exact Nat.le_of_ble_eq_true rfl | (dsimp only; omega)) ?_
        exact ⟨rfl, by rw [show btF F u1 v1 f3 = F from if_pos (Or.inr ⟨c11, c22⟩)]⟩
      · refine gg_aload_n (pc := 25) E dX2_betters_25 rfl rfl ?_
        refine gg_iload_n (pc := 26) E dX2_betters_26 rfl rfl ?_
        refine gg_aload_n (pc := 27) E dX2_betters_27 rfl rfl ?_
        refine gg_iload_n (pc := 28) E dX2_betters_28 rfl rfl ?_
        refine gg_ialdN (pc := 29) E u1 rfl (by omega) (by omega) dX2_betters_29 (gg_i 0 rfl) ?_
        refine gg_iload_n (pc := 30) E dX2_betters_30 rfl rfl ?_
        refine gg_iadd (pc := 31) E dX2_betters_31 ?_
        refine gg_iastN (M' := [_]) (pc := 32) E v1 rfl (by omega) (by omega) dX2_betters_32 0 rfl rfl ?_
        refine gg_vret (pc := 33) E Fn rfl dX2_betters_33 (by first | exact Nat.le_of_ble_eq_true rfl | (dsimp only; omega)) (by first | exact Nat.le_of_ble_eq_true rfl | (dsimp only; omega)) ?_
        exact ⟨rfl, by rw [show btF F u1 v1 f3 = upd F v1 (F u1 + f3) from if_neg (fun q => q.elim c4 (fun z => c22 z.2))]⟩
set_option maxHeartbeats 4000000 in
theorem ct_X2_areRoutesRight {l : Launch} (hl : l.stackTraces = false) {g : gg_G}  {w : Nat} {ad : Nat → Nat} {t7 c7 : Int32} {rt0 : Option Nat} {m1 : Int32} {nr : Nat} {nd wo : Nat → Nat} {m2 : Int32} {nw : Nat} {row : Nat → Int32} {P : gg_S} {sn : Nat → Nat} {nt : Nat} {k1 : Nat} (hP : Po g P sn wo row nw nt) (hw : Ww row nr nw) (hR : ∀ a, rt0 = some a → Rt g P a row nr nw) (hk : k1 < nr) : gg_C l g yX2_areRoutesRight (ws_ yX2_areRoutesRight cX2_areRoutesRight 6 (some .boolean)) { frames := 15, cells := (lyC rt0 - 0 + 11), slots := (lyS rt0 - 0 + 60), locals := 300 } [.ref w, .int (nI k1)] ([((ad 1), .inl (11, [.int m1, .ref (ad 2), .int (nI nr)])), ((ad 3), .inl (15, [.int m2, .int (nI nw), llF nd nw, llL nd nw]))] ++ (llS nd wo nw)) [[(w, .inl (1, [.ref (ad 1), .ref (ad 3), .ref (ad 4), .ref (ad 6), .ref (ad 7), .int t7, .int c7, (va_rf rt0)]))], P] (fun vv CC => ∃ (rt2 : Option Nat) (P2 : gg_S), (Po g P2 sn wo row nw nt ∧ (∀ a, rt2 = some a → Rt g P2 a row nr nw) ∧ Sub P P2 ∧ lyC rt2 = 0 ∧ lyS rt2 = 0) ∧ vv = some (.int 1) ∧ CC = [[(w, .inl (1, [.ref (ad 1), .ref (ad 3), .ref (ad 4), .ref (ad 6), .ref (ad 7), .int t7, .int c7, (va_rf rt2)]))], P2]) gg_no := by
  refine gg_of (lv := [_, _, _, _, _, _]) (by decide) hl (Nat.le_of_ble_eq_true rfl) rfl ?_
  intro p e R s m args below meth c A Q hRf hRl hRc hRs E Fn hnm hex
  have h20 := hw.2.1
  have hr10 := hw.2.2.1
  have hD := (dist_is (wo := -1) hw (show k1 < 10 by omega)).1
  have hDn := rk_D hw hk
  refine gg_aload_n (pc := 0) E dX2_areRoutesRight_0 rfl rfl ?_
  refine gg_get (pc := 1) E ck_X2 0 q598 rfl (by decide) dX2_areRoutesRight_1 (gg_i 0 rfl) rfl ?_
  refine gg_callF (F := [_, _]) (As := []) (rest := []) (pc := 4) E ck_J2 (ct_J2_size hl ) (gg_cwF 0 E (x := ⟨"java/util/List", "size", "()I"⟩) (by decide) nq1046 nq1044 nq683 (lw_app (lw_in _ [1095, 1043, 1045, 155] (by decide +kernel) (by decide +kernel)) (lw_meth q1047)) (by decide +kernel) ⟨by rw [hRf]; exact Nat.le_of_ble_eq_true rfl, by rw [hRl]; exact Nat.le_of_ble_eq_true rfl⟩) dX2_areRoutesRight_4 [] (by decide) rfl rfl (List.forall_mem_cons.mpr ⟨(gg_r 0 rfl), (fun _ h => by cases h)⟩) (gg_r 0 rfl) rfl rfl (Nat.le_of_ble_eq_true rfl) (by first | (rw [hRc]; dsimp only; omega) | (rw [hRc]; exact Nat.le_of_ble_eq_true rfl)) (by first | (rw [hRs]; dsimp only; omega) | (rw [hRs]; exact Nat.le_of_ble_eq_true rfl)) ?_ (fun X q C1 h => h.elim)
  rintro _ _ ⟨rfl, rfl⟩
  dsimp only [List.cons_append, List.nil_append, Option.toList]
  refine gg_newa (N := nr) (pc := 9) E 0 (ty := .int) rfl rfl q631 dX2_areRoutesRight_9 (nI_pos (by omega)) (nI_clamp (by omega)) (show nr * 4 ≤ 536870912 by omega) (by first | (rw [hRc]; dsimp only; omega) | (rw [hRc]; exact Nat.le_of_ble_eq_true rfl)) (by first | (rw [hRs]; dsimp only; omega) | (rw [hRs]; exact Nat.le_of_ble_eq_true rfl)) (fun _ => rfl) (fun a1 => ?_)
  dsimp only [List.cons_append, List.nil_append]
  refine gg_astore_n (lv' := [_, _, _, _, _, _]) (pc := 11) E dX2_areRoutesRight_11 rfl (Nat.le_of_ble_eq_true rfl) rfl rfl ?_
  refine gg_iconst (v := 0) (pc := 12) E dX2_areRoutesRight_12 (by decide) ?_
  refine gg_istore_n (lv' := [_, _, _, _, _, _]) (pc := 13) E dX2_areRoutesRight_13 rfl (Nat.le_of_ble_eq_true rfl) rfl rfl ?_
  have L14 : ∀ (n : Nat) (k : Nat) (F : Nat → Int32), nr - k < n → (k ≤ nr) → (∀ i, i < k → F i = dI (d0 k1 i)) → gg_W p l e R s m args below meth c g A 6 Q (0 + 1) (0 + nr) [[(w, .inl (1, [.ref (ad 1), .ref (ad 3), .ref (ad 4), .ref (ad 6), .ref (ad 7), .int t7, .int c7, (va_rf rt0)]))], P, [(a1, gg_ai g nr F)]] [some (.ref w), some (.int (nI k1)), some (.ref a1), some (.int (nI k)), none, none] [] 14 := by
    intro n14
    induction n14 with
    | zero => intro k F hmz; exact absurd hmz (Nat.not_lt_zero _)
    | succ n14 ih14 =>
      intro k F hm14 hk1 hF
      refine gg_iload_n (pc := 14) E dX2_areRoutesRight_14 rfl rfl ?_
      refine gg_aload_n (pc := 15) E dX2_areRoutesRight_15 rfl rfl ?_
      refine gg_alen (pc := 16) E 0 rfl dX2_areRoutesRight_16 (gg_i 2 rfl) ?_
      refine gg_icmpN_ge (tgt := 39) (pc := 17) E k nr rfl rfl (by omega) (by omega) dX2_areRoutesRight_17 (by decide) (fun c17 => ?_) (fun c17 => ?_)
      · refine gg_iconst (v := 0) (pc := 39) E dX2_areRoutesRight_39 (by decide) ?_
        refine gg_istore_n (lv' := [_, _, _, _, _, _]) (pc := 40) E dX2_areRoutesRight_40 rfl (Nat.le_of_ble_eq_true rfl) rfl rfl ?_
        have L41 : ∀ (n : Nat) (t1 : Nat) (F : Nat → Int32) (d : Nat → Option Nat), nr - t1 < n → (t1 ≤ nr) → (Bf row nr nw (-1) k1 d) → (∀ k, k < nr → F k = dI (d k)) → (UpK (dist row nw (-1) k1) d nr t1) → gg_W p l e R s m args below meth c g A 6 Q (0 + 1 + t1) (0 + nr + 5 * t1) [[(w, .inl (1, [.ref (ad 1), .ref (ad 3), .ref (ad 4), .ref (ad 6), .ref (ad 7), .int t7, .int c7, (va_rf rt0)]))], P, [(a1, gg_ai g nr F)]] [some (.ref w), some (.int (nI k1)), some (.ref a1), some (.int (nI t1)), none, none] [] 41 := by
          intro n41
          induction n41 with
          | zero => intro t1 F d hmz; exact absurd hmz (Nat.not_lt_zero _)
          | succ n41 ih41 =>
            intro t1 F d hm41 ht1 hB hF hU
            refine gg_iload_n (pc := 41) E dX2_areRoutesRight_41 rfl rfl ?_
            refine gg_aload_n (pc := 42) E dX2_areRoutesRight_42 rfl rfl ?_
            refine gg_alen (pc := 43) E 0 rfl dX2_areRoutesRight_43 (gg_i 2 rfl) ?_
            refine gg_icmpN_ge (tgt := 125) (pc := 44) E t1 nr rfl rfl (by omega) (by omega) dX2_areRoutesRight_44 (by decide) (fun c44 => ?_) (fun c44 => ?_)
            · obtain rfl : nr = t1 := by omega
              have hdD := hU.eq hw hD hDn hB
              refine gg_iconst (v := 0) (pc := 125) E dX2_areRoutesRight_125 (by decide) ?_
              refine gg_istore_n (lv' := [_, _, _, _, _, _]) (pc := 126) E dX2_areRoutesRight_126 rfl (Nat.le_of_ble_eq_true rfl) rfl rfl ?_
              have L127 : ∀ (n : Nat) (k : Nat) (rt : Option Nat) (P3 : gg_S), nr - k < n → (k ≤ nr) → (Po g P3 sn wo row nw nt) → (∀ a, rt = some a → Rt g P3 a row nr nw) → (lyC rt ≤ lyC rt0) → (lyS rt ≤ lyS rt0) → (Sub P P3) → (0 < k → lyC rt = 0 ∧ lyS rt = 0) → gg_W p l e R s m args below meth c g A 6 Q (lyC rt0 - lyC rt + 11) (lyS rt0 - lyS rt + 60) [[(w, .inl (1, [.ref (ad 1), .ref (ad 3), .ref (ad 4), .ref (ad 6), .ref (ad 7), .int t7, .int c7, (va_rf rt)]))], P3, [(a1, gg_ai g nr F)]] [some (.ref w), some (.int (nI k1)), some (.ref a1), some (.int (nI k)), none, none] [] 127 := by
                intro n127
                induction n127 with
                | zero => intro k rt P3 hmz; exact absurd hmz (Nat.not_lt_zero _)
                | succ n127 ih127 =>
                  intro k rt P3 hm127 hk1 hP hR hlc hls hS hq0
                  have hy1 : ∀ b, lyC (some b) = 0 := fun _ => rfl
                  have hy2 : ∀ b, lyS (some b) = 0 := fun _ => rfl
                  refine gg_iload_n (pc := 127) E dX2_areRoutesRight_127 rfl rfl ?_
                  refine gg_aload_n (pc := 128) E dX2_areRoutesRight_128 rfl rfl ?_
                  refine gg_alen (pc := 129) E 0 rfl dX2_areRoutesRight_129 (gg_i 2 rfl) ?_
                  refine gg_icmpN_ge (tgt := 153) (pc := 130) E k nr rfl rfl (by omega) (by omega) dX2_areRoutesRight_130 (by decide) (fun c130 => ?_) (fun c130 => ?_)
                  · refine gg_let rfl rfl ?_
                    refine gg_iconst (v := 1) (pc := 153) E dX2_areRoutesRight_153 (by decide) ?_
                    refine gg_iret (pc := 154) E Fn rfl (gg_nz (by first | decide | assumption | exact gg_b01 | (split <;> decide))) dX2_areRoutesRight_154 (by first | omega | (dsimp only; omega) | exact Nat.le_of_ble_eq_true rfl) (by first | omega | (dsimp only; omega) | exact Nat.le_of_ble_eq_true rfl) ?_
                    exact ⟨rt, P3, ⟨hP, hR, hS, hq0 (by omega)⟩, rfl, rfl⟩
                  · refine gg_aload_n (pc := 133) E dX2_areRoutesRight_133 rfl rfl ?_
                    refine gg_iload_n (pc := 134) E dX2_areRoutesRight_134 rfl rfl ?_
                    refine gg_ialdN (pc := 135) E k rfl (by omega) (by omega) dX2_areRoutesRight_135 (gg_i 2 rfl) ?_
                    refine gg_aload_n (pc := 136) E dX2_areRoutesRight_136 rfl rfl ?_
                    refine gg_iload_n (pc := 137) E dX2_areRoutesRight_137 rfl rfl ?_
                    refine gg_iload_n (pc := 138) E dX2_areRoutesRight_138 rfl rfl ?_
                    refine gg_callV (F := [_]) (As := [.int (nI k1), .int (nI k)]) (rest := [_]) (pc := 139) E ck_X2 (ct_X2_route (rt0 := rt) hl hP hw hR hk c130) (cwV 2 E.2.2.2.2.1 (lw_V q1713 q1714 q1715 q152 q1716) rfl rfl rfl (by decide +kernel) ⟨by rw [hRf]; exact Nat.le_of_ble_eq_true rfl, by rw [hRl]; exact Nat.le_of_ble_eq_true rfl⟩) dX2_areRoutesRight_139 [0, 1] (by decide) rfl rfl (List.forall_mem_append.mpr ⟨(List.forall_mem_cons.mpr ⟨(gg_r 0 rfl), (List.forall_mem_cons.mpr ⟨(gg_r 1 rfl), (fun _ h => by cases h)⟩)⟩), (fun q hq => gg_rm (List.mem_append_right _ (hq)))⟩) (gg_i 0 rfl) rfl rfl (Nat.le_of_ble_eq_true rfl) (by first | (rw [hRc]; dsimp only; omega) | (rw [hRc]; exact Nat.le_of_ble_eq_true rfl)) (by first | (rw [hRs]; dsimp only; omega) | (rw [hRs]; exact Nat.le_of_ble_eq_true rfl)) ?_ (fun X q C1 h => h.elim)
                    rintro _ _ ⟨rt4, P4, ⟨hP4, hR4, hS4⟩, rfl, rfl⟩
                    dsimp only [List.cons_append, List.nil_append, Option.toList]
                    refine gg_up1 ?_
                    refine gg_up1 ?_
                    refine gg_topI (y := F k) (by rw [hF k c130, hdD]) ?_
                    refine gg_icmp_eq (tgt := 147) (pc := 142) E dX2_areRoutesRight_142 (by decide) (fun c142 => ?_) (fun c142 => ?_)
                    rotate_left
                    · exact absurd rfl c142
                    have hz6 := hy1 rt4
                    have hz7 := hy2 rt4
                    refine gg_iincN (k := 1) (lv' := [_, _, _, _, _, _]) (pc := 147) E k dX2_areRoutesRight_147 rfl rfl rfl (Nat.le_of_ble_eq_true rfl) rfl rfl ?_
                    refine gg_goto (tgt := 127) (pc := 150) E dX2_areRoutesRight_150 (by decide) ?_
                    refine gg_cv rfl (gg_leS (gg_leS (gg_leS (gg_leS (gg_leN (gg_leN gg_le0)))))) rfl (by first | omega | exact Nat.le_refl _ | (dsimp only; omega)) (by first | omega | exact Nat.le_refl _ | (dsimp only; omega)) (ih127 (k + 1) (some rt4) P4 (by omega) (by omega) (hP4) (fun a h => by cases h; exact hR4) (Nat.zero_le _) (Nat.zero_le _) (fun q h => hS4 q (hS q h)) (fun _ => ⟨rfl, rfl⟩))
              refine gg_cv rfl (gg_leS (gg_leS (gg_leS (gg_leS (gg_leN (gg_leN gg_le0)))))) rfl (by first | omega | exact Nat.le_refl _ | (dsimp only; omega)) (by first | omega | exact Nat.le_refl _ | (dsimp only; omega)) (L127 _ 0 rt0 P (Nat.lt_succ_self _) (Nat.zero_le _) (hP) (hR) (Nat.le_refl _) (Nat.le_refl _) (fun _ h => h) (fun h => absurd h (Nat.lt_irrefl 0)))
            · refine gg_aload_n (pc := 47) E dX2_areRoutesRight_47 rfl rfl ?_
              refine gg_get (pc := 48) E ck_X2 1 q601 rfl (by decide) dX2_areRoutesRight_48 (gg_i 0 rfl) rfl ?_
              refine gg_callU (F := [_, _, _]) (As := []) (rest := []) (pc := 51) E ck_J19 (ct_J18_iterator hl (by omega)) (va_cwU (own := "WhistlePosts$World") (C := "java/util/LinkedList") (index := 58) (x := ⟨"java/util/LinkedList", "iterator", "()Ljava/util/Iterator;"⟩) (owner := "java/util/AbstractSequentialList") 0 E.2.2.2.2.1 (lw_app (lw_in _ [1190, 1191, 1193, 1194, 172] (by decide +kernel) (by decide +kernel)) (lw_meth q1195)) rfl rfl rfl rfl (by decide +kernel) ⟨by rw [hRf]; exact Nat.le_of_ble_eq_true rfl, by rw [hRl]; exact Nat.le_of_ble_eq_true rfl⟩) dX2_areRoutesRight_51 [] (by decide) rfl rfl (List.forall_mem_append.mpr ⟨(List.forall_mem_cons.mpr ⟨(gg_r 1 rfl), (fun _ h => by cases h)⟩), (fun q hq => gg_rm (List.mem_append_right _ (hq)))⟩) (gg_r 1 rfl) rfl rfl (Nat.le_of_ble_eq_true rfl) (by first | (rw [hRc]; dsimp only; omega) | (rw [hRc]; exact Nat.le_of_ble_eq_true rfl)) (by first | (rw [hRs]; dsimp only; omega) | (rw [hRs]; exact Nat.le_of_ble_eq_true rfl)) ?_ (fun X q C1 h => h.elim)
              rintro _ _ ⟨i1, rfl, rfl⟩
              dsimp only [List.cons_append, List.nil_append, Option.toList]
              refine gg_up3 ?_
              refine gg_astore (lv' := [_, _, _, _, _, _]) (pc := 54) E dX2_areRoutesRight_54 (Nat.le_of_ble_eq_true rfl) rfl rfl ?_
              have L56 : ∀ (n : Nat) (j1 : Nat) (v : Value) (F : Nat → Int32) (d : Nat → Option Nat), nw - j1 < n → (j1 ≤ nw) → (Bf row nr nw (-1) k1 d) → (∀ k, k < nr → F k = dI (d k)) → (UpE row nw (dist row nw (-1) k1) d nr t1 j1) → gg_W p l e R s m args below meth c g A 6 Q (0 + 1 + t1 + 1) (0 + nr + 5 * t1 + 5) [[(w, .inl (1, [.ref (ad 1), .ref (ad 3), .ref (ad 4), .ref (ad 6), .ref (ad 7), .int t7, .int c7, (va_rf rt0)]))], P, [(a1, gg_ai g nr F)], [(i1, .inl (19, [v, va_rf (if j1 < nw then some (nd j1) else none), .int (nI j1), .int m2, .ref (ad 3)]))]] [some (.ref w), some (.int (nI k1)), some (.ref a1), some (.int (nI t1)), some (.ref i1), none] [] 56 := by
                intro n56
                induction n56 with
                | zero => intro j1 v F d hmz; exact absurd hmz (Nat.not_lt_zero _)
                | succ n56 ih56 =>
                  intro j1 v F d hm56 hj1 hB hF hU
                  refine gg_aload (pc := 56) E dX2_areRoutesRight_56 rfl ?_
                  refine gg_callF (F := [_, _, _, _]) (As := []) (rest := []) (pc := 58) E ck_J28 (ct_J28_hasNext hl (hj1) (by omega)) (gg_cwF 0 E (x := ⟨"java/util/Iterator", "hasNext", "()Z"⟩) (by decide) nq1310 nq1308 nq1306 (lw_app (lw_in _ [1283, 1307, 1309, 188] (by decide +kernel) (by decide +kernel)) (lw_meth q1311)) (by decide +kernel) ⟨by rw [hRf]; exact Nat.le_of_ble_eq_true rfl, by rw [hRl]; exact Nat.le_of_ble_eq_true rfl⟩) dX2_areRoutesRight_58 [] (by decide) rfl rfl (List.forall_mem_cons.mpr ⟨(gg_i 3 rfl), (List.forall_mem_cons.mpr ⟨(gg_r 1 rfl), (fun _ h => by cases h)⟩)⟩) (gg_i 3 rfl) rfl rfl (Nat.le_of_ble_eq_true rfl) (by first | (rw [hRc]; dsimp only; omega) | (rw [hRc]; exact Nat.le_of_ble_eq_true rfl)) (by first | (rw [hRs]; dsimp only; omega) | (rw [hRs]; exact Nat.le_of_ble_eq_true rfl)) ?_ (fun X q C1 h => h.elim)
                  rintro _ _ ⟨rfl, rfl⟩
                  dsimp only [List.cons_append, List.nil_append, Option.toList]
                  refine gg_ifP_eq (tgt := 119) (pc := 63) E dX2_areRoutesRight_63 (by decide) (fun c63 => ?_) (fun c63 => ?_)
                  · obtain rfl : nw = j1 := by omega
                    refine gg_let rfl rfl ?_
                    refine gg_iincN (k := 1) (lv' := [_, _, _, _, _, _]) (pc := 119) E t1 dX2_areRoutesRight_119 rfl rfl rfl (Nat.le_of_ble_eq_true rfl) rfl rfl ?_
                    refine gg_goto (tgt := 41) (pc := 122) E dX2_areRoutesRight_122 (by decide) ?_
                    refine gg_cv rfl (gg_leS (gg_leS (gg_leS (gg_leS (gg_leN (gg_leN gg_le0)))))) rfl (by first | omega | exact Nat.le_refl _ | (dsimp only; omega)) (by first | omega | exact Nat.le_refl _ | (dsimp only; omega)) (ih41 (t1 + 1) F d (by omega) (by omega) (hB) (hF) (hU.done hw hD hDn hB.1))
                  · refine gg_aload (pc := 66) E dX2_areRoutesRight_66 rfl ?_
                    refine gg_callF (F := [_, _, _]) (As := []) (rest := []) (pc := 68) E ck_J28 (ct_J28_next hl (c63) (by omega)) (gg_cwF 0 E (x := ⟨"java/util/Iterator", "next", "()Ljava/lang/Object;"⟩) (by decide) nq1423 nq1421 nq1306 (lw_app (lw_in _ [1313, 1420, 1422, 188] (by decide +kernel) (by decide +kernel)) (lw_meth q1424)) (by decide +kernel) ⟨by rw [hRf]; exact Nat.le_of_ble_eq_true rfl, by rw [hRl]; exact Nat.le_of_ble_eq_true rfl⟩) dX2_areRoutesRight_68 [3] (by decide) rfl rfl (List.forall_mem_append.mpr ⟨(List.forall_mem_cons.mpr ⟨(gg_r 1 rfl), (fun _ h => by cases h)⟩), (fun q hq => gg_rm (List.mem_append_right _ (hq)))⟩) (gg_i 3 rfl) rfl rfl (Nat.le_of_ble_eq_true rfl) (by first | (rw [hRc]; dsimp only; omega) | (rw [hRc]; exact Nat.le_of_ble_eq_true rfl)) (by first | (rw [hRs]; dsimp only; omega) | (rw [hRs]; exact Nat.le_of_ble_eq_true rfl)) ?_ (fun X q C1 h => h.elim)
                    rintro _ _ ⟨rfl, rfl⟩
                    dsimp only [List.cons_append, List.nil_append, Option.toList]
                    refine gg_up3 ?_
                    refine gg_cast (pc := 73) E ck_X4 q1432 (Or.inl rfl) dX2_areRoutesRight_73 (gg_j 1 rfl (hP.2 j1 (by omega))) ?_
                    refine gg_astore (lv' := [_, _, _, _, _, _]) (pc := 76) E dX2_areRoutesRight_76 (Nat.le_of_ble_eq_true rfl) rfl rfl ?_
                    have hwj := hw.2.2.2 j1 c63
                    refine gg_aload_n (pc := 78) E dX2_areRoutesRight_78 rfl rfl ?_
                    refine gg_aload (pc := 79) E dX2_areRoutesRight_79 rfl ?_
                    refine gg_callV (F := [_, _, _, _]) (As := []) (rest := [_]) (pc := 81) E ck_X4 (ct_X4_first hl ) (cwV 0 E.2.2.2.2.1 (lw_V q2335 q2336 q2337 q177 q2338) rfl rfl rfl (by decide +kernel) ⟨by rw [hRf]; exact Nat.le_of_ble_eq_true rfl, by rw [hRl]; exact Nat.le_of_ble_eq_true rfl⟩) dX2_areRoutesRight_81 [] (by decide) rfl rfl (List.forall_mem_cons.mpr ⟨(gg_j 1 rfl (hP.2 j1 (by omega))), (fun _ h => by cases h)⟩) (gg_j 1 rfl (hP.2 j1 (by omega))) rfl rfl (Nat.le_of_ble_eq_true rfl) (by first | (rw [hRc]; dsimp only; omega) | (rw [hRc]; exact Nat.le_of_ble_eq_true rfl)) (by first | (rw [hRs]; dsimp only; omega) | (rw [hRs]; exact Nat.le_of_ble_eq_true rfl)) ?_ (fun X q C1 h => h.elim)
                    rintro _ _ ⟨rfl, rfl⟩
                    dsimp only [List.cons_append, List.nil_append, Option.toList]
                    rw [hwj.1]
                    refine gg_aload (pc := 84) E dX2_areRoutesRight_84 rfl ?_
                    refine gg_callV (F := [_, _, _, _]) (As := []) (rest := [_, _]) (pc := 86) E ck_X4 (ct_X4_second hl ) (cwV 0 E.2.2.2.2.1 (lw_V q2343 q2344 q2345 q177 q2346) rfl rfl rfl (by decide +kernel) ⟨by rw [hRf]; exact Nat.le_of_ble_eq_true rfl, by rw [hRl]; exact Nat.le_of_ble_eq_true rfl⟩) dX2_areRoutesRight_86 [] (by decide) rfl rfl (List.forall_mem_cons.mpr ⟨(gg_j 1 rfl (hP.2 j1 (by omega))), (fun _ h => by cases h)⟩) (gg_j 1 rfl (hP.2 j1 (by omega))) rfl rfl (Nat.le_of_ble_eq_true rfl) (by first | (rw [hRc]; dsimp only; omega) | (rw [hRc]; exact Nat.le_of_ble_eq_true rfl)) (by first | (rw [hRs]; dsimp only; omega) | (rw [hRs]; exact Nat.le_of_ble_eq_true rfl)) ?_ (fun X q C1 h => h.elim)
                    rintro _ _ ⟨rfl, rfl⟩
                    dsimp only [List.cons_append, List.nil_append, Option.toList]
                    rw [hwj.2.1]
                    refine gg_aload (pc := 89) E dX2_areRoutesRight_89 rfl ?_
                    refine gg_callV (F := [_, _, _, _]) (As := []) (rest := [_, _, _]) (pc := 91) E ck_X4 (ct_X4_far hl ) (cwV 0 E.2.2.2.2.1 (lw_V q2070 q2071 q2072 q177 q2073) rfl rfl rfl (by decide +kernel) ⟨by rw [hRf]; exact Nat.le_of_ble_eq_true rfl, by rw [hRl]; exact Nat.le_of_ble_eq_true rfl⟩) dX2_areRoutesRight_91 [] (by decide) rfl rfl (List.forall_mem_cons.mpr ⟨(gg_j 1 rfl (hP.2 j1 (by omega))), (fun _ h => by cases h)⟩) (gg_j 1 rfl (hP.2 j1 (by omega))) rfl rfl (Nat.le_of_ble_eq_true rfl) (by first | (rw [hRc]; dsimp only; omega) | (rw [hRc]; exact Nat.le_of_ble_eq_true rfl)) (by first | (rw [hRs]; dsimp only; omega) | (rw [hRs]; exact Nat.le_of_ble_eq_true rfl)) ?_ (fun X q C1 h => h.elim)
                    rintro _ _ ⟨rfl, rfl⟩
                    dsimp only [List.cons_append, List.nil_append, Option.toList]
                    refine gg_callS (F := [_, _, _]) (As := [_, .int (nI (ea row j1)), .int (nI (eb row j1)), _]) (rest := []) (pc := 94) E (ct_X2_betters hl (by omega) (by omega) (by omega)) (va_cwS 4 E.2.2.2.2.1 (lw_S q2360 q2361 q152 q2362) rfl rfl rfl (by decide +kernel) ⟨by rw [hRf]; exact Nat.le_of_ble_eq_true rfl, by rw [hRl]; exact Nat.le_of_ble_eq_true rfl⟩) dX2_areRoutesRight_94 [2] (by decide) rfl rfl (fun _ h => by cases h) rfl rfl (Nat.le_of_ble_eq_true rfl) (by first | (rw [hRc]; dsimp only; omega) | (rw [hRc]; exact Nat.le_of_ble_eq_true rfl)) (by first | (rw [hRs]; dsimp only; omega) | (rw [hRs]; exact Nat.le_of_ble_eq_true rfl)) ?_ (fun X q C1 h => h.elim)
                    rintro _ _ ⟨rfl, rfl⟩
                    dsimp only [List.cons_append, List.nil_append, Option.toList]
                    refine gg_up2 ?_
                    refine gg_aload_n (pc := 97) E dX2_areRoutesRight_97 rfl rfl ?_
                    refine gg_aload (pc := 98) E dX2_areRoutesRight_98 rfl ?_
                    refine gg_callV (F := [_, _, _, _]) (As := []) (rest := [_]) (pc := 100) E ck_X4 (ct_X4_second hl ) (cwV 0 E.2.2.2.2.1 (lw_V q2343 q2344 q2345 q177 q2346) rfl rfl rfl (by decide +kernel) ⟨by rw [hRf]; exact Nat.le_of_ble_eq_true rfl, by rw [hRl]; exact Nat.le_of_ble_eq_true rfl⟩) dX2_areRoutesRight_100 [] (by decide) rfl rfl (List.forall_mem_cons.mpr ⟨(gg_j 1 rfl (hP.2 j1 (by omega))), (fun _ h => by cases h)⟩) (gg_j 1 rfl (hP.2 j1 (by omega))) rfl rfl (Nat.le_of_ble_eq_true rfl) (by first | (rw [hRc]; dsimp only; omega) | (rw [hRc]; exact Nat.le_of_ble_eq_true rfl)) (by first | (rw [hRs]; dsimp only; omega) | (rw [hRs]; exact Nat.le_of_ble_eq_true rfl)) ?_ (fun X q C1 h => h.elim)
                    rintro _ _ ⟨rfl, rfl⟩
                    dsimp only [List.cons_append, List.nil_append, Option.toList]
                    rw [hwj.2.1]
                    refine gg_aload (pc := 103) E dX2_areRoutesRight_103 rfl ?_
                    refine gg_callV (F := [_, _, _, _]) (As := []) (rest := [_, _]) (pc := 105) E ck_X4 (ct_X4_first hl ) (cwV 0 E.2.2.2.2.1 (lw_V q2335 q2336 q2337 q177 q2338) rfl rfl rfl (by decide +kernel) ⟨by rw [hRf]; exact Nat.le_of_ble_eq_true rfl, by rw [hRl]; exact Nat.le_of_ble_eq_true rfl⟩) dX2_areRoutesRight_105 [] (by decide) rfl rfl (List.forall_mem_cons.mpr ⟨(gg_j 1 rfl (hP.2 j1 (by omega))), (fun _ h => by cases h)⟩) (gg_j 1 rfl (hP.2 j1 (by omega))) rfl rfl (Nat.le_of_ble_eq_true rfl) (by first | (rw [hRc]; dsimp only; omega) | (rw [hRc]; exact Nat.le_of_ble_eq_true rfl)) (by first | (rw [hRs]; dsimp only; omega) | (rw [hRs]; exact Nat.le_of_ble_eq_true rfl)) ?_ (fun X q C1 h => h.elim)
                    rintro _ _ ⟨rfl, rfl⟩
                    dsimp only [List.cons_append, List.nil_append, Option.toList]
                    rw [hwj.1]
                    refine gg_aload (pc := 108) E dX2_areRoutesRight_108 rfl ?_
                    refine gg_callV (F := [_, _, _, _]) (As := []) (rest := [_, _, _]) (pc := 110) E ck_X4 (ct_X4_far hl ) (cwV 0 E.2.2.2.2.1 (lw_V q2070 q2071 q2072 q177 q2073) rfl rfl rfl (by decide +kernel) ⟨by rw [hRf]; exact Nat.le_of_ble_eq_true rfl, by rw [hRl]; exact Nat.le_of_ble_eq_true rfl⟩) dX2_areRoutesRight_110 [] (by decide) rfl rfl (List.forall_mem_cons.mpr ⟨(gg_j 1 rfl (hP.2 j1 (by omega))), (fun _ h => by cases h)⟩) (gg_j 1 rfl (hP.2 j1 (by omega))) rfl rfl (Nat.le_of_ble_eq_true rfl) (by first | (rw [hRc]; dsimp only; omega) | (rw [hRc]; exact Nat.le_of_ble_eq_true rfl)) (by first | (rw [hRs]; dsimp only; omega) | (rw [hRs]; exact Nat.le_of_ble_eq_true rfl)) ?_ (fun X q C1 h => h.elim)
                    rintro _ _ ⟨rfl, rfl⟩
                    dsimp only [List.cons_append, List.nil_append, Option.toList]
                    refine gg_callS (F := [_, _, _]) (As := [_, .int (nI (eb row j1)), .int (nI (ea row j1)), _]) (rest := []) (pc := 113) E (ct_X2_betters hl (by omega) (by omega) (by omega)) (va_cwS 4 E.2.2.2.2.1 (lw_S q2360 q2361 q152 q2362) rfl rfl rfl (by decide +kernel) ⟨by rw [hRf]; exact Nat.le_of_ble_eq_true rfl, by rw [hRl]; exact Nat.le_of_ble_eq_true rfl⟩) dX2_areRoutesRight_113 [2] (by decide) rfl rfl (fun _ h => by cases h) rfl rfl (Nat.le_of_ble_eq_true rfl) (by first | (rw [hRc]; dsimp only; omega) | (rw [hRc]; exact Nat.le_of_ble_eq_true rfl)) (by first | (rw [hRs]; dsimp only; omega) | (rw [hRs]; exact Nat.le_of_ble_eq_true rfl)) ?_ (fun X q C1 h => h.elim)
                    rintro _ _ ⟨rfl, rfl⟩
                    dsimp only [List.cons_append, List.nil_append, Option.toList]
                    refine gg_up2 ?_
                    have hEj : En row nw (-1) j1 (ea row j1) (eb row j1) := ⟨c63, nI_nm1 (by omega), Or.inl ⟨rfl, rfl⟩⟩
                    have hF1 := bt_rx hwj.2.2.1 hwj.2.2.2.2.2.2.2 hF (show ea row j1 < nr by omega) (show eb row j1 < nr by omega) (fun k x q => hB.lt q)
                    have hB1 := hB.rxk hw hEj
                    have hF2 := bt_rx hwj.2.2.1 hwj.2.2.2.2.2.2.2 hF1 (show eb row j1 < nr by omega) (show ea row j1 < nr by omega) (fun k x q => hB1.lt q)
                    have hB2 := hB1.rxk hw hEj.symm
                    have hU2 := hU.step hw c63 rfl rfl
                    refine gg_goto (tgt := 56) (pc := 116) E dX2_areRoutesRight_116 (by decide) ?_
                    refine gg_cv rfl (gg_leS (gg_leS (gg_leS (gg_leS (gg_leS (gg_leN gg_le0)))))) rfl (by first | omega | exact Nat.le_refl _ | (dsimp only; omega)) (by first | omega | exact Nat.le_refl _ | (dsimp only; omega)) (ih56 (j1 + 1) (.ref (nd j1)) (btF (btF F (ea row j1) (eb row j1) (row (160 + 3 * j1 + 2))) (eb row j1) (ea row j1) (row (160 + 3 * j1 + 2))) (rx (rx d (eb row j1) (ea row j1) (ef row j1)) (ea row j1) (eb row j1) (ef row j1)) (by omega) (by omega) (hB2) (hF2) (hU2))
              refine gg_cv rfl (gg_leS (gg_leS (gg_leS (gg_leS (gg_leS (gg_leN gg_le0)))))) rfl (by first | omega | exact Nat.le_refl _ | (dsimp only; omega)) (by first | omega | exact Nat.le_refl _ | (dsimp only; omega)) (L56 _ 0 .null F d (Nat.lt_succ_self _) (Nat.zero_le _) (hB) (hF) (UpE.start hU))
        refine gg_cv rfl (gg_leS (gg_leS (gg_leS (gg_leS (gg_leN (gg_leN gg_le0)))))) rfl (by first | omega | exact Nat.le_refl _ | (dsimp only; omega)) (by first | omega | exact Nat.le_refl _ | (dsimp only; omega)) (L41 _ 0 F (d0 k1) (Nat.lt_succ_self _) (Nat.zero_le _) (Bf.start (by omega)) (fun i hi => hF i (by omega)) (UpK.start hw hD hDn))
      · refine gg_aload_n (pc := 20) E dX2_areRoutesRight_20 rfl rfl ?_
        refine gg_iload_n (pc := 21) E dX2_areRoutesRight_21 rfl rfl ?_
        refine gg_iload_n (pc := 22) E dX2_areRoutesRight_22 rfl rfl ?_
        refine gg_iload_n (pc := 23) E dX2_areRoutesRight_23 rfl rfl ?_
        refine gg_icmpN_ne (tgt := 31) (pc := 24) E k k1 rfl rfl (by omega) (by omega) dX2_areRoutesRight_24 (by decide) (fun c24 => ?_) (fun c24 => ?_)
        · refine gg_iconst (v := (-1)) (pc := 31) E dX2_areRoutesRight_31 (by decide) ?_
          refine gg_iastN (M' := [_, _, _]) (pc := 32) E k rfl (by omega) (by omega) dX2_areRoutesRight_32 2 rfl rfl ?_
          refine gg_iincN (k := 1) (lv' := [_, _, _, _, _, _]) (pc := 33) E k dX2_areRoutesRight_33 rfl rfl rfl (Nat.le_of_ble_eq_true rfl) rfl rfl ?_
          refine gg_goto (tgt := 14) (pc := 36) E dX2_areRoutesRight_36 (by decide) ?_
          refine gg_cv rfl (gg_leS (gg_leS (gg_leS (gg_leS (gg_leN (gg_leN gg_le0)))))) rfl (by first | omega | exact Nat.le_refl _ | (dsimp only; omega)) (by first | omega | exact Nat.le_refl _ | (dsimp only; omega)) (ih14 (k + 1) (upd F k (-1)) (by omega) (by omega) (fun i hi => by by_cases e : i = k; (· subst e; rw [pk_us]; first | exact (if_neg c24).symm.trans d0_I | exact (if_pos c24).symm.trans d0_I); (· rw [pk_un e]; exact hF i (by omega))))
        · refine gg_iconst (v := 0) (pc := 27) E dX2_areRoutesRight_27 (by decide) ?_
          refine gg_goto (tgt := 32) (pc := 28) E dX2_areRoutesRight_28 (by decide) ?_
          refine gg_iastN (M' := [_, _, _]) (pc := 32) E k rfl (by omega) (by omega) dX2_areRoutesRight_32 2 rfl rfl ?_
          refine gg_iincN (k := 1) (lv' := [_, _, _, _, _, _]) (pc := 33) E k dX2_areRoutesRight_33 rfl rfl rfl (Nat.le_of_ble_eq_true rfl) rfl rfl ?_
          refine gg_goto (tgt := 14) (pc := 36) E dX2_areRoutesRight_36 (by decide) ?_
          refine gg_cv rfl (gg_leS (gg_leS (gg_leS (gg_leS (gg_leN (gg_leN gg_le0)))))) rfl (by first | omega | exact Nat.le_refl _ | (dsimp only; omega)) (by first | omega | exact Nat.le_refl _ | (dsimp only; omega)) (ih14 (k + 1) (upd F k 0) (by omega) (by omega) (fun i hi => by by_cases e : i = k; (· subst e; rw [pk_us]; first | exact (if_neg c24).symm.trans d0_I | exact (if_pos c24).symm.trans d0_I); (· rw [pk_un e]; exact hF i (by omega))))
  refine gg_cv rfl (gg_leS (gg_leS (gg_leS (gg_leS (gg_leN (gg_leN gg_le0)))))) rfl (by first | omega | exact Nat.le_refl _ | (dsimp only; omega)) (by first | omega | exact Nat.le_refl _ | (dsimp only; omega)) (L14 _ 0 (fun _ => 0) (Nat.lt_succ_self _) (Nat.zero_le _) (fun i h => absurd h (Nat.not_lt_zero i)))
set_option maxHeartbeats 4000000 in
theorem ct_X2_agrees {l : Launch} (hl : l.stackTraces = false) {g : gg_G}  {w : Nat} {ad : Nat → Nat} {rt0 : Option Nat} {ra nm : Nat → Nat} {m1 : Int32} {nr : Nat} {tu sn hd : Nat → Nat} {m3 : Int32} {nt : Nat} {nd wo : Nat → Nat} {m2 : Int32} {nw : Nat} {row : Nat → Int32} {P : gg_S} (hP : Po g P sn wo row nw nt) (hG : Gw row nr nw nt) (hR : ∀ a, rt0 = some a → Rt g P a row nr nw) : gg_C l g yX2_agrees (ws_ yX2_agrees cX2_agrees 6 (some .boolean)) { frames := 16, cells := (lyC rt0 - 0 + 120), slots := (lyS rt0 - 0 + 620), locals := 325 } [.ref w] ([((ad 1), .inl (11, [.int m1, .ref (ad 2), .int (nI nr)])), ((ad 2), gg_ao g 4 10 (lsF ra nr)), ((ad 4), .inl (11, [.int m3, .ref (ad 5), .int (nI nt)])), ((ad 5), gg_ao g 4 30 (lsF tu nt)), ((ad 7), gg_ai g 11 (fun j => row (10 + j))), ((ad 3), .inl (15, [.int m2, .int (nI nw), llF nd nw, llL nd nw]))] ++ ((llS nd wo nw) ++ ((mp (rfN ra nm row) nr) ++ (mp (tuN tu sn hd row) nt)))) [[(w, .inl (1, [.ref (ad 1), .ref (ad 3), .ref (ad 4), .ref (ad 6), .ref (ad 7), .int (row 3), .int (row 7), (va_rf rt0)]))], P] (fun vv CC => ∃ (rt2 : Option Nat) (P2 : gg_S), (Po g P2 sn wo row nw nt ∧ (∀ a, rt2 = some a → Rt g P2 a row nr nw) ∧ Sub P P2) ∧ vv = some (.int (qAgree row nr nt)) ∧ CC = [[(w, .inl (1, [.ref (ad 1), .ref (ad 3), .ref (ad 4), .ref (ad 6), .ref (ad 7), .int (row 3), .int (row 7), (va_rf rt2)]))], P2]) gg_no := by
  refine gg_of (lv := [_, _, _, _, _, _]) (by decide) hl (Nat.le_of_ble_eq_true rfl) rfl ?_
  intro p e R s m args below meth c A Q hRf hRl hRc hRs E Fn hnm hex
  have hw := hG.2.1
  have h20 := hw.2.1
  have hr10 := hw.2.2.1
  have hT := hG.2.2.1.2.2.2
  have ht30 := hG.2.2.1.2.1
  have h2 := hG.2.2.1.1
  refine gg_iconst (v := 4) (pc := 0) E dX2_agrees_0 (by decide) ?_
  refine gg_newa (N := 4) (pc := 1) E 0 (ty := .int) rfl rfl q631 dX2_agrees_1 (by decide) (by decide) (by decide) (by first | (rw [hRc]; dsimp only; omega) | (rw [hRc]; exact Nat.le_of_ble_eq_true rfl)) (by first | (rw [hRs]; dsimp only; omega) | (rw [hRs]; exact Nat.le_of_ble_eq_true rfl)) (fun _ => rfl) (fun a1 => ?_)
  dsimp only [List.cons_append, List.nil_append]
  refine gg_astore_n (lv' := [_, _, _, _, _, _]) (pc := 3) E dX2_agrees_3 rfl (Nat.le_of_ble_eq_true rfl) rfl rfl ?_
  refine gg_iconst (v := 0) (pc := 4) E dX2_agrees_4 (by decide) ?_
  refine gg_istore_n (lv' := [_, _, _, _, _, _]) (pc := 5) E dX2_agrees_5 rfl (Nat.le_of_ble_eq_true rfl) rfl rfl ?_
  refine gg_iconst (v := 0) (pc := 6) E dX2_agrees_6 (by decide) ?_
  refine gg_istore_n (lv' := [_, _, _, _, _, _]) (pc := 7) E dX2_agrees_7 rfl (Nat.le_of_ble_eq_true rfl) rfl rfl ?_
  refine gg_iconst (v := 0) (pc := 8) E dX2_agrees_8 (by decide) ?_
  refine gg_istore (lv' := [_, _, _, _, _, _]) (pc := 9) E dX2_agrees_9 (Nat.le_of_ble_eq_true rfl) rfl rfl ?_
  have L11 : ∀ (n : Nat) (j : Nat), nt - j < n → (j ≤ nt) → gg_W p l e R s m args below meth c g A 6 Q (0 + 1) (0 + 4) [[(w, .inl (1, [.ref (ad 1), .ref (ad 3), .ref (ad 4), .ref (ad 6), .ref (ad 7), .int (row 3), .int (row 7), (va_rf rt0)]))], P, [(a1, gg_ai g 4 (fun k => sm (fun i => if row (220 + 27 * i + 3) = nI k then 1 else 0) j))]] [some (.ref w), some (.ref a1), some (.int (sm (fun i => row (220 + 27 * i + 9)) j)), some (.int 0), some (.int (nI j)), none] [] 11 := by
    intro n11
    induction n11 with
    | zero => intro j hmz; exact absurd hmz (Nat.not_lt_zero _)
    | succ n11 ih11 =>
      intro j hm11 hj
      refine gg_iload (pc := 11) E dX2_agrees_11 rfl ?_
      refine gg_aload_n (pc := 13) E dX2_agrees_13 rfl rfl ?_
      refine gg_get (pc := 14) E ck_X2 2 q604 rfl (by decide) dX2_agrees_14 (gg_i 0 rfl) rfl ?_
      refine gg_callF (F := [_, _, _]) (As := []) (rest := [_]) (pc := 17) E ck_J2 (ct_J2_size hl ) (gg_cwF 0 E (x := ⟨"java/util/List", "size", "()I"⟩) (by decide) nq1046 nq1044 nq683 (lw_app (lw_in _ [1095, 1043, 1045, 155] (by decide +kernel) (by decide +kernel)) (lw_meth q1047)) (by decide +kernel) ⟨by rw [hRf]; exact Nat.le_of_ble_eq_true rfl, by rw [hRl]; exact Nat.le_of_ble_eq_true rfl⟩) dX2_agrees_17 [] (by decide) rfl rfl (List.forall_mem_cons.mpr ⟨(gg_r 2 rfl), (fun _ h => by cases h)⟩) (gg_r 2 rfl) rfl rfl (Nat.le_of_ble_eq_true rfl) (by first | (rw [hRc]; dsimp only; omega) | (rw [hRc]; exact Nat.le_of_ble_eq_true rfl)) (by first | (rw [hRs]; dsimp only; omega) | (rw [hRs]; exact Nat.le_of_ble_eq_true rfl)) ?_ (fun X q C1 h => h.elim)
      rintro _ _ ⟨rfl, rfl⟩
      dsimp only [List.cons_append, List.nil_append, Option.toList]
      refine gg_icmpN_ge (tgt := 113) (pc := 22) E j nt rfl rfl (by omega) (by omega) dX2_agrees_22 (by decide) (fun c22 => ?_) (fun c22 => ?_)
      · obtain rfl : nt = j := by omega
        refine gg_iconst (v := 0) (pc := 113) E dX2_agrees_113 (by decide) ?_
        refine gg_istore (lv' := [_, _, _, _, _, _]) (pc := 114) E dX2_agrees_114 (Nat.le_of_ble_eq_true rfl) rfl rfl ?_
        have L116 : ∀ (n : Nat) (k : Nat) (rt : Option Nat) (P3 : gg_S), nr - k < n → (k ≤ nr) → (Po g P3 sn wo row nw nt) → (∀ a, rt = some a → Rt g P3 a row nr nw) → (lyC rt ≤ lyC rt0) → (lyS rt ≤ lyS rt0) → (Sub P P3) → gg_W p l e R s m args below meth c g A 6 Q (lyC rt0 - lyC rt + 1 + 11 * k) (lyS rt0 - lyS rt + 4 + 60 * k) [[(w, .inl (1, [.ref (ad 1), .ref (ad 3), .ref (ad 4), .ref (ad 6), .ref (ad 7), .int (row 3), .int (row 7), (va_rf rt)]))], P3, [(a1, gg_ai g 4 (fun k => sm (fun i => if row (220 + 27 * i + 3) = nI k then 1 else 0) nt))]] [some (.ref w), some (.ref a1), some (.int (sm (fun i => row (220 + 27 * i + 9)) nt)), some (.int (sm (fun i => row (25 + 13 * i + 10)) k)), some (.int (nI k)), none] [] 116 := by
          intro n116
          induction n116 with
          | zero => intro k rt P3 hmz; exact absurd hmz (Nat.not_lt_zero _)
          | succ n116 ih116 =>
            intro k rt P3 hm116 hk1 hP hR hlc hls hS
            refine gg_iload (pc := 116) E dX2_agrees_116 rfl ?_
            refine gg_aload_n (pc := 118) E dX2_agrees_118 rfl rfl ?_
            refine gg_get (pc := 119) E ck_X2 0 q598 rfl (by decide) dX2_agrees_119 (gg_i 0 rfl) rfl ?_
            refine gg_callF (F := [_, _, _]) (As := []) (rest := [_]) (pc := 122) E ck_J2 (ct_J2_size hl ) (gg_cwF 0 E (x := ⟨"java/util/List", "size", "()I"⟩) (by decide) nq1046 nq1044 nq683 (lw_app (lw_in _ [1095, 1043, 1045, 155] (by decide +kernel) (by decide +kernel)) (lw_meth q1047)) (by decide +kernel) ⟨by rw [hRf]; exact Nat.le_of_ble_eq_true rfl, by rw [hRl]; exact Nat.le_of_ble_eq_true rfl⟩) dX2_agrees_122 [] (by decide) rfl rfl (List.forall_mem_cons.mpr ⟨(gg_r 0 rfl), (fun _ h => by cases h)⟩) (gg_r 0 rfl) rfl rfl (Nat.le_of_ble_eq_true rfl) (by first | (rw [hRc]; dsimp only; omega) | (rw [hRc]; exact Nat.le_of_ble_eq_true rfl)) (by first | (rw [hRs]; dsimp only; omega) | (rw [hRs]; exact Nat.le_of_ble_eq_true rfl)) ?_ (fun X q C1 h => h.elim)
            rintro _ _ ⟨rfl, rfl⟩
            dsimp only [List.cons_append, List.nil_append, Option.toList]
            refine gg_icmpN_ge (tgt := 159) (pc := 127) E k nr rfl rfl (by omega) (by omega) dX2_agrees_127 (by decide) (fun c127 => ?_) (fun c127 => ?_)
            · obtain rfl : nr = k := by omega
              refine gg_aload_n (pc := 159) E dX2_agrees_159 rfl rfl ?_
              refine gg_get (pc := 160) E ck_X2 4 q608 rfl (by decide) dX2_agrees_160 (gg_i 0 rfl) rfl ?_
              refine gg_iconst (v := 1) (pc := 163) E dX2_agrees_163 (by decide) ?_
              refine gg_ialdN (pc := 164) E 1 rfl (by omega) (by omega) dX2_agrees_164 (gg_r 4 rfl) ?_
              refine gg_aload_n (pc := 165) E dX2_agrees_165 rfl rfl ?_
              refine gg_get (pc := 166) E ck_X2 2 q604 rfl (by decide) dX2_agrees_166 (gg_i 0 rfl) rfl ?_
              refine gg_callF (F := [_, _, _]) (As := []) (rest := [_]) (pc := 169) E ck_J2 (ct_J2_size hl ) (gg_cwF 0 E (x := ⟨"java/util/List", "size", "()I"⟩) (by decide) nq1046 nq1044 nq683 (lw_app (lw_in _ [1095, 1043, 1045, 155] (by decide +kernel) (by decide +kernel)) (lw_meth q1047)) (by decide +kernel) ⟨by rw [hRf]; exact Nat.le_of_ble_eq_true rfl, by rw [hRl]; exact Nat.le_of_ble_eq_true rfl⟩) dX2_agrees_169 [] (by decide) rfl rfl (List.forall_mem_cons.mpr ⟨(gg_r 2 rfl), (fun _ h => by cases h)⟩) (gg_r 2 rfl) rfl rfl (Nat.le_of_ble_eq_true rfl) (by first | (rw [hRc]; dsimp only; omega) | (rw [hRc]; exact Nat.le_of_ble_eq_true rfl)) (by first | (rw [hRs]; dsimp only; omega) | (rw [hRs]; exact Nat.le_of_ble_eq_true rfl)) ?_ (fun X q C1 h => h.elim)
              rintro _ _ ⟨rfl, rfl⟩
              dsimp only [List.cons_append, List.nil_append, Option.toList]
              refine gg_icmp_ne (tgt := 248) (pc := 174) E dX2_agrees_174 (by decide) (fun c174 => ?_) (fun c174 => ?_)
              · refine gg_iconst (v := 0) (pc := 248) E dX2_agrees_248 (by decide) ?_
                refine gg_let rfl rfl ?_
                refine gg_iret (pc := 249) E Fn rfl (gg_nz (by first | decide | assumption | exact gg_b01 | (split <;> decide))) dX2_agrees_249 (by first | omega | (dsimp only; omega) | exact Nat.le_of_ble_eq_true rfl) (by first | omega | (dsimp only; omega) | exact Nat.le_of_ble_eq_true rfl) ?_
                have hq : qAgree row nr nt = 0 := if_neg (fun q => c174 (q.1.1.trans h2))
                exact ⟨rt, P3, ⟨hP, hR, hS⟩, by rw [hq], rfl⟩
              · refine gg_aload_n (pc := 177) E dX2_agrees_177 rfl rfl ?_
                refine gg_iconst (v := 2) (pc := 178) E dX2_agrees_178 (by decide) ?_
                refine gg_ialdN (pc := 179) E 2 rfl (by omega) (by omega) dX2_agrees_179 (gg_i 2 rfl) ?_
                refine gg_aload_n (pc := 180) E dX2_agrees_180 rfl rfl ?_
                refine gg_get (pc := 181) E ck_X2 4 q608 rfl (by decide) dX2_agrees_181 (gg_i 0 rfl) rfl ?_
                refine gg_iconst (v := 5) (pc := 184) E dX2_agrees_184 (by decide) ?_
                refine gg_ialdN (pc := 185) E 5 rfl (by omega) (by omega) dX2_agrees_185 (gg_r 4 rfl) ?_
                refine gg_icmp_ne (tgt := 248) (pc := 186) E dX2_agrees_186 (by decide) (fun c186 => ?_) (fun c186 => ?_)
                · refine gg_iconst (v := 0) (pc := 248) E dX2_agrees_248 (by decide) ?_
                  refine gg_let rfl rfl ?_
                  refine gg_iret (pc := 249) E Fn rfl (gg_nz (by first | decide | assumption | exact gg_b01 | (split <;> decide))) dX2_agrees_249 (by first | omega | (dsimp only; omega) | exact Nat.le_of_ble_eq_true rfl) (by first | omega | (dsimp only; omega) | exact Nat.le_of_ble_eq_true rfl) ?_
                  have hq : qAgree row nr nt = 0 := if_neg (fun q => c186 q.1.2)
                  exact ⟨rt, P3, ⟨hP, hR, hS⟩, by rw [hq], rfl⟩
                · refine gg_aload_n (pc := 189) E dX2_agrees_189 rfl rfl ?_
                  refine gg_iconst (v := 3) (pc := 190) E dX2_agrees_190 (by decide) ?_
                  refine gg_ialdN (pc := 191) E 3 rfl (by omega) (by omega) dX2_agrees_191 (gg_i 2 rfl) ?_
                  refine gg_aload_n (pc := 192) E dX2_agrees_192 rfl rfl ?_
                  refine gg_get (pc := 193) E ck_X2 4 q608 rfl (by decide) dX2_agrees_193 (gg_i 0 rfl) rfl ?_
                  refine gg_bipush (v := 8) (pc := 196) E dX2_agrees_196 (by decide) ?_
                  refine gg_ialdN (pc := 198) E 8 rfl (by omega) (by omega) dX2_agrees_198 (gg_r 4 rfl) ?_
                  refine gg_icmp_ne (tgt := 248) (pc := 199) E dX2_agrees_199 (by decide) (fun c199 => ?_) (fun c199 => ?_)
                  · refine gg_iconst (v := 0) (pc := 248) E dX2_agrees_248 (by decide) ?_
                    refine gg_let rfl rfl ?_
                    refine gg_iret (pc := 249) E Fn rfl (gg_nz (by first | decide | assumption | exact gg_b01 | (split <;> decide))) dX2_agrees_249 (by first | omega | (dsimp only; omega) | exact Nat.le_of_ble_eq_true rfl) (by first | omega | (dsimp only; omega) | exact Nat.le_of_ble_eq_true rfl) ?_
                    have hq : qAgree row nr nt = 0 := if_neg (fun q => c199 q.2.1.1)
                    exact ⟨rt, P3, ⟨hP, hR, hS⟩, by rw [hq], rfl⟩
                  · refine gg_iload_n (pc := 202) E dX2_agrees_202 rfl rfl ?_
                    refine gg_aload_n (pc := 203) E dX2_agrees_203 rfl rfl ?_
                    refine gg_get (pc := 204) E ck_X2 4 q608 rfl (by decide) dX2_agrees_204 (gg_i 0 rfl) rfl ?_
                    refine gg_iconst (v := 3) (pc := 207) E dX2_agrees_207 (by decide) ?_
                    refine gg_ialdN (pc := 208) E 3 rfl (by omega) (by omega) dX2_agrees_208 (gg_r 4 rfl) ?_
                    refine gg_icmp_ne (tgt := 248) (pc := 209) E dX2_agrees_209 (by decide) (fun c209 => ?_) (fun c209 => ?_)
                    · refine gg_iconst (v := 0) (pc := 248) E dX2_agrees_248 (by decide) ?_
                      refine gg_let rfl rfl ?_
                      refine gg_iret (pc := 249) E Fn rfl (gg_nz (by first | decide | assumption | exact gg_b01 | (split <;> decide))) dX2_agrees_249 (by first | omega | (dsimp only; omega) | exact Nat.le_of_ble_eq_true rfl) (by first | omega | (dsimp only; omega) | exact Nat.le_of_ble_eq_true rfl) ?_
                      have hq : qAgree row nr nt = 0 := if_neg (fun q => c209 q.2.2.2)
                      exact ⟨rt, P3, ⟨hP, hR, hS⟩, by rw [hq], rfl⟩
                    · refine gg_iload_n (pc := 212) E dX2_agrees_212 rfl rfl ?_
                      refine gg_aload_n (pc := 213) E dX2_agrees_213 rfl rfl ?_
                      refine gg_get (pc := 214) E ck_X2 6 q612 rfl (by decide) dX2_agrees_214 (gg_i 0 rfl) rfl ?_
                      refine gg_aload_n (pc := 217) E dX2_agrees_217 rfl rfl ?_
                      refine gg_get (pc := 218) E ck_X2 4 q608 rfl (by decide) dX2_agrees_218 (gg_i 0 rfl) rfl ?_
                      refine gg_bipush (v := 10) (pc := 221) E dX2_agrees_221 (by decide) ?_
                      refine gg_ialdN (pc := 223) E 10 rfl (by omega) (by omega) dX2_agrees_223 (gg_r 4 rfl) ?_
                      refine gg_iadd (pc := 224) E dX2_agrees_224 ?_
                      refine gg_icmp_ne (tgt := 248) (pc := 225) E dX2_agrees_225 (by decide) (fun c225 => ?_) (fun c225 => ?_)
                      · refine gg_iconst (v := 0) (pc := 248) E dX2_agrees_248 (by decide) ?_
                        refine gg_let rfl rfl ?_
                        refine gg_iret (pc := 249) E Fn rfl (gg_nz (by first | decide | assumption | exact gg_b01 | (split <;> decide))) dX2_agrees_249 (by first | omega | (dsimp only; omega) | exact Nat.le_of_ble_eq_true rfl) (by first | omega | (dsimp only; omega) | exact Nat.le_of_ble_eq_true rfl) ?_
                        have hq : qAgree row nr nt = 0 := if_neg (fun q => c225 q.2.1.2)
                        exact ⟨rt, P3, ⟨hP, hR, hS⟩, by rw [hq], rfl⟩
                      · refine gg_aload_n (pc := 228) E dX2_agrees_228 rfl rfl ?_
                        refine gg_get (pc := 229) E ck_X2 4 q608 rfl (by decide) dX2_agrees_229 (gg_i 0 rfl) rfl ?_
                        refine gg_bipush (v := 6) (pc := 232) E dX2_agrees_232 (by decide) ?_
                        refine gg_ialdN (pc := 234) E 6 rfl (by omega) (by omega) dX2_agrees_234 (gg_r 4 rfl) ?_
                        refine gg_aload_n (pc := 235) E dX2_agrees_235 rfl rfl ?_
                        refine gg_get (pc := 236) E ck_X2 4 q608 rfl (by decide) dX2_agrees_236 (gg_i 0 rfl) rfl ?_
                        refine gg_iconst (v := 5) (pc := 239) E dX2_agrees_239 (by decide) ?_
                        refine gg_ialdN (pc := 240) E 5 rfl (by omega) (by omega) dX2_agrees_240 (gg_r 4 rfl) ?_
                        refine gg_icmp_gt (tgt := 248) (pc := 241) E dX2_agrees_241 (by decide) (fun c241 => ?_) (fun c241 => ?_)
                        · refine gg_iconst (v := 0) (pc := 248) E dX2_agrees_248 (by decide) ?_
                          refine gg_let rfl rfl ?_
                          refine gg_iret (pc := 249) E Fn rfl (gg_nz (by first | decide | assumption | exact gg_b01 | (split <;> decide))) dX2_agrees_249 (by first | omega | (dsimp only; omega) | exact Nat.le_of_ble_eq_true rfl) (by first | omega | (dsimp only; omega) | exact Nat.le_of_ble_eq_true rfl) ?_
                          have hq : qAgree row nr nt = 0 := if_neg (fun q => absurd q.2.2.1 (Int32.not_le.mpr c241))
                          exact ⟨rt, P3, ⟨hP, hR, hS⟩, by rw [hq], rfl⟩
                        · refine gg_iconst (v := 1) (pc := 244) E dX2_agrees_244 (by decide) ?_
                          refine gg_goto (tgt := 249) (pc := 245) E dX2_agrees_245 (by decide) ?_
                          refine gg_let rfl rfl ?_
                          refine gg_iret (pc := 249) E Fn rfl (gg_nz (by first | decide | assumption | exact gg_b01 | (split <;> decide))) dX2_agrees_249 (by first | omega | (dsimp only; omega) | exact Nat.le_of_ble_eq_true rfl) (by first | omega | (dsimp only; omega) | exact Nat.le_of_ble_eq_true rfl) ?_
                          have hq : qAgree row nr nt = 1 := if_pos ⟨⟨c174.trans h2.symm, c186⟩, ⟨c199, c225⟩, Int32.not_lt.mp c241, c209⟩
                          exact ⟨rt, P3, ⟨hP, hR, hS⟩, by rw [hq], rfl⟩
            · refine gg_iload_n (pc := 130) E dX2_agrees_130 rfl rfl ?_
              refine gg_aload_n (pc := 131) E dX2_agrees_131 rfl rfl ?_
              refine gg_iload (pc := 132) E dX2_agrees_132 rfl ?_
              refine gg_callV (F := [_, _, _]) (As := [.int (nI k)]) (rest := [_]) (pc := 134) E ck_X2 (ct_X2_roof hl (c127) (hr10)) (cwV 1 E.2.2.2.2.1 (lw_V q1096 q1097 q1098 q152 q1099) rfl rfl rfl (by decide +kernel) ⟨by rw [hRf]; exact Nat.le_of_ble_eq_true rfl, by rw [hRl]; exact Nat.le_of_ble_eq_true rfl⟩) dX2_agrees_134 [] (by decide) rfl rfl (List.forall_mem_append.mpr ⟨(List.forall_mem_cons.mpr ⟨(gg_i 0 rfl), (List.forall_mem_cons.mpr ⟨(gg_r 0 rfl), (List.forall_mem_cons.mpr ⟨(gg_r 1 rfl), (fun _ h => by cases h)⟩)⟩)⟩), (fun q hq => gg_rm (List.mem_append_right _ (List.mem_append_right _ (List.mem_append_left _ (hq)))))⟩) (gg_i 0 rfl) rfl rfl (Nat.le_of_ble_eq_true rfl) (by first | (rw [hRc]; dsimp only; omega) | (rw [hRc]; exact Nat.le_of_ble_eq_true rfl)) (by first | (rw [hRs]; dsimp only; omega) | (rw [hRs]; exact Nat.le_of_ble_eq_true rfl)) ?_ (fun X q C1 h => h.elim)
              rintro _ _ ⟨rfl, rfl⟩
              dsimp only [List.cons_append, List.nil_append, Option.toList]
              refine gg_getN (pc := 137) E ck_X3 4 nq652 rfl (by decide) dX2_agrees_137 (gg_rm (List.mem_append_right _ (List.mem_append_right _ (List.mem_append_left _ (mp_mem (by omega)))))) rfl ?_
              refine gg_iadd (pc := 140) E dX2_agrees_140 ?_
              refine gg_istore_n (lv' := [_, _, _, _, _, _]) (pc := 141) E dX2_agrees_141 rfl (Nat.le_of_ble_eq_true rfl) rfl rfl ?_
              refine gg_aload_n (pc := 142) E dX2_agrees_142 rfl rfl ?_
              refine gg_iload (pc := 143) E dX2_agrees_143 rfl ?_
              refine gg_callV (F := [_]) (As := [.int (nI k)]) (rest := []) (pc := 145) E ck_X2 (ct_X2_areRoutesRight (rt0 := rt) hl hP hw hR c127) (cwV 1 E.2.2.2.2.1 (lw_V q2356 q2358 qs52 q152 q2359) rfl rfl rfl (by decide +kernel) ⟨by rw [hRf]; exact Nat.le_of_ble_eq_true rfl, by rw [hRl]; exact Nat.le_of_ble_eq_true rfl⟩) dX2_agrees_145 [0, 1] (by decide) rfl rfl (List.forall_mem_append.mpr ⟨(List.forall_mem_cons.mpr ⟨(gg_r 0 rfl), (List.forall_mem_cons.mpr ⟨(gg_r 5 rfl), (fun _ h => by cases h)⟩)⟩), (fun q hq => gg_rm (List.mem_append_right _ (List.mem_append_left _ (hq))))⟩) (gg_i 0 rfl) rfl rfl (Nat.le_of_ble_eq_true rfl) (by first | (rw [hRc]; dsimp only; omega) | (rw [hRc]; exact Nat.le_of_ble_eq_true rfl)) (by first | (rw [hRs]; dsimp only; omega) | (rw [hRs]; exact Nat.le_of_ble_eq_true rfl)) ?_ (fun X q C1 h => h.elim)
              rintro _ _ ⟨rt4, P4, ⟨hP4, hR4, hS4, hc4, hs4⟩, rfl, rfl⟩
              dsimp only [List.cons_append, List.nil_append, Option.toList]
              refine gg_up1 ?_
              refine gg_up1 ?_
              refine gg_ifN_ne (tgt := 153) (pc := 148) E 1 rfl (by decide) dX2_agrees_148 (by decide) (fun _ => ?_) (fun q => absurd q (by decide))
              refine gg_iincN (k := 1) (lv' := [_, _, _, _, _, _]) (pc := 153) E k dX2_agrees_153 rfl rfl rfl (Nat.le_of_ble_eq_true rfl) rfl rfl ?_
              refine gg_goto (tgt := 116) (pc := 156) E dX2_agrees_156 (by decide) ?_
              refine gg_cv rfl (gg_leS (gg_leS (gg_leS (gg_leS (gg_leS (gg_leN gg_le0)))))) rfl (by first | omega | exact Nat.le_refl _ | (dsimp only; omega)) (by first | omega | exact Nat.le_refl _ | (dsimp only; omega)) (ih116 (k + 1) rt4 P4 (by omega) (by omega) (hP4) (hR4) (by omega) (by omega) (fun q h => hS4 q (hS q h)))
        refine gg_cv rfl (gg_leS (gg_leS (gg_leS (gg_leS (gg_leS (gg_leN gg_le0)))))) rfl (by first | omega | exact Nat.le_refl _ | (dsimp only; omega)) (by first | omega | exact Nat.le_refl _ | (dsimp only; omega)) (L116 _ 0 rt0 P (Nat.lt_succ_self _) (Nat.zero_le _) (hP) (hR) (Nat.le_refl _) (Nat.le_refl _) (fun _ h => h))
      · obtain ⟨q1, q2, q3, q4, q5, q6, q7, q8, q9, q10⟩ := hT j c22
        obtain ⟨st, s1, s2, s3, s4, s5⟩ := hG.2.2.2.2 j c22
        refine gg_aload_n (pc := 25) E dX2_agrees_25 rfl rfl ?_
        refine gg_iload (pc := 26) E dX2_agrees_26 rfl ?_
        refine gg_callV (F := [_, _, _]) (As := [.int (nI j)]) (rest := []) (pc := 28) E ck_X2 (ct_X2_tune hl (c22) (ht30)) (cwV 1 E.2.2.2.2.1 (lw_V q1651 q1652 q1653 q152 q1654) rfl rfl rfl (by decide +kernel) ⟨by rw [hRf]; exact Nat.le_of_ble_eq_true rfl, by rw [hRl]; exact Nat.le_of_ble_eq_true rfl⟩) dX2_agrees_28 [] (by decide) rfl rfl (List.forall_mem_append.mpr ⟨(List.forall_mem_cons.mpr ⟨(gg_i 0 rfl), (List.forall_mem_cons.mpr ⟨(gg_r 2 rfl), (List.forall_mem_cons.mpr ⟨(gg_r 3 rfl), (fun _ h => by cases h)⟩)⟩)⟩), (fun q hq => gg_rm (List.mem_append_right _ (List.mem_append_right _ (List.mem_append_right _ (hq)))))⟩) (gg_i 0 rfl) rfl rfl (Nat.le_of_ble_eq_true rfl) (by first | (rw [hRc]; dsimp only; omega) | (rw [hRc]; exact Nat.le_of_ble_eq_true rfl)) (by first | (rw [hRs]; dsimp only; omega) | (rw [hRs]; exact Nat.le_of_ble_eq_true rfl)) ?_ (fun X q C1 h => h.elim)
        rintro _ _ ⟨rfl, rfl⟩
        dsimp only [List.cons_append, List.nil_append, Option.toList]
        refine gg_astore (lv' := [_, _, _, _, _, _]) (pc := 31) E dX2_agrees_31 (Nat.le_of_ble_eq_true rfl) rfl rfl ?_
        refine gg_aload_n (pc := 33) E dX2_agrees_33 rfl rfl ?_
        refine gg_aload (pc := 34) E dX2_agrees_34 rfl ?_
        refine gg_getN (pc := 36) E ck_X8 8 nq1590 rfl (by decide) dX2_agrees_36 (gg_rm (List.mem_append_right _ (List.mem_append_right _ (List.mem_append_right _ (mp_mem (by omega)))))) rfl ?_
        rw [s1]
        refine gg_dup2_11 (pc := 39) E dX2_agrees_39 rfl rfl ?_
        refine gg_ialdN (pc := 40) E st rfl (by omega) (by omega) dX2_agrees_40 (gg_i 2 rfl) ?_
        refine gg_iconst (v := 1) (pc := 41) E dX2_agrees_41 (by decide) ?_
        refine gg_iadd (pc := 42) E dX2_agrees_42 ?_
        refine gg_iastN (M' := [_, _, _]) (pc := 43) E st rfl (by omega) (by omega) dX2_agrees_43 2 rfl rfl ?_
        refine gg_cel (y := gg_ai g 4 (fun k => sm (fun i => if row (220 + 27 * i + 3) = nI k then 1 else 0) (j + 1))) 2 rfl (gg_ai_congr fun k hk => ag_s s1 s2 k hk) rfl ?_
        refine gg_iload_n (pc := 44) E dX2_agrees_44 rfl rfl ?_
        refine gg_aload (pc := 45) E dX2_agrees_45 rfl ?_
        refine gg_getN (pc := 47) E ck_X8 12 nq1601 rfl (by decide) dX2_agrees_47 (gg_rm (List.mem_append_right _ (List.mem_append_right _ (List.mem_append_right _ (mp_mem (by omega)))))) rfl ?_
        refine gg_iadd (pc := 50) E dX2_agrees_50 ?_
        refine gg_istore_n (lv' := [_, _, _, _, _, _]) (pc := 51) E dX2_agrees_51 rfl (Nat.le_of_ble_eq_true rfl) rfl rfl ?_
        refine gg_aload (pc := 52) E dX2_agrees_52 rfl ?_
        refine gg_getN (pc := 54) E ck_X8 8 nq1590 rfl (by decide) dX2_agrees_54 (gg_rm (List.mem_append_right _ (List.mem_append_right _ (List.mem_append_right _ (mp_mem (by omega)))))) rfl ?_
        refine gg_iconst (v := 2) (pc := 57) E dX2_agrees_57 (by decide) ?_
        refine gg_icmp_ne (tgt := 74) (pc := 58) E dX2_agrees_58 (by decide) (fun c58 => ?_) (fun c58 => ?_)
        · refine gg_aload (pc := 74) E dX2_agrees_74 rfl ?_
          refine gg_getN (pc := 76) E ck_X8 8 nq1590 rfl (by decide) dX2_agrees_76 (gg_rm (List.mem_append_right _ (List.mem_append_right _ (List.mem_append_right _ (mp_mem (by omega)))))) rfl ?_
          refine gg_iconst (v := 1) (pc := 79) E dX2_agrees_79 (by decide) ?_
          refine gg_icmpB_ne (pc := 80) E dX2_agrees_80 dX2_agrees_83 dX2_agrees_84 dX2_agrees_87 ?_
          refine gg_aload (pc := 88) E dX2_agrees_88 rfl ?_
          refine gg_getN (pc := 90) E ck_X8 9 nq1593 rfl (by decide) dX2_agrees_90 (gg_rm (List.mem_append_right _ (List.mem_append_right _ (List.mem_append_right _ (mp_mem (by omega)))))) rfl ?_
          refine gg_iconst (v := (-1)) (pc := 93) E dX2_agrees_93 (by decide) ?_
          refine gg_icmpB_eq (pc := 94) E dX2_agrees_94 dX2_agrees_97 dX2_agrees_98 dX2_agrees_101 ?_
          refine gg_icmp_eq (tgt := 107) (pc := 102) E dX2_agrees_102 (by decide) (fun c102 => ?_) (fun c102 => ?_)
          rotate_left
          · exact absurd (ag_eq ⟨fun q => s5.mp ((nI_eq (a := st) (b := 1) (by omega) (by omega)).mp (s1.symm.trans q)), fun q => s1.trans (congrArg nI (s5.mpr q))⟩) c102
          refine gg_iincN (k := 1) (lv' := [_, _, _, _, _, _]) (pc := 107) E j dX2_agrees_107 rfl rfl rfl (Nat.le_of_ble_eq_true rfl) rfl rfl ?_
          refine gg_goto (tgt := 11) (pc := 110) E dX2_agrees_110 (by decide) ?_
          refine gg_cv rfl (gg_leS (gg_leS (gg_leS (gg_leS (gg_leS (gg_leN gg_le0)))))) rfl (by first | omega | exact Nat.le_refl _ | (dsimp only; omega)) (by first | omega | exact Nat.le_refl _ | (dsimp only; omega)) (ih11 (j + 1) (by omega) (by omega))
        · refine gg_aload (pc := 61) E dX2_agrees_61 rfl ?_
          refine gg_getN (pc := 63) E ck_X8 7 nq1587 rfl (by decide) dX2_agrees_63 (gg_rm (List.mem_append_right _ (List.mem_append_right _ (List.mem_append_right _ (mp_mem (by omega)))))) rfl ?_
          refine gg_aload (pc := 66) E dX2_agrees_66 rfl ?_
          refine gg_getN (pc := 68) E ck_X8 2 nq1575 rfl (by decide) dX2_agrees_68 (gg_rm (List.mem_append_right _ (List.mem_append_right _ (List.mem_append_right _ (mp_mem (by omega)))))) rfl ?_
          refine gg_icmp_ne (tgt := 105) (pc := 71) E dX2_agrees_71 (by decide) (fun c71 => ?_) (fun c71 => ?_)
          · exact absurd (by rw [q4, q2, s3 ((nI_eq (a := st) (b := 2) (by omega) (by omega)).mp (s1.symm.trans (by exact c58)))]) c71
          refine gg_aload (pc := 74) E dX2_agrees_74 rfl ?_
          refine gg_getN (pc := 76) E ck_X8 8 nq1590 rfl (by decide) dX2_agrees_76 (gg_rm (List.mem_append_right _ (List.mem_append_right _ (List.mem_append_right _ (mp_mem (by omega)))))) rfl ?_
          refine gg_iconst (v := 1) (pc := 79) E dX2_agrees_79 (by decide) ?_
          refine gg_icmpB_ne (pc := 80) E dX2_agrees_80 dX2_agrees_83 dX2_agrees_84 dX2_agrees_87 ?_
          refine gg_aload (pc := 88) E dX2_agrees_88 rfl ?_
          refine gg_getN (pc := 90) E ck_X8 9 nq1593 rfl (by decide) dX2_agrees_90 (gg_rm (List.mem_append_right _ (List.mem_append_right _ (List.mem_append_right _ (mp_mem (by omega)))))) rfl ?_
          refine gg_iconst (v := (-1)) (pc := 93) E dX2_agrees_93 (by decide) ?_
          refine gg_icmpB_eq (pc := 94) E dX2_agrees_94 dX2_agrees_97 dX2_agrees_98 dX2_agrees_101 ?_
          refine gg_icmp_eq (tgt := 107) (pc := 102) E dX2_agrees_102 (by decide) (fun c102 => ?_) (fun c102 => ?_)
          rotate_left
          · exact absurd (ag_eq ⟨fun q => s5.mp ((nI_eq (a := st) (b := 1) (by omega) (by omega)).mp (s1.symm.trans q)), fun q => s1.trans (congrArg nI (s5.mpr q))⟩) c102
          refine gg_iincN (k := 1) (lv' := [_, _, _, _, _, _]) (pc := 107) E j dX2_agrees_107 rfl rfl rfl (Nat.le_of_ble_eq_true rfl) rfl rfl ?_
          refine gg_goto (tgt := 11) (pc := 110) E dX2_agrees_110 (by decide) ?_
          refine gg_cv rfl (gg_leS (gg_leS (gg_leS (gg_leS (gg_leS (gg_leN gg_le0)))))) rfl (by first | omega | exact Nat.le_refl _ | (dsimp only; omega)) (by first | omega | exact Nat.le_refl _ | (dsimp only; omega)) (ih11 (j + 1) (by omega) (by omega))
  refine gg_cv rfl (gg_leS (gg_leS (gg_leS (gg_leS (gg_leS (gg_leN gg_le0)))))) rfl (by first | omega | exact Nat.le_refl _ | (dsimp only; omega)) (by first | omega | exact Nat.le_refl _ | (dsimp only; omega)) (L11 _ 0 (Nat.lt_succ_self _) (Nat.zero_le _))

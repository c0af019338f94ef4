set_option maxRecDepth 100000
theorem wyI_c {r r' : Nat → Int32} {nw : Nat} {a b : Int32} (h20 : nw ≤ 20) (h : ∀ j, 160 ≤ j → j < 220 → r j = r' j) : wyI r nw a b = wyI r' nw a b := by
  by_cases hx : ∃ i, i < nw ∧ (¬ a = b ∧ (r (160 + 3 * i) = a ∨ r (160 + 3 * i + 1) = a) ∧ (r (160 + 3 * i) = b ∨ r (160 + 3 * i + 1) = b))
  · have : ∀ m, m ≤ nw → (∃ j, j < m ∧ (¬ a = b ∧ (r (160 + 3 * j) = a ∨ r (160 + 3 * j + 1) = a) ∧ (r (160 + 3 * j) = b ∨ r (160 + 3 * j + 1) = b)) ∧ ∀ k, k < j → ¬ (¬ a = b ∧ (r (160 + 3 * k) = a ∨ r (160 + 3 * k + 1) = a) ∧ (r (160 + 3 * k) = b ∨ r (160 + 3 * k + 1) = b))) ∨ (∀ k, k < m → ¬ (¬ a = b ∧ (r (160 + 3 * k) = a ∨ r (160 + 3 * k + 1) = a) ∧ (r (160 + 3 * k) = b ∨ r (160 + 3 * k + 1) = b))) := by
      intro m
      induction m with
      | zero => intro _; exact Or.inr fun k hk => absurd hk (Nat.not_lt_zero k)
      | succ m ih =>
        intro hm
        rcases ih (by omega) with ⟨j, h1, h2⟩ | h0
        · exact Or.inl ⟨j, by omega, h2⟩
        · by_cases hp : ¬ a = b ∧ (r (160 + 3 * m) = a ∨ r (160 + 3 * m + 1) = a) ∧ (r (160 + 3 * m) = b ∨ r (160 + 3 * m + 1) = b)
          · exact Or.inl ⟨m, by omega, hp, h0⟩
          · refine Or.inr fun k hk => ?_
            by_cases e : k = m
            · subst e; exact hp
            · exact h0 k (by omega)
    rcases this nw (Nat.le_refl _) with ⟨j, h1, h2, h3⟩ | h0
    · unfold wyI
      rw [fi_some h1 h2 h3, fi_some h1 (P := fun i => ¬ a = b ∧ (r' (160 + 3 * i) = a ∨ r' (160 + 3 * i + 1) = a) ∧ (r' (160 + 3 * i) = b ∨ r' (160 + 3 * i + 1) = b)) (by rw [← h _ (by omega) (by omega), ← h (160 + 3 * j + 1) (by omega) (by omega)]; exact h2) (fun k hk => by rw [← h _ (by omega) (by omega), ← h (160 + 3 * k + 1) (by omega) (by omega)]; exact h3 k hk)]
    · obtain ⟨i, hi, hp⟩ := hx
      exact absurd hp (h0 i hi)
  · unfold wyI
    rw [fi_none (fun j hj q => hx ⟨j, hj, q⟩), fi_none (fun j hj q => hx ⟨j, hj, by rw [h _ (by omega) (by omega), h (160 + 3 * j + 1) (by omega) (by omega)]; exact q⟩)]
theorem arF_t {row : Nat → Int32} {i n1 : Nat} (h1 : arF row i (220 + 27 * i + 3) = 1) (h2 : arF row i (220 + 27 * i + 5) = arF row i 3) (h3 : ntn (arF row i) = n1) : cmF (arF row i) n1 i = arF row (i + 1) := by
  conv => rhs; unfold arF
  rw [if_pos ⟨h1, h2⟩, h3]
theorem arF_f {row : Nat → Int32} {i : Nat} (h : ¬ (arF row i (220 + 27 * i + 3) = 1 ∧ arF row i (220 + 27 * i + 5) = arF row i 3)) : arF row i = arF row (i + 1) := by
  conv => rhs; unfold arF
  rw [if_neg h]
theorem loF_t {row : Nat → Int32} {nw i : Nat} (h1 : loF row nw i (220 + 27 * i + 3) = 0) (h2 : dist (loF row nw i) nw (-1) (tg (loF row nw i) i) (ta (loF row nw i) i) = none) : cn (upd (loF row nw i) (220 + 27 * i + 3) 3) 8 1 = loF row nw (i + 1) := by
  conv => rhs; unfold loF
  rw [if_pos ⟨h1, h2⟩]
theorem loF_f {row : Nat → Int32} {nw i : Nat} (h : ¬ (loF row nw i (220 + 27 * i + 3) = 0 ∧ dist (loF row nw i) nw (-1) (tg (loF row nw i) i) (ta (loF row nw i) i) = none)) : loF row nw i = loF row nw (i + 1) := by
  conv => rhs; unfold loF
  rw [if_neg h]
theorem rfF_b {row : Nat → Int32} {nw i : Nat} (h : rfF row nw i 3 < rfF row nw i (25 + 13 * i + 11)) : rfF row nw i = rfF row nw (i + 1) := by
  conv => rhs; unfold rfF
  rw [if_pos h]
theorem rfF_n {row : Nat → Int32} {nw i n1 : Nat} (h : ¬ rfF row nw i 3 < rfF row nw i (25 + 13 * i + 11)) (hn : ntn (rfF row nw i) = n1) (hf : fas (rfF row nw i) nw i n1 = none) : rfF row nw i = rfF row nw (i + 1) := by
  conv => rhs; unfold rfF
  rw [if_neg h, hn, hf]
theorem rfF_w {row : Nat → Int32} {nw i n1 t u : Nat} (h : ¬ rfF row nw i 3 < rfF row nw i (25 + 13 * i + 11)) (hn : ntn (rfF row nw i) = n1) (hf : fas (rfF row nw i) nw i n1 = some t) (hu : nxt (rfF row nw i) nw i (tg (rfF row nw i) t) = some u) : ws (rfF row nw i) nw t i u = rfF row nw (i + 1) := by
  conv => rhs; unfold rfF
  rw [if_neg h, hn, hf]
  dsimp only
  rw [hu]
  rfl
theorem tk_end {row : Nat → Int32} {nr nw nt n1 i : Nat} (hn : ntn row = nt) (hn1 : ntn (rfF (arF (tk1 row) nt) nw i) = n1) (h : (i = nr ∧ (i = 0 ∨ m60 (arF (tk1 row) nt 3) < arF (tk1 row) nt 5)) ∨ (i = 0 ∧ ¬ m60 (arF (tk1 row) nt 3) < arF (tk1 row) nt 5)) : loF (rfF (arF (tk1 row) nt) nw i) nw n1 = tkF row nr nw := by
  unfold tkF
  rw [hn]
  have e : (if m60 (arF (tk1 row) nt 3) < arF (tk1 row) nt 5 then rfF (arF (tk1 row) nt) nw nr else arF (tk1 row) nt) = rfF (arF (tk1 row) nt) nw i := by
    by_cases q : m60 (arF (tk1 row) nt 3) < arF (tk1 row) nt 5
    · rw [if_pos q]
      rcases h with ⟨h1, -⟩ | ⟨-, h2⟩
      · rw [h1]
      · exact absurd q h2
    · rw [if_neg q]
      rcases h with ⟨h1, h2 | h2⟩ | ⟨h2, -⟩
      · rw [h2]; rfl
      · exact absurd h2 q
      · rw [h2]; rfl
  rw [e, hn1]
/-- a way is cut -/
def cuF (row : Nat → Int32) (nw i : Nat) : Nat → Int32 := upd (ub row (160 + 3 * i) (3 * (nw - 1 - i)) (fun k => row (160 + 3 * i + k + 3))) 1 (nI (nw - 1))
def low (k : Int32) : Int32 := if k = 5 then 1 else 0
def hig (k : Int32) : Int32 := if k = 5 then 60 else if k = 4 then 9 else 3
set_option maxHeartbeats 4000000 in
theorem ct_X5_whistles {l : Launch} (hl : l.stackTraces = false) {g : gg_G}  {h : Nat} {ad : Nat → Nat} {x : Nat → Int32} {row : Nat → Int32} {sums : Nat → Int32} {t k u tm : Nat} {nr nw nt : Nat} (hG : Gw row nr nw nt) (htt : t < nt) (hk : k < nr) (hu : nxt row nw k (tg row t) = some u) (htm : row 3 = nI tm) (htm2 : tm < 2 ^ 30) : gg_C l g yX5_whistles (ws_ yX5_whistles cX5_whistles 7 none) { frames := 6, cells := 0, slots := 0, locals := 138 } [.ref h, .int (nI t), .int (nI k)] [(h, .inl (4, mo_f ad x))] [[((ad 0), gg_ai g 1030 row)], [((ad 9), gg_ai g 10 sums)]] (fun vv CC => ∃ (S : Nat → Int32), vv = none ∧ CC = [[((ad 0), gg_ai g 1030 (ws row nw t k u))], [((ad 9), gg_ai g 10 S)]]) gg_no := by
  refine gg_of (lv := [_, _, _, _, _, _, _]) (by decide) hl (Nat.le_of_ble_eq_true rfl) rfl ?_
  intro p e R s m args below meth c A Q hRf hRl hRc hRs E Fn hnm hex
  have hG0 := hG
  obtain ⟨hnr, hw, ht, hG4, hGS⟩ := hG
  have hnw := hw.1
  have hw20 := hw.2.1
  have hr10 := hw.2.2.1
  have hnt := ht.1
  have ht30 := ht.2.1
  obtain ⟨g1, g2, g3, g4, g5, g6, g7, g8, g9, g10⟩ := ht.2.2.2 t (by omega)
  have hbr : ¬ row (25 + 13 * k + 7) = 0 := by
    intro q
    have := (hG4 k hk).2.1
    rw [q] at this
    revert this
    decide
  obtain ⟨un1, un2, un3, un4⟩ := nxt_ne hw (by omega) hu
  obtain ⟨hwy1, hwy2⟩ := wy_ok hw hk un2 un3 un4
  refine gg_iload_n (pc := 0) E dX5_whistles_0 rfl rfl ?_
  refine gg_callS (F := [_, _]) (As := [.int (nI t)]) (rest := []) (pc := 1) E (ct_X5_t hl ) (va_cwS 1 E.2.2.2.2.1 (lw_S q3121 q3122 q179 q3123) rfl rfl rfl (by decide +kernel) ⟨by rw [hRf]; exact Nat.le_of_ble_eq_true rfl, by rw [hRl]; exact Nat.le_of_ble_eq_true rfl⟩) dX5_whistles_1 [] (by decide) rfl rfl (fun _ h => by cases h) rfl rfl (Nat.le_of_ble_eq_true rfl) (by first | (rw [hRc]; exact Nat.le_of_ble_eq_true rfl) | (rw [hRc]; dsimp only; omega)) (by first | (rw [hRs]; exact Nat.le_of_ble_eq_true rfl) | (rw [hRs]; dsimp only; omega)) ?_ (fun X q C1 h => h.elim)
  rintro _ _ ⟨rfl, rfl⟩
  dsimp only [List.cons_append, List.nil_append, Option.toList]
  refine gg_istore_n (lv' := [_, _, _, _, _, _, _]) (pc := 4) E dX5_whistles_4 rfl (Nat.le_of_ble_eq_true rfl) rfl rfl ?_
  refine gg_aload_n (pc := 5) E dX5_whistles_5 rfl rfl ?_
  refine gg_iload_n (pc := 6) E dX5_whistles_6 rfl rfl ?_
  refine gg_aload_n (pc := 7) E dX5_whistles_7 rfl rfl ?_
  refine gg_get (pc := 8) E ck_X5 0 q2859 rfl (by decide) dX5_whistles_8 (gg_r 0 rfl) rfl ?_
  refine gg_iload_n (pc := 11) E dX5_whistles_11 rfl rfl ?_
  refine gg_iconst (v := 1) (pc := 12) E dX5_whistles_12 (by decide) ?_
  refine gg_iaddN (pc := 13) E (220 + 27 * t) 1 rfl rfl dX5_whistles_13 ?_
  refine gg_ialdN (pc := 14) E ((220 + 27 * t) + 1) rfl (by omega) (by omega) dX5_whistles_14 (gg_i 0 rfl) ?_
  rw [g2]
  refine gg_callV (F := [_]) (As := [.int (nI k), .int (nI (tg row t))]) (rest := []) (pc := 15) E ck_X5 (ct_X5_nextTo hl (hw) (by omega) (by omega)) (cwV 2 E.2.2.2.2.1 (lw_V q3196 q3198 qs117 q179 q3199) rfl rfl rfl (by decide +kernel) ⟨by rw [hRf]; exact Nat.le_of_ble_eq_true rfl, by rw [hRl]; exact Nat.le_of_ble_eq_true rfl⟩) dX5_whistles_15 [1] (by decide) rfl rfl (List.forall_mem_cons.mpr ⟨(gg_r 0 rfl), (List.forall_mem_cons.mpr ⟨(gg_i 0 rfl), (fun _ h => by cases h)⟩)⟩) (gg_r 0 rfl) rfl rfl (Nat.le_of_ble_eq_true rfl) (by first | (rw [hRc]; exact Nat.le_of_ble_eq_true rfl) | (rw [hRc]; dsimp only; omega)) (by first | (rw [hRs]; exact Nat.le_of_ble_eq_true rfl) | (rw [hRs]; dsimp only; omega)) ?_ (fun X q C1 h => h.elim)
  rintro _ _ ⟨sums1_1, rfl, rfl⟩
  dsimp only [List.cons_append, List.nil_append, Option.toList]
  refine gg_up1 ?_
  rw [hu]
  refine gg_istore (lv' := [_, _, _, _, _, _, _]) (pc := 18) E dX5_whistles_18 (Nat.le_of_ble_eq_true rfl) rfl rfl ?_
  refine gg_aload_n (pc := 20) E dX5_whistles_20 rfl rfl ?_
  refine gg_iload_n (pc := 21) E dX5_whistles_21 rfl rfl ?_
  refine gg_iload_n (pc := 22) E dX5_whistles_22 rfl rfl ?_
  refine gg_callV (F := [_, _]) (As := [.int (nI t), .int (nI k)]) (rest := []) (pc := 23) E ck_X5 (ct_X5_feeAt hl (by first | assumption | omega) (by first | assumption | omega)) (cwV 2 E.2.2.2.2.1 (lw_V q3192 q3194 qs116 q179 q3195) rfl rfl rfl (by decide +kernel) ⟨by rw [hRf]; exact Nat.le_of_ble_eq_true rfl, by rw [hRl]; exact Nat.le_of_ble_eq_true rfl⟩) dX5_whistles_23 [] (by decide) rfl rfl (List.forall_mem_cons.mpr ⟨(gg_r 0 rfl), (List.forall_mem_cons.mpr ⟨(gg_i 0 rfl), (fun _ h => by cases h)⟩)⟩) (gg_r 0 rfl) rfl rfl (Nat.le_of_ble_eq_true rfl) (by first | (rw [hRc]; exact Nat.le_of_ble_eq_true rfl) | (rw [hRc]; dsimp only; omega)) (by first | (rw [hRs]; exact Nat.le_of_ble_eq_true rfl) | (rw [hRs]; dsimp only; omega)) ?_ (fun X q C1 h => h.elim)
  rintro _ _ ⟨rfl, rfl⟩
  dsimp only [List.cons_append, List.nil_append, Option.toList]
  refine gg_topI (y := wsfee row t k) rfl ?_
  refine gg_istore (lv' := [_, _, _, _, _, _, _]) (pc := 26) E dX5_whistles_26 (Nat.le_of_ble_eq_true rfl) rfl rfl ?_
  refine gg_aload_n (pc := 28) E dX5_whistles_28 rfl rfl ?_
  refine gg_get (pc := 29) E ck_X5 0 q2859 rfl (by decide) dX5_whistles_29 (gg_r 0 rfl) rfl ?_
  refine gg_aload_n (pc := 32) E dX5_whistles_32 rfl rfl ?_
  refine gg_get (pc := 33) E ck_X5 0 q2859 rfl (by decide) dX5_whistles_33 (gg_r 0 rfl) rfl ?_
  refine gg_iload_n (pc := 36) E dX5_whistles_36 rfl rfl ?_
  refine gg_iconst (v := 0) (pc := 37) E dX5_whistles_37 (by decide) ?_
  refine gg_iaddN (pc := 38) E (220 + 27 * t) 0 rfl rfl dX5_whistles_38 ?_
  refine gg_ialdN (pc := 39) E ((220 + 27 * t) + 0) rfl (by omega) (by omega) dX5_whistles_39 (gg_i 0 rfl) ?_
  rw [show row (220 + 27 * t + 0) = nI (ts row t) from g1]
  refine gg_callS (F := [_, _]) (As := [.int (nI (ts row t))]) (rest := [_]) (pc := 40) E (ct_X5_r hl ) (va_cwS 1 E.2.2.2.2.1 (lw_S q2849 q2850 q179 q2851) rfl rfl rfl (by decide +kernel) ⟨by rw [hRf]; exact Nat.le_of_ble_eq_true rfl, by rw [hRl]; exact Nat.le_of_ble_eq_true rfl⟩) dX5_whistles_40 [] (by decide) rfl rfl (fun _ h => by cases h) rfl rfl (Nat.le_of_ble_eq_true rfl) (by first | (rw [hRc]; exact Nat.le_of_ble_eq_true rfl) | (rw [hRc]; dsimp only; omega)) (by first | (rw [hRs]; exact Nat.le_of_ble_eq_true rfl) | (rw [hRs]; dsimp only; omega)) ?_ (fun X q C1 h => h.elim)
  rintro _ _ ⟨rfl, rfl⟩
  dsimp only [List.cons_append, List.nil_append, Option.toList]
  refine gg_bipush (v := 10) (pc := 43) E dX5_whistles_43 (by decide) ?_
  refine gg_iaddN (pc := 45) E (25 + 13 * (ts row t)) 10 rfl rfl dX5_whistles_45 ?_
  refine gg_dup2_11 (pc := 46) E dX5_whistles_46 rfl rfl ?_
  refine gg_ialdN (pc := 47) E ((25 + 13 * (ts row t)) + 10) rfl (by omega) (by omega) dX5_whistles_47 (gg_i 0 rfl) ?_
  refine gg_iload (pc := 48) E dX5_whistles_48 rfl ?_
  refine gg_isub (pc := 50) E dX5_whistles_50 ?_
  refine gg_iastN (M' := [_, _]) (pc := 51) E ((25 + 13 * (ts row t)) + 10) rfl (by omega) (by omega) dX5_whistles_51 0 rfl rfl ?_
  refine gg_aload_n (pc := 52) E dX5_whistles_52 rfl rfl ?_
  refine gg_get (pc := 53) E ck_X5 0 q2859 rfl (by decide) dX5_whistles_53 (gg_r 0 rfl) rfl ?_
  refine gg_iload_n (pc := 56) E dX5_whistles_56 rfl rfl ?_
  refine gg_callS (F := [_, _]) (As := [.int (nI k)]) (rest := [_]) (pc := 57) E (ct_X5_r hl ) (va_cwS 1 E.2.2.2.2.1 (lw_S q2849 q2850 q179 q2851) rfl rfl rfl (by decide +kernel) ⟨by rw [hRf]; exact Nat.le_of_ble_eq_true rfl, by rw [hRl]; exact Nat.le_of_ble_eq_true rfl⟩) dX5_whistles_57 [] (by decide) rfl rfl (fun _ h => by cases h) rfl rfl (Nat.le_of_ble_eq_true rfl) (by first | (rw [hRc]; exact Nat.le_of_ble_eq_true rfl) | (rw [hRc]; dsimp only; omega)) (by first | (rw [hRs]; exact Nat.le_of_ble_eq_true rfl) | (rw [hRs]; dsimp only; omega)) ?_ (fun X q C1 h => h.elim)
  rintro _ _ ⟨rfl, rfl⟩
  dsimp only [List.cons_append, List.nil_append, Option.toList]
  refine gg_bipush (v := 10) (pc := 60) E dX5_whistles_60 (by decide) ?_
  refine gg_iaddN (pc := 62) E (25 + 13 * k) 10 rfl rfl dX5_whistles_62 ?_
  refine gg_dup2_11 (pc := 63) E dX5_whistles_63 rfl rfl ?_
  refine gg_ialdN (pc := 64) E ((25 + 13 * k) + 10) rfl (by omega) (by omega) dX5_whistles_64 (gg_i 0 rfl) ?_
  refine gg_iload (pc := 65) E dX5_whistles_65 rfl ?_
  refine gg_iadd (pc := 67) E dX5_whistles_67 ?_
  refine gg_iastN (M' := [_, _]) (pc := 68) E ((25 + 13 * k) + 10) rfl (by omega) (by omega) dX5_whistles_68 0 rfl rfl ?_
  refine gg_aload_n (pc := 69) E dX5_whistles_69 rfl rfl ?_
  refine gg_get (pc := 70) E ck_X5 0 q2859 rfl (by decide) dX5_whistles_70 (gg_r 0 rfl) rfl ?_
  refine gg_iload_n (pc := 73) E dX5_whistles_73 rfl rfl ?_
  refine gg_callS (F := [_, _]) (As := [.int (nI k)]) (rest := [_]) (pc := 74) E (ct_X5_r hl ) (va_cwS 1 E.2.2.2.2.1 (lw_S q2849 q2850 q179 q2851) rfl rfl rfl (by decide +kernel) ⟨by rw [hRf]; exact Nat.le_of_ble_eq_true rfl, by rw [hRl]; exact Nat.le_of_ble_eq_true rfl⟩) dX5_whistles_74 [] (by decide) rfl rfl (fun _ h => by cases h) rfl rfl (Nat.le_of_ble_eq_true rfl) (by first | (rw [hRc]; exact Nat.le_of_ble_eq_true rfl) | (rw [hRc]; dsimp only; omega)) (by first | (rw [hRs]; exact Nat.le_of_ble_eq_true rfl) | (rw [hRs]; dsimp only; omega)) ?_ (fun X q C1 h => h.elim)
  rintro _ _ ⟨rfl, rfl⟩
  dsimp only [List.cons_append, List.nil_append, Option.toList]
  refine gg_bipush (v := 7) (pc := 77) E dX5_whistles_77 (by decide) ?_
  refine gg_iaddN (pc := 79) E (25 + 13 * k) 7 rfl rfl dX5_whistles_79 ?_
  refine gg_ialdN (pc := 80) E ((25 + 13 * k) + 7) rfl (by omega) (by omega) dX5_whistles_80 (gg_i 0 rfl) ?_
  refine gg_topI (y := row (25 + 13 * k + 7)) (by repeat (first | rw [pk_us] | rw [pk_un (by omega)] | rw [ub_out _ _ _ _ (by omega)] | rw [cn_out (by omega)] | rw [he_out (by omega)])) ?_
  refine gg_istore (lv' := [_, _, _, _, _, _, _]) (pc := 81) E dX5_whistles_81 (Nat.le_of_ble_eq_true rfl) rfl rfl ?_
  refine gg_aload_n (pc := 83) E dX5_whistles_83 rfl rfl ?_
  refine gg_get (pc := 84) E ck_X5 0 q2859 rfl (by decide) dX5_whistles_84 (gg_r 0 rfl) rfl ?_
  refine gg_iload_n (pc := 87) E dX5_whistles_87 rfl rfl ?_
  refine gg_callS (F := [_, _]) (As := [.int (nI k)]) (rest := [_]) (pc := 88) E (ct_X5_r hl ) (va_cwS 1 E.2.2.2.2.1 (lw_S q2849 q2850 q179 q2851) rfl rfl rfl (by decide +kernel) ⟨by rw [hRf]; exact Nat.le_of_ble_eq_true rfl, by rw [hRl]; exact Nat.le_of_ble_eq_true rfl⟩) dX5_whistles_88 [] (by decide) rfl rfl (fun _ h => by cases h) rfl rfl (Nat.le_of_ble_eq_true rfl) (by first | (rw [hRc]; exact Nat.le_of_ble_eq_true rfl) | (rw [hRc]; dsimp only; omega)) (by first | (rw [hRs]; exact Nat.le_of_ble_eq_true rfl) | (rw [hRs]; dsimp only; omega)) ?_ (fun X q C1 h => h.elim)
  rintro _ _ ⟨rfl, rfl⟩
  dsimp only [List.cons_append, List.nil_append, Option.toList]
  refine gg_bipush (v := 11) (pc := 91) E dX5_whistles_91 (by decide) ?_
  refine gg_iaddN (pc := 93) E (25 + 13 * k) 11 rfl rfl dX5_whistles_93 ?_
  refine gg_aload_n (pc := 94) E dX5_whistles_94 rfl rfl ?_
  refine gg_get (pc := 95) E ck_X5 0 q2859 rfl (by decide) dX5_whistles_95 (gg_r 0 rfl) rfl ?_
  refine gg_iconst (v := 3) (pc := 98) E dX5_whistles_98 (by decide) ?_
  refine gg_ialdN (pc := 99) E 3 rfl (by omega) (by omega) dX5_whistles_99 (gg_i 0 rfl) ?_
  refine gg_topI (y := row 3) (by repeat (first | rw [pk_us] | rw [pk_un (by omega)] | rw [ub_out _ _ _ _ (by omega)] | rw [cn_out (by omega)] | rw [he_out (by omega)])) ?_
  refine gg_aload_n (pc := 100) E dX5_whistles_100 rfl rfl ?_
  refine gg_get (pc := 101) E ck_X5 0 q2859 rfl (by decide) dX5_whistles_101 (gg_r 0 rfl) rfl ?_
  refine gg_iload_n (pc := 104) E dX5_whistles_104 rfl rfl ?_
  refine gg_iconst (v := 2) (pc := 105) E dX5_whistles_105 (by decide) ?_
  refine gg_iaddN (pc := 106) E (220 + 27 * t) 2 rfl rfl dX5_whistles_106 ?_
  refine gg_ialdN (pc := 107) E ((220 + 27 * t) + 2) rfl (by omega) (by omega) dX5_whistles_107 (gg_i 0 rfl) ?_
  refine gg_topI (y := row (220 + 27 * t + 2)) (by repeat (first | rw [pk_us] | rw [pk_un (by omega)] | rw [ub_out _ _ _ _ (by omega)] | rw [cn_out (by omega)] | rw [he_out (by omega)])) ?_
  rw [g3]
  refine gg_iload (pc := 108) E dX5_whistles_108 rfl ?_
  refine gg_iadd (pc := 110) E dX5_whistles_110 ?_
  refine gg_iconst (v := 1) (pc := 111) E dX5_whistles_111 (by decide) ?_
  refine gg_isub (pc := 112) E dX5_whistles_112 ?_
  refine gg_iload (pc := 113) E dX5_whistles_113 rfl ?_
  refine gg_idiv (pc := 115) E dX5_whistles_115 (hbr) ?_
  refine gg_iadd (pc := 116) E dX5_whistles_116 ?_
  refine gg_topI (y := wsunt row t k) rfl ?_
  refine gg_iastN (M' := [_, _]) (pc := 117) E ((25 + 13 * k) + 11) rfl (by omega) (by omega) dX5_whistles_117 0 rfl rfl ?_
  refine gg_aload_n (pc := 118) E dX5_whistles_118 rfl rfl ?_
  refine gg_get (pc := 119) E ck_X5 0 q2859 rfl (by decide) dX5_whistles_119 (gg_r 0 rfl) rfl ?_
  refine gg_iload_n (pc := 122) E dX5_whistles_122 rfl rfl ?_
  refine gg_callS (F := [_, _]) (As := [.int (nI k)]) (rest := [_]) (pc := 123) E (ct_X5_r hl ) (va_cwS 1 E.2.2.2.2.1 (lw_S q2849 q2850 q179 q2851) rfl rfl rfl (by decide +kernel) ⟨by rw [hRf]; exact Nat.le_of_ble_eq_true rfl, by rw [hRl]; exact Nat.le_of_ble_eq_true rfl⟩) dX5_whistles_123 [] (by decide) rfl rfl (fun _ h => by cases h) rfl rfl (Nat.le_of_ble_eq_true rfl) (by first | (rw [hRc]; exact Nat.le_of_ble_eq_true rfl) | (rw [hRc]; dsimp only; omega)) (by first | (rw [hRs]; exact Nat.le_of_ble_eq_true rfl) | (rw [hRs]; dsimp only; omega)) ?_ (fun X q C1 h => h.elim)
  rintro _ _ ⟨rfl, rfl⟩
  dsimp only [List.cons_append, List.nil_append, Option.toList]
  refine gg_bipush (v := 12) (pc := 126) E dX5_whistles_126 (by decide) ?_
  refine gg_iaddN (pc := 128) E (25 + 13 * k) 12 rfl rfl dX5_whistles_128 ?_
  refine gg_dup2_11 (pc := 129) E dX5_whistles_129 rfl rfl ?_
  refine gg_ialdN (pc := 130) E ((25 + 13 * k) + 12) rfl (by omega) (by omega) dX5_whistles_130 (gg_i 0 rfl) ?_
  refine gg_topI (y := row (25 + 13 * k + 12)) (by repeat (first | rw [pk_us] | rw [pk_un (by omega)] | rw [ub_out _ _ _ _ (by omega)] | rw [cn_out (by omega)] | rw [he_out (by omega)])) ?_
  refine gg_iconst (v := 1) (pc := 131) E dX5_whistles_131 (by decide) ?_
  refine gg_iadd (pc := 132) E dX5_whistles_132 ?_
  refine gg_iastN (M' := [_, _]) (pc := 133) E ((25 + 13 * k) + 12) rfl (by omega) (by omega) dX5_whistles_133 0 rfl rfl ?_
  refine gg_aload_n (pc := 134) E dX5_whistles_134 rfl rfl ?_
  refine gg_get (pc := 135) E ck_X5 0 q2859 rfl (by decide) dX5_whistles_135 (gg_r 0 rfl) rfl ?_
  refine gg_iload_n (pc := 138) E dX5_whistles_138 rfl rfl ?_
  refine gg_bipush (v := 10) (pc := 139) E dX5_whistles_139 (by decide) ?_
  refine gg_iaddN (pc := 141) E (220 + 27 * t) 10 rfl rfl dX5_whistles_141 ?_
  refine gg_aload_n (pc := 142) E dX5_whistles_142 rfl rfl ?_
  refine gg_get (pc := 143) E ck_X5 0 q2859 rfl (by decide) dX5_whistles_143 (gg_r 0 rfl) rfl ?_
  refine gg_aload_n (pc := 146) E dX5_whistles_146 rfl rfl ?_
  refine gg_iload_n (pc := 147) E dX5_whistles_147 rfl rfl ?_
  refine gg_iload (pc := 148) E dX5_whistles_148 rfl ?_
  refine gg_callV (F := [_, _]) (As := [_, _]) (rest := [_, _, _]) (pc := 150) E ck_X5 (ct_X5_wayBetween (row := ws4 row t k) hl ((ws4_out (by omega) (by omega)).trans hnw) hw20) (cwV 2 E.2.2.2.2.1 (lw_V q3047 q3049 qs86 q179 q3050) rfl rfl rfl (by decide +kernel) ⟨by rw [hRf]; exact Nat.le_of_ble_eq_true rfl, by rw [hRl]; exact Nat.le_of_ble_eq_true rfl⟩) dX5_whistles_150 [] (by decide) rfl rfl (List.forall_mem_cons.mpr ⟨(gg_r 0 rfl), (List.forall_mem_cons.mpr ⟨(gg_i 0 rfl), (fun _ h => by cases h)⟩)⟩) (gg_r 0 rfl) rfl rfl (Nat.le_of_ble_eq_true rfl) (by first | (rw [hRc]; exact Nat.le_of_ble_eq_true rfl) | (rw [hRc]; dsimp only; omega)) (by first | (rw [hRs]; exact Nat.le_of_ble_eq_true rfl) | (rw [hRs]; dsimp only; omega)) ?_ (fun X q C1 h => h.elim)
  rintro _ _ ⟨rfl, rfl⟩
  dsimp only [List.cons_append, List.nil_append, Option.toList]
  refine gg_topI (y := nI (wy row nw k u)) (show wyI (ws4 row t k) nw (nI k) (nI u) = _ from (wyI_c hw20 (fun j a b => ws4_out (by omega) (by omega))).trans hwy1) ?_
  refine gg_callS (F := [_, _]) (As := [.int (nI (wy row nw k u))]) (rest := [_, _, _]) (pc := 153) E (ct_X5_w hl ) (va_cwS 1 E.2.2.2.2.1 (lw_S q2856 q2857 q179 q2858) rfl rfl rfl (by decide +kernel) ⟨by rw [hRf]; exact Nat.le_of_ble_eq_true rfl, by rw [hRl]; exact Nat.le_of_ble_eq_true rfl⟩) dX5_whistles_153 [] (by decide) rfl rfl (fun _ h => by cases h) rfl rfl (Nat.le_of_ble_eq_true rfl) (by first | (rw [hRc]; exact Nat.le_of_ble_eq_true rfl) | (rw [hRc]; dsimp only; omega)) (by first | (rw [hRs]; exact Nat.le_of_ble_eq_true rfl) | (rw [hRs]; dsimp only; omega)) ?_ (fun X q C1 h => h.elim)
  rintro _ _ ⟨rfl, rfl⟩
  dsimp only [List.cons_append, List.nil_append, Option.toList]
  refine gg_iconst (v := 2) (pc := 156) E dX5_whistles_156 (by decide) ?_
  refine gg_iaddN (pc := 157) E (160 + 3 * (wy row nw k u)) 2 rfl rfl dX5_whistles_157 ?_
  refine gg_ialdN (pc := 158) E ((160 + 3 * (wy row nw k u)) + 2) rfl (by omega) (by omega) dX5_whistles_158 (gg_i 0 rfl) ?_
  refine gg_topI (y := row (160 + 3 * wy row nw k u + 2)) (by repeat (first | rw [pk_us] | rw [pk_un (by omega)] | rw [ub_out _ _ _ _ (by omega)] | rw [cn_out (by omega)] | rw [he_out (by omega)])) ?_
  refine gg_iastN (M' := [_, _]) (pc := 159) E ((220 + 27 * t) + 10) rfl (by omega) (by omega) dX5_whistles_159 0 rfl rfl ?_
  refine gg_aload_n (pc := 160) E dX5_whistles_160 rfl rfl ?_
  refine gg_get (pc := 161) E ck_X5 0 q2859 rfl (by decide) dX5_whistles_161 (gg_r 0 rfl) rfl ?_
  refine gg_iload_n (pc := 164) E dX5_whistles_164 rfl rfl ?_
  refine gg_iconst (v := 5) (pc := 165) E dX5_whistles_165 (by decide) ?_
  refine gg_iaddN (pc := 166) E (220 + 27 * t) 5 rfl rfl dX5_whistles_166 ?_
  refine gg_aload_n (pc := 167) E dX5_whistles_167 rfl rfl ?_
  refine gg_get (pc := 168) E ck_X5 0 q2859 rfl (by decide) dX5_whistles_168 (gg_r 0 rfl) rfl ?_
  refine gg_iload_n (pc := 171) E dX5_whistles_171 rfl rfl ?_
  refine gg_callS (F := [_, _]) (As := [.int (nI k)]) (rest := [_, _, _]) (pc := 172) E (ct_X5_r hl ) (va_cwS 1 E.2.2.2.2.1 (lw_S q2849 q2850 q179 q2851) rfl rfl rfl (by decide +kernel) ⟨by rw [hRf]; exact Nat.le_of_ble_eq_true rfl, by rw [hRl]; exact Nat.le_of_ble_eq_true rfl⟩) dX5_whistles_172 [] (by decide) rfl rfl (fun _ h => by cases h) rfl rfl (Nat.le_of_ble_eq_true rfl) (by first | (rw [hRc]; exact Nat.le_of_ble_eq_true rfl) | (rw [hRc]; dsimp only; omega)) (by first | (rw [hRs]; exact Nat.le_of_ble_eq_true rfl) | (rw [hRs]; dsimp only; omega)) ?_ (fun X q C1 h => h.elim)
  rintro _ _ ⟨rfl, rfl⟩
  dsimp only [List.cons_append, List.nil_append, Option.toList]
  refine gg_bipush (v := 11) (pc := 175) E dX5_whistles_175 (by decide) ?_
  refine gg_iaddN (pc := 177) E (25 + 13 * k) 11 rfl rfl dX5_whistles_177 ?_
  refine gg_ialdN (pc := 178) E ((25 + 13 * k) + 11) rfl (by omega) (by omega) dX5_whistles_178 (gg_i 0 rfl) ?_
  refine gg_topI (y := wsunt row t k) (by repeat (first | rw [pk_us] | rw [pk_un (by omega)] | rw [ub_out _ _ _ _ (by omega)] | rw [cn_out (by omega)] | rw [he_out (by omega)])) ?_
  refine gg_aload_n (pc := 179) E dX5_whistles_179 rfl rfl ?_
  refine gg_get (pc := 180) E ck_X5 0 q2859 rfl (by decide) dX5_whistles_180 (gg_r 0 rfl) rfl ?_
  refine gg_iload_n (pc := 183) E dX5_whistles_183 rfl rfl ?_
  refine gg_bipush (v := 10) (pc := 184) E dX5_whistles_184 (by decide) ?_
  refine gg_iaddN (pc := 186) E (220 + 27 * t) 10 rfl rfl dX5_whistles_186 ?_
  refine gg_ialdN (pc := 187) E ((220 + 27 * t) + 10) rfl (by omega) (by omega) dX5_whistles_187 (gg_i 0 rfl) ?_
  refine gg_topI (y := row (160 + 3 * wy row nw k u + 2)) (by repeat (first | rw [pk_us] | rw [pk_un (by omega)] | rw [ub_out _ _ _ _ (by omega)] | rw [cn_out (by omega)] | rw [he_out (by omega)])) ?_
  refine gg_iadd (pc := 188) E dX5_whistles_188 ?_
  refine gg_iastN (M' := [_, _]) (pc := 189) E ((220 + 27 * t) + 5) rfl (by omega) (by omega) dX5_whistles_189 0 rfl rfl ?_
  refine gg_aload_n (pc := 190) E dX5_whistles_190 rfl rfl ?_
  refine gg_get (pc := 191) E ck_X5 0 q2859 rfl (by decide) dX5_whistles_191 (gg_r 0 rfl) rfl ?_
  refine gg_iload_n (pc := 194) E dX5_whistles_194 rfl rfl ?_
  refine gg_iconst (v := 4) (pc := 195) E dX5_whistles_195 (by decide) ?_
  refine gg_iaddN (pc := 196) E (220 + 27 * t) 4 rfl rfl dX5_whistles_196 ?_
  refine gg_iload (pc := 197) E dX5_whistles_197 rfl ?_
  refine gg_iastN (M' := [_, _]) (pc := 199) E ((220 + 27 * t) + 4) rfl (by omega) (by omega) dX5_whistles_199 0 rfl rfl ?_
  refine gg_aload_n (pc := 200) E dX5_whistles_200 rfl rfl ?_
  refine gg_get (pc := 201) E ck_X5 0 q2859 rfl (by decide) dX5_whistles_201 (gg_r 0 rfl) rfl ?_
  refine gg_iload_n (pc := 204) E dX5_whistles_204 rfl rfl ?_
  refine gg_iconst (v := 3) (pc := 205) E dX5_whistles_205 (by decide) ?_
  refine gg_iaddN (pc := 206) E (220 + 27 * t) 3 rfl rfl dX5_whistles_206 ?_
  refine gg_iconst (v := 1) (pc := 207) E dX5_whistles_207 (by decide) ?_
  refine gg_iastN (M' := [_, _]) (pc := 208) E ((220 + 27 * t) + 3) rfl (by omega) (by omega) dX5_whistles_208 0 rfl rfl ?_
  refine gg_aload_n (pc := 209) E dX5_whistles_209 rfl rfl ?_
  refine gg_get (pc := 210) E ck_X5 0 q2859 rfl (by decide) dX5_whistles_210 (gg_r 0 rfl) rfl ?_
  refine gg_iload_n (pc := 213) E dX5_whistles_213 rfl rfl ?_
  refine gg_bipush (v := 9) (pc := 214) E dX5_whistles_214 (by decide) ?_
  refine gg_iaddN (pc := 216) E (220 + 27 * t) 9 rfl rfl dX5_whistles_216 ?_
  refine gg_dup2_11 (pc := 217) E dX5_whistles_217 rfl rfl ?_
  refine gg_ialdN (pc := 218) E ((220 + 27 * t) + 9) rfl (by omega) (by omega) dX5_whistles_218 (gg_i 0 rfl) ?_
  refine gg_topI (y := row (220 + 27 * t + 9)) (by repeat (first | rw [pk_us] | rw [pk_un (by omega)] | rw [ub_out _ _ _ _ (by omega)] | rw [cn_out (by omega)] | rw [he_out (by omega)])) ?_
  refine gg_iconst (v := 1) (pc := 219) E dX5_whistles_219 (by decide) ?_
  refine gg_iadd (pc := 220) E dX5_whistles_220 ?_
  refine gg_iastN (M' := [_, _]) (pc := 221) E ((220 + 27 * t) + 9) rfl (by omega) (by omega) dX5_whistles_221 0 rfl rfl ?_
  refine gg_aload_n (pc := 222) E dX5_whistles_222 rfl rfl ?_
  refine gg_iconst (v := 3) (pc := 223) E dX5_whistles_223 (by decide) ?_
  refine gg_iconst (v := 1) (pc := 224) E dX5_whistles_224 (by decide) ?_
  refine gg_callV (F := [_]) (As := [.int (nI 3), _]) (rest := []) (pc := 225) E ck_X5 (ct_X5_counts hl (by first | assumption | omega)) (cwV 2 E.2.2.2.2.1 (lw_V q3131 q3133 qs101 q179 q3134) rfl rfl rfl (by decide +kernel) ⟨by rw [hRf]; exact Nat.le_of_ble_eq_true rfl, by rw [hRl]; exact Nat.le_of_ble_eq_true rfl⟩) dX5_whistles_225 [0] (by decide) rfl rfl (List.forall_mem_cons.mpr ⟨(gg_r 0 rfl), (fun _ h => by cases h)⟩) (gg_r 0 rfl) rfl rfl (Nat.le_of_ble_eq_true rfl) (by first | (rw [hRc]; exact Nat.le_of_ble_eq_true rfl) | (rw [hRc]; dsimp only; omega)) (by first | (rw [hRs]; exact Nat.le_of_ble_eq_true rfl) | (rw [hRs]; dsimp only; omega)) ?_ (fun X q C1 h => h.elim)
  rintro _ _ ⟨rfl, rfl⟩
  dsimp only [List.cons_append, List.nil_append, Option.toList]
  refine gg_aload_n (pc := 228) E dX5_whistles_228 rfl rfl ?_
  refine gg_bipush (v := 9) (pc := 229) E dX5_whistles_229 (by decide) ?_
  refine gg_iload (pc := 231) E dX5_whistles_231 rfl ?_
  refine gg_callV (F := [_]) (As := [.int (nI 9), _]) (rest := []) (pc := 233) E ck_X5 (ct_X5_counts hl (by first | assumption | omega)) (cwV 2 E.2.2.2.2.1 (lw_V q3131 q3133 qs101 q179 q3134) rfl rfl rfl (by decide +kernel) ⟨by rw [hRf]; exact Nat.le_of_ble_eq_true rfl, by rw [hRl]; exact Nat.le_of_ble_eq_true rfl⟩) dX5_whistles_233 [0] (by decide) rfl rfl (List.forall_mem_cons.mpr ⟨(gg_r 0 rfl), (fun _ h => by cases h)⟩) (gg_r 0 rfl) rfl rfl (Nat.le_of_ble_eq_true rfl) (by first | (rw [hRc]; exact Nat.le_of_ble_eq_true rfl) | (rw [hRc]; dsimp only; omega)) (by first | (rw [hRs]; exact Nat.le_of_ble_eq_true rfl) | (rw [hRs]; dsimp only; omega)) ?_ (fun X q C1 h => h.elim)
  rintro _ _ ⟨rfl, rfl⟩
  dsimp only [List.cons_append, List.nil_append, Option.toList]
  refine gg_vret (pc := 236) E Fn rfl dX5_whistles_236 (by first | exact Nat.le_of_ble_eq_true rfl | (dsimp only; omega)) (by first | exact Nat.le_of_ble_eq_true rfl | (dsimp only; omega)) ?_
  exact ⟨_, rfl, rfl⟩
set_option maxHeartbeats 4000000 in
theorem ct_X5_arrives {l : Launch} (hl : l.stackTraces = false) {g : gg_G}  {h : Nat} {ad : Nat → Nat} {x : Nat → Int32} {row : Nat → Int32} {su : Nat → Int32}  {nr nw nt : Nat} (hG : Gw row nr nw nt) : gg_C l g yX5_arrives (ws_ yX5_arrives cX5_arrives 3 none) { frames := 5, cells := 0, slots := 0, locals := 114 } [.ref h] [] [[(h, .inl (4, mo_f ad x))], [((ad 0), gg_ai g 1030 row)], [((ad 10), gg_ai g 8 su)]] (fun vv CC => ∃ (z : Int32) (S : Nat → Int32), vv = none ∧ CC = [[(h, .inl (4, mo_f ad (upd x 11 z)))], [((ad 0), gg_ai g 1030 (arF row nt))], [((ad 10), gg_ai g 8 S)]]) gg_no := by
  refine gg_of (lv := [_, _, _]) (by decide) hl (Nat.le_of_ble_eq_true rfl) rfl ?_
  intro p e R s m args below meth c A Q hRf hRl hRc hRs E Fn hnm hex
  have hG0 := hG
  obtain ⟨hnr, hw, ht, hG4, hGS⟩ := hG
  have hnw := hw.1
  have hw20 := hw.2.1
  have hr10 := hw.2.2.1
  have hnt := ht.1
  have ht30 := ht.2.1
  refine gg_aload_n (pc := 0) E dX5_arrives_0 rfl rfl ?_
  refine gg_get (pc := 1) E ck_X5 0 q2859 rfl (by decide) dX5_arrives_1 (gg_i 0 rfl) rfl ?_
  refine gg_iconst (v := 2) (pc := 4) E dX5_arrives_4 (by decide) ?_
  refine gg_ialdN (pc := 5) E 2 rfl (by omega) (by omega) dX5_arrives_5 (gg_i 1 rfl) ?_
  rw [hnt]
  refine gg_istore_n (lv' := [_, _, _]) (pc := 6) E dX5_arrives_6 rfl (Nat.le_of_ble_eq_true rfl) rfl rfl ?_
  refine gg_iconst (v := 0) (pc := 7) E dX5_arrives_7 (by decide) ?_
  refine gg_istore_n (lv' := [_, _, _]) (pc := 8) E dX5_arrives_8 rfl (Nat.le_of_ble_eq_true rfl) rfl rfl ?_
  have L9 : ∀ (n : Nat) (i : Nat) (z : Int32) (S : Nat → Int32), nt - i < n → (i ≤ nt) → gg_W p l e R s m args below meth c g A 3 Q 0 0 [[(h, .inl (4, mo_f ad (upd x 11 z)))], [((ad 0), gg_ai g 1030 (arF row i))], [((ad 10), gg_ai g 8 S)]] [some (.ref h), some (.int (nI nt)), some (.int (nI i))] [] 9 := by
    intro n9
    induction n9 with
    | zero => intro i z S hmz; exact absurd hmz (Nat.not_lt_zero _)
    | succ n9 ih9 =>
      intro i z S hm9 hi
      obtain ⟨n1, q1, q2, q3⟩ := ar_G hG0 i (by omega)
      refine gg_iload_n (pc := 9) E dX5_arrives_9 rfl rfl ?_
      refine gg_iload_n (pc := 10) E dX5_arrives_10 rfl rfl ?_
      refine gg_icmpN_ge (tgt := 60) (pc := 11) E i nt rfl rfl (by omega) (by omega) dX5_arrives_11 (by decide) (fun c11 => ?_) (fun c11 => ?_)
      · refine gg_vret (pc := 60) E Fn rfl dX5_arrives_60 (by first | exact Nat.le_of_ble_eq_true rfl | (dsimp only; omega)) (by first | exact Nat.le_of_ble_eq_true rfl | (dsimp only; omega)) ?_
        obtain rfl : i = nt := by omega
        exact ⟨z, S, rfl, rfl⟩
      · refine gg_aload_n (pc := 14) E dX5_arrives_14 rfl rfl ?_
        refine gg_get (pc := 15) E ck_X5 0 q2859 rfl (by decide) dX5_arrives_15 (gg_i 0 rfl) rfl ?_
        refine gg_iload_n (pc := 18) E dX5_arrives_18 rfl rfl ?_
        refine gg_callS (F := [_, _, _]) (As := [.int (nI i)]) (rest := [_]) (pc := 19) E (ct_X5_t hl ) (va_cwS 1 E.2.2.2.2.1 (lw_S q3121 q3122 q179 q3123) rfl rfl rfl (by decide +kernel) ⟨by rw [hRf]; exact Nat.le_of_ble_eq_true rfl, by rw [hRl]; exact Nat.le_of_ble_eq_true rfl⟩) dX5_arrives_19 [] (by decide) rfl rfl (fun _ h => by cases h) rfl rfl (Nat.le_of_ble_eq_true rfl) (by first | (rw [hRc]; exact Nat.le_of_ble_eq_true rfl) | (rw [hRc]; dsimp only; omega)) (by first | (rw [hRs]; exact Nat.le_of_ble_eq_true rfl) | (rw [hRs]; dsimp only; omega)) ?_ (fun X q C1 h => h.elim)
        rintro _ _ ⟨rfl, rfl⟩
        dsimp only [List.cons_append, List.nil_append, Option.toList]
        refine gg_iconst (v := 3) (pc := 22) E dX5_arrives_22 (by decide) ?_
        refine gg_iaddN (pc := 23) E (220 + 27 * i) 3 rfl rfl dX5_arrives_23 ?_
        refine gg_ialdN (pc := 24) E ((220 + 27 * i) + 3) rfl (by omega) (by omega) dX5_arrives_24 (gg_i 1 rfl) ?_
        refine gg_iconst (v := 1) (pc := 25) E dX5_arrives_25 (by decide) ?_
        refine gg_icmp_ne (tgt := 54) (pc := 26) E dX5_arrives_26 (by decide) (fun c26 => ?_) (fun c26 => ?_)
        · refine gg_iincN (k := 1) (lv' := [_, _, _]) (pc := 54) E i dX5_arrives_54 rfl rfl rfl (Nat.le_of_ble_eq_true rfl) rfl rfl ?_
          refine gg_goto (tgt := 9) (pc := 57) E dX5_arrives_57 (by decide) ?_
          refine gg_cv ?_ (gg_leS (gg_leS (gg_leS gg_le0))) rfl (by first | exact Nat.le_refl _ | (dsimp only; omega)) (by first | exact Nat.le_refl _ | (dsimp only; omega)) (ih9 (i + 1) z S (by omega) (by omega))
          · rw [arF_f (fun q => c26 q.1)]
        · refine gg_aload_n (pc := 29) E dX5_arrives_29 rfl rfl ?_
          refine gg_get (pc := 30) E ck_X5 0 q2859 rfl (by decide) dX5_arrives_30 (gg_i 0 rfl) rfl ?_
          refine gg_iload_n (pc := 33) E dX5_arrives_33 rfl rfl ?_
          refine gg_callS (F := [_, _, _]) (As := [.int (nI i)]) (rest := [_]) (pc := 34) E (ct_X5_t hl ) (va_cwS 1 E.2.2.2.2.1 (lw_S q3121 q3122 q179 q3123) rfl rfl rfl (by decide +kernel) ⟨by rw [hRf]; exact Nat.le_of_ble_eq_true rfl, by rw [hRl]; exact Nat.le_of_ble_eq_true rfl⟩) dX5_arrives_34 [] (by decide) rfl rfl (fun _ h => by cases h) rfl rfl (Nat.le_of_ble_eq_true rfl) (by first | (rw [hRc]; exact Nat.le_of_ble_eq_true rfl) | (rw [hRc]; dsimp only; omega)) (by first | (rw [hRs]; exact Nat.le_of_ble_eq_true rfl) | (rw [hRs]; dsimp only; omega)) ?_ (fun X q C1 h => h.elim)
          rintro _ _ ⟨rfl, rfl⟩
          dsimp only [List.cons_append, List.nil_append, Option.toList]
          refine gg_iconst (v := 5) (pc := 37) E dX5_arrives_37 (by decide) ?_
          refine gg_iaddN (pc := 38) E (220 + 27 * i) 5 rfl rfl dX5_arrives_38 ?_
          refine gg_ialdN (pc := 39) E ((220 + 27 * i) + 5) rfl (by omega) (by omega) dX5_arrives_39 (gg_i 1 rfl) ?_
          refine gg_aload_n (pc := 40) E dX5_arrives_40 rfl rfl ?_
          refine gg_get (pc := 41) E ck_X5 0 q2859 rfl (by decide) dX5_arrives_41 (gg_i 0 rfl) rfl ?_
          refine gg_iconst (v := 3) (pc := 44) E dX5_arrives_44 (by decide) ?_
          refine gg_ialdN (pc := 45) E 3 rfl (by omega) (by omega) dX5_arrives_45 (gg_i 1 rfl) ?_
          refine gg_icmp_ne (tgt := 54) (pc := 46) E dX5_arrives_46 (by decide) (fun c46 => ?_) (fun c46 => ?_)
          · refine gg_iincN (k := 1) (lv' := [_, _, _]) (pc := 54) E i dX5_arrives_54 rfl rfl rfl (Nat.le_of_ble_eq_true rfl) rfl rfl ?_
            refine gg_goto (tgt := 9) (pc := 57) E dX5_arrives_57 (by decide) ?_
            refine gg_cv ?_ (gg_leS (gg_leS (gg_leS gg_le0))) rfl (by first | exact Nat.le_refl _ | (dsimp only; omega)) (by first | exact Nat.le_refl _ | (dsimp only; omega)) (ih9 (i + 1) z S (by omega) (by omega))
            · rw [arF_f (fun q => c46 q.2)]
          · refine gg_aload_n (pc := 49) E dX5_arrives_49 rfl rfl ?_
            refine gg_iload_n (pc := 50) E dX5_arrives_50 rfl rfl ?_
            refine gg_callV (F := []) (As := [.int (nI i)]) (rest := []) (pc := 51) E ck_X5 (ct_X5_comes hl (q2) (by omega)) (cwV 1 E.2.2.2.2.1 (lw_V q3147 q3149 qs105 q179 q3150) rfl rfl rfl (by decide +kernel) ⟨by rw [hRf]; exact Nat.le_of_ble_eq_true rfl, by rw [hRl]; exact Nat.le_of_ble_eq_true rfl⟩) dX5_arrives_51 [0, 1, 2] (by decide) rfl rfl (fun _ h => by cases h) (gg_i 0 rfl) rfl rfl (Nat.le_of_ble_eq_true rfl) (by first | (rw [hRc]; exact Nat.le_of_ble_eq_true rfl) | (rw [hRc]; dsimp only; omega)) (by first | (rw [hRs]; exact Nat.le_of_ble_eq_true rfl) | (rw [hRs]; dsimp only; omega)) ?_ (fun X q C1 h => h.elim)
            rintro _ _ ⟨z1, S1, rfl, rfl⟩
            dsimp only [List.cons_append, List.nil_append, Option.toList]
            refine gg_up2 ?_
            refine gg_up2 ?_
            refine gg_up2 ?_
            refine gg_iincN (k := 1) (lv' := [_, _, _]) (pc := 54) E i dX5_arrives_54 rfl rfl rfl (Nat.le_of_ble_eq_true rfl) rfl rfl ?_
            refine gg_goto (tgt := 9) (pc := 57) E dX5_arrives_57 (by decide) ?_
            refine gg_cv ?_ (gg_leS (gg_leS (gg_leS gg_le0))) rfl (by first | exact Nat.le_refl _ | (dsimp only; omega)) (by first | exact Nat.le_refl _ | (dsimp only; omega)) (ih9 (i + 1) z1 S1 (by omega) (by omega))
            · rw [upd_2, arF_t c26 c46 (ntn_G q2)]
  refine gg_cv ?_ (gg_leS (gg_leS (gg_leS gg_le0))) rfl (by first | exact Nat.le_refl _ | (dsimp only; omega)) (by first | exact Nat.le_refl _ | (dsimp only; omega)) (L9 _ 0 (x 11) su (Nat.lt_succ_self _) (Nat.zero_le _))
  · rw [← mu_11 x]; rfl
set_option maxHeartbeats 4000000 in
theorem ct_X5_loses {l : Launch} (hl : l.stackTraces = false) {g : gg_G}  {h : Nat} {ad : Nat → Nat} {x : Nat → Int32} {row : Nat → Int32} {sums : Nat → Int32}  {nr nw nt : Nat} (hG : Gw row nr nw nt) : gg_C l g yX5_loses (ws_ yX5_loses cX5_loses 3 none) { frames := 5, cells := 0, slots := 0, locals := 112 } [.ref h] [(h, .inl (4, mo_f ad x))] [[((ad 0), gg_ai g 1030 row)], [((ad 9), gg_ai g 10 sums)]] (fun vv CC => ∃ (S : Nat → Int32), vv = none ∧ CC = [[((ad 0), gg_ai g 1030 (loF row nw nt))], [((ad 9), gg_ai g 10 S)]]) gg_no := by
  refine gg_of (lv := [_, _, _]) (by decide) hl (Nat.le_of_ble_eq_true rfl) rfl ?_
  intro p e R s m args below meth c A Q hRf hRl hRc hRs E Fn hnm hex
  have hG0 := hG
  obtain ⟨hnr, hw, ht, hG4, hGS⟩ := hG
  have hnw := hw.1
  have hw20 := hw.2.1
  have hr10 := hw.2.2.1
  have hnt := ht.1
  have ht30 := ht.2.1
  refine gg_iconst (v := 0) (pc := 0) E dX5_loses_0 (by decide) ?_
  refine gg_istore_n (lv' := [_, _, _]) (pc := 1) E dX5_loses_1 rfl (Nat.le_of_ble_eq_true rfl) rfl rfl ?_
  have L2 : ∀ (n : Nat) (i : Nat) (S : Nat → Int32), nt - i < n → (i ≤ nt) → gg_W p l e R s m args below meth c g A 3 Q 0 0 [[((ad 0), gg_ai g 1030 (loF row nw i))], [((ad 9), gg_ai g 10 S)]] [some (.ref h), some (.int (nI i)), none] [] 2 := by
    intro n2
    induction n2 with
    | zero => intro i S hmz; exact absurd hmz (Nat.not_lt_zero _)
    | succ n2 ih2 =>
      intro i S hm2 hi
      obtain ⟨q2, q3⟩ := lo_G hG0 i (by omega)
      refine gg_iload_n (pc := 2) E dX5_loses_2 rfl rfl ?_
      refine gg_aload_n (pc := 3) E dX5_loses_3 rfl rfl ?_
      refine gg_get (pc := 4) E ck_X5 0 q2859 rfl (by decide) dX5_loses_4 (gg_r 0 rfl) rfl ?_
      refine gg_iconst (v := 2) (pc := 7) E dX5_loses_7 (by decide) ?_
      refine gg_ialdN (pc := 8) E 2 rfl (by omega) (by omega) dX5_loses_8 (gg_i 0 rfl) ?_
      rw [q2.2.2.1.1]
      refine gg_icmpN_ge (tgt := 74) (pc := 9) E i nt rfl rfl (by omega) (by omega) dX5_loses_9 (by decide) (fun c9 => ?_) (fun c9 => ?_)
      · refine gg_vret (pc := 74) E Fn rfl dX5_loses_74 (by first | exact Nat.le_of_ble_eq_true rfl | (dsimp only; omega)) (by first | exact Nat.le_of_ble_eq_true rfl | (dsimp only; omega)) ?_
        obtain rfl : i = nt := by omega
        exact ⟨S, rfl, rfl⟩
      · obtain ⟨g1, g2, g3, g4, g5, g6, g7, g8, g9, g10⟩ := q2.2.2.1.2.2.2 i (by omega)
        refine gg_iload_n (pc := 12) E dX5_loses_12 rfl rfl ?_
        refine gg_callS (F := [_, _]) (As := [.int (nI i)]) (rest := []) (pc := 13) E (ct_X5_t hl ) (va_cwS 1 E.2.2.2.2.1 (lw_S q3121 q3122 q179 q3123) rfl rfl rfl (by decide +kernel) ⟨by rw [hRf]; exact Nat.le_of_ble_eq_true rfl, by rw [hRl]; exact Nat.le_of_ble_eq_true rfl⟩) dX5_loses_13 [] (by decide) rfl rfl (fun _ h => by cases h) rfl rfl (Nat.le_of_ble_eq_true rfl) (by first | (rw [hRc]; exact Nat.le_of_ble_eq_true rfl) | (rw [hRc]; dsimp only; omega)) (by first | (rw [hRs]; exact Nat.le_of_ble_eq_true rfl) | (rw [hRs]; dsimp only; omega)) ?_ (fun X q C1 h => h.elim)
        rintro _ _ ⟨rfl, rfl⟩
        dsimp only [List.cons_append, List.nil_append, Option.toList]
        refine gg_istore_n (lv' := [_, _, _]) (pc := 16) E dX5_loses_16 rfl (Nat.le_of_ble_eq_true rfl) rfl rfl ?_
        refine gg_aload_n (pc := 17) E dX5_loses_17 rfl rfl ?_
        refine gg_get (pc := 18) E ck_X5 0 q2859 rfl (by decide) dX5_loses_18 (gg_r 0 rfl) rfl ?_
        refine gg_iload_n (pc := 21) E dX5_loses_21 rfl rfl ?_
        refine gg_iconst (v := 3) (pc := 22) E dX5_loses_22 (by decide) ?_
        refine gg_iaddN (pc := 23) E (220 + 27 * i) 3 rfl rfl dX5_loses_23 ?_
        refine gg_ialdN (pc := 24) E ((220 + 27 * i) + 3) rfl (by omega) (by omega) dX5_loses_24 (gg_i 0 rfl) ?_
        refine gg_if_ne (tgt := 68) (pc := 25) E dX5_loses_25 (by decide) (fun c25 => ?_) (fun c25 => ?_)
        · refine gg_iincN (k := 1) (lv' := [_, _, _]) (pc := 68) E i dX5_loses_68 rfl rfl rfl (Nat.le_of_ble_eq_true rfl) rfl rfl ?_
          refine gg_goto (tgt := 2) (pc := 71) E dX5_loses_71 (by decide) ?_
          refine gg_cv ?_ (gg_leS (gg_leS (gg_leN gg_le0))) rfl (by first | exact Nat.le_refl _ | (dsimp only; omega)) (by first | exact Nat.le_refl _ | (dsimp only; omega)) (ih2 (i + 1) S (by omega) (by omega))
          · rw [loF_f (fun q => c25 q.1)]
        · refine gg_aload_n (pc := 28) E dX5_loses_28 rfl rfl ?_
          refine gg_aload_n (pc := 29) E dX5_loses_29 rfl rfl ?_
          refine gg_get (pc := 30) E ck_X5 0 q2859 rfl (by decide) dX5_loses_30 (gg_r 0 rfl) rfl ?_
          refine gg_iload_n (pc := 33) E dX5_loses_33 rfl rfl ?_
          refine gg_iconst (v := 4) (pc := 34) E dX5_loses_34 (by decide) ?_
          refine gg_iaddN (pc := 35) E (220 + 27 * i) 4 rfl rfl dX5_loses_35 ?_
          refine gg_ialdN (pc := 36) E ((220 + 27 * i) + 4) rfl (by omega) (by omega) dX5_loses_36 (gg_i 0 rfl) ?_
          rw [g4]
          refine gg_aload_n (pc := 37) E dX5_loses_37 rfl rfl ?_
          refine gg_get (pc := 38) E ck_X5 0 q2859 rfl (by decide) dX5_loses_38 (gg_r 0 rfl) rfl ?_
          refine gg_iload_n (pc := 41) E dX5_loses_41 rfl rfl ?_
          refine gg_iconst (v := 1) (pc := 42) E dX5_loses_42 (by decide) ?_
          refine gg_iaddN (pc := 43) E (220 + 27 * i) 1 rfl rfl dX5_loses_43 ?_
          refine gg_ialdN (pc := 44) E ((220 + 27 * i) + 1) rfl (by omega) (by omega) dX5_loses_44 (gg_i 0 rfl) ?_
          rw [g2]
          refine gg_callV (F := [_]) (As := [.int (nI (ta (loF row nw i) i)), .int (nI (tg (loF row nw i) i))]) (rest := []) (pc := 45) E ck_X5 (ct_X5_sumTo hl (q2.2.1) (by omega) (by omega)) (cwV 2 E.2.2.2.2.1 (lw_V q3200 q3202 qs118 q179 q3203) rfl rfl rfl (by decide +kernel) ⟨by rw [hRf]; exact Nat.le_of_ble_eq_true rfl, by rw [hRl]; exact Nat.le_of_ble_eq_true rfl⟩) dX5_loses_45 [1] (by decide) rfl rfl (List.forall_mem_cons.mpr ⟨(gg_r 0 rfl), (List.forall_mem_cons.mpr ⟨(gg_i 0 rfl), (fun _ h => by cases h)⟩)⟩) (gg_r 0 rfl) rfl rfl (Nat.le_of_ble_eq_true rfl) (by first | (rw [hRc]; exact Nat.le_of_ble_eq_true rfl) | (rw [hRc]; dsimp only; omega)) (by first | (rw [hRs]; exact Nat.le_of_ble_eq_true rfl) | (rw [hRs]; dsimp only; omega)) ?_ (fun X q C1 h => h.elim)
          rintro _ _ ⟨rfl, rfl⟩
          dsimp only [List.cons_append, List.nil_append, Option.toList]
          refine gg_up1 ?_
          refine gg_iconst (v := (-1)) (pc := 48) E dX5_loses_48 (by decide) ?_
          refine gg_icmp_ne (tgt := 68) (pc := 49) E dX5_loses_49 (by decide) (fun c49 => ?_) (fun c49 => ?_)
          · refine gg_iincN (k := 1) (lv' := [_, _, _]) (pc := 68) E i dX5_loses_68 rfl rfl rfl (Nat.le_of_ble_eq_true rfl) rfl rfl ?_
            refine gg_goto (tgt := 2) (pc := 71) E dX5_loses_71 (by decide) ?_
            refine gg_cv ?_ (gg_leS (gg_leS (gg_leN gg_le0))) rfl (by first | exact Nat.le_refl _ | (dsimp only; omega)) (by first | exact Nat.le_refl _ | (dsimp only; omega)) (ih2 (i + 1) (fun k => dI (dist (loF row nw i) nw (-1) (tg (loF row nw i) i) k)) (by omega) (by omega))
            · rw [loF_f (fun q => c49 (by rw [q.2]; rfl))]
          · refine gg_aload_n (pc := 52) E dX5_loses_52 rfl rfl ?_
            refine gg_get (pc := 53) E ck_X5 0 q2859 rfl (by decide) dX5_loses_53 (gg_r 0 rfl) rfl ?_
            refine gg_iload_n (pc := 56) E dX5_loses_56 rfl rfl ?_
            refine gg_iconst (v := 3) (pc := 57) E dX5_loses_57 (by decide) ?_
            refine gg_iaddN (pc := 58) E (220 + 27 * i) 3 rfl rfl dX5_loses_58 ?_
            refine gg_iconst (v := 3) (pc := 59) E dX5_loses_59 (by decide) ?_
            refine gg_iastN (M' := [_, _]) (pc := 60) E ((220 + 27 * i) + 3) rfl (by omega) (by omega) dX5_loses_60 0 rfl rfl ?_
            refine gg_aload_n (pc := 61) E dX5_loses_61 rfl rfl ?_
            refine gg_bipush (v := 8) (pc := 62) E dX5_loses_62 (by decide) ?_
            refine gg_iconst (v := 1) (pc := 64) E dX5_loses_64 (by decide) ?_
            refine gg_callV (F := [_]) (As := [.int (nI 8), _]) (rest := []) (pc := 65) E ck_X5 (ct_X5_counts hl (by first | assumption | omega)) (cwV 2 E.2.2.2.2.1 (lw_V q3131 q3133 qs101 q179 q3134) rfl rfl rfl (by decide +kernel) ⟨by rw [hRf]; exact Nat.le_of_ble_eq_true rfl, by rw [hRl]; exact Nat.le_of_ble_eq_true rfl⟩) dX5_loses_65 [0] (by decide) rfl rfl (List.forall_mem_cons.mpr ⟨(gg_r 0 rfl), (fun _ h => by cases h)⟩) (gg_r 0 rfl) rfl rfl (Nat.le_of_ble_eq_true rfl) (by first | (rw [hRc]; exact Nat.le_of_ble_eq_true rfl) | (rw [hRc]; dsimp only; omega)) (by first | (rw [hRs]; exact Nat.le_of_ble_eq_true rfl) | (rw [hRs]; dsimp only; omega)) ?_ (fun X q C1 h => h.elim)
            rintro _ _ ⟨rfl, rfl⟩
            dsimp only [List.cons_append, List.nil_append, Option.toList]
            refine gg_iincN (k := 1) (lv' := [_, _, _]) (pc := 68) E i dX5_loses_68 rfl rfl rfl (Nat.le_of_ble_eq_true rfl) rfl rfl ?_
            refine gg_goto (tgt := 2) (pc := 71) E dX5_loses_71 (by decide) ?_
            refine gg_cv ?_ (gg_leS (gg_leS (gg_leN gg_le0))) rfl (by first | exact Nat.le_refl _ | (dsimp only; omega)) (by first | exact Nat.le_refl _ | (dsimp only; omega)) (ih2 (i + 1) (fun k => dI (dist (loF row nw i) nw (-1) (tg (loF row nw i) i) k)) (by omega) (by omega))
            · rw [← loF_t c25 (dI_m1 (dist81 q2.2.1 (by omega) _) c49)]
  refine gg_cv rfl (gg_leS (gg_leS (gg_leN gg_le0))) rfl (by first | exact Nat.le_refl _ | (dsimp only; omega)) (by first | exact Nat.le_refl _ | (dsimp only; omega)) (L2 _ 0 sums (Nat.lt_succ_self _) (Nat.zero_le _))
set_option maxHeartbeats 4000000 in
theorem ct_X5_ticks {l : Launch} (hl : l.stackTraces = false) {g : gg_G}  {h : Nat} {ad : Nat → Nat} {x : Nat → Int32} {row : Nat → Int32} {sums : Nat → Int32}  {su : Nat → Int32} {tm : Nat} {nr nw nt : Nat} (hG : Gw row nr nw nt) (htm : row 3 = nI tm) (htm2 : tm + 1 < 2 ^ 30) : gg_C l g yX5_ticks (ws_ yX5_ticks cX5_ticks 3 none) { frames := 7, cells := 0, slots := 0, locals := 164 } [.ref h] [] [[(h, .inl (4, mo_f ad x))], [((ad 0), gg_ai g 1030 row)], [((ad 9), gg_ai g 10 sums)], [((ad 10), gg_ai g 8 su)]] (fun vv CC => ∃ (z : Int32) (S U : Nat → Int32), vv = none ∧ CC = [[(h, .inl (4, mo_f ad (upd x 11 z)))], [((ad 0), gg_ai g 1030 (tkF row nr nw))], [((ad 9), gg_ai g 10 S)], [((ad 10), gg_ai g 8 U)]]) gg_no := by
  refine gg_of (lv := [_, _, _]) (by decide) hl (Nat.le_of_ble_eq_true rfl) rfl ?_
  intro p e R s m args below meth c A Q hRf hRl hRc hRs E Fn hnm hex
  have hG0 := hG
  obtain ⟨hnr, hw, ht, hG4, hGS⟩ := hG
  have hnw := hw.1
  have hw20 := hw.2.1
  have hr10 := hw.2.2.1
  have hnt := ht.1
  have ht30 := ht.2.1
  refine gg_aload_n (pc := 0) E dX5_ticks_0 rfl rfl ?_
  refine gg_get (pc := 1) E ck_X5 0 q2859 rfl (by decide) dX5_ticks_1 (gg_i 0 rfl) rfl ?_
  refine gg_iconst (v := 3) (pc := 4) E dX5_ticks_4 (by decide) ?_
  refine gg_dup2_11 (pc := 5) E dX5_ticks_5 rfl rfl ?_
  refine gg_ialdN (pc := 6) E 3 rfl (by omega) (by omega) dX5_ticks_6 (gg_i 1 rfl) ?_
  refine gg_iconst (v := 1) (pc := 7) E dX5_ticks_7 (by decide) ?_
  refine gg_iadd (pc := 8) E dX5_ticks_8 ?_
  refine gg_iastN (M' := [_, _, _, _]) (pc := 9) E 3 rfl (by omega) (by omega) dX5_ticks_9 1 rfl rfl ?_
  refine gg_aload_n (pc := 10) E dX5_ticks_10 rfl rfl ?_
  refine gg_iconst (v := 0) (pc := 11) E dX5_ticks_11 (by decide) ?_
  refine gg_iconst (v := 1) (pc := 12) E dX5_ticks_12 (by decide) ?_
  refine gg_callV (F := [_, _, _]) (As := [.int (nI 0), _]) (rest := []) (pc := 13) E ck_X5 (ct_X5_counts hl (by first | assumption | omega)) (cwV 2 E.2.2.2.2.1 (lw_V q3131 q3133 qs101 q179 q3134) rfl rfl rfl (by decide +kernel) ⟨by rw [hRf]; exact Nat.le_of_ble_eq_true rfl, by rw [hRl]; exact Nat.le_of_ble_eq_true rfl⟩) dX5_ticks_13 [1] (by decide) rfl rfl (List.forall_mem_cons.mpr ⟨(gg_i 0 rfl), (fun _ h => by cases h)⟩) (gg_i 0 rfl) rfl rfl (Nat.le_of_ble_eq_true rfl) (by first | (rw [hRc]; exact Nat.le_of_ble_eq_true rfl) | (rw [hRc]; dsimp only; omega)) (by first | (rw [hRs]; exact Nat.le_of_ble_eq_true rfl) | (rw [hRs]; dsimp only; omega)) ?_ (fun X q C1 h => h.elim)
  rintro _ _ ⟨rfl, rfl⟩
  dsimp only [List.cons_append, List.nil_append, Option.toList]
  refine gg_up1 ?_
  refine gg_aload_n (pc := 16) E dX5_ticks_16 rfl rfl ?_
  refine gg_callV (F := [_]) (As := []) (rest := []) (pc := 17) E ck_X5 (ct_X5_arrives (row := tk1 row) hl (tk1_G hG0)) (cwV 0 E.2.2.2.2.1 (lw_V q3143 q3145 qs104 q179 q3146) rfl rfl rfl (by decide +kernel) ⟨by rw [hRf]; exact Nat.le_of_ble_eq_true rfl, by rw [hRl]; exact Nat.le_of_ble_eq_true rfl⟩) dX5_ticks_17 [0, 1, 3] (by decide) rfl rfl (fun _ h => by cases h) (gg_i 0 rfl) rfl rfl (Nat.le_of_ble_eq_true rfl) (by first | (rw [hRc]; exact Nat.le_of_ble_eq_true rfl) | (rw [hRc]; dsimp only; omega)) (by first | (rw [hRs]; exact Nat.le_of_ble_eq_true rfl) | (rw [hRs]; dsimp only; omega)) ?_ (fun X q C1 h => h.elim)
  rintro _ _ ⟨z1, S1, rfl, rfl⟩
  dsimp only [List.cons_append, List.nil_append, Option.toList]
  refine gg_up2 ?_
  refine gg_up2 ?_
  refine gg_up3 ?_
  obtain ⟨n1, a1, a2, a3⟩ := ar_G (tk1_G hG0) nt (Nat.le_refl _)
  have htm1 : (arF (tk1 row) nt) 3 = nI (tm + 1) := (a3 3 (by omega) (by omega)).trans (tk1_3 htm)
  refine gg_iconst (v := 0) (pc := 20) E dX5_ticks_20 (by decide) ?_
  refine gg_istore_n (lv' := [_, _, _]) (pc := 21) E dX5_ticks_21 rfl (Nat.le_of_ble_eq_true rfl) rfl rfl ?_
  have L22 : ∀ (n : Nat) (i : Nat) (S : Nat → Int32), nr - i < n → (i ≤ nr) → (i = 0 ∨ m60 ((arF (tk1 row) nt) 3) < (arF (tk1 row) nt) 5) → gg_W p l e R s m args below meth c g A 3 Q 0 0 [[(h, .inl (4, mo_f ad (upd x 11 z1)))], [((ad 0), gg_ai g 1030 (rfF (arF (tk1 row) nt) nw i))], [((ad 9), gg_ai g 10 S)], [((ad 10), gg_ai g 8 S1)]] [some (.ref h), some (.int (nI i)), none] [] 22 := by
    intro n22
    induction n22 with
    | zero => intro i S hmz; exact absurd hmz (Nat.not_lt_zero _)
    | succ n22 ih22 =>
      intro i S hm22 hi hcond
      obtain ⟨q2, q3⟩ := rf_G a2 htm1 htm2 i (by omega)
      refine gg_iload_n (pc := 22) E dX5_ticks_22 rfl rfl ?_
      refine gg_aload_n (pc := 23) E dX5_ticks_23 rfl rfl ?_
      refine gg_get (pc := 24) E ck_X5 0 q2859 rfl (by decide) dX5_ticks_24 (gg_i 0 rfl) rfl ?_
      refine gg_iconst (v := 0) (pc := 27) E dX5_ticks_27 (by decide) ?_
      refine gg_ialdN (pc := 28) E 0 rfl (by omega) (by omega) dX5_ticks_28 (gg_i 1 rfl) ?_
      rw [q2.1]
      refine gg_icmpN_ge (tgt := 91) (pc := 29) E i nr rfl rfl (by omega) (by omega) dX5_ticks_29 (by decide) (fun c29 => ?_) (fun c29 => ?_)
      · refine gg_aload_n (pc := 91) E dX5_ticks_91 rfl rfl ?_
        refine gg_callV (F := [_, _]) (As := []) (rest := []) (pc := 92) E ck_X5 (ct_X5_loses (row := (rfF (arF (tk1 row) nt) nw i)) hl q2) (cwV 0 E.2.2.2.2.1 (lw_V q3220 q3222 qs123 q179 q3223) rfl rfl rfl (by decide +kernel) ⟨by rw [hRf]; exact Nat.le_of_ble_eq_true rfl, by rw [hRl]; exact Nat.le_of_ble_eq_true rfl⟩) dX5_ticks_92 [1, 2] (by decide) rfl rfl (List.forall_mem_cons.mpr ⟨(gg_i 0 rfl), (fun _ h => by cases h)⟩) (gg_i 0 rfl) rfl rfl (Nat.le_of_ble_eq_true rfl) (by first | (rw [hRc]; exact Nat.le_of_ble_eq_true rfl) | (rw [hRc]; dsimp only; omega)) (by first | (rw [hRs]; exact Nat.le_of_ble_eq_true rfl) | (rw [hRs]; dsimp only; omega)) ?_ (fun X q C1 h => h.elim)
        rintro _ _ ⟨S4, rfl, rfl⟩
        dsimp only [List.cons_append, List.nil_append, Option.toList]
        refine gg_up2 ?_
        refine gg_up2 ?_
        refine gg_vret (pc := 95) E Fn rfl dX5_ticks_95 (by first | exact Nat.le_of_ble_eq_true rfl | (dsimp only; omega)) (by first | exact Nat.le_of_ble_eq_true rfl | (dsimp only; omega)) ?_
        obtain rfl : i = nr := by omega
        exact ⟨z1, S4, S1, rfl, by rw [tk_end (nr := i) (ntn_G hG0) (ntn_G q2) (Or.inl ⟨rfl, hcond⟩)]⟩
      · refine gg_aload_n (pc := 32) E dX5_ticks_32 rfl rfl ?_
        refine gg_get (pc := 33) E ck_X5 0 q2859 rfl (by decide) dX5_ticks_33 (gg_i 0 rfl) rfl ?_
        refine gg_iconst (v := 3) (pc := 36) E dX5_ticks_36 (by decide) ?_
        refine gg_ialdN (pc := 37) E 3 rfl (by omega) (by omega) dX5_ticks_37 (gg_i 1 rfl) ?_
        refine gg_topI (y := (arF (tk1 row) nt) 3) (by exact q3 3 (by omega) (by omega)) ?_
        refine gg_bipush (v := 60) (pc := 38) E dX5_ticks_38 (by decide) ?_
        refine gg_irem (pc := 40) E dX5_ticks_40 (by decide) ?_
        refine gg_aload_n (pc := 41) E dX5_ticks_41 rfl rfl ?_
        refine gg_get (pc := 42) E ck_X5 0 q2859 rfl (by decide) dX5_ticks_42 (gg_i 0 rfl) rfl ?_
        refine gg_iconst (v := 5) (pc := 45) E dX5_ticks_45 (by decide) ?_
        refine gg_ialdN (pc := 46) E 5 rfl (by omega) (by omega) dX5_ticks_46 (gg_i 1 rfl) ?_
        refine gg_topI (y := (arF (tk1 row) nt) 5) (by exact q3 5 (by omega) (by omega)) ?_
        refine gg_icmp_ge (tgt := 91) (pc := 47) E dX5_ticks_47 (by decide) (fun c47 => ?_) (fun c47 => ?_)
        · refine gg_aload_n (pc := 91) E dX5_ticks_91 rfl rfl ?_
          refine gg_callV (F := [_, _]) (As := []) (rest := []) (pc := 92) E ck_X5 (ct_X5_loses (row := (rfF (arF (tk1 row) nt) nw i)) hl q2) (cwV 0 E.2.2.2.2.1 (lw_V q3220 q3222 qs123 q179 q3223) rfl rfl rfl (by decide +kernel) ⟨by rw [hRf]; exact Nat.le_of_ble_eq_true rfl, by rw [hRl]; exact Nat.le_of_ble_eq_true rfl⟩) dX5_ticks_92 [1, 2] (by decide) rfl rfl (List.forall_mem_cons.mpr ⟨(gg_i 0 rfl), (fun _ h => by cases h)⟩) (gg_i 0 rfl) rfl rfl (Nat.le_of_ble_eq_true rfl) (by first | (rw [hRc]; exact Nat.le_of_ble_eq_true rfl) | (rw [hRc]; dsimp only; omega)) (by first | (rw [hRs]; exact Nat.le_of_ble_eq_true rfl) | (rw [hRs]; dsimp only; omega)) ?_ (fun X q C1 h => h.elim)
          rintro _ _ ⟨S4, rfl, rfl⟩
          dsimp only [List.cons_append, List.nil_append, Option.toList]
          refine gg_up2 ?_
          refine gg_up2 ?_
          refine gg_vret (pc := 95) E Fn rfl dX5_ticks_95 (by first | exact Nat.le_of_ble_eq_true rfl | (dsimp only; omega)) (by first | exact Nat.le_of_ble_eq_true rfl | (dsimp only; omega)) ?_
          have hi0 : i = 0 ∧ ¬ m60 ((arF (tk1 row) nt) 3) < (arF (tk1 row) nt) 5 := ⟨hcond.elim id (fun q => absurd q (Int32.not_lt.mpr c47)), Int32.not_lt.mpr c47⟩
          exact ⟨z1, S4, S1, rfl, by rw [tk_end (nr := nr) (ntn_G hG0) (ntn_G q2) (Or.inr hi0)]⟩
        · refine gg_aload_n (pc := 50) E dX5_ticks_50 rfl rfl ?_
          refine gg_iload_n (pc := 51) E dX5_ticks_51 rfl rfl ?_
          refine gg_aload_n (pc := 52) E dX5_ticks_52 rfl rfl ?_
          refine gg_get (pc := 53) E ck_X5 0 q2859 rfl (by decide) dX5_ticks_53 (gg_i 0 rfl) rfl ?_
          refine gg_iconst (v := 3) (pc := 56) E dX5_ticks_56 (by decide) ?_
          refine gg_ialdN (pc := 57) E 3 rfl (by omega) (by omega) dX5_ticks_57 (gg_i 1 rfl) ?_
          refine gg_callV (F := [_, _, _, _]) (As := [.int (nI i), _]) (rest := []) (pc := 58) E ck_X5 (ct_X5_isBusy (row := (rfF (arF (tk1 row) nt) nw i)) hl (by omega)) (cwV 2 E.2.2.2.2.1 (lw_V q3168 q3170 qs110 q179 q3171) rfl rfl rfl (by decide +kernel) ⟨by rw [hRf]; exact Nat.le_of_ble_eq_true rfl, by rw [hRl]; exact Nat.le_of_ble_eq_true rfl⟩) dX5_ticks_58 [] (by decide) rfl rfl (List.forall_mem_cons.mpr ⟨(gg_i 0 rfl), (List.forall_mem_cons.mpr ⟨(gg_i 1 rfl), (fun _ h => by cases h)⟩)⟩) (gg_i 0 rfl) rfl rfl (Nat.le_of_ble_eq_true rfl) (by first | (rw [hRc]; exact Nat.le_of_ble_eq_true rfl) | (rw [hRc]; dsimp only; omega)) (by first | (rw [hRs]; exact Nat.le_of_ble_eq_true rfl) | (rw [hRs]; dsimp only; omega)) ?_ (fun X q C1 h => h.elim)
          rintro _ _ ⟨rfl, rfl⟩
          dsimp only [List.cons_append, List.nil_append, Option.toList]
          refine gg_ifP_eq (tgt := 68) (pc := 61) E dX5_ticks_61 (by decide) (fun c61 => ?_) (fun c61 => ?_)
          · refine gg_aload_n (pc := 68) E dX5_ticks_68 rfl rfl ?_
            refine gg_iload_n (pc := 69) E dX5_ticks_69 rfl rfl ?_
            refine gg_callV (F := [_, _, _]) (As := [.int (nI i)]) (rest := []) (pc := 70) E ck_X5 (ct_X5_firstAt hl (q2.2.1) (q2.2.2.1) (by omega)) (cwV 1 E.2.2.2.2.1 (lw_V q3172 q3174 qs111 q179 q3175) rfl rfl rfl (by decide +kernel) ⟨by rw [hRf]; exact Nat.le_of_ble_eq_true rfl, by rw [hRl]; exact Nat.le_of_ble_eq_true rfl⟩) dX5_ticks_70 [2] (by decide) rfl rfl (List.forall_mem_cons.mpr ⟨(gg_i 0 rfl), (List.forall_mem_cons.mpr ⟨(gg_i 1 rfl), (fun _ h => by cases h)⟩)⟩) (gg_i 0 rfl) rfl rfl (Nat.le_of_ble_eq_true rfl) (by first | (rw [hRc]; exact Nat.le_of_ble_eq_true rfl) | (rw [hRc]; dsimp only; omega)) (by first | (rw [hRs]; exact Nat.le_of_ble_eq_true rfl) | (rw [hRs]; dsimp only; omega)) ?_ (fun X q C1 h => h.elim)
            rintro _ _ ⟨S2, rfl, rfl⟩
            dsimp only [List.cons_append, List.nil_append, Option.toList]
            refine gg_up2 ?_
            refine gg_istore_n (lv' := [_, _, _]) (pc := 73) E dX5_ticks_73 rfl (Nat.le_of_ble_eq_true rfl) rfl rfl ?_
            refine gg_iload_n (pc := 74) E dX5_ticks_74 rfl rfl ?_
            refine gg_iconst (v := (-1)) (pc := 75) E dX5_ticks_75 (by decide) ?_
            refine gg_icmp_eq (tgt := 85) (pc := 76) E dX5_ticks_76 (by decide) (fun c76 => ?_) (fun c76 => ?_)
            · refine gg_iincN (k := 1) (lv' := [_, _, _]) (pc := 85) E i dX5_ticks_85 rfl rfl rfl (Nat.le_of_ble_eq_true rfl) rfl rfl ?_
              refine gg_goto (tgt := 22) (pc := 88) E dX5_ticks_88 (by decide) ?_
              refine gg_cv ?_ (gg_leS (gg_leS (gg_leN gg_le0))) rfl (by first | exact Nat.le_refl _ | (dsimp only; omega)) (by first | exact Nat.le_refl _ | (dsimp only; omega)) (ih22 (i + 1) S2 (by omega) (by omega) (Or.inr (Int32.not_le.mp c47)))
              · rw [rfF_n c61 (ntn_G q2) (nop_m1 (fun b hb => by have := fas_lt n1 b hb; have := q2.2.2.1.2.1; omega) c76)]
            · obtain ⟨t, hf⟩ := dI_nm1 c76
              obtain ⟨f1, f2, u, f3⟩ := fas_ok (nr := nr) n1 t hf
              rw [hf]
              refine gg_aload_n (pc := 79) E dX5_ticks_79 rfl rfl ?_
              refine gg_iload_n (pc := 80) E dX5_ticks_80 rfl rfl ?_
              refine gg_iload_n (pc := 81) E dX5_ticks_81 rfl rfl ?_
              refine gg_callV (F := [_, _]) (As := [.int (nI t), .int (nI i)]) (rest := []) (pc := 82) E ck_X5 (ct_X5_whistles (row := (rfF (arF (tk1 row) nt) nw i)) (tm := tm + 1) hl q2 f1 (by omega) f3 ((q3 3 (by omega) (by omega)).trans htm1) htm2) (cwV 2 E.2.2.2.2.1 (lw_V q3216 q3218 qs122 q179 q3219) rfl rfl rfl (by decide +kernel) ⟨by rw [hRf]; exact Nat.le_of_ble_eq_true rfl, by rw [hRl]; exact Nat.le_of_ble_eq_true rfl⟩) dX5_ticks_82 [1, 2] (by decide) rfl rfl (List.forall_mem_cons.mpr ⟨(gg_i 0 rfl), (fun _ h => by cases h)⟩) (gg_i 0 rfl) rfl rfl (Nat.le_of_ble_eq_true rfl) (by first | (rw [hRc]; exact Nat.le_of_ble_eq_true rfl) | (rw [hRc]; dsimp only; omega)) (by first | (rw [hRs]; exact Nat.le_of_ble_eq_true rfl) | (rw [hRs]; dsimp only; omega)) ?_ (fun X q C1 h => h.elim)
              rintro _ _ ⟨S3, rfl, rfl⟩
              dsimp only [List.cons_append, List.nil_append, Option.toList]
              refine gg_up2 ?_
              refine gg_up2 ?_
              refine gg_iincN (k := 1) (lv' := [_, _, _]) (pc := 85) E i dX5_ticks_85 rfl rfl rfl (Nat.le_of_ble_eq_true rfl) rfl rfl ?_
              refine gg_goto (tgt := 22) (pc := 88) E dX5_ticks_88 (by decide) ?_
              refine gg_cv ?_ (gg_leS (gg_leS (gg_leN gg_le0))) rfl (by first | exact Nat.le_refl _ | (dsimp only; omega)) (by first | exact Nat.le_refl _ | (dsimp only; omega)) (ih22 (i + 1) S3 (by omega) (by omega) (Or.inr (Int32.not_le.mp c47)))
              · rw [← rfF_w c61 (ntn_G q2) hf f3]
          · refine gg_iconst (v := (-1)) (pc := 64) E dX5_ticks_64 (by decide) ?_
            refine gg_goto (tgt := 73) (pc := 65) E dX5_ticks_65 (by decide) ?_
            refine gg_istore_n (lv' := [_, _, _]) (pc := 73) E dX5_ticks_73 rfl (Nat.le_of_ble_eq_true rfl) rfl rfl ?_
            refine gg_iload_n (pc := 74) E dX5_ticks_74 rfl rfl ?_
            refine gg_iconst (v := (-1)) (pc := 75) E dX5_ticks_75 (by decide) ?_
            refine gg_icmp_eq (tgt := 85) (pc := 76) E dX5_ticks_76 (by decide) (fun c76 => ?_) (fun c76 => ?_)
            rotate_left
            · exact absurd rfl c76
            refine gg_iincN (k := 1) (lv' := [_, _, _]) (pc := 85) E i dX5_ticks_85 rfl rfl rfl (Nat.le_of_ble_eq_true rfl) rfl rfl ?_
            refine gg_goto (tgt := 22) (pc := 88) E dX5_ticks_88 (by decide) ?_
            refine gg_cv ?_ (gg_leS (gg_leS (gg_leN gg_le0))) rfl (by first | exact Nat.le_refl _ | (dsimp only; omega)) (by first | exact Nat.le_refl _ | (dsimp only; omega)) (ih22 (i + 1) S (by omega) (by omega) (Or.inr (Int32.not_le.mp c47)))
            · rw [rfF_b c61]
  refine gg_cv rfl (gg_leS (gg_leS (gg_leN gg_le0))) rfl (by first | exact Nat.le_refl _ | (dsimp only; omega)) (by first | exact Nat.le_refl _ | (dsimp only; omega)) (L22 _ 0 sums (Nat.lt_succ_self _) (Nat.zero_le _) (Or.inl rfl))

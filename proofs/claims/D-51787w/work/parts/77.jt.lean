set_option maxRecDepth 100000
/-! ===== a tick ===== -/
set_option maxHeartbeats 4000000 in
theorem ct_X2_ticks {l : Launch} (hl : l.stackTraces = false) {g : gg_G}  {w : Nat} {ad : Nat → Nat} {tm : Nat} {c7 : Int32} {rt0 : Option Nat} {ra nm : Nat → Nat} {m1 : Int32} {nr : Nat} {tu sn hd : Nat → Nat} {m3 : Int32} {nt : Nat} {nd wo : Nat → Nat} {m2 : Int32} {nw : Nat} {row : Nat → Int32} {P : gg_S} {sf4 : Nat → Int32} (hP : Po g P sn wo row nw nt) (hG : Gw row nr nw nt) (hR : ∀ a, rt0 = some a → Rt g P a row nr nw) (htm : row 3 = nI tm) (htm2 : tm + 1 < 2 ^ 30) (hs4 : ∀ j, j < 3 → sf4 j = row (4 + j)) : gg_C l g yX2_ticks (ws_ yX2_ticks cX2_ticks 4 none) { frames := 18, cells := (5 * (ntn (tkF row nr nw) - nt) + qk (tka row nt) rt0 + 20), slots := (60 * (ntn (tkF row nr nw) - nt) + qs (tka row nt) rt0 + 100), locals := 371 } [.ref w] ([((ad 1), .inl (11, [.int m1, .ref (ad 2), .int (nI nr)])), ((ad 2), gg_ao g 4 10 (lsF ra nr)), ((ad 6), gg_ai g 3 sf4), ((ad 3), .inl (15, [.int m2, .int (nI nw), llF nd nw, llL nd nw]))] ++ (llS nd wo nw)) [[(w, .inl (1, [.ref (ad 1), .ref (ad 3), .ref (ad 4), .ref (ad 6), .ref (ad 7), .int (nI tm), .int c7, (va_rf rt0)]))], [((ad 4), .inl (11, [.int m3, .ref (ad 5), .int (nI nt)]))], [((ad 5), gg_ao g 4 30 (lsF tu nt))], (mp (tuN tu sn hd row) (nt)), (mp (heN g hd row) (nt)), [((ad 7), gg_ai g 11 (fun j => row (10 + j)))], (mp (rfN ra nm row) nr), P] (fun vv CC => ∃ (tu2 sn2 hd2 : Nat → Nat) (m32 : Int32) (nt2 : Nat) (rt2 : Option Nat) (P2 : gg_S), (Po g P2 sn2 wo (tkF row nr nw) nw nt2 ∧ (tkF row nr nw) 2 = nI nt2 ∧ nt2 ≤ 30 ∧ (∀ a, rt2 = some a → Rt g P2 a (tkF row nr nw) nr nw) ∧ Qp (tka row nt) rt0 rt2 ∧ Sub P P2) ∧ vv = none ∧ CC = [[(w, .inl (1, [.ref (ad 1), .ref (ad 3), .ref (ad 4), .ref (ad 6), .ref (ad 7), .int (nI (tm + 1)), .int c7, (va_rf rt2)]))], [((ad 4), .inl (11, [.int m32, .ref (ad 5), .int (nI nt2)]))], [((ad 5), gg_ao g 4 30 (lsF tu2 nt2))], (mp (tuN tu2 sn2 hd2 (tkF row nr nw)) (nt2)), (mp (heN g hd2 (tkF row nr nw)) (nt2)), [((ad 7), gg_ai g 11 (fun j => (tkF row nr nw) (10 + j)))], (mp (rfN ra nm (tkF row nr nw)) nr), P2]) gg_no := by
  refine gg_of (lv := [_, _, _, _]) (by decide) hl (Nat.le_of_ble_eq_true rfl) rfl ?_
  intro p e R s m args below meth c A Q hRf hRl hRc hRs E Fn hnm hex
  have hw := hG.2.1
  have h20 := hw.2.1
  have hr10 := hw.2.2.1
  have hT := hG.2.2.1.2.2.2
  have ht30 := hG.2.2.1.2.1
  refine gg_aload_n (pc := 0) E dX2_ticks_0 rfl rfl ?_
  refine gg_dup (pc := 1) E dX2_ticks_1 rfl ?_
  refine gg_get (pc := 2) E ck_X2 5 q610 rfl (by decide) dX2_ticks_2 (gg_i 0 rfl) rfl ?_
  refine gg_iconst (v := 1) (pc := 5) E dX2_ticks_5 (by decide) ?_
  refine gg_iaddN (pc := 6) E tm 1 rfl rfl dX2_ticks_6 ?_
  refine gg_put (fs' := [_, _, _, _, _, _, _, _]) (M' := [_, _, _, _, _, _, _, _]) (pc := 7) E ck_X2 5 q610 rfl (by decide) dX2_ticks_7 0 rfl rfl (rfl) rfl (Nat.le_of_ble_eq_true rfl) rfl rfl ?_
  refine gg_aload_n (pc := 10) E dX2_ticks_10 rfl rfl ?_
  refine gg_get (pc := 11) E ck_X2 4 q608 rfl (by decide) dX2_ticks_11 (gg_i 0 rfl) rfl ?_
  refine gg_iconst (v := 0) (pc := 14) E dX2_ticks_14 (by decide) ?_
  refine gg_dup2_11 (pc := 15) E dX2_ticks_15 rfl rfl ?_
  refine gg_ialdN (pc := 16) E 0 rfl (by omega) (by omega) dX2_ticks_16 (gg_i 5 rfl) ?_
  refine gg_iconst (v := 1) (pc := 17) E dX2_ticks_17 (by decide) ?_
  refine gg_iadd (pc := 18) E dX2_ticks_18 ?_
  refine gg_iastN (M' := [_, _, _, _, _, _, _, _]) (pc := 19) E 0 rfl (by omega) (by omega) dX2_ticks_19 5 rfl rfl ?_
  refine gg_cel (y := gg_ai g 11 (fun j => (tk1 row) (10 + j))) 5 rfl (gg_ai_congr fun j hj => tk1_ac hj) rfl ?_
  refine gg_seg (S' := (mp (tuN tu sn hd (tk1 row)) nt)) (M' := [_, _, _, _, _, _, _, _]) 3 rfl (mp_eq fun t ht => tuN_eq rfl rfl rfl fun d hd => tk1_out (by omega) (by omega)) rfl ?_
  refine gg_seg (S' := (mp (heN g hd (tk1 row)) nt)) (M' := [_, _, _, _, _, _, _, _]) 4 rfl (mp_eq fun t ht => heN_eq rfl (fun d hd => tk1_out (by omega) (by omega)) ((hT t ht).2.2.2.2.2.2.2.2.2)) rfl ?_
  have hG0 := tk1_G hG
  have hP0 : Po g P sn wo (tk1 row) nw nt := Po_keep hP (fun t ht => (hT t ht).2.2.2.2.2.2.2.2.2) (fun t ht d hd => tk1_out (by omega) (by omega)) (fun j h1 h2 => tk1_out (by omega) (by omega)) h20
  have htn := tk_n (nw := nw) hG htm htm2
  refine gg_aload_n (pc := 20) E dX2_ticks_20 rfl rfl ?_
  refine gg_get (pc := 21) E ck_X2 2 q604 rfl (by decide) dX2_ticks_21 (gg_i 0 rfl) rfl ?_
  refine gg_callF (F := [_, _, _, _, _, _, _, _]) (As := []) (rest := []) (pc := 24) E ck_J2 (ct_J2_size hl ) (gg_cwF 0 E (x := ⟨"java/util/List", "size", "()I"⟩) (by decide) nq1046 nq1044 nq683 (lw_app (lw_in _ [1095, 1043, 1045, 155] (by decide +kernel) (by decide +kernel)) (lw_meth q1047)) (by decide +kernel) ⟨by rw [hRf]; exact Nat.le_of_ble_eq_true rfl, by rw [hRl]; exact Nat.le_of_ble_eq_true rfl⟩) dX2_ticks_24 [] (by decide) rfl rfl (List.forall_mem_cons.mpr ⟨(gg_i 1 rfl), (fun _ h => by cases h)⟩) (gg_i 1 rfl) rfl rfl (Nat.le_of_ble_eq_true rfl) (by first | (rw [hRc]; dsimp only; omega) | (rw [hRc]; exact Nat.le_of_ble_eq_true rfl)) (by first | (rw [hRs]; dsimp only; omega) | (rw [hRs]; exact Nat.le_of_ble_eq_true rfl)) ?_ (fun X q C1 h => h.elim)
  rintro _ _ ⟨rfl, rfl⟩
  dsimp only [List.cons_append, List.nil_append, Option.toList]
  refine gg_istore_n (lv' := [_, _, _, _]) (pc := 29) E dX2_ticks_29 rfl (Nat.le_of_ble_eq_true rfl) rfl rfl ?_
  refine gg_iconst (v := 0) (pc := 30) E dX2_ticks_30 (by decide) ?_
  refine gg_istore_n (lv' := [_, _, _, _]) (pc := 31) E dX2_ticks_31 rfl (Nat.le_of_ble_eq_true rfl) rfl rfl ?_
  have L32 : ∀ (n : Nat) (i : Nat) (tu1 sn1 hd1 : Nat → Nat) (m31 : Int32) (nt1 : Nat) (P1 : gg_S), nt - i < n → (i ≤ nt) → (Po g P1 sn1 wo (arF (tk1 row) i) nw nt1) → (Gw (arF (tk1 row) i) nr nw nt1) → (nt ≤ nt1) → (∀ j, 3 ≤ j → j ≤ 6 → (arF (tk1 row) i) j = tk1 row j) → (Sub P P1) → gg_W p l e R s m args below meth c g A 4 Q (5 * (nt1 - nt)) (60 * (nt1 - nt)) [[(w, .inl (1, [.ref (ad 1), .ref (ad 3), .ref (ad 4), .ref (ad 6), .ref (ad 7), .int (nI (tm + 1)), .int c7, (va_rf rt0)]))], [((ad 4), .inl (11, [.int m31, .ref (ad 5), .int (nI nt1)]))], [((ad 5), gg_ao g 4 30 (lsF tu1 nt1))], (mp (tuN tu1 sn1 hd1 (arF (tk1 row) i)) (nt1)), (mp (heN g hd1 (arF (tk1 row) i)) (nt1)), [((ad 7), gg_ai g 11 (fun j => (arF (tk1 row) i) (10 + j)))], (mp (rfN ra nm row) nr), P1] [some (.ref w), some (.int (nI nt)), some (.int (nI i)), none] [] 32 := by
    intro n32
    induction n32 with
    | zero => intro i tu1 sn1 hd1 m31 nt1 P1 hmz; exact absurd hmz (Nat.not_lt_zero _)
    | succ n32 ih32 =>
      intro i tu1 sn1 hd1 m31 nt1 P1 hm32 hi hP hG1 hn1 h36 hPP
      have h3i : (arF (tk1 row) i) 3 = nI (tm + 1) := (h36 3 (by omega) (by omega)).trans (tk1_3 htm)
      have h130 := hG1.2.2.1.2.1
      have hmx : nt1 ≤ ntn (tkF row nr nw) := by rw [htn]; have z := ar_mono hG0 (nt - i) i (by omega); rw [show i + (nt - i) = nt by omega, ntn_G hG1] at z; exact z
      refine gg_iload_n (pc := 32) E dX2_ticks_32 rfl rfl ?_
      refine gg_iload_n (pc := 33) E dX2_ticks_33 rfl rfl ?_
      refine gg_icmpN_ge (tgt := 79) (pc := 34) E i nt rfl rfl (by omega) (by omega) dX2_ticks_34 (by decide) (fun c34 => ?_) (fun c34 => ?_)
      · obtain rfl : nt = i := by omega
        have hR1 : ∀ a, rt0 = some a → Rt g P1 a (arF (tk1 row) nt) nr nw := fun a h => Rt_keep (P := P1) (hPP _ (hR a h)) h20 (fun j h1 h2 => (ar_lo hG0 nt (Nat.le_refl _) j (by omega) h2).trans (tk1_out (by omega) (by omega)))
        have h25 : ∀ j, 25 ≤ j → j < 220 → arF (tk1 row) nt j = row j := fun j a b => (ar_lo hG0 nt (Nat.le_refl _) j a b).trans (tk1_out (by omega) (by omega))
        have h5 : arF (tk1 row) nt 5 = row 5 := (h36 5 (by omega) (by omega)).trans (tk1_out (by omega) (by omega))
        have htk := tk_e (nw := nw) hG
        have hta : tka row nt ↔ ∃ t, t < nt1 ∧ arF (tk1 row) nt (220 + 27 * t + 3) = 0 := by unfold tka; rw [ntn_G hG1]
        have hRn : ntn (tkF row nr nw) = nt1 := by rw [htn, ntn_G hG1]
        generalize arF (tk1 row) nt = r1 at hG1 hP h36 hR1 h25 h5 htk hta h3i ⊢
        refine gg_seg (S' := (mp (rfN ra nm r1) nr)) (M' := [_, _, _, _, _, _, _, _]) 6 rfl (mp_eq fun k hk => rfN_eq fun d h7 h13 => (h25 _ (by omega) (by omega))) rfl ?_
        refine gg_aload_n (pc := 79) E dX2_ticks_79 rfl rfl ?_
        refine gg_get (pc := 80) E ck_X2 5 q610 rfl (by decide) dX2_ticks_80 (gg_i 0 rfl) rfl ?_
        refine gg_bipush (v := 60) (pc := 83) E dX2_ticks_83 (by decide) ?_
        refine gg_iremN (pc := 85) E (tm + 1) 60 rfl rfl (by omega) (by omega) (by omega) dX2_ticks_85 ?_
        refine gg_aload_n (pc := 86) E dX2_ticks_86 rfl rfl ?_
        refine gg_get (pc := 87) E ck_X2 3 q606 rfl (by decide) dX2_ticks_87 (gg_i 0 rfl) rfl ?_
        refine gg_iconst (v := 1) (pc := 90) E dX2_ticks_90 (by decide) ?_
        refine gg_ialdN (pc := 91) E 1 rfl (by omega) (by omega) dX2_ticks_91 (gg_r 2 rfl) ?_
        refine gg_topI (y := row 5) (hs4 1 (by omega)) ?_
        refine gg_icmp_ge (tgt := 121) (pc := 92) E dX2_ticks_92 (by decide) (fun c92 => ?_) (fun c92 => ?_)
        · have hr2 : rwF r1 nr nw = r1 := if_neg (by rw [h3i, h5, m60_n (by omega)]; exact Int32.not_lt.mpr c92)
          rw [hr2] at htk
          have hw2 : ∀ j, 160 ≤ j → j < 220 → r1 j = r1 j := fun _ _ _ => rfl
          have h02 : ∀ t, r1 (220 + 27 * t + 3) = 0 → r1 (220 + 27 * t + 3) = 0 := fun _ h => h
          obtain ⟨r2, hr12⟩ : ∃ r2, r2 = r1 := ⟨r1, rfl⟩
          have hG3 : Gw r2 nr nw nt1 := by rw [hr12]; exact hG1
          rw [← hr12] at htk hP hR1 h02
          rw [← hr12]
          refine gg_iconst (v := 0) (pc := 121) E dX2_ticks_121 (by decide) ?_
          refine gg_istore_n (lv' := [_, _, _, _]) (pc := 122) E dX2_ticks_122 rfl (Nat.le_of_ble_eq_true rfl) rfl rfl ?_
          have L123 : ∀ (n : Nat) (j3 : Nat) (rt5 : Option Nat) (P5 : gg_S), nt1 - j3 < n → (j3 ≤ nt1) → (Po g P5 sn1 wo (loF r2 nw j3) nw nt1) → (∀ a, rt5 = some a → Rt g P5 a (loF r2 nw j3) nr nw) → (lyC rt5 ≤ lyC rt0) → (lyS rt5 ≤ lyS rt0) → (rt5 = none → ∀ t, t < j3 → ¬ r2 (220 + 27 * t + 3) = 0) → (rt5 = none → r2 = r1) → (¬ tka row nt → rt5 = rt0) → (Sub P P5) → gg_W p l e R s m args below meth c g A 4 Q (5 * (nt1 - nt) + (qk (tka row nt) rt0 - lyC rt5) + 20) (60 * (nt1 - nt) + (qs (tka row nt) rt0 - lyS rt5) + 100) [[(w, .inl (1, [.ref (ad 1), .ref (ad 3), .ref (ad 4), .ref (ad 6), .ref (ad 7), .int (nI (tm + 1)), .int c7, (va_rf rt5)]))], [((ad 4), .inl (11, [.int m31, .ref (ad 5), .int (nI nt1)]))], [((ad 5), gg_ao g 4 30 (lsF tu1 nt1))], (mp (tuN tu1 sn1 hd1 (loF r2 nw j3)) (nt1)), (mp (heN g hd1 r2) (nt1)), [((ad 7), gg_ai g 11 (fun j => (loF r2 nw j3) (10 + j)))], (mp (rfN ra nm r2) nr), P5] [some (.ref w), some (.int (nI nt)), some (.int (nI j3)), none] [] 123 := by
            intro n123
            induction n123 with
            | zero => intro j3 rt5 P5 hmz; exact absurd hmz (Nat.not_lt_zero _)
            | succ n123 ih123 =>
              intro j3 rt5 P5 hm123 hj hP hR hlc hls hno hq2 hsm hS
              refine gg_iload_n (pc := 123) E dX2_ticks_123 rfl rfl ?_
              refine gg_aload_n (pc := 124) E dX2_ticks_124 rfl rfl ?_
              refine gg_get (pc := 125) E ck_X2 2 q604 rfl (by decide) dX2_ticks_125 (gg_i 0 rfl) rfl ?_
              refine gg_callF (F := [_, _, _, _, _, _, _, _]) (As := []) (rest := [_]) (pc := 128) E ck_J2 (ct_J2_size hl ) (gg_cwF 0 E (x := ⟨"java/util/List", "size", "()I"⟩) (by decide) nq1046 nq1044 nq683 (lw_app (lw_in _ [1095, 1043, 1045, 155] (by decide +kernel) (by decide +kernel)) (lw_meth q1047)) (by decide +kernel) ⟨by rw [hRf]; exact Nat.le_of_ble_eq_true rfl, by rw [hRl]; exact Nat.le_of_ble_eq_true rfl⟩) dX2_ticks_128 [] (by decide) rfl rfl (List.forall_mem_cons.mpr ⟨(gg_i 1 rfl), (fun _ h => by cases h)⟩) (gg_i 1 rfl) rfl rfl (Nat.le_of_ble_eq_true rfl) (by first | (rw [hRc]; dsimp only; omega) | (rw [hRc]; exact Nat.le_of_ble_eq_true rfl)) (by first | (rw [hRs]; dsimp only; omega) | (rw [hRs]; exact Nat.le_of_ble_eq_true rfl)) ?_ (fun X q C1 h => h.elim)
              rintro _ _ ⟨rfl, rfl⟩
              dsimp only [List.cons_append, List.nil_append, Option.toList]
              refine gg_icmpN_ge (tgt := 190) (pc := 133) E j3 nt1 rfl rfl (by omega) (by omega) dX2_ticks_133 (by decide) (fun c133 => ?_) (fun c133 => ?_)
              · have hjn : nt1 = j3 := by omega
                have hr2n := ntn_G hG3
                have hT9 : tkF row nr nw = loF r2 nw j3 := by rw [htk, hr2n, hjn]
                have hGj := (lo_G hG3 j3 (by omega)).1
                refine gg_seg (S' := (mp (rfN ra nm (loF r2 nw j3)) nr)) (M' := [_, _, _, _, _, _, _, _]) 6 rfl (mp_eq fun k hk => rfN_eq fun d h7 h13 => (lo_kp j3 _ (by omega) (fun t h => by omega))) rfl ?_
                refine gg_seg (S' := (mp (heN g hd1 (loF r2 nw j3)) nt1)) (M' := [_, _, _, _, _, _, _, _]) 4 rfl (mp_eq fun t ht => heN_eq rfl (fun d hd => lo_kp j3 _ (by omega) (fun t h => by omega)) ((hG3.2.2.1.2.2.2 t ht).2.2.2.2.2.2.2.2.2)) rfl ?_
                refine gg_vret (pc := 190) E Fn rfl dX2_ticks_190 (by first | omega | (dsimp only; omega) | exact Nat.le_of_ble_eq_true rfl) (by first | omega | (dsimp only; omega) | exact Nat.le_of_ble_eq_true rfl) ?_
                rw [hT9]
                refine ⟨tu1, sn1, hd1, m31, nt1, rt5, P5, ⟨hP, hGj.2.2.1.1, hGj.2.2.1.2.1, hR, ⟨?_, hsm⟩, hS⟩, rfl, rfl⟩
                intro hz
                obtain ⟨t, t1, t2⟩ := hta.mp hz
                cases hrt : rt5 with
                | none => exact absurd (by rw [hq2 hrt]; exact t2) (hno hrt t (by omega))
                | some b => exact ⟨b, rfl⟩
              · have hGj := (lo_G hG3 j3 (by omega)).1
                obtain ⟨q1, q2, q3, q4, q5, q6, q7, q8, q9, q10⟩ := hGj.2.2.1.2.2.2 j3 c133
                refine gg_aload_n (pc := 136) E dX2_ticks_136 rfl rfl ?_
                refine gg_iload_n (pc := 137) E dX2_ticks_137 rfl rfl ?_
                refine gg_callV (F := [_, _, _, _, _, _, _, _]) (As := [.int (nI j3)]) (rest := []) (pc := 138) E ck_X2 (ct_X2_tune hl (by omega) (by omega)) (cwV 1 E.2.2.2.2.1 (lw_V q1651 q1652 q1653 q152 q1654) rfl rfl rfl (by decide +kernel) ⟨by rw [hRf]; exact Nat.le_of_ble_eq_true rfl, by rw [hRl]; exact Nat.le_of_ble_eq_true rfl⟩) dX2_ticks_138 [] (by decide) rfl rfl (List.forall_mem_append.mpr ⟨(List.forall_mem_cons.mpr ⟨(gg_i 0 rfl), (List.forall_mem_cons.mpr ⟨(gg_i 1 rfl), (List.forall_mem_cons.mpr ⟨(gg_i 2 rfl), (fun _ h => by cases h)⟩)⟩)⟩), (fun q hq => gg_j 3 rfl hq)⟩) (gg_i 0 rfl) rfl rfl (Nat.le_of_ble_eq_true rfl) (by first | (rw [hRc]; dsimp only; omega) | (rw [hRc]; exact Nat.le_of_ble_eq_true rfl)) (by first | (rw [hRs]; dsimp only; omega) | (rw [hRs]; exact Nat.le_of_ble_eq_true rfl)) ?_ (fun X q C1 h => h.elim)
                rintro _ _ ⟨rfl, rfl⟩
                dsimp only [List.cons_append, List.nil_append, Option.toList]
                refine gg_astore_n (lv' := [_, _, _, _]) (pc := 141) E dX2_ticks_141 rfl (Nat.le_of_ble_eq_true rfl) rfl rfl ?_
                refine gg_aload_n (pc := 142) E dX2_ticks_142 rfl rfl ?_
                refine gg_getN (pc := 143) E ck_X8 8 nq1590 rfl (by decide) dX2_ticks_143 (gg_j 3 rfl (mp_mem (by omega))) rfl ?_
                refine gg_if_ne (tgt := 184) (pc := 146) E dX2_ticks_146 (by decide) (fun c146 => ?_) (fun c146 => ?_)
                · have hst : loF r2 nw (j3 + 1) = loF r2 nw j3 := lo_n (fun q => c146 q.1)
                  rw [← hst] at hP hR
                  rw [← hst]
                  refine gg_iincN (k := 1) (lv' := [_, _, _, _]) (pc := 184) E j3 dX2_ticks_184 rfl rfl rfl (Nat.le_of_ble_eq_true rfl) rfl rfl ?_
                  refine gg_goto (tgt := 123) (pc := 187) E dX2_ticks_187 (by decide) ?_
                  refine gg_cv rfl (gg_leS (gg_leS (gg_leS (gg_leN gg_le0)))) rfl (by first | omega | exact Nat.le_refl _ | (dsimp only; omega)) (by first | omega | exact Nat.le_refl _ | (dsimp only; omega)) (ih123 (j3 + 1) rt5 P5 (by omega) (by omega) (hP) (hR) (hlc) (hls) (fun q t ht => by rcases Nat.lt_or_ge t j3 with z | z; (· exact hno q t z); (· obtain rfl : j3 = t := (by omega); exact fun y => c146 ((lo_kp j3 _ (by omega) (fun t h => by omega)).trans y))) (hq2) (hsm) (hS))
                · have htk9 : tka row nt := hta.mpr ⟨j3, c133, by have z := h02 j3 (lo_was j3 j3 (by exact c146)); exact hr12 ▸ z⟩
                  have hq1 := qk_y (rt := rt0) htk9
                  have hqs1 := qs_y (rt := rt0) htk9
                  have hy1 : ∀ b, lyC (some b) = 0 := fun _ => rfl
                  have hy2 : ∀ b, lyS (some b) = 0 := fun _ => rfl
                  refine gg_aload_n (pc := 149) E dX2_ticks_149 rfl rfl ?_
                  refine gg_aload_n (pc := 150) E dX2_ticks_150 rfl rfl ?_
                  refine gg_getN (pc := 151) E ck_X8 7 nq1587 rfl (by decide) dX2_ticks_151 (gg_j 3 rfl (mp_mem (by omega))) rfl ?_
                  refine gg_topI (y := nI (ta (loF r2 nw j3) j3)) q4 ?_
                  refine gg_aload_n (pc := 154) E dX2_ticks_154 rfl rfl ?_
                  refine gg_getN (pc := 155) E ck_X8 2 nq1575 rfl (by decide) dX2_ticks_155 (gg_j 3 rfl (mp_mem (by omega))) rfl ?_
                  refine gg_topI (y := nI (tg (loF r2 nw j3) j3)) q2 ?_
                  refine gg_callV (F := [_, _, _, _, _, _]) (As := [.int (nI (ta (loF r2 nw j3) j3)), .int (nI (tg (loF r2 nw j3) j3))]) (rest := []) (pc := 158) E ck_X2 (ct_X2_route (rt0 := rt5) (row := (loF r2 nw j3)) hl hP hGj.2.1 hR q7 q6) (cwV 2 E.2.2.2.2.1 (lw_V q1713 q1714 q1715 q152 q1716) rfl rfl rfl (by decide +kernel) ⟨by rw [hRf]; exact Nat.le_of_ble_eq_true rfl, by rw [hRl]; exact Nat.le_of_ble_eq_true rfl⟩) dX2_ticks_158 [0, 7] (by decide) rfl rfl (List.forall_mem_append.mpr ⟨(List.forall_mem_cons.mpr ⟨(gg_r 0 rfl), (List.forall_mem_cons.mpr ⟨(gg_r 3 rfl), (fun _ h => by cases h)⟩)⟩), (fun q hq => gg_rm (List.mem_append_right _ (hq)))⟩) (gg_i 0 rfl) rfl rfl (Nat.le_of_ble_eq_true rfl) (by first | (rw [hRc]; dsimp only; omega) | (rw [hRc]; exact Nat.le_of_ble_eq_true rfl)) (by first | (rw [hRs]; dsimp only; omega) | (rw [hRs]; exact Nat.le_of_ble_eq_true rfl)) ?_ (fun X q C1 h => h.elim)
                  rintro _ _ ⟨rt6, P6, ⟨hP6, hR6, hS6⟩, rfl, rfl⟩
                  dsimp only [List.cons_append, List.nil_append, Option.toList]
                  refine gg_up1 ?_
                  refine gg_up7 ?_
                  refine gg_topI (y := dI (dist (loF r2 nw j3) nw (-1) (tg (loF r2 nw j3) j3) (ta (loF r2 nw j3) j3))) (congrArg dI (dist_symm hGj.2.1 (by omega) (by omega))) ?_
                  refine gg_iconst (v := (-1)) (pc := 161) E dX2_ticks_161 (by decide) ?_
                  refine gg_icmp_eq (tgt := 168) (pc := 162) E dX2_ticks_162 (by decide) (fun c162 => ?_) (fun c162 => ?_)
                  · refine gg_aload_n (pc := 168) E dX2_ticks_168 rfl rfl ?_
                    refine gg_iconst (v := 3) (pc := 169) E dX2_ticks_169 (by decide) ?_
                    refine gg_opn (k := j3) (M' := [_, _, _, _, _, _, _, _, _]) 3 rfl (by omega) rfl ?_
                    refine gg_putN (fs' := [_, _, _, _, _, _, _, _, _, _, _, _, _]) (M' := [_, _, _, _, _, _, _, _, _]) (pc := 170) E ck_X8 8 nq1590 rfl (by decide) dX2_ticks_170 8 rfl rfl (rfl) rfl (Nat.le_of_ble_eq_true rfl) rfl rfl ?_
                    refine gg_aload_n (pc := 173) E dX2_ticks_173 rfl rfl ?_
                    refine gg_get (pc := 174) E ck_X2 4 q608 rfl (by decide) dX2_ticks_174 (gg_i 0 rfl) rfl ?_
                    refine gg_bipush (v := 8) (pc := 177) E dX2_ticks_177 (by decide) ?_
                    refine gg_dup2_11 (pc := 179) E dX2_ticks_179 rfl rfl ?_
                    refine gg_ialdN (pc := 180) E 8 rfl (by omega) (by omega) dX2_ticks_180 (gg_i 5 rfl) ?_
                    refine gg_iconst (v := 1) (pc := 181) E dX2_ticks_181 (by decide) ?_
                    refine gg_iadd (pc := 182) E dX2_ticks_182 ?_
                    refine gg_iastN (M' := [_, _, _, _, _, _, _, _, _]) (pc := 183) E 8 rfl (by omega) (by omega) dX2_ticks_183 5 rfl rfl ?_
                    have hst : loF r2 nw (j3 + 1) = (cn (upd (loF r2 nw j3) (220 + 27 * j3 + 3) 3) 8 1) := lo_y ⟨c146, dI_m1 (dist81 hGj.2.1 (by omega) _) c162⟩
                    have hz6 := hy1 rt6
                    have hz7 := hy2 rt6
                    replace hP6 : Po g P6 sn1 wo (loF r2 nw (j3 + 1)) nw nt1 := by rw [hst]; exact Po_keep hP6 (fun t ht => (hGj.2.2.1.2.2.2 t ht).2.2.2.2.2.2.2.2.2) (fun t ht d hd => lo_1 (by omega) (by omega)) (fun i h1 h2 => lo_1 (by omega) (by omega)) h20
                    replace hR6 : Rt g P6 rt6 (loF r2 nw (j3 + 1)) nr nw := by rw [hst]; exact Rt_keep hR6 h20 (fun i h1 h2 => lo_1 (by omega) (by omega))
                    refine gg_cls (F' := (tuN tu1 sn1 hd1 (cn (upd (loF r2 nw j3) (220 + 27 * j3 + 3) 3) 8 1))) (M' := [_, _, _, _, _, _, _, _]) 3 rfl rfl (by omega) lo_t (fun i hi hne => tuN_eq rfl rfl rfl fun d hd => lo_1 (by omega) (by omega)) rfl ?_
                    refine gg_cel (y := gg_ai g 11 (fun j => (cn (upd (loF r2 nw j3) (220 + 27 * j3 + 3) 3) 8 1) (10 + j))) 5 rfl (gg_ai_congr fun i hi => lo_ac hi) rfl ?_
                    rw [← hst]
                    refine gg_iincN (k := 1) (lv' := [_, _, _, _]) (pc := 184) E j3 dX2_ticks_184 rfl rfl rfl (Nat.le_of_ble_eq_true rfl) rfl rfl ?_
                    refine gg_goto (tgt := 123) (pc := 187) E dX2_ticks_187 (by decide) ?_
                    refine gg_cv rfl (gg_leS (gg_leS (gg_leS (gg_leN gg_le0)))) rfl (by first | omega | exact Nat.le_refl _ | (dsimp only; omega)) (by first | omega | exact Nat.le_refl _ | (dsimp only; omega)) (ih123 (j3 + 1) (some rt6) P6 (by omega) (by omega) (hP6) (fun a h => by cases h; exact hR6) (Nat.zero_le _) (Nat.zero_le _) (fun q => by cases q) (fun q => by cases q) (fun q => absurd htk9 q) (fun q h => hS6 q (hS q h)))
                  · refine gg_goto (tgt := 184) (pc := 165) E dX2_ticks_165 (by decide) ?_
                    have hst : loF r2 nw (j3 + 1) = loF r2 nw j3 := lo_n (fun q => c162 (by rw [q.2]; rfl))
                    have hz6 := hy1 rt6
                    have hz7 := hy2 rt6
                    rw [← hst] at hP6 hR6
                    rw [← hst]
                    refine gg_iincN (k := 1) (lv' := [_, _, _, _]) (pc := 184) E j3 dX2_ticks_184 rfl rfl rfl (Nat.le_of_ble_eq_true rfl) rfl rfl ?_
                    refine gg_goto (tgt := 123) (pc := 187) E dX2_ticks_187 (by decide) ?_
                    refine gg_cv rfl (gg_leS (gg_leS (gg_leS (gg_leN gg_le0)))) rfl (by first | omega | exact Nat.le_refl _ | (dsimp only; omega)) (by first | omega | exact Nat.le_refl _ | (dsimp only; omega)) (ih123 (j3 + 1) (some rt6) P6 (by omega) (by omega) (hP6) (fun a h => by cases h; exact hR6) (Nat.zero_le _) (Nat.zero_le _) (fun q => by cases q) (fun q => by cases q) (fun q => absurd htk9 q) (fun q h => hS6 q (hS q h)))
          refine gg_cv rfl (gg_leS (gg_leS (gg_leS (gg_leN gg_le0)))) rfl (by first | omega | exact Nat.le_refl _ | (dsimp only; omega)) (by first | omega | exact Nat.le_refl _ | (dsimp only; omega)) (L123 _ 0 rt0 P1 (Nat.lt_succ_self _) (Nat.zero_le _) (hP) (hR1) (Nat.le_refl _) (Nat.le_refl _) (fun _ t h => absurd h (Nat.not_lt_zero t)) (fun _ => hr12) (fun _ => rfl) (hPP))
        · refine gg_iconst (v := 0) (pc := 95) E dX2_ticks_95 (by decide) ?_
          refine gg_istore_n (lv' := [_, _, _, _]) (pc := 96) E dX2_ticks_96 rfl (Nat.le_of_ble_eq_true rfl) rfl rfl ?_
          have L97 : ∀ (n : Nat) (k1 : Nat) (rt : Option Nat) (P3 : gg_S), nr - k1 < n → (k1 ≤ nr) → (Po g P3 sn1 wo (rfF r1 nw k1) nw nt1) → (∀ a, rt = some a → Rt g P3 a (rfF r1 nw k1) nr nw) → (lyC rt ≤ lyC rt0) → (lyS rt ≤ lyS rt0) → (rt = none → (rfF r1 nw k1) = r1) → (¬ tka row nt → rt = rt0) → (Sub P P3) → gg_W p l e R s m args below meth c g A 4 Q (5 * (nt1 - nt) + (qk (tka row nt) rt0 - lyC rt) + 2 * k1) (60 * (nt1 - nt) + (qs (tka row nt) rt0 - lyS rt) + 10 * k1) [[(w, .inl (1, [.ref (ad 1), .ref (ad 3), .ref (ad 4), .ref (ad 6), .ref (ad 7), .int (nI (tm + 1)), .int c7, (va_rf rt)]))], [((ad 4), .inl (11, [.int m31, .ref (ad 5), .int (nI nt1)]))], [((ad 5), gg_ao g 4 30 (lsF tu1 nt1))], (mp (tuN tu1 sn1 hd1 (rfF r1 nw k1)) (nt1)), (mp (heN g hd1 r1) (nt1)), [((ad 7), gg_ai g 11 (fun j => (rfF r1 nw k1) (10 + j)))], (mp (rfN ra nm (rfF r1 nw k1)) nr), P3] [some (.ref w), some (.int (nI nt)), some (.int (nI k1)), none] [] 97 := by
            intro n97
            induction n97 with
            | zero => intro k1 rt P3 hmz; exact absurd hmz (Nat.not_lt_zero _)
            | succ n97 ih97 =>
              intro k1 rt P3 hm97 hk1 hP hR hlc hls hq2 hsm hS
              refine gg_iload_n (pc := 97) E dX2_ticks_97 rfl rfl ?_
              refine gg_aload_n (pc := 98) E dX2_ticks_98 rfl rfl ?_
              refine gg_get (pc := 99) E ck_X2 0 q598 rfl (by decide) dX2_ticks_99 (gg_i 0 rfl) rfl ?_
              refine gg_callF (F := [_, _, _, _, _, _, _, _]) (As := []) (rest := [_]) (pc := 102) E ck_J2 (ct_J2_size hl ) (gg_cwF 0 E (x := ⟨"java/util/List", "size", "()I"⟩) (by decide) nq1046 nq1044 nq683 (lw_app (lw_in _ [1095, 1043, 1045, 155] (by decide +kernel) (by decide +kernel)) (lw_meth q1047)) (by decide +kernel) ⟨by rw [hRf]; exact Nat.le_of_ble_eq_true rfl, by rw [hRl]; exact Nat.le_of_ble_eq_true rfl⟩) dX2_ticks_102 [] (by decide) rfl rfl (List.forall_mem_cons.mpr ⟨(gg_r 0 rfl), (fun _ h => by cases h)⟩) (gg_r 0 rfl) rfl rfl (Nat.le_of_ble_eq_true rfl) (by first | (rw [hRc]; dsimp only; omega) | (rw [hRc]; exact Nat.le_of_ble_eq_true rfl)) (by first | (rw [hRs]; dsimp only; omega) | (rw [hRs]; exact Nat.le_of_ble_eq_true rfl)) ?_ (fun X q C1 h => h.elim)
              rintro _ _ ⟨rfl, rfl⟩
              dsimp only [List.cons_append, List.nil_append, Option.toList]
              refine gg_icmpN_ge (tgt := 121) (pc := 107) E k1 nr rfl rfl (by omega) (by omega) dX2_ticks_107 (by decide) (fun c107 => ?_) (fun c107 => ?_)
              · obtain rfl : nr = k1 := by omega
                have hr2 : rwF r1 nr nw = rfF r1 nw nr := if_pos (by rw [h3i, h5, m60_n (by omega)]; exact Int32.not_le.mp c92)
                have hG3 := (rf_G hG1 h3i (by omega) nr (Nat.le_refl _)).1
                have hw2 := rf_w hG1 h3i (by omega) nr (Nat.le_refl _)
                have he2 := rf_e hG1 h3i (by omega) nr (Nat.le_refl _)
                have h02 := rf_was hG1 h3i (by omega) nr (Nat.le_refl _)
                rw [hr2] at htk
                generalize rfF r1 nw nr = r2 at hP hR hq2 htk hG3 hw2 he2 h02 ⊢
                refine gg_seg (S' := (mp (heN g hd1 r2) nt1)) (M' := [_, _, _, _, _, _, _, _]) 4 rfl (mp_eq fun t ht => heN_eq rfl (fun d hd => he2 t d (by omega)) ((hG1.2.2.1.2.2.2 t ht).2.2.2.2.2.2.2.2.2)) rfl ?_
                refine gg_iconst (v := 0) (pc := 121) E dX2_ticks_121 (by decide) ?_
                refine gg_istore_n (lv' := [_, _, _, _]) (pc := 122) E dX2_ticks_122 rfl (Nat.le_of_ble_eq_true rfl) rfl rfl ?_
                have L123 : ∀ (n : Nat) (j3 : Nat) (rt5 : Option Nat) (P5 : gg_S), nt1 - j3 < n → (j3 ≤ nt1) → (Po g P5 sn1 wo (loF r2 nw j3) nw nt1) → (∀ a, rt5 = some a → Rt g P5 a (loF r2 nw j3) nr nw) → (lyC rt5 ≤ lyC rt0) → (lyS rt5 ≤ lyS rt0) → (rt5 = none → ∀ t, t < j3 → ¬ r2 (220 + 27 * t + 3) = 0) → (rt5 = none → r2 = r1) → (¬ tka row nt → rt5 = rt0) → (Sub P P5) → gg_W p l e R s m args below meth c g A 4 Q (5 * (nt1 - nt) + (qk (tka row nt) rt0 - lyC rt5) + 20) (60 * (nt1 - nt) + (qs (tka row nt) rt0 - lyS rt5) + 100) [[(w, .inl (1, [.ref (ad 1), .ref (ad 3), .ref (ad 4), .ref (ad 6), .ref (ad 7), .int (nI (tm + 1)), .int c7, (va_rf rt5)]))], [((ad 4), .inl (11, [.int m31, .ref (ad 5), .int (nI nt1)]))], [((ad 5), gg_ao g 4 30 (lsF tu1 nt1))], (mp (tuN tu1 sn1 hd1 (loF r2 nw j3)) (nt1)), (mp (heN g hd1 r2) (nt1)), [((ad 7), gg_ai g 11 (fun j => (loF r2 nw j3) (10 + j)))], (mp (rfN ra nm r2) nr), P5] [some (.ref w), some (.int (nI nt)), some (.int (nI j3)), none] [] 123 := by
                  intro n123
                  induction n123 with
                  | zero => intro j3 rt5 P5 hmz; exact absurd hmz (Nat.not_lt_zero _)
                  | succ n123 ih123 =>
                    intro j3 rt5 P5 hm123 hj hP hR hlc hls hno hq2 hsm hS
                    refine gg_iload_n (pc := 123) E dX2_ticks_123 rfl rfl ?_
                    refine gg_aload_n (pc := 124) E dX2_ticks_124 rfl rfl ?_
                    refine gg_get (pc := 125) E ck_X2 2 q604 rfl (by decide) dX2_ticks_125 (gg_i 0 rfl) rfl ?_
                    refine gg_callF (F := [_, _, _, _, _, _, _, _]) (As := []) (rest := [_]) (pc := 128) E ck_J2 (ct_J2_size hl ) (gg_cwF 0 E (x := ⟨"java/util/List", "size", "()I"⟩) (by decide) nq1046 nq1044 nq683 (lw_app (lw_in _ [1095, 1043, 1045, 155] (by decide +kernel) (by decide +kernel)) (lw_meth q1047)) (by decide +kernel) ⟨by rw [hRf]; exact Nat.le_of_ble_eq_true rfl, by rw [hRl]; exact Nat.le_of_ble_eq_true rfl⟩) dX2_ticks_128 [] (by decide) rfl rfl (List.forall_mem_cons.mpr ⟨(gg_i 1 rfl), (fun _ h => by cases h)⟩) (gg_i 1 rfl) rfl rfl (Nat.le_of_ble_eq_true rfl) (by first | (rw [hRc]; dsimp only; omega) | (rw [hRc]; exact Nat.le_of_ble_eq_true rfl)) (by first | (rw [hRs]; dsimp only; omega) | (rw [hRs]; exact Nat.le_of_ble_eq_true rfl)) ?_ (fun X q C1 h => h.elim)
                    rintro _ _ ⟨rfl, rfl⟩
                    dsimp only [List.cons_append, List.nil_append, Option.toList]
                    refine gg_icmpN_ge (tgt := 190) (pc := 133) E j3 nt1 rfl rfl (by omega) (by omega) dX2_ticks_133 (by decide) (fun c133 => ?_) (fun c133 => ?_)
                    · have hjn : nt1 = j3 := by omega
                      have hr2n := ntn_G hG3
                      have hT9 : tkF row nr nw = loF r2 nw j3 := by rw [htk, hr2n, hjn]
                      have hGj := (lo_G hG3 j3 (by omega)).1
                      refine gg_seg (S' := (mp (rfN ra nm (loF r2 nw j3)) nr)) (M' := [_, _, _, _, _, _, _, _]) 6 rfl (mp_eq fun k hk => rfN_eq fun d h7 h13 => (lo_kp j3 _ (by omega) (fun t h => by omega))) rfl ?_
                      refine gg_seg (S' := (mp (heN g hd1 (loF r2 nw j3)) nt1)) (M' := [_, _, _, _, _, _, _, _]) 4 rfl (mp_eq fun t ht => heN_eq rfl (fun d hd => lo_kp j3 _ (by omega) (fun t h => by omega)) ((hG3.2.2.1.2.2.2 t ht).2.2.2.2.2.2.2.2.2)) rfl ?_
                      refine gg_vret (pc := 190) E Fn rfl dX2_ticks_190 (by first | omega | (dsimp only; omega) | exact Nat.le_of_ble_eq_true rfl) (by first | omega | (dsimp only; omega) | exact Nat.le_of_ble_eq_true rfl) ?_
                      rw [hT9]
                      refine ⟨tu1, sn1, hd1, m31, nt1, rt5, P5, ⟨hP, hGj.2.2.1.1, hGj.2.2.1.2.1, hR, ⟨?_, hsm⟩, hS⟩, rfl, rfl⟩
                      intro hz
                      obtain ⟨t, t1, t2⟩ := hta.mp hz
                      cases hrt : rt5 with
                      | none => exact absurd (by rw [hq2 hrt]; exact t2) (hno hrt t (by omega))
                      | some b => exact ⟨b, rfl⟩
                    · have hGj := (lo_G hG3 j3 (by omega)).1
                      obtain ⟨q1, q2, q3, q4, q5, q6, q7, q8, q9, q10⟩ := hGj.2.2.1.2.2.2 j3 c133
                      refine gg_aload_n (pc := 136) E dX2_ticks_136 rfl rfl ?_
                      refine gg_iload_n (pc := 137) E dX2_ticks_137 rfl rfl ?_
                      refine gg_callV (F := [_, _, _, _, _, _, _, _]) (As := [.int (nI j3)]) (rest := []) (pc := 138) E ck_X2 (ct_X2_tune hl (by omega) (by omega)) (cwV 1 E.2.2.2.2.1 (lw_V q1651 q1652 q1653 q152 q1654) rfl rfl rfl (by decide +kernel) ⟨by rw [hRf]; exact Nat.le_of_ble_eq_true rfl, by rw [hRl]; exact Nat.le_of_ble_eq_true rfl⟩) dX2_ticks_138 [] (by decide) rfl rfl (List.forall_mem_append.mpr ⟨(List.forall_mem_cons.mpr ⟨(gg_i 0 rfl), (List.forall_mem_cons.mpr ⟨(gg_i 1 rfl), (List.forall_mem_cons.mpr ⟨(gg_i 2 rfl), (fun _ h => by cases h)⟩)⟩)⟩), (fun q hq => gg_j 3 rfl hq)⟩) (gg_i 0 rfl) rfl rfl (Nat.le_of_ble_eq_true rfl) (by first | (rw [hRc]; dsimp only; omega) | (rw [hRc]; exact Nat.le_of_ble_eq_true rfl)) (by first | (rw [hRs]; dsimp only; omega) | (rw [hRs]; exact Nat.le_of_ble_eq_true rfl)) ?_ (fun X q C1 h => h.elim)
                      rintro _ _ ⟨rfl, rfl⟩
                      dsimp only [List.cons_append, List.nil_append, Option.toList]
                      refine gg_astore_n (lv' := [_, _, _, _]) (pc := 141) E dX2_ticks_141 rfl (Nat.le_of_ble_eq_true rfl) rfl rfl ?_
                      refine gg_aload_n (pc := 142) E dX2_ticks_142 rfl rfl ?_
                      refine gg_getN (pc := 143) E ck_X8 8 nq1590 rfl (by decide) dX2_ticks_143 (gg_j 3 rfl (mp_mem (by omega))) rfl ?_
                      refine gg_if_ne (tgt := 184) (pc := 146) E dX2_ticks_146 (by decide) (fun c146 => ?_) (fun c146 => ?_)
                      · have hst : loF r2 nw (j3 + 1) = loF r2 nw j3 := lo_n (fun q => c146 q.1)
                        rw [← hst] at hP hR
                        rw [← hst]
                        refine gg_iincN (k := 1) (lv' := [_, _, _, _]) (pc := 184) E j3 dX2_ticks_184 rfl rfl rfl (Nat.le_of_ble_eq_true rfl) rfl rfl ?_
                        refine gg_goto (tgt := 123) (pc := 187) E dX2_ticks_187 (by decide) ?_
                        refine gg_cv rfl (gg_leS (gg_leS (gg_leS (gg_leN gg_le0)))) rfl (by first | omega | exact Nat.le_refl _ | (dsimp only; omega)) (by first | omega | exact Nat.le_refl _ | (dsimp only; omega)) (ih123 (j3 + 1) rt5 P5 (by omega) (by omega) (hP) (hR) (hlc) (hls) (fun q t ht => by rcases Nat.lt_or_ge t j3 with z | z; (· exact hno q t z); (· obtain rfl : j3 = t := (by omega); exact fun y => c146 ((lo_kp j3 _ (by omega) (fun t h => by omega)).trans y))) (hq2) (hsm) (hS))
                      · have htk9 : tka row nt := hta.mpr ⟨j3, c133, by have z := h02 j3 (lo_was j3 j3 (by exact c146)); exact z⟩
                        have hq1 := qk_y (rt := rt0) htk9
                        have hqs1 := qs_y (rt := rt0) htk9
                        have hy1 : ∀ b, lyC (some b) = 0 := fun _ => rfl
                        have hy2 : ∀ b, lyS (some b) = 0 := fun _ => rfl
                        refine gg_aload_n (pc := 149) E dX2_ticks_149 rfl rfl ?_
                        refine gg_aload_n (pc := 150) E dX2_ticks_150 rfl rfl ?_
                        refine gg_getN (pc := 151) E ck_X8 7 nq1587 rfl (by decide) dX2_ticks_151 (gg_j 3 rfl (mp_mem (by omega))) rfl ?_
                        refine gg_topI (y := nI (ta (loF r2 nw j3) j3)) q4 ?_
                        refine gg_aload_n (pc := 154) E dX2_ticks_154 rfl rfl ?_
                        refine gg_getN (pc := 155) E ck_X8 2 nq1575 rfl (by decide) dX2_ticks_155 (gg_j 3 rfl (mp_mem (by omega))) rfl ?_
                        refine gg_topI (y := nI (tg (loF r2 nw j3) j3)) q2 ?_
                        refine gg_callV (F := [_, _, _, _, _, _]) (As := [.int (nI (ta (loF r2 nw j3) j3)), .int (nI (tg (loF r2 nw j3) j3))]) (rest := []) (pc := 158) E ck_X2 (ct_X2_route (rt0 := rt5) (row := (loF r2 nw j3)) hl hP hGj.2.1 hR q7 q6) (cwV 2 E.2.2.2.2.1 (lw_V q1713 q1714 q1715 q152 q1716) rfl rfl rfl (by decide +kernel) ⟨by rw [hRf]; exact Nat.le_of_ble_eq_true rfl, by rw [hRl]; exact Nat.le_of_ble_eq_true rfl⟩) dX2_ticks_158 [0, 7] (by decide) rfl rfl (List.forall_mem_append.mpr ⟨(List.forall_mem_cons.mpr ⟨(gg_r 0 rfl), (List.forall_mem_cons.mpr ⟨(gg_r 3 rfl), (fun _ h => by cases h)⟩)⟩), (fun q hq => gg_rm (List.mem_append_right _ (hq)))⟩) (gg_i 0 rfl) rfl rfl (Nat.le_of_ble_eq_true rfl) (by first | (rw [hRc]; dsimp only; omega) | (rw [hRc]; exact Nat.le_of_ble_eq_true rfl)) (by first | (rw [hRs]; dsimp only; omega) | (rw [hRs]; exact Nat.le_of_ble_eq_true rfl)) ?_ (fun X q C1 h => h.elim)
                        rintro _ _ ⟨rt6, P6, ⟨hP6, hR6, hS6⟩, rfl, rfl⟩
                        dsimp only [List.cons_append, List.nil_append, Option.toList]
                        refine gg_up1 ?_
                        refine gg_up7 ?_
                        refine gg_topI (y := dI (dist (loF r2 nw j3) nw (-1) (tg (loF r2 nw j3) j3) (ta (loF r2 nw j3) j3))) (congrArg dI (dist_symm hGj.2.1 (by omega) (by omega))) ?_
                        refine gg_iconst (v := (-1)) (pc := 161) E dX2_ticks_161 (by decide) ?_
                        refine gg_icmp_eq (tgt := 168) (pc := 162) E dX2_ticks_162 (by decide) (fun c162 => ?_) (fun c162 => ?_)
                        · refine gg_aload_n (pc := 168) E dX2_ticks_168 rfl rfl ?_
                          refine gg_iconst (v := 3) (pc := 169) E dX2_ticks_169 (by decide) ?_
                          refine gg_opn (k := j3) (M' := [_, _, _, _, _, _, _, _, _]) 3 rfl (by omega) rfl ?_
                          refine gg_putN (fs' := [_, _, _, _, _, _, _, _, _, _, _, _, _]) (M' := [_, _, _, _, _, _, _, _, _]) (pc := 170) E ck_X8 8 nq1590 rfl (by decide) dX2_ticks_170 8 rfl rfl (rfl) rfl (Nat.le_of_ble_eq_true rfl) rfl rfl ?_
                          refine gg_aload_n (pc := 173) E dX2_ticks_173 rfl rfl ?_
                          refine gg_get (pc := 174) E ck_X2 4 q608 rfl (by decide) dX2_ticks_174 (gg_i 0 rfl) rfl ?_
                          refine gg_bipush (v := 8) (pc := 177) E dX2_ticks_177 (by decide) ?_
                          refine gg_dup2_11 (pc := 179) E dX2_ticks_179 rfl rfl ?_
                          refine gg_ialdN (pc := 180) E 8 rfl (by omega) (by omega) dX2_ticks_180 (gg_i 5 rfl) ?_
                          refine gg_iconst (v := 1) (pc := 181) E dX2_ticks_181 (by decide) ?_
                          refine gg_iadd (pc := 182) E dX2_ticks_182 ?_
                          refine gg_iastN (M' := [_, _, _, _, _, _, _, _, _]) (pc := 183) E 8 rfl (by omega) (by omega) dX2_ticks_183 5 rfl rfl ?_
                          have hst : loF r2 nw (j3 + 1) = (cn (upd (loF r2 nw j3) (220 + 27 * j3 + 3) 3) 8 1) := lo_y ⟨c146, dI_m1 (dist81 hGj.2.1 (by omega) _) c162⟩
                          have hz6 := hy1 rt6
                          have hz7 := hy2 rt6
                          replace hP6 : Po g P6 sn1 wo (loF r2 nw (j3 + 1)) nw nt1 := by rw [hst]; exact Po_keep hP6 (fun t ht => (hGj.2.2.1.2.2.2 t ht).2.2.2.2.2.2.2.2.2) (fun t ht d hd => lo_1 (by omega) (by omega)) (fun i h1 h2 => lo_1 (by omega) (by omega)) h20
                          replace hR6 : Rt g P6 rt6 (loF r2 nw (j3 + 1)) nr nw := by rw [hst]; exact Rt_keep hR6 h20 (fun i h1 h2 => lo_1 (by omega) (by omega))
                          refine gg_cls (F' := (tuN tu1 sn1 hd1 (cn (upd (loF r2 nw j3) (220 + 27 * j3 + 3) 3) 8 1))) (M' := [_, _, _, _, _, _, _, _]) 3 rfl rfl (by omega) lo_t (fun i hi hne => tuN_eq rfl rfl rfl fun d hd => lo_1 (by omega) (by omega)) rfl ?_
                          refine gg_cel (y := gg_ai g 11 (fun j => (cn (upd (loF r2 nw j3) (220 + 27 * j3 + 3) 3) 8 1) (10 + j))) 5 rfl (gg_ai_congr fun i hi => lo_ac hi) rfl ?_
                          rw [← hst]
                          refine gg_iincN (k := 1) (lv' := [_, _, _, _]) (pc := 184) E j3 dX2_ticks_184 rfl rfl rfl (Nat.le_of_ble_eq_true rfl) rfl rfl ?_
                          refine gg_goto (tgt := 123) (pc := 187) E dX2_ticks_187 (by decide) ?_
                          refine gg_cv rfl (gg_leS (gg_leS (gg_leS (gg_leN gg_le0)))) rfl (by first | omega | exact Nat.le_refl _ | (dsimp only; omega)) (by first | omega | exact Nat.le_refl _ | (dsimp only; omega)) (ih123 (j3 + 1) (some rt6) P6 (by omega) (by omega) (hP6) (fun a h => by cases h; exact hR6) (Nat.zero_le _) (Nat.zero_le _) (fun q => by cases q) (fun q => by cases q) (fun q => absurd htk9 q) (fun q h => hS6 q (hS q h)))
                        · refine gg_goto (tgt := 184) (pc := 165) E dX2_ticks_165 (by decide) ?_
                          have hst : loF r2 nw (j3 + 1) = loF r2 nw j3 := lo_n (fun q => c162 (by rw [q.2]; rfl))
                          have hz6 := hy1 rt6
                          have hz7 := hy2 rt6
                          rw [← hst] at hP6 hR6
                          rw [← hst]
                          refine gg_iincN (k := 1) (lv' := [_, _, _, _]) (pc := 184) E j3 dX2_ticks_184 rfl rfl rfl (Nat.le_of_ble_eq_true rfl) rfl rfl ?_
                          refine gg_goto (tgt := 123) (pc := 187) E dX2_ticks_187 (by decide) ?_
                          refine gg_cv rfl (gg_leS (gg_leS (gg_leS (gg_leN gg_le0)))) rfl (by first | omega | exact Nat.le_refl _ | (dsimp only; omega)) (by first | omega | exact Nat.le_refl _ | (dsimp only; omega)) (ih123 (j3 + 1) (some rt6) P6 (by omega) (by omega) (hP6) (fun a h => by cases h; exact hR6) (Nat.zero_le _) (Nat.zero_le _) (fun q => by cases q) (fun q => by cases q) (fun q => absurd htk9 q) (fun q h => hS6 q (hS q h)))
                refine gg_cv rfl (gg_leS (gg_leS (gg_leS (gg_leN gg_le0)))) rfl (by first | omega | exact Nat.le_refl _ | (dsimp only; omega)) (by first | omega | exact Nat.le_refl _ | (dsimp only; omega)) (L123 _ 0 rt P3 (Nat.lt_succ_self _) (Nat.zero_le _) (hP) (hR) (hlc) (hls) (fun _ t h => absurd h (Nat.not_lt_zero t)) (hq2) (hsm) (hS))
              · have hGk := (rf_G hG1 h3i (by omega) k1 (by omega)).1
                have h3k : rfF r1 nw k1 3 = nI (tm + 1) := (rf_lo hG1 h3i (by omega) k1 (by omega) 3 (by omega)).trans h3i
                have hab : aw (rfF r1 nw k1) k1 nt1 → tka row nt := fun q => hta.mpr (by obtain ⟨t, t1, t2⟩ := aw_0 q; exact ⟨t, t1, rf_was hG1 h3i (by omega) k1 (by omega) t t2⟩)
                have hrm := qk_room (rt0 := rt0) (rt := rt) hab hlc hls
                have hstep := rf_s hGk
                refine gg_aload_n (pc := 110) E dX2_ticks_110 rfl rfl ?_
                refine gg_iload_n (pc := 111) E dX2_ticks_111 rfl rfl ?_
                refine gg_callV (F := [_, _, _]) (As := [.int (nI k1)]) (rest := []) (pc := 112) E ck_X2 (ct_X2_whistles (row := rfF r1 nw k1) (rt0 := rt) hl hP hGk hR c107 h3k) (cwV 1 E.2.2.2.2.1 (lw_V q1689 q1691 qs35 q152 q1692) rfl rfl rfl (by decide +kernel) ⟨by rw [hRf]; exact Nat.le_of_ble_eq_true rfl, by rw [hRl]; exact Nat.le_of_ble_eq_true rfl⟩) dX2_ticks_112 [0, 5, 6, 3, 7] (by decide) rfl rfl (List.forall_mem_append.mpr ⟨(List.forall_mem_cons.mpr ⟨(gg_r 0 rfl), (List.forall_mem_cons.mpr ⟨(gg_r 1 rfl), (List.forall_mem_cons.mpr ⟨(gg_i 0 rfl), (List.forall_mem_cons.mpr ⟨(gg_i 1 rfl), (List.forall_mem_cons.mpr ⟨(gg_r 3 rfl), (fun _ h => by cases h)⟩)⟩)⟩)⟩)⟩), (fun q hq => gg_rm (List.mem_append_right _ (hq)))⟩) (gg_i 0 rfl) rfl rfl (Nat.le_of_ble_eq_true rfl) (by first | (rw [hRc]; dsimp only; omega) | (rw [hRc]; exact Nat.le_of_ble_eq_true rfl)) (by first | (rw [hRs]; dsimp only; omega) | (rw [hRs]; exact Nat.le_of_ble_eq_true rfl)) ?_ (fun X q C1 h => h.elim)
                rintro _ _ ⟨rt4, P4, ⟨hP4, hR4, hq4, hS4⟩, rfl, rfl⟩
                dsimp only [List.cons_append, List.nil_append, Option.toList]
                refine gg_up4 ?_
                refine gg_up7 ?_
                refine gg_up7 ?_
                refine gg_up4 ?_
                refine gg_up7 ?_
                have hin := qk_in (rt0 := rt0) (rt := rt) hab hlc hls hq4
                rw [← hstep] at hP4 hR4
                rw [← hstep]
                refine gg_iincN (k := 1) (lv' := [_, _, _, _]) (pc := 115) E k1 dX2_ticks_115 rfl rfl rfl (Nat.le_of_ble_eq_true rfl) rfl rfl ?_
                refine gg_goto (tgt := 97) (pc := 118) E dX2_ticks_118 (by decide) ?_
                refine gg_cv rfl (gg_leS (gg_leS (gg_leS (gg_leN gg_le0)))) rfl (by first | omega | exact Nat.le_refl _ | (dsimp only; omega)) (by first | omega | exact Nat.le_refl _ | (dsimp only; omega)) (ih97 (k1 + 1) rt4 P4 (by omega) (by omega) (hP4) (hR4) (hin.2.2.1) (hin.2.2.2) (fun q => by have hna : ¬ aw (rfF r1 nw k1) k1 nt1 := (fun z => by obtain ⟨b, hb⟩ := hq4.1 z; rw [q] at hb; cases hb); rw [hstep, naw hna]; exact hq2 ((hq4.2 hna).symm.trans q)) (fun q => (hq4.2 (fun z => q (hab z))).trans (hsm q)) (fun q h => hS4 q (hS q h)))
          refine gg_cv rfl (gg_leS (gg_leS (gg_leS (gg_leN gg_le0)))) rfl (by first | omega | exact Nat.le_refl _ | (dsimp only; omega)) (by first | omega | exact Nat.le_refl _ | (dsimp only; omega)) (L97 _ 0 rt0 P1 (Nat.lt_succ_self _) (Nat.zero_le _) (hP) (hR1) (Nat.le_refl _) (Nat.le_refl _) (fun _ => rfl) (fun _ => rfl) (hPP))
      · refine gg_aload_n (pc := 37) E dX2_ticks_37 rfl rfl ?_
        refine gg_iload_n (pc := 38) E dX2_ticks_38 rfl rfl ?_
        refine gg_callV (F := [_, _, _, _, _, _, _, _]) (As := [.int (nI i)]) (rest := []) (pc := 39) E ck_X2 (ct_X2_tune hl (by omega) (by omega)) (cwV 1 E.2.2.2.2.1 (lw_V q1651 q1652 q1653 q152 q1654) rfl rfl rfl (by decide +kernel) ⟨by rw [hRf]; exact Nat.le_of_ble_eq_true rfl, by rw [hRl]; exact Nat.le_of_ble_eq_true rfl⟩) dX2_ticks_39 [] (by decide) rfl rfl (List.forall_mem_append.mpr ⟨(List.forall_mem_cons.mpr ⟨(gg_i 0 rfl), (List.forall_mem_cons.mpr ⟨(gg_i 1 rfl), (List.forall_mem_cons.mpr ⟨(gg_i 2 rfl), (fun _ h => by cases h)⟩)⟩)⟩), (fun q hq => gg_j 3 rfl hq)⟩) (gg_i 0 rfl) rfl rfl (Nat.le_of_ble_eq_true rfl) (by first | (rw [hRc]; dsimp only; omega) | (rw [hRc]; exact Nat.le_of_ble_eq_true rfl)) (by first | (rw [hRs]; dsimp only; omega) | (rw [hRs]; exact Nat.le_of_ble_eq_true rfl)) ?_ (fun X q C1 h => h.elim)
        rintro _ _ ⟨rfl, rfl⟩
        dsimp only [List.cons_append, List.nil_append, Option.toList]
        refine gg_getN (pc := 42) E ck_X8 8 nq1590 rfl (by decide) dX2_ticks_42 (gg_j 3 rfl (mp_mem (by omega))) rfl ?_
        refine gg_iconst (v := 1) (pc := 45) E dX2_ticks_45 (by decide) ?_
        refine gg_icmp_ne (tgt := 73) (pc := 46) E dX2_ticks_46 (by decide) (fun c46 => ?_) (fun c46 => ?_)
        · have hst : arF (tk1 row) (i + 1) = arF (tk1 row) i := by rw [ar_s (nt := nt1) hG1, if_neg (fun q => c46 q.1)]
          rw [← hst] at hP hG1 h36
          rw [← hst]
          refine gg_iincN (k := 1) (lv' := [_, _, _, _]) (pc := 73) E i dX2_ticks_73 rfl rfl rfl (Nat.le_of_ble_eq_true rfl) rfl rfl ?_
          refine gg_goto (tgt := 32) (pc := 76) E dX2_ticks_76 (by decide) ?_
          refine gg_cv rfl (gg_leS (gg_leS (gg_leS (gg_leN gg_le0)))) rfl (by first | omega | exact Nat.le_refl _ | (dsimp only; omega)) (by first | omega | exact Nat.le_refl _ | (dsimp only; omega)) (ih32 (i + 1) tu1 sn1 hd1 m31 nt1 P1 (by omega) (by omega) (hP) (hG1) (hn1) (h36) (hPP))
        · refine gg_aload_n (pc := 49) E dX2_ticks_49 rfl rfl ?_
          refine gg_iload_n (pc := 50) E dX2_ticks_50 rfl rfl ?_
          refine gg_callV (F := [_, _, _, _, _, _, _, _]) (As := [.int (nI i)]) (rest := []) (pc := 51) E ck_X2 (ct_X2_tune hl (by omega) (by omega)) (cwV 1 E.2.2.2.2.1 (lw_V q1651 q1652 q1653 q152 q1654) rfl rfl rfl (by decide +kernel) ⟨by rw [hRf]; exact Nat.le_of_ble_eq_true rfl, by rw [hRl]; exact Nat.le_of_ble_eq_true rfl⟩) dX2_ticks_51 [] (by decide) rfl rfl (List.forall_mem_append.mpr ⟨(List.forall_mem_cons.mpr ⟨(gg_i 0 rfl), (List.forall_mem_cons.mpr ⟨(gg_i 1 rfl), (List.forall_mem_cons.mpr ⟨(gg_i 2 rfl), (fun _ h => by cases h)⟩)⟩)⟩), (fun q hq => gg_j 3 rfl hq)⟩) (gg_i 0 rfl) rfl rfl (Nat.le_of_ble_eq_true rfl) (by first | (rw [hRc]; dsimp only; omega) | (rw [hRc]; exact Nat.le_of_ble_eq_true rfl)) (by first | (rw [hRs]; dsimp only; omega) | (rw [hRs]; exact Nat.le_of_ble_eq_true rfl)) ?_ (fun X q C1 h => h.elim)
          rintro _ _ ⟨rfl, rfl⟩
          dsimp only [List.cons_append, List.nil_append, Option.toList]
          refine gg_getN (pc := 54) E ck_X8 9 nq1593 rfl (by decide) dX2_ticks_54 (gg_j 3 rfl (mp_mem (by omega))) rfl ?_
          refine gg_aload_n (pc := 57) E dX2_ticks_57 rfl rfl ?_
          refine gg_get (pc := 58) E ck_X2 5 q610 rfl (by decide) dX2_ticks_58 (gg_i 0 rfl) rfl ?_
          refine gg_icmp_ne (tgt := 73) (pc := 61) E dX2_ticks_61 (by decide) (fun c61 => ?_) (fun c61 => ?_)
          · have hst : arF (tk1 row) (i + 1) = arF (tk1 row) i := by rw [ar_s (nt := nt1) hG1, if_neg (fun q => c61 (q.2.trans h3i))]
            rw [← hst] at hP hG1 h36
            rw [← hst]
            refine gg_iincN (k := 1) (lv' := [_, _, _, _]) (pc := 73) E i dX2_ticks_73 rfl rfl rfl (Nat.le_of_ble_eq_true rfl) rfl rfl ?_
            refine gg_goto (tgt := 32) (pc := 76) E dX2_ticks_76 (by decide) ?_
            refine gg_cv rfl (gg_leS (gg_leS (gg_leS (gg_leN gg_le0)))) rfl (by first | omega | exact Nat.le_refl _ | (dsimp only; omega)) (by first | omega | exact Nat.le_refl _ | (dsimp only; omega)) (ih32 (i + 1) tu1 sn1 hd1 m31 nt1 P1 (by omega) (by omega) (hP) (hG1) (hn1) (h36) (hPP))
          · obtain ⟨q1, q2, q3, q4, q5, q6, q7, q8, q9, q10⟩ := hG1.2.2.1.2.2.2 i (by omega)
            have hst : arF (tk1 row) (i + 1) = cmF (arF (tk1 row) i) nt1 i := by rw [ar_s (nt := nt1) hG1, if_pos ⟨c46, c61.trans h3i.symm⟩]
            have hmn : ntn (cmF (arF (tk1 row) i) nt1 i) ≤ ntn (tkF row nr nw) := by
              rw [← hst, htn]
              have z := ar_mono hG0 (nt - (i + 1)) (i + 1) (by omega)
              rwa [show i + 1 + (nt - (i + 1)) = nt by omega] at z
            have hge : nt1 ≤ ntn (cmF (arF (tk1 row) i) nt1 i) := by
              obtain ⟨n9, z1, z2⟩ := cm_G (t := i) hG1 (by omega)
              rw [ntn_G z2]
              exact z1
            refine gg_aload_n (pc := 64) E dX2_ticks_64 rfl rfl ?_
            refine gg_aload_n (pc := 65) E dX2_ticks_65 rfl rfl ?_
            refine gg_iload_n (pc := 66) E dX2_ticks_66 rfl rfl ?_
            refine gg_callV (F := [_, _, _, _, _, _, _, _]) (As := [.int (nI i)]) (rest := [_]) (pc := 67) E ck_X2 (ct_X2_tune hl (by omega) (by omega)) (cwV 1 E.2.2.2.2.1 (lw_V q1651 q1652 q1653 q152 q1654) rfl rfl rfl (by decide +kernel) ⟨by rw [hRf]; exact Nat.le_of_ble_eq_true rfl, by rw [hRl]; exact Nat.le_of_ble_eq_true rfl⟩) dX2_ticks_67 [] (by decide) rfl rfl (List.forall_mem_append.mpr ⟨(List.forall_mem_cons.mpr ⟨(gg_i 0 rfl), (List.forall_mem_cons.mpr ⟨(gg_i 1 rfl), (List.forall_mem_cons.mpr ⟨(gg_i 2 rfl), (fun _ h => by cases h)⟩)⟩)⟩), (fun q hq => gg_j 3 rfl hq)⟩) (gg_i 0 rfl) rfl rfl (Nat.le_of_ble_eq_true rfl) (by first | (rw [hRc]; dsimp only; omega) | (rw [hRc]; exact Nat.le_of_ble_eq_true rfl)) (by first | (rw [hRs]; dsimp only; omega) | (rw [hRs]; exact Nat.le_of_ble_eq_true rfl)) ?_ (fun X q C1 h => h.elim)
            rintro _ _ ⟨rfl, rfl⟩
            dsimp only [List.cons_append, List.nil_append, Option.toList]
            refine gg_callV (F := [_, _]) (As := [_]) (rest := []) (pc := 70) E ck_X2 (ct_X2_lands (row := (arF (tk1 row) i)) (t1 := i) (a1 := ta (arF (tk1 row) i) i) (sf4 := sf4) (rr := row) (nw := nw) (P := P1) hl ((hs4 0 (by omega)).trans ((h36 4 (by omega) (by omega)).trans (tk1_out (by omega) (by omega))).symm) ((hs4 2 (by omega)).trans ((h36 6 (by omega) (by omega)).trans (tk1_out (by omega) (by omega))).symm) (fun j h1 h2 => ((ar_lo hG0 i (by omega) j h1 (by omega)).trans (tk1_out (by omega) (by omega))).symm) hr10 q4 q7 (by omega) hG1.2.2.1.2.1 hG1.2.2.1.1 h20 hP (fun t ht => (hG1.2.2.1.2.2.2 t ht).2.2.2.2.2.2.2.2.2) q9) (cwV 1 E.2.2.2.2.1 (lw_V q1655 q1657 qs33 q152 q1658) rfl rfl rfl (by decide +kernel) ⟨by rw [hRf]; exact Nat.le_of_ble_eq_true rfl, by rw [hRl]; exact Nat.le_of_ble_eq_true rfl⟩) dX2_ticks_70 [1, 2, 3, 4, 5, 7] (by decide) rfl rfl (List.forall_mem_append.mpr ⟨(List.forall_mem_cons.mpr ⟨(gg_i 0 rfl), (List.forall_mem_cons.mpr ⟨(gg_r 0 rfl), (List.forall_mem_cons.mpr ⟨(gg_r 1 rfl), (List.forall_mem_cons.mpr ⟨(gg_r 2 rfl), (fun _ h => by cases h)⟩)⟩)⟩)⟩), (fun q hq => gg_j 1 rfl hq)⟩) (gg_i 0 rfl) rfl rfl (Nat.le_of_ble_eq_true rfl) (by first | (rw [hRc]; dsimp only; omega) | (rw [hRc]; exact Nat.le_of_ble_eq_true rfl)) (by first | (rw [hRs]; dsimp only; omega) | (rw [hRs]; exact Nat.le_of_ble_eq_true rfl)) ?_ (fun X q C1 h => h.elim)
            rintro _ _ ⟨tu4, sn4, hd4, m34, nt4, P4, ⟨hP4, h24, hn4, hPP4⟩, rfl, rfl⟩
            dsimp only [List.cons_append, List.nil_append, Option.toList]
            refine gg_up6 ?_
            refine gg_up6 ?_
            refine gg_up6 ?_
            refine gg_up6 ?_
            refine gg_up6 ?_
            refine gg_up7 ?_
            obtain ⟨hle4, hG4⟩ := cm_Gn hG1 (by omega) h24 hn4
            rw [← hst] at hP4 hG4 hge
            have hnc := ntn_G hG4
            rw [← hst]
            refine gg_iincN (k := 1) (lv' := [_, _, _, _]) (pc := 73) E i dX2_ticks_73 rfl rfl rfl (Nat.le_of_ble_eq_true rfl) rfl rfl ?_
            refine gg_goto (tgt := 32) (pc := 76) E dX2_ticks_76 (by decide) ?_
            refine gg_cv rfl (gg_leS (gg_leS (gg_leS (gg_leN gg_le0)))) rfl (by first | omega | exact Nat.le_refl _ | (dsimp only; omega)) (by first | omega | exact Nat.le_refl _ | (dsimp only; omega)) (ih32 (i + 1) tu4 sn4 hd4 m34 nt4 P4 (by omega) (by omega) (hP4) (hG4) (by omega) (fun j h1 h2 => by rw [hst, cm_3 hG1 (by omega) h1 h2]; exact h36 j h1 h2) (fun q hq => hPP4 q (hPP q hq)))
  refine gg_cv rfl (gg_leS (gg_leS (gg_leS (gg_leN gg_le0)))) rfl (by first | omega | exact Nat.le_refl _ | (dsimp only; omega)) (by first | omega | exact Nat.le_refl _ | (dsimp only; omega)) (L32 _ 0 tu sn hd m3 nt P (Nat.lt_succ_self _) (Nat.zero_le _) (hP0) (hG0) (Nat.le_refl _) (fun _ _ _ => rfl) (fun _ h => h))

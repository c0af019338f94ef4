set_option maxRecDepth 100000
/-! ===== the next roof, what can be whistled, what is chosen ===== -/
theorem nxt_0 {row : Nat → Int32} {nr nw v go : Nat} (hw : Ww row nr nw) (hg : go < 10) (h : ¬ 0 < dI (dist row nw (-1) go v)) : nxt row nw v go = none := by
  unfold nxt
  by_cases e : v = go
  · rw [if_pos (Or.inl e)]
  · cases hd : dist row nw (-1) go v with
    | none => rw [if_pos (Or.inr rfl)]
    | some x =>
      refine absurd ?_ h
      obtain ⟨i, u, y, hE, -, hs⟩ := (dist_is (wo := -1) hw hg).1.2.2 v x hd e
      have := (hw.2.2.2 i hE.1).2.2.2.2.2.2.1
      have := dist81 hw hg v x hd
      rw [hd]
      exact (nI_ltI (a := 0) (by decide) (by omega)).mpr (by omega)
theorem nxt_p {row : Nat → Int32} {nr nw v go : Nat} (hw : Ww row nr nw) (hg : go < 10) (h : 0 < dI (dist row nw (-1) go v)) : nxt row nw v go = nxs row (dist row nw (-1) go) v nw := by
  unfold nxt
  rw [if_neg]
  rintro (e | e)
  · subst e
    rw [(dist_is (wo := -1) hw hg).1.1] at h
    exact absurd h (by decide)
  · rw [e] at h
    exact absurd h (by decide)
/-- whether a tune can be whistled at a roof -/
noncomputable def cbF (row : Nat → Int32) (nw k t : Nat) : Int32 := if row (25 + 13 * ts row t + 10) < row (25 + 13 * k + 9) * br row t then 0 else match dist row nw (-1) (tg row t) k with | none => 0 | some _ => 1
theorem br_ba {row : Nat → Int32} {t : Nat} (h : row (220 + 27 * t + 2) = nI (tno row t)) (h8 : tno row t ≤ 8) : nI (baN (tno row t)) = br row t := by
  unfold br
  rw [h, show (3 : Int32) = nI 3 from rfl, nI_add, show (4 : Int32) = nI 4 from rfl, pk_div (by omega) (by omega) (by omega)]
theorem br_lt {row : Nat → Int32} {t b : Nat} (h : row (220 + 27 * t + 2) = nI (tno row t)) (h8 : tno row t ≤ 8) (h2 : row (220 + 27 * b + 2) = nI (tno row b)) (h82 : tno row b ≤ 8) (hbt : b < t) : br row b < br row t ↔ deaP (tno row t) t (tno row b) b := by
  rw [← br_ba h h8, ← br_ba h2 h82, nI_ltI (by unfold baN; omega) (by unfold baN; omega)]
  unfold deaP
  omega
theorem cb_0 {row : Nat → Int32} {nr nw nt k t : Nat} (hG : Gw row nr nw nt) (ht : t < nt) (hs : row (220 + 27 * t + 3) = 0 ∧ row (220 + 27 * t + 4) = nI k) (hk : k < nr) : cbF row nw k t = 0 ↔ ¬ (¬ row (25 + 13 * ts row t + 10) < row (25 + 13 * k + 9) * br row t ∧ ¬ nxt row nw k (tg row t) = none) := by
  obtain ⟨g1, g2, g3, g4, g5, g6, g7, g8, g9, g10⟩ := hG.2.2.1.2.2.2 t ht
  have h10 := hG.2.1.2.2.1
  obtain ⟨st, s1, s2, s3, s4, s5⟩ := hG.2.2.2.2 t ht
  have st0 : st = 0 := (nI_eq (a := st) (b := 0) (by omega) (by decide)).mp (s1.symm.trans hs.1)
  have hta : ta row t = k := by unfold ta; rw [hs.2, nI_clamp (by omega)]
  have hne : k ≠ tg row t := hta ▸ s4 st0
  unfold cbF
  by_cases c : row (25 + 13 * ts row t + 10) < row (25 + 13 * k + 9) * br row t
  · rw [if_pos c]
    exact ⟨fun _ q => q.1 c, fun _ => rfl⟩
  · rw [if_neg c]
    cases hd : dist row nw (-1) (tg row t) k with
    | none => exact ⟨fun _ q => q.2 (by unfold nxt; rw [if_pos (Or.inr hd)]), fun _ => rfl⟩
    | some d =>
      obtain ⟨u, d', z, -⟩ := nxt_ok hG.2.1 (by omega) hne hd
      refine ⟨fun q => absurd (show (1 : Int32) = 0 from q) (by decide), fun q => absurd ⟨c, ?_⟩ q⟩
      rw [z]
      exact fun q => by cases q
/-- the sender has the fee -/
def rch (row : Nat → Int32) (k t : Nat) : Prop := ¬ row (25 + 13 * ts row t + 10) < row (25 + 13 * k + 9) * br row t
/-- a tune waits at the roof whose sender has the fee -/
def ask (row : Nat → Int32) (k nt : Nat) : Prop := ∃ t, t < nt ∧ (row (220 + 27 * t + 3) = 0 ∧ row (220 + 27 * t + 4) = nI k) ∧ rch row k t
set_option maxHeartbeats 4000000 in
theorem ct_X2_next {l : Launch} (hl : l.stackTraces = false) {g : gg_G}  {w : Nat} {ad : Nat → Nat} {t7 c7 : Int32} {rt0 : Option Nat} {m1 : Int32} {nr : Nat} {nd wo : Nat → Nat} {m2 : Int32} {nw : Nat} {row : Nat → Int32} {P : gg_S} {sn : Nat → Nat} {nt : Nat} {k1 g1 : Nat} (hP : Po g P sn wo row nw nt) (hw : Ww row nr nw) (hR : ∀ a, rt0 = some a → Rt g P a row nr nw) (hk : k1 < nr) (hg : g1 < nr) : gg_C l g yX2_next (ws_ yX2_next cX2_next 8 (some .int)) { frames := 15, cells := (lyC rt0 + 1), slots := (lyS rt0 + 5), locals := 300 } [.ref w, .int (nI k1), .int (nI g1)] ([((ad 1), .inl (11, [.int m1, .ref (ad 2), .int (nI nr)])), ((ad 3), .inl (15, [.int m2, .int (nI nw), llF nd nw, llL nd nw]))] ++ (llS nd wo nw)) [[(w, .inl (1, [.ref (ad 1), .ref (ad 3), .ref (ad 4), .ref (ad 6), .ref (ad 7), .int t7, .int c7, (va_rf rt0)]))], P] (fun vv CC => ∃ (rt2 : Nat) (P2 : gg_S), (Po g P2 sn wo row nw nt ∧ Rt g P2 rt2 row nr nw ∧ Sub P P2) ∧ vv = some (.int (dI (nxt row nw k1 g1))) ∧ CC = [[(w, .inl (1, [.ref (ad 1), .ref (ad 3), .ref (ad 4), .ref (ad 6), .ref (ad 7), .int t7, .int c7, .ref rt2]))], P2]) gg_no := by
  refine gg_of (lv := [_, _, _, _, _, _, _, _]) (by decide) hl (Nat.le_of_ble_eq_true rfl) rfl ?_
  intro p e R s m args below meth c A Q hRf hRl hRc hRs E Fn hnm hex
  have h20 := hw.2.1
  have hr10 := hw.2.2.1
  refine gg_aload_n (pc := 0) E dX2_next_0 rfl rfl ?_
  refine gg_iload_n (pc := 1) E dX2_next_1 rfl rfl ?_
  refine gg_iload_n (pc := 2) E dX2_next_2 rfl rfl ?_
  refine gg_callV (F := []) (As := [.int (nI k1), .int (nI g1)]) (rest := []) (pc := 3) E ck_X2 (ct_X2_route hl hP hw hR hk hg) (cwV 2 E.2.2.2.2.1 (lw_V q1713 q1714 q1715 q152 q1716) rfl rfl rfl (by decide +kernel) ⟨by rw [hRf]; exact Nat.le_of_ble_eq_true rfl, by rw [hRl]; exact Nat.le_of_ble_eq_true rfl⟩) dX2_next_3 [0, 1] (by decide) rfl rfl (List.forall_mem_append.mpr ⟨(List.forall_mem_cons.mpr ⟨(gg_r 0 rfl), (List.forall_mem_cons.mpr ⟨(gg_r 1 rfl), (fun _ h => by cases h)⟩)⟩), (fun q hq => gg_rm (List.mem_append_right _ (hq)))⟩) (gg_i 0 rfl) rfl rfl (Nat.le_of_ble_eq_true rfl) (by first | (rw [hRc]; dsimp only; omega) | (rw [hRc]; exact Nat.le_of_ble_eq_true rfl)) (by first | (rw [hRs]; dsimp only; omega) | (rw [hRs]; exact Nat.le_of_ble_eq_true rfl)) ?_ (fun X q C1 h => h.elim)
  rintro _ _ ⟨rt2, P2, ⟨hP, hR, hS⟩, rfl, rfl⟩
  dsimp only [List.cons_append, List.nil_append, Option.toList]
  refine gg_up1 ?_
  refine gg_up1 ?_
  refine gg_topI (y := dI (dist row nw (-1) g1 k1)) (congrArg dI (dist_symm hw (by omega) (by omega))) ?_
  refine gg_istore_n (lv' := [_, _, _, _, _, _, _, _]) (pc := 6) E dX2_next_6 rfl (Nat.le_of_ble_eq_true rfl) rfl rfl ?_
  refine gg_iconst (v := (-1)) (pc := 7) E dX2_next_7 (by decide) ?_
  refine gg_istore (lv' := [_, _, _, _, _, _, _, _]) (pc := 8) E dX2_next_8 (Nat.le_of_ble_eq_true rfl) rfl rfl ?_
  refine gg_iload_n (pc := 10) E dX2_next_10 rfl rfl ?_
  refine gg_if_gt (tgt := 16) (pc := 11) E dX2_next_11 (by decide) (fun c11 => ?_) (fun c11 => ?_)
  · refine gg_aload_n (pc := 16) E dX2_next_16 rfl rfl ?_
    refine gg_get (pc := 17) E ck_X2 1 q601 rfl (by decide) dX2_next_17 (gg_i 0 rfl) rfl ?_
    refine gg_callU (F := [_, _]) (As := []) (rest := []) (pc := 20) E ck_J19 (ct_J18_iterator hl (by omega)) (va_cwU (own := "WhistlePosts$World") (C := "java/util/LinkedList") (index := 58) (x := ⟨"java/util/LinkedList", "iterator", "()Ljava/util/Iterator;"⟩) (owner := "java/util/AbstractSequentialList") 0 E.2.2.2.2.1 (lw_app (lw_in _ [1190, 1191, 1193, 1194, 172] (by decide +kernel) (by decide +kernel)) (lw_meth q1195)) rfl rfl rfl rfl (by decide +kernel) ⟨by rw [hRf]; exact Nat.le_of_ble_eq_true rfl, by rw [hRl]; exact Nat.le_of_ble_eq_true rfl⟩) dX2_next_20 [] (by decide) rfl rfl (List.forall_mem_append.mpr ⟨(List.forall_mem_cons.mpr ⟨(gg_r 1 rfl), (fun _ h => by cases h)⟩), (fun q hq => gg_rm (List.mem_append_right _ (hq)))⟩) (gg_r 1 rfl) rfl rfl (Nat.le_of_ble_eq_true rfl) (by first | (rw [hRc]; dsimp only; omega) | (rw [hRc]; exact Nat.le_of_ble_eq_true rfl)) (by first | (rw [hRs]; dsimp only; omega) | (rw [hRs]; exact Nat.le_of_ble_eq_true rfl)) ?_ (fun X q C1 h => h.elim)
    rintro _ _ ⟨i1, rfl, rfl⟩
    dsimp only [List.cons_append, List.nil_append, Option.toList]
    refine gg_up2 ?_
    refine gg_astore (lv' := [_, _, _, _, _, _, _, _]) (pc := 23) E dX2_next_23 (Nat.le_of_ble_eq_true rfl) rfl rfl ?_
    have L25 : ∀ (n : Nat) (j1 : Nat) (v : Value) (rt3 : Nat) (P3 : gg_S), nw - j1 < n → (j1 ≤ nw) → (Po g P3 sn wo row nw nt) → (Rt g P3 rt3 row nr nw) → (Sub P P3) → gg_W p l e R s m args below meth c g A 8 Q (lyC rt0 + 1) (lyS rt0 + 5) [[(w, .inl (1, [.ref (ad 1), .ref (ad 3), .ref (ad 4), .ref (ad 6), .ref (ad 7), .int t7, .int c7, .ref rt3]))], P3, [(i1, .inl (19, [v, va_rf (if j1 < nw then some (nd j1) else none), .int (nI j1), .int m2, .ref (ad 3)]))]] [some (.ref w), some (.int (nI k1)), some (.int (nI g1)), some (.int (dI ((dist row nw (-1) g1) k1))), some (.int (dI (nxs row (dist row nw (-1) g1) k1 j1))), some (.ref i1), none, none] [] 25 := by
      intro n25
      induction n25 with
      | zero => intro j1 v rt3 P3 hmz; exact absurd hmz (Nat.not_lt_zero _)
      | succ n25 ih25 =>
        intro j1 v rt3 P3 hm25 hj1 hP hR hS
        have hy1 : lyC (some rt3) = 0 := rfl
        have hy2 : lyS (some rt3) = 0 := rfl
        refine gg_aload (pc := 25) E dX2_next_25 rfl ?_
        refine gg_callF (F := [_, _, _]) (As := []) (rest := []) (pc := 27) E ck_J28 (ct_J28_hasNext hl (hj1) (by omega)) (gg_cwF 0 E (x := ⟨"java/util/Iterator", "hasNext", "()Z"⟩) (by decide) nq1310 nq1308 nq1306 (lw_app (lw_in _ [1283, 1307, 1309, 188] (by decide +kernel) (by decide +kernel)) (lw_meth q1311)) (by decide +kernel) ⟨by rw [hRf]; exact Nat.le_of_ble_eq_true rfl, by rw [hRl]; exact Nat.le_of_ble_eq_true rfl⟩) dX2_next_27 [] (by decide) rfl rfl (List.forall_mem_cons.mpr ⟨(gg_i 2 rfl), (List.forall_mem_cons.mpr ⟨(gg_r 1 rfl), (fun _ h => by cases h)⟩)⟩) (gg_i 2 rfl) rfl rfl (Nat.le_of_ble_eq_true rfl) (by first | (rw [hRc]; dsimp only; omega) | (rw [hRc]; exact Nat.le_of_ble_eq_true rfl)) (by first | (rw [hRs]; dsimp only; omega) | (rw [hRs]; exact Nat.le_of_ble_eq_true rfl)) ?_ (fun X q C1 h => h.elim)
        rintro _ _ ⟨rfl, rfl⟩
        dsimp only [List.cons_append, List.nil_append, Option.toList]
        refine gg_ifP_eq (tgt := 118) (pc := 32) E dX2_next_32 (by decide) (fun c32 => ?_) (fun c32 => ?_)
        · have hjn : nw = j1 := by omega
          refine gg_let rfl rfl ?_
          refine gg_iload (pc := 118) E dX2_next_118 rfl ?_
          refine gg_iret (pc := 120) E Fn rfl (rfl) dX2_next_120 (by first | omega | (dsimp only; omega) | exact Nat.le_of_ble_eq_true rfl) (by first | omega | (dsimp only; omega) | exact Nat.le_of_ble_eq_true rfl) ?_
          rw [nxt_p hw (by omega) c11, show nxs row (dist row nw (-1) g1) k1 nw = nxs row (dist row nw (-1) g1) k1 j1 from by rw [← hjn]]
          exact ⟨rt3, P3, ⟨hP, hR, hS⟩, rfl, rfl⟩
        · refine gg_aload (pc := 35) E dX2_next_35 rfl ?_
          refine gg_callF (F := [_, _]) (As := []) (rest := []) (pc := 37) E ck_J28 (ct_J28_next hl (by omega) (by omega)) (gg_cwF 0 E (x := ⟨"java/util/Iterator", "next", "()Ljava/lang/Object;"⟩) (by decide) nq1423 nq1421 nq1306 (lw_app (lw_in _ [1313, 1420, 1422, 188] (by decide +kernel) (by decide +kernel)) (lw_meth q1424)) (by decide +kernel) ⟨by rw [hRf]; exact Nat.le_of_ble_eq_true rfl, by rw [hRl]; exact Nat.le_of_ble_eq_true rfl⟩) dX2_next_37 [2] (by decide) rfl rfl (List.forall_mem_append.mpr ⟨(List.forall_mem_cons.mpr ⟨(gg_r 1 rfl), (fun _ h => by cases h)⟩), (fun q hq => gg_rm (List.mem_append_right _ (hq)))⟩) (gg_i 2 rfl) rfl rfl (Nat.le_of_ble_eq_true rfl) (by first | (rw [hRc]; dsimp only; omega) | (rw [hRc]; exact Nat.le_of_ble_eq_true rfl)) (by first | (rw [hRs]; dsimp only; omega) | (rw [hRs]; exact Nat.le_of_ble_eq_true rfl)) ?_ (fun X q C1 h => h.elim)
          rintro _ _ ⟨rfl, rfl⟩
          dsimp only [List.cons_append, List.nil_append, Option.toList]
          refine gg_up2 ?_
          refine gg_cast (pc := 42) E ck_X4 q1432 (Or.inl rfl) dX2_next_42 (gg_j 1 rfl (hP.2 j1 (by omega))) ?_
          refine gg_astore (lv' := [_, _, _, _, _, _, _, _]) (pc := 45) E dX2_next_45 (Nat.le_of_ble_eq_true rfl) rfl rfl ?_
          refine gg_aload (pc := 47) E dX2_next_47 rfl ?_
          refine gg_iload_n (pc := 49) E dX2_next_49 rfl rfl ?_
          refine gg_callV (F := [_, _, _]) (As := [_]) (rest := []) (pc := 50) E ck_X4 (ct_X4_ends hl ) (cwV 1 E.2.2.2.2.1 (lw_V q2062 q2063 q2064 q177 q2065) rfl rfl rfl (by decide +kernel) ⟨by rw [hRf]; exact Nat.le_of_ble_eq_true rfl, by rw [hRl]; exact Nat.le_of_ble_eq_true rfl⟩) dX2_next_50 [] (by decide) rfl rfl (List.forall_mem_cons.mpr ⟨(gg_j 1 rfl (hP.2 j1 (by omega))), (fun _ h => by cases h)⟩) (gg_j 1 rfl (hP.2 j1 (by omega))) rfl rfl (Nat.le_of_ble_eq_true rfl) (by first | (rw [hRc]; dsimp only; omega) | (rw [hRc]; exact Nat.le_of_ble_eq_true rfl)) (by first | (rw [hRs]; dsimp only; omega) | (rw [hRs]; exact Nat.le_of_ble_eq_true rfl)) ?_ (fun X q C1 h => h.elim)
          rintro _ _ ⟨rfl, rfl⟩
          dsimp only [List.cons_append, List.nil_append, Option.toList]
          refine gg_ifP_ne (tgt := 59) (pc := 53) E dX2_next_53 (by decide) (fun c53 => ?_) (fun c53 => ?_)
          · have hwy := wy_e hw c32 hk c53
            refine gg_aload_n (pc := 59) E dX2_next_59 rfl rfl ?_
            refine gg_aload (pc := 60) E dX2_next_60 rfl ?_
            refine gg_iload_n (pc := 62) E dX2_next_62 rfl rfl ?_
            refine gg_callV (F := [_, _, _]) (As := [_]) (rest := [_]) (pc := 63) E ck_X4 (ct_X4_beyond hl ) (cwV 1 E.2.2.2.2.1 (lw_V q2066 q2067 q2068 q177 q2069) rfl rfl rfl (by decide +kernel) ⟨by rw [hRf]; exact Nat.le_of_ble_eq_true rfl, by rw [hRl]; exact Nat.le_of_ble_eq_true rfl⟩) dX2_next_63 [] (by decide) rfl rfl (List.forall_mem_cons.mpr ⟨(gg_j 1 rfl (hP.2 j1 (by omega))), (fun _ h => by cases h)⟩) (gg_j 1 rfl (hP.2 j1 (by omega))) rfl rfl (Nat.le_of_ble_eq_true rfl) (by first | (rw [hRc]; dsimp only; omega) | (rw [hRc]; exact Nat.le_of_ble_eq_true rfl)) (by first | (rw [hRs]; dsimp only; omega) | (rw [hRs]; exact Nat.le_of_ble_eq_true rfl)) ?_ (fun X q C1 h => h.elim)
            rintro _ _ ⟨rfl, rfl⟩
            dsimp only [List.cons_append, List.nil_append, Option.toList]
            refine gg_topI (y := nI (eo row j1 k1)) hwy.1 ?_
            refine gg_iload_n (pc := 66) E dX2_next_66 rfl rfl ?_
            refine gg_callV (F := [_]) (As := [.int (nI (eo row j1 k1)), .int (nI g1)]) (rest := []) (pc := 67) E ck_X2 (ct_X2_route (rt0 := some rt3) hl hP hw (fun a h => by cases h; exact hR) hwy.2.2 hg) (cwV 2 E.2.2.2.2.1 (lw_V q1713 q1714 q1715 q152 q1716) rfl rfl rfl (by decide +kernel) ⟨by rw [hRf]; exact Nat.le_of_ble_eq_true rfl, by rw [hRl]; exact Nat.le_of_ble_eq_true rfl⟩) dX2_next_67 [0, 1] (by decide) rfl rfl (List.forall_mem_append.mpr ⟨(List.forall_mem_cons.mpr ⟨(gg_r 0 rfl), (List.forall_mem_cons.mpr ⟨(gg_r 1 rfl), (fun _ h => by cases h)⟩)⟩), (fun q hq => gg_rm (List.mem_append_right _ (hq)))⟩) (gg_i 0 rfl) rfl rfl (Nat.le_of_ble_eq_true rfl) (by first | (rw [hRc]; dsimp only; omega) | (rw [hRc]; exact Nat.le_of_ble_eq_true rfl)) (by first | (rw [hRs]; dsimp only; omega) | (rw [hRs]; exact Nat.le_of_ble_eq_true rfl)) ?_ (fun X q C1 h => h.elim)
            rintro _ _ ⟨rt4, P4, ⟨hP, hR, hS4⟩, rfl, rfl⟩
            dsimp only [List.cons_append, List.nil_append, Option.toList]
            refine gg_up1 ?_
            refine gg_up1 ?_
            refine gg_topI (y := dI (dist row nw (-1) g1 (eo row j1 k1))) (congrArg dI (dist_symm hw (by have := hwy.2.2; omega) (by omega))) ?_
            refine gg_istore (lv' := [_, _, _, _, _, _, _, _]) (pc := 70) E dX2_next_70 (Nat.le_of_ble_eq_true rfl) rfl rfl ?_
            refine gg_iload (pc := 72) E dX2_next_72 rfl ?_
            refine gg_iconst (v := (-1)) (pc := 74) E dX2_next_74 (by decide) ?_
            refine gg_icmp_eq (tgt := 115) (pc := 75) E dX2_next_75 (by decide) (fun c75 => ?_) (fun c75 => ?_)
            · have hbn := congrArg dI (nx_f (D := dist row nw (-1) g1) hw (dist81 (go := g1) hw (by omega)) c32 (by omega) (fun q => q.2.1 c75))
              rw [hbn]
              refine gg_goto (tgt := 25) (pc := 115) E dX2_next_115 (by decide) ?_
              refine gg_cv rfl (gg_leS (gg_leS (gg_leS (gg_leS (gg_leS (gg_leS (gg_leN (gg_leN gg_le0)))))))) rfl (by first | omega | exact Nat.le_refl _ | (dsimp only; omega)) (by first | omega | exact Nat.le_refl _ | (dsimp only; omega)) (ih25 (j1 + 1) (.ref (nd j1)) rt4 P4 (by omega) (by omega) (hP) (hR) (fun q h => hS4 q (hS q h)))
            · refine gg_iload (pc := 78) E dX2_next_78 rfl ?_
              refine gg_aload (pc := 80) E dX2_next_80 rfl ?_
              refine gg_callV (F := [_, _, _]) (As := []) (rest := [_]) (pc := 82) E ck_X4 (ct_X4_far hl ) (cwV 0 E.2.2.2.2.1 (lw_V q2070 q2071 q2072 q177 q2073) rfl rfl rfl (by decide +kernel) ⟨by rw [hRf]; exact Nat.le_of_ble_eq_true rfl, by rw [hRl]; exact Nat.le_of_ble_eq_true rfl⟩) dX2_next_82 [] (by decide) rfl rfl (List.forall_mem_cons.mpr ⟨(gg_j 1 rfl (hP.2 j1 (by omega))), (fun _ h => by cases h)⟩) (gg_j 1 rfl (hP.2 j1 (by omega))) rfl rfl (Nat.le_of_ble_eq_true rfl) (by first | (rw [hRc]; dsimp only; omega) | (rw [hRc]; exact Nat.le_of_ble_eq_true rfl)) (by first | (rw [hRs]; dsimp only; omega) | (rw [hRs]; exact Nat.le_of_ble_eq_true rfl)) ?_ (fun X q C1 h => h.elim)
              rintro _ _ ⟨rfl, rfl⟩
              dsimp only [List.cons_append, List.nil_append, Option.toList]
              refine gg_iadd (pc := 85) E dX2_next_85 ?_
              refine gg_iload_n (pc := 86) E dX2_next_86 rfl rfl ?_
              refine gg_icmp_ne (tgt := 115) (pc := 87) E dX2_next_87 (by decide) (fun c87 => ?_) (fun c87 => ?_)
              · have hbn := congrArg dI (nx_f (D := dist row nw (-1) g1) hw (dist81 (go := g1) hw (by omega)) c32 (by omega) (fun q => c87 q.2.2.1))
                rw [hbn]
                refine gg_goto (tgt := 25) (pc := 115) E dX2_next_115 (by decide) ?_
                refine gg_cv rfl (gg_leS (gg_leS (gg_leS (gg_leS (gg_leS (gg_leS (gg_leN (gg_leN gg_le0)))))))) rfl (by first | omega | exact Nat.le_refl _ | (dsimp only; omega)) (by first | omega | exact Nat.le_refl _ | (dsimp only; omega)) (ih25 (j1 + 1) (.ref (nd j1)) rt4 P4 (by omega) (by omega) (hP) (hR) (fun q h => hS4 q (hS q h)))
              · refine gg_iload (pc := 90) E dX2_next_90 rfl ?_
                refine gg_iconst (v := (-1)) (pc := 92) E dX2_next_92 (by decide) ?_
                refine gg_icmp_eq (tgt := 107) (pc := 93) E dX2_next_93 (by decide) (fun c93 => ?_) (fun c93 => ?_)
                · refine gg_aload (pc := 107) E dX2_next_107 rfl ?_
                  refine gg_iload_n (pc := 109) E dX2_next_109 rfl rfl ?_
                  refine gg_callV (F := [_, _, _]) (As := [_]) (rest := []) (pc := 110) E ck_X4 (ct_X4_beyond hl ) (cwV 1 E.2.2.2.2.1 (lw_V q2066 q2067 q2068 q177 q2069) rfl rfl rfl (by decide +kernel) ⟨by rw [hRf]; exact Nat.le_of_ble_eq_true rfl, by rw [hRl]; exact Nat.le_of_ble_eq_true rfl⟩) dX2_next_110 [] (by decide) rfl rfl (List.forall_mem_cons.mpr ⟨(gg_j 1 rfl (hP.2 j1 (by omega))), (fun _ h => by cases h)⟩) (gg_j 1 rfl (hP.2 j1 (by omega))) rfl rfl (Nat.le_of_ble_eq_true rfl) (by first | (rw [hRc]; dsimp only; omega) | (rw [hRc]; exact Nat.le_of_ble_eq_true rfl)) (by first | (rw [hRs]; dsimp only; omega) | (rw [hRs]; exact Nat.le_of_ble_eq_true rfl)) ?_ (fun X q C1 h => h.elim)
                  rintro _ _ ⟨rfl, rfl⟩
                  dsimp only [List.cons_append, List.nil_append, Option.toList]
                  refine gg_topI (y := nI (eo row j1 k1)) hwy.1 ?_
                  refine gg_istore (lv' := [_, _, _, _, _, _, _, _]) (pc := 113) E dX2_next_113 (Nat.le_of_ble_eq_true rfl) rfl rfl ?_
                  have hbn := nx_t (D := dist row nw (-1) g1) hw (dist81 (go := g1) hw (by omega)) c32 (by omega) ⟨c53, c75, c87, Or.inl c93⟩
                  rw [hbn]
                  refine gg_goto (tgt := 25) (pc := 115) E dX2_next_115 (by decide) ?_
                  refine gg_cv rfl (gg_leS (gg_leS (gg_leS (gg_leS (gg_leS (gg_leS (gg_leN (gg_leN gg_le0)))))))) rfl (by first | omega | exact Nat.le_refl _ | (dsimp only; omega)) (by first | omega | exact Nat.le_refl _ | (dsimp only; omega)) (ih25 (j1 + 1) (.ref (nd j1)) rt4 P4 (by omega) (by omega) (hP) (hR) (fun q h => hS4 q (hS q h)))
                · refine gg_aload (pc := 96) E dX2_next_96 rfl ?_
                  refine gg_iload_n (pc := 98) E dX2_next_98 rfl rfl ?_
                  refine gg_callV (F := [_, _, _]) (As := [_]) (rest := []) (pc := 99) E ck_X4 (ct_X4_beyond hl ) (cwV 1 E.2.2.2.2.1 (lw_V q2066 q2067 q2068 q177 q2069) rfl rfl rfl (by decide +kernel) ⟨by rw [hRf]; exact Nat.le_of_ble_eq_true rfl, by rw [hRl]; exact Nat.le_of_ble_eq_true rfl⟩) dX2_next_99 [] (by decide) rfl rfl (List.forall_mem_cons.mpr ⟨(gg_j 1 rfl (hP.2 j1 (by omega))), (fun _ h => by cases h)⟩) (gg_j 1 rfl (hP.2 j1 (by omega))) rfl rfl (Nat.le_of_ble_eq_true rfl) (by first | (rw [hRc]; dsimp only; omega) | (rw [hRc]; exact Nat.le_of_ble_eq_true rfl)) (by first | (rw [hRs]; dsimp only; omega) | (rw [hRs]; exact Nat.le_of_ble_eq_true rfl)) ?_ (fun X q C1 h => h.elim)
                  rintro _ _ ⟨rfl, rfl⟩
                  dsimp only [List.cons_append, List.nil_append, Option.toList]
                  refine gg_topI (y := nI (eo row j1 k1)) hwy.1 ?_
                  refine gg_iload (pc := 102) E dX2_next_102 rfl ?_
                  refine gg_icmp_ge (tgt := 115) (pc := 104) E dX2_next_104 (by decide) (fun c104 => ?_) (fun c104 => ?_)
                  · have hbn := congrArg dI (nx_f (D := dist row nw (-1) g1) hw (dist81 (go := g1) hw (by omega)) c32 (by omega) (fun q => q.2.2.2.elim (fun z => c93 z) (fun z => z c104)))
                    rw [hbn]
                    refine gg_goto (tgt := 25) (pc := 115) E dX2_next_115 (by decide) ?_
                    refine gg_cv rfl (gg_leS (gg_leS (gg_leS (gg_leS (gg_leS (gg_leS (gg_leN (gg_leN gg_le0)))))))) rfl (by first | omega | exact Nat.le_refl _ | (dsimp only; omega)) (by first | omega | exact Nat.le_refl _ | (dsimp only; omega)) (ih25 (j1 + 1) (.ref (nd j1)) rt4 P4 (by omega) (by omega) (hP) (hR) (fun q h => hS4 q (hS q h)))
                  · refine gg_aload (pc := 107) E dX2_next_107 rfl ?_
                    refine gg_iload_n (pc := 109) E dX2_next_109 rfl rfl ?_
                    refine gg_callV (F := [_, _, _]) (As := [_]) (rest := []) (pc := 110) E ck_X4 (ct_X4_beyond hl ) (cwV 1 E.2.2.2.2.1 (lw_V q2066 q2067 q2068 q177 q2069) rfl rfl rfl (by decide +kernel) ⟨by rw [hRf]; exact Nat.le_of_ble_eq_true rfl, by rw [hRl]; exact Nat.le_of_ble_eq_true rfl⟩) dX2_next_110 [] (by decide) rfl rfl (List.forall_mem_cons.mpr ⟨(gg_j 1 rfl (hP.2 j1 (by omega))), (fun _ h => by cases h)⟩) (gg_j 1 rfl (hP.2 j1 (by omega))) rfl rfl (Nat.le_of_ble_eq_true rfl) (by first | (rw [hRc]; dsimp only; omega) | (rw [hRc]; exact Nat.le_of_ble_eq_true rfl)) (by first | (rw [hRs]; dsimp only; omega) | (rw [hRs]; exact Nat.le_of_ble_eq_true rfl)) ?_ (fun X q C1 h => h.elim)
                    rintro _ _ ⟨rfl, rfl⟩
                    dsimp only [List.cons_append, List.nil_append, Option.toList]
                    refine gg_topI (y := nI (eo row j1 k1)) hwy.1 ?_
                    refine gg_istore (lv' := [_, _, _, _, _, _, _, _]) (pc := 113) E dX2_next_113 (Nat.le_of_ble_eq_true rfl) rfl rfl ?_
                    have hbn := nx_t (D := dist row nw (-1) g1) hw (dist81 (go := g1) hw (by omega)) c32 (by omega) ⟨c53, c75, c87, Or.inr c104⟩
                    rw [hbn]
                    refine gg_goto (tgt := 25) (pc := 115) E dX2_next_115 (by decide) ?_
                    refine gg_cv rfl (gg_leS (gg_leS (gg_leS (gg_leS (gg_leS (gg_leS (gg_leN (gg_leN gg_le0)))))))) rfl (by first | omega | exact Nat.le_refl _ | (dsimp only; omega)) (by first | omega | exact Nat.le_refl _ | (dsimp only; omega)) (ih25 (j1 + 1) (.ref (nd j1)) rt4 P4 (by omega) (by omega) (hP) (hR) (fun q h => hS4 q (hS q h)))
          · have hbn := congrArg dI (nx_f (D := dist row nw (-1) g1) hw (dist81 (go := g1) hw (by omega)) c32 (by omega) (fun q => c53 q.1))
            rw [hbn]
            refine gg_goto (tgt := 25) (pc := 56) E dX2_next_56 (by decide) ?_
            refine gg_cv rfl (gg_leS (gg_leS (gg_leS (gg_leS (gg_leS (gg_leS (gg_leN (gg_leN gg_le0)))))))) rfl (by first | omega | exact Nat.le_refl _ | (dsimp only; omega)) (by first | omega | exact Nat.le_refl _ | (dsimp only; omega)) (ih25 (j1 + 1) (.ref (nd j1)) rt3 P3 (by omega) (by omega) (hP) (hR) (hS))
    refine gg_cv rfl (gg_leS (gg_leS (gg_leS (gg_leS (gg_leS (gg_leS (gg_leN (gg_leN gg_le0)))))))) rfl (by first | omega | exact Nat.le_refl _ | (dsimp only; omega)) (by first | omega | exact Nat.le_refl _ | (dsimp only; omega)) (L25 _ 0 .null rt2 P2 (Nat.lt_succ_self _) (Nat.zero_le _) (hP) (hR) (hS))
  · refine gg_iconst (v := (-1)) (pc := 14) E dX2_next_14 (by decide) ?_
    refine gg_iret (pc := 15) E Fn rfl (rfl) dX2_next_15 (by first | omega | (dsimp only; omega) | exact Nat.le_of_ble_eq_true rfl) (by first | omega | (dsimp only; omega) | exact Nat.le_of_ble_eq_true rfl) ?_
    rw [nxt_0 hw (by omega) c11]
    exact ⟨rt2, P2, ⟨hP, hR, hS⟩, rfl, rfl⟩
set_option maxHeartbeats 4000000 in
theorem ct_X2_canBe {l : Launch} (hl : l.stackTraces = false) {g : gg_G}  {w : Nat} {ad : Nat → Nat} {t7 c7 : Int32} {rt0 : Option Nat} {ra nm : Nat → Nat} {m1 : Int32} {nr : Nat} {tu sn hd : Nat → Nat} {nt : Nat} {nd wo : Nat → Nat} {m2 : Int32} {nw : Nat} {row : Nat → Int32} {P : gg_S} {k1 t1 : Nat} (hP : Po g P sn wo row nw nt) (hG : Gw row nr nw nt) (hR : ∀ a, rt0 = some a → Rt g P a row nr nw) (hk : k1 < nr) (ht : t1 < nt) : gg_C l g yX2_canBe (ws_ yX2_canBe cX2_canBe 3 (some .boolean)) { frames := 15, cells := (qk (rch row k1 t1) rt0), slots := (qs (rch row k1 t1) rt0), locals := 300 } [.ref w, .int (nI k1), .ref (tu t1)] ([((ad 1), .inl (11, [.int m1, .ref (ad 2), .int (nI nr)])), ((ad 2), gg_ao g 4 10 (lsF ra nr)), ((ad 3), .inl (15, [.int m2, .int (nI nw), llF nd nw, llL nd nw]))] ++ ((llS nd wo nw) ++ ((mp (rfN ra nm row) nr) ++ (mp (tuN tu sn hd row) nt)))) [[(w, .inl (1, [.ref (ad 1), .ref (ad 3), .ref (ad 4), .ref (ad 6), .ref (ad 7), .int t7, .int c7, (va_rf rt0)]))], P] (fun vv CC => ∃ (rt2 : Option Nat) (P2 : gg_S), (Po g P2 sn wo row nw nt ∧ (∀ a, rt2 = some a → Rt g P2 a row nr nw) ∧ Qp (rch row k1 t1) rt0 rt2 ∧ Sub P P2) ∧ vv = some (.int (cbF row nw k1 t1)) ∧ CC = [[(w, .inl (1, [.ref (ad 1), .ref (ad 3), .ref (ad 4), .ref (ad 6), .ref (ad 7), .int t7, .int c7, (va_rf rt2)]))], P2]) gg_no := by
  refine gg_of (lv := [_, _, _]) (by decide) hl (Nat.le_of_ble_eq_true rfl) rfl ?_
  intro p e R s m args below meth c A Q hRf hRl hRc hRs E Fn hnm hex
  have hw := hG.2.1
  have h20 := hw.2.1
  have hr10 := hw.2.2.1
  have hT := hG.2.2.1.2.2.2
  have ht30 := hG.2.2.1.2.1
  obtain ⟨g1, g2, g3, g4, g5, g6, g7, g8, g9, g10⟩ := hT t1 ht
  refine gg_aload_n (pc := 0) E dX2_canBe_0 rfl rfl ?_
  refine gg_aload_n (pc := 1) E dX2_canBe_1 rfl rfl ?_
  refine gg_getN (pc := 2) E ck_X8 1 nq1572 rfl (by decide) dX2_canBe_2 (gg_rm (List.mem_append_right _ (List.mem_append_right _ (List.mem_append_right _ (mp_mem (by omega)))))) rfl ?_
  refine gg_topI (y := nI (ts row t1)) g1 ?_
  refine gg_callV (F := [_, _]) (As := [.int (nI (ts row t1))]) (rest := []) (pc := 5) E ck_X2 (ct_X2_roof hl (g5) (hr10)) (cwV 1 E.2.2.2.2.1 (lw_V q1096 q1097 q1098 q152 q1099) rfl rfl rfl (by decide +kernel) ⟨by rw [hRf]; exact Nat.le_of_ble_eq_true rfl, by rw [hRl]; exact Nat.le_of_ble_eq_true rfl⟩) dX2_canBe_5 [] (by decide) rfl rfl (List.forall_mem_append.mpr ⟨(List.forall_mem_cons.mpr ⟨(gg_i 0 rfl), (List.forall_mem_cons.mpr ⟨(gg_r 0 rfl), (List.forall_mem_cons.mpr ⟨(gg_r 1 rfl), (fun _ h => by cases h)⟩)⟩)⟩), (fun q hq => gg_rm (List.mem_append_right _ (List.mem_append_right _ (List.mem_append_left _ (hq)))))⟩) (gg_i 0 rfl) rfl rfl (Nat.le_of_ble_eq_true rfl) (by first | (rw [hRc]; dsimp only; omega) | (rw [hRc]; exact Nat.le_of_ble_eq_true rfl)) (by first | (rw [hRs]; dsimp only; omega) | (rw [hRs]; exact Nat.le_of_ble_eq_true rfl)) ?_ (fun X q C1 h => h.elim)
  rintro _ _ ⟨rfl, rfl⟩
  dsimp only [List.cons_append, List.nil_append, Option.toList]
  refine gg_getN (pc := 8) E ck_X3 4 nq652 rfl (by decide) dX2_canBe_8 (gg_rm (List.mem_append_right _ (List.mem_append_right _ (List.mem_append_left _ (mp_mem (by omega)))))) rfl ?_
  refine gg_aload_n (pc := 11) E dX2_canBe_11 rfl rfl ?_
  refine gg_iload_n (pc := 12) E dX2_canBe_12 rfl rfl ?_
  refine gg_aload_n (pc := 13) E dX2_canBe_13 rfl rfl ?_
  refine gg_callV (F := [_, _]) (As := [.int (nI k1), _]) (rest := [_]) (pc := 14) E ck_X2 (ct_X2_fee hl (hk) (hr10) (by omega)) (cwV 2 E.2.2.2.2.1 (lw_V q1705 q1706 q1707 q152 q1708) rfl rfl rfl (by decide +kernel) ⟨by rw [hRf]; exact Nat.le_of_ble_eq_true rfl, by rw [hRl]; exact Nat.le_of_ble_eq_true rfl⟩) dX2_canBe_14 [] (by decide) rfl rfl (List.forall_mem_append.mpr ⟨(List.forall_mem_cons.mpr ⟨(gg_i 0 rfl), (List.forall_mem_cons.mpr ⟨(gg_r 0 rfl), (List.forall_mem_cons.mpr ⟨(gg_r 1 rfl), (List.forall_mem_cons.mpr ⟨(gg_rm (List.mem_append_right _ (List.mem_append_right _ (List.mem_append_right _ (mp_mem (by omega)))))), (List.forall_mem_cons.mpr ⟨(gg_j 1 rfl (hP.1 t1 (by omega))), (fun _ h => by cases h)⟩)⟩)⟩)⟩)⟩), (fun q hq => gg_rm (List.mem_append_right _ (List.mem_append_right _ (List.mem_append_left _ (hq)))))⟩) (gg_i 0 rfl) rfl rfl (Nat.le_of_ble_eq_true rfl) (by first | (rw [hRc]; dsimp only; omega) | (rw [hRc]; exact Nat.le_of_ble_eq_true rfl)) (by first | (rw [hRs]; dsimp only; omega) | (rw [hRs]; exact Nat.le_of_ble_eq_true rfl)) ?_ (fun X q C1 h => h.elim)
  rintro _ _ ⟨rfl, rfl⟩
  dsimp only [List.cons_append, List.nil_append, Option.toList]
  refine gg_topI (y := row (25 + 13 * k1 + 9) * br row t1) (congrArg (row (25 + 13 * k1 + 9) * ·) (br_ba g3 g10)) ?_
  refine gg_icmp_lt (tgt := 37) (pc := 17) E dX2_canBe_17 (by decide) (fun c17 => ?_) (fun c17 => ?_)
  · refine gg_iconst (v := 0) (pc := 37) E dX2_canBe_37 (by decide) ?_
    refine gg_iret (pc := 38) E Fn rfl (gg_nz (by first | decide | assumption | exact gg_b01 | (split <;> decide))) dX2_canBe_38 (by first | omega | (dsimp only; omega) | exact Nat.le_of_ble_eq_true rfl) (by first | omega | (dsimp only; omega) | exact Nat.le_of_ble_eq_true rfl) ?_
    exact ⟨rt0, P, ⟨hP, hR, Qp_n (fun q => q c17), fun q h => h⟩, by unfold cbF; rw [if_pos c17], rfl⟩
  · have hq1 : qk (rch row k1 t1) rt0 = lyC rt0 := qk_y c17
    have hq2 : qs (rch row k1 t1) rt0 = lyS rt0 := qs_y c17
    refine gg_aload_n (pc := 20) E dX2_canBe_20 rfl rfl ?_
    refine gg_iload_n (pc := 21) E dX2_canBe_21 rfl rfl ?_
    refine gg_aload_n (pc := 22) E dX2_canBe_22 rfl rfl ?_
    refine gg_getN (pc := 23) E ck_X8 2 nq1575 rfl (by decide) dX2_canBe_23 (gg_rm (List.mem_append_right _ (List.mem_append_right _ (List.mem_append_right _ (mp_mem (by omega)))))) rfl ?_
    refine gg_topI (y := nI (tg row t1)) g2 ?_
    refine gg_callV (F := []) (As := [.int (nI k1), .int (nI (tg row t1))]) (rest := []) (pc := 26) E ck_X2 (ct_X2_route hl hP hw hR hk g6) (cwV 2 E.2.2.2.2.1 (lw_V q1713 q1714 q1715 q152 q1716) rfl rfl rfl (by decide +kernel) ⟨by rw [hRf]; exact Nat.le_of_ble_eq_true rfl, by rw [hRl]; exact Nat.le_of_ble_eq_true rfl⟩) dX2_canBe_26 [0, 1] (by decide) rfl rfl (List.forall_mem_append.mpr ⟨(List.forall_mem_cons.mpr ⟨(gg_r 0 rfl), (List.forall_mem_cons.mpr ⟨(gg_r 2 rfl), (fun _ h => by cases h)⟩)⟩), (fun q hq => gg_rm (List.mem_append_right _ (List.mem_append_left _ (hq))))⟩) (gg_i 0 rfl) rfl rfl (Nat.le_of_ble_eq_true rfl) (by first | (rw [hRc]; dsimp only; omega) | (rw [hRc]; exact Nat.le_of_ble_eq_true rfl)) (by first | (rw [hRs]; dsimp only; omega) | (rw [hRs]; exact Nat.le_of_ble_eq_true rfl)) ?_ (fun X q C1 h => h.elim)
    rintro _ _ ⟨rt2, P2, ⟨hP, hR, hS⟩, rfl, rfl⟩
    dsimp only [List.cons_append, List.nil_append, Option.toList]
    refine gg_up1 ?_
    refine gg_up1 ?_
    refine gg_topI (y := dI (dist row nw (-1) (tg row t1) k1)) (congrArg dI (dist_symm hw (by omega) (by omega))) ?_
    refine gg_iconst (v := (-1)) (pc := 29) E dX2_canBe_29 (by decide) ?_
    refine gg_icmp_eq (tgt := 37) (pc := 30) E dX2_canBe_30 (by decide) (fun c30 => ?_) (fun c30 => ?_)
    · refine gg_iconst (v := 0) (pc := 37) E dX2_canBe_37 (by decide) ?_
      refine gg_iret (pc := 38) E Fn rfl (gg_nz (by first | decide | assumption | exact gg_b01 | (split <;> decide))) dX2_canBe_38 (by first | omega | (dsimp only; omega) | exact Nat.le_of_ble_eq_true rfl) (by first | omega | (dsimp only; omega) | exact Nat.le_of_ble_eq_true rfl) ?_
      exact ⟨some rt2, P2, ⟨hP, fun a h => by cases h; exact hR, Qp_y c17, hS⟩, by unfold cbF; rw [if_neg c17, dI_m1 (dist81 hw (by omega) _) c30], rfl⟩
    · refine gg_iconst (v := 1) (pc := 33) E dX2_canBe_33 (by decide) ?_
      refine gg_goto (tgt := 38) (pc := 34) E dX2_canBe_34 (by decide) ?_
      refine gg_iret (pc := 38) E Fn rfl (gg_nz (by first | decide | assumption | exact gg_b01 | (split <;> decide))) dX2_canBe_38 (by first | omega | (dsimp only; omega) | exact Nat.le_of_ble_eq_true rfl) (by first | omega | (dsimp only; omega) | exact Nat.le_of_ble_eq_true rfl) ?_
      exact ⟨some rt2, P2, ⟨hP, fun a h => by cases h; exact hR, Qp_y c17, hS⟩, by unfold cbF; rw [if_neg c17]; obtain ⟨z, hz⟩ := dI_nm1 c30; rw [hz], rfl⟩
set_option maxHeartbeats 4000000 in
theorem ct_X2_chosen {l : Launch} (hl : l.stackTraces = false) {g : gg_G}  {w : Nat} {ad : Nat → Nat} {t7 c7 : Int32} {rt0 : Option Nat} {ra nm : Nat → Nat} {m1 : Int32} {nr : Nat} {tu sn hd : Nat → Nat} {m3 : Int32} {nt : Nat} {nd wo : Nat → Nat} {m2 : Int32} {nw : Nat} {row : Nat → Int32} {P : gg_S} {k1 : Nat} (hP : Po g P sn wo row nw nt) (hG : Gw row nr nw nt) (hR : ∀ a, rt0 = some a → Rt g P a row nr nw) (hk : k1 < nr) : gg_C l g yX2_chosen (ws_ yX2_chosen cX2_chosen 5 (some (.object "WhistlePosts$Tune"))) { frames := 16, cells := (qk (ask row k1 nt) rt0), slots := (qs (ask row k1 nt) rt0), locals := 322 } [.ref w, .int (nI k1)] ([((ad 1), .inl (11, [.int m1, .ref (ad 2), .int (nI nr)])), ((ad 2), gg_ao g 4 10 (lsF ra nr)), ((ad 4), .inl (11, [.int m3, .ref (ad 5), .int (nI nt)])), ((ad 5), gg_ao g 4 30 (lsF tu nt)), ((ad 3), .inl (15, [.int m2, .int (nI nw), llF nd nw, llL nd nw]))] ++ ((llS nd wo nw) ++ ((mp (rfN ra nm row) nr) ++ (mp (tuN tu sn hd row) nt)))) [[(w, .inl (1, [.ref (ad 1), .ref (ad 3), .ref (ad 4), .ref (ad 6), .ref (ad 7), .int t7, .int c7, (va_rf rt0)]))], P] (fun vv CC => ∃ (rt2 : Option Nat) (P2 : gg_S), (Po g P2 sn wo row nw nt ∧ (∀ a, rt2 = some a → Rt g P2 a row nr nw) ∧ Qp (ask row k1 nt) rt0 rt2 ∧ Sub P P2) ∧ vv = some (va_rf ((fas row nw k1 nt).map tu)) ∧ CC = [[(w, .inl (1, [.ref (ad 1), .ref (ad 3), .ref (ad 4), .ref (ad 6), .ref (ad 7), .int t7, .int c7, (va_rf rt2)]))], P2]) gg_no := by
  refine gg_of (lv := [_, _, _, _, _]) (by decide) hl (Nat.le_of_ble_eq_true rfl) rfl ?_
  intro p e R s m args below meth c A Q hRf hRl hRc hRs E Fn hnm hex
  have hw := hG.2.1
  have h20 := hw.2.1
  have hr10 := hw.2.2.1
  have hT := hG.2.2.1.2.2.2
  have ht30 := hG.2.2.1.2.1
  refine gg_null (pc := 0) E dX2_chosen_0 ?_
  refine gg_astore_nN (lv' := [_, _, _, _, _]) (pc := 1) E dX2_chosen_1 rfl (Nat.le_of_ble_eq_true rfl) rfl rfl ?_
  refine gg_iconst (v := 0) (pc := 2) E dX2_chosen_2 (by decide) ?_
  refine gg_istore_n (lv' := [_, _, _, _, _]) (pc := 3) E dX2_chosen_3 rfl (Nat.le_of_ble_eq_true rfl) rfl rfl ?_
  have L4 : ∀ (n : Nat) (j1 : Nat) (bt rt : Option Nat) (P3 : gg_S), nt - j1 < n → (j1 ≤ nt) → (fas row nw k1 j1 = bt) → (Po g P3 sn wo row nw nt) → (∀ a, rt = some a → Rt g P3 a row nr nw) → (lyC rt ≤ lyC rt0) → (lyS rt ≤ lyS rt0) → (rt = none → ∀ t, t < j1 → (row (220 + 27 * t + 3) = 0 ∧ row (220 + 27 * t + 4) = nI k1) → ¬ rch row k1 t) → (¬ (ask row k1 nt) → rt = rt0) → (Sub P P3) → gg_W p l e R s m args below meth c g A 5 Q (qk (ask row k1 nt) rt0 - lyC rt) (qs (ask row k1 nt) rt0 - lyS rt) [[(w, .inl (1, [.ref (ad 1), .ref (ad 3), .ref (ad 4), .ref (ad 6), .ref (ad 7), .int t7, .int c7, (va_rf rt)]))], P3] [some (.ref w), some (.int (nI k1)), some (va_rf (bt.map tu)), some (.int (nI j1)), none] [] 4 := by
    intro n4
    induction n4 with
    | zero => intro j1 bt rt P3 hmz; exact absurd hmz (Nat.not_lt_zero _)
    | succ n4 ih4 =>
      intro j1 bt rt P3 hm4 hj1 hbt hP hR hlc hls hno hsm hS
      refine gg_iload_n (pc := 4) E dX2_chosen_4 rfl rfl ?_
      refine gg_aload_n (pc := 5) E dX2_chosen_5 rfl rfl ?_
      refine gg_get (pc := 6) E ck_X2 2 q604 rfl (by decide) dX2_chosen_6 (gg_i 0 rfl) rfl ?_
      refine gg_callF (F := [_, _]) (As := []) (rest := [_]) (pc := 9) E ck_J2 (ct_J2_size hl ) (gg_cwF 0 E (x := ⟨"java/util/List", "size", "()I"⟩) (by decide) nq1046 nq1044 nq683 (lw_app (lw_in _ [1095, 1043, 1045, 155] (by decide +kernel) (by decide +kernel)) (lw_meth q1047)) (by decide +kernel) ⟨by rw [hRf]; exact Nat.le_of_ble_eq_true rfl, by rw [hRl]; exact Nat.le_of_ble_eq_true rfl⟩) dX2_chosen_9 [] (by decide) rfl rfl (List.forall_mem_cons.mpr ⟨(gg_r 2 rfl), (fun _ h => by cases h)⟩) (gg_r 2 rfl) rfl rfl (Nat.le_of_ble_eq_true rfl) (by first | (rw [hRc]; dsimp only; omega) | (rw [hRc]; exact Nat.le_of_ble_eq_true rfl)) (by first | (rw [hRs]; dsimp only; omega) | (rw [hRs]; exact Nat.le_of_ble_eq_true rfl)) ?_ (fun X q C1 h => h.elim)
      rintro _ _ ⟨rfl, rfl⟩
      dsimp only [List.cons_append, List.nil_append, Option.toList]
      refine gg_icmpN_ge (tgt := 65) (pc := 14) E j1 nt rfl rfl (by omega) (by omega) dX2_chosen_14 (by decide) (fun c14 => ?_) (fun c14 => ?_)
      · have hjn : nt = j1 := by omega
        refine gg_aloadV_n (pc := 65) E dX2_chosen_65 rfl rfl ?_
        refine gg_aret (pc := 66) E Fn rfl (Or.inl ⟨_, rfl⟩) (va_rf_or _) dX2_chosen_66 (by first | omega | (dsimp only; omega) | exact Nat.le_of_ble_eq_true rfl) (by first | omega | (dsimp only; omega) | exact Nat.le_of_ble_eq_true rfl) ?_
        refine ⟨rt, P3, ⟨hP, hR, ⟨?_, hsm⟩, hS⟩, by rw [show fas row nw k1 nt = bt from by rw [hjn]; exact hbt], rfl⟩
        · rintro ⟨t, t1, t2, t3⟩
          cases hrt : rt with
          | none => exact absurd t3 (hno hrt t (by omega) t2)
          | some b => exact ⟨b, rfl⟩
      · refine gg_aload_n (pc := 17) E dX2_chosen_17 rfl rfl ?_
        refine gg_iload_n (pc := 18) E dX2_chosen_18 rfl rfl ?_
        refine gg_callV (F := [_, _]) (As := [.int (nI j1)]) (rest := []) (pc := 19) E ck_X2 (ct_X2_tune hl (c14) (ht30)) (cwV 1 E.2.2.2.2.1 (lw_V q1651 q1652 q1653 q152 q1654) rfl rfl rfl (by decide +kernel) ⟨by rw [hRf]; exact Nat.le_of_ble_eq_true rfl, by rw [hRl]; exact Nat.le_of_ble_eq_true rfl⟩) dX2_chosen_19 [] (by decide) rfl rfl (List.forall_mem_append.mpr ⟨(List.forall_mem_cons.mpr ⟨(gg_i 0 rfl), (List.forall_mem_cons.mpr ⟨(gg_r 2 rfl), (List.forall_mem_cons.mpr ⟨(gg_r 3 rfl), (fun _ h => by cases h)⟩)⟩)⟩), (fun q hq => gg_rm (List.mem_append_right _ (List.mem_append_right _ (List.mem_append_right _ (hq)))))⟩) (gg_i 0 rfl) rfl rfl (Nat.le_of_ble_eq_true rfl) (by first | (rw [hRc]; dsimp only; omega) | (rw [hRc]; exact Nat.le_of_ble_eq_true rfl)) (by first | (rw [hRs]; dsimp only; omega) | (rw [hRs]; exact Nat.le_of_ble_eq_true rfl)) ?_ (fun X q C1 h => h.elim)
        rintro _ _ ⟨rfl, rfl⟩
        dsimp only [List.cons_append, List.nil_append, Option.toList]
        refine gg_astore (lv' := [_, _, _, _, _]) (pc := 22) E dX2_chosen_22 (Nat.le_of_ble_eq_true rfl) rfl rfl ?_
        refine gg_aload (pc := 24) E dX2_chosen_24 rfl ?_
        refine gg_iload_n (pc := 26) E dX2_chosen_26 rfl rfl ?_
        refine gg_callV (F := [_, _]) (As := [_]) (rest := []) (pc := 27) E ck_X8 (ct_X8_waitsAt hl ) (cwV 1 E.2.2.2.2.1 (lw_V q1697 q1698 q1699 q192 q1700) rfl rfl rfl (by decide +kernel) ⟨by rw [hRf]; exact Nat.le_of_ble_eq_true rfl, by rw [hRl]; exact Nat.le_of_ble_eq_true rfl⟩) dX2_chosen_27 [] (by decide) rfl rfl (List.forall_mem_cons.mpr ⟨(gg_rm (List.mem_append_right _ (List.mem_append_right _ (List.mem_append_right _ (mp_mem (by omega)))))), (fun _ h => by cases h)⟩) (gg_rm (List.mem_append_right _ (List.mem_append_right _ (List.mem_append_right _ (mp_mem (by omega)))))) rfl rfl (Nat.le_of_ble_eq_true rfl) (by first | (rw [hRc]; dsimp only; omega) | (rw [hRc]; exact Nat.le_of_ble_eq_true rfl)) (by first | (rw [hRs]; dsimp only; omega) | (rw [hRs]; exact Nat.le_of_ble_eq_true rfl)) ?_ (fun X q C1 h => h.elim)
        rintro _ _ ⟨rfl, rfl⟩
        dsimp only [List.cons_append, List.nil_append, Option.toList]
        refine gg_ifP_eq (tgt := 59) (pc := 30) E dX2_chosen_30 (by decide) (fun c30 => ?_) (fun c30 => ?_)
        · rcases bt with _ | b1
          · refine gg_iincN (k := 1) (lv' := [_, _, _, _, _]) (pc := 59) E j1 dX2_chosen_59 rfl rfl rfl (Nat.le_of_ble_eq_true rfl) rfl rfl ?_
            refine gg_goto (tgt := 4) (pc := 62) E dX2_chosen_62 (by decide) ?_
            refine gg_cv rfl (gg_leS (gg_leS (gg_leS (gg_leS (gg_leN gg_le0))))) rfl (by first | omega | exact Nat.le_refl _ | (dsimp only; omega)) (by first | omega | exact Nat.le_refl _ | (dsimp only; omega)) (ih4 (j1 + 1) none rt P3 (by omega) (by omega) ((fa_f (fun q => c30 q.1)).symm.trans hbt) (hP) (hR) (hlc) (hls) (fun q t h1 h2 h3 => by rcases Nat.lt_or_ge t j1 with z | z; (· exact hno q t z h2 h3); (· obtain rfl : t = j1 := (by omega); exact c30 h2)) (hsm) (hS))
          · refine gg_iincN (k := 1) (lv' := [_, _, _, _, _]) (pc := 59) E j1 dX2_chosen_59 rfl rfl rfl (Nat.le_of_ble_eq_true rfl) rfl rfl ?_
            refine gg_goto (tgt := 4) (pc := 62) E dX2_chosen_62 (by decide) ?_
            refine gg_cv rfl (gg_leS (gg_leS (gg_leS (gg_leS (gg_leN gg_le0))))) rfl (by first | omega | exact Nat.le_refl _ | (dsimp only; omega)) (by first | omega | exact Nat.le_refl _ | (dsimp only; omega)) (ih4 (j1 + 1) (some b1) rt P3 (by omega) (by omega) ((fa_f (fun q => c30 q.1)).symm.trans hbt) (hP) (hR) (hlc) (hls) (fun q t h1 h2 h3 => by rcases Nat.lt_or_ge t j1 with z | z; (· exact hno q t z h2 h3); (· obtain rfl : t = j1 := (by omega); exact c30 h2)) (hsm) (hS))
        · have hrm := qk_room (a := ask row k1 nt) (b := rch row k1 j1) (rt0 := rt0) (rt := rt) (fun q => ⟨j1, c14, c30, q⟩) hlc hls
          obtain ⟨-, -, hj3, -, -, -, -, -, -, hj10⟩ := hT j1 c14
          refine gg_aload_n (pc := 33) E dX2_chosen_33 rfl rfl ?_
          refine gg_iload_n (pc := 34) E dX2_chosen_34 rfl rfl ?_
          refine gg_aload (pc := 35) E dX2_chosen_35 rfl ?_
          refine gg_callV (F := []) (As := [.int (nI k1), _]) (rest := []) (pc := 37) E ck_X2 (ct_X2_canBe (rt0 := rt) (t1 := j1) hl hP hG hR hk c14) (cwV 2 E.2.2.2.2.1 (lw_V q1701 q1702 q1703 q152 q1704) rfl rfl rfl (by decide +kernel) ⟨by rw [hRf]; exact Nat.le_of_ble_eq_true rfl, by rw [hRl]; exact Nat.le_of_ble_eq_true rfl⟩) dX2_chosen_37 [0, 1] (by decide) rfl rfl (List.forall_mem_append.mpr ⟨(List.forall_mem_cons.mpr ⟨(gg_r 0 rfl), (List.forall_mem_cons.mpr ⟨(gg_r 1 rfl), (List.forall_mem_cons.mpr ⟨(gg_r 4 rfl), (fun _ h => by cases h)⟩)⟩)⟩), (List.forall_mem_append.mpr ⟨(fun q hq => gg_rm (List.mem_append_right _ (List.mem_append_left _ (hq)))), (List.forall_mem_append.mpr ⟨(fun q hq => gg_rm (List.mem_append_right _ (List.mem_append_right _ (List.mem_append_left _ (hq))))), (fun q hq => gg_rm (List.mem_append_right _ (List.mem_append_right _ (List.mem_append_right _ (hq)))))⟩)⟩)⟩) (gg_i 0 rfl) rfl rfl (Nat.le_of_ble_eq_true rfl) (by first | (rw [hRc]; dsimp only; omega) | (rw [hRc]; exact Nat.le_of_ble_eq_true rfl)) (by first | (rw [hRs]; dsimp only; omega) | (rw [hRs]; exact Nat.le_of_ble_eq_true rfl)) ?_ (fun X q C1 h => h.elim)
          rintro _ _ ⟨rt4, P4, ⟨hP, hR4, hq, hS4⟩, rfl, rfl⟩
          dsimp only [List.cons_append, List.nil_append, Option.toList]
          refine gg_up1 ?_
          refine gg_up1 ?_
          have hin := qk_in (a := ask row k1 nt) (b := rch row k1 j1) (rt0 := rt0) (rt := rt) (fun q => ⟨j1, c14, c30, q⟩) hlc hls hq
          refine gg_if_eq (tgt := 59) (pc := 40) E dX2_chosen_40 (by decide) (fun c40 => ?_) (fun c40 => ?_)
          · rcases bt with _ | b1
            · refine gg_iincN (k := 1) (lv' := [_, _, _, _, _]) (pc := 59) E j1 dX2_chosen_59 rfl rfl rfl (Nat.le_of_ble_eq_true rfl) rfl rfl ?_
              refine gg_goto (tgt := 4) (pc := 62) E dX2_chosen_62 (by decide) ?_
              refine gg_cv rfl (gg_leS (gg_leS (gg_leS (gg_leS (gg_leN gg_le0))))) rfl (by first | omega | exact Nat.le_refl _ | (dsimp only; omega)) (by first | omega | exact Nat.le_refl _ | (dsimp only; omega)) (ih4 (j1 + 1) none rt4 P4 (by omega) (by omega) ((fa_f (fun q => ((cb_0 hG c14 c30 hk).mp c40) ⟨q.2.2.1, q.2.2.2⟩)).symm.trans hbt) (hP) (hR4) (hin.2.2.1) (hin.2.2.2) (fun q t h1 h2 h3 => by rcases Nat.lt_or_ge t j1 with z | z; (· by_cases hr : rch row k1 j1; (· obtain ⟨z9, hz9⟩ := hq.1 hr; rw [q] at hz9; cases hz9); (· exact hno ((hq.2 hr).symm.trans q) t z h2 h3)); (· obtain rfl : t = j1 := (by omega); obtain ⟨z9, hz9⟩ := hq.1 h3; rw [q] at hz9; cases hz9)) (fun q => (hq.2 (fun z => q ⟨j1, c14, c30, z⟩)).trans (hsm q)) (fun q h => hS4 q (hS q h)))
            · refine gg_iincN (k := 1) (lv' := [_, _, _, _, _]) (pc := 59) E j1 dX2_chosen_59 rfl rfl rfl (Nat.le_of_ble_eq_true rfl) rfl rfl ?_
              refine gg_goto (tgt := 4) (pc := 62) E dX2_chosen_62 (by decide) ?_
              refine gg_cv rfl (gg_leS (gg_leS (gg_leS (gg_leS (gg_leN gg_le0))))) rfl (by first | omega | exact Nat.le_refl _ | (dsimp only; omega)) (by first | omega | exact Nat.le_refl _ | (dsimp only; omega)) (ih4 (j1 + 1) (some b1) rt4 P4 (by omega) (by omega) ((fa_f (fun q => ((cb_0 hG c14 c30 hk).mp c40) ⟨q.2.2.1, q.2.2.2⟩)).symm.trans hbt) (hP) (hR4) (hin.2.2.1) (hin.2.2.2) (fun q t h1 h2 h3 => by rcases Nat.lt_or_ge t j1 with z | z; (· by_cases hr : rch row k1 j1; (· obtain ⟨z9, hz9⟩ := hq.1 hr; rw [q] at hz9; cases hz9); (· exact hno ((hq.2 hr).symm.trans q) t z h2 h3)); (· obtain rfl : t = j1 := (by omega); obtain ⟨z9, hz9⟩ := hq.1 h3; rw [q] at hz9; cases hz9)) (fun q => (hq.2 (fun z => q ⟨j1, c14, c30, z⟩)).trans (hsm q)) (fun q h => hS4 q (hS q h)))
          · rcases bt with _ | b1
            · refine gg_aload_nN (pc := 43) E dX2_chosen_43 rfl rfl ?_
              refine gg_ifnullN (tgt := 56) (pc := 44) E dX2_chosen_44 (by decide) ?_
              refine gg_aload (pc := 56) E dX2_chosen_56 rfl ?_
              refine gg_astore_n (lv' := [_, _, _, _, _]) (pc := 58) E dX2_chosen_58 rfl (Nat.le_of_ble_eq_true rfl) rfl rfl ?_
              refine gg_iincN (k := 1) (lv' := [_, _, _, _, _]) (pc := 59) E j1 dX2_chosen_59 rfl rfl rfl (Nat.le_of_ble_eq_true rfl) rfl rfl ?_
              refine gg_goto (tgt := 4) (pc := 62) E dX2_chosen_62 (by decide) ?_
              refine gg_cv rfl (gg_leS (gg_leS (gg_leS (gg_leS (gg_leN gg_le0))))) rfl (by first | omega | exact Nat.le_refl _ | (dsimp only; omega)) (by first | omega | exact Nat.le_refl _ | (dsimp only; omega)) (ih4 (j1 + 1) (some j1) rt4 P4 (by omega) (by omega) (by have z := Classical.not_not.mp (fun q => c40 ((cb_0 hG c14 c30 hk).mpr q)); exact fa_t ⟨c30, (fun b h => by rw [hbt] at h; cases h), z.1, z.2⟩) (hP) (hR4) (hin.2.2.1) (hin.2.2.2) (fun q t h1 h2 h3 => by rcases Nat.lt_or_ge t j1 with z | z; (· by_cases hr : rch row k1 j1; (· obtain ⟨z9, hz9⟩ := hq.1 hr; rw [q] at hz9; cases hz9); (· exact hno ((hq.2 hr).symm.trans q) t z h2 h3)); (· obtain rfl : t = j1 := (by omega); obtain ⟨z9, hz9⟩ := hq.1 h3; rw [q] at hz9; cases hz9)) (fun q => (hq.2 (fun z => q ⟨j1, c14, c30, z⟩)).trans (hsm q)) (fun q h => hS4 q (hS q h)))
            · have hb1 := fas_lt _ _ hbt
              obtain ⟨f1, f2, f3, f4, f5, f6, f7, f8, f9, f10⟩ := hT b1 (by omega)
              refine gg_aload_n (pc := 43) E dX2_chosen_43 rfl rfl ?_
              refine gg_ifnull (pc := 44) E dX2_chosen_44 ?_
              refine gg_aload (pc := 47) E dX2_chosen_47 rfl ?_
              refine gg_aload_n (pc := 49) E dX2_chosen_49 rfl rfl ?_
              refine gg_callV (F := [_, _]) (As := [_]) (rest := []) (pc := 50) E ck_X8 (ct_X8_isDearer hl (by omega) (by omega) (by omega) (by omega)) (cwV 1 E.2.2.2.2.1 (lw_V q2074 q1813 q1814 q192 q1815) rfl rfl rfl (by decide +kernel) ⟨by rw [hRf]; exact Nat.le_of_ble_eq_true rfl, by rw [hRl]; exact Nat.le_of_ble_eq_true rfl⟩) dX2_chosen_50 [] (by decide) rfl rfl (List.forall_mem_cons.mpr ⟨(gg_rm (List.mem_append_right _ (List.mem_append_right _ (List.mem_append_right _ (mp_mem (by omega)))))), (List.forall_mem_cons.mpr ⟨(gg_j 1 rfl (hP.1 j1 (by omega))), (List.forall_mem_cons.mpr ⟨(gg_rm (List.mem_append_right _ (List.mem_append_right _ (List.mem_append_right _ (mp_mem (by omega)))))), (List.forall_mem_cons.mpr ⟨(gg_j 1 rfl (hP.1 b1 (by omega))), (fun _ h => by cases h)⟩)⟩)⟩)⟩) (gg_rm (List.mem_append_right _ (List.mem_append_right _ (List.mem_append_right _ (mp_mem (by omega)))))) rfl rfl (Nat.le_of_ble_eq_true rfl) (by first | (rw [hRc]; dsimp only; omega) | (rw [hRc]; exact Nat.le_of_ble_eq_true rfl)) (by first | (rw [hRs]; dsimp only; omega) | (rw [hRs]; exact Nat.le_of_ble_eq_true rfl)) ?_ (fun X q C1 h => h.elim)
              rintro _ _ ⟨rfl, rfl⟩
              dsimp only [List.cons_append, List.nil_append, Option.toList]
              refine gg_ifP_eq (tgt := 59) (pc := 53) E dX2_chosen_53 (by decide) (fun c53 => ?_) (fun c53 => ?_)
              · refine gg_iincN (k := 1) (lv' := [_, _, _, _, _]) (pc := 59) E j1 dX2_chosen_59 rfl rfl rfl (Nat.le_of_ble_eq_true rfl) rfl rfl ?_
                refine gg_goto (tgt := 4) (pc := 62) E dX2_chosen_62 (by decide) ?_
                refine gg_cv rfl (gg_leS (gg_leS (gg_leS (gg_leS (gg_leN gg_le0))))) rfl (by first | omega | exact Nat.le_refl _ | (dsimp only; omega)) (by first | omega | exact Nat.le_refl _ | (dsimp only; omega)) (ih4 (j1 + 1) (some b1) rt4 P4 (by omega) (by omega) ((fa_f (fun q => c53 ((br_lt hj3 hj10 f3 f10 hb1).mp (q.2.1 b1 hbt)))).symm.trans hbt) (hP) (hR4) (hin.2.2.1) (hin.2.2.2) (fun q t h1 h2 h3 => by rcases Nat.lt_or_ge t j1 with z | z; (· by_cases hr : rch row k1 j1; (· obtain ⟨z9, hz9⟩ := hq.1 hr; rw [q] at hz9; cases hz9); (· exact hno ((hq.2 hr).symm.trans q) t z h2 h3)); (· obtain rfl : t = j1 := (by omega); obtain ⟨z9, hz9⟩ := hq.1 h3; rw [q] at hz9; cases hz9)) (fun q => (hq.2 (fun z => q ⟨j1, c14, c30, z⟩)).trans (hsm q)) (fun q h => hS4 q (hS q h)))
              · refine gg_aload (pc := 56) E dX2_chosen_56 rfl ?_
                refine gg_astore_n (lv' := [_, _, _, _, _]) (pc := 58) E dX2_chosen_58 rfl (Nat.le_of_ble_eq_true rfl) rfl rfl ?_
                refine gg_iincN (k := 1) (lv' := [_, _, _, _, _]) (pc := 59) E j1 dX2_chosen_59 rfl rfl rfl (Nat.le_of_ble_eq_true rfl) rfl rfl ?_
                refine gg_goto (tgt := 4) (pc := 62) E dX2_chosen_62 (by decide) ?_
                refine gg_cv rfl (gg_leS (gg_leS (gg_leS (gg_leS (gg_leN gg_le0))))) rfl (by first | omega | exact Nat.le_refl _ | (dsimp only; omega)) (by first | omega | exact Nat.le_refl _ | (dsimp only; omega)) (ih4 (j1 + 1) (some j1) rt4 P4 (by omega) (by omega) (by have z := Classical.not_not.mp (fun q => c40 ((cb_0 hG c14 c30 hk).mpr q)); exact fa_t ⟨c30, (fun b h => by rw [hbt] at h; cases h; exact (br_lt hj3 hj10 f3 f10 hb1).mpr c53), z.1, z.2⟩) (hP) (hR4) (hin.2.2.1) (hin.2.2.2) (fun q t h1 h2 h3 => by rcases Nat.lt_or_ge t j1 with z | z; (· by_cases hr : rch row k1 j1; (· obtain ⟨z9, hz9⟩ := hq.1 hr; rw [q] at hz9; cases hz9); (· exact hno ((hq.2 hr).symm.trans q) t z h2 h3)); (· obtain rfl : t = j1 := (by omega); obtain ⟨z9, hz9⟩ := hq.1 h3; rw [q] at hz9; cases hz9)) (fun q => (hq.2 (fun z => q ⟨j1, c14, c30, z⟩)).trans (hsm q)) (fun q h => hS4 q (hS q h)))
  refine gg_cv rfl (gg_leS (gg_leS (gg_leS (gg_leS (gg_leN gg_le0))))) rfl (by first | omega | exact Nat.le_refl _ | (dsimp only; omega)) (by first | omega | exact Nat.le_refl _ | (dsimp only; omega)) (L4 _ 0 none rt0 P (Nat.lt_succ_self _) (Nat.zero_le _) (rfl) (hP) (hR) (Nat.le_refl _) (Nat.le_refl _) (fun _ t h => absurd h (Nat.not_lt_zero t)) (fun _ => rfl) (fun q h => h))

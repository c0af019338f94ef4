set_option maxRecDepth 100000
/-! ===== what is reached; pairs apart ===== -/
set_option maxHeartbeats 4000000 in
theorem ct_X2_reached {l : Launch} (hl : l.stackTraces = false) {g : gg_G}  {w : Nat} {ad : Nat → Nat} {t7 c7 : Int32} {v7 : Value} {nd wo : Nat → Nat} {m2 : Int32} {nw : Nat} {row : Nat → Int32} {P : gg_S} {sn : Nat → Nat} {nt nr k1 q1 : Nat} (hP : Po g P sn wo row nw nt) (hw : Ww row nr nw) (hinj : ∀ i j, i < nw → j < nw → wo i = wo j → i = j) (hk : k1 < nr) (hq1 : q1 < nw) : gg_C l g yX2_reached (ws_ yX2_reached cX2_reached 7 (some (.object "java/util/BitSet"))) { frames := 12, cells := 13, slots := 60, locals := 223 } [.ref w, .int (nI k1), .ref (wo q1)] ([(w, .inl (1, [.ref (ad 1), .ref (ad 3), .ref (ad 4), .ref (ad 6), .ref (ad 7), .int t7, .int c7, v7])), ((ad 3), .inl (15, [.int m2, .int (nI nw), llF nd nw, llL nd nw]))] ++ ((llS nd wo nw) ++ P)) [] (fun vv CC => ∃ (a1 wd mb : Nat), (mb < 1024 ∧ ∀ j, mb.testBit j = true ↔ ∃ y, dist row nw (nI q1) k1 j = some y) ∧ vv = some (.ref a1) ∧ CC = [[(a1, .inl (21, [.ref wd, .int (nI (bwu mb)), .int 1]))], [(wd, gg_al g 1 (fun _ => lM mb))]]) gg_no := by
  refine gg_of (lv := [_, _, _, _, _, _, _]) (by decide) hl (Nat.le_of_ble_eq_true rfl) rfl ?_
  intro p e R s m args below meth c A Q hRf hRl hRc hRs E Fn hnm hex
  have h20 := hw.2.1
  have hr10 := hw.2.2.1
  refine gg_new (fs := [.null, .int 0, .int 0]) (pc := 0) E ck_J37 q2266 q2267 q203 dX2_reached_0 (gg_fsJ37) (by first | (rw [hRc]; exact Nat.le_of_ble_eq_true rfl) | (rw [hRc]; dsimp only; omega)) (by first | (rw [hRs]; exact Nat.le_of_ble_eq_true rfl) | (rw [hRs]; dsimp only; omega)) (fun _ => rfl) (fun a1 => ?_)
  dsimp only [List.cons_append, List.nil_append]
  refine gg_dup (pc := 3) E dX2_reached_3 rfl ?_
  refine gg_bipush (v := 10) (pc := 4) E dX2_reached_4 (by decide) ?_
  refine gg_callI (F := []) (As := [_]) (rest := [_]) (pc := 6) E (ct_J37_init hl) (cwI 1 E.2.2.2.2.1 (lw_meth q2270) rfl rfl rfl (E.2.2.2.2.1 _ q203) (E.2.2.2.2.1 _ q2268) (E.2.2.2.2.1 _ q2269) rfl (by decide +kernel) ⟨by rw [hRf]; exact Nat.le_of_ble_eq_true rfl, by rw [hRl]; exact Nat.le_of_ble_eq_true rfl⟩) dX2_reached_6 [0] (by decide) rfl rfl (fun _ h => by cases h) rfl rfl (Nat.le_of_ble_eq_true rfl) (by first | (rw [hRc]; exact Nat.le_of_ble_eq_true rfl) | (rw [hRc]; dsimp only; omega)) (by first | (rw [hRs]; exact Nat.le_of_ble_eq_true rfl) | (rw [hRs]; dsimp only; omega)) ?_ (fun X q C1 h => h.elim)
  rintro _ _ ⟨wd, rfl, rfl⟩
  dsimp only [List.cons_append, List.nil_append, Option.toList]
  refine gg_up1 ?_
  refine gg_up1 ?_
  refine gg_astore_n (lv' := [_, _, _, _, _, _, _]) (pc := 9) E dX2_reached_9 rfl (Nat.le_of_ble_eq_true rfl) rfl rfl ?_
  refine gg_aload_n (pc := 10) E dX2_reached_10 rfl rfl ?_
  refine gg_iload_n (pc := 11) E dX2_reached_11 rfl rfl ?_
  refine gg_callV (F := []) (As := [.int (nI k1)]) (rest := []) (pc := 12) E ck_J37 (ct_J37_set hl (by omega) (by decide)) (cwV 1 E.2.2.2.2.1 (lw_V q2290 q2291 q2292 q203 q2293) rfl rfl rfl (by decide +kernel) ⟨by rw [hRf]; exact Nat.le_of_ble_eq_true rfl, by rw [hRl]; exact Nat.le_of_ble_eq_true rfl⟩) dX2_reached_12 [0, 1] (by decide) rfl rfl (fun _ h => by cases h) (gg_i 0 rfl) rfl rfl (Nat.le_of_ble_eq_true rfl) (by first | (rw [hRc]; exact Nat.le_of_ble_eq_true rfl) | (rw [hRc]; dsimp only; omega)) (by first | (rw [hRs]; exact Nat.le_of_ble_eq_true rfl) | (rw [hRs]; dsimp only; omega)) ?_ (fun X q C1 h => h.elim)
  rintro _ _ ⟨rfl, rfl⟩
  dsimp only [List.cons_append, List.nil_append, Option.toList]
  refine gg_up1 ?_
  refine gg_up1 ?_
  refine gg_iconst (v := 0) (pc := 15) E dX2_reached_15 (by decide) ?_
  refine gg_istore (lv' := [_, _, _, _, _, _, _]) (pc := 16) E dX2_reached_16 (Nat.le_of_ble_eq_true rfl) rfl rfl ?_
  have L18 : ∀ (n : Nat) (mb had p1 : Nat), 11 - had < n → (Rm row nw (nI q1) k1 mb) → (had < bcn mb ∨ (had = bcn mb ∧ Cl row (nI q1) mb nw)) → (p1 ≤ had) → (had ≤ 10) → gg_W p l e R s m args below meth c g A 7 Q (2 + p1) (4 + 5 * p1) [[(a1, .inl (21, [.ref wd, .int (nI (bwu mb)), .int 1]))], [(wd, gg_al g 1 (fun _ => lM mb))]] [some (.ref w), some (.int (nI k1)), some (.ref (wo q1)), some (.ref a1), some (.int (nI had)), none, none] [] 18 := by
    intro n18
    induction n18 with
    | zero => intro mb had p1 hmz; exact absurd hmz (Nat.not_lt_zero _)
    | succ n18 ih18 =>
      intro mb had p1 hm18 hR hcl hp1 hh
      have hb10 := bcn_le mb
      have hm := hR.1
      refine gg_aload_n (pc := 18) E dX2_reached_18 rfl rfl ?_
      refine gg_callV (F := [_, _]) (As := []) (rest := []) (pc := 19) E ck_J37 (ct_J37_cardinality hl (hm)) (cwV 0 E.2.2.2.2.1 (lw_V q2325 q2326 q2327 q203 q2328) rfl rfl rfl (by decide +kernel) ⟨by rw [hRf]; exact Nat.le_of_ble_eq_true rfl, by rw [hRl]; exact Nat.le_of_ble_eq_true rfl⟩) dX2_reached_19 [] (by decide) rfl rfl (List.forall_mem_cons.mpr ⟨(gg_i 0 rfl), (List.forall_mem_cons.mpr ⟨(gg_i 1 rfl), (fun _ h => by cases h)⟩)⟩) (gg_i 0 rfl) rfl rfl (Nat.le_of_ble_eq_true rfl) (by first | (rw [hRc]; exact Nat.le_of_ble_eq_true rfl) | (rw [hRc]; dsimp only; omega)) (by first | (rw [hRs]; exact Nat.le_of_ble_eq_true rfl) | (rw [hRs]; dsimp only; omega)) ?_ (fun X q C1 h => h.elim)
      rintro _ _ ⟨rfl, rfl⟩
      dsimp only [List.cons_append, List.nil_append, Option.toList]
      refine gg_iload (pc := 22) E dX2_reached_22 rfl ?_
      refine gg_icmpN_le (tgt := 118) (pc := 24) E (bcn mb) had rfl rfl (by omega) (by omega) dX2_reached_24 (by decide) (fun c24 => ?_) (fun c24 => ?_)
      · refine gg_aload_n (pc := 118) E dX2_reached_118 rfl rfl ?_
        refine gg_aret (pc := 119) E Fn rfl (Or.inl ⟨_, rfl⟩) (Or.inr ⟨_, rfl⟩) dX2_reached_119 (by first | exact Nat.le_of_ble_eq_true rfl | (dsimp only; omega)) (by first | exact Nat.le_of_ble_eq_true rfl | (dsimp only; omega)) ?_
        have hc := hcl.resolve_left (by omega)
        exact ⟨a1, wd, mb, ⟨hR.1, hR.done hw (by omega) hc.2⟩, rfl, rfl⟩
      · refine gg_aload_n (pc := 27) E dX2_reached_27 rfl rfl ?_
        refine gg_callV (F := [_, _]) (As := []) (rest := []) (pc := 28) E ck_J37 (ct_J37_cardinality hl (hm)) (cwV 0 E.2.2.2.2.1 (lw_V q2325 q2326 q2327 q203 q2328) rfl rfl rfl (by decide +kernel) ⟨by rw [hRf]; exact Nat.le_of_ble_eq_true rfl, by rw [hRl]; exact Nat.le_of_ble_eq_true rfl⟩) dX2_reached_28 [] (by decide) rfl rfl (List.forall_mem_cons.mpr ⟨(gg_i 0 rfl), (List.forall_mem_cons.mpr ⟨(gg_i 1 rfl), (fun _ h => by cases h)⟩)⟩) (gg_i 0 rfl) rfl rfl (Nat.le_of_ble_eq_true rfl) (by first | (rw [hRc]; exact Nat.le_of_ble_eq_true rfl) | (rw [hRc]; dsimp only; omega)) (by first | (rw [hRs]; exact Nat.le_of_ble_eq_true rfl) | (rw [hRs]; dsimp only; omega)) ?_ (fun X q C1 h => h.elim)
        rintro _ _ ⟨rfl, rfl⟩
        dsimp only [List.cons_append, List.nil_append, Option.toList]
        refine gg_istore (lv' := [_, _, _, _, _, _, _]) (pc := 31) E dX2_reached_31 (Nat.le_of_ble_eq_true rfl) rfl rfl ?_
        refine gg_aload_n (pc := 33) E dX2_reached_33 rfl rfl ?_
        refine gg_get (pc := 34) E ck_X2 1 q601 rfl (by decide) dX2_reached_34 (gg_r 0 rfl) rfl ?_
        refine gg_callU (F := [_, _]) (As := []) (rest := []) (pc := 37) E ck_J19 (ct_J18_iterator hl (by omega)) (va_cwU (own := "WhistlePosts$World") (C := "java/util/LinkedList") (index := 58) (x := ⟨"java/util/LinkedList", "iterator", "()Ljava/util/Iterator;"⟩) (owner := "java/util/AbstractSequentialList") 0 E.2.2.2.2.1 (lw_app (lw_in _ [1190, 1191, 1193, 1194, 172] (by decide +kernel) (by decide +kernel)) (lw_meth q1195)) rfl rfl rfl rfl (by decide +kernel) ⟨by rw [hRf]; exact Nat.le_of_ble_eq_true rfl, by rw [hRl]; exact Nat.le_of_ble_eq_true rfl⟩) dX2_reached_37 [] (by decide) rfl rfl (List.forall_mem_append.mpr ⟨(List.forall_mem_cons.mpr ⟨(gg_r 1 rfl), (fun _ h => by cases h)⟩), (fun q hq => gg_rm (List.mem_append_right _ (List.mem_append_left _ (hq))))⟩) (gg_r 1 rfl) rfl rfl (Nat.le_of_ble_eq_true rfl) (by first | (rw [hRc]; exact Nat.le_of_ble_eq_true rfl) | (rw [hRc]; dsimp only; omega)) (by first | (rw [hRs]; exact Nat.le_of_ble_eq_true rfl) | (rw [hRs]; dsimp only; omega)) ?_ (fun X q C1 h => h.elim)
        rintro _ _ ⟨i1, rfl, rfl⟩
        dsimp only [List.cons_append, List.nil_append, Option.toList]
        refine gg_up2 ?_
        refine gg_astore (lv' := [_, _, _, _, _, _, _]) (pc := 40) E dX2_reached_40 (Nat.le_of_ble_eq_true rfl) rfl rfl ?_
        have L42 : ∀ (n : Nat) (j1 : Nat) (v : Value) (mi : Nat), nw - j1 < n → (j1 ≤ nw) → (Rm row nw (nI q1) k1 mi) → ((mi = mb ∧ Cl row (nI q1) mb j1) ∨ bcn mb < bcn mi) → gg_W p l e R s m args below meth c g A 7 Q (2 + p1 + 1) (4 + 5 * p1 + 5) [[(a1, .inl (21, [.ref wd, .int (nI (bwu mi)), .int 1]))], [(wd, gg_al g 1 (fun _ => lM mi))], [(i1, .inl (19, [v, va_rf (if j1 < nw then some (nd j1) else none), .int (nI j1), .int m2, .ref (ad 3)]))]] [some (.ref w), some (.int (nI k1)), some (.ref (wo q1)), some (.ref a1), some (.int (nI (bcn mb))), some (.ref i1), none] [] 42 := by
          intro n42
          induction n42 with
          | zero => intro j1 v mi hmz; exact absurd hmz (Nat.not_lt_zero _)
          | succ n42 ih42 =>
            intro j1 v mi hm42 hj1 hR hor
            have hmi := hR.1
            refine gg_aload (pc := 42) E dX2_reached_42 rfl ?_
            refine gg_callF (F := [_, _, _]) (As := []) (rest := []) (pc := 44) E ck_J28 (ct_J28_hasNext hl (hj1) (by omega)) (gg_cwF 0 E (x := ⟨"java/util/Iterator", "hasNext", "()Z"⟩) (by decide) nq1310 nq1308 nq1306 (lw_app (lw_in _ [1283, 1307, 1309, 188] (by decide +kernel) (by decide +kernel)) (lw_meth q1311)) (by decide +kernel) ⟨by rw [hRf]; exact Nat.le_of_ble_eq_true rfl, by rw [hRl]; exact Nat.le_of_ble_eq_true rfl⟩) dX2_reached_44 [] (by decide) rfl rfl (List.forall_mem_cons.mpr ⟨(gg_i 2 rfl), (List.forall_mem_cons.mpr ⟨(gg_r 1 rfl), (fun _ h => by cases h)⟩)⟩) (gg_i 2 rfl) rfl rfl (Nat.le_of_ble_eq_true rfl) (by first | (rw [hRc]; exact Nat.le_of_ble_eq_true rfl) | (rw [hRc]; dsimp only; omega)) (by first | (rw [hRs]; exact Nat.le_of_ble_eq_true rfl) | (rw [hRs]; dsimp only; omega)) ?_ (fun X q C1 h => h.elim)
            rintro _ _ ⟨rfl, rfl⟩
            dsimp only [List.cons_append, List.nil_append, Option.toList]
            refine gg_ifP_eq (tgt := 115) (pc := 49) E dX2_reached_49 (by decide) (fun c49 => ?_) (fun c49 => ?_)
            · have hjn : nw = j1 := by omega
              refine gg_let rfl rfl ?_
              refine gg_goto (tgt := 18) (pc := 115) E dX2_reached_115 (by decide) ?_
              refine gg_cv rfl (gg_leS (gg_leS (gg_leS (gg_leS (gg_leS (gg_leN (gg_leN gg_le0))))))) rfl (by first | exact Nat.le_refl _ | omega | (dsimp only; omega)) (by first | exact Nat.le_refl _ | omega | (dsimp only; omega)) (ih18 mi (bcn mb) (p1 + 1) (by omega) (hR) (by rcases hor with z | z; (· rw [← hjn] at z; exact Or.inr ⟨by rw [z.1], z.1 ▸ z.2⟩); (· exact Or.inl z)) (by omega) (hb10))
            · refine gg_aload (pc := 52) E dX2_reached_52 rfl ?_
              refine gg_callF (F := [_, _]) (As := []) (rest := []) (pc := 54) E ck_J28 (ct_J28_next hl (c49) (by omega)) (gg_cwF 0 E (x := ⟨"java/util/Iterator", "next", "()Ljava/lang/Object;"⟩) (by decide) nq1423 nq1421 nq1306 (lw_app (lw_in _ [1313, 1420, 1422, 188] (by decide +kernel) (by decide +kernel)) (lw_meth q1424)) (by decide +kernel) ⟨by rw [hRf]; exact Nat.le_of_ble_eq_true rfl, by rw [hRl]; exact Nat.le_of_ble_eq_true rfl⟩) dX2_reached_54 [2] (by decide) rfl rfl (List.forall_mem_append.mpr ⟨(List.forall_mem_cons.mpr ⟨(gg_r 1 rfl), (fun _ h => by cases h)⟩), (fun q hq => gg_rm (List.mem_append_right _ (List.mem_append_left _ (hq))))⟩) (gg_i 2 rfl) rfl rfl (Nat.le_of_ble_eq_true rfl) (by first | (rw [hRc]; exact Nat.le_of_ble_eq_true rfl) | (rw [hRc]; dsimp only; omega)) (by first | (rw [hRs]; exact Nat.le_of_ble_eq_true rfl) | (rw [hRs]; dsimp only; omega)) ?_ (fun X q C1 h => h.elim)
              rintro _ _ ⟨rfl, rfl⟩
              dsimp only [List.cons_append, List.nil_append, Option.toList]
              refine gg_up2 ?_
              refine gg_cast (pc := 59) E ck_X4 q1432 (Or.inl rfl) dX2_reached_59 (gg_rm (List.mem_append_right _ (List.mem_append_right _ (hP.2 j1 (by omega))))) ?_
              refine gg_astore (lv' := [_, _, _, _, _, _, _]) (pc := 62) E dX2_reached_62 (Nat.le_of_ble_eq_true rfl) rfl rfl ?_
              refine gg_aload (pc := 64) E dX2_reached_64 rfl ?_
              refine gg_aload_n (pc := 66) E dX2_reached_66 rfl rfl ?_
              refine gg_acmp_eq (rx := (some (wo j1))) (ry := (some (wo q1))) (tgt := 42) (pc := 67) E dX2_reached_67 (by decide) (fun c67 => ?_) (fun c67 => ?_)
              · refine gg_cv rfl (gg_leS (gg_leS (gg_leS (gg_leS (gg_leS (gg_leS (gg_leN gg_le0))))))) rfl (by first | exact Nat.le_refl _ | omega | (dsimp only; omega)) (by first | exact Nat.le_refl _ | omega | (dsimp only; omega)) (ih42 (j1 + 1) (.ref (nd j1)) mi (by omega) (by omega) (hR) (hor.imp (fun z => ⟨z.1, fun e he ho => by rcases Nat.lt_or_ge e j1 with y | y; (· exact z.2 e y ho); (· obtain rfl : j1 = e := (by omega); exact absurd (congrArg nI (hinj _ _ c49 hq1 (Option.some.inj c67))) ho)⟩) id))
              · have hwj := hw.2.2.2 j1 c49
                refine gg_aload_n (pc := 70) E dX2_reached_70 rfl rfl ?_
                refine gg_aload (pc := 71) E dX2_reached_71 rfl ?_
                refine gg_callV (F := [_, _, _]) (As := []) (rest := [_]) (pc := 73) E ck_X4 (ct_X4_first hl ) (cwV 0 E.2.2.2.2.1 (lw_V q2335 q2336 q2337 q177 q2338) rfl rfl rfl (by decide +kernel) ⟨by rw [hRf]; exact Nat.le_of_ble_eq_true rfl, by rw [hRl]; exact Nat.le_of_ble_eq_true rfl⟩) dX2_reached_73 [] (by decide) rfl rfl (List.forall_mem_cons.mpr ⟨(gg_rm (List.mem_append_right _ (List.mem_append_right _ (hP.2 j1 (by omega))))), (fun _ h => by cases h)⟩) (gg_rm (List.mem_append_right _ (List.mem_append_right _ (hP.2 j1 (by omega))))) rfl rfl (Nat.le_of_ble_eq_true rfl) (by first | (rw [hRc]; exact Nat.le_of_ble_eq_true rfl) | (rw [hRc]; dsimp only; omega)) (by first | (rw [hRs]; exact Nat.le_of_ble_eq_true rfl) | (rw [hRs]; dsimp only; omega)) ?_ (fun X q C1 h => h.elim)
                rintro _ _ ⟨rfl, rfl⟩
                dsimp only [List.cons_append, List.nil_append, Option.toList]
                rw [hwj.1]
                refine gg_callV (F := [_, _, _]) (As := [.int (nI (ea row j1))]) (rest := []) (pc := 76) E ck_J37 (ct_J37_get hl (by omega) (hmi)) (cwV 1 E.2.2.2.2.1 (lw_V q2339 q2340 q2341 q203 q2342) rfl rfl rfl (by decide +kernel) ⟨by rw [hRf]; exact Nat.le_of_ble_eq_true rfl, by rw [hRl]; exact Nat.le_of_ble_eq_true rfl⟩) dX2_reached_76 [] (by decide) rfl rfl (List.forall_mem_cons.mpr ⟨(gg_i 0 rfl), (List.forall_mem_cons.mpr ⟨(gg_i 1 rfl), (fun _ h => by cases h)⟩)⟩) (gg_i 0 rfl) rfl rfl (Nat.le_of_ble_eq_true rfl) (by first | (rw [hRc]; exact Nat.le_of_ble_eq_true rfl) | (rw [hRc]; dsimp only; omega)) (by first | (rw [hRs]; exact Nat.le_of_ble_eq_true rfl) | (rw [hRs]; dsimp only; omega)) ?_ (fun X q C1 h => h.elim)
                rintro _ _ ⟨rfl, rfl⟩
                dsimp only [List.cons_append, List.nil_append, Option.toList]
                refine gg_aload_n (pc := 79) E dX2_reached_79 rfl rfl ?_
                refine gg_aload (pc := 80) E dX2_reached_80 rfl ?_
                refine gg_callV (F := [_, _, _]) (As := []) (rest := [_, _]) (pc := 82) E ck_X4 (ct_X4_second hl ) (cwV 0 E.2.2.2.2.1 (lw_V q2343 q2344 q2345 q177 q2346) rfl rfl rfl (by decide +kernel) ⟨by rw [hRf]; exact Nat.le_of_ble_eq_true rfl, by rw [hRl]; exact Nat.le_of_ble_eq_true rfl⟩) dX2_reached_82 [] (by decide) rfl rfl (List.forall_mem_cons.mpr ⟨(gg_rm (List.mem_append_right _ (List.mem_append_right _ (hP.2 j1 (by omega))))), (fun _ h => by cases h)⟩) (gg_rm (List.mem_append_right _ (List.mem_append_right _ (hP.2 j1 (by omega))))) rfl rfl (Nat.le_of_ble_eq_true rfl) (by first | (rw [hRc]; exact Nat.le_of_ble_eq_true rfl) | (rw [hRc]; dsimp only; omega)) (by first | (rw [hRs]; exact Nat.le_of_ble_eq_true rfl) | (rw [hRs]; dsimp only; omega)) ?_ (fun X q C1 h => h.elim)
                rintro _ _ ⟨rfl, rfl⟩
                dsimp only [List.cons_append, List.nil_append, Option.toList]
                rw [hwj.2.1]
                refine gg_callV (F := [_, _, _]) (As := [.int (nI (eb row j1))]) (rest := [_]) (pc := 85) E ck_J37 (ct_J37_get hl (by omega) (hmi)) (cwV 1 E.2.2.2.2.1 (lw_V q2339 q2340 q2341 q203 q2342) rfl rfl rfl (by decide +kernel) ⟨by rw [hRf]; exact Nat.le_of_ble_eq_true rfl, by rw [hRl]; exact Nat.le_of_ble_eq_true rfl⟩) dX2_reached_85 [] (by decide) rfl rfl (List.forall_mem_cons.mpr ⟨(gg_i 0 rfl), (List.forall_mem_cons.mpr ⟨(gg_i 1 rfl), (fun _ h => by cases h)⟩)⟩) (gg_i 0 rfl) rfl rfl (Nat.le_of_ble_eq_true rfl) (by first | (rw [hRc]; exact Nat.le_of_ble_eq_true rfl) | (rw [hRc]; dsimp only; omega)) (by first | (rw [hRs]; exact Nat.le_of_ble_eq_true rfl) | (rw [hRs]; dsimp only; omega)) ?_ (fun X q C1 h => h.elim)
                rintro _ _ ⟨rfl, rfl⟩
                dsimp only [List.cons_append, List.nil_append, Option.toList]
                refine gg_icmp_ne (tgt := 94) (pc := 88) E dX2_reached_88 (by decide) (fun c88 => ?_) (fun c88 => ?_)
                · have hno : ¬ nI j1 = (nI q1) := fun q => c67 (congrArg some (congrArg wo ((nI_eq (by omega) (by omega)).mp q)))
                  have hdf : ¬ mi.testBit (ea row j1) = mi.testBit (eb row j1) := fun q => c88 (by rw [q])
                  have hst := Rm.step hw (show k1 < 10 by omega) hR c49 hno hdf
                  refine gg_aload_n (pc := 94) E dX2_reached_94 rfl rfl ?_
                  refine gg_aload (pc := 95) E dX2_reached_95 rfl ?_
                  refine gg_callV (F := [_, _, _]) (As := []) (rest := [_]) (pc := 97) E ck_X4 (ct_X4_first hl ) (cwV 0 E.2.2.2.2.1 (lw_V q2335 q2336 q2337 q177 q2338) rfl rfl rfl (by decide +kernel) ⟨by rw [hRf]; exact Nat.le_of_ble_eq_true rfl, by rw [hRl]; exact Nat.le_of_ble_eq_true rfl⟩) dX2_reached_97 [] (by decide) rfl rfl (List.forall_mem_cons.mpr ⟨(gg_rm (List.mem_append_right _ (List.mem_append_right _ (hP.2 j1 (by omega))))), (fun _ h => by cases h)⟩) (gg_rm (List.mem_append_right _ (List.mem_append_right _ (hP.2 j1 (by omega))))) rfl rfl (Nat.le_of_ble_eq_true rfl) (by first | (rw [hRc]; exact Nat.le_of_ble_eq_true rfl) | (rw [hRc]; dsimp only; omega)) (by first | (rw [hRs]; exact Nat.le_of_ble_eq_true rfl) | (rw [hRs]; dsimp only; omega)) ?_ (fun X q C1 h => h.elim)
                  rintro _ _ ⟨rfl, rfl⟩
                  dsimp only [List.cons_append, List.nil_append, Option.toList]
                  rw [hwj.1]
                  refine gg_callV (F := [_]) (As := [.int (nI (ea row j1))]) (rest := []) (pc := 100) E ck_J37 (ct_J37_set hl (by omega) (hmi)) (cwV 1 E.2.2.2.2.1 (lw_V q2290 q2291 q2292 q203 q2293) rfl rfl rfl (by decide +kernel) ⟨by rw [hRf]; exact Nat.le_of_ble_eq_true rfl, by rw [hRl]; exact Nat.le_of_ble_eq_true rfl⟩) dX2_reached_100 [0, 1] (by decide) rfl rfl (fun _ h => by cases h) (gg_i 0 rfl) rfl rfl (Nat.le_of_ble_eq_true rfl) (by first | (rw [hRc]; exact Nat.le_of_ble_eq_true rfl) | (rw [hRc]; dsimp only; omega)) (by first | (rw [hRs]; exact Nat.le_of_ble_eq_true rfl) | (rw [hRs]; dsimp only; omega)) ?_ (fun X q C1 h => h.elim)
                  rintro _ _ ⟨rfl, rfl⟩
                  dsimp only [List.cons_append, List.nil_append, Option.toList]
                  refine gg_up1 ?_
                  refine gg_up1 ?_
                  refine gg_aload_n (pc := 103) E dX2_reached_103 rfl rfl ?_
                  refine gg_aload (pc := 104) E dX2_reached_104 rfl ?_
                  refine gg_callV (F := [_, _, _]) (As := []) (rest := [_]) (pc := 106) E ck_X4 (ct_X4_second hl ) (cwV 0 E.2.2.2.2.1 (lw_V q2343 q2344 q2345 q177 q2346) rfl rfl rfl (by decide +kernel) ⟨by rw [hRf]; exact Nat.le_of_ble_eq_true rfl, by rw [hRl]; exact Nat.le_of_ble_eq_true rfl⟩) dX2_reached_106 [] (by decide) rfl rfl (List.forall_mem_cons.mpr ⟨(gg_rm (List.mem_append_right _ (List.mem_append_right _ (hP.2 j1 (by omega))))), (fun _ h => by cases h)⟩) (gg_rm (List.mem_append_right _ (List.mem_append_right _ (hP.2 j1 (by omega))))) rfl rfl (Nat.le_of_ble_eq_true rfl) (by first | (rw [hRc]; exact Nat.le_of_ble_eq_true rfl) | (rw [hRc]; dsimp only; omega)) (by first | (rw [hRs]; exact Nat.le_of_ble_eq_true rfl) | (rw [hRs]; dsimp only; omega)) ?_ (fun X q C1 h => h.elim)
                  rintro _ _ ⟨rfl, rfl⟩
                  dsimp only [List.cons_append, List.nil_append, Option.toList]
                  rw [hwj.2.1]
                  refine gg_callV (F := [_]) (As := [.int (nI (eb row j1))]) (rest := []) (pc := 109) E ck_J37 (ct_J37_set hl (by omega) (or_lt hmi (by omega))) (cwV 1 E.2.2.2.2.1 (lw_V q2290 q2291 q2292 q203 q2293) rfl rfl rfl (by decide +kernel) ⟨by rw [hRf]; exact Nat.le_of_ble_eq_true rfl, by rw [hRl]; exact Nat.le_of_ble_eq_true rfl⟩) dX2_reached_109 [0, 1] (by decide) rfl rfl (fun _ h => by cases h) (gg_i 0 rfl) rfl rfl (Nat.le_of_ble_eq_true rfl) (by first | (rw [hRc]; exact Nat.le_of_ble_eq_true rfl) | (rw [hRc]; dsimp only; omega)) (by first | (rw [hRs]; exact Nat.le_of_ble_eq_true rfl) | (rw [hRs]; dsimp only; omega)) ?_ (fun X q C1 h => h.elim)
                  rintro _ _ ⟨rfl, rfl⟩
                  dsimp only [List.cons_append, List.nil_append, Option.toList]
                  refine gg_up1 ?_
                  refine gg_up1 ?_
                  refine gg_goto (tgt := 42) (pc := 112) E dX2_reached_112 (by decide) ?_
                  refine gg_cv rfl (gg_leS (gg_leS (gg_leS (gg_leS (gg_leS (gg_leS (gg_leN gg_le0))))))) rfl (by first | exact Nat.le_refl _ | omega | (dsimp only; omega)) (by first | exact Nat.le_refl _ | omega | (dsimp only; omega)) (ih42 (j1 + 1) (.ref (nd j1)) (mi ||| 2 ^ ea row j1 ||| 2 ^ eb row j1) (by omega) (by omega) (hst.1) (Or.inr (by have h9 := hst.2; rcases hor with z | z; (· rw [← z.1]; exact h9); (· omega))))
                · replace c88 : mi.testBit (ea row j1) = mi.testBit (eb row j1) := by cases ca : mi.testBit (ea row j1) <;> cases cb : mi.testBit (eb row j1) <;> first | rfl | (rw [ca, cb] at c88; exact absurd c88 (by decide))
                  refine gg_goto (tgt := 42) (pc := 91) E dX2_reached_91 (by decide) ?_
                  refine gg_cv rfl (gg_leS (gg_leS (gg_leS (gg_leS (gg_leS (gg_leS (gg_leN gg_le0))))))) rfl (by first | exact Nat.le_refl _ | omega | (dsimp only; omega)) (by first | exact Nat.le_refl _ | omega | (dsimp only; omega)) (ih42 (j1 + 1) (.ref (nd j1)) mi (by omega) (by omega) (hR) (hor.imp (fun z => ⟨z.1, fun e he ho => by rcases Nat.lt_or_ge e j1 with y | y; (· exact z.2 e y ho); (· obtain rfl : j1 = e := (by omega); rw [← z.1]; exact c88)⟩) id))
        refine gg_cv rfl (gg_leS (gg_leS (gg_leS (gg_leS (gg_leS (gg_leS (gg_leN gg_le0))))))) rfl (by first | exact Nat.le_refl _ | omega | (dsimp only; omega)) (by first | exact Nat.le_refl _ | omega | (dsimp only; omega)) (L42 _ 0 .null mb (Nat.lt_succ_self _) (Nat.zero_le _) (hR) (Or.inl ⟨rfl, fun e he => absurd he (Nat.not_lt_zero e)⟩))
  refine gg_cv rfl (gg_leS (gg_leS (gg_leS (gg_leS (gg_leS (gg_leN (gg_leN gg_le0))))))) rfl (by first | exact Nat.le_refl _ | omega | (dsimp only; omega)) (by first | exact Nat.le_refl _ | omega | (dsimp only; omega)) (L18 _ (0 ||| 2 ^ k1) 0 0 (Nat.lt_succ_self _) (Rm.start hw (by omega)) (Or.inl (by rw [bcn_or 0 (by decide) k1 (by omega)]; simp)) (Nat.zero_le _) (by omega))
set_option maxHeartbeats 4000000 in
theorem ct_X2_apart {l : Launch} (hl : l.stackTraces = false) {g : gg_G}  {w : Nat} {ad : Nat → Nat} {t7 c7 : Int32} {v7 : Value} {m1 : Int32} {nr : Nat} {nd wo : Nat → Nat} {m2 : Int32} {nw : Nat} {row : Nat → Int32} {P : gg_S} {sn : Nat → Nat} {nt q1 : Nat} (hP : Po g P sn wo row nw nt) (hw : Ww row nr nw) (hinj : ∀ i j, i < nw → j < nw → wo i = wo j → i = j) (hq1 : q1 < nw) : gg_C l g yX2_apart (ws_ yX2_apart cX2_apart 4 (some .int)) { frames := 13, cells := 130, slots := 600, locals := 249 } [.ref w, .ref (wo q1)] ([(w, .inl (1, [.ref (ad 1), .ref (ad 3), .ref (ad 4), .ref (ad 6), .ref (ad 7), .int t7, .int c7, v7])), ((ad 1), .inl (11, [.int m1, .ref (ad 2), .int (nI nr)])), ((ad 3), .inl (15, [.int m2, .int (nI nw), llF nd nw, llL nd nw]))] ++ ((llS nd wo nw) ++ P)) [] (fun vv CC => vv = some (.int (prt row nw (nI q1) nr)) ∧ CC = []) gg_no := by
  refine gg_of (lv := [_, _, _, _]) (by decide) hl (Nat.le_of_ble_eq_true rfl) rfl ?_
  intro p e R s m args below meth c A Q hRf hRl hRc hRs E Fn hnm hex
  have h20 := hw.2.1
  have hr10 := hw.2.2.1
  refine gg_iconst (v := 0) (pc := 0) E dX2_apart_0 (by decide) ?_
  refine gg_istore_n (lv' := [_, _, _, _]) (pc := 1) E dX2_apart_1 rfl (Nat.le_of_ble_eq_true rfl) rfl rfl ?_
  refine gg_iconst (v := 0) (pc := 2) E dX2_apart_2 (by decide) ?_
  refine gg_istore_n (lv' := [_, _, _, _]) (pc := 3) E dX2_apart_3 rfl (Nat.le_of_ble_eq_true rfl) rfl rfl ?_
  have L4 : ∀ (n : Nat) (k : Nat), nr - k < n → (k ≤ nr) → ((sM (fun i => cB ((nrt row nw (nI q1) nr) i) nr) k) ≤ 10 * k) → gg_W p l e R s m args below meth c g A 4 Q (13 * k) (60 * k) [] [some (.ref w), some (.ref (wo q1)), some (.int (nI (sM (fun i => cB ((nrt row nw (nI q1) nr) i) nr) k))), some (.int (nI k))] [] 4 := by
    intro n4
    induction n4 with
    | zero => intro k hmz; exact absurd hmz (Nat.not_lt_zero _)
    | succ n4 ih4 =>
      intro k hm4 hk1 hsb
      refine gg_iload_n (pc := 4) E dX2_apart_4 rfl rfl ?_
      refine gg_aload_n (pc := 5) E dX2_apart_5 rfl rfl ?_
      refine gg_get (pc := 6) E ck_X2 0 q598 rfl (by decide) dX2_apart_6 (gg_r 0 rfl) rfl ?_
      refine gg_callF (F := []) (As := []) (rest := [_]) (pc := 9) E ck_J2 (ct_J2_size hl ) (gg_cwF 0 E (x := ⟨"java/util/List", "size", "()I"⟩) (by decide) nq1046 nq1044 nq683 (lw_app (lw_in _ [1095, 1043, 1045, 155] (by decide +kernel) (by decide +kernel)) (lw_meth q1047)) (by decide +kernel) ⟨by rw [hRf]; exact Nat.le_of_ble_eq_true rfl, by rw [hRl]; exact Nat.le_of_ble_eq_true rfl⟩) dX2_apart_9 [] (by decide) rfl rfl (List.forall_mem_cons.mpr ⟨(gg_r 1 rfl), (fun _ h => by cases h)⟩) (gg_r 1 rfl) rfl rfl (Nat.le_of_ble_eq_true rfl) (by first | (rw [hRc]; exact Nat.le_of_ble_eq_true rfl) | (rw [hRc]; dsimp only; omega)) (by first | (rw [hRs]; exact Nat.le_of_ble_eq_true rfl) | (rw [hRs]; dsimp only; omega)) ?_ (fun X q C1 h => h.elim)
      rintro _ _ ⟨rfl, rfl⟩
      dsimp only [List.cons_append, List.nil_append, Option.toList]
      refine gg_icmpN_ge (tgt := 45) (pc := 14) E k nr rfl rfl (by omega) (by omega) dX2_apart_14 (by decide) (fun c14 => ?_) (fun c14 => ?_)
      · refine gg_iload_n (pc := 45) E dX2_apart_45 rfl rfl ?_
        refine gg_iconst (v := 2) (pc := 46) E dX2_apart_46 (by decide) ?_
        refine gg_idivN (pc := 47) E (sM (fun i => cB ((nrt row nw (nI q1) nr) i) nr) k) 2 rfl rfl (by omega) (by decide) (by omega) dX2_apart_47 ?_
        obtain rfl : nr = k := by omega
        refine gg_iret (pc := 48) E Fn rfl (rfl) dX2_apart_48 (by first | exact Nat.le_of_ble_eq_true rfl | (dsimp only; omega)) (by first | exact Nat.le_of_ble_eq_true rfl | (dsimp only; omega)) ?_
        exact ⟨by rw [prt_n hw, tri2 (nrt_s hw) (nrt_d hw), Nat.mul_div_cancel_left _ (show 0 < 2 by decide)], rfl⟩
      · refine gg_iload_n (pc := 17) E dX2_apart_17 rfl rfl ?_
        refine gg_aload_n (pc := 18) E dX2_apart_18 rfl rfl ?_
        refine gg_get (pc := 19) E ck_X2 0 q598 rfl (by decide) dX2_apart_19 (gg_r 0 rfl) rfl ?_
        refine gg_callF (F := []) (As := []) (rest := [_]) (pc := 22) E ck_J2 (ct_J2_size hl ) (gg_cwF 0 E (x := ⟨"java/util/List", "size", "()I"⟩) (by decide) nq1046 nq1044 nq683 (lw_app (lw_in _ [1095, 1043, 1045, 155] (by decide +kernel) (by decide +kernel)) (lw_meth q1047)) (by decide +kernel) ⟨by rw [hRf]; exact Nat.le_of_ble_eq_true rfl, by rw [hRl]; exact Nat.le_of_ble_eq_true rfl⟩) dX2_apart_22 [] (by decide) rfl rfl (List.forall_mem_cons.mpr ⟨(gg_r 1 rfl), (fun _ h => by cases h)⟩) (gg_r 1 rfl) rfl rfl (Nat.le_of_ble_eq_true rfl) (by first | (rw [hRc]; exact Nat.le_of_ble_eq_true rfl) | (rw [hRc]; dsimp only; omega)) (by first | (rw [hRs]; exact Nat.le_of_ble_eq_true rfl) | (rw [hRs]; dsimp only; omega)) ?_ (fun X q C1 h => h.elim)
        rintro _ _ ⟨rfl, rfl⟩
        dsimp only [List.cons_append, List.nil_append, Option.toList]
        refine gg_aload_n (pc := 27) E dX2_apart_27 rfl rfl ?_
        refine gg_iload_n (pc := 28) E dX2_apart_28 rfl rfl ?_
        refine gg_aload_n (pc := 29) E dX2_apart_29 rfl rfl ?_
        refine gg_callV (F := []) (As := [.int (nI k), _]) (rest := [_, _]) (pc := 30) E ck_X2 (ct_X2_reached (nt := nt) hl hP hw hinj c14 hq1) (cwV 2 E.2.2.2.2.1 (lw_V q2262 q2264 qs47 q152 q2265) rfl rfl rfl (by decide +kernel) ⟨by rw [hRf]; exact Nat.le_of_ble_eq_true rfl, by rw [hRl]; exact Nat.le_of_ble_eq_true rfl⟩) dX2_apart_30 [] (by decide) rfl rfl (List.forall_mem_append.mpr ⟨(List.forall_mem_cons.mpr ⟨(gg_r 0 rfl), (List.forall_mem_cons.mpr ⟨(gg_r 2 rfl), (fun _ h => by cases h)⟩)⟩), (List.forall_mem_append.mpr ⟨(fun q hq => gg_rm (List.mem_append_right _ (List.mem_append_left _ (hq)))), (fun q hq => gg_rm (List.mem_append_right _ (List.mem_append_right _ (hq))))⟩)⟩) (gg_r 0 rfl) rfl rfl (Nat.le_of_ble_eq_true rfl) (by first | (rw [hRc]; exact Nat.le_of_ble_eq_true rfl) | (rw [hRc]; dsimp only; omega)) (by first | (rw [hRs]; exact Nat.le_of_ble_eq_true rfl) | (rw [hRs]; dsimp only; omega)) ?_ (fun X q C1 h => h.elim)
        rintro _ _ ⟨bs, wd, mb, ⟨hm, hx⟩, rfl, rfl⟩
        dsimp only [List.cons_append, List.nil_append, Option.toList]
        refine gg_up1 ?_
        refine gg_up1 ?_
        refine gg_callV (F := [_, _]) (As := []) (rest := [_, _]) (pc := 33) E ck_J37 (ct_J37_cardinality hl (hm)) (cwV 0 E.2.2.2.2.1 (lw_V q2325 q2326 q2327 q203 q2328) rfl rfl rfl (by decide +kernel) ⟨by rw [hRf]; exact Nat.le_of_ble_eq_true rfl, by rw [hRl]; exact Nat.le_of_ble_eq_true rfl⟩) dX2_apart_33 [] (by decide) rfl rfl (List.forall_mem_cons.mpr ⟨(gg_i 0 rfl), (List.forall_mem_cons.mpr ⟨(gg_i 1 rfl), (fun _ h => by cases h)⟩)⟩) (gg_i 0 rfl) rfl rfl (Nat.le_of_ble_eq_true rfl) (by first | (rw [hRc]; exact Nat.le_of_ble_eq_true rfl) | (rw [hRc]; dsimp only; omega)) (by first | (rw [hRs]; exact Nat.le_of_ble_eq_true rfl) | (rw [hRs]; dsimp only; omega)) ?_ (fun X q C1 h => h.elim)
        rintro _ _ ⟨rfl, rfl⟩
        dsimp only [List.cons_append, List.nil_append, Option.toList]
        refine gg_isubN (pc := 36) E nr (bcn mb) rfl rfl ((un_k hw c14 hx).1) dX2_apart_36 ?_
        refine gg_iaddN (pc := 37) E (sM (fun i => cB ((nrt row nw (nI q1) nr) i) nr) k) (nr - (bcn mb)) rfl rfl dX2_apart_37 ?_
        refine gg_topI (y := nI (sM (fun i => cB ((nrt row nw (nI q1) nr) i) nr) (k + 1))) (congrArg nI (show (sM (fun i => cB ((nrt row nw (nI q1) nr) i) nr) k) + (nr - bcn mb) = _ from by rw [(un_k hw c14 hx).2]; rfl)) ?_
        refine gg_up1 ?_
        refine gg_let rfl rfl ?_
        refine gg_let rfl rfl ?_
        refine gg_istore_n (lv' := [_, _, _, _]) (pc := 38) E dX2_apart_38 rfl (Nat.le_of_ble_eq_true rfl) rfl rfl ?_
        refine gg_iincN (k := 1) (lv' := [_, _, _, _]) (pc := 39) E k dX2_apart_39 rfl rfl rfl (Nat.le_of_ble_eq_true rfl) rfl rfl ?_
        refine gg_goto (tgt := 4) (pc := 42) E dX2_apart_42 (by decide) ?_
        refine gg_cv rfl (gg_leS (gg_leS (gg_leS (gg_leS gg_le0)))) rfl (by first | exact Nat.le_refl _ | omega | (dsimp only; omega)) (by first | exact Nat.le_refl _ | omega | (dsimp only; omega)) (ih4 (k + 1) (by omega) (by omega) (by show (sM (fun i => cB ((nrt row nw (nI q1) nr) i) nr) k) + cB ((nrt row nw (nI q1) nr) k) nr ≤ _; have := cB_le ((nrt row nw (nI q1) nr) k) nr; omega))
  refine gg_cv rfl (gg_leS (gg_leS (gg_leS (gg_leS gg_le0)))) rfl (by first | exact Nat.le_refl _ | omega | (dsimp only; omega)) (by first | exact Nat.le_refl _ | omega | (dsimp only; omega)) (L4 _ 0 (Nat.lt_succ_self _) (Nat.zero_le _) (Nat.zero_le _))

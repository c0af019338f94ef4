set_option maxRecDepth 100000
section LDCW
variable {p : Program} {l : Launch} {e : Env} {R : Room} {s : State} {m : MethodId} {args : Array Value} {below : List Frame} {meth : Method} {c : Code} {g : gg_G} {A : Nat → Prop} {ro : gg_S} {nL : Nat} {Q : State → Prop} {kc ns : Nat} {M : List gg_S} {lv : List (Option Value)} {st : List Value} {pc : Nat} {cc : ByteArray} {own : String}
theorem st_ldcSw {T : State} {locs : List Loc} {cells slots : Nat} (X : Stand p l e R s m args below meth c T locs cells slots) (hexec : p.tables.exec = Jvm.exec) {text : String} {index : Nat} {a : Addr} (hown : s.vm.findClass own = some m.cls)
    (hconst : (Cond.stringRef own index text).before args s = true) (hev : (Term.string own index).eval args s none [] s = some (.ref a)) {f : JFrame} (hg : f.method = m) (hdg : decode c.code f.pc = .ok (.ldc_w index, 3)) :
    ∀ target, Steps p.tables e below (T.setTop { f with pc := f.pc + 3, stack := .ref a :: f.stack }) target → Steps p.tables e below (T.setTop f) target := by
  obtain ⟨k, cf, i, a', hk, hcf, hcp, -, hr, hev'⟩ := Cond.stringRef_spec hown hconst
  cases hev.symm.trans hev'
  obtain ⟨k', hk', he⟩ := X.warmed.alike.2.2 _ _ hk
  have hr' : k'.resolved[index]? = some (some (.string a)) := by
    rcases X.warmed.entry hk hk' index with h | ⟨h, -⟩
    · rw [h]; exact hr
    · rw [hr] at h; cases h
  intro target hrest
  subst hg
  jvm_step X.here [hexec, hdg, ldc_w.wp_string (e := e) (s := T) (f := f) X.here.top hk' (by rw [he]; exact hcf) hcp hr']
  exact hrest
theorem gg_ldcSw (E : gg_V p l s m args meth c cc nL own g A ro) (k : Nat) {tx : String} {index a : Nat} (h : (gg_str g)[k]? = some (own, index, tx, a)) (hdg : decode cc pc = .ok (.ldc_w index, 3)) (K : gg_W p l e R s m args below meth c g A nL Q kc ns M lv (.ref a :: st) (pc + 3)) : gg_W p l e R s m args below meth c g A nL Q kc ns M lv st pc := by
  intro H locs ls hP hD hS hl T hT X
  obtain ⟨t, a1, b1⟩ := K H locs ls hP hD hS hl T hT X
  have hZ := E.2.2.2.2.2.1.2.2.1 _ (List.mem_of_getElem? h)
  exact ⟨t, st_ldcSw X E.1 E.2.2.2.1 (text := tx) (a := a) hZ.1 hZ.2 (f := F0 m pc ls st) rfl (by rw [E.2.1]; exact hdg) t a1, b1⟩
end LDCW
/-- bytes below 128 -/
abbrev asc (n : Nat) (f : Nat → Int32) : Prop := ∀ j, j < n → tn (f j) < 128 ∧ f j = nI (tn (f j))
theorem ishr0 (x : Int32) : x >>> ((0 : Int32) &&& 31) = x := by
  rw [show ((0 : Int32) &&& 31) = 0 by decide]
  exact Int32.shiftRight_zero
theorem asc255 : ∀ k, k < 128 → nI k &&& 255 = nI k := by decide
theorem asc16 : ∀ k, k < 128 → ((nI k).toUInt32 % 65536).toInt32 = nI k := by decide
theorem a255 {x : Int32} (h : tn x < 128 ∧ x = nI (tn x)) : x &&& 255 = x := by
  rw [h.2]; exact asc255 _ h.1
theorem a16 {x : Int32} (h : tn x < 128 ∧ x = nI (tn x)) : (x.toUInt32 % 65536).toInt32 = x := by
  rw [h.2]; exact asc16 _ h.1
theorem nch {x : Int32} (h : tn x < 128 ∧ x = nI (tn x)) : narrow .char (.int x) = .int x := by
  show Value.int ((x.toUInt32 % 65536).toInt32) = Value.int x
  rw [a16 h]
/-- a word stands here -/
abbrev wrd (x b : Nat → Int32) (f0 len sl : Nat) (sf : Nat → Int32) : Prop := ¬ 0 < x 20 ∧ x 18 = 1 ∧ len = sl ∧ ∀ j, j < sl → b (f0 + j) = sf j
/-- the setting that is named here -/
def stH (x b : Nat → Int32) (f0 len : Nat) : Int32 := if wrd x b f0 len 4 (gg_byt gg_tx18) then 4 else if wrd x b f0 len 4 (gg_byt gg_tx19) then 5 else if wrd x b f0 len 5 (gg_byt gg_tx20) then 6 else -1
/-- the kind of a deed -/
def kdH (x b : Nat → Int32) (f0 len : Nat) : Int32 := if wrd x b f0 len 4 (gg_byt gg_tx21) then 0 else if wrd x b f0 len 3 (gg_byt gg_tx22) then 1 else if wrd x b f0 len 4 (gg_byt gg_tx23) then 2 else if wrd x b f0 len 4 (gg_byt gg_tx24) then 3 else if wrd x b f0 len 3 (gg_byt gg_tx25) then 4 else if stH x b f0 len = -1 then -1 else 5
set_option maxHeartbeats 4000000 in
theorem ct_J9_coder {l : Launch} (hl : l.stackTraces = false) {g : gg_G}  {sa sb  : Nat} {sh sz : Int32}  : gg_C l g yJ9_coder (ws_ yJ9_coder cJ9_coder 1 (some .byte)) { frames := 0, cells := 0, slots := 0, locals := 0 } [.ref sa] [(sa, .inl (13, [.ref sb, .int 0, .int sh, .int sz]))] [] (fun vv CC => vv = some (.int 0) ∧ CC = []) gg_no := by
  refine gg_of (lv := [_]) (by decide) hl (Nat.le_of_ble_eq_true rfl) rfl ?_
  intro p e R s m args below meth c A Q hRf hRl hRc hRs E Fn hnm hex
  refine gg_gets (pc := 0) E 6 rfl q403 dJ9_coder_0 ?_
  refine gg_ifN_eq (tgt := 13) (pc := 3) E 1 rfl (by decide) dJ9_coder_3 (by decide) (fun q => absurd q (by decide)) (fun _ => ?_)
  refine gg_aload_n (pc := 6) E dJ9_coder_6 rfl rfl ?_
  refine gg_get (pc := 7) E ck_J9 1 q545 rfl (by decide) dJ9_coder_7 (gg_r 0 rfl) rfl ?_
  refine gg_goto (tgt := 14) (pc := 10) E dJ9_coder_10 (by decide) ?_
  refine gg_iret (pc := 14) E Fn rfl (rfl) dJ9_coder_14 (by first | exact Nat.le_of_ble_eq_true rfl | (dsimp only; omega)) (by first | exact Nat.le_of_ble_eq_true rfl | (dsimp only; omega)) ?_
  exact ⟨rfl, rfl⟩
set_option maxHeartbeats 4000000 in
theorem ct_J9_isLatin1 {l : Launch} (hl : l.stackTraces = false) {g : gg_G}  {sa sb  : Nat} {sh sz : Int32}  : gg_C l g yJ9_isLatin1 (ws_ yJ9_isLatin1 cJ9_isLatin1 1 (some .boolean)) { frames := 0, cells := 0, slots := 0, locals := 0 } [.ref sa] [(sa, .inl (13, [.ref sb, .int 0, .int sh, .int sz]))] [] (fun vv CC => vv = some (.int 1) ∧ CC = []) gg_no := by
  refine gg_of (lv := [_]) (by decide) hl (Nat.le_of_ble_eq_true rfl) rfl ?_
  intro p e R s m args below meth c A Q hRf hRl hRc hRs E Fn hnm hex
  refine gg_gets (pc := 0) E 6 rfl q403 dJ9_isLatin1_0 ?_
  refine gg_ifN_eq (tgt := 17) (pc := 3) E 1 rfl (by decide) dJ9_isLatin1_3 (by decide) (fun q => absurd q (by decide)) (fun _ => ?_)
  refine gg_aload_n (pc := 6) E dJ9_isLatin1_6 rfl rfl ?_
  refine gg_get (pc := 7) E ck_J9 1 q545 rfl (by decide) dJ9_isLatin1_7 (gg_r 0 rfl) rfl ?_
  refine gg_ifN_ne (tgt := 17) (pc := 10) E 0 rfl (by decide) dJ9_isLatin1_10 (by decide) (fun q => absurd q (by decide)) (fun _ => ?_)
  refine gg_iconst (v := 1) (pc := 13) E dJ9_isLatin1_13 (by decide) ?_
  refine gg_goto (tgt := 18) (pc := 14) E dJ9_isLatin1_14 (by decide) ?_
  refine gg_iret (pc := 18) E Fn rfl (gg_nz (by first | decide | assumption | exact gg_b01 | (split <;> decide))) dJ9_isLatin1_18 (by first | exact Nat.le_of_ble_eq_true rfl | (dsimp only; omega)) (by first | exact Nat.le_of_ble_eq_true rfl | (dsimp only; omega)) ?_
  exact ⟨rfl, rfl⟩
set_option maxHeartbeats 4000000 in
theorem ct_J9_length {l : Launch} (hl : l.stackTraces = false) {g : gg_G}  {sa sb sl : Nat} {sf : Nat → Int32} {sh sz : Int32}  : gg_C l g yJ9_length (ws_ yJ9_length cJ9_length 1 (some .int)) { frames := 1, cells := 0, slots := 0, locals := 20 } [.ref sa] [(sa, .inl (13, [.ref sb, .int 0, .int sh, .int sz])), (sb, gg_ab g sl sf)] [] (fun vv CC => vv = some (.int (nI sl)) ∧ CC = []) gg_no := by
  refine gg_of (lv := [_]) (by decide) hl (Nat.le_of_ble_eq_true rfl) rfl ?_
  intro p e R s m args below meth c A Q hRf hRl hRc hRs E Fn hnm hex
  refine gg_aload_n (pc := 0) E dJ9_length_0 rfl rfl ?_
  refine gg_get (pc := 1) E ck_J9 0 q544 rfl (by decide) dJ9_length_1 (gg_r 0 rfl) rfl ?_
  refine gg_alen (pc := 4) E 1 rfl dJ9_length_4 (gg_r 1 rfl) ?_
  refine gg_aload_n (pc := 5) E dJ9_length_5 rfl rfl ?_
  refine gg_callV (F := []) (As := []) (rest := [_]) (pc := 6) E ck_J9 (ct_J9_coder hl ) (cwV 0 E.2.2.2.2.1 (lw_V q399 q400 q401 q162 q402) rfl rfl rfl (by decide +kernel) ⟨by rw [hRf]; exact Nat.le_of_ble_eq_true rfl, by rw [hRl]; exact Nat.le_of_ble_eq_true rfl⟩) dJ9_length_6 [] (by decide) rfl rfl (List.forall_mem_cons.mpr ⟨(gg_r 0 rfl), (fun _ h => by cases h)⟩) (gg_r 0 rfl) rfl rfl (Nat.le_of_ble_eq_true rfl) (by first | (rw [hRc]; exact Nat.le_of_ble_eq_true rfl) | (rw [hRc]; dsimp only; omega)) (by first | (rw [hRs]; exact Nat.le_of_ble_eq_true rfl) | (rw [hRs]; dsimp only; omega)) ?_ (fun X q C1 h => h.elim)
  rintro _ _ ⟨rfl, rfl⟩
  dsimp only [List.cons_append, List.nil_append, Option.toList]
  refine gg_ishr (pc := 9) E dJ9_length_9 ?_
  refine gg_topI (y := nI sl) (ishr0 _) ?_
  refine gg_iret (pc := 10) E Fn rfl (rfl) dJ9_length_10 (by first | exact Nat.le_of_ble_eq_true rfl | (dsimp only; omega)) (by first | exact Nat.le_of_ble_eq_true rfl | (dsimp only; omega)) ?_
  exact ⟨rfl, rfl⟩
set_option maxHeartbeats 4000000 in
theorem ct_J14_checkIndex {l : Launch} (hl : l.stackTraces = false) {g : gg_G}  {j sl : Nat} {r9 : Option Nat} (hj : j < sl) (hsl : sl < 2 ^ 31) : gg_C l g yJ14_checkIndex (ws_ yJ14_checkIndex cJ14_checkIndex 3 (some .int)) { frames := 0, cells := 0, slots := 0, locals := 0 } [.int (nI j), .int (nI sl), va_rf r9] [] [] (fun vv CC => vv = some (.int (nI j)) ∧ CC = []) gg_no := by
  refine gg_of (lv := [some (.int (nI j)), some (.int (nI sl)), some (va_rf r9)]) (by decide) hl (by cases r9 <;> exact Nat.le_of_ble_eq_true rfl) (by cases r9 <;> rfl) ?_
  intro p e R s m args below meth c A Q hRf hRl hRc hRs E Fn hnm hex
  refine gg_iload_n (pc := 0) E dJ14_checkIndex_0 rfl rfl ?_
  refine gg_ifN_lt (tgt := 9) (pc := 1) E j rfl (by omega) dJ14_checkIndex_1 (by decide) (fun c1 => ?_) (fun c1 => ?_)
  · exact c1.elim
  refine gg_iload_n (pc := 4) E dJ14_checkIndex_4 rfl rfl ?_
  refine gg_iload_n (pc := 5) E dJ14_checkIndex_5 rfl rfl ?_
  refine gg_icmpN_lt (tgt := 16) (pc := 6) E j sl rfl rfl (by omega) (by omega) dJ14_checkIndex_6 (by decide) (fun c6 => ?_) (fun c6 => ?_)
  rotate_left
  · exact absurd hj (by omega)
  refine gg_iload_n (pc := 16) E dJ14_checkIndex_16 rfl rfl ?_
  refine gg_iret (pc := 17) E Fn rfl (rfl) dJ14_checkIndex_17 (by first | exact Nat.le_of_ble_eq_true rfl | (dsimp only; omega)) (by first | exact Nat.le_of_ble_eq_true rfl | (dsimp only; omega)) ?_
  exact ⟨rfl, rfl⟩
set_option maxHeartbeats 4000000 in
theorem ct_J9_checkIndex {l : Launch} (hl : l.stackTraces = false) {g : gg_G}  {j sl : Nat} (hj : j < sl) (hsl : sl < 2 ^ 31) : gg_C l g yJ9_checkIndex (ws_ yJ9_checkIndex cJ9_checkIndex 2 none) { frames := 1, cells := 0, slots := 0, locals := 22 } [.int (nI j), .int (nI sl)] [] [] (fun vv CC => vv = none ∧ CC = []) gg_no := by
  refine gg_of (lv := [_, _]) (by decide) hl (Nat.le_of_ble_eq_true rfl) rfl ?_
  intro p e R s m args below meth c A Q hRf hRl hRc hRs E Fn hnm hex
  refine gg_iload_n (pc := 0) E dJ9_checkIndex_0 rfl rfl ?_
  refine gg_iload_n (pc := 1) E dJ9_checkIndex_1 rfl rfl ?_
  refine gg_gets (pc := 2) E 8 rfl q381 dJ9_checkIndex_2 ?_
  refine gg_callS (F := []) (As := [.int (nI j), .int (nI sl), _]) (rest := []) (pc := 5) E (ct_J14_checkIndex hl (by first | assumption | omega) (by first | assumption | omega)) (va_cwS 3 E.2.2.2.2.1 (lw_S q923 q924 q168 q925) rfl rfl rfl (by decide +kernel) ⟨by rw [hRf]; exact Nat.le_of_ble_eq_true rfl, by rw [hRl]; exact Nat.le_of_ble_eq_true rfl⟩) dJ9_checkIndex_5 [] (by decide) rfl rfl (fun _ h => by cases h) rfl rfl (Nat.le_of_ble_eq_true rfl) (by first | (rw [hRc]; exact Nat.le_of_ble_eq_true rfl) | (rw [hRc]; dsimp only; omega)) (by first | (rw [hRs]; exact Nat.le_of_ble_eq_true rfl) | (rw [hRs]; dsimp only; omega)) ?_ (fun X q C1 h => h.elim)
  rintro _ _ ⟨rfl, rfl⟩
  dsimp only [List.cons_append, List.nil_append, Option.toList]
  refine gg_pop (pc := 8) E dJ9_checkIndex_8 rfl ?_
  refine gg_vret (pc := 9) E Fn rfl dJ9_checkIndex_9 (by first | exact Nat.le_of_ble_eq_true rfl | (dsimp only; omega)) (by first | exact Nat.le_of_ble_eq_true rfl | (dsimp only; omega)) ?_
  exact ⟨rfl, rfl⟩
set_option maxHeartbeats 4000000 in
theorem ct_J15_charAt {l : Launch} (hl : l.stackTraces = false) {g : gg_G}  {sb j sl : Nat} {sf : Nat → Int32} (hj : j < sl) (hsl : sl < 2 ^ 31) (hA : asc sl sf) : gg_C l g yJ15_charAt (ws_ yJ15_charAt cJ15_charAt 2 (some .char)) { frames := 2, cells := 0, slots := 0, locals := 43 } [.ref sb, .int (nI j)] [(sb, gg_ab g sl sf)] [] (fun vv CC => vv = some (.int (sf j)) ∧ CC = []) gg_no := by
  refine gg_of (lv := [_, _]) (by decide) hl (Nat.le_of_ble_eq_true rfl) rfl ?_
  intro p e R s m args below meth c A Q hRf hRl hRc hRs E Fn hnm hex
  refine gg_iload_n (pc := 0) E dJ15_charAt_0 rfl rfl ?_
  refine gg_aload_n (pc := 1) E dJ15_charAt_1 rfl rfl ?_
  refine gg_alen (pc := 2) E 1 rfl dJ15_charAt_2 (gg_r 0 rfl) ?_
  refine gg_callS (F := []) (As := [.int (nI j), .int (nI sl)]) (rest := []) (pc := 3) E (ct_J9_checkIndex hl (by first | assumption | omega) (by first | assumption | omega)) (va_cwS 2 E.2.2.2.2.1 (lw_S q2568 q921 q162 q922) rfl rfl rfl (by decide +kernel) ⟨by rw [hRf]; exact Nat.le_of_ble_eq_true rfl, by rw [hRl]; exact Nat.le_of_ble_eq_true rfl⟩) dJ15_charAt_3 [] (by decide) rfl rfl (fun _ h => by cases h) rfl rfl (Nat.le_of_ble_eq_true rfl) (by first | (rw [hRc]; exact Nat.le_of_ble_eq_true rfl) | (rw [hRc]; dsimp only; omega)) (by first | (rw [hRs]; exact Nat.le_of_ble_eq_true rfl) | (rw [hRs]; dsimp only; omega)) ?_ (fun X q C1 h => h.elim)
  rintro _ _ ⟨rfl, rfl⟩
  dsimp only [List.cons_append, List.nil_append, Option.toList]
  refine gg_aload_n (pc := 6) E dJ15_charAt_6 rfl rfl ?_
  refine gg_iload_n (pc := 7) E dJ15_charAt_7 rfl rfl ?_
  refine gg_baldN (pc := 8) E j rfl (by omega) (by omega) dJ15_charAt_8 (gg_r 0 rfl) ?_
  refine gg_sipush (v := 255) (pc := 9) E dJ15_charAt_9 (by decide) ?_
  refine gg_iand (pc := 12) E dJ15_charAt_12 ?_
  refine gg_topI (y := sf j) (a255 (hA j hj)) ?_
  refine gg_i2c (pc := 13) E dJ15_charAt_13 rfl ?_
  refine gg_topI (y := sf j) (a16 (hA j hj)) ?_
  refine gg_iret (pc := 14) E Fn rfl (nch (hA j hj)) dJ15_charAt_14 (by first | exact Nat.le_of_ble_eq_true rfl | (dsimp only; omega)) (by first | exact Nat.le_of_ble_eq_true rfl | (dsimp only; omega)) ?_
  exact ⟨rfl, rfl⟩
set_option maxHeartbeats 4000000 in
theorem ct_J9_charAt {l : Launch} (hl : l.stackTraces = false) {g : gg_G}  {sa sb sl : Nat} {sf : Nat → Int32} {sh sz : Int32} {j : Nat} (hj : j < sl) (hsl : sl < 2 ^ 31) (hA : asc sl sf) : gg_C l g yJ9_charAt (ws_ yJ9_charAt cJ9_charAt 2 (some .char)) { frames := 3, cells := 0, slots := 0, locals := 64 } [.ref sa, .int (nI j)] [(sa, .inl (13, [.ref sb, .int 0, .int sh, .int sz])), (sb, gg_ab g sl sf)] [] (fun vv CC => vv = some (.int (sf j)) ∧ CC = []) gg_no := by
  refine gg_of (lv := [_, _]) (by decide) hl (Nat.le_of_ble_eq_true rfl) rfl ?_
  intro p e R s m args below meth c A Q hRf hRl hRc hRs E Fn hnm hex
  refine gg_aload_n (pc := 0) E dJ9_charAt_0 rfl rfl ?_
  refine gg_callV (F := []) (As := []) (rest := []) (pc := 1) E ck_J9 (ct_J9_isLatin1 hl ) (cwV 0 E.2.2.2.2.1 (lw_V q968 q969 q970 q162 q971) rfl rfl rfl (by decide +kernel) ⟨by rw [hRf]; exact Nat.le_of_ble_eq_true rfl, by rw [hRl]; exact Nat.le_of_ble_eq_true rfl⟩) dJ9_charAt_1 [] (by decide) rfl rfl (List.forall_mem_cons.mpr ⟨(gg_r 0 rfl), (fun _ h => by cases h)⟩) (gg_r 0 rfl) rfl rfl (Nat.le_of_ble_eq_true rfl) (by first | (rw [hRc]; exact Nat.le_of_ble_eq_true rfl) | (rw [hRc]; dsimp only; omega)) (by first | (rw [hRs]; exact Nat.le_of_ble_eq_true rfl) | (rw [hRs]; dsimp only; omega)) ?_ (fun X q C1 h => h.elim)
  rintro _ _ ⟨rfl, rfl⟩
  dsimp only [List.cons_append, List.nil_append, Option.toList]
  refine gg_ifN_eq (tgt := 16) (pc := 4) E 1 rfl (by decide) dJ9_charAt_4 (by decide) (fun q => absurd q (by decide)) (fun _ => ?_)
  refine gg_aload_n (pc := 7) E dJ9_charAt_7 rfl rfl ?_
  refine gg_get (pc := 8) E ck_J9 0 q544 rfl (by decide) dJ9_charAt_8 (gg_r 0 rfl) rfl ?_
  refine gg_iload_n (pc := 11) E dJ9_charAt_11 rfl rfl ?_
  refine gg_callS (F := []) (As := [_, .int (nI j)]) (rest := []) (pc := 12) E (ct_J15_charAt hl (by first | assumption | omega) (by first | assumption | omega) (by first | assumption | omega)) (va_cwS 2 E.2.2.2.2.1 (lw_S q2565 q2566 q169 q2567) rfl rfl rfl (by decide +kernel) ⟨by rw [hRf]; exact Nat.le_of_ble_eq_true rfl, by rw [hRl]; exact Nat.le_of_ble_eq_true rfl⟩) dJ9_charAt_12 [] (by decide) rfl rfl (List.forall_mem_cons.mpr ⟨(gg_r 1 rfl), (fun _ h => by cases h)⟩) rfl rfl (Nat.le_of_ble_eq_true rfl) (by first | (rw [hRc]; exact Nat.le_of_ble_eq_true rfl) | (rw [hRc]; dsimp only; omega)) (by first | (rw [hRs]; exact Nat.le_of_ble_eq_true rfl) | (rw [hRs]; dsimp only; omega)) ?_ (fun X q C1 h => h.elim)
  rintro _ _ ⟨rfl, rfl⟩
  dsimp only [List.cons_append, List.nil_append, Option.toList]
  refine gg_iret (pc := 15) E Fn rfl (nch (hA j hj)) dJ9_charAt_15 (by first | exact Nat.le_of_ble_eq_true rfl | (dsimp only; omega)) (by first | exact Nat.le_of_ble_eq_true rfl | (dsimp only; omega)) ?_
  exact ⟨rfl, rfl⟩
set_option maxHeartbeats 4000000 in
theorem ct_X5_isWord {l : Launch} (hl : l.stackTraces = false) {g : gg_G}  {h : Nat} {ad : Nat → Nat} {x : Nat → Int32} {b : Nat → Int32} {p0 f0 : Nat} {sa sb sl : Nat} {sf : Nat → Int32} {sh sz : Int32} (hp : x 17 = nI p0) (hf : x 16 = nI f0) (hfp : f0 ≤ p0) (hpb : p0 ≤ 800) (hsl : sl ≤ 8) (hA : asc sl sf) : gg_C l g yX5_isWord (ws_ yX5_isWord cX5_isWord 3 (some .boolean)) { frames := 4, cells := 0, slots := 0, locals := 85 } [.ref h, .ref sa] [(h, .inl (4, mo_f ad x)), ((ad 12), gg_ab g 800 b), (sa, .inl (13, [.ref sb, .int 0, .int sh, .int sz])), (sb, gg_ab g sl sf)] [] (fun vv CC => vv = some (.int (if wrd x b f0 (p0 - f0) sl sf then 1 else 0)) ∧ CC = []) gg_no := by
  refine gg_of (lv := [_, _, _]) (by decide) hl (Nat.le_of_ble_eq_true rfl) rfl ?_
  intro p e R s m args below meth c A Q hRf hRl hRc hRs E Fn hnm hex
  refine gg_aload_n (pc := 0) E dX5_isWord_0 rfl rfl ?_
  refine gg_get (pc := 1) E ck_X5 20 q2879 rfl (by decide) dX5_isWord_1 (gg_r 0 rfl) rfl ?_
  refine gg_if_gt (tgt := 31) (pc := 4) E dX5_isWord_4 (by decide) (fun c4 => ?_) (fun c4 => ?_)
  · refine gg_iconst (v := 0) (pc := 31) E dX5_isWord_31 (by decide) ?_
    refine gg_iret (pc := 32) E Fn rfl (gg_nz (by first | decide | assumption | exact gg_b01 | (split <;> decide))) dX5_isWord_32 (by first | exact Nat.le_of_ble_eq_true rfl | (dsimp only; omega)) (by first | exact Nat.le_of_ble_eq_true rfl | (dsimp only; omega)) ?_
    exact ⟨by rw [if_neg (fun q => q.1 c4)], rfl⟩
  · refine gg_aload_n (pc := 7) E dX5_isWord_7 rfl rfl ?_
    refine gg_get (pc := 8) E ck_X5 18 q2877 rfl (by decide) dX5_isWord_8 (gg_r 0 rfl) rfl ?_
    refine gg_iconst (v := 1) (pc := 11) E dX5_isWord_11 (by decide) ?_
    refine gg_icmp_ne (tgt := 31) (pc := 12) E dX5_isWord_12 (by decide) (fun c12 => ?_) (fun c12 => ?_)
    · refine gg_iconst (v := 0) (pc := 31) E dX5_isWord_31 (by decide) ?_
      refine gg_iret (pc := 32) E Fn rfl (gg_nz (by first | decide | assumption | exact gg_b01 | (split <;> decide))) dX5_isWord_32 (by first | exact Nat.le_of_ble_eq_true rfl | (dsimp only; omega)) (by first | exact Nat.le_of_ble_eq_true rfl | (dsimp only; omega)) ?_
      exact ⟨by rw [if_neg (fun q => c12 q.2.1)], rfl⟩
    · refine gg_aload_n (pc := 15) E dX5_isWord_15 rfl rfl ?_
      refine gg_get (pc := 16) E ck_X5 17 q2876 rfl (by decide) dX5_isWord_16 (gg_r 0 rfl) rfl ?_
      refine gg_topI (y := nI p0) hp ?_
      refine gg_aload_n (pc := 19) E dX5_isWord_19 rfl rfl ?_
      refine gg_get (pc := 20) E ck_X5 16 q2875 rfl (by decide) dX5_isWord_20 (gg_r 0 rfl) rfl ?_
      refine gg_topI (y := nI f0) hf ?_
      refine gg_isubN (pc := 23) E p0 f0 rfl rfl (by omega) dX5_isWord_23 ?_
      refine gg_aload_n (pc := 24) E dX5_isWord_24 rfl rfl ?_
      refine gg_callV (F := []) (As := []) (rest := [_]) (pc := 25) E ck_J9 (ct_J9_length hl ) (cwV 0 E.2.2.2.2.1 (lw_V q2843 q396 q397 q162 q398) rfl rfl rfl (by decide +kernel) ⟨by rw [hRf]; exact Nat.le_of_ble_eq_true rfl, by rw [hRl]; exact Nat.le_of_ble_eq_true rfl⟩) dX5_isWord_25 [] (by decide) rfl rfl (List.forall_mem_cons.mpr ⟨(gg_r 2 rfl), (List.forall_mem_cons.mpr ⟨(gg_r 3 rfl), (fun _ h => by cases h)⟩)⟩) (gg_r 2 rfl) rfl rfl (Nat.le_of_ble_eq_true rfl) (by first | (rw [hRc]; exact Nat.le_of_ble_eq_true rfl) | (rw [hRc]; dsimp only; omega)) (by first | (rw [hRs]; exact Nat.le_of_ble_eq_true rfl) | (rw [hRs]; dsimp only; omega)) ?_ (fun X q C1 h => h.elim)
      rintro _ _ ⟨rfl, rfl⟩
      dsimp only [List.cons_append, List.nil_append, Option.toList]
      refine gg_icmpN_eq (tgt := 33) (pc := 28) E (p0 - f0) sl rfl rfl (by omega) (by omega) dX5_isWord_28 (by decide) (fun c28 => ?_) (fun c28 => ?_)
      · refine gg_iconst (v := 0) (pc := 33) E dX5_isWord_33 (by decide) ?_
        refine gg_istore_n (lv' := [_, _, _]) (pc := 34) E dX5_isWord_34 rfl (Nat.le_of_ble_eq_true rfl) rfl rfl ?_
        have L35 : ∀ (n : Nat) (i : Nat), sl - i < n → (i ≤ sl) → (∀ j, j < i → b (f0 + j) = sf j) → gg_W p l e R s m args below meth c g A 3 Q 0 0 [] [some (.ref h), some (.ref sa), some (.int (nI i))] [] 35 := by
          intro n35
          induction n35 with
          | zero => intro i hmz; exact absurd hmz (Nat.not_lt_zero _)
          | succ n35 ih35 =>
            intro i hm35 hi hm
            refine gg_iload_n (pc := 35) E dX5_isWord_35 rfl rfl ?_
            refine gg_aload_n (pc := 36) E dX5_isWord_36 rfl rfl ?_
            refine gg_callV (F := []) (As := []) (rest := [_]) (pc := 37) E ck_J9 (ct_J9_length hl ) (cwV 0 E.2.2.2.2.1 (lw_V q2843 q396 q397 q162 q398) rfl rfl rfl (by decide +kernel) ⟨by rw [hRf]; exact Nat.le_of_ble_eq_true rfl, by rw [hRl]; exact Nat.le_of_ble_eq_true rfl⟩) dX5_isWord_37 [] (by decide) rfl rfl (List.forall_mem_cons.mpr ⟨(gg_r 2 rfl), (List.forall_mem_cons.mpr ⟨(gg_r 3 rfl), (fun _ h => by cases h)⟩)⟩) (gg_r 2 rfl) rfl rfl (Nat.le_of_ble_eq_true rfl) (by first | (rw [hRc]; exact Nat.le_of_ble_eq_true rfl) | (rw [hRc]; dsimp only; omega)) (by first | (rw [hRs]; exact Nat.le_of_ble_eq_true rfl) | (rw [hRs]; dsimp only; omega)) ?_ (fun X q C1 h => h.elim)
            rintro _ _ ⟨rfl, rfl⟩
            dsimp only [List.cons_append, List.nil_append, Option.toList]
            refine gg_icmpN_ge (tgt := 70) (pc := 40) E i sl rfl rfl (by omega) (by omega) dX5_isWord_40 (by decide) (fun c40 => ?_) (fun c40 => ?_)
            · refine gg_iconst (v := 1) (pc := 70) E dX5_isWord_70 (by decide) ?_
              refine gg_iret (pc := 71) E Fn rfl (gg_nz (by first | decide | assumption | exact gg_b01 | (split <;> decide))) dX5_isWord_71 (by first | exact Nat.le_of_ble_eq_true rfl | (dsimp only; omega)) (by first | exact Nat.le_of_ble_eq_true rfl | (dsimp only; omega)) ?_
              obtain rfl : i = sl := by omega
              exact ⟨by rw [if_pos ⟨c4, c12, c28, hm⟩], rfl⟩
            · refine gg_aload_n (pc := 43) E dX5_isWord_43 rfl rfl ?_
              refine gg_get (pc := 44) E ck_X5 12 q2871 rfl (by decide) dX5_isWord_44 (gg_r 0 rfl) rfl ?_
              refine gg_aload_n (pc := 47) E dX5_isWord_47 rfl rfl ?_
              refine gg_get (pc := 48) E ck_X5 16 q2875 rfl (by decide) dX5_isWord_48 (gg_r 0 rfl) rfl ?_
              refine gg_topI (y := nI f0) hf ?_
              refine gg_iload_n (pc := 51) E dX5_isWord_51 rfl rfl ?_
              refine gg_iaddN (pc := 52) E f0 i rfl rfl dX5_isWord_52 ?_
              refine gg_baldN (pc := 53) E (f0 + i) rfl (by omega) (by omega) dX5_isWord_53 (gg_r 1 rfl) ?_
              refine gg_aload_n (pc := 54) E dX5_isWord_54 rfl rfl ?_
              refine gg_iload_n (pc := 55) E dX5_isWord_55 rfl rfl ?_
              refine gg_callV (F := []) (As := [.int (nI i)]) (rest := [_]) (pc := 56) E ck_J9 (ct_J9_charAt hl (by first | assumption | omega) (by first | assumption | omega) (by first | assumption | omega)) (cwV 1 E.2.2.2.2.1 (lw_V q2844 q2562 q2563 q162 q2564) rfl rfl rfl (by decide +kernel) ⟨by rw [hRf]; exact Nat.le_of_ble_eq_true rfl, by rw [hRl]; exact Nat.le_of_ble_eq_true rfl⟩) dX5_isWord_56 [] (by decide) rfl rfl (List.forall_mem_cons.mpr ⟨(gg_r 2 rfl), (List.forall_mem_cons.mpr ⟨(gg_r 3 rfl), (fun _ h => by cases h)⟩)⟩) (gg_r 2 rfl) rfl rfl (Nat.le_of_ble_eq_true rfl) (by first | (rw [hRc]; exact Nat.le_of_ble_eq_true rfl) | (rw [hRc]; dsimp only; omega)) (by first | (rw [hRs]; exact Nat.le_of_ble_eq_true rfl) | (rw [hRs]; dsimp only; omega)) ?_ (fun X q C1 h => h.elim)
              rintro _ _ ⟨rfl, rfl⟩
              dsimp only [List.cons_append, List.nil_append, Option.toList]
              refine gg_icmp_eq (tgt := 64) (pc := 59) E dX5_isWord_59 (by decide) (fun c59 => ?_) (fun c59 => ?_)
              · refine gg_iincN (k := 1) (lv' := [_, _, _]) (pc := 64) E i dX5_isWord_64 rfl rfl rfl (Nat.le_of_ble_eq_true rfl) rfl rfl ?_
                refine gg_goto (tgt := 35) (pc := 67) E dX5_isWord_67 (by decide) ?_
                refine gg_cv rfl (gg_leS (gg_leS (gg_leS gg_le0))) rfl (by first | exact Nat.le_refl _ | (dsimp only; omega)) (by first | exact Nat.le_refl _ | (dsimp only; omega)) (ih35 (i + 1) (by omega) (by omega) (all_s hm c59))
              · refine gg_iconst (v := 0) (pc := 62) E dX5_isWord_62 (by decide) ?_
                refine gg_iret (pc := 63) E Fn rfl (gg_nz (by first | decide | assumption | exact gg_b01 | (split <;> decide))) dX5_isWord_63 (by first | exact Nat.le_of_ble_eq_true rfl | (dsimp only; omega)) (by first | exact Nat.le_of_ble_eq_true rfl | (dsimp only; omega)) ?_
                exact ⟨by rw [if_neg (fun q => c59 (q.2.2.2 i (by omega)))], rfl⟩
        refine gg_cv rfl (gg_leS (gg_leS (gg_leS gg_le0))) rfl (by first | exact Nat.le_refl _ | (dsimp only; omega)) (by first | exact Nat.le_refl _ | (dsimp only; omega)) (L35 _ 0 (Nat.lt_succ_self _) (Nat.zero_le _) (fun j hj => absurd hj (Nat.not_lt_zero j)))
      · refine gg_iconst (v := 0) (pc := 31) E dX5_isWord_31 (by decide) ?_
        refine gg_iret (pc := 32) E Fn rfl (gg_nz (by first | decide | assumption | exact gg_b01 | (split <;> decide))) dX5_isWord_32 (by first | exact Nat.le_of_ble_eq_true rfl | (dsimp only; omega)) (by first | exact Nat.le_of_ble_eq_true rfl | (dsimp only; omega)) ?_
        exact ⟨by rw [if_neg (fun q => c28 q.2.2.1)], rfl⟩
set_option maxHeartbeats 4000000 in
theorem ct_X5_settingHere {l : Launch} (hl : l.stackTraces = false) {g : gg_G}  {h : Nat} {ad : Nat → Nat} {x : Nat → Int32} {b : Nat → Int32} {p0 f0 : Nat} (hp : x 17 = nI p0) (hf : x 16 = nI f0) (hfp : f0 ≤ p0) (hpb : p0 ≤ 800) : gg_C l g yX5_settingHere (ws_ yX5_settingHere cX5_settingHere 1 (some .int)) { frames := 5, cells := 0, slots := 0, locals := 107 } [.ref h] [(h, .inl (4, mo_f ad x)), ((ad 12), gg_ab g 800 b)] [] (fun vv CC => vv = some (.int (stH x b f0 (p0 - f0))) ∧ CC = []) gg_no := by
  refine gg_of (lv := [_]) (by decide) hl (Nat.le_of_ble_eq_true rfl) rfl ?_
  intro p e R s m args below meth c A Q hRf hRl hRc hRs E Fn hnm hex
  refine gg_aload_n (pc := 0) E dX5_settingHere_0 rfl rfl ?_
  refine gg_ldcSw (pc := 1) E 18 rfl dX5_settingHere_1 ?_
  refine gg_callV (F := []) (As := [_]) (rest := []) (pc := 4) E ck_X5 (ct_X5_isWord hl (hp) (hf) (hfp) (hpb) (by omega) (by decide)) (cwV 1 E.2.2.2.2.1 (lw_V q3005 q3007 qs76 q179 q3008) rfl rfl rfl (by decide +kernel) ⟨by rw [hRf]; exact Nat.le_of_ble_eq_true rfl, by rw [hRl]; exact Nat.le_of_ble_eq_true rfl⟩) dX5_settingHere_4 [] (by decide) rfl rfl (List.forall_mem_cons.mpr ⟨(gg_r 0 rfl), (List.forall_mem_cons.mpr ⟨(gg_r 1 rfl), (List.forall_mem_cons.mpr ⟨(gg_ks 36 rfl), (List.forall_mem_cons.mpr ⟨(gg_ks 37 rfl), (fun _ h => by cases h)⟩)⟩)⟩)⟩) (gg_r 0 rfl) rfl rfl (Nat.le_of_ble_eq_true rfl) (by first | (rw [hRc]; exact Nat.le_of_ble_eq_true rfl) | (rw [hRc]; dsimp only; omega)) (by first | (rw [hRs]; exact Nat.le_of_ble_eq_true rfl) | (rw [hRs]; dsimp only; omega)) ?_ (fun X q C1 h => h.elim)
  rintro _ _ ⟨rfl, rfl⟩
  dsimp only [List.cons_append, List.nil_append, Option.toList]
  refine gg_ifP_eq (tgt := 14) (pc := 7) E dX5_settingHere_7 (by decide) (fun c7 => ?_) (fun c7 => ?_)
  · refine gg_aload_n (pc := 14) E dX5_settingHere_14 rfl rfl ?_
    refine gg_ldcSw (pc := 15) E 19 rfl dX5_settingHere_15 ?_
    refine gg_callV (F := []) (As := [_]) (rest := []) (pc := 18) E ck_X5 (ct_X5_isWord hl (hp) (hf) (hfp) (hpb) (by omega) (by decide)) (cwV 1 E.2.2.2.2.1 (lw_V q3005 q3007 qs76 q179 q3008) rfl rfl rfl (by decide +kernel) ⟨by rw [hRf]; exact Nat.le_of_ble_eq_true rfl, by rw [hRl]; exact Nat.le_of_ble_eq_true rfl⟩) dX5_settingHere_18 [] (by decide) rfl rfl (List.forall_mem_cons.mpr ⟨(gg_r 0 rfl), (List.forall_mem_cons.mpr ⟨(gg_r 1 rfl), (List.forall_mem_cons.mpr ⟨(gg_ks 38 rfl), (List.forall_mem_cons.mpr ⟨(gg_ks 39 rfl), (fun _ h => by cases h)⟩)⟩)⟩)⟩) (gg_r 0 rfl) rfl rfl (Nat.le_of_ble_eq_true rfl) (by first | (rw [hRc]; exact Nat.le_of_ble_eq_true rfl) | (rw [hRc]; dsimp only; omega)) (by first | (rw [hRs]; exact Nat.le_of_ble_eq_true rfl) | (rw [hRs]; dsimp only; omega)) ?_ (fun X q C1 h => h.elim)
    rintro _ _ ⟨rfl, rfl⟩
    dsimp only [List.cons_append, List.nil_append, Option.toList]
    refine gg_ifP_eq (tgt := 28) (pc := 21) E dX5_settingHere_21 (by decide) (fun c21 => ?_) (fun c21 => ?_)
    · refine gg_aload_n (pc := 28) E dX5_settingHere_28 rfl rfl ?_
      refine gg_ldcSw (pc := 29) E 20 rfl dX5_settingHere_29 ?_
      refine gg_callV (F := []) (As := [_]) (rest := []) (pc := 32) E ck_X5 (ct_X5_isWord hl (hp) (hf) (hfp) (hpb) (by omega) (by decide)) (cwV 1 E.2.2.2.2.1 (lw_V q3005 q3007 qs76 q179 q3008) rfl rfl rfl (by decide +kernel) ⟨by rw [hRf]; exact Nat.le_of_ble_eq_true rfl, by rw [hRl]; exact Nat.le_of_ble_eq_true rfl⟩) dX5_settingHere_32 [] (by decide) rfl rfl (List.forall_mem_cons.mpr ⟨(gg_r 0 rfl), (List.forall_mem_cons.mpr ⟨(gg_r 1 rfl), (List.forall_mem_cons.mpr ⟨(gg_ks 40 rfl), (List.forall_mem_cons.mpr ⟨(gg_ks 41 rfl), (fun _ h => by cases h)⟩)⟩)⟩)⟩) (gg_r 0 rfl) rfl rfl (Nat.le_of_ble_eq_true rfl) (by first | (rw [hRc]; exact Nat.le_of_ble_eq_true rfl) | (rw [hRc]; dsimp only; omega)) (by first | (rw [hRs]; exact Nat.le_of_ble_eq_true rfl) | (rw [hRs]; dsimp only; omega)) ?_ (fun X q C1 h => h.elim)
      rintro _ _ ⟨rfl, rfl⟩
      dsimp only [List.cons_append, List.nil_append, Option.toList]
      refine gg_ifP_eq (tgt := 43) (pc := 35) E dX5_settingHere_35 (by decide) (fun c35 => ?_) (fun c35 => ?_)
      · refine gg_iconst (v := (-1)) (pc := 43) E dX5_settingHere_43 (by decide) ?_
        refine gg_iret (pc := 44) E Fn rfl (rfl) dX5_settingHere_44 (by first | exact Nat.le_of_ble_eq_true rfl | (dsimp only; omega)) (by first | exact Nat.le_of_ble_eq_true rfl | (dsimp only; omega)) ?_
        exact ⟨by unfold stH; rw [if_neg c7]; rw [if_neg c21]; rw [if_neg c35], rfl⟩
      · refine gg_bipush (v := 6) (pc := 38) E dX5_settingHere_38 (by decide) ?_
        refine gg_goto (tgt := 44) (pc := 40) E dX5_settingHere_40 (by decide) ?_
        refine gg_iret (pc := 44) E Fn rfl (rfl) dX5_settingHere_44 (by first | exact Nat.le_of_ble_eq_true rfl | (dsimp only; omega)) (by first | exact Nat.le_of_ble_eq_true rfl | (dsimp only; omega)) ?_
        exact ⟨by unfold stH; rw [if_neg c7]; rw [if_neg c21]; rw [if_pos c35], rfl⟩
    · refine gg_iconst (v := 5) (pc := 24) E dX5_settingHere_24 (by decide) ?_
      refine gg_goto (tgt := 44) (pc := 25) E dX5_settingHere_25 (by decide) ?_
      refine gg_iret (pc := 44) E Fn rfl (rfl) dX5_settingHere_44 (by first | exact Nat.le_of_ble_eq_true rfl | (dsimp only; omega)) (by first | exact Nat.le_of_ble_eq_true rfl | (dsimp only; omega)) ?_
      exact ⟨by unfold stH; rw [if_neg c7]; rw [if_pos c21], rfl⟩
  · refine gg_iconst (v := 4) (pc := 10) E dX5_settingHere_10 (by decide) ?_
    refine gg_goto (tgt := 44) (pc := 11) E dX5_settingHere_11 (by decide) ?_
    refine gg_iret (pc := 44) E Fn rfl (rfl) dX5_settingHere_44 (by first | exact Nat.le_of_ble_eq_true rfl | (dsimp only; omega)) (by first | exact Nat.le_of_ble_eq_true rfl | (dsimp only; omega)) ?_
    exact ⟨by unfold stH; rw [if_pos c7], rfl⟩
set_option maxHeartbeats 4000000 in
theorem ct_X5_kindHere {l : Launch} (hl : l.stackTraces = false) {g : gg_G}  {h : Nat} {ad : Nat → Nat} {x : Nat → Int32} {b : Nat → Int32} {p0 f0 : Nat} (hp : x 17 = nI p0) (hf : x 16 = nI f0) (hfp : f0 ≤ p0) (hpb : p0 ≤ 800) : gg_C l g yX5_kindHere (ws_ yX5_kindHere cX5_kindHere 1 (some .int)) { frames := 6, cells := 0, slots := 0, locals := 127 } [.ref h] [(h, .inl (4, mo_f ad x)), ((ad 12), gg_ab g 800 b)] [] (fun vv CC => vv = some (.int (kdH x b f0 (p0 - f0))) ∧ CC = []) gg_no := by
  refine gg_of (lv := [_]) (by decide) hl (Nat.le_of_ble_eq_true rfl) rfl ?_
  intro p e R s m args below meth c A Q hRf hRl hRc hRs E Fn hnm hex
  refine gg_aload_n (pc := 0) E dX5_kindHere_0 rfl rfl ?_
  refine gg_ldcSw (pc := 1) E 21 rfl dX5_kindHere_1 ?_
  refine gg_callV (F := []) (As := [_]) (rest := []) (pc := 4) E ck_X5 (ct_X5_isWord hl (hp) (hf) (hfp) (hpb) (by omega) (by decide)) (cwV 1 E.2.2.2.2.1 (lw_V q3005 q3007 qs76 q179 q3008) rfl rfl rfl (by decide +kernel) ⟨by rw [hRf]; exact Nat.le_of_ble_eq_true rfl, by rw [hRl]; exact Nat.le_of_ble_eq_true rfl⟩) dX5_kindHere_4 [] (by decide) rfl rfl (List.forall_mem_cons.mpr ⟨(gg_r 0 rfl), (List.forall_mem_cons.mpr ⟨(gg_r 1 rfl), (List.forall_mem_cons.mpr ⟨(gg_ks 42 rfl), (List.forall_mem_cons.mpr ⟨(gg_ks 43 rfl), (fun _ h => by cases h)⟩)⟩)⟩)⟩) (gg_r 0 rfl) rfl rfl (Nat.le_of_ble_eq_true rfl) (by first | (rw [hRc]; exact Nat.le_of_ble_eq_true rfl) | (rw [hRc]; dsimp only; omega)) (by first | (rw [hRs]; exact Nat.le_of_ble_eq_true rfl) | (rw [hRs]; dsimp only; omega)) ?_ (fun X q C1 h => h.elim)
  rintro _ _ ⟨rfl, rfl⟩
  dsimp only [List.cons_append, List.nil_append, Option.toList]
  refine gg_ifP_eq (tgt := 12) (pc := 7) E dX5_kindHere_7 (by decide) (fun c7 => ?_) (fun c7 => ?_)
  · refine gg_aload_n (pc := 12) E dX5_kindHere_12 rfl rfl ?_
    refine gg_ldcSw (pc := 13) E 22 rfl dX5_kindHere_13 ?_
    refine gg_callV (F := []) (As := [_]) (rest := []) (pc := 16) E ck_X5 (ct_X5_isWord hl (hp) (hf) (hfp) (hpb) (by omega) (by decide)) (cwV 1 E.2.2.2.2.1 (lw_V q3005 q3007 qs76 q179 q3008) rfl rfl rfl (by decide +kernel) ⟨by rw [hRf]; exact Nat.le_of_ble_eq_true rfl, by rw [hRl]; exact Nat.le_of_ble_eq_true rfl⟩) dX5_kindHere_16 [] (by decide) rfl rfl (List.forall_mem_cons.mpr ⟨(gg_r 0 rfl), (List.forall_mem_cons.mpr ⟨(gg_r 1 rfl), (List.forall_mem_cons.mpr ⟨(gg_ks 44 rfl), (List.forall_mem_cons.mpr ⟨(gg_ks 45 rfl), (fun _ h => by cases h)⟩)⟩)⟩)⟩) (gg_r 0 rfl) rfl rfl (Nat.le_of_ble_eq_true rfl) (by first | (rw [hRc]; exact Nat.le_of_ble_eq_true rfl) | (rw [hRc]; dsimp only; omega)) (by first | (rw [hRs]; exact Nat.le_of_ble_eq_true rfl) | (rw [hRs]; dsimp only; omega)) ?_ (fun X q C1 h => h.elim)
    rintro _ _ ⟨rfl, rfl⟩
    dsimp only [List.cons_append, List.nil_append, Option.toList]
    refine gg_ifP_eq (tgt := 24) (pc := 19) E dX5_kindHere_19 (by decide) (fun c19 => ?_) (fun c19 => ?_)
    · refine gg_aload_n (pc := 24) E dX5_kindHere_24 rfl rfl ?_
      refine gg_ldcSw (pc := 25) E 23 rfl dX5_kindHere_25 ?_
      refine gg_callV (F := []) (As := [_]) (rest := []) (pc := 28) E ck_X5 (ct_X5_isWord hl (hp) (hf) (hfp) (hpb) (by omega) (by decide)) (cwV 1 E.2.2.2.2.1 (lw_V q3005 q3007 qs76 q179 q3008) rfl rfl rfl (by decide +kernel) ⟨by rw [hRf]; exact Nat.le_of_ble_eq_true rfl, by rw [hRl]; exact Nat.le_of_ble_eq_true rfl⟩) dX5_kindHere_28 [] (by decide) rfl rfl (List.forall_mem_cons.mpr ⟨(gg_r 0 rfl), (List.forall_mem_cons.mpr ⟨(gg_r 1 rfl), (List.forall_mem_cons.mpr ⟨(gg_ks 46 rfl), (List.forall_mem_cons.mpr ⟨(gg_ks 47 rfl), (fun _ h => by cases h)⟩)⟩)⟩)⟩) (gg_r 0 rfl) rfl rfl (Nat.le_of_ble_eq_true rfl) (by first | (rw [hRc]; exact Nat.le_of_ble_eq_true rfl) | (rw [hRc]; dsimp only; omega)) (by first | (rw [hRs]; exact Nat.le_of_ble_eq_true rfl) | (rw [hRs]; dsimp only; omega)) ?_ (fun X q C1 h => h.elim)
      rintro _ _ ⟨rfl, rfl⟩
      dsimp only [List.cons_append, List.nil_append, Option.toList]
      refine gg_ifP_eq (tgt := 36) (pc := 31) E dX5_kindHere_31 (by decide) (fun c31 => ?_) (fun c31 => ?_)
      · refine gg_aload_n (pc := 36) E dX5_kindHere_36 rfl rfl ?_
        refine gg_ldcSw (pc := 37) E 24 rfl dX5_kindHere_37 ?_
        refine gg_callV (F := []) (As := [_]) (rest := []) (pc := 40) E ck_X5 (ct_X5_isWord hl (hp) (hf) (hfp) (hpb) (by omega) (by decide)) (cwV 1 E.2.2.2.2.1 (lw_V q3005 q3007 qs76 q179 q3008) rfl rfl rfl (by decide +kernel) ⟨by rw [hRf]; exact Nat.le_of_ble_eq_true rfl, by rw [hRl]; exact Nat.le_of_ble_eq_true rfl⟩) dX5_kindHere_40 [] (by decide) rfl rfl (List.forall_mem_cons.mpr ⟨(gg_r 0 rfl), (List.forall_mem_cons.mpr ⟨(gg_r 1 rfl), (List.forall_mem_cons.mpr ⟨(gg_ks 48 rfl), (List.forall_mem_cons.mpr ⟨(gg_ks 49 rfl), (fun _ h => by cases h)⟩)⟩)⟩)⟩) (gg_r 0 rfl) rfl rfl (Nat.le_of_ble_eq_true rfl) (by first | (rw [hRc]; exact Nat.le_of_ble_eq_true rfl) | (rw [hRc]; dsimp only; omega)) (by first | (rw [hRs]; exact Nat.le_of_ble_eq_true rfl) | (rw [hRs]; dsimp only; omega)) ?_ (fun X q C1 h => h.elim)
        rintro _ _ ⟨rfl, rfl⟩
        dsimp only [List.cons_append, List.nil_append, Option.toList]
        refine gg_ifP_eq (tgt := 48) (pc := 43) E dX5_kindHere_43 (by decide) (fun c43 => ?_) (fun c43 => ?_)
        · refine gg_aload_n (pc := 48) E dX5_kindHere_48 rfl rfl ?_
          refine gg_ldcSw (pc := 49) E 25 rfl dX5_kindHere_49 ?_
          refine gg_callV (F := []) (As := [_]) (rest := []) (pc := 52) E ck_X5 (ct_X5_isWord hl (hp) (hf) (hfp) (hpb) (by omega) (by decide)) (cwV 1 E.2.2.2.2.1 (lw_V q3005 q3007 qs76 q179 q3008) rfl rfl rfl (by decide +kernel) ⟨by rw [hRf]; exact Nat.le_of_ble_eq_true rfl, by rw [hRl]; exact Nat.le_of_ble_eq_true rfl⟩) dX5_kindHere_52 [] (by decide) rfl rfl (List.forall_mem_cons.mpr ⟨(gg_r 0 rfl), (List.forall_mem_cons.mpr ⟨(gg_r 1 rfl), (List.forall_mem_cons.mpr ⟨(gg_ks 50 rfl), (List.forall_mem_cons.mpr ⟨(gg_ks 51 rfl), (fun _ h => by cases h)⟩)⟩)⟩)⟩) (gg_r 0 rfl) rfl rfl (Nat.le_of_ble_eq_true rfl) (by first | (rw [hRc]; exact Nat.le_of_ble_eq_true rfl) | (rw [hRc]; dsimp only; omega)) (by first | (rw [hRs]; exact Nat.le_of_ble_eq_true rfl) | (rw [hRs]; dsimp only; omega)) ?_ (fun X q C1 h => h.elim)
          rintro _ _ ⟨rfl, rfl⟩
          dsimp only [List.cons_append, List.nil_append, Option.toList]
          refine gg_ifP_eq (tgt := 60) (pc := 55) E dX5_kindHere_55 (by decide) (fun c55 => ?_) (fun c55 => ?_)
          · refine gg_aload_n (pc := 60) E dX5_kindHere_60 rfl rfl ?_
            refine gg_callV (F := []) (As := []) (rest := []) (pc := 61) E ck_X5 (ct_X5_settingHere hl (by first | assumption | omega) (by first | assumption | omega) (by first | assumption | omega) (by first | assumption | omega)) (cwV 0 E.2.2.2.2.1 (lw_V q3059 q3061 qs89 q179 q3062) rfl rfl rfl (by decide +kernel) ⟨by rw [hRf]; exact Nat.le_of_ble_eq_true rfl, by rw [hRl]; exact Nat.le_of_ble_eq_true rfl⟩) dX5_kindHere_61 [] (by decide) rfl rfl (List.forall_mem_cons.mpr ⟨(gg_r 0 rfl), (List.forall_mem_cons.mpr ⟨(gg_r 1 rfl), (fun _ h => by cases h)⟩)⟩) (gg_r 0 rfl) rfl rfl (Nat.le_of_ble_eq_true rfl) (by first | (rw [hRc]; exact Nat.le_of_ble_eq_true rfl) | (rw [hRc]; dsimp only; omega)) (by first | (rw [hRs]; exact Nat.le_of_ble_eq_true rfl) | (rw [hRs]; dsimp only; omega)) ?_ (fun X q C1 h => h.elim)
            rintro _ _ ⟨rfl, rfl⟩
            dsimp only [List.cons_append, List.nil_append, Option.toList]
            refine gg_iconst (v := (-1)) (pc := 64) E dX5_kindHere_64 (by decide) ?_
            refine gg_icmp_ne (tgt := 72) (pc := 65) E dX5_kindHere_65 (by decide) (fun c65 => ?_) (fun c65 => ?_)
            · refine gg_iconst (v := 5) (pc := 72) E dX5_kindHere_72 (by decide) ?_
              refine gg_iret (pc := 73) E Fn rfl (rfl) dX5_kindHere_73 (by first | exact Nat.le_of_ble_eq_true rfl | (dsimp only; omega)) (by first | exact Nat.le_of_ble_eq_true rfl | (dsimp only; omega)) ?_
              exact ⟨by unfold kdH; rw [if_neg c7]; rw [if_neg c19]; rw [if_neg c31]; rw [if_neg c43]; rw [if_neg c55]; rw [if_neg c65], rfl⟩
            · refine gg_iconst (v := (-1)) (pc := 68) E dX5_kindHere_68 (by decide) ?_
              refine gg_goto (tgt := 73) (pc := 69) E dX5_kindHere_69 (by decide) ?_
              refine gg_iret (pc := 73) E Fn rfl (rfl) dX5_kindHere_73 (by first | exact Nat.le_of_ble_eq_true rfl | (dsimp only; omega)) (by first | exact Nat.le_of_ble_eq_true rfl | (dsimp only; omega)) ?_
              exact ⟨by unfold kdH; rw [if_neg c7]; rw [if_neg c19]; rw [if_neg c31]; rw [if_neg c43]; rw [if_neg c55]; rw [if_pos c65], rfl⟩
          · refine gg_iconst (v := 4) (pc := 58) E dX5_kindHere_58 (by decide) ?_
            refine gg_iret (pc := 59) E Fn rfl (rfl) dX5_kindHere_59 (by first | exact Nat.le_of_ble_eq_true rfl | (dsimp only; omega)) (by first | exact Nat.le_of_ble_eq_true rfl | (dsimp only; omega)) ?_
            exact ⟨by unfold kdH; rw [if_neg c7]; rw [if_neg c19]; rw [if_neg c31]; rw [if_neg c43]; rw [if_pos c55], rfl⟩
        · refine gg_iconst (v := 3) (pc := 46) E dX5_kindHere_46 (by decide) ?_
          refine gg_iret (pc := 47) E Fn rfl (rfl) dX5_kindHere_47 (by first | exact Nat.le_of_ble_eq_true rfl | (dsimp only; omega)) (by first | exact Nat.le_of_ble_eq_true rfl | (dsimp only; omega)) ?_
          exact ⟨by unfold kdH; rw [if_neg c7]; rw [if_neg c19]; rw [if_neg c31]; rw [if_pos c43], rfl⟩
      · refine gg_iconst (v := 2) (pc := 34) E dX5_kindHere_34 (by decide) ?_
        refine gg_iret (pc := 35) E Fn rfl (rfl) dX5_kindHere_35 (by first | exact Nat.le_of_ble_eq_true rfl | (dsimp only; omega)) (by first | exact Nat.le_of_ble_eq_true rfl | (dsimp only; omega)) ?_
        exact ⟨by unfold kdH; rw [if_neg c7]; rw [if_neg c19]; rw [if_pos c31], rfl⟩
    · refine gg_iconst (v := 1) (pc := 22) E dX5_kindHere_22 (by decide) ?_
      refine gg_iret (pc := 23) E Fn rfl (rfl) dX5_kindHere_23 (by first | exact Nat.le_of_ble_eq_true rfl | (dsimp only; omega)) (by first | exact Nat.le_of_ble_eq_true rfl | (dsimp only; omega)) ?_
      exact ⟨by unfold kdH; rw [if_neg c7]; rw [if_pos c19], rfl⟩
  · refine gg_iconst (v := 0) (pc := 10) E dX5_kindHere_10 (by decide) ?_
    refine gg_iret (pc := 11) E Fn rfl (rfl) dX5_kindHere_11 (by first | exact Nat.le_of_ble_eq_true rfl | (dsimp only; omega)) (by first | exact Nat.le_of_ble_eq_true rfl | (dsimp only; omega)) ?_
    exact ⟨by unfold kdH; rw [if_pos c7], rfl⟩

set_option maxRecDepth 100000
/-! ===== a tune comes: the class's way to the same row (pure) ===== -/
/-- whistled anew -/
def arA (row : Nat → Int32) (t : Nat) : Nat → Int32 := cn (upd (he (upd row (220 + 27 * t + 8) (row (220 + 27 * t + 8) + 1)) t) (220 + 27 * t + 4) (row (220 + 27 * t))) 7 1
/-- has come -/
def arB (row : Nat → Int32) (t : Nat) (u : Int32) : Nat → Int32 := cn (cn (upd row (220 + 27 * t + 3) 2) 5 1) 6 (if u = 0 then 1 else 0)
def arvF (row : Nat → Int32) (nt t : Nat) : Nat → Int32 := if 0 < ulk row t (tno row t) ∧ row (220 + 27 * t + 8) < row 6 then arA row t else rpF (arB row t (ulk row t (tno row t))) t nt (tno row t)
theorem cm3_tno {row : Nat → Int32} {t : Nat} (h1 : 1 ≤ tno row t) (h8 : tno row t ≤ 8) : tno (cm3 row t) t = tno row t := by
  show (cm3 row t (220 + 27 * t + 2)).toNatClampNeg = (row (220 + 27 * t + 2)).toNatClampNeg
  rw [cm3_out h1 h8 (by omega) (by omega) (by omega) (by omega)]
theorem cm_arv {row : Nat → Int32} {nt t : Nat} (h1 : 1 ≤ tno row t) (h8 : tno row t ≤ 8) (h : row (220 + 27 * t + 4) = row (220 + 27 * t + 1)) : cmF row nt t = arvF (cm3 row t) nt t := by
  unfold cmF arvF
  rw [if_neg (fun q => q h), cm3_tno h1 h8, ulk_cm3 h8, cm3_out (j := 220 + 27 * t + 8) h1 h8 (by omega) (by omega) (by omega) (by omega), cm3_out (j := 6) h1 h8 (by omega) (by omega) (by omega) (by omega)]
  unfold arA arB cmA cmB
  rw [cm3_out (j := 220 + 27 * t + 8) h1 h8 (by omega) (by omega) (by omega) (by omega), cm3_out (j := 220 + 27 * t) h1 h8 (by omega) (by omega) (by omega) (by omega)]
theorem cm_fly {row : Nat → Int32} {nt t : Nat} (h : ¬ row (220 + 27 * t + 4) = row (220 + 27 * t + 1)) : cmF row nt t = cm3 row t := if_pos h
theorem arA_o {row : Nat → Int32} {t j : Nat} (h : j < 220 + 27 * t + 19 ∨ 220 + 27 * t + 27 ≤ j) (h17 : j ≠ 17) (h4 : j ≠ 220 + 27 * t + 4) (h8 : j ≠ 220 + 27 * t + 8) : arA row t j = row j := by
  unfold arA
  rw [cn_out (by omega), pk_un h4, he_out (by omega), pk_un h8]
theorem arA_4 {row : Nat → Int32} {t : Nat} : arA row t (220 + 27 * t + 4) = row (220 + 27 * t) := by
  unfold arA
  rw [cn_out (by omega), pk_us]
theorem arA_8 {row : Nat → Int32} {t : Nat} : arA row t (220 + 27 * t + 8) = row (220 + 27 * t + 8) + 1 := by
  unfold arA
  rw [cn_out (by omega), pk_un (by omega), he_out (by omega), pk_us]
theorem arA_he {row : Nat → Int32} {t j : Nat} (hj : j < 8) : arA row t (220 + 27 * t + 19 + j) = row (220 + 27 * t + 11 + j) := by
  unfold arA he
  rw [cn_out (by omega), pk_un (by omega), ub_in _ _ _ _ (by omega) (by omega), show 220 + 27 * t + 19 + j - (220 + 27 * t + 19) = j by omega, pk_un (by omega)]
theorem arA_ac {row : Nat → Int32} {t j : Nat} (hj : j < 11) : upd (fun j => row (10 + j)) 7 (row (10 + 7) + 1) j = arA row t (10 + j) := by
  by_cases e : j = 7
  · subst e
    have hl : upd (fun j => row (10 + j)) 7 (row (10 + 7) + 1) 7 = row (10 + 7) + 1 := pk_us
    have hr : arA row t (10 + 7) = upd (he (upd row (220 + 27 * t + 8) (row (220 + 27 * t + 8) + 1)) t) (220 + 27 * t + 4) (row (220 + 27 * t)) (10 + 7) + 1 := by
      unfold arA
      exact pk_us
    rw [hl, hr, pk_un (by omega), he_out (by omega), pk_un (by omega)]
  · have hl : upd (fun j => row (10 + j)) 7 (row (10 + 7) + 1) j = row (10 + j) := pk_un e
    rw [hl, arA_o (by omega) (by omega) (by omega) (by omega)]
theorem arB_o {row : Nat → Int32} {t j : Nat} {u : Int32} (h15 : j ≠ 15) (h16 : j ≠ 16) (h3 : j ≠ 220 + 27 * t + 3) : arB row t u j = row j := by
  unfold arB
  rw [cn_out (by omega), cn_out (by omega), pk_un h3]
theorem arB_3 {row : Nat → Int32} {t : Nat} {u : Int32} : arB row t u (220 + 27 * t + 3) = 2 := by
  unfold arB
  rw [cn_out (by omega), cn_out (by omega), pk_us]
theorem arB_ac {row : Nat → Int32} {t j : Nat} {u z : Int32} (hz : z = if u = 0 then 1 else 0) (hj : j < 11) : upd (upd (fun j => row (10 + j)) 5 (row (10 + 5) + 1)) 6 (row (10 + 6) + z) j = arB row t u (10 + j) := by
  subst hz
  have r5 : cn (upd row (220 + 27 * t + 3) 2) 5 1 (10 + 5) = upd row (220 + 27 * t + 3) 2 (10 + 5) + 1 := pk_us
  by_cases e : j = 6
  · subst e
    have hl : upd (upd (fun j => row (10 + j)) 5 (row (10 + 5) + 1)) 6 (row (10 + 6) + if u = 0 then 1 else 0) 6 = row (10 + 6) + if u = 0 then 1 else 0 := pk_us
    have hr : arB row t u (10 + 6) = cn (upd row (220 + 27 * t + 3) 2) 5 1 (10 + 6) + if u = 0 then 1 else 0 := by
      unfold arB
      exact pk_us
    rw [hl, hr, cn_out (by omega), pk_un (by omega)]
  · have hl : upd (upd (fun j => row (10 + j)) 5 (row (10 + 5) + 1)) 6 (row (10 + 6) + if u = 0 then 1 else 0) j = upd (fun j => row (10 + j)) 5 (row (10 + 5) + 1) j := pk_un e
    have hr : arB row t u (10 + j) = cn (upd row (220 + 27 * t + 3) 2) 5 1 (10 + j) := cn_out (by omega)
    rw [hl, hr]
    by_cases e5 : j = 5
    · subst e5
      have h3 : upd (fun j => row (10 + j)) 5 (row (10 + 5) + 1) 5 = row (10 + 5) + 1 := pk_us
      rw [h3, r5, pk_un (by omega)]
    · have h3 : upd (fun j => row (10 + j)) 5 (row (10 + 5) + 1) j = row (10 + j) := pk_un e5
      rw [h3, cn_out (by omega), pk_un (by omega)]
theorem arB_ulk {row : Nat → Int32} {t no : Nat} {u : Int32} (h8 : no ≤ 8) : ulk (arB row t u) t no = ulk row t no := ulk_c h8 fun j q1 q2 => arB_o (by omega) (by omega) (by omega)
/-- what lies apart serves another row with the same notes and ways -/
theorem Po_keep {g : gg_G} {P : gg_S} {sn wo : Nat → Nat} {row row' : Nat → Int32} {nw nt : Nat} (hP : Po g P sn wo row nw nt) (h8 : ∀ t, t < nt → tno row t ≤ 8) (h : ∀ t, t < nt → ∀ d, d = 2 ∨ (11 ≤ d ∧ d < 19) → row' (220 + 27 * t + d) = row (220 + 27 * t + d)) (hw : ∀ j, 160 ≤ j → j < 220 → row' j = row j) (h20 : nw ≤ 20) : Po g P sn wo row' nw nt := by
  refine ⟨fun t ht => ?_, fun i hi => ?_⟩
  · have e : tno row' t = tno row t := by
      show (row' (220 + 27 * t + 2)).toNatClampNeg = (row (220 + 27 * t + 2)).toNatClampNeg
      rw [h t ht 2 (Or.inl rfl)]
    have e2 : gg_ai g (tno row' t) (fun j => row' (220 + 27 * t + 11 + j)) = gg_ai g (tno row t) (fun j => row (220 + 27 * t + 11 + j)) := by
      rw [e]
      exact gg_ai_congr fun j hj => by
        have h9 := h8 t ht
        have := h t ht (11 + j) (Or.inr ⟨by omega, by omega⟩)
        rw [← Nat.add_assoc] at this
        exact this
    rw [e2]
    exact hP.1 t ht
  · rw [hw _ (by omega) (by omega), hw _ (by omega) (by omega), hw _ (by omega) (by omega)]
    exact hP.2 i hi
/-- and one with a tune more -/
theorem Po_push {g : gg_G} {P : gg_S} {sn wo : Nat → Nat} {row su : Nat → Int32} {nw nt no b : Nat} {se go re wa : Int32} (hP : Po g P sn wo row nw nt) (h8 : ∀ t, t < nt → tno row t ≤ 8) (h20 : nw ≤ 20) (hn8 : no ≤ 8) : Po g (P ++ [(b, gg_ai g no su)]) (llU sn nt b) wo (ntu row nt no su se go re wa) nw (nt + 1) := by
  have hk := Po_keep (row' := ntu row nt no su se go re wa) hP h8 (fun t ht d hd => ntu_out hn8 (by omega) (by omega) (by omega) (by omega)) (fun j h1 h2 => ntu_out hn8 (by omega) (by omega) (by omega) (by omega)) h20
  refine ⟨fun t ht => ?_, fun i hi => List.mem_append_left _ (hk.2 i hi)⟩
  by_cases e : t = nt
  · subst e
    rw [llU_n, nu_tno hn8]
    refine List.mem_append_right _ (List.mem_singleton.mpr ?_)
    exact congrArg (fun z => (b, z)) (gg_ai_congr fun j hj => (ntu_n hn8 hj).1)
  · rw [llU_o e]
    exact List.mem_append_left _ (hk.1 t (by omega))

set_option maxRecDepth 100000
/-! ===== PURE: many ticks; a way is cut; one roof more ===== -/
theorem tk_Gn {row : Nat → Int32} {nr nw nt tm n4 : Nat} (hG : Gw row nr nw nt) (htm : row 3 = nI tm) (htm2 : tm + 1 < 2 ^ 30) (h2 : tkF row nr nw 2 = nI n4) (h30 : n4 ≤ 30) : nt ≤ n4 ∧ Gw (tkF row nr nw) nr nw n4 ∧ tkF row nr nw 3 = nI (tm + 1) ∧ ∀ j, 4 ≤ j → j ≤ 6 → tkF row nr nw j = row j := by
  obtain ⟨n', a, b, c, d⟩ := tk_G hG htm htm2
  have h1 := b.2.2.1.1
  have h3 := b.2.2.1.2.1
  have e : n' = n4 := (nI_eq (by omega) (by omega)).mp (h1.symm.trans h2)
  rw [← e]
  exact ⟨a, b, c, d⟩
theorem go_mono {row : Nat → Int32} {nr nw nt tm : Nat} (hG : Gw row nr nw nt) (htm : row 3 = nI tm) : ∀ k i, tm + i + k < 2 ^ 30 → ntn (goF row nr nw i) ≤ ntn (goF row nr nw (i + k)) := by
  intro k
  induction k with
  | zero => intro i _; exact Nat.le_refl _
  | succ k ih =>
    intro i hi
    refine Nat.le_trans (ih i (by omega)) ?_
    obtain ⟨n1, -, b, c, -⟩ := go_G hG htm (i + k) (by omega)
    obtain ⟨n2, d, e, -⟩ := tk_G b c (by omega)
    rw [ntn_G b]
    show n1 ≤ ntn (tkF (goF row nr nw (i + k)) nr nw)
    rw [ntn_G e]
    exact d
/-- some of q ticks asks for routes -/
def gka (row : Nat → Int32) (nr nw q : Nat) : Prop := ∃ i, i < q ∧ tka (goF row nr nw i) (ntn (goF row nr nw i))
/-- the z-th state of a list from which place i0 goes: 0 whole, 1 without it -/
def dx (i0 z j : Nat) : Nat := if z = 0 then j else sk i0 j
def mz (m : Int32) (z : Nat) : Int32 := if z = 0 then m else m + 1
theorem wyI_i {row : Nat → Int32} {nr nw : Nat} {a b : Int32} (hw : Ww row nr nw) (h : ¬ wyI row nw a b = -1) : ∃ i, i < nw ∧ wyI row nw a b = nI i ∧ joP (row (160 + 3 * i)) (row (160 + 3 * i + 1)) a b := by
  have h20 := hw.2.1
  by_cases hall : ∀ j, j < nw → ¬ joP (row (160 + 3 * j)) (row (160 + 3 * j + 1)) a b
  · exact absurd (fi_none fun j hj q => hall j hj ((jo_wy hw hj).mpr q)) h
  · have : ∀ n, n ≤ nw → (∀ j, j < n → ¬ joP (row (160 + 3 * j)) (row (160 + 3 * j + 1)) a b) ∨ ∃ i, i < n ∧ joP (row (160 + 3 * i)) (row (160 + 3 * i + 1)) a b ∧ ∀ j, j < i → ¬ joP (row (160 + 3 * j)) (row (160 + 3 * j + 1)) a b := by
      intro n
      induction n with
      | zero => intro _; exact Or.inl fun j hj => absurd hj (Nat.not_lt_zero j)
      | succ n ih =>
        intro hn
        rcases ih (by omega) with q | ⟨i, hi, q⟩
        · by_cases c : joP (row (160 + 3 * n)) (row (160 + 3 * n + 1)) a b
          · exact Or.inr ⟨n, Nat.lt_succ_self n, c, q⟩
          · refine Or.inl fun j hj => ?_
            by_cases e : j = n
            · rw [e]
              exact c
            · exact q j (by omega)
        · exact Or.inr ⟨i, by omega, q⟩
    rcases this nw (Nat.le_refl _) with q | ⟨i, hi, q, q2⟩
    · exact absurd q hall
    · exact ⟨i, hi, fi_some hi ((jo_wy hw hi).mp q) fun j hj z => q2 j hj ((jo_wy hw (by omega)).mpr z), q⟩
theorem jo_uq {row : Nat → Int32} {nr nw i j : Nat} {a b : Int32} (hw : Ww row nr nw) (hu : Wu row nw) (hi : i < nw) (hj : j < nw) (h1 : joP (row (160 + 3 * i)) (row (160 + 3 * i + 1)) a b) (h2 : joP (row (160 + 3 * j)) (row (160 + 3 * j + 1)) a b) : i = j := by
  have wi := hw.2.2.2 i hi
  have wj := hw.2.2.2 j hj
  have h10 := hw.2.2.1
  rw [wi.1, wi.2.1] at h1
  rw [wj.1, wj.2.1] at h2
  have eq : ∀ x y : Nat, x < nr → y < nr → nI x = nI y → x = y := fun x y hx hy e => (nI_eq (by omega) (by omega)).mp e
  refine hu i j hi hj ?_
  rcases h1 with ⟨p, q⟩ | ⟨p, q⟩ <;> rcases h2 with ⟨r, s⟩ | ⟨r, s⟩
  · exact Or.inl ⟨eq _ _ wi.2.2.2.1 wj.2.2.2.1 (p.trans r.symm), eq _ _ wi.2.2.2.2.1 wj.2.2.2.2.1 (q.trans s.symm)⟩
  · exact Or.inr ⟨eq _ _ wi.2.2.2.1 wj.2.2.2.2.1 (p.trans s.symm), eq _ _ wi.2.2.2.2.1 wj.2.2.2.1 (q.trans r.symm)⟩
  · exact Or.inr ⟨eq _ _ wi.2.2.2.1 wj.2.2.2.2.1 (p.trans s.symm), eq _ _ wi.2.2.2.2.1 wj.2.2.2.1 (q.trans r.symm)⟩
  · exact Or.inl ⟨eq _ _ wi.2.2.2.1 wj.2.2.2.1 (p.trans r.symm), eq _ _ wi.2.2.2.2.1 wj.2.2.2.2.1 (q.trans s.symm)⟩
theorem Po_cut {g : gg_G} {P : gg_S} {sn wo : Nat → Nat} {row : Nat → Int32} {nw nt i : Nat} (hP : Po g P sn wo row nw nt) (h8 : ∀ t, t < nt → tno row t ≤ 8) (hi : i < nw) (h20 : nw ≤ 20) : Po g P sn (fun j => wo (sk i j)) (cuF row nw i) (nw - 1) nt := by
  have o : ∀ j, 220 ≤ j → cuF row nw i j = row j := fun j h => cu_out (by omega) (Or.inr h) h20
  refine ⟨fun t ht => ?_, fun j hj => ?_⟩
  · have e : tno (cuF row nw i) t = tno row t := by
      unfold tno
      rw [o _ (by omega)]
    rw [e, show (gg_ai g (tno row t) fun j => cuF row nw i (220 + 27 * t + 11 + j)) = gg_ai g (tno row t) (fun j => row (220 + 27 * t + 11 + j)) from gg_ai_congr fun j _ => o _ (by omega)]
    exact hP.1 t ht
  · have e : sk i j = cuj i j := rfl
    have h := fun d (hd : d < 3) => cu_in (row := row) (nw := nw) hi (j := j) (by omega) hd
    have hlt : cuj i j < nw := by
      unfold cuj
      split <;> omega
    dsimp only
    rw [e, show cuF row nw i (160 + 3 * j) = row (160 + 3 * cuj i j) from h 0 (by omega), h 1 (by omega), h 2 (by omega)]
    exact hP.2 _ hlt

set_option maxRecDepth 100000
/-! ===== PURE: a roof whistles; what the table depends on ===== -/
theorem ways_e {row row' : Nat → Int32} {nw i : Nat} (h20 : nw ≤ 20) (hi : i < nw) (h : ∀ j, 160 ≤ j → j < 220 → row' j = row j) : ea row' i = ea row i ∧ eb row' i = eb row i ∧ ef row' i = ef row i := by
  unfold ea eb ef
  rw [h _ (by omega) (by omega), h _ (by omega) (by omega), h _ (by omega) (by omega)]
  exact ⟨rfl, rfl, rfl⟩
theorem dist_ways {row row' : Nat → Int32} {nw : Nat} {wo : Int32} {g : Nat} (h20 : nw ≤ 20) (h : ∀ j, 160 ≤ j → j < 220 → row' j = row j) : dist row' nw wo g = dist row nw wo g := by
  have e : ∀ i u v, En row' nw wo i u v ↔ En row nw wo i u v := by
    intro i u v
    unfold En
    constructor
    · rintro ⟨a, b, c⟩
      obtain ⟨e1, e2, -⟩ := ways_e h20 a h
      rw [e1, e2] at c
      exact ⟨a, b, c⟩
    · rintro ⟨a, b, c⟩
      obtain ⟨e1, e2, -⟩ := ways_e h20 a h
      rw [← e1, ← e2] at c
      exact ⟨a, b, c⟩
  have f : ∀ i u v, En row nw wo i u v → ef row' i = ef row i := fun i u v hE => (ways_e h20 hE.1 h).2.2
  have d : (fun d => IsDist row' nw wo g d) = fun d => IsDist row nw wo g d := by
    funext d
    refine propext ?_
    unfold IsDist
    constructor
    · rintro ⟨a, b, c⟩
      refine ⟨a, fun i u v x hE hu => ?_, fun v x hv hn => ?_⟩
      · obtain ⟨y, hy, hl⟩ := b i u v x ((e i u v).mpr hE) hu
        rw [f i u v hE] at hl
        exact ⟨y, hy, hl⟩
      · obtain ⟨i, u, y, hE, hu, hs⟩ := c v x hv hn
        have hE' := (e i u v).mp hE
        rw [f i u v hE'] at hs
        exact ⟨i, u, y, hE', hu, hs⟩
    · rintro ⟨a, b, c⟩
      refine ⟨a, fun i u v x hE hu => ?_, fun v x hv hn => ?_⟩
      · have hE' := (e i u v).mp hE
        obtain ⟨y, hy, hl⟩ := b i u v x hE' hu
        rw [← f i u v hE'] at hl
        exact ⟨y, hy, hl⟩
      · obtain ⟨i, u, y, hE, hu, hs⟩ := c v x hv hn
        rw [← f i u v hE] at hs
        exact ⟨i, u, y, (e i u v).mpr hE, hu, hs⟩
  unfold dist
  rw [d]
theorem Rt_keep {g : gg_G} {P : gg_S} {rt nr nw : Nat} {row row' : Nat → Int32} (hR : Rt g P rt row nr nw) (h20 : nw ≤ 20) (h : ∀ j, 160 ≤ j → j < 220 → row' j = row j) : Rt g P rt row' nr nw := by
  have e : tbF row' nr nw = tbF row nr nw := by
    funext j
    show dI (dist row' nw (-1) (j / nr) (j % nr)) = dI (dist row nw (-1) (j / nr) (j % nr))
    rw [dist_ways h20 h]
  unfold Rt
  rw [e]
  exact hR
/-- what a roof's turn leaves -/
noncomputable def wsR (row : Nat → Int32) (nw k nt : Nat) : Nat → Int32 := if row 3 < row (25 + 13 * k + 11) then row else match fas row nw k nt with
  | none => row
  | some t => ws row nw t k ((nxt row nw k (tg row t)).getD 0)
theorem rf_step {row : Nat → Int32} {nw i : Nat} : rfF row nw (i + 1) = wsR (rfF row nw i) nw i (ntn (rfF row nw i)) := rfl
theorem fas_rch {row : Nat → Int32} {nw k : Nat} : ∀ n b, fas row nw k n = some b → rch row k b := by
  intro n
  induction n with
  | zero => intro b h; cases h
  | succ n ih =>
    intro b h
    unfold fas at h
    split at h
    · rename_i q
      cases h
      exact q.2.2.1
    · exact ih b h
/-- the sender has paid -/
def ws1 (row : Nat → Int32) (t k : Nat) : Nat → Int32 := upd row (25 + 13 * ts row t + 10) (row (25 + 13 * ts row t + 10) - wsfee row t k)
theorem ws1_s {row : Nat → Int32} {t k : Nat} : ws1 row t k (25 + 13 * ts row t + 10) = row (25 + 13 * ts row t + 10) - wsfee row t k := pk_us
theorem ws1_o {row : Nat → Int32} {t k j : Nat} (h : j ≠ 25 + 13 * ts row t + 10) : ws1 row t k j = row j := pk_un h
theorem ws_10 {row : Nat → Int32} {nw t k u : Nat} (hk : k < 10) : ws row nw t k u (25 + 13 * k + 10) = ws1 row t k (25 + 13 * k + 10) + wsfee row t k := by
  unfold ws
  rw [cn_out (by omega), cn_out (by omega), pk_un (by omega), pk_un (by omega), pk_un (by omega), pk_un (by omega), pk_un (by omega)]
  unfold ws4
  rw [pk_un (by omega), pk_un (by omega)]
  unfold ws2
  rw [pk_us]
  rfl
theorem ws_11 {row : Nat → Int32} {nw t k u : Nat} (hk : k < 10) : ws row nw t k u (25 + 13 * k + 11) = wsunt row t k := by
  unfold ws
  rw [cn_out (by omega), cn_out (by omega), pk_un (by omega), pk_un (by omega), pk_un (by omega), pk_un (by omega), pk_un (by omega)]
  unfold ws4
  rw [pk_un (by omega), pk_us]
theorem ws_12 {row : Nat → Int32} {nw t k u : Nat} (hk : k < 10) : ws row nw t k u (25 + 13 * k + 12) = row (25 + 13 * k + 12) + 1 := by
  unfold ws
  rw [cn_out (by omega), cn_out (by omega), pk_un (by omega), pk_un (by omega), pk_un (by omega), pk_un (by omega), pk_un (by omega)]
  unfold ws4
  rw [pk_us]
theorem ws_rk {ra nm : Nat → Nat} {row : Nat → Int32} {nw t k u : Nat} (hk : k < 10) (hs : ts row t < 10) : rfN ra nm (ws row nw t k u) k = (ra k, .inl (2, [.ref (nm k), .int (row (25 + 13 * k + 7)), .int (row (25 + 13 * k + 8)), .int (row (25 + 13 * k + 9)), .int (ws1 row t k (25 + 13 * k + 10) + wsfee row t k), .int (wsunt row t k), .int (row (25 + 13 * k + 12) + 1)])) := by
  unfold rfN
  rw [ws_10 hk, ws_11 hk, ws_12 hk, ws_out (j := 25 + 13 * k + 7) (by omega) (by omega) (by omega) (by omega) (by omega) (by omega) (by omega), ws_out (j := 25 + 13 * k + 8) (by omega) (by omega) (by omega) (by omega) (by omega) (by omega) (by omega), ws_out (j := 25 + 13 * k + 9) (by omega) (by omega) (by omega) (by omega) (by omega) (by omega) (by omega)]
theorem ws_rj {row : Nat → Int32} {nw t k u j d : Nat} (hk : k < 10) (hj : j < 10) (hne : j ≠ k) (h7 : 7 ≤ d) (h13 : d < 13) : ws row nw t k u (25 + 13 * j + d) = ws1 row t k (25 + 13 * j + d) := by
  unfold ws
  rw [cn_out (by omega), cn_out (by omega), pk_un (by omega), pk_un (by omega), pk_un (by omega), pk_un (by omega), pk_un (by omega)]
  unfold ws4
  rw [pk_un (by omega), pk_un (by omega)]
  unfold ws2
  rw [pk_un (by omega)]
  rfl
theorem ws_tt {tu sn hd : Nat → Nat} {row : Nat → Int32} {nw t k u : Nat} (hk : k < 10) (hs : ts row t < 10) : tuN tu sn hd (ws row nw t k u) t = (tu t, .inl (7, [.int (nI t), .int (row (220 + 27 * t)), .int (row (220 + 27 * t + 1)), .ref (sn t), .ref (hd t), .int (row (220 + 27 * t + 6)), .int (row (220 + 27 * t + 7)), .int (nI u), .int 1, .int (wsunt row t k + row (160 + 3 * wy row nw k u + 2)), .int (row (160 + 3 * wy row nw k u + 2)), .int (row (220 + 27 * t + 8)), .int (row (220 + 27 * t + 9) + 1)])) := by
  have o : ∀ d, d < 11 → d ≠ 3 → d ≠ 4 → d ≠ 5 → d ≠ 9 → d ≠ 10 → ws row nw t k u (220 + 27 * t + d) = row (220 + 27 * t + d) := fun d h h3 h4 h5 h9 h10 => ws_out (by omega) (by omega) (by omega) (by omega) (by omega) (by omega) (by omega)
  have e3 : ws row nw t k u (220 + 27 * t + 3) = 1 := by
    unfold ws
    rw [cn_out (by omega), cn_out (by omega), pk_un (by omega), pk_us]
  have e4 : ws row nw t k u (220 + 27 * t + 4) = nI u := by
    unfold ws
    rw [cn_out (by omega), cn_out (by omega), pk_un (by omega), pk_un (by omega), pk_us]
  have e5 : ws row nw t k u (220 + 27 * t + 5) = wsunt row t k + row (160 + 3 * wy row nw k u + 2) := by
    unfold ws
    rw [cn_out (by omega), cn_out (by omega), pk_un (by omega), pk_un (by omega), pk_un (by omega), pk_us]
  have e10 : ws row nw t k u (220 + 27 * t + 10) = row (160 + 3 * wy row nw k u + 2) := by
    unfold ws
    rw [cn_out (by omega), cn_out (by omega), pk_un (by omega), pk_un (by omega), pk_un (by omega), pk_un (by omega), pk_us]
  have e9 : ws row nw t k u (220 + 27 * t + 9) = row (220 + 27 * t + 9) + 1 := by
    unfold ws
    rw [cn_out (by omega), cn_out (by omega), pk_us]
  unfold tuN
  rw [e3, e4, e5, e9, e10, show ws row nw t k u (220 + 27 * t) = row (220 + 27 * t) from o 0 (by omega) (by omega) (by omega) (by omega) (by omega) (by omega), o 1 (by omega) (by omega) (by omega) (by omega) (by omega) (by omega), o 6 (by omega) (by omega) (by omega) (by omega) (by omega) (by omega), o 7 (by omega) (by omega) (by omega) (by omega) (by omega) (by omega), o 8 (by omega) (by omega) (by omega) (by omega) (by omega) (by omega)]
theorem ws_tj {row : Nat → Int32} {nw t k u j d : Nat} (hk : k < 10) (hs : ts row t < 10) (hne : j ≠ t) (hd : d < 27) : ws row nw t k u (220 + 27 * j + d) = row (220 + 27 * j + d) := ws_out (by omega) (by omega) (by omega) (by omega) (by omega) (by omega) (by omega)
theorem ws_te {row : Nat → Int32} {nw t k u d : Nat} (hk : k < 10) (hs : ts row t < 10) (hd : d = 2 ∨ (11 ≤ d ∧ d < 27)) : ws row nw t k u (220 + 27 * t + d) = row (220 + 27 * t + d) := ws_out (by omega) (by omega) (by omega) (by omega) (by omega) (by omega) (by omega)
theorem ws_w {row : Nat → Int32} {nw t k u j : Nat} (hk : k < 10) (hs : ts row t < 10) (h1 : 160 ≤ j) (h2 : j < 220) : ws row nw t k u j = row j := ws_out (by omega) (by omega) (by omega) (by omega) (by omega) (by omega) (by omega)
theorem ws_lo {row : Nat → Int32} {nw t k u j : Nat} (h2 : j < 10) : ws row nw t k u j = row j := ws_out (by omega) (by omega) (by omega) (by omega) (by omega) (by omega) (by omega)
theorem ws_ac {row : Nat → Int32} {nw t k u j : Nat} (hk : k < 10) (hs : ts row t < 10) (hj : j < 11) : upd (upd (fun j => row (10 + j)) 9 (row (10 + 9) + wsfee row t k)) 3 (upd (fun j => row (10 + j)) 9 (row (10 + 9) + wsfee row t k) 3 + 1) j = ws row nw t k u (10 + j) := by
  have o : ∀ i, i < 25 → (ws4 row t k) i = row i := fun i hi => ws4_out (by omega) (by omega)
  have b : ∀ i, i < 25 → upd (upd (upd (upd (upd (ws4 row t k) (220 + 27 * t + 10) (row (160 + 3 * wy row nw k u + 2))) (220 + 27 * t + 5) (wsunt row t k + row (160 + 3 * wy row nw k u + 2))) (220 + 27 * t + 4) (nI u)) (220 + 27 * t + 3) 1) (220 + 27 * t + 9) (row (220 + 27 * t + 9) + 1) i = row i := by
    intro i hi
    rw [pk_un (by omega), pk_un (by omega), pk_un (by omega), pk_un (by omega), pk_un (by omega), o i hi]
  unfold ws
  have e3 : upd (fun j => row (10 + j)) 9 (row (10 + 9) + wsfee row t k) 3 = row (10 + 3) := pk_un (by omega)
  rw [e3]
  by_cases h3 : j = 3
  · subst h3
    rw [pk_us, cn_out (by omega)]
    unfold cn
    rw [pk_us, b _ (by omega)]
  · rw [pk_un h3]
    by_cases h9 : j = 9
    · subst h9
      rw [pk_us]
      unfold cn
      rw [pk_us, pk_un (by omega), b _ (by omega)]
    · rw [pk_un h9, cn_out (by omega), cn_out (by omega), b _ (by omega)]

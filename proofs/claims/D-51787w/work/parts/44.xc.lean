set_option maxRecDepth 100000
/-! ===== PURE: what the readers compute ===== -/
abbrev Fm (x : Nat → Int32) : Nat := tn (x 16)
abbrev Ln (x : Nat → Int32) : Nat := tn (x 17) - tn (x 16)
/-- the text's place is in order -/
def Xi (bn : Nat) (x : Nat → Int32) : Prop := x 13 = nI bn ∧ x 17 = nI (tn (x 17)) ∧ x 16 = nI (tn (x 16)) ∧ tn (x 16) ≤ tn (x 17) ∧ tn (x 17) ≤ bn ∧ bn ≤ 800 ∧ 0 ≤ x 20
theorem Xi_eq {bn : Nat} {x y : Nat → Int32} (h : Xi bn x) (h13 : y 13 = x 13) (h16 : y 16 = x 16) (h17 : y 17 = x 17) (h20 : 0 ≤ y 20) : Xi bn y := by
  obtain ⟨a1, a2, a3, a4, a5, a6, a7⟩ := h
  unfold Xi
  rw [h13, h16, h17]
  exact ⟨a1, a2, a3, a4, a5, a6, h20⟩
theorem goT_out {b : Nat → Int32} {bn a : Nat} {x : Nat → Int32} {j : Nat} (h1 : j ≠ 16) (h2 : j ≠ 17) (h3 : j ≠ 18) (h4 : j ≠ 19) : goT b bn a x j = x j := by
  unfold goT
  split
  · rw [pk_un h3, pk_un h2, pk_un h1]
  · split
    · rw [pk_un h3, pk_un h2, pk_un h1]
    · split
      · rw [pk_un h3, pk_un h4, pk_un h2, pk_un h1]
      · rw [pk_un h3, pk_un h2, pk_un h1]
theorem goX_out {b : Nat → Int32} {bn : Nat} {x : Nat → Int32} {j : Nat} (h1 : j ≠ 16) (h2 : j ≠ 17) (h3 : j ≠ 18) (h4 : j ≠ 19) : goX b bn x j = x j := by
  unfold goX
  split
  · rfl
  · exact goT_out h1 h2 h3 h4
theorem goT_pos {b : Nat → Int32} {bn a : Nat} {x : Nat → Int32} (h : a ≤ bn) : ∃ q, goT b bn a x 16 = nI a ∧ goT b bn a x 17 = nI q ∧ a ≤ q ∧ q ≤ bn ∧ (goT b bn a x 18 = 0 ↔ a = bn) ∧ (a < bn → a < q) := by
  unfold goT
  by_cases e : a = bn
  · rw [if_pos e]
    exact ⟨a, by rw [pk_un (by omega), pk_un (by omega), pk_us], by rw [pk_un (by omega), pk_us], Nat.le_refl _, h, ⟨fun _ => e, fun _ => pk_us⟩, fun z => absurd e (by omega)⟩
  · rw [if_neg e]
    have hlt : a < bn := by omega
    by_cases hL : isL (b a)
    · rw [if_pos hL]
      have hr := rn_t (P := isL) hlt hL
      have hq := rn_le (P := isL) (b := b) (bn := bn) (p := a + 1) (by omega)
      refine ⟨rn isL b bn a, by rw [pk_un (by omega), pk_un (by omega), pk_us], by rw [pk_un (by omega), pk_us], by omega, by omega, ⟨fun z => ?_, fun z => absurd z e⟩, fun _ => by omega⟩
      rw [pk_us] at z
      split at z <;> exact absurd z (by decide)
    · rw [if_neg hL]
      by_cases hD : isD (b a)
      · rw [if_pos hD]
        have hr := rn_t (P := isD) hlt hD
        have hq := rn_le (P := isD) (b := b) (bn := bn) (p := a + 1) (by omega)
        refine ⟨rn isD b bn a, by rw [pk_un (by omega), pk_un (by omega), pk_un (by omega), pk_us], by rw [pk_un (by omega), pk_un (by omega), pk_us], by omega, by omega, ⟨fun z => ?_, fun z => absurd z e⟩, fun _ => by omega⟩
        rw [pk_us] at z
        split at z <;> exact absurd z (by decide)
      · rw [if_neg hD]
        refine ⟨a + 1, by rw [pk_un (by omega), pk_un (by omega), pk_us], by rw [pk_un (by omega), pk_us], by omega, by omega, ⟨fun z => ?_, fun z => absurd z e⟩, fun _ => by omega⟩
        rw [pk_us] at z
        split at z <;> exact absurd z (by decide)
theorem go_posW {b : Nat → Int32} {bn : Nat} {x : Nat → Int32} (a1 : x 13 = nI bn) (a5 : tn (x 17) ≤ bn) (a6 : bn ≤ 800) (a7 : 0 ≤ x 20) (h0 : ¬ 0 < x 20) : Xi bn (goX b bn x) ∧ tn (x 17) ≤ tn (goX b bn x 16) ∧ (¬ goX b bn x 18 = 0 → tn (x 17) < tn (goX b bn x 17)) := by
  have hr := rn_le (P := isB) (b := b) (bn := bn) (p := tn (x 17)) a5
  obtain ⟨q, e1, e2, e3, e4, e5, e6⟩ := goT_pos (b := b) (x := x) hr.2
  have hx : goX b bn x = goT b bn (rn isB b bn (tn (x 17))) x := by
    unfold goX
    rw [if_neg h0]
  rw [hx]
  have t1 : tn (goT b bn (rn isB b bn (tn (x 17))) x 16) = rn isB b bn (tn (x 17)) := by rw [e1, tn_nI (by omega)]
  have t2 : tn (goT b bn (rn isB b bn (tn (x 17))) x 17) = q := by rw [e2, tn_nI (by omega)]
  refine ⟨⟨(goT_out (by omega) (by omega) (by omega) (by omega)).trans a1, by rw [t2, e2], by rw [t1, e1], by omega, by omega, a6, ?_⟩, by omega, fun z => ?_⟩
  · rw [goT_out (by omega) (by omega) (by omega) (by omega)]
    exact a7
  · rw [e5] at z
    have := e6 (by omega)
    omega
theorem go_pos {b : Nat → Int32} {bn : Nat} {x : Nat → Int32} (h : Xi bn x) (h0 : ¬ 0 < x 20) : Xi bn (goX b bn x) ∧ tn (x 17) ≤ tn (goX b bn x 16) ∧ (¬ goX b bn x 18 = 0 → tn (x 17) < tn (goX b bn x 17)) := go_posW h.1 h.2.2.2.2.1 h.2.2.2.2.2.1 h.2.2.2.2.2.2 h0
theorem Xi_go {b : Nat → Int32} {bn : Nat} {x : Nat → Int32} (h : Xi bn x) : Xi bn (goX b bn x) := by
  by_cases h0 : 0 < x 20
  · unfold goX
    rw [if_pos h0]
    exact h
  · exact (go_pos h h0).1
theorem nd_20 {x : Nat → Int32} {z k : Int32} (hk : 0 ≤ k) (h : 0 ≤ x 20) : 0 ≤ nd x z k 20 := by
  unfold nd
  split
  · rw [pk_un (by omega), pk_us]
    exact hk
  · exact h
theorem Xi_nd {bn : Nat} {x : Nat → Int32} {z k : Int32} (hk : 0 ≤ k) (h : Xi bn x) : Xi bn (nd x z k) :=
  Xi_eq h (nd_out (by omega) (by omega)) (nd_out (by omega) (by omega)) (nd_out (by omega) (by omega)) (nd_20 hk h.2.2.2.2.2.2)
theorem Xi_up {bn : Nat} {x : Nat → Int32} {j : Nat} {v : Int32} (h1 : j ≠ 13) (h2 : j ≠ 16) (h3 : j ≠ 17) (h4 : j ≠ 20) (h : Xi bn x) : Xi bn (upd x j v) :=
  Xi_eq h (pk_un (fun q => h1 q.symm)) (pk_un (fun q => h2 q.symm)) (pk_un (fun q => h3 q.symm)) (by rw [pk_un (fun q => h4 q.symm)]; exact h.2.2.2.2.2.2)
theorem Xi_nh {bn : Nat} {x : Nat → Int32} {a c : Int32} (h : Xi bn x) : Xi bn (nhX x a c) := Xi_nd (by decide) (Xi_nd (by decide) h)
theorem Xi_sp {bn : Nat} {x : Nat → Int32} {n : Nat} {v : Int32} (h : Xi bn x) : Xi bn (upd (spY x n) 8 v) := Xi_up (by omega) (by omega) (by omega) (by omega) (Xi_nd (by decide) h)
theorem Xi_rh {row : Nat → Int32} {nr bn : Nat} {b sp x : Nat → Int32} {n f0 : Nat} {no : Int32} (h : Xi bn x) : Xi bn (rhX row nr b sp x n f0 no) := Xi_nd (by decide) (Xi_sp h)
theorem nd_0 {x : Nat → Int32} {P : Prop} [Decidable P] {k : Int32} (hk : k ≠ 0) : nd x (if P then 1 else 0) k 20 = 0 ↔ x 20 = 0 ∧ P := by
  unfold nd
  by_cases h : x 20 = 0
  · by_cases hP : P
    · rw [if_pos hP, if_neg (fun q => absurd q.2 (by decide))]
      exact ⟨fun q => ⟨q, hP⟩, fun q => q.1⟩
    · rw [if_neg hP, if_pos ⟨h, rfl⟩, pk_un (by omega), pk_us]
      exact ⟨fun q => absurd q hk, fun q => absurd q.2 hP⟩
  · rw [if_neg (fun q => h q.1)]
    exact ⟨fun q => absurd q h, fun q => absurd q.1 h⟩
theorem nh_0 {x : Nat → Int32} {a c : Int32} : nhX x a c 20 = 0 ↔ x 20 = 0 ∧ x 18 = 2 ∧ a ≤ x 19 ∧ x 19 ≤ c := by
  unfold nhX
  rw [nd_0 (by decide), nd_0 (by decide)]
  exact ⟨fun q => ⟨q.1.1, q.1.2, q.2⟩, fun q => ⟨⟨q.1, q.2.1⟩, q.2.2⟩⟩
theorem sp_0 {x : Nat → Int32} {n : Nat} {v : Int32} : upd (spY x n) 8 v 20 = 0 ↔ x 20 = 0 ∧ x 18 = 1 ∧ n ≤ 6 := by
  rw [pk_un (by omega)]
  unfold spY
  exact nd_0 (by decide)
theorem go_0 {b : Nat → Int32} {bn : Nat} {x : Nat → Int32} : goX b bn x 20 = x 20 := goX_out (by omega) (by omega) (by omega) (by omega)
theorem n0_of {x : Int32} (h : x = 0) : ¬ 0 < x := by subst h; decide
theorem p0_of {x : Int32} (h : 0 ≤ x) (h2 : ¬ x = 0) : 0 < x := by
  rw [Int32.lt_iff_toInt_lt]
  rw [Int32.le_iff_toInt_le] at h
  have : x.toInt ≠ (0 : Int32).toInt := fun q => h2 (Int32.toInt_inj.mp q)
  omega
/-- the text's place goes on, as long as there is no fault -/
def Go (x y : Nat → Int32) : Prop := y 20 = 0 → x 20 = 0 ∧ tn (x 17) ≤ tn (y 17)
theorem Go.trans {x y z : Nat → Int32} (h : Go x y) (k : Go y z) : Go x z := fun q => ⟨(h (k q).1).1, Nat.le_trans (h (k q).1).2 (k q).2⟩
theorem Go_go {b : Nat → Int32} {bn : Nat} {x : Nat → Int32} (h : Xi bn x) : Go x (goX b bn x) := fun q => by
  rw [go_0] at q
  obtain ⟨h1, h2, -⟩ := go_pos (b := b) h (n0_of q)
  exact ⟨q, Nat.le_trans h2 h1.2.2.2.1⟩
theorem Go_nd {x : Nat → Int32} {P : Prop} [Decidable P] {k : Int32} (hk : k ≠ 0) : Go x (nd x (if P then 1 else 0) k) := fun q => by
  rw [nd_0 hk] at q
  exact ⟨q.1, by rw [nd_out (by omega) (by omega)]; exact Nat.le_refl _⟩
theorem Go_nh {x : Nat → Int32} {a c : Int32} : Go x (nhX x a c) := (Go_nd (by decide)).trans (Go_nd (by decide))
theorem Go_sp {x : Nat → Int32} {n : Nat} {v : Int32} : Go x (upd (spY x n) 8 v) := fun q => ⟨(sp_0.mp q).1, by rw [pk_un (by omega)]; unfold spY; rw [nd_out (by omega) (by omega)]; exact Nat.le_refl _⟩
theorem Go_rh {row : Nat → Int32} {nr : Nat} {b sp x : Nat → Int32} {n f0 : Nat} {no : Int32} : Go x (rhX row nr b sp x n f0 no) := Go_sp.trans (Go_nd (by decide))
/-- a number, a roof, a semicolon, and on -/
def numX (b : Nat → Int32) (bn : Nat) (x : Nat → Int32) (lo1 hi1 : Int32) : Nat → Int32 := goX b bn (nhX x lo1 hi1)
def smX (b : Nat → Int32) (bn : Nat) (x : Nat → Int32) : Nat → Int32 := goX b bn (nd x (if x 18 = 3 then 1 else 0) 1)
def spX (x : Nat → Int32) : Nat → Int32 := upd (spY x (Ln x)) 8 (nI (spn x (Ln x)))
def spS (b sp x : Nat → Int32) : Nat → Int32 := ub sp 0 (spn x (Ln x)) (fun i => b (Fm x + i))
def rtV (row : Nat → Int32) (nr : Nat) (b sp x : Nat → Int32) : Int32 := mx 0 (rhV row nr b sp x (Ln x) (Fm x))
def rtX (row : Nat → Int32) (nr : Nat) (b : Nat → Int32) (bn : Nat) (sp x : Nat → Int32) (no : Int32) : Nat → Int32 := goX b bn (rhX row nr b sp x (Ln x) (Fm x) no)
theorem Xi_num {b : Nat → Int32} {bn : Nat} {x : Nat → Int32} {a c : Int32} (h : Xi bn x) : Xi bn (numX b bn x a c) := Xi_go (Xi_nh h)
theorem Go_num {b : Nat → Int32} {bn : Nat} {x : Nat → Int32} {a c : Int32} (h : Xi bn x) : Go x (numX b bn x a c) := Go_nh.trans (Go_go (Xi_nh h))
theorem Xi_sm {b : Nat → Int32} {bn : Nat} {x : Nat → Int32} (h : Xi bn x) : Xi bn (smX b bn x) := Xi_go (Xi_nd (by decide) h)
theorem Go_sm {b : Nat → Int32} {bn : Nat} {x : Nat → Int32} (h : Xi bn x) : Go x (smX b bn x) := (Go_nd (by decide)).trans (Go_go (Xi_nd (by decide) h))
theorem Xi_rt {row : Nat → Int32} {nr bn : Nat} {b sp x : Nat → Int32} {no : Int32} (h : Xi bn x) : Xi bn (rtX row nr b bn sp x no) := Xi_go (Xi_rh h)
theorem Go_rt {row : Nat → Int32} {nr bn : Nat} {b sp x : Nat → Int32} {no : Int32} (h : Xi bn x) : Go x (rtX row nr b bn sp x no) := Go_rh.trans (Go_go (Xi_rh h))
/-! a roof is read -/
def rrA (b : Nat → Int32) (bn nr : Nat) (x : Nat → Int32) : Nat → Int32 := goX b bn (nd x (if nr < 10 then 1 else 0) 5)
def rrB (row : Nat → Int32) (nr : Nat) (b : Nat → Int32) (bn : Nat) (sp x : Nat → Int32) : Nat → Int32 := goX b bn (nd (spX (rrA b bn nr x)) (if 0 < spX (rrA b bn nr x) 20 ∨ nmI row nr (spn (rrA b bn nr x) (Ln (rrA b bn nr x))) (spS b sp (rrA b bn nr x)) = -1 then 1 else 0) 3)
def rrC (row : Nat → Int32) (nr : Nat) (b : Nat → Int32) (bn : Nat) (sp x : Nat → Int32) : Nat → Int32 := numX b bn (rrB row nr b bn sp x) 1 8
def rrD (row : Nat → Int32) (nr : Nat) (b : Nat → Int32) (bn : Nat) (sp x : Nat → Int32) : Nat → Int32 := numX b bn (rrC row nr b bn sp x) 0 9
def rrE (row : Nat → Int32) (nr : Nat) (b : Nat → Int32) (bn : Nat) (sp x : Nat → Int32) : Nat → Int32 := numX b bn (rrD row nr b bn sp x) 0 9
def rrX (row : Nat → Int32) (nr : Nat) (b : Nat → Int32) (bn : Nat) (sp x : Nat → Int32) : Nat → Int32 := numX b bn (rrE row nr b bn sp x) 0 999
def rrR (row : Nat → Int32) (nr : Nat) (b : Nat → Int32) (bn : Nat) (sp x : Nat → Int32) : Nat → Int32 := if rrX row nr b bn sp x 20 = 0 then nro row nr (spn (rrA b bn nr x) (Ln (rrA b bn nr x))) (spS b sp (rrA b bn nr x)) (nhV (rrB row nr b bn sp x) 1 8) (nhV (rrC row nr b bn sp x) 0 9) (nhV (rrD row nr b bn sp x) 0 9) (nhV (rrE row nr b bn sp x) 0 999) else row
theorem rr_0 {row : Nat → Int32} {nr : Nat} {b : Nat → Int32} {bn : Nat} {sp x : Nat → Int32} (h : rrX row nr b bn sp x 20 = 0) : x 20 = 0 ∧ nr < 10 ∧ rrA b bn nr x 18 = 1 ∧ Ln (rrA b bn nr x) ≤ 6 ∧ nmI row nr (spn (rrA b bn nr x) (Ln (rrA b bn nr x))) (spS b sp (rrA b bn nr x)) = -1 ∧ nhX (rrB row nr b bn sp x) 1 8 20 = 0 ∧ nhX (rrC row nr b bn sp x) 0 9 20 = 0 ∧ nhX (rrD row nr b bn sp x) 0 9 20 = 0 ∧ nhX (rrE row nr b bn sp x) 0 999 20 = 0 := by
  have h1 : nhX (rrE row nr b bn sp x) 0 999 20 = 0 := go_0.symm.trans (show goX b bn (nhX (rrE row nr b bn sp x) 0 999) 20 = 0 from h)
  have h2 : nhX (rrD row nr b bn sp x) 0 9 20 = 0 := go_0.symm.trans (show goX b bn (nhX (rrD row nr b bn sp x) 0 9) 20 = 0 from (nh_0.mp h1).1)
  have h3 : nhX (rrC row nr b bn sp x) 0 9 20 = 0 := go_0.symm.trans (show goX b bn (nhX (rrC row nr b bn sp x) 0 9) 20 = 0 from (nh_0.mp h2).1)
  have h4 : nhX (rrB row nr b bn sp x) 1 8 20 = 0 := go_0.symm.trans (show goX b bn (nhX (rrB row nr b bn sp x) 1 8) 20 = 0 from (nh_0.mp h3).1)
  have h5 := (nh_0.mp h4).1
  unfold rrB at h5
  rw [go_0, nd_0 (by decide)] at h5
  obtain ⟨h6, h7⟩ := h5
  have h8 := h7.resolve_left (n0_of h6)
  unfold spX at h6
  rw [sp_0] at h6
  obtain ⟨h9, h10, h11⟩ := h6
  have h12 := h9
  unfold rrA at h12
  rw [go_0, nd_0 (by decide)] at h12
  exact ⟨h12.1, h12.2, h10, h11, h8, h4, h3, h2, h1⟩
theorem num_8 {b : Nat → Int32} {bn : Nat} {x : Nat → Int32} {a c : Int32} : numX b bn x a c 8 = x 8 := by
  unfold numX nhX
  rw [goX_out (by omega) (by omega) (by omega) (by omega), nd_out (by omega) (by omega), nd_out (by omega) (by omega)]
theorem rr_8 {row : Nat → Int32} {nr : Nat} {b : Nat → Int32} {bn : Nat} {sp x : Nat → Int32} : rrX row nr b bn sp x 8 = nI (spn (rrA b bn nr x) (Ln (rrA b bn nr x))) := by
  unfold rrX rrE rrD rrC
  rw [num_8, num_8, num_8, num_8]
  unfold rrB
  rw [goX_out (by omega) (by omega) (by omega) (by omega), nd_out (by omega) (by omega)]
  exact pk_us
theorem Xi_rrA {b : Nat → Int32} {bn nr : Nat} {x : Nat → Int32} (h : Xi bn x) : Xi bn (rrA b bn nr x) := Xi_go (Xi_nd (by decide) h)
theorem Xi_rrB {row : Nat → Int32} {nr : Nat} {b : Nat → Int32} {bn : Nat} {sp x : Nat → Int32} (h : Xi bn x) : Xi bn (rrB row nr b bn sp x) := Xi_go (Xi_nd (by decide) (Xi_sp (Xi_rrA h)))
theorem Xi_rr {row : Nat → Int32} {nr : Nat} {b : Nat → Int32} {bn : Nat} {sp x : Nat → Int32} (h : Xi bn x) : Xi bn (rrX row nr b bn sp x) := Xi_num (Xi_num (Xi_num (Xi_num (Xi_rrB h))))
theorem rr_adv {row : Nat → Int32} {nr : Nat} {b : Nat → Int32} {bn : Nat} {sp x : Nat → Int32} (h : Xi bn x) (h0 : rrX row nr b bn sp x 20 = 0) : tn (x 17) < tn (rrX row nr b bn sp x 17) := by
  obtain ⟨g1, g2, g3, -⟩ := rr_0 h0
  have hA := Xi_rrA (b := b) (nr := nr) h
  have hB := Xi_rrB (row := row) (nr := nr) (b := b) (sp := sp) h
  have k1 : Go (rrA b bn nr x) (rrX row nr b bn sp x) := ((Go_sp.trans (Go_nd (by decide))).trans (Go_go (Xi_nd (by decide) (Xi_sp hA)))).trans ((Go_num hB).trans ((Go_num (Xi_num hB)).trans ((Go_num (Xi_num (Xi_num hB))).trans (Go_num (Xi_num (Xi_num (Xi_num hB)))))))
  have k2 := (k1 h0).2
  have hn : nd x (if nr < 10 then 1 else 0) 5 20 = 0 := (nd_0 (by decide)).mpr ⟨g1, g2⟩
  have k3 := (go_pos (b := b) (Xi_nd (z := if nr < 10 then 1 else 0) (k := 5) (by decide) h) (n0_of hn)).2.2 (by show ¬ rrA b bn nr x 18 = 0; rw [g3]; decide)
  rw [nd_out (by omega) (by omega)] at k3
  exact Nat.lt_of_lt_of_le k3 k2
/-! a way is read -/
def rwA (b : Nat → Int32) (bn nw : Nat) (x : Nat → Int32) : Nat → Int32 := goX b bn (nd x (if nw < 20 then 1 else 0) 5)
def rwB (row : Nat → Int32) (nr nw : Nat) (b : Nat → Int32) (bn : Nat) (sp x : Nat → Int32) : Nat → Int32 := rtX row nr b bn sp (rwA b bn nw x) (-1)
def rwa (row : Nat → Int32) (nr nw : Nat) (b : Nat → Int32) (bn : Nat) (sp x : Nat → Int32) : Int32 := rtV row nr b sp (rwA b bn nw x)
def rwS1 (b : Nat → Int32) (bn nw : Nat) (sp x : Nat → Int32) : Nat → Int32 := spS b sp (rwA b bn nw x)
def rwb (row : Nat → Int32) (nr nw : Nat) (b : Nat → Int32) (bn : Nat) (sp x : Nat → Int32) : Int32 := rtV row nr b (rwS1 b bn nw sp x) (rwB row nr nw b bn sp x)
def rwC (row : Nat → Int32) (nr nw : Nat) (b : Nat → Int32) (bn : Nat) (sp x : Nat → Int32) : Nat → Int32 := rhX row nr b (rwS1 b bn nw sp x) (rwB row nr nw b bn sp x) (Ln (rwB row nr nw b bn sp x)) (Fm (rwB row nr nw b bn sp x)) (rwa row nr nw b bn sp x)
def rwD (row : Nat → Int32) (nr nw : Nat) (b : Nat → Int32) (bn : Nat) (sp x : Nat → Int32) : Nat → Int32 := goX b bn (nd (rwC row nr nw b bn sp x) (if 0 < rwC row nr nw b bn sp x 20 ∨ wyI row nw (rwa row nr nw b bn sp x) (rwb row nr nw b bn sp x) = -1 then 1 else 0) 4)
def rwX (row : Nat → Int32) (nr nw : Nat) (b : Nat → Int32) (bn : Nat) (sp x : Nat → Int32) : Nat → Int32 := numX b bn (rwD row nr nw b bn sp x) 1 9
def rwR (row : Nat → Int32) (nr nw : Nat) (b : Nat → Int32) (bn : Nat) (sp x : Nat → Int32) : Nat → Int32 := if rwX row nr nw b bn sp x 20 = 0 then nwy row nw (rwa row nr nw b bn sp x) (rwb row nr nw b bn sp x) (nhV (rwD row nr nw b bn sp x) 1 9) else row
def rwS (row : Nat → Int32) (nr nw : Nat) (b : Nat → Int32) (bn : Nat) (sp x : Nat → Int32) : Nat → Int32 := spS b (rwS1 b bn nw sp x) (rwB row nr nw b bn sp x)
theorem rh_0 {row : Nat → Int32} {nr : Nat} {b sp x : Nat → Int32} {n f0 : Nat} {no : Int32} : rhX row nr b sp x n f0 no 20 = 0 ↔ (x 20 = 0 ∧ x 18 = 1 ∧ n ≤ 6) ∧ ¬ rhV row nr b sp x n f0 = -1 ∧ ¬ rhV row nr b sp x n f0 = no := by
  unfold rhX
  rw [nd_0 (by decide)]
  unfold rhX1
  rw [sp_0]
  constructor
  · rintro ⟨h1, h2⟩
    refine ⟨h1, h2.resolve_left ?_⟩
    exact n0_of (sp_0.mpr h1)
  · rintro ⟨h1, h2⟩
    exact ⟨h1, Or.inr h2⟩
theorem rw_0 {row : Nat → Int32} {nr nw : Nat} {b : Nat → Int32} {bn : Nat} {sp x : Nat → Int32} (h : rwX row nr nw b bn sp x 20 = 0) : x 20 = 0 ∧ nw < 20 ∧ rhX row nr b sp (rwA b bn nw x) (Ln (rwA b bn nw x)) (Fm (rwA b bn nw x)) (-1) 20 = 0 ∧ rwC row nr nw b bn sp x 20 = 0 ∧ wyI row nw (rwa row nr nw b bn sp x) (rwb row nr nw b bn sp x) = -1 ∧ nhX (rwD row nr nw b bn sp x) 1 9 20 = 0 := by
  have h1 : nhX (rwD row nr nw b bn sp x) 1 9 20 = 0 := go_0.symm.trans (show goX b bn (nhX (rwD row nr nw b bn sp x) 1 9) 20 = 0 from h)
  have h2 := (nh_0.mp h1).1
  unfold rwD at h2
  rw [go_0, nd_0 (by decide)] at h2
  obtain ⟨h3, h4⟩ := h2
  have h5 := h4.resolve_left (n0_of h3)
  have h6 := h3
  unfold rwC at h6
  rw [rh_0] at h6
  have h7 := h6.1.1
  unfold rwB rtX at h7
  rw [go_0] at h7
  have h8 := (rh_0.mp h7).1.1
  unfold rwA at h8
  rw [go_0, nd_0 (by decide)] at h8
  exact ⟨h8.1, h8.2, h7, h3, h5, h1⟩
theorem Xi_rwA {b : Nat → Int32} {bn nw : Nat} {x : Nat → Int32} (h : Xi bn x) : Xi bn (rwA b bn nw x) := Xi_go (Xi_nd (by decide) h)
theorem Xi_rwC {row : Nat → Int32} {nr nw : Nat} {b : Nat → Int32} {bn : Nat} {sp x : Nat → Int32} (h : Xi bn x) : Xi bn (rwC row nr nw b bn sp x) := Xi_rh (Xi_rt (Xi_rwA h))
theorem Xi_rwD {row : Nat → Int32} {nr nw : Nat} {b : Nat → Int32} {bn : Nat} {sp x : Nat → Int32} (h : Xi bn x) : Xi bn (rwD row nr nw b bn sp x) := Xi_go (Xi_nd (by decide) (Xi_rwC h))
theorem Xi_rw {row : Nat → Int32} {nr nw : Nat} {b : Nat → Int32} {bn : Nat} {sp x : Nat → Int32} (h : Xi bn x) : Xi bn (rwX row nr nw b bn sp x) := Xi_num (Xi_rwD h)
theorem rw_adv {row : Nat → Int32} {nr nw : Nat} {b : Nat → Int32} {bn : Nat} {sp x : Nat → Int32} (h : Xi bn x) (h0 : rwX row nr nw b bn sp x 20 = 0) : tn (x 17) < tn (rwX row nr nw b bn sp x 17) := by
  obtain ⟨g1, g2, g3, -⟩ := rw_0 h0
  have hA := Xi_rwA (b := b) (nw := nw) h
  have hB := Xi_rt (row := row) (nr := nr) (sp := sp) (b := b) (no := -1) hA
  have k1 : Go (rwA b bn nw x) (rwX row nr nw b bn sp x) := (Go_rt hA).trans (((Go_rh.trans (Go_nd (by decide))).trans (Go_go (Xi_nd (by decide) (Xi_rh hB)))).trans (Go_num (Xi_rwD h)))
  have k2 := (k1 h0).2
  have hn : nd x (if nw < 20 then 1 else 0) 5 20 = 0 := (nd_0 (by decide)).mpr ⟨g1, g2⟩
  have k3 := (go_pos (b := b) (Xi_nd (z := if nw < 20 then 1 else 0) (k := 5) (by decide) h) (n0_of hn)).2.2 (by show ¬ rwA b bn nw x 18 = 0; rw [(rh_0.mp g3).1.2.1]; decide)
  rw [nd_out (by omega) (by omega)] at k3
  exact Nat.lt_of_lt_of_le k3 k2
/-! a setting is read -/
def rsA (b : Nat → Int32) (bn : Nat) (x : Nat → Int32) : Nat → Int32 := goX b bn (nd x (if ¬ stH x b (Fm x) (Ln x) = -1 then 1 else 0) 1)
def rsX (b : Nat → Int32) (bn : Nat) (x : Nat → Int32) : Nat → Int32 := if rsA b bn x 20 = 0 then numX b bn (rsA b bn x) (low (stH x b (Fm x) (Ln x))) (hig (stH x b (Fm x) (Ln x))) else rsA b bn x
def rsR (row : Nat → Int32) (b : Nat → Int32) (bn : Nat) (x : Nat → Int32) : Nat → Int32 := if rsA b bn x 20 = 0 then upd row (tn (stH x b (Fm x) (Ln x))) (nhV (rsA b bn x) (low (stH x b (Fm x) (Ln x))) (hig (stH x b (Fm x) (Ln x)))) else row
theorem stH_c {x b : Nat → Int32} {f0 len : Nat} : stH x b f0 len = -1 ∨ ∃ u, 4 ≤ u ∧ u ≤ 6 ∧ stH x b f0 len = nI u := by
  unfold stH
  split
  · exact Or.inr ⟨4, by omega, by omega, rfl⟩
  · split
    · exact Or.inr ⟨5, by omega, by omega, rfl⟩
    · split
      · exact Or.inr ⟨6, by omega, by omega, rfl⟩
      · exact Or.inl rfl
theorem rsA_0 {b : Nat → Int32} {bn : Nat} {x : Nat → Int32} (h : rsA b bn x 20 = 0) : x 20 = 0 ∧ ∃ u, 4 ≤ u ∧ u ≤ 6 ∧ stH x b (Fm x) (Ln x) = nI u := by
  unfold rsA at h
  rw [go_0, nd_0 (by decide)] at h
  exact ⟨h.1, stH_c.resolve_left h.2⟩
theorem Xi_rsA {b : Nat → Int32} {bn : Nat} {x : Nat → Int32} (h : Xi bn x) : Xi bn (rsA b bn x) := Xi_go (Xi_nd (by decide) h)
theorem rs_y {b : Nat → Int32} {bn : Nat} {x : Nat → Int32} (h : rsA b bn x 20 = 0) : rsX b bn x = numX b bn (rsA b bn x) (low (stH x b (Fm x) (Ln x))) (hig (stH x b (Fm x) (Ln x))) := if_pos h
theorem rs_n {b : Nat → Int32} {bn : Nat} {x : Nat → Int32} (h : ¬ rsA b bn x 20 = 0) : rsX b bn x = rsA b bn x := if_neg h
theorem Xi_rs {b : Nat → Int32} {bn : Nat} {x : Nat → Int32} (h : Xi bn x) : Xi bn (rsX b bn x) := by
  by_cases q : rsA b bn x 20 = 0
  · rw [rs_y q]
    exact Xi_num (Xi_rsA h)
  · rw [rs_n q]
    exact Xi_rsA h
theorem rs_adv {b : Nat → Int32} {bn : Nat} {x : Nat → Int32} (h : Xi bn x) (h0 : rsX b bn x 20 = 0) : tn (x 17) < tn (rsX b bn x 17) := by
  have h1 : rsA b bn x 20 = 0 := by
    by_cases q : rsA b bn x 20 = 0
    · exact q
    · rw [rs_n q] at h0
      exact h0
  have g1 := (rsA_0 h1).1
  rw [rs_y h1] at h0 ⊢
  generalize hu : stH x b (Fm x) (Ln x) = u at h0 ⊢
  have k2 := (Go_num (Xi_rsA (b := b) h) h0).2
  have h2 : nhX (rsA b bn x) (low u) (hig u) 20 = 0 := go_0.symm.trans (show goX b bn (nhX (rsA b bn x) (low u) (hig u)) 20 = 0 from h0)
  have hn : nd x (if ¬ stH x b (Fm x) (Ln x) = -1 then 1 else 0) 1 20 = 0 := go_0.symm.trans (show goX b bn (nd x (if ¬ stH x b (Fm x) (Ln x) = -1 then 1 else 0) 1) 20 = 0 from h1)
  have k3 := (go_pos (b := b) (Xi_nd (z := if ¬ stH x b (Fm x) (Ln x) = -1 then 1 else 0) (k := 1) (by decide) h) (n0_of hn)).2.2 (by show ¬ rsA b bn x 18 = 0; rw [(nh_0.mp h2).2.1]; decide)
  rw [nd_out (by omega) (by omega)] at k3
  exact Nat.lt_of_lt_of_le k3 k2
/-! a statement of a setup -/
abbrev T3 : Type := (Nat → Int32) × (Nat → Int32) × (Nat → Int32)
def stp (b : Nat → Int32) (bn : Nat) (x row sp : Nat → Int32) : T3 :=
  if wrd x b (Fm x) (Ln x) 4 (gg_byt gg_tx16) then (smX b bn (rrX row (tn (row 0)) b bn sp x), rrR row (tn (row 0)) b bn sp x, spS b sp (rrA b bn (tn (row 0)) x))
  else if wrd x b (Fm x) (Ln x) 3 (gg_byt gg_tx17) then (smX b bn (rwX row (tn (row 0)) (tn (row 1)) b bn sp x), rwR row (tn (row 0)) (tn (row 1)) b bn sp x, rwS row (tn (row 0)) (tn (row 1)) b bn sp x)
  else (smX b bn (rsX b bn x), rsR row b bn x, sp)
def stpF (b : Nat → Int32) (bn : Nat) (s : T3) : T3 := stp b bn s.1 s.2.1 s.2.2
/-- it goes on -/
def goesC (s : T3) : Prop := s.1 20 = 0 ∧ ¬ s.1 18 = 0
def Ri (row : Nat → Int32) : Prop := row 0 = nI (tn (row 0)) ∧ tn (row 0) ≤ 10 ∧ row 1 = nI (tn (row 1)) ∧ tn (row 1) ≤ 20
theorem sm_adv {b : Nat → Int32} {bn : Nat} {x y : Nat → Int32} (hy : Xi bn y) (h : y 20 = 0 → tn (x 17) < tn (y 17)) (h0 : smX b bn y 20 = 0) : tn (x 17) < tn (smX b bn y 17) := by
  obtain ⟨k1, k2⟩ := Go_sm (b := b) hy h0
  exact Nat.lt_of_lt_of_le (h k1) k2
theorem stp_1 {b : Nat → Int32} {bn : Nat} {x row sp : Nat → Int32} (h : wrd x b (Fm x) (Ln x) 4 (gg_byt gg_tx16)) : stp b bn x row sp = (smX b bn (rrX row (tn (row 0)) b bn sp x), rrR row (tn (row 0)) b bn sp x, spS b sp (rrA b bn (tn (row 0)) x)) := if_pos h
theorem stp_2 {b : Nat → Int32} {bn : Nat} {x row sp : Nat → Int32} (h : ¬ wrd x b (Fm x) (Ln x) 4 (gg_byt gg_tx16)) (h2 : wrd x b (Fm x) (Ln x) 3 (gg_byt gg_tx17)) : stp b bn x row sp = (smX b bn (rwX row (tn (row 0)) (tn (row 1)) b bn sp x), rwR row (tn (row 0)) (tn (row 1)) b bn sp x, rwS row (tn (row 0)) (tn (row 1)) b bn sp x) := (if_neg h).trans (if_pos h2)
theorem stp_3 {b : Nat → Int32} {bn : Nat} {x row sp : Nat → Int32} (h : ¬ wrd x b (Fm x) (Ln x) 4 (gg_byt gg_tx16)) (h2 : ¬ wrd x b (Fm x) (Ln x) 3 (gg_byt gg_tx17)) : stp b bn x row sp = (smX b bn (rsX b bn x), rsR row b bn x, sp) := (if_neg h).trans (if_neg h2)
theorem stp_c {b : Nat → Int32} {bn : Nat} {x row sp : Nat → Int32} {P : T3 → Prop} (h1 : P (smX b bn (rrX row (tn (row 0)) b bn sp x), rrR row (tn (row 0)) b bn sp x, spS b sp (rrA b bn (tn (row 0)) x))) (h2 : P (smX b bn (rwX row (tn (row 0)) (tn (row 1)) b bn sp x), rwR row (tn (row 0)) (tn (row 1)) b bn sp x, rwS row (tn (row 0)) (tn (row 1)) b bn sp x)) (h3 : P (smX b bn (rsX b bn x), rsR row b bn x, sp)) : P (stp b bn x row sp) := by
  by_cases q1 : wrd x b (Fm x) (Ln x) 4 (gg_byt gg_tx16)
  · rw [stp_1 q1]; exact h1
  · by_cases q2 : wrd x b (Fm x) (Ln x) 3 (gg_byt gg_tx17)
    · rw [stp_2 q1 q2]; exact h2
    · rw [stp_3 q1 q2]; exact h3
theorem Xi_stp {b : Nat → Int32} {bn : Nat} {x row sp : Nat → Int32} (h : Xi bn x) : Xi bn (stp b bn x row sp).1 :=
  stp_c (P := fun s => Xi bn s.1) (by dsimp only; exact Xi_sm (Xi_rr h)) (by dsimp only; exact Xi_sm (Xi_rw h)) (by dsimp only; exact Xi_sm (Xi_rs h))
theorem stp_adv {b : Nat → Int32} {bn : Nat} {x row sp : Nat → Int32} (h : Xi bn x) (h0 : (stp b bn x row sp).1 20 = 0) : tn (x 17) < tn ((stp b bn x row sp).1 17) :=
  stp_c (P := fun s => s.1 20 = 0 → tn (x 17) < tn (s.1 17)) (by dsimp only; exact sm_adv (Xi_rr h) (rr_adv h)) (by dsimp only; exact sm_adv (Xi_rw h) (rw_adv h)) (by dsimp only; exact sm_adv (Xi_rs h) (rs_adv h)) h0
theorem nro_lo {row : Nat → Int32} {nr len : Nat} {sp : Nat → Int32} {b e2 f pu : Int32} (h : nr < 10) (hl : len ≤ 6) {j : Nat} (h0 : j ≠ 0) (h7 : j ≠ 7) (hj : j < 25 + 13 * nr ∨ 25 + 13 * nr + 13 ≤ j) : nro row nr len sp b e2 f pu j = row j := by
  unfold nro
  rw [pk_un h0, pk_un h7, pk_un (by omega), pk_un (by omega), pk_un (by omega), pk_un (by omega), ub_out _ _ _ _ (by omega), pk_un (by omega)]
theorem nro_0 {row : Nat → Int32} {nr len : Nat} {sp : Nat → Int32} {b e2 f pu : Int32} : nro row nr len sp b e2 f pu 0 = nI (nr + 1) := by
  unfold nro
  exact pk_us
theorem Ri_rr {row : Nat → Int32} {b : Nat → Int32} {bn : Nat} {sp x : Nat → Int32} (h : Ri row) : Ri (rrR row (tn (row 0)) b bn sp x) := by
  obtain ⟨h1, h2, h3, h4⟩ := h
  unfold rrR
  split
  · rename_i q
    have hl := (rr_0 q).2.1
    unfold Ri
    rw [nro_0, nro_lo hl spn_6.1 (by omega) (by omega) (by omega), tn_nI (by omega)]
    exact ⟨rfl, by omega, h3, h4⟩
  · exact ⟨h1, h2, h3, h4⟩
theorem Ri_rw {row : Nat → Int32} {nr : Nat} {b : Nat → Int32} {bn : Nat} {sp x : Nat → Int32} (h : Ri row) : Ri (rwR row nr (tn (row 1)) b bn sp x) := by
  obtain ⟨h1, h2, h3, h4⟩ := h
  unfold rwR
  split
  · rename_i q
    have hl := (rw_0 q).2.1
    unfold Ri nwy
    rw [pk_us, pk_un (by omega), pk_un (by omega), pk_un (by omega), pk_un (by omega), tn_nI (by omega)]
    exact ⟨h1, h2, rfl, by omega⟩
  · exact ⟨h1, h2, h3, h4⟩
theorem Ri_rs {row : Nat → Int32} {b : Nat → Int32} {bn : Nat} {x : Nat → Int32} (h : Ri row) : Ri (rsR row b bn x) := by
  obtain ⟨h1, h2, h3, h4⟩ := h
  unfold rsR
  split
  · rename_i q
    obtain ⟨-, u, hu1, hu2, hu3⟩ := rsA_0 q
    rw [hu3, tn_nI (by omega)]
    unfold Ri
    rw [pk_un (by omega), pk_un (by omega)]
    exact ⟨h1, h2, h3, h4⟩
  · exact ⟨h1, h2, h3, h4⟩
theorem Ri_stp {b : Nat → Int32} {bn : Nat} {x row sp : Nat → Int32} (h : Ri row) : Ri (stp b bn x row sp).2.1 :=
  stp_c (P := fun s => Ri s.2.1) (by dsimp only; exact Ri_rr h) (by dsimp only; exact Ri_rw h) (by dsimp only; exact Ri_rs h)
/-! going on as long as it holds -/
def it {σ : Type} (F : σ → σ) : Nat → σ → σ
  | 0, s => s
  | k + 1, s => F (it F k s)
def itE {σ : Type} (F : σ → σ) (C : σ → Prop) (s : σ) (k : Nat) : Prop := (∀ j, j < k → C (it F j s)) ∧ ¬ C (it F k s)
noncomputable def LD {σ : Type} (F : σ → σ) (C : σ → Prop) (s : σ) : σ := it F (Classical.epsilon (itE F C s)) s
theorem LD_eq {σ : Type} {F : σ → σ} {C : σ → Prop} {s : σ} {k : Nat} (h : itE F C s k) : LD F C s = it F k s := by
  have h2 : itE F C s (Classical.epsilon (itE F C s)) := Classical.epsilon_spec ⟨k, h⟩
  unfold LD
  generalize Classical.epsilon (itE F C s) = k2 at h2
  rcases Nat.lt_trichotomy k k2 with q | q | q
  · exact absurd (h2.1 k q) h.2
  · rw [q]
  · exact absurd (h.1 k2 q) h2.2
theorem it_s {σ : Type} {F : σ → σ} {s : σ} : ∀ k, it F k (F s) = it F (k + 1) s
  | 0 => rfl
  | k + 1 => by
    show F (it F k (F s)) = F (it F (k + 1) s)
    rw [it_s k]
/-! a setup is loaded -/
def enX (y : Nat → Int32) : Nat → Int32 := upd (upd (upd y 14 (y 20)) 15 (if y 20 = 0 then -1 else y 21)) 13 0
theorem en_20 {y : Nat → Int32} : enX y 20 = y 20 := by
  unfold enX
  rw [pk_un (by omega), pk_un (by omega), pk_un (by omega)]
def bgX (b : Nat → Int32) (bn : Nat) (x : Nat → Int32) : Nat → Int32 := goX b bn (upd (upd x 20 0) 17 0)
theorem Xi_bg {b : Nat → Int32} {bn : Nat} {x : Nat → Int32} (h : x 13 = nI bn) (h8 : bn ≤ 800) : Xi bn (bgX b bn x) := by
  have h20 : upd (upd x 20 0) 17 0 20 = 0 := by rw [pk_un (by omega), pk_us]
  refine (go_posW (b := b) (x := upd (upd x 20 0) 17 0) ?_ ?_ h8 ?_ ?_).1
  · rw [pk_un (by omega), pk_un (by omega)]; exact h
  · rw [pk_us]; exact Nat.zero_le _
  · rw [h20]; decide
  · rw [h20]; decide
def ld0 (b : Nat → Int32) (bn : Nat) (x sp : Nat → Int32) : T3 := (bgX b bn (upd x 6 0), cl0, sp)
noncomputable def ldS (b : Nat → Int32) (bn : Nat) (x sp : Nat → Int32) : T3 := LD (stpF b bn) goesC (ld0 b bn x sp)
noncomputable def ldY (b : Nat → Int32) (bn : Nat) (x sp : Nat → Int32) : Nat → Int32 := nd (ldS b bn x sp).1 (if ¬ (ldS b bn x sp).2.1 0 ≤ 1 then 1 else 0) 6
noncomputable def ldX (b : Nat → Int32) (bn : Nat) (x sp : Nat → Int32) : Nat → Int32 := if ldY b bn x sp 20 = 0 then upd (upd (enX (ldY b bn x sp)) 4 0) 5 0 else enX (ldY b bn x sp)
noncomputable def ldR (b : Nat → Int32) (bn : Nat) (x row sp : Nat → Int32) : Nat → Int32 := if ldY b bn x sp 20 = 0 then (ldS b bn x sp).2.1 else row
theorem ld_dec {b : Nat → Int32} {bn n : Nat} {X R S : Nat → Int32} (hX : Xi bn X) (h : X 20 = 0) (hm : (if X 20 = 0 then bn + 1 - tn (X 17) else 0) < n + 1) : (if (stp b bn X R S).1 20 = 0 then bn + 1 - tn ((stp b bn X R S).1 17) else 0) < n := by
  rw [if_pos h] at hm
  have h5 := hX.2.2.2.2.1
  split
  · rename_i q
    have h1 := stp_adv hX q
    have h2 := (Xi_stp (b := b) (row := R) (sp := S) hX).2.2.2.2.1
    omega
  · omega
theorem z_of {x : Int32} (h : 0 ≤ x) (h2 : x ≤ 0) : x = 0 := Int32.le_antisymm h2 h
theorem Ri_cl : Ri cl0 := ⟨rfl, by decide, rfl, by decide⟩

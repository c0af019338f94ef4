set_option maxRecDepth 100000
/-! ===== PURE: what a script's deeds are read to ===== -/
/-! notes -/
def ntA (x : Nat → Int32) (mn1 : Nat) : Nat → Int32 := nd (nhX x 0 7) (if mn1 < 8 then 1 else 0) 5
abbrev TN3 : Type := (Nat → Int32) × (Nat → Int32) × Nat
def ntF (b : Nat → Int32) (bn at1 : Nat) (s : TN3) : TN3 := (goX b bn (ntA s.1 s.2.2), if ntA s.1 s.2.2 20 = 0 then upd s.2.1 (at1 + 4 + s.2.2) (nhV s.1 0 7) else s.2.1, if ntA s.1 s.2.2 20 = 0 then s.2.2 + 1 else s.2.2)
def ntC (s : TN3) : Prop := s.1 20 = 0 ∧ s.1 18 = 2
noncomputable def ntL (b : Nat → Int32) (bn at1 : Nat) (x D : Nat → Int32) : TN3 := LD (ntF b bn at1) ntC (ntF b bn at1 (x, D, 0))
theorem Xi_ntA {bn : Nat} {x : Nat → Int32} {k : Nat} (h : Xi bn x) : Xi bn (ntA x k) := Xi_nd (by decide) (Xi_nh h)
theorem nt_dec {b : Nat → Int32} {bn n k : Nat} {X : Nat → Int32} (hX : Xi bn X) (hm : (if X 20 = 0 then bn + 1 - tn (X 17) else 0) < n + 1) (h0 : goX b bn (ntA X k) 20 = 0) (h2 : goX b bn (ntA X k) 18 = 2) : (if goX b bn (ntA X k) 20 = 0 then bn + 1 - tn (goX b bn (ntA X k) 17) else 0) < n := by
  rw [if_pos h0]
  have h1 : ntA X k 20 = 0 := by rw [← h0, go_0]
  have e : X 20 = 0 := by
    unfold ntA at h1
    exact (nh_0.mp ((nd_0 (by decide)).mp h1).1).1
  rw [if_pos e] at hm
  have h3 := (go_pos (b := b) (Xi_ntA (k := k) hX) (n0_of h1)).2.2 (by rw [h2]; decide)
  have h4 := (Xi_go (b := b) (Xi_ntA (k := k) hX)).2.2.2.2.1
  have e17 : ntA X k 17 = X 17 := by
    unfold ntA nhX
    rw [nd_out (by omega) (by omega), nd_out (by omega) (by omega), nd_out (by omega) (by omega)]
  rw [e17] at h3
  have h5 := hX.2.2.2.2.1
  omega
/-- what is known of the notes that were read -/
theorem nt_le {b : Nat → Int32} {bn at1 : Nat} {s : TN3} (h : s.2.2 ≤ 8) : (ntF b bn at1 s).2.2 ≤ 8 := by
  show (if ntA s.1 s.2.2 20 = 0 then s.2.2 + 1 else s.2.2) ≤ 8
  split
  · rename_i q
    unfold ntA at q
    have := ((nd_0 (by decide)).mp q).2
    omega
  · exact h
/-! a deed: place, end, token, value; spelled; deeds -/
def rdA (b : Nat → Int32) (bn dm : Nat) (x : Nat → Int32) : Nat → Int32 := goX b bn (nd (nd x (if ¬ kdH x b (Fm x) (Ln x) = -1 then 1 else 0) 1) (if dm < 30 then 1 else 0) 5)
/-- a roof, then what follows -/
def r1X (row : Nat → Int32) (nr : Nat) (b : Nat → Int32) (bn : Nat) (sp y : Nat → Int32) : Nat → Int32 := rtX row nr b bn sp y (-1)
def r1V (row : Nat → Int32) (nr : Nat) (b : Nat → Int32) (sp y : Nat → Int32) : Int32 := rtV row nr b sp y
def r2X (row : Nat → Int32) (nr : Nat) (b : Nat → Int32) (bn : Nat) (sp y : Nat → Int32) : Nat → Int32 := rtX row nr b bn (spS b sp y) (r1X row nr b bn sp y) (r1V row nr b sp y)
def r2V (row : Nat → Int32) (nr : Nat) (b : Nat → Int32) (bn : Nat) (sp y : Nat → Int32) : Int32 := rtV row nr b (spS b sp y) (r1X row nr b bn sp y)
def r2S (row : Nat → Int32) (nr : Nat) (b : Nat → Int32) (bn : Nat) (sp y : Nat → Int32) : Nat → Int32 := spS b (spS b sp y) (r1X row nr b bn sp y)
def rdD (b : Nat → Int32) (dm : Nat) (x D : Nat → Int32) : Nat → Int32 := upd D (12 * dm) (kdH x b (Fm x) (Ln x))
noncomputable def rB0 (row : Nat → Int32) (nr : Nat) (b : Nat → Int32) (bn dm : Nat) (x sp D : Nat → Int32) : T3 :=
  ((ntL b bn (12 * dm) (r2X row nr b bn sp (rdA b bn dm x)) (upd (upd (rdD b dm x D) (12 * dm + 1) (r1V row nr b sp (rdA b bn dm x))) (12 * dm + 2) (r2V row nr b bn sp (rdA b bn dm x)))).1,
     r2S row nr b bn sp (rdA b bn dm x),
     upd (ntL b bn (12 * dm) (r2X row nr b bn sp (rdA b bn dm x)) (upd (upd (rdD b dm x D) (12 * dm + 1) (r1V row nr b sp (rdA b bn dm x))) (12 * dm + 2) (r2V row nr b bn sp (rdA b bn dm x)))).2.1 (12 * dm + 3) (nI (ntL b bn (12 * dm) (r2X row nr b bn sp (rdA b bn dm x)) (upd (upd (rdD b dm x D) (12 * dm + 1) (r1V row nr b sp (rdA b bn dm x))) (12 * dm + 2) (r2V row nr b bn sp (rdA b bn dm x)))).2.2))
noncomputable def rB2 (row : Nat → Int32) (nr : Nat) (b : Nat → Int32) (bn dm : Nat) (x sp D : Nat → Int32) : T3 :=
  (numX b bn (rdA b bn dm x) 1 200, sp, upd (rdD b dm x D) (12 * dm + 1) (nhV (rdA b bn dm x) 1 200))
noncomputable def rB3 (row : Nat → Int32) (nr : Nat) (b : Nat → Int32) (bn dm : Nat) (x sp D : Nat → Int32) : T3 :=
  (numX b bn (r1X row nr b bn sp (rdA b bn dm x)) 1 99, spS b sp (rdA b bn dm x), upd (upd (rdD b dm x D) (12 * dm + 1) (r1V row nr b sp (rdA b bn dm x))) (12 * dm + 2) (nhV (r1X row nr b bn sp (rdA b bn dm x)) 1 99))
noncomputable def rB4 (row : Nat → Int32) (nr : Nat) (b : Nat → Int32) (bn dm : Nat) (x sp D : Nat → Int32) : T3 :=
  (r2X row nr b bn sp (rdA b bn dm x), r2S row nr b bn sp (rdA b bn dm x), upd (upd (rdD b dm x D) (12 * dm + 1) (r1V row nr b sp (rdA b bn dm x))) (12 * dm + 2) (r2V row nr b bn sp (rdA b bn dm x)))
noncomputable def rB5 (row : Nat → Int32) (nr : Nat) (b : Nat → Int32) (bn dm : Nat) (x sp D : Nat → Int32) : T3 :=
  (numX b bn (rdA b bn dm x) (low (stH x b (Fm x) (Ln x))) (hig (stH x b (Fm x) (Ln x))), sp, upd (upd (rdD b dm x D) (12 * dm + 1) (stH x b (Fm x) (Ln x))) (12 * dm + 2) (nhV (rdA b bn dm x) (low (stH x b (Fm x) (Ln x))) (hig (stH x b (Fm x) (Ln x)))))
noncomputable def rdB (row : Nat → Int32) (nr : Nat) (b : Nat → Int32) (bn dm : Nat) (x sp D : Nat → Int32) : T3 :=
  if kdH x b (Fm x) (Ln x) = 0 ∨ kdH x b (Fm x) (Ln x) = 1 then rB0 row nr b bn dm x sp D else if kdH x b (Fm x) (Ln x) = 2 then rB2 row nr b bn dm x sp D else if kdH x b (Fm x) (Ln x) = 3 then rB3 row nr b bn dm x sp D else if kdH x b (Fm x) (Ln x) = 4 then rB4 row nr b bn dm x sp D else rB5 row nr b bn dm x sp D
theorem rdB_c {row : Nat → Int32} {nr : Nat} {b : Nat → Int32} {bn dm : Nat} {x sp D : Nat → Int32} {P : T3 → Prop} (h0 : P (rB0 row nr b bn dm x sp D)) (h2 : P (rB2 row nr b bn dm x sp D)) (h3 : P (rB3 row nr b bn dm x sp D)) (h4 : P (rB4 row nr b bn dm x sp D)) (h5 : P (rB5 row nr b bn dm x sp D)) : P (rdB row nr b bn dm x sp D) := by
  unfold rdB
  by_cases q0 : kdH x b (Fm x) (Ln x) = 0 ∨ kdH x b (Fm x) (Ln x) = 1
  · rw [if_pos q0]; exact h0
  rw [if_neg q0]
  by_cases q2 : kdH x b (Fm x) (Ln x) = 2
  · rw [if_pos q2]; exact h2
  rw [if_neg q2]
  by_cases q3 : kdH x b (Fm x) (Ln x) = 3
  · rw [if_pos q3]; exact h3
  rw [if_neg q3]
  by_cases q4 : kdH x b (Fm x) (Ln x) = 4
  · rw [if_pos q4]; exact h4
  rw [if_neg q4]
  exact h5
noncomputable def rdT (row : Nat → Int32) (nr : Nat) (b : Nat → Int32) (bn dm : Nat) (x sp D : Nat → Int32) : T3 :=
  if rdA b bn dm x 20 = 0 then (upd (smX b bn (rdB row nr b bn dm x sp D).1) 23 (nI (dm + 1)), (rdB row nr b bn dm x sp D).2.1, (rdB row nr b bn dm x sp D).2.2) else (rdA b bn dm x, sp, D)
theorem kdH_c {x b : Nat → Int32} {f0 len : Nat} : kdH x b f0 len = -1 ∨ kdH x b f0 len = 0 ∨ kdH x b f0 len = 1 ∨ kdH x b f0 len = 2 ∨ kdH x b f0 len = 3 ∨ kdH x b f0 len = 4 ∨ kdH x b f0 len = 5 := by
  unfold kdH
  by_cases h1 : wrd x b f0 len 4 (gg_byt gg_tx21)
  · rw [if_pos h1]; exact Or.inr (Or.inl rfl)
  rw [if_neg h1]
  by_cases h2 : wrd x b f0 len 3 (gg_byt gg_tx22)
  · rw [if_pos h2]; exact Or.inr (Or.inr (Or.inl rfl))
  rw [if_neg h2]
  by_cases h3 : wrd x b f0 len 4 (gg_byt gg_tx23)
  · rw [if_pos h3]; exact Or.inr (Or.inr (Or.inr (Or.inl rfl)))
  rw [if_neg h3]
  by_cases h4 : wrd x b f0 len 4 (gg_byt gg_tx24)
  · rw [if_pos h4]; exact Or.inr (Or.inr (Or.inr (Or.inr (Or.inl rfl))))
  rw [if_neg h4]
  by_cases h5 : wrd x b f0 len 3 (gg_byt gg_tx25)
  · rw [if_pos h5]; exact Or.inr (Or.inr (Or.inr (Or.inr (Or.inr (Or.inl rfl)))))
  rw [if_neg h5]
  by_cases h6 : stH x b f0 len = -1
  · rw [if_pos h6]; exact Or.inl rfl
  rw [if_neg h6]
  exact Or.inr (Or.inr (Or.inr (Or.inr (Or.inr (Or.inr rfl)))))
theorem rdA_0 {b : Nat → Int32} {bn dm : Nat} {x : Nat → Int32} (h : rdA b bn dm x 20 = 0) : x 20 = 0 ∧ dm < 30 ∧ (kdH x b (Fm x) (Ln x) = 0 ∨ kdH x b (Fm x) (Ln x) = 1 ∨ kdH x b (Fm x) (Ln x) = 2 ∨ kdH x b (Fm x) (Ln x) = 3 ∨ kdH x b (Fm x) (Ln x) = 4 ∨ kdH x b (Fm x) (Ln x) = 5) := by
  unfold rdA at h
  rw [go_0, nd_0 (by decide), nd_0 (by decide)] at h
  exact ⟨h.1.1, h.2, kdH_c.resolve_left h.1.2⟩
theorem Xi_rdA {b : Nat → Int32} {bn dm : Nat} {x : Nat → Int32} (h : Xi bn x) : Xi bn (rdA b bn dm x) := Xi_go (Xi_nd (by decide) (Xi_nd (by decide) h))
theorem rdA_23 {b : Nat → Int32} {bn dm : Nat} {x : Nat → Int32} : rdA b bn dm x 23 = x 23 := by
  unfold rdA
  rw [goX_out (by omega) (by omega) (by omega) (by omega), nd_out (by omega) (by omega), nd_out (by omega) (by omega)]
theorem it_P {σ : Type} {F : σ → σ} {P : σ → Prop} (h : ∀ s, P s → P (F s)) {s : σ} (h0 : P s) : ∀ k, P (it F k s)
  | 0 => h0
  | k + 1 => h _ (it_P h h0 k)
theorem LD_P {σ : Type} {F : σ → σ} {C P : σ → Prop} (h : ∀ s, P s → P (F s)) {s : σ} (h0 : P s) : P (LD F C s) := it_P h h0 _
theorem Xi_nt {b : Nat → Int32} {bn at1 : Nat} {x D : Nat → Int32} (h : Xi bn x) : Xi bn (ntL b bn at1 x D).1 :=
  LD_P (P := fun s : TN3 => Xi bn s.1) (fun s q => Xi_go (Xi_ntA q)) (Xi_go (Xi_ntA h))
theorem nt_8 {b : Nat → Int32} {bn at1 : Nat} {x D : Nat → Int32} : (ntL b bn at1 x D).2.2 ≤ 8 :=
  LD_P (P := fun s : TN3 => s.2.2 ≤ 8) (fun s q => nt_le q) (nt_le (Nat.zero_le _))
theorem Xi_rdB {row : Nat → Int32} {nr : Nat} {b : Nat → Int32} {bn dm : Nat} {x sp D : Nat → Int32} (h : Xi bn x) : Xi bn (rdB row nr b bn dm x sp D).1 := by
  have hA := Xi_rdA (b := b) (dm := dm) h
  refine rdB_c (P := fun s => Xi bn s.1) ?_ ?_ ?_ ?_ ?_
  · unfold rB0; dsimp only; exact Xi_nt (Xi_rt (Xi_rt hA))
  · unfold rB2; dsimp only; exact Xi_num hA
  · unfold rB3; dsimp only; exact Xi_num (Xi_rt hA)
  · unfold rB4; dsimp only; exact Xi_rt (Xi_rt hA)
  · unfold rB5; dsimp only; exact Xi_num hA
theorem rdT_y {row : Nat → Int32} {nr : Nat} {b : Nat → Int32} {bn dm : Nat} {x sp D : Nat → Int32} (h : rdA b bn dm x 20 = 0) : rdT row nr b bn dm x sp D = (upd (smX b bn (rdB row nr b bn dm x sp D).1) 23 (nI (dm + 1)), (rdB row nr b bn dm x sp D).2.1, (rdB row nr b bn dm x sp D).2.2) := if_pos h
theorem rdT_n {row : Nat → Int32} {nr : Nat} {b : Nat → Int32} {bn dm : Nat} {x sp D : Nat → Int32} (h : ¬ rdA b bn dm x 20 = 0) : rdT row nr b bn dm x sp D = (rdA b bn dm x, sp, D) := if_neg h
theorem rdT_c {row : Nat → Int32} {nr : Nat} {b : Nat → Int32} {bn dm : Nat} {x sp D : Nat → Int32} {P : T3 → Prop} (h1 : rdA b bn dm x 20 = 0 → P (upd (smX b bn (rdB row nr b bn dm x sp D).1) 23 (nI (dm + 1)), (rdB row nr b bn dm x sp D).2.1, (rdB row nr b bn dm x sp D).2.2)) (h2 : ¬ rdA b bn dm x 20 = 0 → P (rdA b bn dm x, sp, D)) : P (rdT row nr b bn dm x sp D) := by
  by_cases q : rdA b bn dm x 20 = 0
  · rw [rdT_y q]; exact h1 q
  · rw [rdT_n q]; exact h2 q
theorem Xi_rd {row : Nat → Int32} {nr : Nat} {b : Nat → Int32} {bn dm : Nat} {x sp D : Nat → Int32} (h : Xi bn x) : Xi bn (rdT row nr b bn dm x sp D).1 := by
  refine rdT_c (P := fun s => Xi bn s.1) (fun _ => ?_) (fun _ => ?_)
  · dsimp only; exact Xi_up (by omega) (by omega) (by omega) (by omega) (Xi_sm (Xi_rdB h))
  · dsimp only; exact Xi_rdA h
/-- what stays -/
theorem num_o {b : Nat → Int32} {bn : Nat} {x : Nat → Int32} {a c : Int32} {j : Nat} (h1 : j ≠ 16) (h2 : j ≠ 17) (h3 : j ≠ 18) (h4 : j ≠ 19) (h5 : j ≠ 20) (h6 : j ≠ 21) : numX b bn x a c j = x j := by
  unfold numX nhX
  rw [goX_out h1 h2 h3 h4, nd_out h5 h6, nd_out h5 h6]
theorem sm_o {b : Nat → Int32} {bn : Nat} {x : Nat → Int32} {j : Nat} (h1 : j ≠ 16) (h2 : j ≠ 17) (h3 : j ≠ 18) (h4 : j ≠ 19) (h5 : j ≠ 20) (h6 : j ≠ 21) : smX b bn x j = x j := by
  unfold smX
  rw [goX_out h1 h2 h3 h4, nd_out h5 h6]
theorem rt_o {row : Nat → Int32} {nr bn : Nat} {b sp x : Nat → Int32} {no : Int32} {j : Nat} (h0 : j ≠ 8) (h1 : j ≠ 16) (h2 : j ≠ 17) (h3 : j ≠ 18) (h4 : j ≠ 19) (h5 : j ≠ 20) (h6 : j ≠ 21) : rtX row nr b bn sp x no j = x j := by
  unfold rtX
  rw [goX_out h1 h2 h3 h4, rhX_out h0 h5 h6]
theorem nt_o {b : Nat → Int32} {bn at1 : Nat} {x D : Nat → Int32} {j : Nat} (h1 : j ≠ 16) (h2 : j ≠ 17) (h3 : j ≠ 18) (h4 : j ≠ 19) (h5 : j ≠ 20) (h6 : j ≠ 21) : (ntL b bn at1 x D).1 j = x j := by
  have key : ∀ s : TN3, s.1 j = x j → (ntF b bn at1 s).1 j = x j := fun s q => by
    show goX b bn (ntA s.1 s.2.2) j = x j
    unfold ntA nhX
    rw [goX_out h1 h2 h3 h4, nd_out h5 h6, nd_out h5 h6, nd_out h5 h6, q]
  exact LD_P (P := fun s : TN3 => s.1 j = x j) key (key _ rfl)
theorem rdA_o {b : Nat → Int32} {bn dm : Nat} {x : Nat → Int32} {j : Nat} (h1 : j ≠ 16) (h2 : j ≠ 17) (h3 : j ≠ 18) (h4 : j ≠ 19) (h5 : j ≠ 20) (h6 : j ≠ 21) : rdA b bn dm x j = x j := by
  unfold rdA
  rw [goX_out h1 h2 h3 h4, nd_out h5 h6, nd_out h5 h6]
theorem rdB_o {row : Nat → Int32} {nr : Nat} {b : Nat → Int32} {bn dm : Nat} {x sp D : Nat → Int32} {j : Nat} (h0 : j ≠ 8) (h1 : j ≠ 16) (h2 : j ≠ 17) (h3 : j ≠ 18) (h4 : j ≠ 19) (h5 : j ≠ 20) (h6 : j ≠ 21) : (rdB row nr b bn dm x sp D).1 j = x j := by
  have n := @num_o b bn
  refine rdB_c (P := fun s => s.1 j = x j) ?_ ?_ ?_ ?_ ?_
  · unfold rB0; dsimp only; exact (nt_o h1 h2 h3 h4 h5 h6).trans ((rt_o h0 h1 h2 h3 h4 h5 h6).trans ((rt_o h0 h1 h2 h3 h4 h5 h6).trans (rdA_o h1 h2 h3 h4 h5 h6)))
  · unfold rB2; dsimp only; exact (num_o h1 h2 h3 h4 h5 h6).trans (rdA_o h1 h2 h3 h4 h5 h6)
  · unfold rB3; dsimp only; exact (num_o h1 h2 h3 h4 h5 h6).trans ((rt_o h0 h1 h2 h3 h4 h5 h6).trans (rdA_o h1 h2 h3 h4 h5 h6))
  · unfold rB4; dsimp only; exact (rt_o h0 h1 h2 h3 h4 h5 h6).trans ((rt_o h0 h1 h2 h3 h4 h5 h6).trans (rdA_o h1 h2 h3 h4 h5 h6))
  · unfold rB5; dsimp only; exact (num_o h1 h2 h3 h4 h5 h6).trans (rdA_o h1 h2 h3 h4 h5 h6)
theorem rdT_o {row : Nat → Int32} {nr : Nat} {b : Nat → Int32} {bn dm : Nat} {x sp D : Nat → Int32} {j : Nat} (h0 : j ≠ 8) (h1 : j ≠ 16) (h2 : j ≠ 17) (h3 : j ≠ 18) (h4 : j ≠ 19) (h5 : j ≠ 20) (h6 : j ≠ 21) (h7 : j ≠ 23) : (rdT row nr b bn dm x sp D).1 j = x j := by
  refine rdT_c (P := fun s => s.1 j = x j) (fun _ => ?_) (fun _ => ?_)
  · dsimp only; exact (pk_un h7).trans ((sm_o h1 h2 h3 h4 h5 h6).trans (rdB_o h0 h1 h2 h3 h4 h5 h6))
  · dsimp only; exact rdA_o h1 h2 h3 h4 h5 h6
/-- a script is read: state and number of deeds -/
theorem Go_nt {b : Nat → Int32} {bn at1 : Nat} {x D : Nat → Int32} (h : Xi bn x) : Go x (ntL b bn at1 x D).1 := by
  have key : ∀ s : TN3, Xi bn s.1 ∧ Go x s.1 → Xi bn (ntF b bn at1 s).1 ∧ Go x (ntF b bn at1 s).1 := fun s q => ⟨Xi_go (Xi_ntA q.1), q.2.trans ((Go_nh.trans (Go_nd (by decide))).trans (Go_go (Xi_ntA q.1)))⟩
  exact (LD_P (P := fun s : TN3 => Xi bn s.1 ∧ Go x s.1) key (key _ ⟨h, fun q => ⟨q, Nat.le_refl _⟩⟩)).2
theorem rd_adv {row : Nat → Int32} {nr : Nat} {b : Nat → Int32} {bn dm : Nat} {x sp D : Nat → Int32} (h : Xi bn x) (h0 : (rdT row nr b bn dm x sp D).1 20 = 0) : x 20 = 0 ∧ dm < 30 ∧ (rdT row nr b bn dm x sp D).1 23 = nI (dm + 1) ∧ tn (x 17) < tn ((rdT row nr b bn dm x sp D).1 17) := by
  have hA := Xi_rdA (b := b) (dm := dm) h
  have hlt : Go (rdA b bn dm x) (rdB row nr b bn dm x sp D).1 := by
    refine rdB_c (P := fun s => Go (rdA b bn dm x) s.1) ?_ ?_ ?_ ?_ ?_
    · unfold rB0; dsimp only; exact (Go_rt hA).trans ((Go_rt (Xi_rt hA)).trans (Go_nt (Xi_rt (Xi_rt hA))))
    · unfold rB2; dsimp only; exact Go_num hA
    · unfold rB3; dsimp only; exact (Go_rt hA).trans (Go_num (Xi_rt hA))
    · unfold rB4; dsimp only; exact (Go_rt hA).trans (Go_rt (Xi_rt hA))
    · unfold rB5; dsimp only; exact Go_num hA
  have hend : rdA b bn dm x 18 = 0 → ¬ (rdB row nr b bn dm x sp D).1 20 = 0 := by
    intro hz
    have nrt : ∀ {no : Int32} {s2 : Nat → Int32}, ¬ rtX row nr b bn s2 (rdA b bn dm x) no 20 = 0 := fun {no s2} q => by
      have q2 : rhX row nr b s2 (rdA b bn dm x) (Ln (rdA b bn dm x)) (Fm (rdA b bn dm x)) no 20 = 0 := go_0.symm.trans (show goX b bn (rhX row nr b s2 (rdA b bn dm x) (Ln (rdA b bn dm x)) (Fm (rdA b bn dm x)) no) 20 = 0 from q)
      have := (rh_0.mp q2).1.2.1
      rw [hz] at this
      exact absurd this (by decide)
    have nnm : ∀ {a c : Int32}, ¬ numX b bn (rdA b bn dm x) a c 20 = 0 := fun {a c} q => by
      have q2 : nhX (rdA b bn dm x) a c 20 = 0 := go_0.symm.trans (show goX b bn (nhX (rdA b bn dm x) a c) 20 = 0 from q)
      have := (nh_0.mp q2).2.1
      rw [hz] at this
      exact absurd this (by decide)
    refine rdB_c (P := fun s => ¬ s.1 20 = 0) ?_ ?_ ?_ ?_ ?_
    · unfold rB0; dsimp only; exact fun q => nrt (Go_rt (Xi_rt hA) (Go_nt (Xi_rt (Xi_rt hA)) q).1).1
    · unfold rB2; dsimp only; exact nnm
    · unfold rB3; dsimp only; exact fun q => nrt (Go_num (Xi_rt hA) q).1
    · unfold rB4; dsimp only; exact fun q => nrt (Go_rt (Xi_rt hA) q).1
    · unfold rB5; dsimp only; exact nnm
  by_cases hA0 : rdA b bn dm x 20 = 0
  · rw [rdT_y hA0] at h0 ⊢
    obtain ⟨g1, g2, g3⟩ := rdA_0 hA0
    have h1 : smX b bn (rdB row nr b bn dm x sp D).1 20 = 0 := (pk_un (f := smX b bn (rdB row nr b bn dm x sp D).1) (k := 23) (x := nI (dm + 1)) (j := 20) (by omega)).symm.trans h0
    have h2 : nd (rdB row nr b bn dm x sp D).1 (if (rdB row nr b bn dm x sp D).1 18 = 3 then 1 else 0) 1 20 = 0 := go_0.symm.trans (show goX b bn (nd (rdB row nr b bn dm x sp D).1 (if (rdB row nr b bn dm x sp D).1 18 = 3 then 1 else 0) 1) 20 = 0 from h1)
    have h3 := ((nd_0 (by decide)).mp h2).1
    have hz : ¬ rdA b bn dm x 18 = 0 := fun q => hend q h3
    have k1 := (Go_sm (b := b) (Xi_rdB (row := row) (nr := nr) (dm := dm) (sp := sp) (D := D) (b := b) h) h1).2
    have k2 := (hlt h3).2
    have hn : nd (nd x (if ¬ kdH x b (Fm x) (Ln x) = -1 then 1 else 0) 1) (if dm < 30 then 1 else 0) 5 20 = 0 := go_0.symm.trans (show goX b bn (nd (nd x (if ¬ kdH x b (Fm x) (Ln x) = -1 then 1 else 0) 1) (if dm < 30 then 1 else 0) 5) 20 = 0 from hA0)
    have k3 := (go_pos (b := b) (Xi_nd (z := if dm < 30 then 1 else 0) (k := 5) (by decide) (Xi_nd (z := if ¬ kdH x b (Fm x) (Ln x) = -1 then 1 else 0) (k := 1) (by decide) h)) (n0_of hn)).2.2 (by show ¬ rdA b bn dm x 18 = 0; exact hz)
    rw [nd_out (by omega) (by omega), nd_out (by omega) (by omega)] at k3
    refine ⟨g1, g2, (show upd (smX b bn (rdB row nr b bn dm x sp D).1) 23 (nI (dm + 1)) 23 = nI (dm + 1) from pk_us), ?_⟩
    show tn (x 17) < tn (upd (smX b bn (rdB row nr b bn dm x sp D).1) 23 (nI (dm + 1)) 17)
    rw [pk_un (by omega)]
    exact Nat.lt_of_lt_of_le (show tn (x 17) < tn (rdA b bn dm x 17) from k3) (Nat.le_trans k2 k1)
  · rw [rdT_n hA0] at h0
    exact absurd h0 hA0

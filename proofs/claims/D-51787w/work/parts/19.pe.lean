set_option maxRecDepth 100000
/-- of the first n, the nearest that is open -/
noncomputable def nop (S Z : Nat → Int32) : Nat → Option Nat
  | 0 => none
  | i + 1 => if Z i = 0 ∧ ¬ S i = -1 ∧ (∀ b, nop S Z i = some b → S i < S b) then some i else nop S Z i
theorem nop_t {S Z : Nat → Int32} {i : Nat} (h : Z i = 0 ∧ ¬ S i = -1 ∧ (∀ b, nop S Z i = some b → S i < S b)) : nop S Z (i + 1) = some i := by
  unfold nop
  rw [if_pos h]
theorem nop_f {S Z : Nat → Int32} {i : Nat} (h : ¬ (Z i = 0 ∧ ¬ S i = -1 ∧ (∀ b, nop S Z i = some b → S i < S b))) : nop S Z i = nop S Z (i + 1) := by
  conv => rhs; unfold nop
  rw [if_neg h]
theorem nop_lt {S Z : Nat → Int32} : ∀ n b, nop S Z n = some b → b < n := by
  intro n
  induction n with
  | zero => intro b h; cases h
  | succ n ih =>
    intro b h
    unfold nop at h
    split at h
    · cases h; omega
    · have := ih b h; omega
abbrev SD (d : Nat → Option Nat) : Nat → Int32 := fun k => dI (d k)
abbrev ZD (D : Nat → Bool) : Nat → Int32 := fun k => if D k = true then 1 else 0
theorem ZD_0 {D : Nat → Bool} {k : Nat} : ZD D k = 0 ↔ D k = false := by
  unfold ZD
  cases D k <;> simp
theorem nop_none {d : Nat → Option Nat} {D : Nat → Bool} (hb : ∀ k x, d k = some x → x < 2 ^ 31) : ∀ n, nop (SD d) (ZD D) n = none → ∀ j, j < n → D j = false → d j = none := by
  intro n
  induction n with
  | zero => intro _ j hj; omega
  | succ n ih =>
    intro h j hj hD
    unfold nop at h
    split at h
    · cases h
    · rename_i q
      by_cases e : j = n
      · subst e
        cases hx : d j with
        | none => rfl
        | some x => exact absurd ⟨ZD_0.mpr hD, by rw [show SD d j = nI x from by unfold SD; rw [hx]; rfl]; exact nI_nm1 (hb j x hx), fun b hbb => by rw [h] at hbb; cases hbb⟩ q
      · exact ih h j (by omega) hD
theorem nop_some {d : Nat → Option Nat} {D : Nat → Bool} (hb : ∀ k x, d k = some x → x < 2 ^ 31) : ∀ n b, nop (SD d) (ZD D) n = some b → b < n ∧ D b = false ∧ ∃ x, d b = some x ∧ ∀ j z, j < n → D j = false → d j = some z → x ≤ z := by
  intro n
  induction n with
  | zero => intro b h; cases h
  | succ n ih =>
    intro b h
    unfold nop at h
    split at h
    · rename_i q
      cases h
      obtain ⟨q1, q2, q3⟩ := q
      cases hx : d n with
      | none => exact absurd (show SD d n = -1 from by unfold SD; rw [hx]; rfl) q2
      | some x =>
        refine ⟨Nat.lt_succ_self _, ZD_0.mp q1, x, rfl, fun j z hj hD hz => ?_⟩
        by_cases e : j = n
        · subst e
          rw [hx] at hz
          cases hz
          exact Nat.le_refl _
        · cases hm : nop (SD d) (ZD D) n with
          | none => rw [nop_none hb n hm j (by omega) hD] at hz; cases hz
          | some b2 =>
            obtain ⟨-, -, x2, h2, h3⟩ := ih b2 hm
            have h4 := h3 j z (by omega) hD hz
            have h5 := q3 b2 hm
            rw [show SD d n = nI x from by unfold SD; rw [hx]; rfl, show SD d b2 = nI x2 from by unfold SD; rw [h2]; rfl, nI_ltI (hb _ _ hx) (hb _ _ h2)] at h5
            omega
    · rename_i q
      obtain ⟨h1, h2, x, h3, h4⟩ := ih b h
      refine ⟨by omega, h2, x, h3, fun j z hj hD hz => ?_⟩
      by_cases e : j = n
      · subst e
        rcases Nat.lt_or_ge z x with l1 | l1
        · exact absurd ⟨ZD_0.mpr hD, by rw [show SD d j = nI z from by unfold SD; rw [hz]; rfl]; exact nI_nm1 (hb j z hz), fun b2 hb2 => by
            rw [h] at hb2
            cases hb2
            rw [show SD d j = nI z from by unfold SD; rw [hz]; rfl, show SD d b = nI x from by unfold SD; rw [h3]; rfl]
            exact (nI_ltI (hb _ _ hz) (hb _ _ h3)).mpr l1⟩ q
        · exact l1
      · exact h4 j z (by omega) hD hz
/-- how many are done -/
def cB (D : Nat → Bool) : Nat → Nat
  | 0 => 0
  | n + 1 => cB D n + (if D n = true then 1 else 0)
theorem cB_le (D : Nat → Bool) : ∀ n, cB D n ≤ n := by
  intro n
  induction n with
  | zero => exact Nat.le_refl _
  | succ n ih =>
    unfold cB
    split <;> omega
def dup (D : Nat → Bool) (b : Nat) : Nat → Bool := fun k => if k = b then true else D k
theorem dup_s (D : Nat → Bool) (b : Nat) : dup D b b = true := if_pos rfl
theorem dup_n {D : Nat → Bool} {b k : Nat} (h : k ≠ b) : dup D b k = D k := if_neg h
theorem cB_up {D : Nat → Bool} {b : Nat} (hb : D b = false) : ∀ n, cB (dup D b) n = cB D n + (if b < n then 1 else 0) := by
  intro n
  induction n with
  | zero => rfl
  | succ n ih =>
    unfold cB
    rw [ih]
    by_cases e : n = b
    · subst e
      rw [dup_s, hb, if_neg (Nat.lt_irrefl _), if_pos (Nat.lt_succ_self _)]
      simp
    · rw [dup_n e]
      by_cases l1 : b < n
      · rw [if_pos l1, if_pos (show b < n + 1 by omega)]
        omega
      · rw [if_neg l1, if_neg (show ¬ b < n + 1 by omega)]
        omega
def dpt (d : Nat → Option Nat) (v x : Nat) : Nat → Option Nat := fun k => if k = v then some x else d k
theorem dpt_s (d : Nat → Option Nat) (v x : Nat) : dpt d v x v = some x := if_pos rfl
theorem dpt_n {d : Nat → Option Nat} {v x k : Nat} (h : k ≠ v) : dpt d v x k = d k := if_neg h
def Dj (row : Nat → Int32) (nr nw g : Nat) (d : Nat → Option Nat) (D : Nat → Bool) : Prop :=
  d g = some 0 ∧ (∀ v x, d v = some x → v < nr ∧ x ≤ 9 * cB D 10) ∧ (∀ v x, d v = some x → v ≠ g → ∃ i u y, D u = true ∧ En row nw (-1) i u v ∧ d u = some y ∧ y + ef row i = x) ∧ (∀ u, D u = true → ∃ y, d u = some y) ∧ (∀ u v y z, D u = true → D v = false → d u = some y → d v = some z → y ≤ z)
def De (row : Nat → Int32) (nw : Nat) (d : Nat → Option Nat) (D : Nat → Bool) (b n : Nat) : Prop := ∀ i u v y, D u = true → En row nw (-1) i u v → d u = some y → (u = b → i < n) → ∃ z, d v = some z ∧ z ≤ y + ef row i
theorem Dj.lt {row : Nat → Int32} {nr nw g : Nat} {d : Nat → Option Nat} {D : Nat → Bool} (h : Dj row nr nw g d D) {v x : Nat} (hv : d v = some x) : x ≤ 90 := by
  have h1 := (h.2.1 v x hv).2
  have h2 := cB_le D 10
  omega
theorem Dj.start {row : Nat → Int32} {nr nw g : Nat} (hg : g < nr) : Dj row nr nw g (d0 g) (fun _ => false) := by
  refine ⟨by simp [d0], ?_, ?_, ?_, ?_⟩
  · intro v x hv
    by_cases e : v = g
    · subst e
      simp [d0] at hv
      omega
    · simp [d0, e] at hv
  · intro v x hv hvg
    simp [d0, hvg] at hv
  · intro u hu; cases hu
  · intro u v y z hu; cases hu
theorem De.start {row : Nat → Int32} {nw g b n : Nat} : De row nw (d0 g) (fun _ => false) b n := by
  intro i u v y hu; cases hu
/-- what holds while the ways at b are gone over -/
def Db (nr : Nat) (d : Nat → Option Nat) (D : Nat → Bool) (b x : Nat) : Prop := D b = true ∧ b < nr ∧ d b = some x ∧ x + 9 ≤ 9 * cB D 10 ∧ ∀ u y, D u = true → d u = some y → y ≤ x
theorem Dj.mark {row : Nat → Int32} {nr nw g b x : Nat} {d : Nat → Option Nat} {D : Nat → Bool} (hr : nr ≤ 10) (h : Dj row nr nw g d D) (hE : De row nw d D nw nw) (hb : b < nr) (hD : D b = false) (hx : d b = some x) (hm : ∀ j z, j < nr → D j = false → d j = some z → x ≤ z) : Dj row nr nw g d (dup D b) ∧ De row nw d (dup D b) b 0 ∧ Db nr d (dup D b) b x := by
  obtain ⟨h1, h2, h3, h4, h5⟩ := h
  have hc : cB (dup D b) 10 = cB D 10 + 1 := by rw [cB_up hD, if_pos (by omega)]
  refine ⟨⟨h1, ?_, ?_, ?_, ?_⟩, ?_, dup_s D b, hb, hx, ?_, ?_⟩
  · intro v z hv
    have := h2 v z hv
    rw [hc]
    omega
  · intro v z hv hvg
    obtain ⟨i, u, y, a1, a2, a3, a4⟩ := h3 v z hv hvg
    refine ⟨i, u, y, ?_, a2, a3, a4⟩
    by_cases e : u = b
    · rw [e]; exact dup_s D b
    · rw [dup_n e]; exact a1
  · intro u hu
    by_cases e : u = b
    · rw [e]; exact ⟨x, hx⟩
    · rw [dup_n e] at hu; exact h4 u hu
  · intro u v y z hu hv hy hz
    have hvb : v ≠ b := by
      rintro rfl
      rw [dup_s] at hv
      cases hv
    rw [dup_n hvb] at hv
    by_cases e : u = b
    · rw [e, hx] at hy
      cases hy
      exact hm v z (h2 v z hz).1 hv hz
    · rw [dup_n e] at hu
      exact h5 u v y z hu hv hy hz
  · intro i u v y hu hi hy hub
    by_cases e : u = b
    · exact absurd (hub e) (Nat.not_lt_zero _)
    · rw [dup_n e] at hu
      exact hE i u v y hu hi hy (fun _ => hi.1)
  · have := (h2 b x hx).2
    rw [hc]
    omega
  · intro u y hu hy
    by_cases e : u = b
    · rw [e, hx] at hy
      cases hy
      exact Nat.le_refl _
    · rw [dup_n e] at hu
      exact h5 u b y x hu hD hy hx
theorem En.other {row : Nat → Int32} {nr nw i b v w : Nat} {wo : Int32} (hw : Ww row nr nw) (h1 : En row nw wo i b v) (h2 : En row nw wo i b w) : v = w := by
  have := (hw.2.2.2 i h1.1).2.2.2.2.2.1
  rcases h1.2.2 with q | q <;> rcases h2.2.2 with r | r <;> omega
theorem Dj.skip {row : Nat → Int32} {nw i b : Nat} {d : Nat → Option Nat} {D : Nat → Bool} (hE : De row nw d D b i) (hn : ∀ v, ¬ En row nw (-1) i b v) : De row nw d D b (i + 1) := by
  intro j u v y hu hj hy hub
  refine hE j u v y hu hj hy fun e => ?_
  subst e
  have := hub rfl
  by_cases e2 : j = i
  · subst e2; exact absurd hj (hn v)
  · omega
/-- the way does not make it less -/
theorem Dj.same {row : Nat → Int32} {nr nw g i b v x z : Nat} {d : Nat → Option Nat} {D : Nat → Bool} (hw : Ww row nr nw) (hE : De row nw d D b i) (hB : Db nr d D b x) (hi : En row nw (-1) i b v) (hz : d v = some z) (hzx : z ≤ x + ef row i) : De row nw d D b (i + 1) := by
  intro j u w y hu hj hy hub
  by_cases e : u = b ∧ j = i
  · obtain ⟨rfl, rfl⟩ := e
    rw [hB.2.2.1] at hy
    cases hy
    rw [En.other hw hj hi]
    exact ⟨z, hz, hzx⟩
  · exact hE j u w y hu hj hy fun e2 => by
      have := hub e2
      have : j ≠ i := fun e3 => e ⟨e2, e3⟩
      omega
theorem Dj.less {row : Nat → Int32} {nr nw g i b v x : Nat} {d : Nat → Option Nat} {D : Nat → Bool} (hw : Ww row nr nw) (h : Dj row nr nw g d D) (hE : De row nw d D b i) (hB : Db nr d D b x) (hi : En row nw (-1) i b v) (hv : v < nr) (hz : ∀ z, d v = some z → x + ef row i < z) : Dj row nr nw g (dpt d v (x + ef row i)) D ∧ De row nw (dpt d v (x + ef row i)) D b (i + 1) ∧ Db nr (dpt d v (x + ef row i)) D b x := by
  obtain ⟨h1, h2, h3, h4, h5⟩ := h
  obtain ⟨b1, b2, b3, b4, b5⟩ := hB
  obtain ⟨w1, w2, w3, w4, w5, w6, w7, w8⟩ := hw.2.2.2 i hi.1
  have hvD : D v = false := by
    cases hq : D v with
    | false => rfl
    | true =>
      obtain ⟨y, hy⟩ := h4 v hq
      have := b5 v y hq hy
      have := hz y hy
      omega
  have hne : ∀ u, D u = true → u ≠ v := by
    intro u hu e
    rw [e, hvD] at hu
    cases hu
  have hvg : g ≠ v := by
    intro e
    have := hz 0 (e ▸ h1)
    omega
  refine ⟨⟨by rw [dpt_n hvg]; exact h1, ?_, ?_, ?_, ?_⟩, ?_, b1, b2, by rw [dpt_n (hne b b1)]; exact b3, b4, ?_⟩
  · intro k z hk
    by_cases e : k = v
    · subst e
      rw [dpt_s] at hk
      cases hk
      exact ⟨hv, by omega⟩
    · rw [dpt_n e] at hk
      exact h2 k z hk
  · intro k z hk hkg
    by_cases e : k = v
    · subst e
      rw [dpt_s] at hk
      cases hk
      exact ⟨i, b, x, b1, hi, by rw [dpt_n (hne b b1)]; exact b3, rfl⟩
    · rw [dpt_n e] at hk
      obtain ⟨j, u, y, a1, a2, a3, a4⟩ := h3 k z hk hkg
      exact ⟨j, u, y, a1, a2, by rw [dpt_n (hne u a1)]; exact a3, a4⟩
  · intro u hu
    rw [dpt_n (hne u hu)]
    exact h4 u hu
  · intro u k y z hu hk hy hz2
    rw [dpt_n (hne u hu)] at hy
    by_cases e : k = v
    · subst e
      rw [dpt_s] at hz2
      cases hz2
      have := b5 u y hu hy
      omega
    · rw [dpt_n e] at hz2
      exact h5 u k y z hu hk hy hz2
  · intro j u k y hu hj hy hub
    rw [dpt_n (hne u hu)] at hy
    by_cases e2 : u = b ∧ j = i
    · obtain ⟨rfl, rfl⟩ := e2
      rw [b3] at hy
      cases hy
      rw [En.other hw hj hi]
      exact ⟨_, dpt_s _ _ _, Nat.le_refl _⟩
    · obtain ⟨z, hz1, hz2⟩ := hE j u k y hu hj hy fun e3 => by
        have := hub e3
        have : j ≠ i := fun e4 => e2 ⟨e3, e4⟩
        omega
      by_cases e : k = v
      · subst e
        have := hz z hz1
        exact ⟨_, dpt_s _ _ _, by omega⟩
      · exact ⟨z, by rw [dpt_n e]; exact hz1, hz2⟩
  · intro u y hu hy
    rw [dpt_n (hne u hu)] at hy
    exact b5 u y hu hy
theorem Dj.all {row : Nat → Int32} {nr nw b x : Nat} {d : Nat → Option Nat} {D : Nat → Bool} (hE : De row nw d D b nw) : De row nw d D nw nw := fun i u v y hu hi hy _ => hE i u v y hu hi hy (fun _ => hi.1)
theorem Dj.done {row : Nat → Int32} {nr nw g : Nat} {d : Nat → Option Nat} {D : Nat → Bool} (h : Dj row nr nw g d D) (hE : De row nw d D nw nw) (hn : ∀ j, j < nr → D j = false → d j = none) : IsDist row nw (-1) g d := by
  refine ⟨h.1, ?_, ?_⟩
  · intro i u v x hi hx
    refine hE i u v x ?_ hi hx (fun _ => hi.1)
    cases hq : D u with
    | true => rfl
    | false =>
      rw [hn u (h.2.1 u x hx).1 hq] at hx
      cases hx
  · intro v x hv hvg
    obtain ⟨i, u, y, -, a2, a3, a4⟩ := h.2.2.1 v x hv hvg
    exact ⟨i, u, y, a2, a3, a4⟩
theorem SD_dpt (d : Nat → Option Nat) (v x : Nat) : upd (SD d) v (nI x) = SD (dpt d v x) := by
  funext k
  by_cases e : k = v
  · subst e
    rw [pk_us]
    unfold SD
    rw [dpt_s]
    rfl
  · rw [pk_un e]
    unfold SD
    rw [dpt_n e]
theorem SD_same {d : Nat → Option Nat} {v : Nat} {x : Int32} (h : SD d v = x) : upd (SD d) v x = SD d := by
  funext k
  by_cases e : k = v
  · subst e
    rw [pk_us, h]
  · rw [pk_un e]
theorem ZD_dup (D : Nat → Bool) (b : Nat) : upd (ZD D) b (1 &&& 1) = ZD (dup D b) := by
  funext k
  by_cases e : k = b
  · subst e
    rw [pk_us]
    unfold ZD
    rw [dup_s]
    rfl
  · rw [pk_un e]
    unfold ZD
    rw [dup_n e]

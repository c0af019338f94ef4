set_option maxRecDepth 100000
/-! ===== PURE: as many rounds over the ways as there are roofs are enough ===== -/
def rkD (D : Nat → Option Nat) (x : Nat) : Nat → Nat
  | 0 => 0
  | n + 1 => rkD D x n + (match D n with | none => 0 | some y => if y < x then 1 else 0)
theorem rk_le (D : Nat → Option Nat) (x : Nat) : ∀ n, rkD D x n ≤ n := by
  intro n
  induction n with
  | zero => exact Nat.le_refl _
  | succ n ih =>
    unfold rkD
    split
    · omega
    · split <;> omega
theorem rk_mono {D : Nat → Option Nat} {x y : Nat} (h : y ≤ x) : ∀ n, rkD D y n ≤ rkD D x n := by
  intro n
  induction n with
  | zero => exact Nat.le_refl _
  | succ n ih =>
    unfold rkD
    cases D n with
    | none => exact ih
    | some z =>
      dsimp only
      by_cases c : z < y
      · rw [if_pos c, if_pos (by omega)]
        omega
      · rw [if_neg c]
        split <;> omega
theorem rk_lt {D : Nat → Option Nat} {x y u : Nat} (hu : D u = some y) (h : y < x) : ∀ n, u < n → rkD D y n < rkD D x n := by
  intro n
  induction n with
  | zero => intro h; omega
  | succ n ih =>
    intro hn
    unfold rkD
    by_cases e : n = u
    · subst e
      rw [hu]
      dsimp only
      rw [if_neg (Nat.lt_irrefl y), if_pos h]
      have := rk_mono (D := D) (Nat.le_of_lt h) n
      omega
    · have := ih (by omega)
      cases D n with
      | none => exact this
      | some z =>
        dsimp only
        by_cases c : z < y
        · rw [if_pos c, if_pos (by omega)]
          omega
        · rw [if_neg c]
          split <;> omega
theorem rk_max {D : Nat → Option Nat} {x v : Nat} (hv : D v = some x) : ∀ n, v < n → rkD D x n < n := by
  intro n
  induction n with
  | zero => intro h; omega
  | succ n ih =>
    intro hn
    unfold rkD
    by_cases e : n = v
    · subst e
      rw [hv]
      dsimp only
      rw [if_neg (Nat.lt_irrefl x)]
      have := rk_le D x n
      omega
    · have := ih (by omega)
      cases D n with
      | none => dsimp only; omega
      | some z => dsimp only; split <;> omega
/-- the first k ranks have their least sums -/
def UpK (D d : Nat → Option Nat) (nr k : Nat) : Prop := ∀ v x, D v = some x → rkD D x nr ≤ k → ∃ y, d v = some y ∧ y ≤ x
/-- in the next round, the first i ways done -/
def UpE (row : Nat → Int32) (nw : Nat) (D d : Nat → Option Nat) (nr k i : Nat) : Prop := UpK D d nr k ∧ ∀ e, e < i → ∀ u v y, En row nw (-1) e u v → D u = some y → rkD D y nr ≤ k → ∃ z, d v = some z ∧ z ≤ y + ef row e
section UPs
variable {row : Nat → Int32} {nr nw g k i : Nat} {D d d' : Nat → Option Nat}
theorem UpK.start (hw : Ww row nr nw) (hD : IsDist row nw (-1) g D) (hlt : ∀ v x, D v = some x → v < nr) : UpK D (d0 g) nr 0 := by
  intro v x hv hr
  by_cases e : v = g
  · subst e
    exact ⟨0, by unfold d0; rw [if_pos rfl], Nat.zero_le _⟩
  · obtain ⟨i, u, y, hE, hu, hs⟩ := hD.2.2 v x hv e
    have := (hw.2.2.2 i hE.1).2.2.2.2.2.2.1
    have := rk_lt hu (show y < x by omega) nr (hlt u y hu)
    omega
theorem UpE.start (h : UpK D d nr k) : UpE row nw D d nr k 0 := ⟨h, fun e he => absurd he (Nat.not_lt_zero e)⟩
theorem UpK.le (h : UpK D d nr k) (hle : ∀ w z, d w = some z → ∃ z', d' w = some z' ∧ z' ≤ z) : UpK D d' nr k := by
  intro v x hv hr
  obtain ⟨y, hy, hl⟩ := h v x hv hr
  obtain ⟨z, hz, hl2⟩ := hle v y hy
  exact ⟨z, hz, by omega⟩
theorem UpE.le (h : UpE row nw D d nr k i) (hle : ∀ w z, d w = some z → ∃ z', d' w = some z' ∧ z' ≤ z) : UpE row nw D d' nr k i := by
  refine ⟨h.1.le hle, fun e he u v y hE hu hr => ?_⟩
  obtain ⟨z, hz, hl⟩ := h.2 e he u v y hE hu hr
  obtain ⟨z', hz', hl2⟩ := hle v z hz
  exact ⟨z', hz', by omega⟩
theorem UpE.done (hw : Ww row nr nw) (hD : IsDist row nw (-1) g D) (hlt : ∀ v x, D v = some x → v < nr) (hg : d g = some 0) (h : UpE row nw D d nr k nw) : UpK D d nr (k + 1) := by
  intro v x hv hr
  by_cases e : v = g
  · subst e
    exact ⟨0, hg, Nat.zero_le _⟩
  · obtain ⟨i, u, y, hE, hu, hs⟩ := hD.2.2 v x hv e
    have := (hw.2.2.2 i hE.1).2.2.2.2.2.2.1
    have := rk_lt hu (show y < x by omega) nr (hlt u y hu)
    obtain ⟨z, hz, hl⟩ := h.2 i hE.1 u v y hE hu (by omega)
    exact ⟨z, hz, by omega⟩
theorem rx_le {v u f : Nat} : ∀ w z, d w = some z → ∃ z', rx d v u f w = some z' ∧ z' ≤ z := by
  intro w z hz
  unfold rx
  cases hr : rl d v u f with
  | none => exact ⟨z, hz, Nat.le_refl _⟩
  | some t =>
    dsimp only
    by_cases e : w = v
    · subst e
      rw [va_up_self]
      refine ⟨t, rfl, ?_⟩
      unfold rl at hr
      cases hu : d u with
      | none => rw [hu] at hr; cases hr
      | some y =>
        rw [hu, hz] at hr
        dsimp only at hr
        split at hr
        · have := Option.some.inj hr
          omega
        · cases hr
    · rw [va_up_ne _ _ e]
      exact ⟨z, hz, Nat.le_refl _⟩
theorem rx_v {v u f y : Nat} (hu : d u = some y) : ∃ z, rx d v u f v = some z ∧ z ≤ y + f := by
  unfold rx
  cases hr : rl d v u f with
  | none =>
    unfold rl at hr
    rw [hu] at hr
    cases hv : d v with
    | none => rw [hv] at hr; cases hr
    | some x =>
      rw [hv] at hr
      dsimp only at hr
      split at hr
      · cases hr
      · exact ⟨x, hv, by omega⟩
  | some t =>
    dsimp only
    rw [va_up_self]
    refine ⟨t, rfl, ?_⟩
    unfold rl at hr
    rw [hu] at hr
    cases hv : d v with
    | none =>
      rw [hv] at hr
      have := Option.some.inj hr
      omega
    | some x =>
      rw [hv] at hr
      dsimp only at hr
      split at hr
      · have := Option.some.inj hr
        omega
      · cases hr
/-- a way, there and back -/
theorem UpE.step {a b : Nat} (hw : Ww row nr nw) (h : UpE row nw D d nr k i) (hi : i < nw) (ha : a = ea row i) (hb : b = eb row i) : UpE row nw D (rx (rx d b a (ef row i)) a b (ef row i)) nr k (i + 1) := by
  have le2 : ∀ w z, d w = some z → ∃ z', rx (rx d b a (ef row i)) a b (ef row i) w = some z' ∧ z' ≤ z := by
    intro w z hz
    obtain ⟨z1, h1, l1⟩ := rx_le (v := b) (u := a) (f := ef row i) w z hz
    obtain ⟨z2, h2, l2⟩ := rx_le (v := a) (u := b) (f := ef row i) w z1 h1
    exact ⟨z2, h2, by omega⟩
  refine ⟨h.1.le le2, fun e he u v y hE hu hr => ?_⟩
  by_cases c : e = i
  · subst c
    obtain ⟨y1, hy1, hl1⟩ := h.1 u y hu hr
    rcases hE.2.2 with ⟨e1, e2⟩ | ⟨e1, e2⟩
    · -- from a to b
      rw [← ha] at e1
      rw [← hb] at e2
      subst e1
      subst e2
      obtain ⟨z1, h1, l1⟩ := rx_v (v := b) (f := ef row e) hy1
      obtain ⟨z2, h2, l2⟩ := rx_le (v := a) (u := b) (f := ef row e) b z1 h1
      exact ⟨z2, h2, by omega⟩
    · rw [← ha] at e1
      rw [← hb] at e2
      subst e1
      subst e2
      obtain ⟨z1, h1, l1⟩ := rx_le (v := b) (u := a) (f := ef row e) b y1 hy1
      obtain ⟨z2, h2, l2⟩ := rx_v (v := a) (f := ef row e) h1
      exact ⟨z2, h2, by omega⟩
  · obtain ⟨z, hz, hl⟩ := h.2 e (by omega) u v y hE hu hr
    obtain ⟨z', hz', hl2⟩ := le2 v z hz
    exact ⟨z', hz', by omega⟩
theorem Bf.rxk {wo : Int32} {u v : Nat} (hw : Ww row nr nw) (h : Bf row nr nw wo g d) (hE : En row nw wo i u v) : Bf row nr nw wo g (rx d v u (ef row i)) := by
  unfold rx
  cases hr : rl d v u (ef row i) with
  | none => exact h
  | some z => exact (h.step hw hE hr).1
theorem Bf.ge {wo : Int32} (hw : Ww row nr nw) (hD : IsDist row nw wo g D) (h : Bf row nr nw wo g d) : ∀ n v x, x ≤ n → d v = some x → ∃ y, D v = some y ∧ y ≤ x := by
  intro n
  induction n with
  | zero =>
    intro v x hx hv
    by_cases e : v = g
    · subst e
      exact ⟨0, hD.1, Nat.zero_le _⟩
    · obtain ⟨i, u, y, hE, hu, hs⟩ := h.2.2.2 v x hv e
      have := (hw.2.2.2 i hE.1).2.2.2.2.2.2.1
      omega
  | succ n ih =>
    intro v x hx hv
    by_cases e : v = g
    · subst e
      exact ⟨0, hD.1, Nat.zero_le _⟩
    · obtain ⟨i, u, y, hE, hu, hs⟩ := h.2.2.2 v x hv e
      have := (hw.2.2.2 i hE.1).2.2.2.2.2.2.1
      obtain ⟨y', h1, h2⟩ := ih u y (by omega) hu
      obtain ⟨z, h3, h4⟩ := hD.2.1 i u v y' hE h1
      exact ⟨z, h3, by omega⟩
theorem UpK.eq (hw : Ww row nr nw) (hD : IsDist row nw (-1) g D) (hlt : ∀ v x, D v = some x → v < nr) (hB : Bf row nr nw (-1) g d) (h : UpK D d nr nr) : d = D := by
  funext v
  cases hd : d v with
  | none =>
    cases hv : D v with
    | none => rfl
    | some x =>
      obtain ⟨y, hy, -⟩ := h v x hv (Nat.le_of_lt (rk_max hv nr (hlt v x hv)))
      rw [hd] at hy
      cases hy
  | some x =>
    obtain ⟨y, hy, hl⟩ := hB.ge hw hD x v x (Nat.le_refl _) hd
    obtain ⟨z, hz, hl2⟩ := h v y hy (Nat.le_of_lt (rk_max hy nr (hlt v y hy)))
    rw [hd] at hz
    cases hz
    rw [hy]
    congr 1
    omega
end UPs
/-- as betters does it in the array -/
def btF (F : Nat → Int32) (u v : Nat) (f : Int32) : Nat → Int32 := if F u = -1 ∨ ¬ F v = -1 ∧ F v ≤ F u + f then F else upd F v (F u + f)
theorem bt_rx {F : Nat → Int32} {d : Nat → Option Nat} {nr u v f : Nat} {fI : Int32} (hf : fI = nI f) (hf9 : f ≤ 9) (hF : ∀ k, k < nr → F k = dI (d k)) (hu : u < nr) (hv : v < nr) (hb : ∀ k x, d k = some x → x ≤ 81) : ∀ k, k < nr → btF F u v fI k = dI (rx d v u f k) := by
  intro k hk
  unfold btF rx
  by_cases c : F u = -1 ∨ ¬ F v = -1 ∧ F v ≤ F u + fI
  · rw [if_pos c, near_t hf hf9 (hF u hu) (hF v hv) hb c]
    exact hF k hk
  · obtain ⟨z, hz, hs⟩ := near_f hf hf9 (hF u hu) (hF v hv) hb c
    rw [if_neg c, hz]
    dsimp only
    by_cases e : k = v
    · subst e
      rw [pk_us, va_up_self, hs]
      rfl
    · rw [pk_un e, va_up_ne _ _ e]
      exact hF k hk

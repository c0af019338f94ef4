set_option maxRecDepth 100000
/-! ===== routes: both ways alike; the table; what laying may cost ===== -/
theorem dist_le {row : Nat → Int32} {nr nw : Nat} {wo : Int32} {g v : Nat} (hw : Ww row nr nw) (hg : g < 10) (hv : v < 10) : ∀ n u y z, y ≤ n → dist row nw wo g u = some y → dist row nw wo v u = some z → ∃ t, dist row nw wo v g = some t ∧ t ≤ z + y := by
  have dg := (dist_is (wo := wo) hw hg).1
  have dv := (dist_is (wo := wo) hw hv).1
  intro n
  induction n with
  | zero =>
    intro u y z hy h1 h2
    by_cases e : u = g
    · subst e
      exact ⟨z, h2, by omega⟩
    · obtain ⟨i, u', y', hE, hu, hxy⟩ := dg.2.2 u y h1 e
      have := (hw.2.2.2 i hE.1).2.2.2.2.2.2.1
      omega
  | succ n ih =>
    intro u y z hy h1 h2
    by_cases e : u = g
    · subst e
      exact ⟨z, h2, by omega⟩
    · obtain ⟨i, u', y', hE, hu, hxy⟩ := dg.2.2 u y h1 e
      have h3 := (hw.2.2.2 i hE.1).2.2.2.2.2.2.1
      obtain ⟨w, hw1, hw2⟩ := dv.2.1 i u u' z hE.symm h2
      obtain ⟨t, t1, t2⟩ := ih u' y' w (by omega) hu hw1
      exact ⟨t, t1, by omega⟩
/-- there and back it is equally far -/
theorem dist_symm {row : Nat → Int32} {nr nw : Nat} {wo : Int32} {g v : Nat} (hw : Ww row nr nw) (hg : g < 10) (hv : v < 10) : dist row nw wo g v = dist row nw wo v g := by
  have dg := (dist_is (wo := wo) hw hg).1
  have dv := (dist_is (wo := wo) hw hv).1
  cases h : dist row nw wo g v with
  | none =>
    cases h2 : dist row nw wo v g with
    | none => rfl
    | some y =>
      obtain ⟨t, t1, -⟩ := dist_le hw hv hg y g y 0 (Nat.le_refl _) h2 dg.1
      rw [h] at t1
      cases t1
  | some x =>
    obtain ⟨t, t1, t2⟩ := dist_le hw hg hv x v x 0 (Nat.le_refl _) h dv.1
    obtain ⟨t', t3, t4⟩ := dist_le hw hv hg t g t 0 (Nat.le_refl _) t1 dg.1
    rw [h] at t3
    cases t3
    rw [t1]
    congr 1
    omega
/-- the finished table lies among what is never written -/
noncomputable abbrev tbF (row : Nat → Int32) (nr nw : Nat) : Nat → Int32 := fun j => dI (dist row nw (-1) (j / nr) (j % nr))
def Rt (g : gg_G) (P : gg_S) (rt : Nat) (row : Nat → Int32) (nr nw : Nat) : Prop := (rt, gg_ai g (nr * nr) (tbF row nr nw)) ∈ P
theorem tb_at {row : Nat → Int32} {nr nw a b : Nat} (hb : b < nr) : tbF row nr nw (nr * a + b) = dI (dist row nw (-1) a b) := by
  show dI (dist row nw (-1) ((nr * a + b) / nr) ((nr * a + b) % nr)) = _
  rw [Nat.mul_add_div (by omega), Nat.div_eq_of_lt hb, Nat.add_zero, Nat.mul_add_mod, Nat.mod_eq_of_lt hb]
theorem tb_of {row : Nat → Int32} {nr nw : Nat} {F : Nat → Int32} (h : ∀ a b, a < nr → b < nr → F (nr * a + b) = dI (dist row nw (-1) a b)) : ∀ j, j < nr * nr → F j = tbF row nr nw j := by
  intro j hj
  have h0 : 0 < nr := Nat.pos_of_ne_zero fun e => by rw [e] at hj; omega
  have h1 : j / nr < nr := Nat.div_lt_of_lt_mul hj
  have h2 : j % nr < nr := Nat.mod_lt _ h0
  have := h _ _ h1 h2
  rw [Nat.div_add_mod] at this
  exact this
/-- what lies in one lies in the other -/
abbrev Sub (P P' : gg_S) : Prop := ∀ q, q ∈ P → q ∈ P'
def lyC : Option Nat → Nat | none => 360 | some _ => 0
def lyS : Option Nat → Nat | none => 1500 | some _ => 0
theorem Po_mono {g : gg_G} {P P' : gg_S} {sn wo : Nat → Nat} {row : Nat → Int32} {nw nt : Nat} (h : Po g P sn wo row nw nt) (hP : ∀ q ∈ P, q ∈ P') : Po g P' sn wo row nw nt := ⟨fun t ht => hP _ (h.1 t ht), fun i hi => hP _ (h.2 i hi)⟩
/-! what a method may cost that asks for routes if a holds, and what it leaves -/
noncomputable def qk (a : Prop) (rt : Option Nat) : Nat := @ite Nat a (Classical.propDecidable a) (lyC rt) 0
noncomputable def qs (a : Prop) (rt : Option Nat) : Nat := @ite Nat a (Classical.propDecidable a) (lyS rt) 0
def Qp (a : Prop) (rt rt2 : Option Nat) : Prop := (a → ∃ b, rt2 = some b) ∧ (¬ a → rt2 = rt)
theorem qk_y {a : Prop} {rt : Option Nat} (h : a) : qk a rt = lyC rt := @if_pos a (Classical.propDecidable a) h Nat (lyC rt) 0
theorem qs_y {a : Prop} {rt : Option Nat} (h : a) : qs a rt = lyS rt := @if_pos a (Classical.propDecidable a) h Nat (lyS rt) 0
theorem qk_n {a : Prop} {rt : Option Nat} (h : ¬ a) : qk a rt = 0 := @if_neg a (Classical.propDecidable a) h Nat (lyC rt) 0
theorem qs_n {a : Prop} {rt : Option Nat} (h : ¬ a) : qs a rt = 0 := @if_neg a (Classical.propDecidable a) h Nat (lyS rt) 0
theorem Qp_y {a : Prop} {rt : Option Nat} {b : Nat} (h : a) : Qp a rt (some b) := ⟨fun _ => ⟨b, rfl⟩, fun q => absurd h q⟩
theorem Qp_n {a : Prop} {rt : Option Nat} (h : ¬ a) : Qp a rt rt := ⟨fun q => absurd q h, fun _ => rfl⟩
theorem qk_le {a : Prop} {rt : Option Nat} : qk a rt ≤ lyC rt := by
  by_cases h : a
  · rw [qk_y h]; exact Nat.le_refl _
  · rw [qk_n h]; exact Nat.zero_le _
theorem qs_le {a : Prop} {rt : Option Nat} : qs a rt ≤ lyS rt := by
  by_cases h : a
  · rw [qs_y h]; exact Nat.le_refl _
  · rw [qs_n h]; exact Nat.zero_le _
/-- one that asks within one that asks: the room before, and after -/
theorem qk_room {a b : Prop} (hab : b → a) {rt0 rt : Option Nat} (h : lyC rt ≤ lyC rt0) (h' : lyS rt ≤ lyS rt0) : (qk a rt0 - lyC rt) + qk b rt ≤ qk a rt0 ∧ (qs a rt0 - lyS rt) + qs b rt ≤ qs a rt0 := by
  by_cases hb : b
  · rw [qk_y hb, qk_y (hab hb), qs_y hb, qs_y (hab hb)]
    omega
  · rw [qk_n hb, qs_n hb]
    omega
theorem qk_in {a b : Prop} (hab : b → a) {rt0 rt rt2 : Option Nat} (h : lyC rt ≤ lyC rt0) (h' : lyS rt ≤ lyS rt0) (hp : Qp b rt rt2) : (qk a rt0 - lyC rt) + qk b rt ≤ qk a rt0 - lyC rt2 ∧ (qs a rt0 - lyS rt) + qs b rt ≤ qs a rt0 - lyS rt2 ∧ lyC rt2 ≤ lyC rt0 ∧ lyS rt2 ≤ lyS rt0 := by
  by_cases hb : b
  · obtain ⟨z, rfl⟩ := hp.1 hb
    rw [qk_y hb, qk_y (hab hb), qs_y hb, qs_y (hab hb)]
    have h1 : lyC (some z) = 0 := rfl
    have h2 : lyS (some z) = 0 := rfl
    omega
  · rw [hp.2 hb, qk_n hb, qs_n hb]
    omega

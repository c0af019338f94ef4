/-! ===== least sums over the ways: what they are, that there is one answer ===== -/
/-- an answer as the code has it: -1 for none -/
def dI : Option Nat → Int32
  | none => -1
  | some x => nI x
theorem dI_none : dI none = -1 := rfl
theorem dI_some (x : Nat) : dI (some x) = nI x := rfl
theorem nI_nm1 {x : Nat} (h : x < 2 ^ 31) : ¬ nI x = -1 := by
  intro q
  have := congrArg Int32.toInt q
  rw [nI_toInt h] at this
  have h2 : (-1 : Int32).toInt = -1 := by decide
  omega
theorem dI_inj {a b : Option Nat} (ha : ∀ x, a = some x → x < 2 ^ 31) (hb : ∀ x, b = some x → x < 2 ^ 31) (h : dI a = dI b) : a = b := by
  cases a with
  | none =>
    cases b with
    | none => rfl
    | some y => exact absurd h.symm (nI_nm1 (hb y rfl))
  | some x =>
    cases b with
    | none => exact absurd h (nI_nm1 (ha x rfl))
    | some y =>
      have := (nI_eq (ha x rfl) (hb y rfl)).mp h
      rw [this]
/-- a way's ends and how far, as naturals -/
def ea (row : Nat → Int32) (i : Nat) : Nat := (row (160 + 3 * i)).toNatClampNeg
def eb (row : Nat → Int32) (i : Nat) : Nat := (row (160 + 3 * i + 1)).toNatClampNeg
def ef (row : Nat → Int32) (i : Nat) : Nat := (row (160 + 3 * i + 2)).toNatClampNeg
/-- the ways are ways: of nr roofs -/
def Ww (row : Nat → Int32) (nr nw : Nat) : Prop := row 1 = nI nw ∧ nw ≤ 20 ∧ nr ≤ 10 ∧ ∀ i, i < nw → row (160 + 3 * i) = nI (ea row i) ∧ row (160 + 3 * i + 1) = nI (eb row i) ∧ row (160 + 3 * i + 2) = nI (ef row i) ∧ ea row i < nr ∧ eb row i < nr ∧ ea row i ≠ eb row i ∧ 1 ≤ ef row i ∧ ef row i ≤ 9
/-- u and v are the ends of way i, that counts -/
def En (row : Nat → Int32) (nw : Nat) (wo : Int32) (i u v : Nat) : Prop := i < nw ∧ ¬ nI i = wo ∧ ((ea row i = u ∧ eb row i = v) ∨ (ea row i = v ∧ eb row i = u))
theorem En.symm {row : Nat → Int32} {nw : Nat} {wo : Int32} {i u v : Nat} (h : En row nw wo i u v) : En row nw wo i v u := ⟨h.1, h.2.1, h.2.2.symm⟩
/-- d holds the least sums from g -/
def IsDist (row : Nat → Int32) (nw : Nat) (wo : Int32) (g : Nat) (d : Nat → Option Nat) : Prop :=
  d g = some 0 ∧ (∀ i u v x, En row nw wo i u v → d u = some x → ∃ y, d v = some y ∧ y ≤ x + ef row i) ∧ (∀ v x, d v = some x → v ≠ g → ∃ i u y, En row nw wo i u v ∧ d u = some y ∧ y + ef row i = x)
theorem IsDist.le {row : Nat → Int32} {nr nw : Nat} {wo : Int32} {g : Nat} (hw : Ww row nr nw) {d d' : Nat → Option Nat} (h : IsDist row nw wo g d) (h' : IsDist row nw wo g d') : ∀ (n v x : Nat), x ≤ n → d' v = some x → ∃ y, d v = some y ∧ y ≤ x := by
  intro n
  induction n with
  | zero =>
    intro v x hx hv
    by_cases e : v = g
    · subst e
      exact ⟨0, h.1, Nat.zero_le _⟩
    · obtain ⟨i, u, y, hE, hu, hxy⟩ := h'.2.2 v x hv e
      have := (hw.2.2.2 i hE.1).2.2.2.2.2.2.1
      omega
  | succ n ih =>
    intro v x hx hv
    by_cases e : v = g
    · subst e
      exact ⟨0, h.1, Nat.zero_le _⟩
    · obtain ⟨i, u, y, hE, hu, hxy⟩ := h'.2.2 v x hv e
      have h1 := (hw.2.2.2 i hE.1).2.2.2.2.2.2.1
      obtain ⟨z, hz, hzy⟩ := ih u y (by omega) hu
      obtain ⟨w, hw1, hw2⟩ := h.2.1 i u v z hE hz
      exact ⟨w, hw1, by omega⟩
theorem IsDist.uniq {row : Nat → Int32} {nr nw : Nat} {wo : Int32} {g : Nat} (hw : Ww row nr nw) {d d' : Nat → Option Nat} (h : IsDist row nw wo g d) (h' : IsDist row nw wo g d') : d = d' := by
  funext v
  cases hd : d v with
  | none =>
    cases hd' : d' v with
    | none => rfl
    | some x =>
      obtain ⟨y, hy, -⟩ := h.le hw h' x v x (Nat.le_refl _) hd'
      rw [hd] at hy
      cases hy
  | some x =>
    obtain ⟨y, hy, hyx⟩ := h'.le hw h x v x (Nat.le_refl _) hd
    obtain ⟨z, hz, hzy⟩ := h.le hw h' y v y (Nat.le_refl _) hy
    rw [hd] at hz
    cases hz
    rw [hy]
    congr 1
    omega
/-- THE least sums from g, over the ways but wo -/
noncomputable def dist (row : Nat → Int32) (nw : Nat) (wo : Int32) (g : Nat) : Nat → Option Nat := Classical.epsilon (fun d => IsDist row nw wo g d)
theorem dist_of {row : Nat → Int32} {nr nw : Nat} {wo : Int32} {g : Nat} (hw : Ww row nr nw) {d : Nat → Option Nat} (h : IsDist row nw wo g d) : dist row nw wo g = d :=
  IsDist.uniq hw (Classical.epsilon_spec (p := fun d => IsDist row nw wo g d) ⟨d, h⟩) h
/-! going over the ways again and again -/
/-- what v becomes by way of u, if it becomes less -/
def rl (d : Nat → Option Nat) (v u f : Nat) : Option Nat := match d u, d v with
  | none, _ => none
  | some y, none => some (y + f)
  | some y, some x => if y + f < x then some (y + f) else none
def rx (d : Nat → Option Nat) (v u f : Nat) : Nat → Option Nat := match rl d v u f with
  | none => d
  | some z => va_up d v (some z)
def cF (d : Nat → Option Nat) : Nat → Nat
  | 0 => 0
  | n + 1 => cF d n + (match d n with | none => 0 | some _ => 1)
def mU (d : Nat → Option Nat) : Nat → Nat
  | 0 => 0
  | n + 1 => mU d n + (match d n with | none => 100 | some x => x)
theorem cF_le (d : Nat → Option Nat) : ∀ n, cF d n ≤ n := by
  intro n
  induction n with
  | zero => exact Nat.le_refl _
  | succ n ih =>
    unfold cF
    split <;> omega
theorem cF_up (d : Nat → Option Nat) (v z : Nat) : ∀ n, cF (va_up d v (some z)) n = cF d n + (if v < n ∧ d v = none then 1 else 0) := by
  intro n
  induction n with
  | zero => simp [cF]
  | succ n ih =>
    unfold cF
    rw [ih]
    by_cases e : n = v
    · subst e
      rw [va_up_self, if_neg (by omega)]
      cases h : d n <;> simp
    · rw [va_up_ne _ _ e]
      by_cases h : v < n ∧ d v = none
      · rw [if_pos h, if_pos ⟨by omega, h.2⟩]
        omega
      · rw [if_neg h, if_neg (fun q => h ⟨by omega, q.2⟩)]
        rfl
theorem mU_same (d : Nat → Option Nat) (v : Nat) (x : Option Nat) : ∀ n, n ≤ v → mU (va_up d v x) n = mU d n := by
  intro n
  induction n with
  | zero => intro _; rfl
  | succ n ih =>
    intro h
    unfold mU
    rw [ih (by omega), va_up_ne _ _ (by omega)]
theorem mU_lt (d : Nat → Option Nat) (v z : Nat) (hz : ∀ x, d v = some x → z < x) (h0 : d v = none → z < 100) : ∀ n, v < n → mU (va_up d v (some z)) n < mU d n := by
  intro n
  induction n with
  | zero => intro h; omega
  | succ n ih =>
    intro h
    unfold mU
    by_cases e : n = v
    · subst e
      rw [va_up_self, mU_same d n _ n (Nat.le_refl _)]
      cases hd : d n with
      | none => have := h0 hd; dsimp only; omega
      | some x => have := hz x hd; dsimp only; omega
    · rw [va_up_ne _ _ e]
      have := ih (by omega)
      omega
/-- what holds while it goes over the ways -/
def Bf (row : Nat → Int32) (nr nw : Nat) (wo : Int32) (g : Nat) (d : Nat → Option Nat) : Prop :=
  d g = some 0 ∧ (∀ v x, d v = some x → v < 10) ∧ (∀ v x, d v = some x → x + 9 ≤ 9 * cF d 10) ∧ (∀ v x, d v = some x → v ≠ g → ∃ i u y, En row nw wo i u v ∧ d u = some y ∧ y + ef row i ≤ x)
theorem Bf.lt {row : Nat → Int32} {nr nw : Nat} {wo : Int32} {g : Nat} {d : Nat → Option Nat} (h : Bf row nr nw wo g d) {v x : Nat} (hv : d v = some x) : x ≤ 81 := by
  have h1 := h.2.2.1 v x hv
  have h2 := cF_le d 10
  omega
theorem Bf.step {row : Nat → Int32} {nr nw : Nat} {wo : Int32} {g : Nat} {d : Nat → Option Nat} (hw : Ww row nr nw) (h : Bf row nr nw wo g d) {i u v z : Nat} (hE : En row nw wo i u v) (hz : rl d v u (ef row i) = some z) : Bf row nr nw wo g (va_up d v (some z)) ∧ mU (va_up d v (some z)) 10 < mU d 10 := by
  have hi := hw.2.2.2 i hE.1
  have hn10 := hw.2.2.1
  have hv10 : v < 10 := by rcases hE.2.2 with ⟨h1, h2⟩ | ⟨h1, h2⟩ <;> omega
  have huv : u ≠ v := by rcases hE.2.2 with ⟨h1, h2⟩ | ⟨h1, h2⟩ <;> omega
  unfold rl at hz
  cases hu : d u with
  | none => rw [hu] at hz; cases hz
  | some y =>
    rw [hu] at hz
    have hy81 := h.lt hu
    have hyc := h.2.2.1 u y hu
    have hzv : z = y + ef row i ∧ ∀ x, d v = some x → z < x := by
      cases hv : d v with
      | none =>
        rw [hv] at hz
        dsimp only at hz
        exact ⟨(Option.some.inj hz).symm, fun x q => by cases q⟩
      | some x =>
        rw [hv] at hz
        dsimp only at hz
        split at hz
        · refine ⟨(Option.some.inj hz).symm, fun x' q => ?_⟩
          cases q
          have := Option.some.inj hz
          omega
        · cases hz
    have hvg : v ≠ g := by
      intro e
      subst e
      have := hzv.2 0 h.1
      omega
    refine ⟨⟨?_, ?_, ?_, ?_⟩, mU_lt d v z hzv.2 (fun _ => by omega) 10 hv10⟩
    · rw [va_up_ne _ _ (Ne.symm hvg)]; exact h.1
    · intro w x hx
      by_cases e : w = v
      · omega
      · rw [va_up_ne _ _ e] at hx; exact h.2.1 w x hx
    · intro w x hx
      rw [cF_up]
      by_cases e : w = v
      · subst e
        rw [va_up_self] at hx
        cases hx
        cases hd : d w with
        | none => rw [if_pos ⟨hv10, rfl⟩]; omega
        | some x => have h1 := hzv.2 x hd; have h2 := h.2.2.1 w x hd; omega
      · rw [va_up_ne _ _ e] at hx
        have := h.2.2.1 w x hx
        omega
    · intro w x hx hwg
      by_cases e : w = v
      · subst e
        rw [va_up_self] at hx
        cases hx
        exact ⟨i, u, y, hE, by rw [va_up_ne _ _ huv]; exact hu, by omega⟩
      · rw [va_up_ne _ _ e] at hx
        obtain ⟨i', u', y', h1, h2, h3⟩ := h.2.2.2 w x hx hwg
        by_cases e2 : u' = v
        · subst e2
          have := hzv.2 y' h2
          exact ⟨i', u', z, h1, by rw [va_up_self], by omega⟩
        · exact ⟨i', u', y', h1, by rw [va_up_ne _ _ e2]; exact h2, h3⟩
/-- nothing becomes less: these are the least sums -/
theorem Bf.done {row : Nat → Int32} {nr nw : Nat} {wo : Int32} {g : Nat} {d : Nat → Option Nat} (h : Bf row nr nw wo g d) (hs : ∀ i u v, En row nw wo i u v → rl d v u (ef row i) = none) : IsDist row nw wo g d := by
  refine ⟨h.1, ?_, ?_⟩
  · intro i u v x hE hu
    have h1 := hs i u v hE
    unfold rl at h1
    rw [hu] at h1
    cases hv : d v with
    | none => rw [hv] at h1; cases h1
    | some y =>
      rw [hv] at h1
      dsimp only at h1
      split at h1
      · cases h1
      · exact ⟨y, rfl, by omega⟩
  · intro v x hv hvg
    obtain ⟨i, u, y, hE, hu, hxy⟩ := h.2.2.2 v x hv hvg
    have h1 := hs i u v hE
    unfold rl at h1
    rw [hu, hv] at h1
    dsimp only at h1
    split at h1
    · cases h1
    · exact ⟨i, u, y, hE, hu, by omega⟩
/-- the start: g alone -/
def d0 (g : Nat) : Nat → Option Nat := fun k => if k = g then some 0 else none
theorem Bf.start {row : Nat → Int32} {nr nw : Nat} {wo : Int32} {g : Nat} (hg : g < 10) : Bf row nr nw wo g (d0 g) := by
  have hc : 1 ≤ cF (d0 g) 10 := by
    have e : d0 g = va_up (fun _ => none) g (some 0) := by
      funext k
      by_cases q : k = g <;> simp [d0, va_up, q]
    rw [e, cF_up, if_pos ⟨hg, rfl⟩]
    omega
  refine ⟨by simp [d0], ?_, ?_, ?_⟩
  · intro v x hv
    by_cases e : v = g
    · omega
    · simp [d0, e] at hv
  · intro v x hv
    by_cases e : v = g
    · simp [d0, e] at hv
      omega
    · simp [d0, e] at hv
  · intro v x hv hvg
    simp [d0, hvg] at hv
theorem dist_lt {row : Nat → Int32} {nr nw : Nat} {wo : Int32} {g : Nat} (hw : Ww row nr nw) {d : Nat → Option Nat} (hb : Bf row nr nw wo g d) (h : IsDist row nw wo g d) {v x : Nat} (hv : dist row nw wo g v = some x) : x ≤ 81 := by
  rw [dist_of hw h] at hv
  exact hb.lt hv
theorem Bf.ends {row : Nat → Int32} {nr nw : Nat} {wo : Int32} {g : Nat} (hw : Ww row nr nw) : ∀ (n : Nat) (d : Nat → Option Nat), mU d 10 ≤ n → Bf row nr nw wo g d → ∃ d', Bf row nr nw wo g d' ∧ IsDist row nw wo g d' := by
  intro n
  induction n with
  | zero =>
    intro d hn h
    refine ⟨d, h, h.done fun i u v hE => ?_⟩
    cases hz : rl d v u (ef row i) with
    | none => rfl
    | some z => have := (h.step hw hE hz).2; omega
  | succ n ih =>
    intro d hn h
    by_cases hs : ∀ i u v, En row nw wo i u v → rl d v u (ef row i) = none
    · exact ⟨d, h, h.done hs⟩
    · simp only [Classical.not_forall] at hs
      obtain ⟨i, u, v, hE, hz⟩ := hs
      cases hq : rl d v u (ef row i) with
      | none => exact absurd hq hz
      | some z =>
        obtain ⟨h1, h2⟩ := h.step hw hE hq
        exact ih _ (by omega) h1
theorem dist_is {row : Nat → Int32} {nr nw : Nat} {wo : Int32} {g : Nat} (hw : Ww row nr nw) (hg : g < 10) : IsDist row nw wo g (dist row nw wo g) ∧ Bf row nr nw wo g (dist row nw wo g) := by
  obtain ⟨d', h1, h2⟩ := Bf.ends (wo := wo) (g := g) hw (mU (d0 g) 10) (d0 g) (Nat.le_refl _) (Bf.start hg)
  rw [dist_of hw h2]
  exact ⟨h2, h1⟩
theorem i32_a (x y : Int32) : x + y - x = y := by grind
theorem i32_b (x y : Int32) : x + y - y = x := by grind
/-- the code's test, where v doesn't become less -/
theorem near_t {sums : Nat → Int32} {d : Nat → Option Nat} {u v f : Nat} {fI : Int32} (hf : fI = nI f) (hf9 : f ≤ 9) (hu : sums u = dI (d u)) (hv : sums v = dI (d v)) (hb : ∀ k x, d k = some x → x ≤ 81) (h : sums u = -1 ∨ ¬ sums v = -1 ∧ sums v ≤ sums u + fI) : rl d v u f = none := by
  unfold rl
  rw [hu, hv, hf] at h
  cases hdu : d u with
  | none => rfl
  | some y =>
    rw [hdu] at h
    have hy := hb u y hdu
    have hn : ¬ dI (some y) = -1 := nI_nm1 (by omega)
    rcases h with h | ⟨h1, h2⟩
    · exact absurd h hn
    · cases hdv : d v with
      | none => rw [hdv] at h1; exact absurd rfl h1
      | some x =>
        have hx := hb v x hdv
        rw [hdv] at h2
        rw [dI_some, dI_some, nI_add, nI_leI (by omega) (by omega)] at h2
        dsimp only
        rw [if_neg (by omega)]
theorem near_f {sums : Nat → Int32} {d : Nat → Option Nat} {u v f : Nat} {fI : Int32} (hf : fI = nI f) (hf9 : f ≤ 9) (hu : sums u = dI (d u)) (hv : sums v = dI (d v)) (hb : ∀ k x, d k = some x → x ≤ 81) (h : ¬ (sums u = -1 ∨ ¬ sums v = -1 ∧ sums v ≤ sums u + fI)) : ∃ z, rl d v u f = some z ∧ sums u + fI = nI z := by
  unfold rl
  rw [hu, hv, hf] at h
  rw [hu, hf]
  cases hdu : d u with
  | none => rw [hdu] at h; exact absurd (Or.inl rfl) h
  | some y =>
    rw [hdu] at h
    have hy := hb u y hdu
    refine ⟨y + f, ?_, by rw [dI_some, nI_add]⟩
    cases hdv : d v with
    | none => rfl
    | some x =>
      have hx := hb v x hdv
      rw [hdv] at h
      dsimp only
      refine if_pos (Nat.lt_of_not_le fun q => h (Or.inr ⟨nI_nm1 (by omega), ?_⟩))
      rw [dI_some, dI_some, nI_add, nI_leI (by omega) (by omega)]
      exact q
/-- what a step of the code over a way leaves -/
def Nr (row : Nat → Int32) (nr nw : Nat) (wo : Int32) (g : Nat) (d : Nat → Option Nat) (i u v : Nat) (r : Int32) (sums1 : Nat → Int32) (d1 : Nat → Option Nat) : Prop :=
  (∀ k, k < 10 → sums1 k = dI (d1 k)) ∧ Bf row nr nw wo g d1 ∧ (r = 0 ∧ d1 = d ∧ rl d v u (ef row i) = none ∨ r = 1 ∧ mU d1 10 < mU d 10)
theorem Nr_t {row : Nat → Int32} {nr nw : Nat} {wo : Int32} {g : Nat} {d : Nat → Option Nat} {sums : Nat → Int32} {i u v : Nat} (hw : Ww row nr nw) (hB : Bf row nr nw wo g d) (hs : ∀ k, k < 10 → sums k = dI (d k)) (hE : En row nw wo i u v) (hu : u < 10) (hv : v < 10) (h : sums u = -1 ∨ ¬ sums v = -1 ∧ sums v ≤ sums u + row (160 + 3 * i + 2)) : Nr row nr nw wo g d i u v 0 sums d := by
  have hi := hw.2.2.2 i hE.1
  exact ⟨hs, hB, Or.inl ⟨rfl, rfl, near_t hi.2.2.1 hi.2.2.2.2.2.2.2 (hs u hu) (hs v hv) (fun k x q => hB.lt q) h⟩⟩
theorem Nr_f {row : Nat → Int32} {nr nw : Nat} {wo : Int32} {g : Nat} {d : Nat → Option Nat} {sums : Nat → Int32} {i u v : Nat} (hw : Ww row nr nw) (hB : Bf row nr nw wo g d) (hs : ∀ k, k < 10 → sums k = dI (d k)) (hE : En row nw wo i u v) (hu : u < 10) (hv : v < 10) (h : ¬ (sums u = -1 ∨ ¬ sums v = -1 ∧ sums v ≤ sums u + row (160 + 3 * i + 2))) : ∃ d1, Nr row nr nw wo g d i u v 1 (upd sums v (sums u + row (160 + 3 * i + 2))) d1 := by
  have hi := hw.2.2.2 i hE.1
  obtain ⟨z, hz, hs2⟩ := near_f hi.2.2.1 hi.2.2.2.2.2.2.2 (hs u hu) (hs v hv) (fun k x q => hB.lt q) h
  obtain ⟨h1, h2⟩ := hB.step hw hE hz
  refine ⟨va_up d v (some z), fun k hk => ?_, h1, Or.inr ⟨rfl, h2⟩⟩
  by_cases e : k = v
  · subst e
    rw [pk_us, va_up_self, hs2]
    rfl
  · rw [pk_un e, va_up_ne _ _ e]
    exact hs k hk
/-- an array's cell, by the places that it has -/
theorem gg_ai_congr {g : gg_G} {n : Nat} {f f' : Nat → Int32} (h : ∀ k, k < n → f k = f' k) : gg_ai g n f = gg_ai g n f' := by
  show (Sum.inr (arrV _ _ _) : gg_E) = Sum.inr (arrV _ _ _)
  congr 1
  unfold arrV
  congr 1
  exact Array.ext (by simp) (fun i h1 h2 => by simp at h1; simp [h i h1])
/-- a tune's sender, goal, number of notes, where it is, as naturals -/
def ts (row : Nat → Int32) (t : Nat) : Nat := (row (220 + 27 * t)).toNatClampNeg
def tg (row : Nat → Int32) (t : Nat) : Nat := (row (220 + 27 * t + 1)).toNatClampNeg
def tno (row : Nat → Int32) (t : Nat) : Nat := (row (220 + 27 * t + 2)).toNatClampNeg
def ta (row : Nat → Int32) (t : Nat) : Nat := (row (220 + 27 * t + 4)).toNatClampNeg
/-- the tunes are tunes -/
def Tw (row : Nat → Int32) (nr nt : Nat) : Prop := row 2 = nI nt ∧ nt ≤ 30 ∧ nr ≤ 10 ∧ ∀ t, t < nt → row (220 + 27 * t) = nI (ts row t) ∧ row (220 + 27 * t + 1) = nI (tg row t) ∧ row (220 + 27 * t + 2) = nI (tno row t) ∧ row (220 + 27 * t + 4) = nI (ta row t) ∧ ts row t < nr ∧ tg row t < nr ∧ ta row t < nr ∧ ts row t ≠ tg row t ∧ 1 ≤ tno row t ∧ tno row t ≤ 8
/-- the way's other end -/
def eo (row : Nat → Int32) (i v : Nat) : Nat := ea row i + eb row i - v
/-- the next roof on the way to the goal, of the first i ways, D the least sums -/
def nxs (row : Nat → Int32) (D : Nat → Option Nat) (v : Nat) : Nat → Option Nat
  | 0 => none
  | i + 1 => if (ea row i = v ∨ eb row i = v) ∧ (∃ x, D (eo row i v) = some x ∧ D v = some (x + ef row i)) ∧ (∀ b, nxs row D v i = some b → eo row i v < b) then some (eo row i v) else nxs row D v i

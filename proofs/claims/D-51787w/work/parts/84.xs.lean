set_option maxRecDepth 100000
/-! ===== PURE: what is reached without a way; pairs without a route ===== -/
theorem bcn_or : ∀ x, x < 1024 → ∀ i, i < 10 → bcn (x ||| 2 ^ i) = bcn x + (if x.testBit i then 0 else 1) := by decide +kernel
theorem bcn_le (x : Nat) : bcn x ≤ 10 := cB_le _ 10
def Rm (row : Nat → Int32) (nw : Nat) (wo : Int32) (g x : Nat) : Prop := x < 1024 ∧ (∀ j, x.testBit j = true → ∃ y, dist row nw wo g j = some y) ∧ x.testBit g = true
def Cl (row : Nat → Int32) (wo : Int32) (x i : Nat) : Prop := ∀ e, e < i → ¬ nI e = wo → x.testBit (ea row e) = x.testBit (eb row e)
section Rms
variable {row : Nat → Int32} {nr nw g x : Nat} {wo : Int32}
theorem Rm.start (hw : Ww row nr nw) (hg : g < 10) : Rm row nw wo g (0 ||| 2 ^ g) := by
  refine ⟨or_lt (by decide) hg, fun j hj => ?_, ?_⟩
  · rw [Nat.zero_or, Nat.testBit_two_pow] at hj
    have e : g = j := by simpa using hj
    subst e
    exact ⟨0, (dist_is (wo := wo) hw hg).1.1⟩
  · rw [Nat.zero_or, Nat.testBit_two_pow_self]
theorem or_bit {x i j : Nat} : (x ||| 2 ^ i).testBit j = (x.testBit j || decide (i = j)) := by rw [Nat.testBit_or, Nat.testBit_two_pow]
theorem Rm.step (hw : Ww row nr nw) (hg : g < 10) {e : Nat} (h : Rm row nw wo g x) (he : e < nw) (ho : ¬ nI e = wo) (hd : ¬ x.testBit (ea row e) = x.testBit (eb row e)) : Rm row nw wo g (x ||| 2 ^ ea row e ||| 2 ^ eb row e) ∧ bcn x < bcn (x ||| 2 ^ ea row e ||| 2 ^ eb row e) := by
  have we := hw.2.2.2 e he
  have h10 := hw.2.2.1
  have hD := (dist_is (wo := wo) hw hg).1
  have ha : ea row e < 10 := by omega
  have hb : eb row e < 10 := by omega
  have hE : En row nw wo e (ea row e) (eb row e) := ⟨he, ho, Or.inl ⟨rfl, rfl⟩⟩
  have both : (∃ y, dist row nw wo g (ea row e) = some y) ∧ ∃ y, dist row nw wo g (eb row e) = some y := by
    cases ca : x.testBit (ea row e) with
    | true =>
      obtain ⟨y, hy⟩ := h.2.1 _ ca
      obtain ⟨z, hz, -⟩ := hD.2.1 e _ _ y hE hy
      exact ⟨⟨y, hy⟩, z, hz⟩
    | false =>
      cases cb : x.testBit (eb row e) with
      | true =>
        obtain ⟨y, hy⟩ := h.2.1 _ cb
        obtain ⟨z, hz, -⟩ := hD.2.1 e _ _ y hE.symm hy
        exact ⟨⟨z, hz⟩, y, hy⟩
      | false => exact absurd (ca.trans cb.symm) hd
  refine ⟨⟨or_lt (or_lt h.1 ha) hb, fun j hj => ?_, ?_⟩, ?_⟩
  · rw [or_bit, or_bit] at hj
    simp only [Bool.or_eq_true, decide_eq_true_eq] at hj
    rcases hj with (q | q) | q
    · exact h.2.1 j q
    · rw [← q]
      exact both.1
    · rw [← q]
      exact both.2
  · rw [or_bit, or_bit, h.2.2]
    rfl
  · rw [bcn_or _ (or_lt h.1 ha) _ hb, bcn_or _ h.1 _ ha, or_bit]
    cases ca : x.testBit (ea row e) with
    | true =>
      cases cb : x.testBit (eb row e) with
      | true => exact absurd (ca.trans cb.symm) hd
      | false => simp [we.2.2.2.2.2.1]
    | false => simp; omega
theorem Rm.done (hw : Ww row nr nw) (hg : g < 10) (h : Rm row nw wo g x) (hc : Cl row wo x nw) : ∀ j, x.testBit j = true ↔ ∃ y, dist row nw wo g j = some y := by
  have hD := (dist_is (wo := wo) hw hg).1
  have go : ∀ n v y, y ≤ n → dist row nw wo g v = some y → x.testBit v = true := by
    intro n
    induction n with
    | zero =>
      intro v y hy hv
      by_cases e : v = g
      · rw [e]
        exact h.2.2
      · obtain ⟨i, u, z, hE, hu, hs⟩ := hD.2.2 v y hv e
        have := (hw.2.2.2 i hE.1).2.2.2.2.2.2.1
        omega
    | succ n ih =>
      intro v y hy hv
      by_cases e : v = g
      · rw [e]
        exact h.2.2
      · obtain ⟨i, u, z, hE, hu, hs⟩ := hD.2.2 v y hv e
        have := (hw.2.2.2 i hE.1).2.2.2.2.2.2.1
        have hu1 := ih u z (by omega) hu
        have hcl := hc i hE.1 hE.2.1
        rcases hE.2.2 with ⟨a, b⟩ | ⟨a, b⟩
        · rw [a, b] at hcl
          rw [← hcl]
          exact hu1
        · rw [a, b] at hcl
          rw [hcl]
          exact hu1
  exact fun j => ⟨h.2.1 j, fun ⟨y, hy⟩ => go y j y (Nat.le_refl _) hy⟩
end Rms
/-- sums of naturals -/
def sM (f : Nat → Nat) : Nat → Nat
  | 0 => 0
  | n + 1 => sM f n + f n
theorem sM_c {f f' : Nat → Nat} : ∀ n, (∀ i, i < n → f i = f' i) → sM f n = sM f' n := by
  intro n
  induction n with
  | zero => intro _; rfl
  | succ n ih =>
    intro h
    unfold sM
    rw [ih fun i hi => h i (by omega), h n (Nat.lt_succ_self n)]
theorem sM_add {f f' : Nat → Nat} : ∀ n, sM (fun i => f i + f' i) n = sM f n + sM f' n := by
  intro n
  induction n with
  | zero => rfl
  | succ n ih =>
    unfold sM
    rw [ih]
    omega
theorem cB_sM {F : Nat → Bool} : ∀ n, cB F n = sM (fun i => if F i = true then 1 else 0) n := by
  intro n
  induction n with
  | zero => rfl
  | succ n ih =>
    unfold cB sM
    rw [ih]
theorem tri2 {F : Nat → Nat → Bool} (hs : ∀ i j, F i j = F j i) (hd : ∀ i, F i i = false) : ∀ n, sM (fun k => cB (F k) n) n = 2 * sM (fun i => cB (F i) i) n := by
  intro n
  induction n with
  | zero => rfl
  | succ n ih =>
    have e1 : sM (fun k => cB (F k) (n + 1)) (n + 1) = sM (fun k => cB (F k) (n + 1)) n + cB (F n) (n + 1) := rfl
    have e2 : sM (fun k => cB (F k) (n + 1)) n = sM (fun k => cB (F k) n) n + sM (fun k => if F k n = true then 1 else 0) n := sM_add n
    have e3 : sM (fun k => if F k n = true then 1 else 0) n = cB (F n) n := by
      rw [cB_sM]
      exact sM_c n fun i _ => by rw [hs]
    have e4 : cB (F n) (n + 1) = cB (F n) n := by
      show cB (F n) n + _ = _
      rw [hd]
      simp
    have e5 : sM (fun i => cB (F i) i) (n + 1) = sM (fun i => cB (F i) i) n + cB (F n) n := rfl
    rw [e1, e2, e3, e4, e5, ih]
    omega
/-- no route from i to j -/
noncomputable def nrt (row : Nat → Int32) (nw : Nat) (wo : Int32) (nr i j : Nat) : Bool := (decide (i < nr ∧ j < nr) && (match dist row nw wo i j with | none => true | some _ => false))
theorem sm_nI {f : Nat → Int32} {f' : Nat → Nat} : ∀ n, (∀ i, i < n → f i = nI (f' i)) → sm f n = nI (sM f' n) := by
  intro n
  induction n with
  | zero => intro _; rfl
  | succ n ih =>
    intro h
    show sm f n + f n = nI (sM f' n + f' n)
    rw [ih fun i hi => h i (by omega), h n (Nat.lt_succ_self n), nI_add]
theorem prt_n {row : Nat → Int32} {nr nw : Nat} {wo : Int32} (hw : Ww row nr nw) : prt row nw wo nr = nI (sM (fun i => cB (nrt row nw wo nr i) i) nr) := by
  have h10 := hw.2.2.1
  unfold prt
  refine sm_nI nr fun i hi => ?_
  rw [cB_sM]
  refine sm_nI i fun j hj => ?_
  unfold nrt
  rw [decide_eq_true (show i < nr ∧ j < nr from ⟨hi, by omega⟩)]
  cases hd : dist row nw wo i j with
  | none => rfl
  | some y =>
    have := (dist_is (wo := wo) hw (show i < 10 by omega)).2.lt hd
    rw [dI_some, if_neg (nI_nm1 (by omega))]
    rfl
theorem nrt_s {row : Nat → Int32} {nr nw : Nat} {wo : Int32} (hw : Ww row nr nw) (i j : Nat) : nrt row nw wo nr i j = nrt row nw wo nr j i := by
  have h10 := hw.2.2.1
  unfold nrt
  by_cases c : i < nr ∧ j < nr
  · rw [decide_eq_true c, decide_eq_true (show j < nr ∧ i < nr from ⟨c.2, c.1⟩), dist_symm hw (show i < 10 by omega) (show j < 10 by omega)]
  · rw [decide_eq_false c, decide_eq_false (show ¬ (j < nr ∧ i < nr) from fun q => c ⟨q.2, q.1⟩)]
    rfl
theorem nrt_d {row : Nat → Int32} {nr nw : Nat} {wo : Int32} (hw : Ww row nr nw) (i : Nat) : nrt row nw wo nr i i = false := by
  have h10 := hw.2.2.1
  unfold nrt
  by_cases c : i < nr ∧ i < nr
  · rw [(dist_is (wo := wo) hw (show i < 10 by omega)).1.1]
    simp
  · rw [decide_eq_false c]
    rfl
/-- a roof's part of the sum: what isn't reached from it -/
theorem un_k {row : Nat → Int32} {nr nw k x : Nat} {wo : Int32} (hw : Ww row nr nw) (hk : k < nr) (hx : ∀ j, x.testBit j = true ↔ ∃ y, dist row nw wo k j = some y) : bcn x ≤ nr ∧ nr - bcn x = cB (nrt row nw wo nr k) nr := by
  have h10 := hw.2.2.1
  have lt : ∀ j, (∃ y, dist row nw wo k j = some y) → j < nr := by
    rintro j ⟨y, hy⟩
    by_cases e : j = k
    · omega
    · obtain ⟨i, u, z, hE, -, -⟩ := (dist_is (wo := wo) hw (show k < 10 by omega)).1.2.2 j y hy e
      have := hw.2.2.2 i hE.1
      rcases hE.2.2 with ⟨a, b⟩ | ⟨a, b⟩ <;> omega
  have key : ∀ n, n ≤ nr → cB (fun i => x.testBit i) n + cB (nrt row nw wo nr k) n = n := by
    intro n
    induction n with
    | zero => intro _; rfl
    | succ n ih =>
      intro hn
      have := ih (by omega)
      unfold cB
      have hb : nrt row nw wo nr k n = true ↔ ¬ x.testBit n = true := by
        rw [hx]
        unfold nrt
        rw [decide_eq_true (show k < nr ∧ n < nr from ⟨hk, by omega⟩)]
        cases hd : dist row nw wo k n with
        | none => exact ⟨fun _ ⟨y, hy⟩ => (by cases hy), fun _ => rfl⟩
        | some y => exact ⟨fun q => (by cases q), fun q => absurd ⟨y, rfl⟩ q⟩
      by_cases c : x.testBit n = true
      · rw [if_pos c, if_neg (fun q => (hb.mp q) c)]
        omega
      · rw [if_neg c, if_pos (hb.mpr c)]
        omega
  have rest : ∀ n, cB (fun i => x.testBit i) (nr + n) = cB (fun i => x.testBit i) nr := by
    intro n
    induction n with
    | zero => rfl
    | succ n ih =>
      have : x.testBit (nr + n) = false := by
        cases c : x.testBit (nr + n) with
        | false => rfl
        | true =>
          have := lt _ ((hx _).mp c)
          omega
      rw [← Nat.add_assoc]
      show cB (fun i => x.testBit i) (nr + n) + _ = _
      rw [ih]
      simp [this]
  have e : bcn x = cB (fun i => x.testBit i) nr := by
    unfold bcn
    have := rest (10 - nr)
    rwa [show nr + (10 - nr) = 10 by omega] at this
  have := key nr (Nat.le_refl _)
  rw [e]
  omega

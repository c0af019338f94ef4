set_option maxRecDepth 100000
/-! ===== nearest first, by a queue in which stale stops stay ===== -/
/-- T the sums that are known, S the stops that wait (at roofs ro, fars fa), b the roof gone out of last, of its ways the first i done, N stops so far -/
def LJ (row : Nat → Int32) (nr nw g : Nat) (T : Nat → Option Nat) (S : Nat → Prop) (ro fa : Nat → Nat) (b i N : Nat) : Prop :=
  (∀ v x, T v = some x → v < nr ∧ x + 9 ≤ 9 * cF T 10) ∧
  (∀ v x, T v = some x → v ≠ g → ∃ e u y, En row nw (-1) e u v ∧ T u = some y ∧ y + ef row e = x) ∧
  (∀ x, T g = some x → x = 0) ∧
  (∀ q, S q → ro q < nr ∧ fa q ≤ 9 * cF T 10 ∧ (∀ u y, T u = some y → y ≤ fa q) ∧ ((ro q = g ∧ fa q = 0) ∨ ∃ e u y, En row nw (-1) e u (ro q) ∧ T u = some y ∧ y + ef row e = fa q)) ∧
  (∀ e u v y, En row nw (-1) e u v → T u = some y → (u = b → e < i) → (∃ z, T v = some z ∧ z ≤ y + ef row e) ∨ ∃ q, S q ∧ ro q = v ∧ fa q ≤ y + ef row e) ∧
  ((∃ x, T g = some x) ∨ ∃ q, S q ∧ ro q = g ∧ fa q = 0) ∧
  ∃ used : Nat → Bool, N ≤ 1 + cB used 20 ∧ ∀ e, used e = true → e < nw ∧ ∃ u, (ea row e = u ∨ eb row e = u) ∧ (∃ y, T u = some y) ∧ (u = b → e < i)
section LJs
variable {row : Nat → Int32} {nr nw g b i N : Nat} {T : Nat → Option Nat} {S S' : Nat → Prop} {ro fa : Nat → Nat}
theorem LJ.start (hg : g < nr) (hS : ∀ q, S q ↔ q = 0) (h0 : ro 0 = g) (f0 : fa 0 = 0) : LJ row nr nw g (fun _ => none) S ro fa b i 1 := by
  refine ⟨fun v x h => (by cases h), fun v x h => (by cases h), fun x h => (by cases h), fun q hq => ?_, fun e u v y _ h => (by cases h), Or.inr ⟨0, (hS 0).mpr rfl, h0, f0⟩, fun _ => false, by omega, fun e h => (by cases h)⟩
  have := (hS q).mp hq
  subst this
  exact ⟨by omega, by omega, fun u y h => (by cases h), Or.inl ⟨h0, f0⟩⟩
theorem LJ.skip {q0 z : Nat} (h : LJ row nr nw g T S ro fa b i N) (hS : ∀ q, S' q ↔ S q ∧ q ≠ q0) (hz : T (ro q0) = some z) : LJ row nr nw g T S' ro fa b i N := by
  obtain ⟨h1, h2, h3, h4, h5, h6, h7⟩ := h
  refine ⟨h1, h2, h3, fun q hq' => h4 q ((hS q).mp hq').1, fun e u v y hE hu hb => ?_, ?_, h7⟩
  · rcases h5 e u v y hE hu hb with h | ⟨q, hq', r1, r2⟩
    · exact Or.inl h
    · by_cases e0 : q = q0
      · subst e0
        rw [r1] at hz
        exact Or.inl ⟨z, hz, Nat.le_trans ((h4 q hq').2.2.1 _ _ hz) r2⟩
      · exact Or.inr ⟨q, (hS q).mpr ⟨hq', e0⟩, r1, r2⟩
  · rcases h6 with h | ⟨q, hq', r1, r2⟩
    · exact Or.inl h
    · by_cases e0 : q = q0
      · subst e0
        rw [r1] at hz
        exact Or.inl ⟨z, hz⟩
      · exact Or.inr ⟨q, (hS q).mpr ⟨hq', e0⟩, r1, r2⟩
theorem LJ.settle {q0 : Nat} (hr10 : nr ≤ 10) (h : LJ row nr nw g T S ro fa nr 0 N) (hS : ∀ q, S' q ↔ S q ∧ q ≠ q0) (hq : S q0) (hmin : ∀ q, S q → fa q0 ≤ fa q) (hz : T (ro q0) = none) : LJ row nr nw g (va_up T (ro q0) (some (fa q0))) S' ro fa (ro q0) 0 N ∧ (∀ u y, va_up T (ro q0) (some (fa q0)) u = some y → y ≤ fa q0) ∧ cF (va_up T (ro q0) (some (fa q0))) 10 = cF T 10 + 1 := by
  obtain ⟨h1, h2, h3, h4, h5, h6, h7⟩ := h
  obtain ⟨k1, k2, k3, k4⟩ := h4 q0 hq
  have hc : cF (va_up T (ro q0) (some (fa q0))) 10 = cF T 10 + 1 := by rw [cF_up, if_pos ⟨by omega, hz⟩]
  have up : ∀ u y, va_up T (ro q0) (some (fa q0)) u = some y → (u = ro q0 ∧ y = fa q0) ∨ (u ≠ ro q0 ∧ T u = some y) := by
    intro u y hu
    by_cases e : u = ro q0
    · subst e
      rw [va_up_self] at hu
      cases hu
      exact Or.inl ⟨rfl, rfl⟩
    · rw [va_up_ne _ _ e] at hu
      exact Or.inr ⟨e, hu⟩
  have keep : ∀ u y, T u = some y → va_up T (ro q0) (some (fa q0)) u = some y := by
    intro u y hu
    rw [va_up_ne _ _ (fun e => by rw [e, hz] at hu; cases hu)]
    exact hu
  refine ⟨⟨?_, ?_, ?_, ?_, ?_, ?_, ?_⟩, ?_, hc⟩
  · intro v x hv
    rw [hc]
    rcases up v x hv with ⟨e1, e2⟩ | ⟨-, e2⟩
    · exact ⟨by omega, by omega⟩
    · have := h1 v x e2
      exact ⟨this.1, by omega⟩
  · intro v x hv hvg
    rcases up v x hv with ⟨e1, e2⟩ | ⟨-, e2⟩
    · subst e1
      subst e2
      rcases k4 with ⟨a, -⟩ | ⟨e, u, y, hE, hu, hs⟩
      · exact absurd a hvg
      · exact ⟨e, u, y, hE, keep u y hu, hs⟩
    · obtain ⟨e, u, y, hE, hu, hs⟩ := h2 v x e2 hvg
      exact ⟨e, u, y, hE, keep u y hu, hs⟩
  · intro x hx
    rcases up g x hx with ⟨e1, e2⟩ | ⟨-, e2⟩
    · rcases h6 with ⟨y, hy⟩ | ⟨q, hq', r1, r2⟩
      · rw [e1, hz] at hy
        cases hy
      · have := hmin q hq'
        omega
    · exact h3 x e2
  · intro q hq'
    obtain ⟨hS1, -⟩ := (hS q).mp hq'
    obtain ⟨a1, a2, a3, a4⟩ := h4 q hS1
    rw [hc]
    refine ⟨a1, by omega, fun u y hu => ?_, a4.imp id fun ⟨e, u, y, hE, hu, hs⟩ => ⟨e, u, y, hE, keep u y hu, hs⟩⟩
    rcases up u y hu with ⟨-, e2⟩ | ⟨-, e2⟩
    · have := hmin q hS1
      omega
    · exact a3 u y e2
  · intro e u v y hE hu hb
    rcases up u y hu with ⟨e1, -⟩ | ⟨-, e2⟩
    · exact absurd (hb e1) (Nat.not_lt_zero e)
    · rcases h5 e u v y hE e2 (fun e' => by have := (h1 u y e2).1; omega) with ⟨z, hz', hl⟩ | ⟨q, hq', r1, r2⟩
      · exact Or.inl ⟨z, keep v z hz', hl⟩
      · by_cases e0 : q = q0
        · subst e0
          exact Or.inl ⟨fa q, by rw [← r1, va_up_self], r2⟩
        · exact Or.inr ⟨q, (hS q).mpr ⟨hq', e0⟩, r1, r2⟩
  · rcases h6 with ⟨x, hx⟩ | ⟨q, hq', r1, r2⟩
    · exact Or.inl ⟨x, keep g x hx⟩
    · by_cases e0 : q = q0
      · subst e0
        exact Or.inl ⟨fa q, by rw [← r1, va_up_self]⟩
      · exact Or.inr ⟨q, (hS q).mpr ⟨hq', e0⟩, r1, r2⟩
  · obtain ⟨used, hN, hu⟩ := h7
    refine ⟨used, hN, fun e he => ?_⟩
    obtain ⟨w, u, hu1, ⟨y, hy⟩, -⟩ := hu e he
    exact ⟨w, u, hu1, ⟨y, keep u y hy⟩, fun e' => by rw [e', hz] at hy; cases hy⟩
  · intro u y hu
    rcases up u y hu with ⟨-, e2⟩ | ⟨-, e2⟩
    · omega
    · exact k3 u y e2
theorem LJ.no (h : LJ row nr nw g T S ro fa b i N) (hno : ∀ v, ¬ En row nw (-1) i b v) : LJ row nr nw g T S ro fa b (i + 1) N := by
  obtain ⟨h1, h2, h3, h4, h5, h6, used, hN, hu⟩ := h
  refine ⟨h1, h2, h3, h4, fun e u v y hE hy hb => h5 e u v y hE hy fun q => ?_, h6, used, hN, fun e he => ?_⟩
  · have := hb q
    by_cases e0 : e = i
    · subst e0
      subst q
      exact absurd hE (hno v)
    · omega
  · obtain ⟨w, u, a1, a2, a3⟩ := hu e he
    exact ⟨w, u, a1, a2, fun q => by have := a3 q; omega⟩
theorem LJ.old {v0 x z : Nat} (hw : Ww row nr nw) (h : LJ row nr nw g T S ro fa b i N) (hE : En row nw (-1) i b v0) (hb : T b = some x) (hle : ∀ u y, T u = some y → y ≤ x) (hv : T v0 = some z) : LJ row nr nw g T S ro fa b (i + 1) N := by
  obtain ⟨h1, h2, h3, h4, h5, h6, used, hN, hu⟩ := h
  refine ⟨h1, h2, h3, h4, fun e u v y hE' hy hb' => ?_, h6, used, hN, fun e he => ?_⟩
  · by_cases e0 : u = b ∧ e = i
    · obtain ⟨e1, e2⟩ := e0
      subst e1
      subst e2
      have e3 : v = v0 := En.other hw hE' hE
      subst e3
      rw [hb] at hy
      cases hy
      exact Or.inl ⟨z, hv, by have := hle v z hv; omega⟩
    · exact h5 e u v y hE' hy fun q => by have := hb' q; have : e ≠ i := fun z => e0 ⟨q, z⟩; omega
  · obtain ⟨w, u, a1, a2, a3⟩ := hu e he
    exact ⟨w, u, a1, a2, fun q => by have := a3 q; omega⟩
theorem LJ.push {v0 x : Nat} {ro' fa' : Nat → Nat} (hw : Ww row nr nw) (h : LJ row nr nw g T S ro fa b i N) (hE : En row nw (-1) i b v0) (hb : T b = some x) (hle : ∀ u y, T u = some y → y ≤ x) (hv : T v0 = none) (hS : ∀ q, S' q ↔ S q ∨ q = N) (hlt : ∀ q, S q → q < N) (hro : ∀ q, q < N → ro' q = ro q) (hfa : ∀ q, q < N → fa' q = fa q) (hrN : ro' N = v0) (hfN : fa' N = x + ef row i) : LJ row nr nw g T S' ro' fa' b (i + 1) (N + 1) := by
  obtain ⟨h1, h2, h3, h4, h5, h6, used, hN, hu⟩ := h
  have hi := hw.2.2.2 i hE.1
  have hn20 := hw.2.1
  have hv0 : v0 < nr := by rcases hE.2.2 with ⟨e1, e2⟩ | ⟨e1, e2⟩ <;> omega
  have hx := h1 b x hb
  have tr : ∀ q, S q → S' q ∧ ro' q = ro q ∧ fa' q = fa q := fun q hq => ⟨(hS q).mpr (Or.inl hq), hro q (hlt q hq), hfa q (hlt q hq)⟩
  refine ⟨h1, h2, h3, fun q hq => ?_, fun e u v y hE' hy hb' => ?_, ?_, dup used i, ?_, fun e he => ?_⟩
  · rcases (hS q).mp hq with hq' | e
    · obtain ⟨-, t1, t2⟩ := tr q hq'
      rw [t1, t2]
      exact h4 q hq'
    · subst e
      rw [hrN, hfN]
      exact ⟨hv0, by omega, fun u y hy => by have := hle u y hy; omega, Or.inr ⟨i, b, x, hE, hb, rfl⟩⟩
  · by_cases e0 : u = b ∧ e = i
    · obtain ⟨e1, e2⟩ := e0
      subst e1
      subst e2
      have e3 : v = v0 := En.other hw hE' hE
      subst e3
      rw [hb] at hy
      cases hy
      exact Or.inr ⟨N, (hS N).mpr (Or.inr rfl), hrN, by rw [hfN]; exact Nat.le_refl _⟩
    · rcases h5 e u v y hE' hy (fun q => by have := hb' q; have : e ≠ i := fun z => e0 ⟨q, z⟩; omega) with h | ⟨q, hq, r1, r2⟩
      · exact Or.inl h
      · obtain ⟨t0, t1, t2⟩ := tr q hq
        exact Or.inr ⟨q, t0, by rw [t1]; exact r1, by rw [t2]; exact r2⟩
  · rcases h6 with h | ⟨q, hq, r1, r2⟩
    · exact Or.inl h
    · obtain ⟨t0, t1, t2⟩ := tr q hq
      exact Or.inr ⟨q, t0, by rw [t1]; exact r1, by rw [t2]; exact r2⟩
  · have hf : used i = false := by
      cases hui : used i with
      | false => rfl
      | true =>
        obtain ⟨-, u, a1, ⟨y, hy⟩, a3⟩ := hu i hui
        by_cases e : u = b
        · exact absurd (a3 e) (Nat.lt_irrefl i)
        · have : u = v0 := by rcases hE.2.2 with ⟨e1, e2⟩ | ⟨e1, e2⟩ <;> rcases a1 with a | a <;> omega
          rw [this, hv] at hy
          cases hy
    rw [cB_up hf, if_pos (by have := hE.1; omega)]
    omega
  · by_cases e0 : e = i
    · subst e0
      refine ⟨hE.1, b, ?_, ⟨x, hb⟩, fun _ => Nat.lt_succ_self _⟩
      rcases hE.2.2 with ⟨e1, -⟩ | ⟨-, e2⟩
      · exact Or.inl e1
      · exact Or.inr e2
    · rw [dup_n e0] at he
      obtain ⟨w, u, a1, a2, a3⟩ := hu e he
      exact ⟨w, u, a1, a2, fun q => by have := a3 q; omega⟩
theorem LJ.all (h : LJ row nr nw g T S ro fa b nw N) : LJ row nr nw g T S ro fa nr 0 N := by
  obtain ⟨h1, h2, h3, h4, h5, h6, used, hN, hu⟩ := h
  refine ⟨h1, h2, h3, h4, fun e u v y hE hy _ => h5 e u v y hE hy fun _ => hE.1, h6, used, hN, fun e he => ?_⟩
  obtain ⟨w, u, a1, ⟨y, hy⟩, -⟩ := hu e he
  exact ⟨w, u, a1, ⟨y, hy⟩, fun q => by have := (h1 u y hy).1; omega⟩
theorem LJ.done (h : LJ row nr nw g T S ro fa nr 0 N) (hS : ∀ q, ¬ S q) : IsDist row nw (-1) g T := by
  obtain ⟨h1, h2, h3, h4, h5, h6, -⟩ := h
  refine ⟨?_, fun e u v y hE hy => ?_, h2⟩
  · rcases h6 with ⟨x, hx⟩ | ⟨q, hq, -⟩
    · rw [hx, h3 x hx]
    · exact absurd hq (hS q)
  · rcases h5 e u v y hE hy (fun q => by have := (h1 u y hy).1; omega) with h | ⟨q, hq, -⟩
    · exact h
    · exact absurd hq (hS q)
theorem LJ.N21 (h : LJ row nr nw g T S ro fa b i N) : N ≤ 21 := by
  obtain ⟨-, -, -, -, -, -, used, hN, -⟩ := h
  have := cB_le used 20
  omega
theorem LJ.fa90 {q : Nat} (h : LJ row nr nw g T S ro fa b i N) (hq : S q) : ro q < nr ∧ fa q ≤ 90 := by
  have := h.2.2.2.1 q hq
  have h2 := cF_le T 10
  exact ⟨this.1, by omega⟩
end LJs
theorem pop_Qi {Q : Nat → Nat} {n i : Nat} (hj : Qj Q (n + 1)) : Qi (llU Q 0 (Q n)) n i ↔ Qi Q (n + 1) i ∧ i ≠ Q 0 := by
  constructor
  · rintro ⟨j, h, e⟩
    by_cases j0 : j = 0
    · subst j0
      rw [llU_n] at e
      exact ⟨⟨n, Nat.lt_succ_self n, e⟩, fun q => by have := hj n 0 (by omega) (by omega) (e.trans q); omega⟩
    · rw [llU_o j0] at e
      exact ⟨⟨j, by omega, e⟩, fun q => j0 (hj j 0 (by omega) (by omega) (e.trans q))⟩
  · rintro ⟨⟨j, h, e⟩, hne⟩
    have j0 : j ≠ 0 := fun q => hne (by rw [← e, q])
    by_cases jn : j = n
    · subst jn
      exact ⟨0, by omega, by rw [llU_n]; exact e⟩
    · exact ⟨j, by omega, by rw [llU_o j0]; exact e⟩
theorem pop_Qj {Q : Nat → Nat} {n : Nat} (hj : Qj Q (n + 1)) : Qj (llU Q 0 (Q n)) n := by
  intro a b ha hb e
  by_cases a0 : a = 0
  · by_cases b0 : b = 0
    · omega
    · rw [a0, llU_n, llU_o b0] at e
      have := hj n b (by omega) (by omega) e
      omega
  · by_cases b0 : b = 0
    · rw [b0, llU_n, llU_o a0] at e
      have := hj a n (by omega) (by omega) e
      omega
    · rw [llU_o a0, llU_o b0] at e
      exact hj a b (by omega) (by omega) e
theorem st_push {so ro fa : Nat → Nat} {N a r x : Nat} : mp (stN (llU so N a) (llU ro N r) (llU fa N x)) (N + 1) = mp (stN so ro fa) N ++ [(a, .inl (9, [.int (nI r), .int (nI x)]))] := by
  have h : ∀ j, j < N → stN (llU so N a) (llU ro N r) (llU fa N x) j = stN so ro fa j := by
    intro j hj
    unfold stN
    rw [llU_o (by omega), llU_o (by omega), llU_o (by omega)]
  rw [mp_push h]
  unfold stN
  rw [llU_n, llU_n, llU_n]
theorem so_push {so Qa : Nat → Nat} {N n a : Nat} (h : ∀ j, j < n → Qa j < N) : lsF (fun j => llU so N a (Qa j)) n = lsF (fun j => so (Qa j)) n := by
  funext k
  unfold lsF
  by_cases q : k < n
  · rw [if_pos q, if_pos q]
    dsimp only
    rw [llU_o (Nat.ne_of_lt (h k q))]
  · rw [if_neg q, if_neg q]
theorem LJ.iff {row : Nat → Int32} {nr nw g b i N : Nat} {T : Nat → Option Nat} {S S' : Nat → Prop} {ro fa : Nat → Nat} (h : LJ row nr nw g T S ro fa b i N) (hS : ∀ q, S q ↔ S' q) : LJ row nr nw g T S' ro fa b i N := by
  have e : S = S' := funext fun q => propext (hS q)
  exact e ▸ h
theorem Qi_lt9 {Q Q' : Nat → Nat} {n n' N : Nat} (h : ∀ q, Qi Q n q → Qi Q' n' q ∨ q = N) (hQ : ∀ j, j < n' → Q' j < N) : ∀ j, j < n → Q j < N + 1 := by
  intro j hj
  rcases h (Q j) ⟨j, hj, rfl⟩ with ⟨k, hk, e⟩ | e
  · have := hQ k hk
    omega
  · omega
theorem hp_push {ro fa Q : Nat → Nat} {n N r x : Nat} (hQ : ∀ j, j < n → Q j < N) (h : Hp (kyS ro fa) Q n) : Hp (kyS (llU ro N r) (llU fa N x)) Q n := by
  intro j h0 hj
  have := h j h0 hj
  have h1 := hQ j hj
  have h2 := hQ ((j - 1) / 2) (by omega)
  unfold kyS at *
  rw [llU_o (by omega), llU_o (by omega), llU_o (by omega), llU_o (by omega)]
  exact this

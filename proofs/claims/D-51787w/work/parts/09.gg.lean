/-! ===== THE LAYER gg_: a walk's state in one predicate: cells in segments, locals by their places ===== -/
set_option maxRecDepth 100000
def gg_at (g : gg_G) (q : Nat × gg_E) (H : Heap) : Prop := match q.2 with
  | .inl o => va_at g.1 gg_cl (q.1, .inr o) H
  | .inr c => H[q.1]? = some c
def gg_P (g : gg_G) (ws : gg_S) (H : Heap) : Prop := ∀ q ∈ ws, gg_at g q H
def gg_D (A : Nat → Prop) (ws : gg_S) : Prop := (ws.map Prod.fst).Nodup ∧ ∀ q ∈ ws, A q.1
theorem gg_at.lt {g : gg_G} {q : Nat × gg_E} {H : Heap} (h : gg_at g q H) : q.1 < H.size := by
  obtain ⟨a, o | c⟩ := q
  · exact va_at.lt (q := (a, .inr o)) h
  · exact (Array.getElem?_eq_some_iff.mp h).1
theorem gg_at.kept {g : gg_G} {q : Nat × gg_E} {H H1 : Heap} (h : gg_at g q H) (hq : H1[q.1]? = H[q.1]?) : gg_at g q H1 := by
  obtain ⟨a, o | c⟩ := q
  · exact va_at.kept (q := (a, .inr o)) h hq
  · exact hq.trans h
theorem gg_P.kept {g : gg_G} {ws : gg_S} {H H1 : Heap} (h : gg_P g ws H) (hq : ∀ q ∈ ws, H1[q.1]? = H[q.1]?) : gg_P g ws H1 := fun q hm => (h q hm).kept (hq q hm)
theorem gg_P.app {g : gg_G} {w1 w2 : gg_S} {H : Heap} (h1 : gg_P g w1 H) (h2 : gg_P g w2 H) : gg_P g (w1 ++ w2) H := fun q hm => (List.mem_append.mp hm).elim (h1 q) (h2 q)
theorem gg_P.of {g : gg_G} {w1 w2 : gg_S} {H : Heap} (h : gg_P g w1 H) (hs : ∀ q ∈ w2, q ∈ w1) : gg_P g w2 H := fun q hm => h q (hs q hm)
theorem gg_D.app {A : Nat → Prop} {w1 w2 : gg_S} (h1 : gg_D A w1) (h2 : gg_D A w2) (hx : ∀ p ∈ w1, ∀ q ∈ w2, p.1 ≠ q.1) : gg_D A (w1 ++ w2) := by
  refine ⟨?_, fun q hm => (List.mem_append.mp hm).elim (h1.2 q) (h2.2 q)⟩
  rw [List.map_append, List.nodup_append]
  refine ⟨h1.1, h2.1, ?_⟩
  intro a ha b hb
  obtain ⟨p, hp, rfl⟩ := List.mem_map.mp ha
  obtain ⟨q, hq, rfl⟩ := List.mem_map.mp hb
  exact hx p hp q hq
theorem gg_D.perm {A : Nat → Prop} {w1 w2 : gg_S} (h : gg_D A w1) (hp : w1.Perm w2) : gg_D A w2 :=
  ⟨(hp.map Prod.fst).nodup_iff.mp h.1, fun q hm => h.2 q (hp.mem_iff.mpr hm)⟩
theorem gg_D.apart {A : Nat → Prop} {w1 w2 : gg_S} (h : gg_D A (w1 ++ w2)) : gg_D A w1 ∧ gg_D A w2 ∧ ∀ p ∈ w1, ∀ q ∈ w2, p.1 ≠ q.1 := by
  obtain ⟨h1, h2⟩ := h
  rw [List.map_append, List.nodup_append] at h1
  exact ⟨⟨h1.1, fun q hm => h2 q (List.mem_append_left _ hm)⟩, ⟨h1.2.1, fun q hm => h2 q (List.mem_append_right _ hm)⟩, fun p hp q hq => h1.2.2 _ (List.mem_map.mpr ⟨p, hp, rfl⟩) _ (List.mem_map.mpr ⟨q, hq, rfl⟩)⟩
theorem gg_D.weaken {A B : Nat → Prop} {ws : gg_S} (h : gg_D A ws) (hB : ∀ q ∈ ws, B q.1) : gg_D B ws := ⟨h.1, hB⟩
theorem gg_nd_self {l : gg_S} {p q : Nat × gg_E} (h : (l.map Prod.fst).Nodup) (hp : p ∈ l) (hq : q ∈ l) (he : p.1 = q.1) : p = q := by
  induction l with
  | nil => cases hp
  | cons x t ih =>
    rw [List.map_cons, List.nodup_cons] at h
    rcases List.mem_cons.mp hp with e1 | e1 <;> rcases List.mem_cons.mp hq with e2 | e2
    · rw [e1, e2]
    · exact absurd (List.mem_map.mpr ⟨q, e2, by rw [← he, e1]⟩) h.1
    · exact absurd (List.mem_map.mpr ⟨p, e1, by rw [he, e2]⟩) h.1
    · exact ih h.2 e1 e2
/-- which cells a method may change: its own, and what it makes -/
def gg_A (ws : gg_S) (sz : Nat) : Nat → Prop := fun q => (∃ e : gg_E, (q, e) ∈ ws) ∨ sz ≤ q
theorem gg_D.self {ws : gg_S} {sz : Nat} {A : Nat → Prop} (h : gg_D A ws) : gg_D (gg_A ws sz) ws := ⟨h.1, fun q hm => Or.inl ⟨q.2, hm⟩⟩
/-! the locals by their places -/
def gg_L (ls : Array Slot) (nL : Nat) (lv : List (Option Value)) : Prop := ls.size = nL ∧ lv_wf ls ∧ ∀ (i : Nat) (v : Value), lv[i]? = some (some v) → ls[i]? = some (.val v)
theorem gg_L.at {ls : Array Slot} {nL : Nat} {lv : List (Option Value)} (h : gg_L ls nL lv) {i : Nat} {v : Value} (hi : lv[i]? = some (some v)) : ls[i]? = some (.val v) := h.2.2 i v hi
def gg_as (lv : List (Option Value)) : List (Nat × Value) := (List.range lv.length).filterMap fun i => (lv[i]?.join).map fun v => (i, v)
theorem gg_as_mem {lv : List (Option Value)} {q : Nat × Value} : q ∈ gg_as lv ↔ lv[q.1]? = some (some q.2) := by
  unfold gg_as
  rw [List.mem_filterMap]
  constructor
  · rintro ⟨i, -, h⟩
    cases hj : lv[i]? with
    | none => rw [hj] at h; simp at h
    | some o =>
      cases o with
      | none => rw [hj] at h; simp at h
      | some v =>
        rw [hj] at h
        simp at h
        rw [← h]
        exact hj
  · intro h
    refine ⟨q.1, List.mem_range.mpr ?_, ?_⟩
    · exact (List.getElem?_eq_some_iff.mp h).1
    · rw [h]; rfl
theorem gg_L.has {ls : Array Slot} {nL : Nat} {lv : List (Option Value)} (h : gg_L ls nL lv) : lv_has ls nL (gg_as lv) := ⟨h.1, h.2.1, fun q hq => h.2.2 q.1 q.2 (gg_as_mem.mp hq)⟩
/-- nothing of two words stands ahead of the place -/
def gg_free (lv : List (Option Value)) : Nat → Bool
  | 0 => true
  | i + 1 => match lv[i]? with
    | some (some w) => w.category == 1
    | _ => true
theorem gg_free_ne {lv : List (Option Value)} {i j : Nat} {w : Value} (h : gg_free lv i = true) (hj : lv[j]? = some (some w)) (he : j + 1 = i) : ¬ w.category = 2 := by
  subst he
  simp only [gg_free, hj, beq_iff_eq] at h
  omega
theorem gg_L.set1 {ls' : Array Slot} {nL : Nat} {lv lv' : List (Option Value)} {i : Nat} {v : Value} (hf : gg_free lv i = true) (hs : lv.set i (some v) = lv')
    (h : lv_has ls' nL ((i, v) :: (gg_as lv).filter (fun q => !(q.1 == i) && !(q.1 + 1 == i && q.2.category == 2)))) : gg_L ls' nL lv' := by
  refine ⟨h.1, h.2.1, fun j w hj => ?_⟩
  rw [← hs] at hj
  by_cases e : j = i
  · subst e
    rw [List.getElem?_set] at hj
    by_cases hl : j < lv.length
    · simp [hl] at hj
      subst hj
      exact h.2.2 _ List.mem_cons_self
    · simp [hl] at hj
  · rw [List.getElem?_set_ne (fun q => e q.symm)] at hj
    refine h.2.2 (j, w) (List.mem_cons_of_mem _ (List.mem_filter.mpr ⟨gg_as_mem.mpr hj, ?_⟩))
    simp only [Bool.and_eq_true, Bool.not_eq_true', beq_eq_false_iff_ne, ne_eq, Bool.and_eq_false_iff]
    refine ⟨e, ?_⟩
    by_cases e2 : j + 1 = i
    · exact Or.inr (gg_free_ne hf hj e2)
    · exact Or.inl e2
theorem gg_L.set2 {ls' : Array Slot} {nL : Nat} {lv lv' : List (Option Value)} {i : Nat} {v : Value} (hf : gg_free lv i = true) (hs : (lv.set i (some v)).set (i + 1) none = lv')
    (h : lv_has ls' nL ((i, v) :: (gg_as lv).filter (fun q => !(q.1 == i) && (!(q.1 == i + 1) && !(q.1 + 1 == i && q.2.category == 2))))) : gg_L ls' nL lv' := by
  refine ⟨h.1, h.2.1, fun j w hj => ?_⟩
  rw [← hs] at hj
  by_cases e1 : j = i + 1
  · subst e1
    rw [List.getElem?_set] at hj
    split at hj
    · split at hj
      · cases hj
      · cases hj
    · rename_i h; exact absurd rfl h
  rw [List.getElem?_set_ne (fun q => e1 q.symm)] at hj
  by_cases e : j = i
  · subst e
    rw [List.getElem?_set] at hj
    by_cases hl : j < lv.length
    · simp [hl] at hj
      subst hj
      exact h.2.2 _ List.mem_cons_self
    · simp [hl] at hj
  · rw [List.getElem?_set_ne (fun q => e q.symm)] at hj
    refine h.2.2 (j, w) (List.mem_cons_of_mem _ (List.mem_filter.mpr ⟨gg_as_mem.mpr hj, ?_⟩))
    simp only [Bool.and_eq_true, Bool.not_eq_true', beq_eq_false_iff_ne, ne_eq, Bool.and_eq_false_iff]
    refine ⟨e, e1, ?_⟩
    by_cases e2 : j + 1 = i
    · exact Or.inr (gg_free_ne hf hj e2)
    · exact Or.inl e2
/-! what holds in all states of a run: classes, nest words, Strings by their places -/
def gg_K (g : gg_G) (U : State) : Prop := va_K g.1 gg_cl (gg_tys g.2.1) U ∧ (∀ w ∈ gg_nw, va_Nw w U) ∧ (∀ t ∈ gg_str g, vk_R t.1 t.2.1 t.2.2.1 t.2.2.2 U) ∧ (∀ x ∈ gg_ifs, gg_if x U) ∧ gg_lam g U
/-- constants that lie in the heap, outside of A -/
def gg_R (g : gg_G) (A : Nat → Prop) (U : State) (H : Heap) : Prop := gg_P g (gg_ro g) H ∧ (∀ q ∈ gg_ro g, ¬ A q.1) ∧ (∀ t ∈ gg_sta g, va_Z t.1 t.2.1 t.2.2.1 t.2.2.2 A U H) ∧ vx_Zq Bundle.tN "UNASSIGNED_STACK" Bundle.steD A U H ∧ vx_Zq Bundle.tN "SUPPRESSED_SENTINEL" Bundle.listD A U H
theorem gg_R.kept {g : gg_G} {A : Nat → Prop} {U : State} {H H1 : Heap} (h : gg_R g A U H) (hq : ∀ a : Nat, a < H.size → ¬ A a → H1[a]? = H[a]?) : gg_R g A U H1 :=
  ⟨h.1.kept fun q hm => hq q.1 (h.1 q hm).lt (h.2.1 q hm), h.2.1, fun t ht => (h.2.2.1 t ht).kept hq, h.2.2.2.1.kept hq, h.2.2.2.2.kept hq⟩
theorem gg_R.moved {g : gg_G} {A : Nat → Prop} {u U : State} {H : Heap} (hvm : u.vm.Alike U.vm) (h : gg_R g A u H) : gg_R g A U H :=
  ⟨h.1, h.2.1, fun t ht => va_Z.moved hvm (h.2.2.1 t ht), vx_Zq.moved hvm h.2.2.2.1, vx_Zq.moved hvm h.2.2.2.2⟩
theorem gg_R.narrow {g : gg_G} {A B : Nat → Prop} {U : State} {H : Heap} (h : gg_R g A U H) (hAB : ∀ q, B q → A q) : gg_R g B U H :=
  ⟨h.1, fun q hm hb => h.2.1 q hm (hAB _ hb), fun t ht => (h.2.2.1 t ht).narrow hAB, h.2.2.2.1.narrow hAB, h.2.2.2.2.narrow hAB⟩
/-- the surroundings of a walk -/
abbrev gg_V (p : Program) (l : Launch) (s : State) (m : MethodId) (args : Array Value) (meth : Method) (c : Code) (cc : ByteArray) (nL : Nat) (own : String) (g : gg_G) (A : Nat → Prop) (ro : gg_S) : Prop :=
  p.tables.exec = Jvm.exec ∧ c.code = cc ∧ c.maxLocals = nL ∧ s.vm.findClass own = some m.cls ∧ (∀ w ∈ lw_all, w.before args s = true) ∧ gg_K g s ∧ (∀ q : Nat, s.heap.size ≤ q → A q) ∧ meth.locks = false ∧ l.stackTraces = false ∧ gg_R g A s s.heap ∧ gg_P g ro s.heap ∧ (∀ q ∈ ro, ¬ A q.1)
section GGdefs
/-- from here the walk comes to Q: k cells and n slots made so far, the cells M, the locals lv, the stack st -/
def gg_W (p : Program) (l : Launch) (e : Env) (R : Room) (s : State) (m : MethodId) (args : Array Value) (below : List Frame) (meth : Method) (c : Code) (g : gg_G) (A : Nat → Prop) (nL : Nat) (Q : State → Prop) (k n : Nat) (M : List gg_S) (lv : List (Option Value)) (st : List Value) (pc : Nat) : Prop :=
  ∀ (H : Heap) (locs : List Loc) (ls : Array Slot), gg_P g M.flatten H → gg_D A M.flatten → va_S A s.heap H locs → gg_L ls nL lv → W p l e R s m args below meth c H locs k n Q (F0 m pc ls st)
/-- the same with the exception q of class E under way -/
def gg_X (p : Program) (l : Launch) (e : Env) (R : Room) (s : State) (m : MethodId) (args : Array Value) (below : List Frame) (meth : Method) (c : Code) (g : gg_G) (A : Nat → Prop) (nL : Nat) (Q : State → Prop) (k n : Nat) (M : List gg_S) (lv : List (Option Value)) (E : String) (q : Nat) (pc : Nat) : Prop :=
  ∀ (H : Heap) (locs : List Loc) (ls : Array Slot) (ce : Cell) (st : List Value), gg_P g M.flatten H → gg_D A M.flatten → va_S A s.heap H locs → gg_L ls nL lv → H[q]? = some ce → ce.vm = .none → s.vm.findClass E = some ce.cls → vx_W p l e R s m args below meth c H locs k n Q (F0 m pc ls st) q
/-- the start and the ends of a contract -/
def gg_Pc (g : gg_G) (As : List Value) (ro : gg_S) (C : List gg_S) (sz : Nat) : Array Value → State → Prop := va_Pc As (fun U => U.heap.size = sz ∧ gg_P g C.flatten U.heap ∧ gg_D (fun _ => True) C.flatten ∧ gg_K g U ∧ gg_R g (gg_A C.flatten sz) U U.heap ∧ gg_P g ro U.heap ∧ ∀ q ∈ ro, ¬ gg_A C.flatten sz q.1)
def gg_Qc (g : gg_G) (C : List gg_S) (sz : Nat) (Post : Option Value → List gg_S → Prop) : Array Value → State → Outcome → State → Prop := fun _ st o t =>
  (∃ (v : Option Value) (C1 : List gg_S), o = .returned v ∧ Post v C1 ∧ gg_P g C1.flatten t.heap ∧ gg_D (gg_A C.flatten sz) C1.flatten) ∧ va_F (gg_A C.flatten sz) st t
def gg_Xc (g : gg_G) (C : List gg_S) (sz : Nat) (PX : String → Nat → List gg_S → Prop) : String → Nat → State → State → Prop := fun E q st t =>
  (∃ C1 : List gg_S, PX E q C1 ∧ gg_P g C1.flatten t.heap ∧ gg_D (gg_A C.flatten sz) C1.flatten) ∧ va_F (gg_A C.flatten sz) st t
/-- A CONTRACT: called with As over the cells C (to change) and ro (to read), the method comes to Post or throws to PX -/
def gg_C (l : Launch) (g : gg_G) (y : MethodName) (ws : List Cond) (rm : Room) (As : List Value) (ro : gg_S) (C : List gg_S) (Post : Option Value → List gg_S → Prop) (PX : String → Nat → List gg_S → Prop) : Prop :=
  ∀ sz : Nat, vx_Met l y ws rm (gg_Pc g As ro C sz) (gg_Qc g C sz Post) (gg_Xc g C sz PX) rm.cells rm.slots (gg_A C.flatten sz)
def gg_no : String → Nat → List gg_S → Prop := fun _ _ _ => False
end GGdefs
section GGstep
variable {p : Program} {l : Launch} {e : Env} {R : Room} {s : State} {m : MethodId} {args : Array Value} {below : List Frame} {meth : Method} {c : Code} {g : gg_G} {A : Nat → Prop} {ro : gg_S} {nL : Nat} {Q : State → Prop} {kc ns : Nat} {M : List gg_S} {lv : List (Option Value)} {st : List Value} {pc : Nat} {cc : ByteArray} {own : String}
/-! which cell: of a segment, or to read alone -/
def gg_in (g : gg_G) (M : List gg_S) (ro : gg_S) (q : Nat × gg_E) : Prop := (∃ S ∈ M, q ∈ S) ∨ q ∈ ro ∨ q ∈ gg_ro g
theorem gg_i {M : List gg_S} {ro : gg_S} {q : Nat × gg_E} {S : gg_S} (i : Nat) (h : M[i]? = some (q :: S)) : gg_in g M ro q := Or.inl ⟨_, List.mem_of_getElem? h, List.mem_cons_self⟩
theorem gg_j {M : List gg_S} {ro : gg_S} {q : Nat × gg_E} {S : gg_S} (i : Nat) (h : M[i]? = some S) (hq : q ∈ S) : gg_in g M ro q := Or.inl ⟨_, List.mem_of_getElem? h, hq⟩
theorem gg_r {M : List gg_S} {ro : gg_S} {q : Nat × gg_E} (i : Nat) (h : ro[i]? = some q) : gg_in g M ro q := Or.inr (Or.inl (List.mem_of_getElem? h))
theorem gg_rm {M : List gg_S} {ro : gg_S} {q : Nat × gg_E} (h : q ∈ ro) : gg_in g M ro q := Or.inr (Or.inl h)
/-- a constant of gg_rc, gg_rs, by its place; a cached Integer -/
theorem gg_kc {M : List gg_S} {ro : gg_S} {q : Nat × gg_E} (i : Nat) (h : (gg_rc g)[i]? = some q) : gg_in g M ro q := Or.inr (Or.inr (List.mem_append_left _ (List.mem_of_getElem? h)))
theorem gg_ks {M : List gg_S} {ro : gg_S} {q : Nat × gg_E} (i : Nat) (h : (gg_rs g)[i]? = some q) : gg_in g M ro q := Or.inr (Or.inr (List.mem_append_right _ (List.mem_append_left _ (List.mem_of_getElem? h))))
theorem gg_ki {M : List gg_S} {ro : gg_S} {j : Nat} (h : j < 256) : gg_in g M ro (g.2.2.1 (1000 + j), .inl (14, [.int (nI j - 128)])) := Or.inr (Or.inr (List.mem_append_right _ (List.mem_append_right _ (List.mem_map.mpr ⟨j, List.mem_range.mpr h, rfl⟩))))
theorem gg_in.at {M : List gg_S} {ro : gg_S} {q : Nat × gg_E} (h : gg_in g M ro q) (E : gg_V p l s m args meth c cc nL own g A ro) {H : Heap} {locs : List Loc} (hP : gg_P g M.flatten H) (hS : va_S A s.heap H locs) : gg_at g q H := by
  rcases h with ⟨S, h1, h2⟩ | h | h
  · exact hP q (List.mem_flatten.mpr ⟨S, h1, h2⟩)
  · have h1 := E.2.2.2.2.2.2.2.2.2.2.1 q h
    exact h1.kept (hS.2.1 q.1 h1.lt (E.2.2.2.2.2.2.2.2.2.2.2 q h))
  · have h1 := E.2.2.2.2.2.2.2.2.2.1.1 q h
    exact h1.kept (hS.2.1 q.1 h1.lt (E.2.2.2.2.2.2.2.2.2.1.2.1 q h))
theorem gg_flat_set {M : List gg_S} {i : Nat} {S : gg_S} (h : M[i]? = some S) (S1 : gg_S) : ∃ a b : List gg_S, M = a ++ S :: b ∧ M.set i S1 = a ++ S1 :: b := by
  induction M generalizing i with
  | nil => simp at h
  | cons x t ih =>
    cases i with
    | zero =>
      simp at h
      subst h
      exact ⟨[], t, rfl, rfl⟩
    | succ i =>
      obtain ⟨a, b, h1, h2⟩ := ih (by simpa using h)
      exact ⟨x :: a, b, by rw [h1]; rfl, by rw [List.set_cons_succ, h2]; rfl⟩
/-- a segment's change: its addresses stay -/
theorem gg_swap {M M1 : List gg_S} {i : Nat} {S S1 : gg_S} (h : M[i]? = some S) (h1 : M.set i S1 = M1) (ha : S1.map Prod.fst = S.map Prod.fst) {H H1 : Heap} (hP : gg_P g M.flatten H) (hD : gg_D A M.flatten) {a : Nat} (hin : a ∈ S.map Prod.fst) (hn : gg_P g S1 H1) (oq : ∀ q : Nat, q ≠ a → H1[q]? = H[q]?) : gg_P g M1.flatten H1 ∧ gg_D A M1.flatten := by
  obtain ⟨x, y, e1, e2⟩ := gg_flat_set h S1
  rw [e2] at h1
  subst e1 h1
  have key : (List.flatten (x ++ S1 :: y)).map Prod.fst = (List.flatten (x ++ S :: y)).map Prod.fst := by simp [ha]
  have f1 : List.flatten (x ++ S :: y) = x.flatten ++ (S ++ y.flatten) := by simp
  have f2 : List.flatten (x ++ S1 :: y) = x.flatten ++ (S1 ++ y.flatten) := by simp
  refine ⟨?_, ?_⟩
  · obtain ⟨-, -, ap⟩ := (f1 ▸ hD).apart
    have hD2 := (f1 ▸ hD).apart.2.1
    obtain ⟨-, -, ap2⟩ := hD2.apart
    obtain ⟨q0, hq0, rfl⟩ := List.mem_map.mp hin
    rw [f1] at hP
    rw [f2]
    refine gg_P.app (gg_P.kept (hP.of fun q hq => List.mem_append_left _ hq) fun q hq => oq _ (ap q hq q0 (List.mem_append_left _ hq0))) (gg_P.app hn (gg_P.kept (hP.of fun q hq => List.mem_append_right _ (List.mem_append_right _ hq)) fun q hq => oq _ (fun z => ap2 q0 hq0 q hq z.symm)))
  · refine ⟨by rw [key]; exact hD.1, fun q hq => ?_⟩
    have h2 : q.1 ∈ (List.flatten (x ++ S1 :: y)).map Prod.fst := List.mem_map.mpr ⟨q, hq, rfl⟩
    rw [key] at h2
    obtain ⟨q2, h3, h4⟩ := List.mem_map.mp h2
    rw [← h4]
    exact hD.2 q2 h3
theorem gg_swap1 {M M1 : List gg_S} {i a : Nat} {x y : gg_E} (h : M[i]? = some [(a, x)]) (h1 : M.set i [(a, y)] = M1) {H H1 : Heap} (hP : gg_P g M.flatten H) (hD : gg_D A M.flatten) (hn : gg_at g (a, y) H1) (oq : ∀ q : Nat, q ≠ a → H1[q]? = H[q]?) : gg_P g M1.flatten H1 ∧ gg_D A M1.flatten :=
  gg_swap h h1 rfl hP hD (a := a) (List.mem_singleton.mpr rfl) (fun q hq => by rw [List.mem_singleton] at hq; subst hq; exact hn) oq
theorem gg_push {M : List gg_S} {x : gg_E} {H H1 : Heap} {locs : List Loc} (E : gg_V p l s m args meth c cc nL own g A ro) (hP : gg_P g M.flatten H) (hD : gg_D A M.flatten) (hS : va_S A s.heap H locs) (hn : gg_at g (H.size, x) H1) (hz : H.size ≤ H1.size) (oq : ∀ q : Nat, q < H.size → H1[q]? = H[q]?) : gg_P g (M ++ [[(H.size, x)]]).flatten H1 ∧ gg_D A (M ++ [[(H.size, x)]]).flatten ∧ va_S A s.heap H1 locs := by
  have e : (M ++ [[(H.size, x)]]).flatten = M.flatten ++ [(H.size, x)] := by simp
  rw [e]
  refine ⟨gg_P.app (hP.kept fun q hq => oq _ (hP q hq).lt) (fun q hq => by rw [List.mem_singleton] at hq; subst hq; exact hn), hD.app ⟨by simp, fun q hq => by rw [List.mem_singleton] at hq; subst hq; exact E.2.2.2.2.2.2.1 _ hS.1⟩ (fun p hp q hq => ?_), ?_⟩
  · rw [List.mem_singleton] at hq
    subst hq
    exact Nat.ne_of_lt (hP p hp).lt
  · exact ⟨Nat.le_trans hS.1 hz, fun x h1 h2 => (oq x (Nat.lt_of_lt_of_le h1 hS.1)).trans (hS.2.1 x h1 h2), hS.2.2⟩
theorem gg_perm {M M1 : List gg_S} (h : M.flatten.Perm M1.flatten) (K : gg_W p l e R s m args below meth c g A nL Q kc ns M1 lv st pc) : gg_W p l e R s m args below meth c g A nL Q kc ns M lv st pc :=
  fun H locs ls hP hD hS hl => K H locs ls (hP.of fun q hq => h.mem_iff.mpr hq) (hD.perm h) hS hl
/-- fewer cells -/
theorem gg_drop {M M1 : List gg_S} (h : M1.flatten.Sublist M.flatten) (K : gg_W p l e R s m args below meth c g A nL Q kc ns M1 lv st pc) : gg_W p l e R s m args below meth c g A nL Q kc ns M lv st pc :=
  fun H locs ls hP hD hS hl => K H locs ls (hP.of fun q hq => h.mem hq) ⟨(h.map Prod.fst).nodup hD.1, fun q hq => hD.2 q (h.mem hq)⟩ hS hl
/-- fewer locals -/
theorem gg_less {lv1 : List (Option Value)} (h : ∀ (i : Nat) (v : Value), lv1[i]? = some (some v) → lv[i]? = some (some v)) (K : gg_W p l e R s m args below meth c g A nL Q kc ns M lv1 st pc) : gg_W p l e R s m args below meth c g A nL Q kc ns M lv st pc :=
  fun H locs ls hP hD hS hl => K H locs ls hP hD hS ⟨hl.1, hl.2.1, fun i v hv => hl.2.2 i v (h i v hv)⟩
theorem gg_widen {k1 n1 : Nat} (h1 : kc ≤ k1) (h2 : ns ≤ n1) (K : gg_W p l e R s m args below meth c g A nL Q k1 n1 M lv st pc) : gg_W p l e R s m args below meth c g A nL Q kc ns M lv st pc :=
  fun H locs ls hP hD hS hl => W.widen h1 h2 (K H locs ls hP hD hS hl)
end GGstep
section GGrows
variable {p : Program} {l : Launch} {e : Env} {R : Room} {s : State} {m : MethodId} {args : Array Value} {below : List Frame} {meth : Method} {c : Code} {g : gg_G} {A : Nat → Prop} {ro : gg_S} {nL : Nat} {Q : State → Prop} {kc ns : Nat} {M : List gg_S} {lv : List (Option Value)} {st : List Value} {pc : Nat} {cc : ByteArray} {own : String}
theorem gg_iconst (E : gg_V p l s m args meth c cc nL own g A ro) {n : Int} {v : Int32} (hdg : decode cc pc = .ok (.iconst n, 1)) (hv : Int32.ofInt n = v) (K : gg_W p l e R s m args below meth c g A nL Q kc ns M lv (.int v :: st) (pc + 1)) : gg_W p l e R s m args below meth c g A nL Q kc ns M lv st pc := fun H locs ls hP hD hS hl => lv_iconst E.1 E.2.1 hdg hv (K H locs ls hP hD hS hl)
theorem gg_bipush (E : gg_V p l s m args meth c cc nL own g A ro) {n : Int} {v : Int32} (hdg : decode cc pc = .ok (.bipush n, 2)) (hv : (Int8.ofInt n).toInt32 = v) (K : gg_W p l e R s m args below meth c g A nL Q kc ns M lv (.int v :: st) (pc + 2)) : gg_W p l e R s m args below meth c g A nL Q kc ns M lv st pc := fun H locs ls hP hD hS hl => lv_bipush E.1 E.2.1 hdg hv (K H locs ls hP hD hS hl)
theorem gg_sipush (E : gg_V p l s m args meth c cc nL own g A ro) {n : Int} {v : Int32} (hdg : decode cc pc = .ok (.sipush n, 3)) (hv : (Int16.ofInt n).toInt32 = v) (K : gg_W p l e R s m args below meth c g A nL Q kc ns M lv (.int v :: st) (pc + 3)) : gg_W p l e R s m args below meth c g A nL Q kc ns M lv st pc := fun H locs ls hP hD hS hl => lv_sipush E.1 E.2.1 hdg hv (K H locs ls hP hD hS hl)
theorem gg_lconst (E : gg_V p l s m args meth c cc nL own g A ro) {n : Fin 2} {v : Int64} (hdg : decode cc pc = .ok (.lconst n, 1)) (hv : Int64.ofNat (n : Nat) = v) (K : gg_W p l e R s m args below meth c g A nL Q kc ns M lv (.long v :: st) (pc + 1)) : gg_W p l e R s m args below meth c g A nL Q kc ns M lv st pc := fun H locs ls hP hD hS hl => lv_lconst E.1 E.2.1 hdg hv (K H locs ls hP hD hS hl)
theorem gg_iload_n (E : gg_V p l s m args meth c cc nL own g A ro) {k4 : Fin 4} {i : Nat} {x : Int32} (hdg : decode cc pc = .ok (.iload_n k4, 1)) (hi : (k4 : Nat) = i) (hl0 : lv[i]? = some (some (.int x))) (K : gg_W p l e R s m args below meth c g A nL Q kc ns M lv (.int x :: st) (pc + 1)) : gg_W p l e R s m args below meth c g A nL Q kc ns M lv st pc := fun H locs ls hP hD hS hl => lv_iload_n E.1 E.2.1 hdg hi (hl.at hl0) (K H locs ls hP hD hS hl)
theorem gg_iload (E : gg_V p l s m args meth c cc nL own g A ro) {i : Nat} {x : Int32} (hdg : decode cc pc = .ok (.iload i, 2)) (hl0 : lv[i]? = some (some (.int x))) (K : gg_W p l e R s m args below meth c g A nL Q kc ns M lv (.int x :: st) (pc + 2)) : gg_W p l e R s m args below meth c g A nL Q kc ns M lv st pc := fun H locs ls hP hD hS hl => lv_iload E.1 E.2.1 hdg (hl.at hl0) (K H locs ls hP hD hS hl)
theorem gg_lload_n (E : gg_V p l s m args meth c cc nL own g A ro) {k4 : Fin 4} {i : Nat} {x : Int64} (hdg : decode cc pc = .ok (.lload_n k4, 1)) (hi : (k4 : Nat) = i) (hl0 : lv[i]? = some (some (.long x))) (K : gg_W p l e R s m args below meth c g A nL Q kc ns M lv (.long x :: st) (pc + 1)) : gg_W p l e R s m args below meth c g A nL Q kc ns M lv st pc := fun H locs ls hP hD hS hl => lv_lload_n E.1 E.2.1 hdg hi (hl.at hl0) (K H locs ls hP hD hS hl)
theorem gg_lload (E : gg_V p l s m args meth c cc nL own g A ro) {i : Nat} {x : Int64} (hdg : decode cc pc = .ok (.lload i, 2)) (hl0 : lv[i]? = some (some (.long x))) (K : gg_W p l e R s m args below meth c g A nL Q kc ns M lv (.long x :: st) (pc + 2)) : gg_W p l e R s m args below meth c g A nL Q kc ns M lv st pc := fun H locs ls hP hD hS hl => lv_lload E.1 E.2.1 hdg (hl.at hl0) (K H locs ls hP hD hS hl)
theorem gg_aload_n (E : gg_V p l s m args meth c cc nL own g A ro) {k4 : Fin 4} {i : Nat} {x : Nat} (hdg : decode cc pc = .ok (.aload_n k4, 1)) (hi : (k4 : Nat) = i) (hl0 : lv[i]? = some (some (.ref x))) (K : gg_W p l e R s m args below meth c g A nL Q kc ns M lv (.ref x :: st) (pc + 1)) : gg_W p l e R s m args below meth c g A nL Q kc ns M lv st pc := fun H locs ls hP hD hS hl => lv_aload_n E.1 E.2.1 hdg hi (hl.at hl0) (K H locs ls hP hD hS hl)
theorem gg_aload (E : gg_V p l s m args meth c cc nL own g A ro) {i : Nat} {x : Nat} (hdg : decode cc pc = .ok (.aload i, 2)) (hl0 : lv[i]? = some (some (.ref x))) (K : gg_W p l e R s m args below meth c g A nL Q kc ns M lv (.ref x :: st) (pc + 2)) : gg_W p l e R s m args below meth c g A nL Q kc ns M lv st pc := fun H locs ls hP hD hS hl => lv_aload E.1 E.2.1 hdg (hl.at hl0) (K H locs ls hP hD hS hl)
theorem gg_istore_n (E : gg_V p l s m args meth c cc nL own g A ro) {k4 : Fin 4} {i : Nat} {x : Int32} {lv' : List (Option Value)} (hdg : decode cc pc = .ok (.istore_n k4, 1)) (hi : (k4 : Nat) = i) (hn : i < nL) (hf : gg_free lv i = true) (hs : lv.set i (some (Value.int x)) = lv') (K : gg_W p l e R s m args below meth c g A nL Q kc ns M lv' st (pc + 1)) : gg_W p l e R s m args below meth c g A nL Q kc ns M lv (.int x :: st) pc := fun H locs ls hP hD hS hl => lv_istore_n E.1 E.2.1 hdg hi hl.has hn rfl fun ls' h' => K H locs ls' hP hD hS (gg_L.set1 hf hs h')
theorem gg_istore (E : gg_V p l s m args meth c cc nL own g A ro) {i : Nat} {x : Int32} {lv' : List (Option Value)} (hdg : decode cc pc = .ok (.istore i, 2)) (hn : i < nL) (hf : gg_free lv i = true) (hs : lv.set i (some (Value.int x)) = lv') (K : gg_W p l e R s m args below meth c g A nL Q kc ns M lv' st (pc + 2)) : gg_W p l e R s m args below meth c g A nL Q kc ns M lv (.int x :: st) pc := fun H locs ls hP hD hS hl => lv_istore E.1 E.2.1 hdg hl.has hn rfl fun ls' h' => K H locs ls' hP hD hS (gg_L.set1 hf hs h')
theorem gg_lstore_n (E : gg_V p l s m args meth c cc nL own g A ro) {k4 : Fin 4} {i : Nat} {x : Int64} {lv' : List (Option Value)} (hdg : decode cc pc = .ok (.lstore_n k4, 1)) (hi : (k4 : Nat) = i) (hn : i + 1 < nL) (hf : gg_free lv i = true) (hs : (lv.set i (some (Value.long x))).set (i + 1) none = lv') (K : gg_W p l e R s m args below meth c g A nL Q kc ns M lv' st (pc + 1)) : gg_W p l e R s m args below meth c g A nL Q kc ns M lv (.long x :: st) pc := fun H locs ls hP hD hS hl => lv_lstore_n E.1 E.2.1 hdg hi hl.has hn rfl fun ls' h' => K H locs ls' hP hD hS (gg_L.set2 hf hs h')
theorem gg_lstore (E : gg_V p l s m args meth c cc nL own g A ro) {i : Nat} {x : Int64} {lv' : List (Option Value)} (hdg : decode cc pc = .ok (.lstore i, 2)) (hn : i + 1 < nL) (hf : gg_free lv i = true) (hs : (lv.set i (some (Value.long x))).set (i + 1) none = lv') (K : gg_W p l e R s m args below meth c g A nL Q kc ns M lv' st (pc + 2)) : gg_W p l e R s m args below meth c g A nL Q kc ns M lv (.long x :: st) pc := fun H locs ls hP hD hS hl => lv_lstore E.1 E.2.1 hdg hl.has hn rfl fun ls' h' => K H locs ls' hP hD hS (gg_L.set2 hf hs h')
theorem gg_astore_n (E : gg_V p l s m args meth c cc nL own g A ro) {k4 : Fin 4} {i : Nat} {x : Nat} {lv' : List (Option Value)} (hdg : decode cc pc = .ok (.astore_n k4, 1)) (hi : (k4 : Nat) = i) (hn : i < nL) (hf : gg_free lv i = true) (hs : lv.set i (some (Value.ref x)) = lv') (K : gg_W p l e R s m args below meth c g A nL Q kc ns M lv' st (pc + 1)) : gg_W p l e R s m args below meth c g A nL Q kc ns M lv (.ref x :: st) pc := fun H locs ls hP hD hS hl => lv_astore_n E.1 E.2.1 hdg hi hl.has hn rfl fun ls' h' => K H locs ls' hP hD hS (gg_L.set1 hf hs h')
theorem gg_astore (E : gg_V p l s m args meth c cc nL own g A ro) {i : Nat} {x : Nat} {lv' : List (Option Value)} (hdg : decode cc pc = .ok (.astore i, 2)) (hn : i < nL) (hf : gg_free lv i = true) (hs : lv.set i (some (Value.ref x)) = lv') (K : gg_W p l e R s m args below meth c g A nL Q kc ns M lv' st (pc + 2)) : gg_W p l e R s m args below meth c g A nL Q kc ns M lv (.ref x :: st) pc := fun H locs ls hP hD hS hl => lv_astore E.1 E.2.1 hdg hl.has hn rfl fun ls' h' => K H locs ls' hP hD hS (gg_L.set1 hf hs h')
theorem gg_iinc (E : gg_V p l s m args meth c cc nL own g A ro) {i : Nat} {n : Int} {x v : Int32} {lv' : List (Option Value)} (hdg : decode cc pc = .ok (.iinc i n, 3)) (hk : lv[i]? = some (some (.int x))) (hv : x + Int32.ofInt n = v) (hn : i < nL) (hf : gg_free lv i = true) (hs : lv.set i (some (Value.int v)) = lv') (K : gg_W p l e R s m args below meth c g A nL Q kc ns M lv' st (pc + 3)) : gg_W p l e R s m args below meth c g A nL Q kc ns M lv st pc := fun H locs ls hP hD hS hl => lv_iinc E.1 E.2.1 hdg hl.has (List.getElem?_of_mem (gg_as_mem.mpr hk)).choose_spec hv hn rfl fun ls' h' => K H locs ls' hP hD hS (gg_L.set1 hf hs h')
theorem gg_iadd (E : gg_V p l s m args meth c cc nL own g A ro) {x y : Int32} (hdg : decode cc pc = .ok (.iadd, 1)) (K : gg_W p l e R s m args below meth c g A nL Q kc ns M lv (.int (x + y) :: st) (pc + 1)) : gg_W p l e R s m args below meth c g A nL Q kc ns M lv (.int y :: .int x :: st) pc := fun H locs ls hP hD hS hl => lv_iadd E.1 E.2.1 hdg (K H locs ls hP hD hS hl)
theorem gg_isub (E : gg_V p l s m args meth c cc nL own g A ro) {x y : Int32} (hdg : decode cc pc = .ok (.isub, 1)) (K : gg_W p l e R s m args below meth c g A nL Q kc ns M lv (.int (x - y) :: st) (pc + 1)) : gg_W p l e R s m args below meth c g A nL Q kc ns M lv (.int y :: .int x :: st) pc := fun H locs ls hP hD hS hl => lv_isub E.1 E.2.1 hdg (K H locs ls hP hD hS hl)
theorem gg_imul (E : gg_V p l s m args meth c cc nL own g A ro) {x y : Int32} (hdg : decode cc pc = .ok (.imul, 1)) (K : gg_W p l e R s m args below meth c g A nL Q kc ns M lv (.int (x * y) :: st) (pc + 1)) : gg_W p l e R s m args below meth c g A nL Q kc ns M lv (.int y :: .int x :: st) pc := fun H locs ls hP hD hS hl => lv_imul E.1 E.2.1 hdg (K H locs ls hP hD hS hl)
theorem gg_iand (E : gg_V p l s m args meth c cc nL own g A ro) {x y : Int32} (hdg : decode cc pc = .ok (.iand, 1)) (K : gg_W p l e R s m args below meth c g A nL Q kc ns M lv (.int (x &&& y) :: st) (pc + 1)) : gg_W p l e R s m args below meth c g A nL Q kc ns M lv (.int y :: .int x :: st) pc := fun H locs ls hP hD hS hl => lv_iand E.1 E.2.1 hdg (K H locs ls hP hD hS hl)
theorem gg_ior (E : gg_V p l s m args meth c cc nL own g A ro) {x y : Int32} (hdg : decode cc pc = .ok (.ior, 1)) (K : gg_W p l e R s m args below meth c g A nL Q kc ns M lv (.int (x ||| y) :: st) (pc + 1)) : gg_W p l e R s m args below meth c g A nL Q kc ns M lv (.int y :: .int x :: st) pc := fun H locs ls hP hD hS hl => lv_ior E.1 E.2.1 hdg (K H locs ls hP hD hS hl)
theorem gg_ixor (E : gg_V p l s m args meth c cc nL own g A ro) {x y : Int32} (hdg : decode cc pc = .ok (.ixor, 1)) (K : gg_W p l e R s m args below meth c g A nL Q kc ns M lv (.int (x ^^^ y) :: st) (pc + 1)) : gg_W p l e R s m args below meth c g A nL Q kc ns M lv (.int y :: .int x :: st) pc := fun H locs ls hP hD hS hl => lv_ixor E.1 E.2.1 hdg (K H locs ls hP hD hS hl)
theorem gg_idiv (E : gg_V p l s m args meth c cc nL own g A ro) {x y : Int32} (hdg : decode cc pc = .ok (.idiv, 1)) (hne : ¬ y = 0) (K : gg_W p l e R s m args below meth c g A nL Q kc ns M lv (.int (x / y) :: st) (pc + 1)) : gg_W p l e R s m args below meth c g A nL Q kc ns M lv (.int y :: .int x :: st) pc := fun H locs ls hP hD hS hl => lv_idiv E.1 E.2.1 hdg hne (K H locs ls hP hD hS hl)
theorem gg_irem (E : gg_V p l s m args meth c cc nL own g A ro) {x y : Int32} (hdg : decode cc pc = .ok (.irem, 1)) (hne : ¬ y = 0) (K : gg_W p l e R s m args below meth c g A nL Q kc ns M lv (.int (x - x / y * y) :: st) (pc + 1)) : gg_W p l e R s m args below meth c g A nL Q kc ns M lv (.int y :: .int x :: st) pc := fun H locs ls hP hD hS hl => lv_irem E.1 E.2.1 hdg hne (K H locs ls hP hD hS hl)
theorem gg_ineg (E : gg_V p l s m args meth c cc nL own g A ro) {x : Int32} (hdg : decode cc pc = .ok (.ineg, 1)) (K : gg_W p l e R s m args below meth c g A nL Q kc ns M lv (.int (-x) :: st) (pc + 1)) : gg_W p l e R s m args below meth c g A nL Q kc ns M lv (.int x :: st) pc := fun H locs ls hP hD hS hl => lv_ineg E.1 E.2.1 hdg (K H locs ls hP hD hS hl)
theorem gg_ladd (E : gg_V p l s m args meth c cc nL own g A ro) {x y : Int64} (hdg : decode cc pc = .ok (.ladd, 1)) (K : gg_W p l e R s m args below meth c g A nL Q kc ns M lv (.long (x + y) :: st) (pc + 1)) : gg_W p l e R s m args below meth c g A nL Q kc ns M lv (.long y :: .long x :: st) pc := fun H locs ls hP hD hS hl => lv_ladd E.1 E.2.1 hdg (K H locs ls hP hD hS hl)
theorem gg_lsub (E : gg_V p l s m args meth c cc nL own g A ro) {x y : Int64} (hdg : decode cc pc = .ok (.lsub, 1)) (K : gg_W p l e R s m args below meth c g A nL Q kc ns M lv (.long (x - y) :: st) (pc + 1)) : gg_W p l e R s m args below meth c g A nL Q kc ns M lv (.long y :: .long x :: st) pc := fun H locs ls hP hD hS hl => lv_lsub E.1 E.2.1 hdg (K H locs ls hP hD hS hl)
theorem gg_lmul (E : gg_V p l s m args meth c cc nL own g A ro) {x y : Int64} (hdg : decode cc pc = .ok (.lmul, 1)) (K : gg_W p l e R s m args below meth c g A nL Q kc ns M lv (.long (x * y) :: st) (pc + 1)) : gg_W p l e R s m args below meth c g A nL Q kc ns M lv (.long y :: .long x :: st) pc := fun H locs ls hP hD hS hl => lv_lmul E.1 E.2.1 hdg (K H locs ls hP hD hS hl)
theorem gg_land (E : gg_V p l s m args meth c cc nL own g A ro) {x y : Int64} (hdg : decode cc pc = .ok (.land, 1)) (K : gg_W p l e R s m args below meth c g A nL Q kc ns M lv (.long (x &&& y) :: st) (pc + 1)) : gg_W p l e R s m args below meth c g A nL Q kc ns M lv (.long y :: .long x :: st) pc := fun H locs ls hP hD hS hl => lv_land E.1 E.2.1 hdg (K H locs ls hP hD hS hl)
theorem gg_lor (E : gg_V p l s m args meth c cc nL own g A ro) {x y : Int64} (hdg : decode cc pc = .ok (.lor, 1)) (K : gg_W p l e R s m args below meth c g A nL Q kc ns M lv (.long (x ||| y) :: st) (pc + 1)) : gg_W p l e R s m args below meth c g A nL Q kc ns M lv (.long y :: .long x :: st) pc := fun H locs ls hP hD hS hl => lv_lor E.1 E.2.1 hdg (K H locs ls hP hD hS hl)
theorem gg_lxor (E : gg_V p l s m args meth c cc nL own g A ro) {x y : Int64} (hdg : decode cc pc = .ok (.lxor, 1)) (K : gg_W p l e R s m args below meth c g A nL Q kc ns M lv (.long (x ^^^ y) :: st) (pc + 1)) : gg_W p l e R s m args below meth c g A nL Q kc ns M lv (.long y :: .long x :: st) pc := fun H locs ls hP hD hS hl => lv_lxor E.1 E.2.1 hdg (K H locs ls hP hD hS hl)
theorem gg_ldiv (E : gg_V p l s m args meth c cc nL own g A ro) {x y : Int64} (hdg : decode cc pc = .ok (.ldiv, 1)) (hne : ¬ y = 0) (K : gg_W p l e R s m args below meth c g A nL Q kc ns M lv (.long (x / y) :: st) (pc + 1)) : gg_W p l e R s m args below meth c g A nL Q kc ns M lv (.long y :: .long x :: st) pc := fun H locs ls hP hD hS hl => lv_ldiv E.1 E.2.1 hdg hne (K H locs ls hP hD hS hl)
theorem gg_lrem (E : gg_V p l s m args meth c cc nL own g A ro) {x y : Int64} (hdg : decode cc pc = .ok (.lrem, 1)) (hne : ¬ y = 0) (K : gg_W p l e R s m args below meth c g A nL Q kc ns M lv (.long (x - x / y * y) :: st) (pc + 1)) : gg_W p l e R s m args below meth c g A nL Q kc ns M lv (.long y :: .long x :: st) pc := fun H locs ls hP hD hS hl => lv_lrem E.1 E.2.1 hdg hne (K H locs ls hP hD hS hl)
theorem gg_lneg (E : gg_V p l s m args meth c cc nL own g A ro) {x : Int64} (hdg : decode cc pc = .ok (.lneg, 1)) (K : gg_W p l e R s m args below meth c g A nL Q kc ns M lv (.long (-x) :: st) (pc + 1)) : gg_W p l e R s m args below meth c g A nL Q kc ns M lv (.long x :: st) pc := fun H locs ls hP hD hS hl => lv_lneg E.1 E.2.1 hdg (K H locs ls hP hD hS hl)
theorem gg_ishl (E : gg_V p l s m args meth c cc nL own g A ro) {x y : Int32} (hdg : decode cc pc = .ok (.ishl, 1)) (K : gg_W p l e R s m args below meth c g A nL Q kc ns M lv (.int (x <<< (y &&& 31)) :: st) (pc + 1)) : gg_W p l e R s m args below meth c g A nL Q kc ns M lv (.int y :: .int x :: st) pc := fun H locs ls hP hD hS hl => lv_ishl E.1 E.2.1 hdg (K H locs ls hP hD hS hl)
theorem gg_ishr (E : gg_V p l s m args meth c cc nL own g A ro) {x y : Int32} (hdg : decode cc pc = .ok (.ishr, 1)) (K : gg_W p l e R s m args below meth c g A nL Q kc ns M lv (.int (x >>> (y &&& 31)) :: st) (pc + 1)) : gg_W p l e R s m args below meth c g A nL Q kc ns M lv (.int y :: .int x :: st) pc := fun H locs ls hP hD hS hl => lv_ishr E.1 E.2.1 hdg (K H locs ls hP hD hS hl)
theorem gg_i2l (E : gg_V p l s m args meth c cc nL own g A ro) {x : Int32} {v : Int64} (hdg : decode cc pc = .ok (.i2l, 1)) (hv : x.toInt64 = v) (K : gg_W p l e R s m args below meth c g A nL Q kc ns M lv (.long v :: st) (pc + 1)) : gg_W p l e R s m args below meth c g A nL Q kc ns M lv (.int x :: st) pc := fun H locs ls hP hD hS hl => lv_i2l E.1 E.2.1 hdg hv (K H locs ls hP hD hS hl)
theorem gg_l2i (E : gg_V p l s m args meth c cc nL own g A ro) {x : Int64} {v : Int32} (hdg : decode cc pc = .ok (.l2i, 1)) (hv : x.toInt32 = v) (K : gg_W p l e R s m args below meth c g A nL Q kc ns M lv (.int v :: st) (pc + 1)) : gg_W p l e R s m args below meth c g A nL Q kc ns M lv (.long x :: st) pc := fun H locs ls hP hD hS hl => lv_l2i E.1 E.2.1 hdg hv (K H locs ls hP hD hS hl)
theorem gg_i2b (E : gg_V p l s m args meth c cc nL own g A ro) {x : Int32} {v : Int32} (hdg : decode cc pc = .ok (.i2b, 1)) (hv : x.toInt8.toInt32 = v) (K : gg_W p l e R s m args below meth c g A nL Q kc ns M lv (.int v :: st) (pc + 1)) : gg_W p l e R s m args below meth c g A nL Q kc ns M lv (.int x :: st) pc := fun H locs ls hP hD hS hl => lv_i2b E.1 E.2.1 hdg hv (K H locs ls hP hD hS hl)
theorem gg_i2s (E : gg_V p l s m args meth c cc nL own g A ro) {x : Int32} {v : Int32} (hdg : decode cc pc = .ok (.i2s, 1)) (hv : x.toInt16.toInt32 = v) (K : gg_W p l e R s m args below meth c g A nL Q kc ns M lv (.int v :: st) (pc + 1)) : gg_W p l e R s m args below meth c g A nL Q kc ns M lv (.int x :: st) pc := fun H locs ls hP hD hS hl => lv_i2s E.1 E.2.1 hdg hv (K H locs ls hP hD hS hl)
theorem gg_i2c (E : gg_V p l s m args meth c cc nL own g A ro) {x : Int32} {v : Int32} (hdg : decode cc pc = .ok (.i2c, 1)) (hv : (x.toUInt32 % 65536).toInt32 = v) (K : gg_W p l e R s m args below meth c g A nL Q kc ns M lv (.int v :: st) (pc + 1)) : gg_W p l e R s m args below meth c g A nL Q kc ns M lv (.int x :: st) pc := fun H locs ls hP hD hS hl => lv_i2c E.1 E.2.1 hdg hv (K H locs ls hP hD hS hl)
theorem gg_iushr (E : gg_V p l s m args meth c cc nL own g A ro) {x y v : Int32} (hdg : decode cc pc = .ok (.iushr, 1)) (hv : (x.toUInt32 >>> (y.toUInt32 &&& Int32.toUInt32 31)).toInt32 = v) (K : gg_W p l e R s m args below meth c g A nL Q kc ns M lv (.int v :: st) (pc + 1)) : gg_W p l e R s m args below meth c g A nL Q kc ns M lv (.int y :: .int x :: st) pc := fun H locs ls hP hD hS hl => lv_iushr E.1 E.2.1 hdg hv (K H locs ls hP hD hS hl)
theorem gg_lushr (E : gg_V p l s m args meth c cc nL own g A ro) {x v : Int64} {y : Int32} (hdg : decode cc pc = .ok (.lushr, 1)) (hv : (x.toUInt64 >>> (y.toInt64.toUInt64 &&& Int64.toUInt64 63)).toInt64 = v) (K : gg_W p l e R s m args below meth c g A nL Q kc ns M lv (.long v :: st) (pc + 1)) : gg_W p l e R s m args below meth c g A nL Q kc ns M lv (.int y :: .long x :: st) pc := fun H locs ls hP hD hS hl => lv_lushr E.1 E.2.1 hdg hv (K H locs ls hP hD hS hl)
theorem gg_lshl (E : gg_V p l s m args meth c cc nL own g A ro) {x v : Int64} {y : Int32} (hdg : decode cc pc = .ok (.lshl, 1)) (hv : x <<< (y.toInt64 &&& 63) = v) (K : gg_W p l e R s m args below meth c g A nL Q kc ns M lv (.long v :: st) (pc + 1)) : gg_W p l e R s m args below meth c g A nL Q kc ns M lv (.int y :: .long x :: st) pc := fun H locs ls hP hD hS hl => lv_lshl E.1 E.2.1 hdg hv (K H locs ls hP hD hS hl)
theorem gg_lshr (E : gg_V p l s m args meth c cc nL own g A ro) {x v : Int64} {y : Int32} (hdg : decode cc pc = .ok (.lshr, 1)) (hv : x >>> (y.toInt64 &&& 63) = v) (K : gg_W p l e R s m args below meth c g A nL Q kc ns M lv (.long v :: st) (pc + 1)) : gg_W p l e R s m args below meth c g A nL Q kc ns M lv (.int y :: .long x :: st) pc := fun H locs ls hP hD hS hl => lv_lshr E.1 E.2.1 hdg hv (K H locs ls hP hD hS hl)
theorem gg_dup (E : gg_V p l s m args meth c cc nL own g A ro) {va : Value} (hdg : decode cc pc = .ok (.dup, 1)) (hva : va.category = 1) (K : gg_W p l e R s m args below meth c g A nL Q kc ns M lv (va :: va :: st) (pc + 1)) : gg_W p l e R s m args below meth c g A nL Q kc ns M lv (va :: st) pc := fun H locs ls hP hD hS hl => lv_dup E.1 E.2.1 hdg hva (K H locs ls hP hD hS hl)
theorem gg_pop (E : gg_V p l s m args meth c cc nL own g A ro) {va : Value} (hdg : decode cc pc = .ok (.pop, 1)) (hva : va.category = 1) (K : gg_W p l e R s m args below meth c g A nL Q kc ns M lv st (pc + 1)) : gg_W p l e R s m args below meth c g A nL Q kc ns M lv (va :: st) pc := fun H locs ls hP hD hS hl => lv_pop E.1 E.2.1 hdg hva (K H locs ls hP hD hS hl)
theorem gg_dup_x1 (E : gg_V p l s m args meth c cc nL own g A ro) {va vb : Value} (hdg : decode cc pc = .ok (.dup_x1, 1)) (hva : va.category = 1) (hvb : vb.category = 1) (K : gg_W p l e R s m args below meth c g A nL Q kc ns M lv (va :: vb :: va :: st) (pc + 1)) : gg_W p l e R s m args below meth c g A nL Q kc ns M lv (va :: vb :: st) pc := fun H locs ls hP hD hS hl => lv_dup_x1 E.1 E.2.1 hdg hva hvb (K H locs ls hP hD hS hl)
theorem gg_dup_x2 (E : gg_V p l s m args meth c cc nL own g A ro) {va vb vd : Value} (hdg : decode cc pc = .ok (.dup_x2, 1)) (hva : va.category = 1) (hvb : vb.category = 1) (hvd : vd.category = 1) (K : gg_W p l e R s m args below meth c g A nL Q kc ns M lv (va :: vb :: vd :: va :: st) (pc + 1)) : gg_W p l e R s m args below meth c g A nL Q kc ns M lv (va :: vb :: vd :: st) pc := fun H locs ls hP hD hS hl => lv_dup_x2 E.1 E.2.1 hdg hva hvb hvd (K H locs ls hP hD hS hl)
theorem gg_dup2_11 (E : gg_V p l s m args meth c cc nL own g A ro) {va vb : Value} (hdg : decode cc pc = .ok (.dup2, 1)) (hva : va.category = 1) (hvb : vb.category = 1) (K : gg_W p l e R s m args below meth c g A nL Q kc ns M lv (va :: vb :: va :: vb :: st) (pc + 1)) : gg_W p l e R s m args below meth c g A nL Q kc ns M lv (va :: vb :: st) pc := fun H locs ls hP hD hS hl => lv_dup2_11 E.1 E.2.1 hdg hva hvb (K H locs ls hP hD hS hl)
theorem gg_dup2_2 (E : gg_V p l s m args meth c cc nL own g A ro) {va : Value} (hdg : decode cc pc = .ok (.dup2, 1)) (hva : va.category = 2) (K : gg_W p l e R s m args below meth c g A nL Q kc ns M lv (va :: va :: st) (pc + 1)) : gg_W p l e R s m args below meth c g A nL Q kc ns M lv (va :: st) pc := fun H locs ls hP hD hS hl => lv_dup2_2 E.1 E.2.1 hdg hva (K H locs ls hP hD hS hl)
theorem gg_pop2_2 (E : gg_V p l s m args meth c cc nL own g A ro) {va : Value} (hdg : decode cc pc = .ok (.pop2, 1)) (hva : va.category = 2) (K : gg_W p l e R s m args below meth c g A nL Q kc ns M lv st (pc + 1)) : gg_W p l e R s m args below meth c g A nL Q kc ns M lv (va :: st) pc := fun H locs ls hP hD hS hl => lv_pop2_2 E.1 E.2.1 hdg hva (K H locs ls hP hD hS hl)
theorem gg_pop2_11 (E : gg_V p l s m args meth c cc nL own g A ro) {va vb : Value} (hdg : decode cc pc = .ok (.pop2, 1)) (hva : va.category = 1) (hvb : vb.category = 1) (K : gg_W p l e R s m args below meth c g A nL Q kc ns M lv st (pc + 1)) : gg_W p l e R s m args below meth c g A nL Q kc ns M lv (va :: vb :: st) pc := fun H locs ls hP hD hS hl => lv_pop2_11 E.1 E.2.1 hdg hva hvb (K H locs ls hP hD hS hl)
theorem gg_dup2_x1_2 (E : gg_V p l s m args meth c cc nL own g A ro) {va vb : Value} (hdg : decode cc pc = .ok (.dup2_x1, 1)) (hva : va.category = 2) (hvb : vb.category = 1) (K : gg_W p l e R s m args below meth c g A nL Q kc ns M lv (va :: vb :: va :: st) (pc + 1)) : gg_W p l e R s m args below meth c g A nL Q kc ns M lv (va :: vb :: st) pc := fun H locs ls hP hD hS hl => lv_dup2_x1_2 E.1 E.2.1 hdg hva hvb (K H locs ls hP hD hS hl)
theorem gg_dup2_x2_2 (E : gg_V p l s m args meth c cc nL own g A ro) {va vb vd : Value} (hdg : decode cc pc = .ok (.dup2_x2, 1)) (hva : va.category = 2) (hvb : vb.category = 1) (hvd : vd.category = 1) (K : gg_W p l e R s m args below meth c g A nL Q kc ns M lv (va :: vb :: vd :: va :: st) (pc + 1)) : gg_W p l e R s m args below meth c g A nL Q kc ns M lv (va :: vb :: vd :: st) pc := fun H locs ls hP hD hS hl => lv_dup2_x2_2 E.1 E.2.1 hdg hva hvb hvd (K H locs ls hP hD hS hl)
theorem gg_if_eq (E : gg_V p l s m args meth c cc nL own g A ro) {x : Int32} {off : Int} {tgt : Nat} (hdg : decode cc pc = .ok (.ifCond .eq off, 3)) (ht : (pc : Int) + off = (tgt : Int)) (kt : x = 0 → gg_W p l e R s m args below meth c g A nL Q kc ns M lv st tgt) (kf : ¬ x = 0 → gg_W p l e R s m args below meth c g A nL Q kc ns M lv st (pc + 3)) : gg_W p l e R s m args below meth c g A nL Q kc ns M lv (.int x :: st) pc := fun H locs ls hP hD hS hl => lv_if_eq E.1 E.2.1 hdg ht (fun z => kt z H locs ls hP hD hS hl) (fun z => kf z H locs ls hP hD hS hl)
theorem gg_icmp_eq (E : gg_V p l s m args meth c cc nL own g A ro) {x y : Int32} {off : Int} {tgt : Nat} (hdg : decode cc pc = .ok (.if_icmp .eq off, 3)) (ht : (pc : Int) + off = (tgt : Int)) (kt : x = y → gg_W p l e R s m args below meth c g A nL Q kc ns M lv st tgt) (kf : ¬ x = y → gg_W p l e R s m args below meth c g A nL Q kc ns M lv st (pc + 3)) : gg_W p l e R s m args below meth c g A nL Q kc ns M lv (.int y :: .int x :: st) pc := fun H locs ls hP hD hS hl => lv_icmp_eq E.1 E.2.1 hdg ht (fun z => kt z H locs ls hP hD hS hl) (fun z => kf z H locs ls hP hD hS hl)
theorem gg_if_ne (E : gg_V p l s m args meth c cc nL own g A ro) {x : Int32} {off : Int} {tgt : Nat} (hdg : decode cc pc = .ok (.ifCond .ne off, 3)) (ht : (pc : Int) + off = (tgt : Int)) (kt : ¬ x = 0 → gg_W p l e R s m args below meth c g A nL Q kc ns M lv st tgt) (kf : x = 0 → gg_W p l e R s m args below meth c g A nL Q kc ns M lv st (pc + 3)) : gg_W p l e R s m args below meth c g A nL Q kc ns M lv (.int x :: st) pc := fun H locs ls hP hD hS hl => lv_if_ne E.1 E.2.1 hdg ht (fun z => kt z H locs ls hP hD hS hl) (fun z => kf z H locs ls hP hD hS hl)
theorem gg_icmp_ne (E : gg_V p l s m args meth c cc nL own g A ro) {x y : Int32} {off : Int} {tgt : Nat} (hdg : decode cc pc = .ok (.if_icmp .ne off, 3)) (ht : (pc : Int) + off = (tgt : Int)) (kt : ¬ x = y → gg_W p l e R s m args below meth c g A nL Q kc ns M lv st tgt) (kf : x = y → gg_W p l e R s m args below meth c g A nL Q kc ns M lv st (pc + 3)) : gg_W p l e R s m args below meth c g A nL Q kc ns M lv (.int y :: .int x :: st) pc := fun H locs ls hP hD hS hl => lv_icmp_ne E.1 E.2.1 hdg ht (fun z => kt z H locs ls hP hD hS hl) (fun z => kf z H locs ls hP hD hS hl)
theorem gg_if_lt (E : gg_V p l s m args meth c cc nL own g A ro) {x : Int32} {off : Int} {tgt : Nat} (hdg : decode cc pc = .ok (.ifCond .lt off, 3)) (ht : (pc : Int) + off = (tgt : Int)) (kt : x < 0 → gg_W p l e R s m args below meth c g A nL Q kc ns M lv st tgt) (kf : ¬ x < 0 → gg_W p l e R s m args below meth c g A nL Q kc ns M lv st (pc + 3)) : gg_W p l e R s m args below meth c g A nL Q kc ns M lv (.int x :: st) pc := fun H locs ls hP hD hS hl => lv_if_lt E.1 E.2.1 hdg ht (fun z => kt z H locs ls hP hD hS hl) (fun z => kf z H locs ls hP hD hS hl)
theorem gg_icmp_lt (E : gg_V p l s m args meth c cc nL own g A ro) {x y : Int32} {off : Int} {tgt : Nat} (hdg : decode cc pc = .ok (.if_icmp .lt off, 3)) (ht : (pc : Int) + off = (tgt : Int)) (kt : x < y → gg_W p l e R s m args below meth c g A nL Q kc ns M lv st tgt) (kf : ¬ x < y → gg_W p l e R s m args below meth c g A nL Q kc ns M lv st (pc + 3)) : gg_W p l e R s m args below meth c g A nL Q kc ns M lv (.int y :: .int x :: st) pc := fun H locs ls hP hD hS hl => lv_icmp_lt E.1 E.2.1 hdg ht (fun z => kt z H locs ls hP hD hS hl) (fun z => kf z H locs ls hP hD hS hl)
theorem gg_if_ge (E : gg_V p l s m args meth c cc nL own g A ro) {x : Int32} {off : Int} {tgt : Nat} (hdg : decode cc pc = .ok (.ifCond .ge off, 3)) (ht : (pc : Int) + off = (tgt : Int)) (kt : 0 ≤ x → gg_W p l e R s m args below meth c g A nL Q kc ns M lv st tgt) (kf : ¬ 0 ≤ x → gg_W p l e R s m args below meth c g A nL Q kc ns M lv st (pc + 3)) : gg_W p l e R s m args below meth c g A nL Q kc ns M lv (.int x :: st) pc := fun H locs ls hP hD hS hl => lv_if_ge E.1 E.2.1 hdg ht (fun z => kt z H locs ls hP hD hS hl) (fun z => kf z H locs ls hP hD hS hl)
theorem gg_icmp_ge (E : gg_V p l s m args meth c cc nL own g A ro) {x y : Int32} {off : Int} {tgt : Nat} (hdg : decode cc pc = .ok (.if_icmp .ge off, 3)) (ht : (pc : Int) + off = (tgt : Int)) (kt : y ≤ x → gg_W p l e R s m args below meth c g A nL Q kc ns M lv st tgt) (kf : ¬ y ≤ x → gg_W p l e R s m args below meth c g A nL Q kc ns M lv st (pc + 3)) : gg_W p l e R s m args below meth c g A nL Q kc ns M lv (.int y :: .int x :: st) pc := fun H locs ls hP hD hS hl => lv_icmp_ge E.1 E.2.1 hdg ht (fun z => kt z H locs ls hP hD hS hl) (fun z => kf z H locs ls hP hD hS hl)
theorem gg_if_gt (E : gg_V p l s m args meth c cc nL own g A ro) {x : Int32} {off : Int} {tgt : Nat} (hdg : decode cc pc = .ok (.ifCond .gt off, 3)) (ht : (pc : Int) + off = (tgt : Int)) (kt : 0 < x → gg_W p l e R s m args below meth c g A nL Q kc ns M lv st tgt) (kf : ¬ 0 < x → gg_W p l e R s m args below meth c g A nL Q kc ns M lv st (pc + 3)) : gg_W p l e R s m args below meth c g A nL Q kc ns M lv (.int x :: st) pc := fun H locs ls hP hD hS hl => lv_if_gt E.1 E.2.1 hdg ht (fun z => kt z H locs ls hP hD hS hl) (fun z => kf z H locs ls hP hD hS hl)
theorem gg_icmp_gt (E : gg_V p l s m args meth c cc nL own g A ro) {x y : Int32} {off : Int} {tgt : Nat} (hdg : decode cc pc = .ok (.if_icmp .gt off, 3)) (ht : (pc : Int) + off = (tgt : Int)) (kt : y < x → gg_W p l e R s m args below meth c g A nL Q kc ns M lv st tgt) (kf : ¬ y < x → gg_W p l e R s m args below meth c g A nL Q kc ns M lv st (pc + 3)) : gg_W p l e R s m args below meth c g A nL Q kc ns M lv (.int y :: .int x :: st) pc := fun H locs ls hP hD hS hl => lv_icmp_gt E.1 E.2.1 hdg ht (fun z => kt z H locs ls hP hD hS hl) (fun z => kf z H locs ls hP hD hS hl)
theorem gg_if_le (E : gg_V p l s m args meth c cc nL own g A ro) {x : Int32} {off : Int} {tgt : Nat} (hdg : decode cc pc = .ok (.ifCond .le off, 3)) (ht : (pc : Int) + off = (tgt : Int)) (kt : x ≤ 0 → gg_W p l e R s m args below meth c g A nL Q kc ns M lv st tgt) (kf : ¬ x ≤ 0 → gg_W p l e R s m args below meth c g A nL Q kc ns M lv st (pc + 3)) : gg_W p l e R s m args below meth c g A nL Q kc ns M lv (.int x :: st) pc := fun H locs ls hP hD hS hl => lv_if_le E.1 E.2.1 hdg ht (fun z => kt z H locs ls hP hD hS hl) (fun z => kf z H locs ls hP hD hS hl)
theorem gg_icmp_le (E : gg_V p l s m args meth c cc nL own g A ro) {x y : Int32} {off : Int} {tgt : Nat} (hdg : decode cc pc = .ok (.if_icmp .le off, 3)) (ht : (pc : Int) + off = (tgt : Int)) (kt : x ≤ y → gg_W p l e R s m args below meth c g A nL Q kc ns M lv st tgt) (kf : ¬ x ≤ y → gg_W p l e R s m args below meth c g A nL Q kc ns M lv st (pc + 3)) : gg_W p l e R s m args below meth c g A nL Q kc ns M lv (.int y :: .int x :: st) pc := fun H locs ls hP hD hS hl => lv_icmp_le E.1 E.2.1 hdg ht (fun z => kt z H locs ls hP hD hS hl) (fun z => kf z H locs ls hP hD hS hl)
theorem gg_goto (E : gg_V p l s m args meth c cc nL own g A ro) {off : Int} {tgt : Nat} (hdg : decode cc pc = .ok (.goto off, 3)) (ht : (pc : Int) + off = (tgt : Int)) (K : gg_W p l e R s m args below meth c g A nL Q kc ns M lv st tgt) : gg_W p l e R s m args below meth c g A nL Q kc ns M lv st pc := fun H locs ls hP hD hS hl => lv_goto E.1 E.2.1 hdg ht (K H locs ls hP hD hS hl)
theorem gg_fconst0 (E : gg_V p l s m args meth c cc nL own g A ro) (hdg : decode cc pc = .ok (.fconst 0, 1)) (K : gg_W p l e R s m args below meth c g A nL Q kc ns M lv (.float FP.fconst0 :: st) (pc + 1)) : gg_W p l e R s m args below meth c g A nL Q kc ns M lv st pc := fun H locs ls hP hD hS hl => lv_fconst0 E.1 E.2.1 hdg (K H locs ls hP hD hS hl)
theorem gg_fconst1 (E : gg_V p l s m args meth c cc nL own g A ro) (hdg : decode cc pc = .ok (.fconst 1, 1)) (K : gg_W p l e R s m args below meth c g A nL Q kc ns M lv (.float FP.fconst1 :: st) (pc + 1)) : gg_W p l e R s m args below meth c g A nL Q kc ns M lv st pc := fun H locs ls hP hD hS hl => lv_fconst1 E.1 E.2.1 hdg (K H locs ls hP hD hS hl)
theorem gg_fconst2 (E : gg_V p l s m args meth c cc nL own g A ro) (hdg : decode cc pc = .ok (.fconst 2, 1)) (K : gg_W p l e R s m args below meth c g A nL Q kc ns M lv (.float FP.fconst2 :: st) (pc + 1)) : gg_W p l e R s m args below meth c g A nL Q kc ns M lv st pc := fun H locs ls hP hD hS hl => lv_fconst2 E.1 E.2.1 hdg (K H locs ls hP hD hS hl)
theorem gg_dconst0 (E : gg_V p l s m args meth c cc nL own g A ro) (hdg : decode cc pc = .ok (.dconst 0, 1)) (K : gg_W p l e R s m args below meth c g A nL Q kc ns M lv (.double FP.dconst0 :: st) (pc + 1)) : gg_W p l e R s m args below meth c g A nL Q kc ns M lv st pc := fun H locs ls hP hD hS hl => lv_dconst0 E.1 E.2.1 hdg (K H locs ls hP hD hS hl)
theorem gg_dconst1 (E : gg_V p l s m args meth c cc nL own g A ro) (hdg : decode cc pc = .ok (.dconst 1, 1)) (K : gg_W p l e R s m args below meth c g A nL Q kc ns M lv (.double FP.dconst1 :: st) (pc + 1)) : gg_W p l e R s m args below meth c g A nL Q kc ns M lv st pc := fun H locs ls hP hD hS hl => lv_dconst1 E.1 E.2.1 hdg (K H locs ls hP hD hS hl)
theorem gg_fload_n (E : gg_V p l s m args meth c cc nL own g A ro) {k4 : Fin 4} {i : Nat} {x : UInt32} (hdg : decode cc pc = .ok (.fload_n k4, 1)) (hi : (k4 : Nat) = i) (hl0 : lv[i]? = some (some (.float x))) (K : gg_W p l e R s m args below meth c g A nL Q kc ns M lv (.float x :: st) (pc + 1)) : gg_W p l e R s m args below meth c g A nL Q kc ns M lv st pc := fun H locs ls hP hD hS hl => lv_fload_n E.1 E.2.1 hdg hi (hl.at hl0) (K H locs ls hP hD hS hl)
theorem gg_fload (E : gg_V p l s m args meth c cc nL own g A ro) {i : Nat} {x : UInt32} (hdg : decode cc pc = .ok (.fload i, 2)) (hl0 : lv[i]? = some (some (.float x))) (K : gg_W p l e R s m args below meth c g A nL Q kc ns M lv (.float x :: st) (pc + 2)) : gg_W p l e R s m args below meth c g A nL Q kc ns M lv st pc := fun H locs ls hP hD hS hl => lv_fload E.1 E.2.1 hdg (hl.at hl0) (K H locs ls hP hD hS hl)
theorem gg_fadd (E : gg_V p l s m args meth c cc nL own g A ro) {x y : UInt32} (hdg : decode cc pc = .ok (.fadd, 1)) (hne : vf_n32 (FP.fadd x y)) (K : gg_W p l e R s m args below meth c g A nL Q kc ns M lv (.float (FP.fadd x y) :: st) (pc + 1)) : gg_W p l e R s m args below meth c g A nL Q kc ns M lv (.float y :: .float x :: st) pc := fun H locs ls hP hD hS hl => lv_fadd E.1 E.2.1 hdg hne (K H locs ls hP hD hS hl)
theorem gg_fsub (E : gg_V p l s m args meth c cc nL own g A ro) {x y : UInt32} (hdg : decode cc pc = .ok (.fsub, 1)) (hne : vf_n32 (FP.fsub x y)) (K : gg_W p l e R s m args below meth c g A nL Q kc ns M lv (.float (FP.fsub x y) :: st) (pc + 1)) : gg_W p l e R s m args below meth c g A nL Q kc ns M lv (.float y :: .float x :: st) pc := fun H locs ls hP hD hS hl => lv_fsub E.1 E.2.1 hdg hne (K H locs ls hP hD hS hl)
theorem gg_fmul (E : gg_V p l s m args meth c cc nL own g A ro) {x y : UInt32} (hdg : decode cc pc = .ok (.fmul, 1)) (hne : vf_n32 (FP.fmul x y)) (K : gg_W p l e R s m args below meth c g A nL Q kc ns M lv (.float (FP.fmul x y) :: st) (pc + 1)) : gg_W p l e R s m args below meth c g A nL Q kc ns M lv (.float y :: .float x :: st) pc := fun H locs ls hP hD hS hl => lv_fmul E.1 E.2.1 hdg hne (K H locs ls hP hD hS hl)
theorem gg_fdiv (E : gg_V p l s m args meth c cc nL own g A ro) {x y : UInt32} (hdg : decode cc pc = .ok (.fdiv, 1)) (hne : vf_n32 (FP.fdiv x y)) (K : gg_W p l e R s m args below meth c g A nL Q kc ns M lv (.float (FP.fdiv x y) :: st) (pc + 1)) : gg_W p l e R s m args below meth c g A nL Q kc ns M lv (.float y :: .float x :: st) pc := fun H locs ls hP hD hS hl => lv_fdiv E.1 E.2.1 hdg hne (K H locs ls hP hD hS hl)
theorem gg_frem (E : gg_V p l s m args meth c cc nL own g A ro) {x y : UInt32} (hdg : decode cc pc = .ok (.frem, 1)) (hne : vf_n32 (FP.frem x y)) (K : gg_W p l e R s m args below meth c g A nL Q kc ns M lv (.float (FP.frem x y) :: st) (pc + 1)) : gg_W p l e R s m args below meth c g A nL Q kc ns M lv (.float y :: .float x :: st) pc := fun H locs ls hP hD hS hl => lv_frem E.1 E.2.1 hdg hne (K H locs ls hP hD hS hl)
theorem gg_fneg (E : gg_V p l s m args meth c cc nL own g A ro) {x : UInt32} (hdg : decode cc pc = .ok (.fneg, 1)) (K : gg_W p l e R s m args below meth c g A nL Q kc ns M lv (.float (FP.fneg x) :: st) (pc + 1)) : gg_W p l e R s m args below meth c g A nL Q kc ns M lv (.float x :: st) pc := fun H locs ls hP hD hS hl => lv_fneg E.1 E.2.1 hdg (K H locs ls hP hD hS hl)
theorem gg_fcmp (E : gg_V p l s m args meth c cc nL own g A ro) {x y : UInt32} {op : CmpOp} (hdg : decode cc pc = .ok (.fcmp op, 1)) (K : gg_W p l e R s m args below meth c g A nL Q kc ns M lv (.int (Op.cmpValue (FP.fcmp x y) op) :: st) (pc + 1)) : gg_W p l e R s m args below meth c g A nL Q kc ns M lv (.float y :: .float x :: st) pc := fun H locs ls hP hD hS hl => lv_fcmp E.1 E.2.1 hdg (K H locs ls hP hD hS hl)
theorem gg_i2f (E : gg_V p l s m args meth c cc nL own g A ro) {x : Int32} (hdg : decode cc pc = .ok (.i2f, 1)) (K : gg_W p l e R s m args below meth c g A nL Q kc ns M lv (.float (FP.i2f x) :: st) (pc + 1)) : gg_W p l e R s m args below meth c g A nL Q kc ns M lv (.int x :: st) pc := fun H locs ls hP hD hS hl => lv_i2f E.1 E.2.1 hdg (K H locs ls hP hD hS hl)
theorem gg_l2f (E : gg_V p l s m args meth c cc nL own g A ro) {x : Int64} (hdg : decode cc pc = .ok (.l2f, 1)) (K : gg_W p l e R s m args below meth c g A nL Q kc ns M lv (.float (FP.l2f x) :: st) (pc + 1)) : gg_W p l e R s m args below meth c g A nL Q kc ns M lv (.long x :: st) pc := fun H locs ls hP hD hS hl => lv_l2f E.1 E.2.1 hdg (K H locs ls hP hD hS hl)
theorem gg_f2i (E : gg_V p l s m args meth c cc nL own g A ro) {x : UInt32} (hdg : decode cc pc = .ok (.f2i, 1)) (K : gg_W p l e R s m args below meth c g A nL Q kc ns M lv (.int (FP.f2i x) :: st) (pc + 1)) : gg_W p l e R s m args below meth c g A nL Q kc ns M lv (.float x :: st) pc := fun H locs ls hP hD hS hl => lv_f2i E.1 E.2.1 hdg (K H locs ls hP hD hS hl)
theorem gg_f2l (E : gg_V p l s m args meth c cc nL own g A ro) {x : UInt32} (hdg : decode cc pc = .ok (.f2l, 1)) (K : gg_W p l e R s m args below meth c g A nL Q kc ns M lv (.long (FP.f2l x) :: st) (pc + 1)) : gg_W p l e R s m args below meth c g A nL Q kc ns M lv (.float x :: st) pc := fun H locs ls hP hD hS hl => lv_f2l E.1 E.2.1 hdg (K H locs ls hP hD hS hl)
theorem gg_dload_n (E : gg_V p l s m args meth c cc nL own g A ro) {k4 : Fin 4} {i : Nat} {x : UInt64} (hdg : decode cc pc = .ok (.dload_n k4, 1)) (hi : (k4 : Nat) = i) (hl0 : lv[i]? = some (some (.double x))) (K : gg_W p l e R s m args below meth c g A nL Q kc ns M lv (.double x :: st) (pc + 1)) : gg_W p l e R s m args below meth c g A nL Q kc ns M lv st pc := fun H locs ls hP hD hS hl => lv_dload_n E.1 E.2.1 hdg hi (hl.at hl0) (K H locs ls hP hD hS hl)
theorem gg_dload (E : gg_V p l s m args meth c cc nL own g A ro) {i : Nat} {x : UInt64} (hdg : decode cc pc = .ok (.dload i, 2)) (hl0 : lv[i]? = some (some (.double x))) (K : gg_W p l e R s m args below meth c g A nL Q kc ns M lv (.double x :: st) (pc + 2)) : gg_W p l e R s m args below meth c g A nL Q kc ns M lv st pc := fun H locs ls hP hD hS hl => lv_dload E.1 E.2.1 hdg (hl.at hl0) (K H locs ls hP hD hS hl)
theorem gg_dadd (E : gg_V p l s m args meth c cc nL own g A ro) {x y : UInt64} (hdg : decode cc pc = .ok (.dadd, 1)) (hne : vf_n64 (FP.dadd x y)) (K : gg_W p l e R s m args below meth c g A nL Q kc ns M lv (.double (FP.dadd x y) :: st) (pc + 1)) : gg_W p l e R s m args below meth c g A nL Q kc ns M lv (.double y :: .double x :: st) pc := fun H locs ls hP hD hS hl => lv_dadd E.1 E.2.1 hdg hne (K H locs ls hP hD hS hl)
theorem gg_dsub (E : gg_V p l s m args meth c cc nL own g A ro) {x y : UInt64} (hdg : decode cc pc = .ok (.dsub, 1)) (hne : vf_n64 (FP.dsub x y)) (K : gg_W p l e R s m args below meth c g A nL Q kc ns M lv (.double (FP.dsub x y) :: st) (pc + 1)) : gg_W p l e R s m args below meth c g A nL Q kc ns M lv (.double y :: .double x :: st) pc := fun H locs ls hP hD hS hl => lv_dsub E.1 E.2.1 hdg hne (K H locs ls hP hD hS hl)
theorem gg_dmul (E : gg_V p l s m args meth c cc nL own g A ro) {x y : UInt64} (hdg : decode cc pc = .ok (.dmul, 1)) (hne : vf_n64 (FP.dmul x y)) (K : gg_W p l e R s m args below meth c g A nL Q kc ns M lv (.double (FP.dmul x y) :: st) (pc + 1)) : gg_W p l e R s m args below meth c g A nL Q kc ns M lv (.double y :: .double x :: st) pc := fun H locs ls hP hD hS hl => lv_dmul E.1 E.2.1 hdg hne (K H locs ls hP hD hS hl)
theorem gg_ddiv (E : gg_V p l s m args meth c cc nL own g A ro) {x y : UInt64} (hdg : decode cc pc = .ok (.ddiv, 1)) (hne : vf_n64 (FP.ddiv x y)) (K : gg_W p l e R s m args below meth c g A nL Q kc ns M lv (.double (FP.ddiv x y) :: st) (pc + 1)) : gg_W p l e R s m args below meth c g A nL Q kc ns M lv (.double y :: .double x :: st) pc := fun H locs ls hP hD hS hl => lv_ddiv E.1 E.2.1 hdg hne (K H locs ls hP hD hS hl)
theorem gg_drem (E : gg_V p l s m args meth c cc nL own g A ro) {x y : UInt64} (hdg : decode cc pc = .ok (.drem, 1)) (hne : vf_n64 (FP.drem x y)) (K : gg_W p l e R s m args below meth c g A nL Q kc ns M lv (.double (FP.drem x y) :: st) (pc + 1)) : gg_W p l e R s m args below meth c g A nL Q kc ns M lv (.double y :: .double x :: st) pc := fun H locs ls hP hD hS hl => lv_drem E.1 E.2.1 hdg hne (K H locs ls hP hD hS hl)
theorem gg_dneg (E : gg_V p l s m args meth c cc nL own g A ro) {x : UInt64} (hdg : decode cc pc = .ok (.dneg, 1)) (K : gg_W p l e R s m args below meth c g A nL Q kc ns M lv (.double (FP.dneg x) :: st) (pc + 1)) : gg_W p l e R s m args below meth c g A nL Q kc ns M lv (.double x :: st) pc := fun H locs ls hP hD hS hl => lv_dneg E.1 E.2.1 hdg (K H locs ls hP hD hS hl)
theorem gg_dcmp (E : gg_V p l s m args meth c cc nL own g A ro) {x y : UInt64} {op : CmpOp} (hdg : decode cc pc = .ok (.dcmp op, 1)) (K : gg_W p l e R s m args below meth c g A nL Q kc ns M lv (.int (Op.cmpValue (FP.dcmp x y) op) :: st) (pc + 1)) : gg_W p l e R s m args below meth c g A nL Q kc ns M lv (.double y :: .double x :: st) pc := fun H locs ls hP hD hS hl => lv_dcmp E.1 E.2.1 hdg (K H locs ls hP hD hS hl)
theorem gg_i2d (E : gg_V p l s m args meth c cc nL own g A ro) {x : Int32} (hdg : decode cc pc = .ok (.i2d, 1)) (K : gg_W p l e R s m args below meth c g A nL Q kc ns M lv (.double (FP.i2d x) :: st) (pc + 1)) : gg_W p l e R s m args below meth c g A nL Q kc ns M lv (.int x :: st) pc := fun H locs ls hP hD hS hl => lv_i2d E.1 E.2.1 hdg (K H locs ls hP hD hS hl)
theorem gg_l2d (E : gg_V p l s m args meth c cc nL own g A ro) {x : Int64} (hdg : decode cc pc = .ok (.l2d, 1)) (K : gg_W p l e R s m args below meth c g A nL Q kc ns M lv (.double (FP.l2d x) :: st) (pc + 1)) : gg_W p l e R s m args below meth c g A nL Q kc ns M lv (.long x :: st) pc := fun H locs ls hP hD hS hl => lv_l2d E.1 E.2.1 hdg (K H locs ls hP hD hS hl)
theorem gg_d2i (E : gg_V p l s m args meth c cc nL own g A ro) {x : UInt64} (hdg : decode cc pc = .ok (.d2i, 1)) (K : gg_W p l e R s m args below meth c g A nL Q kc ns M lv (.int (FP.d2i x) :: st) (pc + 1)) : gg_W p l e R s m args below meth c g A nL Q kc ns M lv (.double x :: st) pc := fun H locs ls hP hD hS hl => lv_d2i E.1 E.2.1 hdg (K H locs ls hP hD hS hl)
theorem gg_d2l (E : gg_V p l s m args meth c cc nL own g A ro) {x : UInt64} (hdg : decode cc pc = .ok (.d2l, 1)) (K : gg_W p l e R s m args below meth c g A nL Q kc ns M lv (.long (FP.d2l x) :: st) (pc + 1)) : gg_W p l e R s m args below meth c g A nL Q kc ns M lv (.double x :: st) pc := fun H locs ls hP hD hS hl => lv_d2l E.1 E.2.1 hdg (K H locs ls hP hD hS hl)
theorem gg_f2d (E : gg_V p l s m args meth c cc nL own g A ro) {x : UInt32} (hdg : decode cc pc = .ok (.f2d, 1)) (hne : vf_n64 (FP.f2d x)) (K : gg_W p l e R s m args below meth c g A nL Q kc ns M lv (.double (FP.f2d x) :: st) (pc + 1)) : gg_W p l e R s m args below meth c g A nL Q kc ns M lv (.float x :: st) pc := fun H locs ls hP hD hS hl => lv_f2d E.1 E.2.1 hdg hne (K H locs ls hP hD hS hl)
theorem gg_d2f (E : gg_V p l s m args meth c cc nL own g A ro) {x : UInt64} (hdg : decode cc pc = .ok (.d2f, 1)) (hne : vf_n32 (FP.d2f x)) (K : gg_W p l e R s m args below meth c g A nL Q kc ns M lv (.float (FP.d2f x) :: st) (pc + 1)) : gg_W p l e R s m args below meth c g A nL Q kc ns M lv (.double x :: st) pc := fun H locs ls hP hD hS hl => lv_d2f E.1 E.2.1 hdg hne (K H locs ls hP hD hS hl)
theorem gg_fstore_n (E : gg_V p l s m args meth c cc nL own g A ro) {k4 : Fin 4} {i : Nat} {x : UInt32} {lv' : List (Option Value)} (hdg : decode cc pc = .ok (.fstore_n k4, 1)) (hi : (k4 : Nat) = i) (hn : i < nL) (hf : gg_free lv i = true) (hs : lv.set i (some (Value.float x)) = lv') (K : gg_W p l e R s m args below meth c g A nL Q kc ns M lv' st (pc + 1)) : gg_W p l e R s m args below meth c g A nL Q kc ns M lv (.float x :: st) pc := fun H locs ls hP hD hS hl => lv_fstore_n E.1 E.2.1 hdg hi hl.has hn rfl fun ls' h' => K H locs ls' hP hD hS (gg_L.set1 hf hs h')
theorem gg_fstore (E : gg_V p l s m args meth c cc nL own g A ro) {i : Nat} {x : UInt32} {lv' : List (Option Value)} (hdg : decode cc pc = .ok (.fstore i, 2)) (hn : i < nL) (hf : gg_free lv i = true) (hs : lv.set i (some (Value.float x)) = lv') (K : gg_W p l e R s m args below meth c g A nL Q kc ns M lv' st (pc + 2)) : gg_W p l e R s m args below meth c g A nL Q kc ns M lv (.float x :: st) pc := fun H locs ls hP hD hS hl => lv_fstore E.1 E.2.1 hdg hl.has hn rfl fun ls' h' => K H locs ls' hP hD hS (gg_L.set1 hf hs h')
theorem gg_dstore_n (E : gg_V p l s m args meth c cc nL own g A ro) {k4 : Fin 4} {i : Nat} {x : UInt64} {lv' : List (Option Value)} (hdg : decode cc pc = .ok (.dstore_n k4, 1)) (hi : (k4 : Nat) = i) (hn : i + 1 < nL) (hf : gg_free lv i = true) (hs : (lv.set i (some (Value.double x))).set (i + 1) none = lv') (K : gg_W p l e R s m args below meth c g A nL Q kc ns M lv' st (pc + 1)) : gg_W p l e R s m args below meth c g A nL Q kc ns M lv (.double x :: st) pc := fun H locs ls hP hD hS hl => lv_dstore_n E.1 E.2.1 hdg hi hl.has hn rfl fun ls' h' => K H locs ls' hP hD hS (gg_L.set2 hf hs h')
theorem gg_dstore (E : gg_V p l s m args meth c cc nL own g A ro) {i : Nat} {x : UInt64} {lv' : List (Option Value)} (hdg : decode cc pc = .ok (.dstore i, 2)) (hn : i + 1 < nL) (hf : gg_free lv i = true) (hs : (lv.set i (some (Value.double x))).set (i + 1) none = lv') (K : gg_W p l e R s m args below meth c g A nL Q kc ns M lv' st (pc + 2)) : gg_W p l e R s m args below meth c g A nL Q kc ns M lv (.double x :: st) pc := fun H locs ls hP hD hS hl => lv_dstore E.1 E.2.1 hdg hl.has hn rfl fun ls' h' => K H locs ls' hP hD hS (gg_L.set2 hf hs h')
theorem gg_ldcf (E : gg_V p l s m args meth c cc nL own g A ro) {index : Nat} {v : UInt32} (q : Jvm.Cond.constantFloat own index v ∈ lw_all) (hdg : decode cc pc = .ok (.ldc index, 2)) (K : gg_W p l e R s m args below meth c g A nL Q kc ns M lv (.float v :: st) (pc + 2)) : gg_W p l e R s m args below meth c g A nL Q kc ns M lv st pc := fun H locs ls hP hD hS hl => lv_ldcf E.1 E.2.1 E.2.2.2.1 (E.2.2.2.2.1 _ q) hdg (K H locs ls hP hD hS hl)
theorem gg_ldc2d (E : gg_V p l s m args meth c cc nL own g A ro) {index : Nat} {v : UInt64} (q : Jvm.Cond.constantDouble own index v ∈ lw_all) (hdg : decode cc pc = .ok (.ldc2_w index, 3)) (K : gg_W p l e R s m args below meth c g A nL Q kc ns M lv (.double v :: st) (pc + 3)) : gg_W p l e R s m args below meth c g A nL Q kc ns M lv st pc := fun H locs ls hP hD hS hl => lv_ldc2d E.1 E.2.1 E.2.2.2.1 (E.2.2.2.2.1 _ q) hdg (K H locs ls hP hD hS hl)
theorem gg_ldc (E : gg_V p l s m args meth c cc nL own g A ro) {index : Nat} {v : Int32} (q : Jvm.Cond.constant own index v ∈ lw_all) (hdg : decode cc pc = .ok (.ldc index, 2)) (K : gg_W p l e R s m args below meth c g A nL Q kc ns M lv (.int v :: st) (pc + 2)) : gg_W p l e R s m args below meth c g A nL Q kc ns M lv st pc := fun H locs ls hP hD hS hl => lv_ldc E.1 E.2.1 E.2.2.2.1 (E.2.2.2.2.1 _ q) hdg (K H locs ls hP hD hS hl)
theorem gg_ldc2 (E : gg_V p l s m args meth c cc nL own g A ro) {index : Nat} {v : Int64} (q : Jvm.Cond.constantLong own index v ∈ lw_all) (hdg : decode cc pc = .ok (.ldc2_w index, 3)) (K : gg_W p l e R s m args below meth c g A nL Q kc ns M lv (.long v :: st) (pc + 3)) : gg_W p l e R s m args below meth c g A nL Q kc ns M lv st pc := fun H locs ls hP hD hS hl => lv_ldc2 E.1 E.2.1 E.2.2.2.1 (E.2.2.2.2.1 _ q) hdg (K H locs ls hP hD hS hl)
theorem gg_lookup (E : gg_V p l s m args meth c cc nL own g A ro) {dflt : Int} {ps : Array (Int × Int)} {len : Nat} {x : Int32} {off : Int} {tgt : Nat} (hdg : decode cc pc = .ok (.lookupswitch dflt ps, len)) (hp : (ps.toList.zip (ps.toList.drop 1)).all (fun (a, next) => a.1 < next.1) = true) (ho : Op.lookupswitch.offset ps.toList dflt x.toInt = off) (ht : (pc : Int) + off = (tgt : Int)) (K : gg_W p l e R s m args below meth c g A nL Q kc ns M lv st tgt) : gg_W p l e R s m args below meth c g A nL Q kc ns M lv (.int x :: st) pc := fun H locs ls hP hD hS hl => lv_lookup E.1 E.2.1 hdg hp ho ht (K H locs ls hP hD hS hl)
theorem gg_tableOut (E : gg_V p l s m args meth c cc nL own g A ro) {dflt lo hi : Int} {offs : Array Int} {len : Nat} {x : Int32} {tgt : Nat} (hdg : decode cc pc = .ok (.tableswitch dflt lo hi offs, len)) (h : x.toInt < lo ∨ hi < x.toInt) (ht : (pc : Int) + dflt = (tgt : Int)) (K : gg_W p l e R s m args below meth c g A nL Q kc ns M lv st tgt) : gg_W p l e R s m args below meth c g A nL Q kc ns M lv (.int x :: st) pc := fun H locs ls hP hD hS hl => lv_tableOut E.1 E.2.1 hdg h ht (K H locs ls hP hD hS hl)
theorem gg_tableIn (E : gg_V p l s m args meth c cc nL own g A ro) {dflt lo hi : Int} {offs : Array Int} {len : Nat} {x : Int32} {off : Int} {tgt : Nat} (hdg : decode cc pc = .ok (.tableswitch dflt lo hi offs, len)) (h1 : ¬ x.toInt < lo) (h2 : ¬ hi < x.toInt) (ho : offs[(x.toInt - lo).toNat]? = some off) (ht : (pc : Int) + off = (tgt : Int)) (K : gg_W p l e R s m args below meth c g A nL Q kc ns M lv st tgt) : gg_W p l e R s m args below meth c g A nL Q kc ns M lv (.int x :: st) pc := fun H locs ls hP hD hS hl => lv_tableIn E.1 E.2.1 hdg h1 h2 ho ht (K H locs ls hP hD hS hl)
theorem gg_ifnonnull (E : gg_V p l s m args meth c cc nL own g A ro) {x : Nat} {off : Int} {tgt : Nat} (hdg : decode cc pc = .ok (.ifnonnull off, 3)) (ht : (pc : Int) + off = (tgt : Int)) (K : gg_W p l e R s m args below meth c g A nL Q kc ns M lv st tgt) : gg_W p l e R s m args below meth c g A nL Q kc ns M lv (.ref x :: st) pc := fun H locs ls hP hD hS hl => lv_ifnonnull E.1 E.2.1 hdg ht (K H locs ls hP hD hS hl)
theorem gg_ifnull (E : gg_V p l s m args meth c cc nL own g A ro) {x : Nat} {off : Int} (hdg : decode cc pc = .ok (.ifnull off, 3)) (K : gg_W p l e R s m args below meth c g A nL Q kc ns M lv st (pc + 3)) : gg_W p l e R s m args below meth c g A nL Q kc ns M lv (.ref x :: st) pc := fun H locs ls hP hD hS hl => lv_ifnull E.1 E.2.1 hdg (K H locs ls hP hD hS hl)
theorem gg_null (E : gg_V p l s m args meth c cc nL own g A ro) (hdg : decode cc pc = .ok (.aconst_null, 1)) (K : gg_W p l e R s m args below meth c g A nL Q kc ns M lv (.null :: st) (pc + 1)) : gg_W p l e R s m args below meth c g A nL Q kc ns M lv st pc := fun H locs ls hP hD hS hl => lv_null E.1 E.2.1 hdg (K H locs ls hP hD hS hl)
theorem gg_ifnullN (E : gg_V p l s m args meth c cc nL own g A ro) {off : Int} {tgt : Nat} (hdg : decode cc pc = .ok (.ifnull off, 3)) (ht : (pc : Int) + off = (tgt : Int)) (K : gg_W p l e R s m args below meth c g A nL Q kc ns M lv st tgt) : gg_W p l e R s m args below meth c g A nL Q kc ns M lv (.null :: st) pc := fun H locs ls hP hD hS hl => lv_ifnullN E.1 E.2.1 hdg ht (K H locs ls hP hD hS hl)
theorem gg_ifnonnullN (E : gg_V p l s m args meth c cc nL own g A ro) {off : Int} (hdg : decode cc pc = .ok (.ifnonnull off, 3)) (K : gg_W p l e R s m args below meth c g A nL Q kc ns M lv st (pc + 3)) : gg_W p l e R s m args below meth c g A nL Q kc ns M lv (.null :: st) pc := fun H locs ls hP hD hS hl => lv_ifnonnullN E.1 E.2.1 hdg (K H locs ls hP hD hS hl)
theorem gg_aload_nN (E : gg_V p l s m args meth c cc nL own g A ro) {k4 : Fin 4} {i : Nat} (hdg : decode cc pc = .ok (.aload_n k4, 1)) (hi : (k4 : Nat) = i) (hl0 : lv[i]? = some (some (.null))) (K : gg_W p l e R s m args below meth c g A nL Q kc ns M lv (.null :: st) (pc + 1)) : gg_W p l e R s m args below meth c g A nL Q kc ns M lv st pc := fun H locs ls hP hD hS hl => lv_aload_nN E.1 E.2.1 hdg hi (hl.at hl0) (K H locs ls hP hD hS hl)
theorem gg_aloadN (E : gg_V p l s m args meth c cc nL own g A ro) {i : Nat} (hdg : decode cc pc = .ok (.aload i, 2)) (hl0 : lv[i]? = some (some (.null))) (K : gg_W p l e R s m args below meth c g A nL Q kc ns M lv (.null :: st) (pc + 2)) : gg_W p l e R s m args below meth c g A nL Q kc ns M lv st pc := fun H locs ls hP hD hS hl => lv_aloadN E.1 E.2.1 hdg (hl.at hl0) (K H locs ls hP hD hS hl)
theorem gg_astore_nN (E : gg_V p l s m args meth c cc nL own g A ro) {k4 : Fin 4} {i : Nat} {lv' : List (Option Value)} (hdg : decode cc pc = .ok (.astore_n k4, 1)) (hi : (k4 : Nat) = i) (hn : i < nL) (hf : gg_free lv i = true) (hs : lv.set i (some (Value.null)) = lv') (K : gg_W p l e R s m args below meth c g A nL Q kc ns M lv' st (pc + 1)) : gg_W p l e R s m args below meth c g A nL Q kc ns M lv (.null :: st) pc := fun H locs ls hP hD hS hl => lv_astore_nN E.1 E.2.1 hdg hi hl.has hn rfl fun ls' h' => K H locs ls' hP hD hS (gg_L.set1 hf hs h')
theorem gg_astoreN (E : gg_V p l s m args meth c cc nL own g A ro) {i : Nat} {lv' : List (Option Value)} (hdg : decode cc pc = .ok (.astore i, 2)) (hn : i < nL) (hf : gg_free lv i = true) (hs : lv.set i (some (Value.null)) = lv') (K : gg_W p l e R s m args below meth c g A nL Q kc ns M lv' st (pc + 2)) : gg_W p l e R s m args below meth c g A nL Q kc ns M lv (.null :: st) pc := fun H locs ls hP hD hS hl => lv_astoreN E.1 E.2.1 hdg hl.has hn rfl fun ls' h' => K H locs ls' hP hD hS (gg_L.set1 hf hs h')
theorem gg_acmp_eq (E : gg_V p l s m args meth c cc nL own g A ro) {rx ry : Option Nat} {off : Int} {tgt : Nat} (hdg : decode cc pc = .ok (.if_acmp .eq off, 3)) (ht : (pc : Int) + off = (tgt : Int)) (kt : rx = ry → gg_W p l e R s m args below meth c g A nL Q kc ns M lv st tgt) (kf : ¬ rx = ry → gg_W p l e R s m args below meth c g A nL Q kc ns M lv st (pc + 3)) : gg_W p l e R s m args below meth c g A nL Q kc ns M lv (va_rf ry :: va_rf rx :: st) pc := fun H locs ls hP hD hS hl => lv_acmp_eq E.1 E.2.1 hdg ht (fun z => kt z H locs ls hP hD hS hl) (fun z => kf z H locs ls hP hD hS hl)
theorem gg_acmp_ne (E : gg_V p l s m args meth c cc nL own g A ro) {rx ry : Option Nat} {off : Int} {tgt : Nat} (hdg : decode cc pc = .ok (.if_acmp .ne off, 3)) (ht : (pc : Int) + off = (tgt : Int)) (kt : ¬ rx = ry → gg_W p l e R s m args below meth c g A nL Q kc ns M lv st tgt) (kf : rx = ry → gg_W p l e R s m args below meth c g A nL Q kc ns M lv st (pc + 3)) : gg_W p l e R s m args below meth c g A nL Q kc ns M lv (va_rf ry :: va_rf rx :: st) pc := fun H locs ls hP hD hS hl => lv_acmp_ne E.1 E.2.1 hdg ht (fun z => kt z H locs ls hP hD hS hl) (fun z => kf z H locs ls hP hD hS hl)
theorem gg_castN (E : gg_V p l s m args meth c cc nL own g A ro) {index : Nat} (hdg : decode cc pc = .ok (.checkcast index, 3)) (K : gg_W p l e R s m args below meth c g A nL Q kc ns M lv (.null :: st) (pc + 3)) : gg_W p l e R s m args below meth c g A nL Q kc ns M lv (.null :: st) pc := fun H locs ls hP hD hS hl => lv_castN E.1 E.2.1 hdg (K H locs ls hP hD hS hl)
theorem gg_instN (E : gg_V p l s m args meth c cc nL own g A ro) {index : Nat} (hdg : decode cc pc = .ok (.instanceof index, 3)) (K : gg_W p l e R s m args below meth c g A nL Q kc ns M lv (.int 0 :: st) (pc + 3)) : gg_W p l e R s m args below meth c g A nL Q kc ns M lv (.null :: st) pc := fun H locs ls hP hD hS hl => lv_instN E.1 E.2.1 hdg (K H locs ls hP hD hS hl)
theorem gg_ldcw (E : gg_V p l s m args meth c cc nL own g A ro) {index : Nat} {v : Int32} (q : Jvm.Cond.constant own index v ∈ lw_all) (hdg : decode cc pc = .ok (.ldc_w index, 3)) (K : gg_W p l e R s m args below meth c g A nL Q kc ns M lv (.int v :: st) (pc + 3)) : gg_W p l e R s m args below meth c g A nL Q kc ns M lv st pc := fun H locs ls hP hD hS hl => lv_ldcw E.1 E.2.1 E.2.2.2.1 (E.2.2.2.2.1 _ q) hdg (K H locs ls hP hD hS hl)
end GGrows
section GGheap
variable {p : Program} {l : Launch} {e : Env} {R : Room} {s : State} {m : MethodId} {args : Array Value} {below : List Frame} {meth : Method} {c : Code} {g : gg_G} {A : Nat → Prop} {ro : gg_S} {nL : Nat} {Q : State → Prop} {kc ns : Nat} {M : List gg_S} {lv : List (Option Value)} {st : List Value} {pc : Nat} {cc : ByteArray} {own : String}
/-- a class of the list: its words, its fields' types -/
def gg_ck (ci : Nat) (C : String) (T : u_T) (N : Nat) (ty : Nat → FieldType) : Prop := gg_cl[ci]? = some (C, T, N) ∧ (∀ w ∈ u_ws C T N, w ∈ lw_all) ∧ (∀ k, k < N → parseFieldDescriptor (T k).2.2.1 = some (ty k)) ∧ (∀ a, a < N → ∀ b, b < N → a ≠ b → (T a).2.1 ≠ (T b).2.1)
theorem gg_one {a : Nat} {o : Nat × List Value} {H : Heap} (h : gg_at g (a, .inl o) H) : va_P g.1 gg_cl [(a, .inr o)] H := by
  intro k q hq
  cases k with
  | zero => cases hq; exact h
  | succ k => cases hq
/-- getfield -/
theorem gg_get (E : gg_V p l s m args meth c cc nL own g A ro) {ci N : Nat} {C : String} {T : u_T} {ty : Nat → FieldType} (ck : gg_ck ci C T N ty) {index : Nat} (k : Nat) {ref nm ds : String} {fin : Bool} {a : Nat} {fs : List Value} {v : Value} (q : Cond.fieldLink own index ref nm ds ∈ lw_all) (hT : T k = (ref, nm, ds, fin)) (hk : k < N) (hdg : decode cc pc = .ok (.getfield index, 3)) (hm : gg_in g M ro (a, .inl (ci, fs))) (hv : fs[k]? = some v) (K : gg_W p l e R s m args below meth c g A nL Q kc ns M lv (v :: st) (pc + 3)) : gg_W p l e R s m args below meth c g A nL Q kc ns M lv (.ref a :: st) pc :=
  fun H locs ls hP hD hS hl => va_get E.1 E.2.1 (ref := ref) E.2.2.2.2.1 ck.2.1 E.2.2.2.1 E.2.2.2.2.2.1.1 (gg_one (hm.at E hP hS)) 0 rfl ck.1 k hk (by rw [hT]; exact E.2.2.2.2.1 _ q) (fun x hx => by rw [hT] at hx ⊢; exact hx) hv hdg (K H locs ls hP hD hS hl)
/-- getfield of a field that is inherited under another name -/
theorem gg_getU (E : gg_V p l s m args meth c cc nL own g A ro) {ci N : Nat} {C : String} {T : u_T} {ty : Nat → FieldType} (ck : gg_ck ci C T N ty) {index : Nat} (k : Nat) {ref dec nm ds : String} {fin : Bool} {a : Nat} {fs : List Value} {v : Value} (q : Cond.fieldLink own index ref nm ds ∈ lw_all) (qs : Cond.sameField ref dec nm ds ∈ lw_all) (hT : T k = (dec, nm, ds, fin)) (hk : k < N) (hdg : decode cc pc = .ok (.getfield index, 3)) (hm : gg_in g M ro (a, .inl (ci, fs))) (hv : fs[k]? = some v) (K : gg_W p l e R s m args below meth c g A nL Q kc ns M lv (v :: st) (pc + 3)) : gg_W p l e R s m args below meth c g A nL Q kc ns M lv (.ref a :: st) pc :=
  fun H locs ls hP hD hS hl => va_get E.1 E.2.1 (ref := ref) E.2.2.2.2.1 ck.2.1 E.2.2.2.1 E.2.2.2.2.2.1.1 (gg_one (hm.at E hP hS)) 0 rfl ck.1 k hk (by rw [hT]; exact E.2.2.2.2.1 _ q) (fun x hx => by rw [hT] at hx ⊢; exact u_same (E.2.2.2.2.1 _ qs) x hx) hv hdg (K H locs ls hP hD hS hl)
/-- getfield of a nest mate's private field -/
theorem gg_getN (E : gg_V p l s m args meth c cc nL own g A ro) {ci N : Nat} {C : String} {T : u_T} {ty : Nat → FieldType} (ck : gg_ck ci C T N ty) {index : Nat} (k : Nat) {ref nm ds host : String} {fin : Bool} {a : Nat} {fs : List Value} {v : Value} (q : Cond.fieldLinkNest own index ref nm ds host ∈ gg_nw) (hT : T k = (ref, nm, ds, fin)) (hk : k < N) (hdg : decode cc pc = .ok (.getfield index, 3)) (hm : gg_in g M ro (a, .inl (ci, fs))) (hv : fs[k]? = some v) (K : gg_W p l e R s m args below meth c g A nL Q kc ns M lv (v :: st) (pc + 3)) : gg_W p l e R s m args below meth c g A nL Q kc ns M lv (.ref a :: st) pc :=
  fun H locs ls hP hD hS hl => va_getN E.1 E.2.1 (ref := ref) E.2.2.2.2.1 ck.2.1 E.2.2.2.1 E.2.2.2.2.2.1.1 (gg_one (hm.at E hP hS)) 0 rfl ck.1 k hk (by rw [hT]; exact va_Nw.use rfl (E.2.2.2.2.2.1.2.1 _ q)) (fun x hx => by rw [hT] at hx ⊢; exact hx) hv hdg (K H locs ls hP hD hS hl)
/-- what a write to one cell leaves -/
theorem gg_wrote (E : gg_V p l s m args meth c cc nL own g A ro) {i a sl : Nat} {x y : gg_E} {M' : List gg_S} (hm : M[i]? = some [(a, x)]) (hM : M.set i [(a, y)] = M') {H H1 : Heap} {locs : List Loc} (hP : gg_P g M.flatten H) (hD : gg_D A M.flatten) (hS : va_S A s.heap H locs) (hn : gg_at g (a, y) H1) (hz : H1.size = H.size) (oq : ∀ q : Nat, q ≠ a → H1[q]? = H[q]?) : gg_P g M'.flatten H1 ∧ gg_D A M'.flatten ∧ va_S A s.heap H1 (locs ++ [⟨a, sl⟩]) := by
  obtain ⟨h1, h2⟩ := gg_swap1 hm hM hP hD hn oq
  refine ⟨h1, h2, hS.put hz oq (hD.2 (a, x) (List.mem_flatten.mpr ⟨_, List.mem_of_getElem? hm, List.mem_singleton.mpr rfl⟩))⟩
theorem gg_atm {i a : Nat} {x : gg_E} {H : Heap} (hm : M[i]? = some [(a, x)]) (hP : gg_P g M.flatten H) : gg_at g (a, x) H := hP _ (List.mem_flatten.mpr ⟨_, List.mem_of_getElem? hm, List.mem_singleton.mpr rfl⟩)
theorem gg_putlow (E : gg_V p l s m args meth c cc nL own g A ro) {ci N : Nat} {C : String} {T : u_T} {ty : Nat → FieldType} (ck : gg_ck ci C T N ty) {index : Nat} (k : Nat) {ref dec nm ds : String} {a : Nat} {fs : List Value} {v : Value} {tv : FieldType} {H : Heap} {locs : List Loc} {ls : Array Slot} (hlink : (Cond.fieldLink own index ref nm ds).before args s = true) (hT : T k = (dec, nm, ds, false)) (hk : k < N) (hsame : ∀ x, s.fieldFound? dec nm ds = some x → s.fieldFound? ref nm ds = some x) (hdg : decode cc pc = .ok (.putfield index, 3)) (hat : gg_at g (a, .inl (ci, fs)) H) (hd : parseFieldDescriptor ds = some tv) (hn : narrow tv v = v) (hfit : fits tv v = true) (hl : k < fs.length)
    (kk : ∀ (H1 : Heap) (sl : Nat), gg_at g (a, .inl (ci, fs.set k v)) H1 → H1.size = H.size → (∀ q : Nat, q ≠ a → H1[q]? = H[q]?) → W p l e R s m args below meth c H1 (locs ++ [⟨a, sl⟩]) kc ns Q (F0 m (pc + 3) ls st)) : W p l e R s m args below meth c H locs kc ns Q (F0 m pc ls (v :: .ref a :: st)) := by
  have hK := E.2.2.2.2.2.1.1
  have hts := E.2.2.2.2.1
  have hown := E.2.2.2.1
  have hap := va_apart (own := own) hts ck.2.1 ty ck.2.2.1 ck.2.2.2 hK ck.1
  obtain ⟨r, h1, cell, q1, q2, q3, q4⟩ := hat
  have hr : r = (C, T, N) := Option.some.inj (h1.symm.trans ck.1)
  subst hr
  obtain ⟨hS, hfc, kC, hkC, hkind⟩ := hK.1 ci _ ck.1
  obtain ⟨cf, kf, fi, f, hi, hsl⟩ := hS k hk
  have hlay := hts _ (ck.2.1 _ (u_in_lay hk))
  unfold u_lay at hlay
  rw [hT] at hlay
  dsimp only at hlay hi
  rw [hT] at hi
  dsimp only at hi
  rw [if_neg (by decide)] at hlay
  have hst := (u_facts hfc hkC (Or.inl hlay) hi).1
  have h6 := u_store hfc hkC hkind hlay hi hd hn hfit
  refine W.putK E.1 E.2.1 (f := f) ⟨hown, hlink, ⟨_, _, _, hsame _ hi⟩, hst⟩ (by rw [q2]; exact h6) q1 q3 (by rw [hsl]; exact k2_hasslot (q4 k hk)) rfl rfl hdg fun H' e1 e2 e3 => ?_
  rw [hsl] at e1 ⊢
  exact kk H' _ ⟨_, ck.1, t_OB.to (V := updV (vp_V fs) k v) ⟨_, e1, q2, q3, t_set q4 hap hk v⟩ (fun j _ => vp_updV_set hl v j)⟩ e2 e3
/-- putfield -/
theorem gg_put (E : gg_V p l s m args meth c cc nL own g A ro) {ci N : Nat} {C : String} {T : u_T} {ty : Nat → FieldType} (ck : gg_ck ci C T N ty) {index : Nat} (k : Nat) {ref nm ds : String} {a : Nat} {fs fs' : List Value} {v : Value} {tv : FieldType} {M' : List gg_S} (q : Cond.fieldLink own index ref nm ds ∈ lw_all) (hT : T k = (ref, nm, ds, false)) (hk : k < N) (hdg : decode cc pc = .ok (.putfield index, 3)) (i : Nat) (hm : M[i]? = some [(a, .inl (ci, fs))]) (hd : parseFieldDescriptor ds = some tv) (hn : narrow tv v = v) (hfit : fits tv v = true) (hl : k < fs.length) (hs : fs.set k v = fs') (hM : M.set i [(a, .inl (ci, fs'))] = M') (K : gg_W p l e R s m args below meth c g A nL Q kc ns M' lv st (pc + 3)) : gg_W p l e R s m args below meth c g A nL Q kc ns M lv (v :: .ref a :: st) pc := by
  intro H locs ls hP hD hS hlv
  refine gg_putlow E ck k (ref := ref) (E.2.2.2.2.1 _ q) hT hk (fun x hx => hx) hdg (gg_atm hm hP) hd hn hfit hl fun H1 sl h1 hz oq => ?_
  rw [hs] at h1
  obtain ⟨w1, w2, w3⟩ := gg_wrote (sl := sl) E hm hM hP hD hS h1 hz oq
  exact K H1 _ ls w1 w2 w3 hlv
theorem gg_putU (E : gg_V p l s m args meth c cc nL own g A ro) {ci N : Nat} {C : String} {T : u_T} {ty : Nat → FieldType} (ck : gg_ck ci C T N ty) {index : Nat} (k : Nat) {ref dec nm ds : String} {a : Nat} {fs fs' : List Value} {v : Value} {tv : FieldType} {M' : List gg_S} (q : Cond.fieldLink own index ref nm ds ∈ lw_all) (qs : Cond.sameField ref dec nm ds ∈ lw_all) (hT : T k = (dec, nm, ds, false)) (hk : k < N) (hdg : decode cc pc = .ok (.putfield index, 3)) (i : Nat) (hm : M[i]? = some [(a, .inl (ci, fs))]) (hd : parseFieldDescriptor ds = some tv) (hn : narrow tv v = v) (hfit : fits tv v = true) (hl : k < fs.length) (hs : fs.set k v = fs') (hM : M.set i [(a, .inl (ci, fs'))] = M') (K : gg_W p l e R s m args below meth c g A nL Q kc ns M' lv st (pc + 3)) : gg_W p l e R s m args below meth c g A nL Q kc ns M lv (v :: .ref a :: st) pc := by
  intro H locs ls hP hD hS hlv
  refine gg_putlow E ck k (ref := ref) (E.2.2.2.2.1 _ q) hT hk (fun x hx => u_same (E.2.2.2.2.1 _ qs) x hx) hdg (gg_atm hm hP) hd hn hfit hl fun H1 sl h1 hz oq => ?_
  rw [hs] at h1
  obtain ⟨w1, w2, w3⟩ := gg_wrote (sl := sl) E hm hM hP hD hS h1 hz oq
  exact K H1 _ ls w1 w2 w3 hlv
/-- putfield of a final field, in the constructor of the class that declares it -/
theorem gg_putF (E : gg_V p l s m args meth c cc nL own g A ro) {ci N : Nat} {C : String} {T : u_T} {ty : Nat → FieldType} (ck : gg_ck ci C T N ty) {index : Nat} (k : Nat) {nm ds : String} {a : Nat} {fs fs' : List Value} {v : Value} {tv : FieldType} {M' : List gg_S} (q : Cond.fieldLink own index own nm ds ∈ lw_all) (hT : T k = (own, nm, ds, true)) (hk : k < N) (hin2 : meth.name = "<init>") (hdg : decode cc pc = .ok (.putfield index, 3)) (i : Nat) (hm : M[i]? = some [(a, .inl (ci, fs))]) (hd : parseFieldDescriptor ds = some tv) (hn : narrow tv v = v) (hfit : fits tv v = true) (hl : k < fs.length) (hs : fs.set k v = fs') (hM : M.set i [(a, .inl (ci, fs'))] = M') (K : gg_W p l e R s m args below meth c g A nL Q kc ns M' lv st (pc + 3)) : gg_W p l e R s m args below meth c g A nL Q kc ns M lv (v :: .ref a :: st) pc := by
  intro H locs ls hP hD hS hlv
  have hK := E.2.2.2.2.2.1.1
  have hts := E.2.2.2.2.1
  have hown := E.2.2.2.1
  have hap := va_apart (own := own) hts ck.2.1 ty ck.2.2.1 ck.2.2.2 hK ck.1
  obtain ⟨r, h1, cell, q1, q2, q3, q4⟩ := gg_atm hm hP
  have hr : r = (C, T, N) := Option.some.inj (h1.symm.trans ck.1)
  subst hr
  obtain ⟨hS', hfc, kC, hkC, hkind⟩ := hK.1 ci _ ck.1
  obtain ⟨cf, kf, fi, f, hi, hsl⟩ := hS' k hk
  have hlay := hts _ (ck.2.1 _ (u_in_lay hk))
  unfold u_lay at hlay
  rw [hT] at hlay
  dsimp only at hlay hi
  rw [hT] at hi
  dsimp only at hi
  rw [if_pos rfl] at hlay
  have hst := (u_facts hfc hkC (Or.inr hlay) hi).1
  have h6 := u_fits hfc hkC hkind (Or.inr hlay) hi hd hn hfit
  have hcf : m.cls = cf := by
    obtain ⟨_, _, c', _, _, _, -, -, hf', -, -, -, hown2, -⟩ := Cond.laysFinal_spec hlay
    have e1 : c' = cf := by have := hi.symm.trans hf'; simp at this; exact this.1.symm
    rw [← e1]; exact Option.some.inj (hown.symm.trans hown2)
  refine W.putFinK E.1 E.2.1 hown (E.2.2.2.2.1 _ q) hi hst hcf hin2 (by rw [q2]; exact h6) q1 q3 (by rw [hsl]; exact k2_hasslot (q4 k hk)) rfl rfl hdg fun H' e1 e2 e3 => ?_
  rw [hsl] at e1 ⊢
  obtain ⟨w1, w2, w3⟩ := gg_wrote E hm hM hP hD hS (y := .inl (ci, fs')) ⟨_, ck.1, t_OB.to (V := updV (vp_V fs) k v) ⟨_, e1, q2, q3, t_set q4 hap hk v⟩ (fun j _ => by rw [← hs]; exact vp_updV_set hl v j)⟩ e2 e3
  exact K H' _ ls w1 w2 w3 hlv
/-! arrays -/
abbrev gg_ai (g : gg_G) (N : Nat) (f : Nat → Int32) : gg_E := .inr (arrV (g.2.1 0) N (fun j => .int (f j)))
abbrev gg_ab (g : gg_G) (N : Nat) (f : Nat → Int32) : gg_E := .inr (arrV (g.2.1 1) N (fun j => .int (f j)))
abbrev gg_az (g : gg_G) (N : Nat) (f : Nat → Int32) : gg_E := .inr (arrV (g.2.1 2) N (fun j => .int (f j)))
abbrev gg_al (g : gg_G) (N : Nat) (f : Nat → Int64) : gg_E := .inr (arrV (g.2.1 3) N (fun j => .long (f j)))
/-- references: t is 4 for Object[], 5 for Deed[], 6 for Integer[] -/
abbrev gg_ao (g : gg_G) (t N : Nat) (f : Nat → Option Nat) : gg_E := .inr (arrV (g.2.1 t) N (fun j => va_rf (f j)))
theorem gg_arr (E : gg_V p l s m args meth c cc nL own g A ro) (t : Nat) {ty : FieldType} (ht : (gg_tys g.2.1)[t]? = some (g.2.1 t, ty)) (N : Nat) (f : Nat → Value) : s.isArrayOf (arrV (g.2.1 t) N f) ty := (E.2.2.2.2.2.1.1.2 t _ ht).1 N f
theorem gg_lt {i : Int32} {N : Nat} (h : vp_in i N) : i.toNatClampNeg < N := Nat.not_le.mp fun q => h (Or.inr q)
theorem gg_szin {i : Int32} {N : Nat} {cA : ClassId} {f : Nat → Value} (h : vp_in i N) : ¬ (i < 0 ∨ (arrV cA N f).slots.size ≤ i.toNatClampNeg) := by rw [arrV_size]; exact h
theorem gg_iald (E : gg_V p l s m args meth c cc nL own g A ro) {a N : Nat} {f : Nat → Int32} {i : Int32} (hdg : decode cc pc = .ok (.iaload, 1)) (hm : gg_in g M ro (a, gg_ai g N f)) (hin : vp_in i N) (K : gg_W p l e R s m args below meth c g A nL Q kc ns M lv (.int (f i.toNatClampNeg) :: st) (pc + 1)) : gg_W p l e R s m args below meth c g A nL Q kc ns M lv (.int i :: .ref a :: st) pc :=
  fun H locs ls hP hD hS hl => W.iald (v := .int (f i.toNatClampNeg)) E.1 E.2.1 (hm.at E hP hS) (gg_arr E 0 rfl N _) (fun q => by cases q) (gg_szin hin) (arrV_read _ _ (gg_lt hin)) rfl rfl hdg (K H locs ls hP hD hS hl)
theorem gg_bald (E : gg_V p l s m args meth c cc nL own g A ro) {a N : Nat} {f : Nat → Int32} {i : Int32} (hdg : decode cc pc = .ok (.baload, 1)) (hm : gg_in g M ro (a, gg_ab g N f)) (hin : vp_in i N) (K : gg_W p l e R s m args below meth c g A nL Q kc ns M lv (.int (f i.toNatClampNeg) :: st) (pc + 1)) : gg_W p l e R s m args below meth c g A nL Q kc ns M lv (.int i :: .ref a :: st) pc :=
  fun H locs ls hP hD hS hl => W.bald (v := .int (f i.toNatClampNeg)) E.1 E.2.1 (hm.at E hP hS) (gg_arr E 1 rfl N _) (fun q => by cases q) (gg_szin hin) (arrV_read _ _ (gg_lt hin)) rfl rfl hdg (K H locs ls hP hD hS hl)
theorem gg_zald (E : gg_V p l s m args meth c cc nL own g A ro) {a N : Nat} {f : Nat → Int32} {i : Int32} (hdg : decode cc pc = .ok (.baload, 1)) (hm : gg_in g M ro (a, gg_az g N f)) (hin : vp_in i N) (K : gg_W p l e R s m args below meth c g A nL Q kc ns M lv (.int (f i.toNatClampNeg) :: st) (pc + 1)) : gg_W p l e R s m args below meth c g A nL Q kc ns M lv (.int i :: .ref a :: st) pc :=
  fun H locs ls hP hD hS hl => W.zald (v := .int (f i.toNatClampNeg)) E.1 E.2.1 (hm.at E hP hS) (gg_arr E 2 rfl N _) (fun q => by cases q) (gg_szin hin) (arrV_read _ _ (gg_lt hin)) rfl rfl hdg (K H locs ls hP hD hS hl)
theorem gg_lald (E : gg_V p l s m args meth c cc nL own g A ro) {a N : Nat} {f : Nat → Int64} {i : Int32} (hdg : decode cc pc = .ok (.laload, 1)) (hm : gg_in g M ro (a, gg_al g N f)) (hin : vp_in i N) (K : gg_W p l e R s m args below meth c g A nL Q kc ns M lv (.long (f i.toNatClampNeg) :: st) (pc + 1)) : gg_W p l e R s m args below meth c g A nL Q kc ns M lv (.int i :: .ref a :: st) pc :=
  fun H locs ls hP hD hS hl => W.lald (v := .long (f i.toNatClampNeg)) E.1 E.2.1 (hm.at E hP hS) (gg_arr E 3 rfl N _) (fun q => by cases q) (gg_szin hin) (arrV_read _ _ (gg_lt hin)) rfl rfl hdg (K H locs ls hP hD hS hl)
theorem gg_aald (E : gg_V p l s m args meth c cc nL own g A ro) (t : Nat) {C : String} (ht : (gg_tys g.2.1)[t]? = some (g.2.1 t, .object C)) {a N : Nat} {f : Nat → Option Nat} {i : Int32} (hdg : decode cc pc = .ok (.aaload, 1)) (hm : gg_in g M ro (a, gg_ao g t N f)) (hin : vp_in i N) (K : gg_W p l e R s m args below meth c g A nL Q kc ns M lv (va_rf (f i.toNatClampNeg) :: st) (pc + 1)) : gg_W p l e R s m args below meth c g A nL Q kc ns M lv (.int i :: .ref a :: st) pc :=
  fun H locs ls hP hD hS hl => W.aald (v := va_rf (f i.toNatClampNeg)) (ty := .object C) E.1 E.2.1 (hm.at E hP hS) (gg_arr E t ht N _) rfl (fun q => by cases q) (gg_szin hin) (arrV_read _ _ (gg_lt hin)) rfl rfl hdg (K H locs ls hP hD hS hl)
theorem gg_alen (E : gg_V p l s m args meth c cc nL own g A ro) (t : Nat) {ty : FieldType} (ht : (gg_tys g.2.1)[t]? = some (g.2.1 t, ty)) {a N : Nat} {f : Nat → Value} (hdg : decode cc pc = .ok (.arraylength, 1)) (hm : gg_in g M ro (a, .inr (arrV (g.2.1 t) N f))) (K : gg_W p l e R s m args below meth c g A nL Q kc ns M lv (.int (nI N) :: st) (pc + 1)) : gg_W p l e R s m args below meth c g A nL Q kc ns M lv (.ref a :: st) pc :=
  fun H locs ls hP hD hS hl => W.alen (n := nI N) E.1 E.2.1 (hm.at E hP hS) (gg_arr E t ht N f) (by rw [arrV_size] <;> rfl) rfl rfl hdg (K H locs ls hP hD hS hl)
theorem gg_updI (f : Nat → Int32) (k : Nat) (x : Int32) : (fun j => Value.int (upd f k x j)) = updV (fun j => Value.int (f j)) k (.int x) := by
  funext j
  by_cases h : j = k <;> simp [updV, upd, h]
theorem gg_iast (E : gg_V p l s m args meth c cc nL own g A ro) {a N : Nat} {f : Nat → Int32} {i x : Int32} {M' : List gg_S} (hdg : decode cc pc = .ok (.iastore, 1)) (j : Nat) (hm : M[j]? = some [(a, gg_ai g N f)]) (hin : vp_in i N) (hM : M.set j [(a, gg_ai g N (upd f i.toNatClampNeg x))] = M') (K : gg_W p l e R s m args below meth c g A nL Q kc ns M' lv st (pc + 1)) : gg_W p l e R s m args below meth c g A nL Q kc ns M lv (.int x :: .int i :: .ref a :: st) pc := by
  intro H locs ls hP hD hS hl
  refine W.iast E.1 E.2.1 (gg_atm hm hP) (gg_arr E 0 rfl N _) (fun q => by cases q) (gg_szin hin) rfl rfl hdg fun H1 e1 z oq => ?_
  obtain ⟨w1, w2, w3⟩ := gg_wrote E hm hM hP hD hS (by show H1[a]? = _; rw [e1, arrV_store, gg_updI]) z oq
  exact K H1 _ ls w1 w2 w3 hl
theorem gg_bast (E : gg_V p l s m args meth c cc nL own g A ro) {a N : Nat} {f : Nat → Int32} {i x : Int32} {M' : List gg_S} (hdg : decode cc pc = .ok (.bastore, 1)) (j : Nat) (hm : M[j]? = some [(a, gg_ab g N f)]) (hin : vp_in i N) (hM : M.set j [(a, gg_ab g N (upd f i.toNatClampNeg x.toInt8.toInt32))] = M') (K : gg_W p l e R s m args below meth c g A nL Q kc ns M' lv st (pc + 1)) : gg_W p l e R s m args below meth c g A nL Q kc ns M lv (.int x :: .int i :: .ref a :: st) pc := by
  intro H locs ls hP hD hS hl
  refine W.bast E.1 E.2.1 (gg_atm hm hP) (gg_arr E 1 rfl N _) (fun q => by cases q) (gg_szin hin) rfl rfl hdg fun H1 e1 z oq => ?_
  obtain ⟨w1, w2, w3⟩ := gg_wrote E hm hM hP hD hS (by show H1[a]? = _; rw [e1, arrV_store, gg_updI]; rfl) z oq
  exact K H1 _ ls w1 w2 w3 hl
theorem gg_zast (E : gg_V p l s m args meth c cc nL own g A ro) {a N : Nat} {f : Nat → Int32} {i x : Int32} {M' : List gg_S} (hdg : decode cc pc = .ok (.bastore, 1)) (j : Nat) (hm : M[j]? = some [(a, gg_az g N f)]) (hin : vp_in i N) (hM : M.set j [(a, gg_az g N (upd f i.toNatClampNeg (x &&& 1)))] = M') (K : gg_W p l e R s m args below meth c g A nL Q kc ns M' lv st (pc + 1)) : gg_W p l e R s m args below meth c g A nL Q kc ns M lv (.int x :: .int i :: .ref a :: st) pc := by
  intro H locs ls hP hD hS hl
  refine W.zast E.1 E.2.1 (gg_atm hm hP) (gg_arr E 2 rfl N _) (fun q => by cases q) (gg_szin hin) rfl rfl hdg fun H1 e1 z oq => ?_
  obtain ⟨w1, w2, w3⟩ := gg_wrote E hm hM hP hD hS (by show H1[a]? = _; rw [e1, arrV_store, gg_updI]; rfl) z oq
  exact K H1 _ ls w1 w2 w3 hl
theorem gg_last (E : gg_V p l s m args meth c cc nL own g A ro) {a N : Nat} {f : Nat → Int64} {i : Int32} {x : Int64} {M' : List gg_S} (hdg : decode cc pc = .ok (.lastore, 1)) (j : Nat) (hm : M[j]? = some [(a, gg_al g N f)]) (hin : vp_in i N) (hM : M.set j [(a, gg_al g N (vp_updL f i.toNatClampNeg x))] = M') (K : gg_W p l e R s m args below meth c g A nL Q kc ns M' lv st (pc + 1)) : gg_W p l e R s m args below meth c g A nL Q kc ns M lv (.long x :: .int i :: .ref a :: st) pc := by
  intro H locs ls hP hD hS hl
  refine W.last E.1 E.2.1 (gg_atm hm hP) (gg_arr E 3 rfl N _) (fun q => by cases q) (gg_szin hin) rfl rfl hdg fun H1 e1 z oq => ?_
  obtain ⟨w1, w2, w3⟩ := gg_wrote E hm hM hP hD hS (by
    show H1[a]? = _
    rw [e1, arrV_store]
    congr 2
    funext j
    by_cases h : j = i.toNatClampNeg <;> simp [updV, vp_updL, h]) z oq
  exact K H1 _ ls w1 w2 w3 hl
/-- an object (or what a lambda's site made) whose class is below E goes into an array of E -/
def gg_isa (s : State) (C : String) (H : Heap) (a : Nat) : Prop := ∃ cellV : Cell, H[a]? = some cellV ∧ cellV.vm.isStatics = false ∧ (∃ kC : Class, s.vm.classes[cellV.cls]? = some kC) ∧ ∀ comp : ClassId, s.vm.findClass C = some comp → s.vm.assignable cellV.cls comp = true
theorem gg_aast (E : gg_V p l s m args meth c cc nL own g A ro) (t : Nat) {C : String} (ht : (gg_tys g.2.1)[t]? = some (g.2.1 t, .object C)) {a N b : Nat} {f : Nat → Option Nat} {i : Int32} {M' : List gg_S} (hdg : decode cc pc = .ok (.aastore, 1)) (j : Nat) (hm : M[j]? = some [(a, gg_ao g t N f)]) (hin : vp_in i N) (hv : ∀ (H : Heap) (locs : List Loc), gg_P g M.flatten H → va_S A s.heap H locs → gg_isa s C H b) (hM : M.set j [(a, gg_ao g t N (va_up f i.toNatClampNeg (some b)))] = M') (K : gg_W p l e R s m args below meth c g A nL Q kc ns M' lv st (pc + 1)) : gg_W p l e R s m args below meth c g A nL Q kc ns M lv (.ref b :: .int i :: .ref a :: st) pc := by
  intro H locs ls hP hD hS hl
  obtain ⟨cv, g1, g2, ⟨kC, hkC⟩, g3⟩ := hv H locs hP hS
  obtain ⟨kA, comp, k1, k2, k3, -⟩ := (E.2.2.2.2.2.1.1.2 t _ ht).2
  have has := g3 comp k3
  have hkcomp : ∃ kcomp : Class, s.vm.classes[comp]? = some kcomp := by
    obtain ⟨hlt, -⟩ := Array.findIdx?_eq_some_iff_getElem.mp k3
    exact ⟨_, Array.getElem?_eq_getElem hlt⟩
  obtain ⟨kcomp, hkcomp⟩ := hkcomp
  refine W.aast E.1 E.2.1 (gg_atm hm hP) (fun q h => by cases h) (fun h => by cases h) k1 k2 rfl hkcomp ⟨fun q => hin (Or.inl q), by rw [arrV_size]; exact gg_lt hin⟩ g1 (fun q h => by rw [h] at g2; cases g2) hkC has rfl rfl hdg fun H1 e1 z oq => ?_
  obtain ⟨w1, w2, w3⟩ := gg_wrote E hm hM hP hD hS (by
    show H1[a]? = _
    rw [e1, arrV_store]
    congr 2
    funext j
    by_cases h : j = i.toNatClampNeg <;> simp [updV, va_up, va_rf, h]) z oq
  exact K H1 _ ls w1 w2 w3 hl
theorem gg_aastN (E : gg_V p l s m args meth c cc nL own g A ro) (t : Nat) {C : String} (ht : (gg_tys g.2.1)[t]? = some (g.2.1 t, .object C)) {a N : Nat} {f : Nat → Option Nat} {i : Int32} {M' : List gg_S} (hdg : decode cc pc = .ok (.aastore, 1)) (j : Nat) (hm : M[j]? = some [(a, gg_ao g t N f)]) (hin : vp_in i N) (hM : M.set j [(a, gg_ao g t N (va_up f i.toNatClampNeg none))] = M') (K : gg_W p l e R s m args below meth c g A nL Q kc ns M' lv st (pc + 1)) : gg_W p l e R s m args below meth c g A nL Q kc ns M lv (.null :: .int i :: .ref a :: st) pc := by
  intro H locs ls hP hD hS hl
  refine va_WaastN (C := C) E.1 E.2.1 (gg_atm hm hP) (gg_arr E t ht N _) (fun h => by cases h) (gg_szin hin) rfl rfl hdg fun H1 e1 z oq => ?_
  obtain ⟨w1, w2, w3⟩ := gg_wrote E hm hM hP hD hS (by
    show H1[a]? = _
    rw [e1, arrV_store]
    congr 2
    funext j
    by_cases h : j = i.toNatClampNeg <;> simp [updV, va_up, va_rf, h]) z oq
  exact K H1 _ ls w1 w2 w3 hl
/-! new -/
theorem gg_new (E : gg_V p l s m args meth c cc nL own g A ro) {ci N : Nat} {C : String} {T : u_T} {ty : Nat → FieldType} (ck : gg_ck ci C T N ty) {index : Nat} {fs : List Value} {M' : Nat → List gg_S} (qc : Cond.classLink own index C ∈ lw_all) (qi : Cond.instantiable C N ∈ lw_all) (qz : Cond.initialized C ∈ lw_all) (hdg : decode cc pc = .ok (.new index, 3)) (hfs : ∀ j, j < N → defaultValue (ty j) = vp_V fs j) (hc : kc + 1 ≤ R.cells) (hn : ns + N ≤ R.slots) (hM : ∀ q : Nat, M ++ [[(q, .inl (ci, fs))]] = M' q) (K : ∀ q : Nat, gg_W p l e R s m args below meth c g A nL Q (kc + 1) (ns + N) (M' q) lv (.ref q :: st) (pc + 3)) : gg_W p l e R s m args below meth c g A nL Q kc ns M lv st pc := by
  intro H locs ls hP hD hS hl
  have hKn := E.2.2.2.2.2.1.1.1 ci _ ck.1
  refine W.newcK E.1 E.2.1 E.2.2.2.1 (E.2.2.2.2.1 _ qc) (E.2.2.2.2.1 _ qi) (E.2.2.2.2.1 _ qz) rfl hdg hc hn hKn.2.1 rfl fun H1 kC hkC e1 z1 o1 => ?_
  obtain ⟨w1, w2, w3⟩ := gg_push (x := .inl (ci, fs)) E hP hD hS (H1 := H1) ⟨_, ck.1, (u_born ty E.2.2.2.2.1 ck.2.1 hKn hkC e1 ck.2.2.1).to hfs⟩ (by omega) o1
  rw [hM] at w1 w2
  exact K H.size H1 locs ls w1 w2 w3 hl
theorem gg_tyc (E : gg_V p l s m args meth c cc nL own g A ro) (t : Nat) {ty : FieldType} (ht : (gg_tys g.2.1)[t]? = some (g.2.1 t, ty)) {cA : ClassId} (h : s.vm.findClass ("[" ++ ty.toString) = some cA) : cA = g.2.1 t := by
  have h1 := (E.2.2.2.2.2.1.1.2 t _ ht).2
  have h2 : s.vm.findClass ("[" ++ ty.toString) = some (g.2.1 t) := by
    cases ty with
    | object C => obtain ⟨kA, comp, -, -, -, h4⟩ := h1; exact h4
    | _ => exact h1
  exact Option.some.inj (h.symm.trans h2)
theorem gg_newa (E : gg_V p l s m args meth c cc nL own g A ro) (t : Nat) {atype : ArrayType} {ty : FieldType} (hty : newarray.typeOf atype = ty) (ht : (gg_tys g.2.1)[t]? = some (g.2.1 t, ty)) {i : Int32} {N : Nat} {M' : Nat → List gg_S} (qa : Cond.arrayClass ty ∈ lw_all) (hdg : decode cc pc = .ok (.newarray atype, 2)) (h0 : ¬ i < 0) (hN : i.toNatClampNeg = N) (hb : N * componentBytes ty ≤ 536870912) (hc : kc + 1 ≤ R.cells) (hn : ns + N ≤ R.slots) (hM : ∀ q : Nat, M ++ [[(q, .inr (arrV (g.2.1 t) N (fun _ => defaultValue ty)))]] = M' q) (K : ∀ q : Nat, gg_W p l e R s m args below meth c g A nL Q (kc + 1) (ns + N) (M' q) lv (.ref q :: st) (pc + 2)) : gg_W p l e R s m args below meth c g A nL Q kc ns M lv (.int i :: st) pc := by
  subst hty
  intro H locs ls hP hD hS hl
  refine va_newaK E.1 E.2.1 (E.2.2.2.2.1 _ qa) rfl hdg rfl h0 hN hb hc hn rfl fun H1 cA e1 z1 o1 hAr hNm => ?_
  have hcA := gg_tyc E t ht hNm
  subst hcA
  obtain ⟨w1, w2, w3⟩ := gg_push (x := .inr (arrV (g.2.1 t) N (fun _ => defaultValue (newarray.typeOf atype)))) E hP hD hS (H1 := H1) e1 (by omega) o1
  rw [hM] at w1 w2
  exact K H.size H1 locs ls w1 w2 w3 hl
theorem gg_anew (E : gg_V p l s m args meth c cc nL own g A ro) (t : Nat) {C : String} (ht : (gg_tys g.2.1)[t]? = some (g.2.1 t, .object C)) {index : Nat} {i : Int32} {N : Nat} {M' : Nat → List gg_S} (qc : Cond.classLink own index C ∈ lw_all) (qo : Cond.arrayOver (.object C) ∈ gg_nw) (hdg : decode cc pc = .ok (.anewarray index, 3)) (h0 : ¬ i < 0) (hN : i.toNatClampNeg = N) (hb : N * 4 ≤ 536870912) (hc : kc + 1 ≤ R.cells) (hn : ns + N ≤ R.slots) (hM : ∀ q : Nat, M ++ [[(q, gg_ao g t N (fun _ => none))]] = M' q) (K : ∀ q : Nat, gg_W p l e R s m args below meth c g A nL Q (kc + 1) (ns + N) (M' q) lv (.ref q :: st) (pc + 3)) : gg_W p l e R s m args below meth c g A nL Q kc ns M lv (.int i :: st) pc := by
  subst hN
  intro H locs ls hP hD hS hl
  refine W.anew E.1 E.2.1 E.2.2.2.1 (E.2.2.2.2.1 _ qc) (va_AO.use (E.2.2.2.2.2.1.2.1 _ qo)) rfl hdg rfl h0 hb hc hn fun cA kA comp h1 h2 h3 h4 => ?_
  have hcA := gg_tyc E t ht h1
  subst hcA
  obtain ⟨w1, w2, w3⟩ := gg_push (x := gg_ao g t i.toNatClampNeg (fun _ => none)) E hP hD hS (H1 := H.push { cls := g.2.1 t, slots := Array.replicate i.toNatClampNeg .null, vm := .none }) (by
    show (H.push _)[H.size]? = some _
    rw [Array.getElem?_push_size, arrV_new]
    rfl) (by simp) (fun q hq => by rw [Array.getElem?_push, if_neg (Nat.ne_of_lt hq)])
  rw [hM] at w1 w2
  exact K H.size _ locs ls w1 w2 w3 hl
end GGheap
section GGcalls
variable {p : Program} {l : Launch} {e : Env} {R : Room} {s : State} {m : MethodId} {args : Array Value} {below : List Frame} {meth : Method} {c : Code} {g : gg_G} {A : Nat → Prop} {ro : gg_S} {nL : Nat} {Q : State → Prop} {kc ns : Nat} {M : List gg_S} {lv : List (Option Value)} {st : List Value} {pc : Nat} {cc : ByteArray} {own : String}
theorem gg_nw_moved {w : Cond} (hw : w ∈ gg_nw) {u U : State} (hW : u.WarmedH U.vm) (h : va_Nw w u) : va_Nw w U := by
  have hk : gg_nwk w = true := (List.mem_filter.mp hw).2
  have tr : ∀ {c : Cond}, c.onTables = true → c.before #[] (u.setVm U.vm) = true → c.before #[] U = true := by
    intro c hc h
    have e := Cond.onTables_vm (A := #[]) (A' := #[]) (U := u) (U' := U) U.vm c hc
    have hU : U.setVm U.vm = U := rfl
    rw [hU] at e
    rw [← e]
    exact h
  unfold gg_nwk at hk
  split at hk
  · exact va_Nw.warmF hW h
  · exact va_Nw.warmM hW h
  · exact va_Nw.warmC hW h
  · exact va_Nw.warmD hW h
  · exact va_AO.moved hW.alike h
  · exact tr rfl (by rw [Cond.publicMethod_setVm hW.alike]; exact h)
  · exact tr rfl (by rw [Cond.unhidden_setVm hW.alike]; exact h)
  · exact tr rfl (by rw [Cond.privateMethod_setVm hW.alike]; exact h)
  · cases hk
theorem gg_site_moved {x : MethodName} {pc index : Nat} {σ : Lambda.Shape} {cK : ClassId} {u U : State} (hW : u.WarmedH U.vm) (h : u.lambdaAt? x pc index σ = some (cK, none)) : U.lambdaAt? x pc index σ = some (cK, none) := by
  obtain ⟨m, kc, cf, i0, p0, l, hm, hk, hcf, hsh, hin, hfind, hmade, hcall, hl⟩ := State.lambdaAt?_spec h
  have hcall' : U.lambdaCallable σ cK = true := by
    have hA := hW.alike
    simp only [State.lambdaCallable, hA.findClass, hA.assignable, hA.superclasses, hA.declaredIn] at hcall ⊢
    exact hcall
  obtain ⟨kc', hk', he⟩ := hW.alike.2.2 _ _ hk
  have hm' : U.methodNamed? x = some m := by
    have := State.methodNamed?_setVm (s := u) hW.alike x
    rw [hm] at this
    exact this
  have hcf' : kc'.cf = some cf := by rw [he]; exact hcf
  have hin' : (m.idx, pc, index, σ) ∈ Lambda.sitesOf kc' := by rw [he]; exact hin
  have hfind' : (kc'.callSites.find? fun y => y.1 == m.idx && y.2.1 == pc) = some (i0, p0, l) := by rw [he]; exact hfind
  have hmade' := Lambda.isMade_warmer hW hmade
  obtain ⟨m2, k2, hm2, hk2, hjdk, howes⟩ := State.lambdaAt?_road h
  cases hm.symm.trans hm2
  cases hk.symm.trans hk2
  have hjdk' : jdkName kc'.name = false := by rw [he]; exact hjdk
  have howes' : (U.vm.findClass σ.iface).bind (Lambda.owesInit U.vm) = none := by
    rw [hW.alike.findClass]
    cases hfi : u.vm.findClass σ.iface with
    | none => rfl
    | some i => rw [hfi] at howes; simpa [Lambda.owesInit_alike hW.alike] using howes
  have hany : ((Lambda.sitesOf kc').any fun y => decide (y = (m.idx, pc, index, σ))) = true := by simpa using hin'
  rcases hl with ⟨a, cell, -, e2, -⟩ | ⟨rfl, -, hcap⟩
  · cases e2
  · simp [State.lambdaAt?, guard, hjdk', howes', hm', hk', hcf', hsh, hany, hfind', hcap, hmade', hcall']
theorem gg_if.moved {x : MethodName} (hx : x.cls ≠ "java/lang/invoke/MethodHandle" ∧ x.cls ≠ "java/lang/invoke/VarHandle") {u U : State} (hvm : u.vm.Alike U.vm) (h : gg_if x u) : gg_if x U := by
  obtain ⟨h1, h2⟩ := h
  obtain ⟨r, meth, hn, -⟩ := Cond.declares_spec h1
  have tr : ∀ {c : Cond}, c.onTables = true → c.before #[] (u.setVm U.vm) = true → c.before #[] U = true := by
    intro c hc h
    have e := Cond.onTables_vm (A := #[]) (A' := #[]) (U := u) (U' := U) U.vm c hc
    have hU : U.setVm U.vm = U := rfl
    rw [hU] at e
    rw [← e]
    exact h
  exact ⟨tr rfl (by rw [Cond.declares_setVm hvm]; exact h1), tr rfl (by rw [Cond.interfaceMethod_setVm hvm (r := r) hn hx]; exact h2)⟩
theorem gg_ifs_ok : ∀ x ∈ gg_ifs, x.cls ≠ "java/lang/invoke/MethodHandle" ∧ x.cls ≠ "java/lang/invoke/VarHandle" := by decide +kernel
theorem gg_K.moved {u U : State} (hW : u.WarmedH U.vm) (h : gg_K g u) : gg_K g U :=
  ⟨va_K.moved hW.alike h.1, fun w hw => gg_nw_moved hw hW (h.2.1 w hw), fun t ht => (h.2.2.1 t ht).warm hW, fun x hx => (h.2.2.2.1 x hx).moved (gg_ifs_ok x hx) hW.alike, fun k t ht => gg_site_moved hW (h.2.2.2.2.1 k t ht), h.2.2.2.2.2.moved hW.alike⟩
theorem gg_K.same {u U : State} (hvm : u.vm = U.vm) (h : gg_K g u) : gg_K g U := by
  have hW : u.WarmedH U.vm := by rw [← hvm]; exact State.WarmedH.refl u
  exact h.moved hW
theorem gg_R.same {u U : State} {H : Heap} (hvm : u.vm = U.vm) (h : gg_R g A u H) : gg_R g A U H := gg_R.moved (by rw [hvm]; exact Vm.Alike.refl _) h
theorem gg_blind {As : List Value} {C : List gg_S} {sz : Nat} : FrameBlind (gg_Pc g As ro C sz) := by
  intro a U gf mk h
  obtain ⟨h1, h2, h3, h4, h5, h6, h7⟩ := h
  exact ⟨h1, h2, h3, h4, gg_K.same (u := U) (U := U.calling gf mk a) rfl h5, gg_R.same (u := U) (U := U.calling gf mk a) rfl h6, h7⟩
/-- the segments that a callee gets, by their places, and the rest -/
def gg_rest (M : List gg_S) (is : List Nat) : List gg_S := (List.range M.length).filterMap fun i => if is.contains i then none else M[i]?
theorem gg_pick {M C F : List gg_S} (is : List Nat) (hd : is.Nodup) (hC : is.map (fun i => M[i]?) = C.map some) (hF : gg_rest M is = F) : M.flatten.Perm (C.flatten ++ F.flatten) := by
  rw [← List.flatten_append]
  refine List.Perm.flatten ?_
  subst hF
  have hin : ∀ i ∈ is, i < M.length := by
    intro i hi
    have h1 : M[i]? ∈ is.map (fun i => M[i]?) := List.mem_map.mpr ⟨i, hi, rfl⟩
    rw [hC] at h1
    obtain ⟨S, -, hS⟩ := List.mem_map.mp h1
    exact (List.getElem?_eq_some_iff.mp hS.symm).1
  have hperm : (List.range M.length).Perm (is ++ (List.range M.length).filter (fun i => !is.contains i)) := by
    refine (List.perm_ext_iff_of_nodup List.nodup_range ?_).mpr ?_
    · rw [List.nodup_append]
      refine ⟨hd, List.nodup_range.filter _, ?_⟩
      intro a ha b hb e
      subst e
      simp only [List.mem_filter, Bool.not_eq_true'] at hb
      have := List.contains_iff_mem.mpr ha
      rw [this] at hb
      cases hb.2
    · intro a
      simp only [List.mem_range, List.mem_append, List.mem_filter, Bool.not_eq_true']
      constructor
      · intro h
        by_cases h2 : a ∈ is
        · exact Or.inl h2
        · exact Or.inr ⟨h, by rw [← Bool.not_eq_true, List.contains_iff_mem]; exact h2⟩
      · rintro (h | h)
        · exact hin a h
        · exact h.1
  have e1 : M = (List.range M.length).filterMap (fun i => M[i]?) := by
    refine List.ext_getElem? fun i => ?_
    have : ∀ (n : Nat) (M : List gg_S), n ≤ M.length → (List.range n).filterMap (fun i => M[i]?) = M.take n := by
      intro n
      induction n with
      | zero => intro M _; rfl
      | succ n ih =>
        intro M h
        have h9 : M[n]? = some (M[n]'(by omega)) := List.getElem?_eq_getElem (by omega)
        rw [List.range_succ, List.filterMap_append, ih M (by omega), List.take_add_one, h9, List.filterMap_cons, h9]
        rfl
    rw [this _ M (Nat.le_refl _), List.take_length]
  have e2 : is.filterMap (fun i => M[i]?) = C := by
    have : ∀ (is : List Nat) (C : List gg_S), is.map (fun i => M[i]?) = C.map some → is.filterMap (fun i => M[i]?) = C := by
      intro is
      induction is with
      | nil => intro C h; cases C with
        | nil => rfl
        | cons => cases h
      | cons i t ih =>
        intro C h
        cases C with
        | nil => cases h
        | cons x C =>
          simp only [List.map_cons, List.cons.injEq] at h
          rw [List.filterMap_cons, h.1]
          simp [ih C h.2]
    exact this is C hC
  have e3 : gg_rest M is = ((List.range M.length).filter (fun i => !is.contains i)).filterMap (fun i => M[i]?) := by
    unfold gg_rest
    rw [List.filterMap_filter]
    congr 1
    funext i
    cases is.contains i <;> rfl
  rw [e3]
  conv => lhs; rw [e1]
  have h := hperm.filterMap (fun i => M[i]?)
  rw [List.filterMap_append, e2] at h
  exact h
/-- behind a call -/
theorem gg_after (E : gg_V p l s m args meth c cc nL own g A ro) {C F : List gg_S} {Post : Option Value → List gg_S → Prop} {PX : String → Nat → List gg_S → Prop} {mc ms : Nat} {rest st0 : List Value} {a : Array Value} (hperm : M.flatten.Perm (C.flatten ++ F.flatten))
    (hrun : ∀ (H : Heap) (locs : List Loc) (ls : Array Slot), gg_P g M.flatten H → gg_D A M.flatten → va_S A s.heap H locs → gg_L ls nL lv → vx_Run p l e R s m args below meth c H locs kc ns mc ms (F0 m pc ls st0) rest (gg_Qc g C H.size Post a) (gg_Xc g C H.size PX) (gg_A C.flatten H.size))
    (K : ∀ (v : Option Value) (C1 : List gg_S), Post v C1 → gg_W p l e R s m args below meth c g A nL Q (kc + mc) (ns + ms) (C1 ++ F) lv (v.toList ++ rest) (pc + 3))
    (KX : ∀ (X : String) (q : Nat) (C1 : List gg_S), PX X q C1 → gg_X p l e R s m args below meth c g A nL Q (kc + mc) (ns + ms) (C1 ++ F) lv X q pc) : gg_W p l e R s m args below meth c g A nL Q kc ns M lv st0 pc := by
  intro H locs ls hP hD hS hl T hT X
  have hPp : gg_P g (C.flatten ++ F.flatten) H := hP.of fun q hq => hperm.mem_iff.mpr hq
  have hDp := hD.perm hperm
  obtain ⟨dC, dF, dx⟩ := hDp.apart
  have hA1 : ∀ q, gg_A C.flatten H.size q → A q := by
    rintro q (⟨e, he⟩ | h)
    · exact dC.2 _ he
    · exact E.2.2.2.2.2.2.1 q (Nat.le_trans hS.1 h)
  have key : ∀ {st₀ t T' : State} {L : List Loc} {C1 : List gg_S}, st₀.heap = H → T'.heap = t.heap → (∀ q ∈ L, gg_A C.flatten H.size q.base) → va_F (gg_A C.flatten H.size) st₀ t → gg_P g C1.flatten t.heap → gg_D (gg_A C.flatten H.size) C1.flatten → gg_P g (C1 ++ F).flatten T'.heap ∧ gg_D A (C1 ++ F).flatten ∧ va_S A s.heap T'.heap (locs ++ L) := by
    intro st₀ t T' L C1 h0 e1 hL hF hp1 hd1
    obtain ⟨k1, k2, k3⟩ := vx_keep h0 e1 hS (fun q _ h => hA1 q h) hA1 hL hF
    have hFn : ∀ q ∈ F.flatten, ¬ gg_A C.flatten H.size q.1 := by
      rintro q hq (⟨e, he⟩ | h)
      · exact dx _ he q hq rfl
      · exact absurd (hPp q (List.mem_append_right _ hq)).lt (Nat.not_lt.mpr h)
    rw [List.flatten_append]
    refine ⟨gg_P.app (by rw [e1]; exact hp1) (gg_P.kept (fun q hq => hPp q (List.mem_append_right _ hq)) fun q hq => k2 q.1 (hPp q (List.mem_append_right _ hq)).lt (hFn q hq)), (hd1.weaken fun q hq => hA1 _ (hd1.2 q hq)).app dF ?_, k3⟩
    intro x hx y hy e
    exact hFn y hy (e ▸ hd1.2 x hx)
  rcases hrun H locs ls hP hD hS hl T hT X with ⟨v, st₀, t, T', L, h0, X', hL, e1, e2, ⟨⟨v', C1, hv, hp, hp1, hd1⟩, hF⟩, st⟩ | ⟨q, st₀, t, T', L, E', ce, h0, X', hL, e1, e2, ⟨⟨C1, hp, hp1, hd1⟩, hF⟩, hce, hcv, hcl, st⟩
  · cases hv
    obtain ⟨w1, w2, w3⟩ := key h0 e1 hL hF hp1 hd1
    obtain ⟨t2, a1, b1⟩ := K v C1 hp T'.heap (locs ++ L) ls w1 w2 w3 hl T' rfl X'
    exact ⟨t2, st t2 a1, b1⟩
  · obtain ⟨w1, w2, w3⟩ := key h0 e1 hL hF hp1 hd1
    obtain ⟨t2, a1, b1⟩ := KX E' q C1 hp T'.heap (locs ++ L) ls ce rest w1 w2 w3 hl (by rw [e1]; exact hce) hcv hcl T' rfl X'
    exact ⟨t2, st.trans a1, b1⟩
/-- what a callee asks at its start -/
theorem gg_asks (E : gg_V p l s m args meth c cc nL own g A ro) {C F : List gg_S} {ro' : gg_S} {As : List Value} {H : Heap} {locs : List Loc} (hperm : M.flatten.Perm (C.flatten ++ F.flatten)) (hro : ∀ q ∈ ro', gg_in g F ro q) (hP : gg_P g M.flatten H) (hD : gg_D A M.flatten) (hS : va_S A s.heap H locs) (U : State) (hU : U.heap = H) (hW : s.WarmedH U.vm) : gg_Pc g As ro' C H.size As.toArray U := by
  have hPp : gg_P g (C.flatten ++ F.flatten) H := hP.of fun q hq => hperm.mem_iff.mpr hq
  have hDp := hD.perm hperm
  obtain ⟨dC, dF, dx⟩ := hDp.apart
  have hA1 : ∀ q, gg_A C.flatten H.size q → A q := by
    rintro q (⟨e, he⟩ | h)
    · exact dC.2 _ he
    · exact E.2.2.2.2.2.2.1 q (Nat.le_trans hS.1 h)
  have hR : gg_R g A s H := E.2.2.2.2.2.2.2.2.2.1.kept fun a h1 h2 => hS.2.1 a h1 h2
  refine ⟨rfl, by rw [hU], by rw [hU]; exact fun q hq => hPp q (List.mem_append_left _ hq), dC.weaken (fun _ _ => trivial), gg_K.moved hW E.2.2.2.2.2.1, by rw [hU]; exact gg_R.moved hW.alike (hR.narrow hA1), fun q hq => ?_, fun q hq => ?_⟩
  · rw [hU]
    rcases hro q hq with ⟨S, h1, h2⟩ | h | h
    · exact hPp q (List.mem_append_right _ (List.mem_flatten.mpr ⟨S, h1, h2⟩))
    · have h1 := E.2.2.2.2.2.2.2.2.2.2.1 q h
      exact h1.kept (hS.2.1 q.1 h1.lt (E.2.2.2.2.2.2.2.2.2.2.2 q h))
    · have h1 := E.2.2.2.2.2.2.2.2.2.1.1 q h
      exact h1.kept (hS.2.1 q.1 h1.lt (E.2.2.2.2.2.2.2.2.2.1.2.1 q h))
  · rcases hro q hq with ⟨S, h1, h2⟩ | h | h
    · rintro (⟨e, he⟩ | h3)
      · exact dx _ he q (List.mem_flatten.mpr ⟨S, h1, h2⟩) rfl
      · exact absurd (hPp q (List.mem_append_right _ (List.mem_flatten.mpr ⟨S, h1, h2⟩))).lt (Nat.not_lt.mpr h3)
    · exact fun z => E.2.2.2.2.2.2.2.2.2.2.2 q h (hA1 _ z)
    · exact fun z => E.2.2.2.2.2.2.2.2.2.1.2.1 q h (hA1 _ z)
theorem gg_fix (E : gg_V p l s m args meth c cc nL own g A ro) : CallFix p m c cc nL s args lw_all own := ⟨E.1, E.2.1, E.2.2.1, E.2.2.2.1, E.2.2.2.2.1⟩
theorem gg_recv (E : gg_V p l s m args meth c cc nL own g A ro) {ci N : Nat} {Cn : String} {T : u_T} {ty : Nat → FieldType} (ck : gg_ck ci Cn T N ty) {b : Nat} {fs : List Value} {H : Heap} (h : gg_at g (b, .inl (ci, fs)) H) : ∃ cellB : Cell, H[b]? = some cellB ∧ cellB.vm.isStatics = false ∧ s.vm.findClass Cn = some cellB.cls := by
  obtain ⟨q', h1, cell, g1, g2, g3, -⟩ := h
  exact ⟨cell, g1, by rw [g3]; rfl, by rw [g2]; exact (E.2.2.2.2.2.1.1.1 ci _ ck.1).2.1⟩
/-- invokevirtual -/
theorem gg_callV (E : gg_V p l s m args meth c cc nL own g A ro) {ci N : Nat} {Cn : String} {T : u_T} {ty : Nat → FieldType} (ck : gg_ck ci Cn T N ty) {y : MethodName} {bytes : ByteArray} {maxL n index b : Nat} {ret : Option FieldType} {ws : List Cond} {rm : Room} {As rest : List Value} {ro' : gg_S} {C F : List gg_S} {fs : List Value} {Post : Option Value → List gg_S → Prop} {PX : String → Nat → List gg_S → Prop} (hct : gg_C l g y ws rm (.ref b :: As) ro' C Post PX) (cw : CallW R s args own Cn index y bytes maxL ret ws rm rm.cells rm.slots n) (hdg : decode cc pc = .ok (.invokevirtual index, 3))
    (is : List Nat) (hd : is.Nodup) (hC : is.map (fun i => M[i]?) = C.map some) (hF : gg_rest M is = F) (hro : ∀ q ∈ ro', gg_in g F ro q) (hb : gg_in g M ro (b, .inl (ci, fs))) (hn : As.length = n) (hst : st = As.reverse ++ .ref b :: rest) (hw : (rest.map fun v => v.category).sum ≤ 8) (hc : kc + rm.cells ≤ R.cells) (hs : ns + rm.slots ≤ R.slots)
    (K : ∀ (v : Option Value) (C1 : List gg_S), Post v C1 → gg_W p l e R s m args below meth c g A nL Q (kc + rm.cells) (ns + rm.slots) (C1 ++ F) lv (v.toList ++ rest) (pc + 3))
    (KX : ∀ (X : String) (q : Nat) (C1 : List gg_S), PX X q C1 → gg_X p l e R s m args below meth c g A nL Q (kc + rm.cells) (ns + rm.slots) (C1 ++ F) lv X q pc) : gg_W p l e R s m args below meth c g A nL Q kc ns M lv st pc := by
  have hperm := gg_pick is hd hC hF
  subst hst
  refine gg_after (a := (Value.ref b :: As).toArray) E hperm (fun H locs ls hP hD hS hl => ?_) K KX
  exact vx_runV (As := As) (rest := rest) (b := b) (gg_fix E) (hct H.size) cw ⟨gg_blind, gg_recv E ck (hb.at E hP hS), fun U hU hW => gg_asks E hperm hro hP hD hS U hU hW⟩ rfl hn hl.1 rfl (lv_room (m := m) (pc := pc) (ls := ls) (rest := As.reverse ++ .ref b :: rest) hw) hdg ⟨hc, hs⟩
/-- invokestatic -/
theorem gg_callS (E : gg_V p l s m args meth c cc nL own g A ro) {y : MethodName} {bytes : ByteArray} {maxL n index : Nat} {ret : Option FieldType} {ws : List Cond} {rm : Room} {As rest : List Value} {ro' : gg_S} {C F : List gg_S} {Post : Option Value → List gg_S → Prop} {PX : String → Nat → List gg_S → Prop} (hct : gg_C l g y ws rm As ro' C Post PX) (cw : CallB R s args own index y bytes maxL ret ws rm rm.cells rm.slots n ∧ (Cond.static y).before args s = true) (hdg : decode cc pc = .ok (.invokestatic index, 3))
    (is : List Nat) (hd : is.Nodup) (hC : is.map (fun i => M[i]?) = C.map some) (hF : gg_rest M is = F) (hro : ∀ q ∈ ro', gg_in g F ro q) (hn : As.length = n) (hst : st = As.reverse ++ rest) (hw : (rest.map fun v => v.category).sum ≤ 8) (hc : kc + rm.cells ≤ R.cells) (hs : ns + rm.slots ≤ R.slots)
    (K : ∀ (v : Option Value) (C1 : List gg_S), Post v C1 → gg_W p l e R s m args below meth c g A nL Q (kc + rm.cells) (ns + rm.slots) (C1 ++ F) lv (v.toList ++ rest) (pc + 3))
    (KX : ∀ (X : String) (q : Nat) (C1 : List gg_S), PX X q C1 → gg_X p l e R s m args below meth c g A nL Q (kc + rm.cells) (ns + rm.slots) (C1 ++ F) lv X q pc) : gg_W p l e R s m args below meth c g A nL Q kc ns M lv st pc := by
  have hperm := gg_pick is hd hC hF
  subst hst
  refine gg_after (a := As.toArray) E hperm (fun H locs ls hP hD hS hl => ?_) K KX
  exact vx_runS (As := As) (rest := rest) (gg_fix E) (hct H.size) cw ⟨gg_blind, fun U hU hW => gg_asks E hperm hro hP hD hS U hU hW⟩ rfl hn hl.1 rfl (lv_room (m := m) (pc := pc) (ls := ls) (rest := As.reverse ++ rest) hw) hdg ⟨hc, hs⟩
/-- invokespecial of a constructor -/
theorem gg_callI (E : gg_V p l s m args meth c cc nL own g A ro) {y : MethodName} {bytes : ByteArray} {maxL n index b : Nat} {ws : List Cond} {rm : Room} {As rest : List Value} {ro' : gg_S} {C F : List gg_S} {Post : Option Value → List gg_S → Prop} {PX : String → Nat → List gg_S → Prop} (hct : gg_C l g y ws rm (.ref b :: As) ro' C Post PX) (cw : CallB R s args own index y bytes maxL none ws rm rm.cells rm.slots n ∧ y.name = "<init>" ∧ (Cond.instanceMethod y).before args s = true) (hdg : decode cc pc = .ok (.invokespecial index, 3))
    (is : List Nat) (hd : is.Nodup) (hC : is.map (fun i => M[i]?) = C.map some) (hF : gg_rest M is = F) (hro : ∀ q ∈ ro', gg_in g F ro q) (hn : As.length = n) (hst : st = As.reverse ++ .ref b :: rest) (hw : (rest.map fun v => v.category).sum ≤ 8) (hc : kc + rm.cells ≤ R.cells) (hs : ns + rm.slots ≤ R.slots)
    (K : ∀ (v : Option Value) (C1 : List gg_S), Post v C1 → gg_W p l e R s m args below meth c g A nL Q (kc + rm.cells) (ns + rm.slots) (C1 ++ F) lv (v.toList ++ rest) (pc + 3))
    (KX : ∀ (X : String) (q : Nat) (C1 : List gg_S), PX X q C1 → gg_X p l e R s m args below meth c g A nL Q (kc + rm.cells) (ns + rm.slots) (C1 ++ F) lv X q pc) : gg_W p l e R s m args below meth c g A nL Q kc ns M lv st pc := by
  have hperm := gg_pick is hd hC hF
  subst hst
  refine gg_after (a := (Value.ref b :: As).toArray) E hperm (fun H locs ls hP hD hS hl => ?_) K KX
  exact vx_runI (As := As) (rest := rest) (b := b) (gg_fix E) (hct H.size) cw ⟨gg_blind, fun U hU hW => gg_asks E hperm hro hP hD hS U hU hW⟩ rfl hn hl.1 rfl (lv_room (m := m) (pc := pc) (ls := ls) (rest := As.reverse ++ .ref b :: rest) hw) hdg ⟨hc, hs⟩
/-- a nest mate's private method, constructor, static method -/
theorem gg_callVN (E : gg_V p l s m args meth c cc nL own g A ro) {ci N : Nat} {Cn host : String} {T : u_T} {ty : Nat → FieldType} (ck : gg_ck ci Cn T N ty) {y : MethodName} {bytes : ByteArray} {maxL n index b : Nat} {ret : Option FieldType} {ws : List Cond} {rm : Room} {As rest : List Value} {ro' : gg_S} {C F : List gg_S} {fs : List Value} {Post : Option Value → List gg_S → Prop} {PX : String → Nat → List gg_S → Prop} (hct : gg_C l g y ws rm (.ref b :: As) ro' C Post PX) (cw : va_CN R s args own index y host bytes maxL ret ws rm rm.cells rm.slots n ∧ (Cond.instanceMethod y).before args s = true ∧ (Cond.selects Cn y y).before args s = true) (hdg : decode cc pc = .ok (.invokevirtual index, 3))
    (is : List Nat) (hd : is.Nodup) (hC : is.map (fun i => M[i]?) = C.map some) (hF : gg_rest M is = F) (hro : ∀ q ∈ ro', gg_in g F ro q) (hb : gg_in g M ro (b, .inl (ci, fs))) (hn : As.length = n) (hst : st = As.reverse ++ .ref b :: rest) (hw : (rest.map fun v => v.category).sum ≤ 8) (hc : kc + rm.cells ≤ R.cells) (hs : ns + rm.slots ≤ R.slots)
    (K : ∀ (v : Option Value) (C1 : List gg_S), Post v C1 → gg_W p l e R s m args below meth c g A nL Q (kc + rm.cells) (ns + rm.slots) (C1 ++ F) lv (v.toList ++ rest) (pc + 3))
    (KX : ∀ (X : String) (q : Nat) (C1 : List gg_S), PX X q C1 → gg_X p l e R s m args below meth c g A nL Q (kc + rm.cells) (ns + rm.slots) (C1 ++ F) lv X q pc) : gg_W p l e R s m args below meth c g A nL Q kc ns M lv st pc := by
  have hperm := gg_pick is hd hC hF
  subst hst
  refine gg_after (a := (Value.ref b :: As).toArray) E hperm (fun H locs ls hP hD hS hl => ?_) K KX
  exact vx_runVN (As := As) (rest := rest) (b := b) (gg_fix E) (hct H.size) cw ⟨gg_blind, gg_recv E ck (hb.at E hP hS), fun U hU hW => gg_asks E hperm hro hP hD hS U hU hW⟩ rfl hn hl.1 rfl (lv_room (m := m) (pc := pc) (ls := ls) (rest := As.reverse ++ .ref b :: rest) hw) hdg ⟨hc, hs⟩
theorem gg_callSN (E : gg_V p l s m args meth c cc nL own g A ro) {host : String} {y : MethodName} {bytes : ByteArray} {maxL n index : Nat} {ret : Option FieldType} {ws : List Cond} {rm : Room} {As rest : List Value} {ro' : gg_S} {C F : List gg_S} {Post : Option Value → List gg_S → Prop} {PX : String → Nat → List gg_S → Prop} (hct : gg_C l g y ws rm As ro' C Post PX) (cw : va_CN R s args own index y host bytes maxL ret ws rm rm.cells rm.slots n ∧ (Cond.static y).before args s = true ∧ True) (hdg : decode cc pc = .ok (.invokestatic index, 3))
    (is : List Nat) (hd : is.Nodup) (hC : is.map (fun i => M[i]?) = C.map some) (hF : gg_rest M is = F) (hro : ∀ q ∈ ro', gg_in g F ro q) (hn : As.length = n) (hst : st = As.reverse ++ rest) (hw : (rest.map fun v => v.category).sum ≤ 8) (hc : kc + rm.cells ≤ R.cells) (hs : ns + rm.slots ≤ R.slots)
    (K : ∀ (v : Option Value) (C1 : List gg_S), Post v C1 → gg_W p l e R s m args below meth c g A nL Q (kc + rm.cells) (ns + rm.slots) (C1 ++ F) lv (v.toList ++ rest) (pc + 3))
    (KX : ∀ (X : String) (q : Nat) (C1 : List gg_S), PX X q C1 → gg_X p l e R s m args below meth c g A nL Q (kc + rm.cells) (ns + rm.slots) (C1 ++ F) lv X q pc) : gg_W p l e R s m args below meth c g A nL Q kc ns M lv st pc := by
  have hperm := gg_pick is hd hC hF
  subst hst
  refine gg_after (a := As.toArray) E hperm (fun H locs ls hP hD hS hl => ?_) K KX
  exact vx_runSN (As := As) (rest := rest) (gg_fix E) (hct H.size) cw ⟨gg_blind, fun U hU hW => gg_asks E hperm hro hP hD hS U hU hW⟩ rfl hn hl.1 rfl (lv_room (m := m) (pc := pc) (ls := ls) (rest := As.reverse ++ rest) hw) hdg ⟨hc, hs⟩
theorem gg_callIN (E : gg_V p l s m args meth c cc nL own g A ro) {host : String} {y : MethodName} {bytes : ByteArray} {maxL n index b : Nat} {ws : List Cond} {rm : Room} {As rest : List Value} {ro' : gg_S} {C F : List gg_S} {Post : Option Value → List gg_S → Prop} {PX : String → Nat → List gg_S → Prop} (hct : gg_C l g y ws rm (.ref b :: As) ro' C Post PX) (cw : va_CN R s args own index y host bytes maxL none ws rm rm.cells rm.slots n ∧ y.name = "<init>" ∧ (Cond.instanceMethod y).before args s = true) (hdg : decode cc pc = .ok (.invokespecial index, 3))
    (is : List Nat) (hd : is.Nodup) (hC : is.map (fun i => M[i]?) = C.map some) (hF : gg_rest M is = F) (hro : ∀ q ∈ ro', gg_in g F ro q) (hn : As.length = n) (hst : st = As.reverse ++ .ref b :: rest) (hw : (rest.map fun v => v.category).sum ≤ 8) (hc : kc + rm.cells ≤ R.cells) (hs : ns + rm.slots ≤ R.slots)
    (K : ∀ (v : Option Value) (C1 : List gg_S), Post v C1 → gg_W p l e R s m args below meth c g A nL Q (kc + rm.cells) (ns + rm.slots) (C1 ++ F) lv (v.toList ++ rest) (pc + 3))
    (KX : ∀ (X : String) (q : Nat) (C1 : List gg_S), PX X q C1 → gg_X p l e R s m args below meth c g A nL Q (kc + rm.cells) (ns + rm.slots) (C1 ++ F) lv X q pc) : gg_W p l e R s m args below meth c g A nL Q kc ns M lv st pc := by
  have hperm := gg_pick is hd hC hF
  subst hst
  refine gg_after (a := (Value.ref b :: As).toArray) E hperm (fun H locs ls hP hD hS hl => ?_) K KX
  exact vx_runIN (As := As) (rest := rest) (b := b) (gg_fix E) (hct H.size) cw ⟨gg_blind, fun U hU hW => gg_asks E hperm hro hP hD hS U hU hW⟩ rfl hn hl.1 rfl (lv_room (m := m) (pc := pc) (ls := ls) (rest := As.reverse ++ .ref b :: rest) hw) hdg ⟨hc, hs⟩
/-- a method that the receiver's class inherits -/
theorem gg_callU (E : gg_V p l s m args meth c cc nL own g A ro) {ci N : Nat} {Cn owner : String} {T : u_T} {ty : Nat → FieldType} (ck : gg_ck ci Cn T N ty) {x y : MethodName} {bytes : ByteArray} {maxL n index b : Nat} {ret : Option FieldType} {ws : List Cond} {rm : Room} {As rest : List Value} {ro' : gg_S} {C F : List gg_S} {fs : List Value} {Post : Option Value → List gg_S → Prop} {PX : String → Nat → List gg_S → Prop} (hct : gg_C l g y ws rm (.ref b :: As) ro' C Post PX) (cw : va_CU R s args own Cn owner index x y bytes maxL ret ws rm rm.cells rm.slots n) (hdg : decode cc pc = .ok (.invokevirtual index, 3))
    (is : List Nat) (hd : is.Nodup) (hC : is.map (fun i => M[i]?) = C.map some) (hF : gg_rest M is = F) (hro : ∀ q ∈ ro', gg_in g F ro q) (hb : gg_in g M ro (b, .inl (ci, fs))) (hn : As.length = n) (hst : st = As.reverse ++ .ref b :: rest) (hw : (rest.map fun v => v.category).sum ≤ 8) (hc : kc + rm.cells ≤ R.cells) (hs : ns + rm.slots ≤ R.slots)
    (K : ∀ (v : Option Value) (C1 : List gg_S), Post v C1 → gg_W p l e R s m args below meth c g A nL Q (kc + rm.cells) (ns + rm.slots) (C1 ++ F) lv (v.toList ++ rest) (pc + 3))
    (KX : ∀ (X : String) (q : Nat) (C1 : List gg_S), PX X q C1 → gg_X p l e R s m args below meth c g A nL Q (kc + rm.cells) (ns + rm.slots) (C1 ++ F) lv X q pc) : gg_W p l e R s m args below meth c g A nL Q kc ns M lv st pc := by
  have hperm := gg_pick is hd hC hF
  subst hst
  refine gg_after (a := (Value.ref b :: As).toArray) E hperm (fun H locs ls hP hD hS hl => ?_) K KX
  exact vx_runU (As := As) (rest := rest) (b := b) (gg_fix E) (hct H.size) cw ⟨gg_blind, gg_recv E ck (hb.at E hP hS), fun U hU hW => gg_asks E hperm hro hP hD hS U hU hW⟩ rfl hn hl.1 rfl (lv_room (m := m) (pc := pc) (ls := ls) (rest := As.reverse ++ .ref b :: rest) hw) hdg ⟨hc, hs⟩
end GGcalls
section GGends
variable {p : Program} {l : Launch} {e : Env} {R : Room} {s : State} {m : MethodId} {args : Array Value} {below : List Frame} {meth : Method} {c : Code} {g : gg_G} {A : Nat → Prop} {ro : gg_S} {nL : Nat} {Q : State → Prop} {kc ns : Nat} {M : List gg_S} {lv : List (Option Value)} {st : List Value} {pc : Nat} {cc : ByteArray} {own : String}
/-- where the method may end: its answer's type, what it may make, its post -/
def gg_Fin (s : State) (args : Array Value) (below : List Frame) (meth : Method) (g : gg_G) (A : Nat → Prop) (Q : State → Prop) (ret : Option FieldType) (mc ms : Nat) (Post : Option Value → List gg_S → Prop) (PX : String → Nat → List gg_S → Prop) : Prop :=
  ∃ C : List gg_S, A = gg_A C.flatten s.heap.size ∧ Q = vx_MQ below (gg_Qc g C s.heap.size Post) (gg_Xc g C s.heap.size PX) args s mc ms (gg_A C.flatten s.heap.size) ∧ meth.sig.returnType = ret
variable {ret : Option FieldType} {mc ms : Nat} {Post : Option Value → List gg_S → Prop} {PX : String → Nat → List gg_S → Prop}
theorem gg_fin {v : Option Value} (Fn : gg_Fin s args below meth g A Q ret mc ms Post PX) {H : Heap} {locs : List Loc} (hP : gg_P g M.flatten H) (hD : gg_D A M.flatten) (hS : va_S A s.heap H locs) (hp : Post v M) (hk : kc ≤ mc) (hn : ns ≤ ms) {fr : JFrame} (K : ∀ C : List gg_S, A = gg_A C.flatten s.heap.size → (∀ t : State, t.heap = H → s.WarmedH t.vm → gg_Qc g C s.heap.size Post args s (.returned v) t) → (∀ q ∈ locs, gg_A C.flatten s.heap.size q.base) → W p l e R s m args below meth c H locs mc ms (MQ below (gg_Qc g C s.heap.size Post) args s mc ms (gg_A C.flatten s.heap.size)) fr) : W p l e R s m args below meth c H locs kc ns Q fr := by
  obtain ⟨C, hA, hQ, -⟩ := Fn
  subst hQ
  refine W.widen hk hn (vx_ret (K C hA ?_ ?_))
  · intro t ht hW
    refine ⟨⟨v, M, rfl, hp, by rw [ht]; exact hP, by rw [← hA]; exact hD⟩, by rw [← hA]; exact hS.F ht⟩
  · rw [← hA]; exact hS.2.2
theorem gg_iret (E : gg_V p l s m args meth c cc nL own g A ro) (Fn : gg_Fin s args below meth g A Q ret mc ms Post PX) {ty : FieldType} {v : Int32} (hr : ret = some ty) (hnr : narrow ty (.int v) = .int v) (hdg : decode cc pc = .ok (.ireturn, 1)) (hk : kc ≤ mc) (hn : ns ≤ ms) (hp : Post (some (.int v)) M) : gg_W p l e R s m args below meth c g A nL Q kc ns M lv [.int v] pc := by
  intro H locs ls hP hD hS hl
  have hr2 : meth.sig.returnType = some ty := by obtain ⟨C, -, -, h⟩ := Fn; rw [h, hr]
  exact gg_fin Fn hP hD hS hp hk hn fun C hA hq hf => W.zret E.1 E.2.1 hr2 hnr hq hf hdg E.2.2.2.2.2.2.2.1
theorem gg_lret (E : gg_V p l s m args meth c cc nL own g A ro) (Fn : gg_Fin s args below meth g A Q ret mc ms Post PX) {v : Int64} (hr : ret = some .long) (hdg : decode cc pc = .ok (.lreturn, 1)) (hk : kc ≤ mc) (hn : ns ≤ ms) (hp : Post (some (.long v)) M) : gg_W p l e R s m args below meth c g A nL Q kc ns M lv [.long v] pc := by
  intro H locs ls hP hD hS hl
  have hr2 : meth.sig.returnType = some .long := by obtain ⟨C, -, -, h⟩ := Fn; rw [h, hr]
  exact gg_fin Fn hP hD hS hp hk hn fun C hA hq hf => W.lret E.1 E.2.1 hr2 hq hf hdg E.2.2.2.2.2.2.2.1
theorem gg_fret (E : gg_V p l s m args meth c cc nL own g A ro) (Fn : gg_Fin s args below meth g A Q ret mc ms Post PX) {v : UInt32} (hr : ret = some .float) (hdg : decode cc pc = .ok (.freturn, 1)) (hk : kc ≤ mc) (hn : ns ≤ ms) (hp : Post (some (.float v)) M) : gg_W p l e R s m args below meth c g A nL Q kc ns M lv [.float v] pc := by
  intro H locs ls hP hD hS hl
  have hr2 : meth.sig.returnType = some .float := by obtain ⟨C, -, -, h⟩ := Fn; rw [h, hr]
  exact gg_fin Fn hP hD hS hp hk hn fun C hA hq hf => W.fret E.1 E.2.1 hr2 hq hf hdg E.2.2.2.2.2.2.2.1
theorem gg_dret (E : gg_V p l s m args meth c cc nL own g A ro) (Fn : gg_Fin s args below meth g A Q ret mc ms Post PX) {v : UInt64} (hr : ret = some .double) (hdg : decode cc pc = .ok (.dreturn, 1)) (hk : kc ≤ mc) (hn : ns ≤ ms) (hp : Post (some (.double v)) M) : gg_W p l e R s m args below meth c g A nL Q kc ns M lv [.double v] pc := by
  intro H locs ls hP hD hS hl
  have hr2 : meth.sig.returnType = some .double := by obtain ⟨C, -, -, h⟩ := Fn; rw [h, hr]
  exact gg_fin Fn hP hD hS hp hk hn fun C hA hq hf => W.dret E.1 E.2.1 hr2 hq hf hdg E.2.2.2.2.2.2.2.1
theorem gg_vret (E : gg_V p l s m args meth c cc nL own g A ro) (Fn : gg_Fin s args below meth g A Q ret mc ms Post PX) (hr : ret = none) (hdg : decode cc pc = .ok (.return_, 1)) (hk : kc ≤ mc) (hn : ns ≤ ms) (hp : Post none M) : gg_W p l e R s m args below meth c g A nL Q kc ns M lv [] pc := by
  intro H locs ls hP hD hS hl
  have hr2 : meth.sig.returnType = none := by obtain ⟨C, -, -, h⟩ := Fn; rw [h, hr]
  exact gg_fin Fn hP hD hS hp hk hn fun C hA hq hf => W.vret E.1 E.2.1 hr2 hq hf hdg E.2.2.2.2.2.2.2.1
theorem gg_aret (E : gg_V p l s m args meth c cc nL own g A ro) (Fn : gg_Fin s args below meth g A Q ret mc ms Post PX) {rt : FieldType} {v : Value} (hr : ret = some rt) (hrt : (∃ n, rt = .object n) ∨ ∃ t, rt = .array t) (hv : v = .null ∨ ∃ a, v = .ref a) (hdg : decode cc pc = .ok (.areturn, 1)) (hk : kc ≤ mc) (hn : ns ≤ ms) (hp : Post (some v) M) : gg_W p l e R s m args below meth c g A nL Q kc ns M lv [v] pc := by
  intro H locs ls hP hD hS hl
  have hr2 : meth.sig.returnType = some rt := by obtain ⟨C, -, -, h⟩ := Fn; rw [h, hr]
  exact gg_fin Fn hP hD hS hp hk hn fun C hA hq hf => W.aret E.1 E.2.1 hr2 hrt hv hq hf hdg E.2.2.2.2.2.2.2.1
/-- the locals with which a method begins -/
def gg_ent : List Value → List (Option Value)
  | [] => []
  | v :: t => if v.category = 2 then some v :: none :: gg_ent t else some v :: gg_ent t
theorem gg_ent_args : ∀ (vs : List Value) (k i : Nat) (v : Value), (gg_ent vs)[i]? = some (some v) → (k + i, v) ∈ lv_args k vs := by
  intro vs
  induction vs with
  | nil => intro k i v h; simp [gg_ent] at h
  | cons w t ih =>
    intro k i v h
    unfold gg_ent at h
    unfold lv_args
    rcases lv_cat w with hc | hc
    · rw [if_neg (by omega)] at h
      cases i with
      | zero => simp at h; subst h; exact List.mem_cons_self
      | succ i =>
        refine List.mem_cons_of_mem _ ?_
        have := ih (k + 1) i v (by simpa using h)
        rw [show k + (i + 1) = k + 1 + i by omega]
        simpa [hc] using this
    · rw [if_pos hc] at h
      cases i with
      | zero => simp at h; subst h; exact List.mem_cons_self
      | succ i =>
        cases i with
        | zero => simp at h
        | succ i =>
          refine List.mem_cons_of_mem _ ?_
          have := ih (k + 2) i v (by simpa using h)
          rw [show k + (i + 1 + 1) = k + 2 + i by omega]
          simpa [hc] using this
theorem gg_entry (vs : List Value) {n : Nat} {lv : List (Option Value)} (h : (lg_sl vs).length ≤ n) (hlv : gg_ent vs ++ List.replicate (n - (gg_ent vs).length) none = lv) : gg_L ((lg_sl vs ++ List.replicate (n - (lg_sl vs).length) Slot.unset).toArray) n lv := by
  have h1 := lv_entry vs h
  refine ⟨h1.1, h1.2.1, fun i v hi => ?_⟩
  rw [← hlv] at hi
  have h2 : (gg_ent vs)[i]? = some (some v) := by
    rw [List.getElem?_append] at hi
    split at hi
    · exact hi
    · rw [List.getElem?_replicate] at hi
      split at hi <;> cases hi
  have h3 := gg_ent_args vs 0 i v h2
  rw [Nat.zero_add] at h3
  exact h1.2.2 (i, v) h3
/-- A CONTRACT FROM A WALK -/
theorem gg_of {y : MethodName} {rm : Room} {As : List Value} {C : List gg_S} (hy : plainName y.cls = true) (hl : l.stackTraces = false) (hL : (lg_sl As).length ≤ nL) (hlv : gg_ent As ++ List.replicate (nL - (gg_ent As).length) none = lv)
    (body : ∀ (p : Program) (e : Env) (R : Room) (s : State) (m : MethodId) (args : Array Value) (below : List Frame) (meth : Method) (c : Code) (A : Nat → Prop) (Q : State → Prop), R.frames = rm.frames → R.locals = rm.locals → R.cells = rm.cells → R.slots = rm.slots → gg_V p l s m args meth c cc nL y.cls g A ro → gg_Fin s args below meth g A Q ret rm.cells rm.slots Post PX → meth.name = y.name → (∀ x ∈ c.exceptionTable.toList, False) → gg_W p l e R s m args below meth c g A nL Q 0 0 C lv [] 0) : gg_C l g y (ws_ y cc nL ret) rm As ro C Post PX := by
  intro sz
  refine vx_ofW hy rfl ?_
  intro p e s m args below meth c s₁ B hml hex hv
  obtain ⟨rfl, hsz, hP, hD, hK, hR, hro, hrA⟩ := hv
  subst hsz
  have hts := atoms_spec (ws := ws_ y cc nL ret) B.pre
  have hts : ∀ w ∈ lw_all, w.before _ s = true := fun w h => hts w (List.mem_cons_of_mem _ h)
  have hnm : meth.name = y.name := (name_of_methodNamed B.named B.method).1
  have hw := body p e rm s m As.toArray below meth c (gg_A C.flatten s.heap.size) _ rfl rfl rfl rfl ⟨B.exec, B.bytes, hml, findClass_of_methodNamed B.named, hts, hK, fun q h => Or.inr h, B.notSynchronized, hl, hR, hro, hrA⟩ ⟨C, rfl, rfl, B.returns⟩ hnm hex s.heap [] _ hP hD.self va_S.rf (gg_entry As hL hlv)
  rw [lg_entry_eq]
  exact hw
end GGends
section GGmore
variable {p : Program} {l : Launch} {e : Env} {R : Room} {s : State} {m : MethodId} {args : Array Value} {below : List Frame} {meth : Method} {c : Code} {g : gg_G} {A : Nat → Prop} {ro : gg_S} {nL : Nat} {Q : State → Prop} {kc ns : Nat} {M : List gg_S} {lv : List (Option Value)} {st : List Value} {pc : Nat} {cc : ByteArray} {own : String}
theorem gg_nz {x : Int32} (h : x = 0 ∨ x = 1) : narrow .boolean (.int x) = .int x := by rcases h with rfl | rfl <;> rfl
theorem gg_lcmp (E : gg_V p l s m args meth c cc nL own g A ro) {x y : Int64} (hdg : decode cc pc = .ok (.lcmp, 1)) (K : gg_W p l e R s m args below meth c g A nL Q kc ns M lv (.int (lg_cmp x y) :: st) (pc + 1)) : gg_W p l e R s m args below meth c g A nL Q kc ns M lv (.long y :: .long x :: st) pc :=
  fun H locs ls hP hD hS hl => W.lcmp E.1 E.2.1 hdg (K H locs ls hP hD hS hl)
theorem gg_objInit (E : gg_V p l s m args meth c cc nL own g A ro) {idx a : Nat} (q : Cond.methodLink own idx objectInit ∈ lw_all) (hdg : decode cc pc = .ok (.invokespecial idx, 3)) (hf : 1 ≤ R.frames) (hlo : (st.map fun v => v.category).sum + 12 ≤ R.locals) (K : gg_W p l e R s m args below meth c g A nL Q kc ns M lv st (pc + 3)) : gg_W p l e R s m args below meth c g A nL Q kc ns M lv (.ref a :: st) pc := by
  intro H locs ls hP hD hS hl
  refine W.objInit E.1 E.2.1 E.2.2.2.1 (E.2.2.2.2.1 _ q) (E.2.2.2.2.1 _ lw_oi) (E.2.2.2.2.1 _ lw_oc) rfl (by rw [E.2.2.1]; exact hl.1) rfl hdg hf ?_ ?_
  · exact Nat.le_trans (Nat.le_of_eq (by show 2 * (F0 m pc ls (.ref a :: st)).monitorRoom + _ + 12 = _; simp [JFrame.monitorRoom])) hlo
  · exact W.eq (g2 := F0 m (pc + 3) ls st) rfl (K H locs ls hP hD hS hl)
/-- getstatic of a constant, by its place in gg_sta -/
theorem gg_gets (E : gg_V p l s m args meth c cc nL own g A ro) (k : Nat) {C nm ds : String} {v : Value} {index : Nat} (h : (gg_sta g)[k]? = some (C, nm, ds, v)) (q : Cond.fieldLink own index C nm ds ∈ lw_all) (hdg : decode cc pc = .ok (.getstatic index, 3)) (K : gg_W p l e R s m args below meth c g A nL Q kc ns M lv (v :: st) (pc + 3)) : gg_W p l e R s m args below meth c g A nL Q kc ns M lv st pc :=
  fun H locs ls hP hD hS hl => va_gets E.1 E.2.1 (ref := C) (E.2.2.2.2.2.2.2.2.2.1.2.2.1 _ (List.mem_of_getElem? h)) hS E.2.2.2.1 (E.2.2.2.2.1 _ q) (fun x hx => hx) hdg (K H locs ls hP hD hS hl)
theorem gg_getsN (E : gg_V p l s m args meth c cc nL own g A ro) (k : Nat) {C nm ds host : String} {v : Value} {index : Nat} (h : (gg_sta g)[k]? = some (C, nm, ds, v)) (q : Cond.fieldLinkNest own index C nm ds host ∈ gg_nw) (hdg : decode cc pc = .ok (.getstatic index, 3)) (K : gg_W p l e R s m args below meth c g A nL Q kc ns M lv (v :: st) (pc + 3)) : gg_W p l e R s m args below meth c g A nL Q kc ns M lv st pc :=
  fun H locs ls hP hD hS hl => va_getsN E.1 E.2.1 (ref := C) (E.2.2.2.2.2.2.2.2.2.1.2.2.1 _ (List.mem_of_getElem? h)) hS E.2.2.2.1 (va_Nw.use rfl (E.2.2.2.2.2.1.2.1 _ q)) (fun x hx => hx) hdg (K H locs ls hP hD hS hl)
/-- ldc of a String, by its place in gg_str -/
theorem gg_ldcS (E : gg_V p l s m args meth c cc nL own g A ro) (k : Nat) {tx : String} {index a : Nat} (h : (gg_str g)[k]? = some (own, index, tx, a)) (hdg : decode cc pc = .ok (.ldc index, 2)) (K : gg_W p l e R s m args below meth c g A nL Q kc ns M lv (.ref a :: st) (pc + 2)) : gg_W p l e R s m args below meth c g A nL Q kc ns M lv st pc :=
  fun H locs ls hP hD hS hl => va_ldcS E.1 E.2.1 E.2.2.2.1 (E.2.2.2.2.2.1.2.2.1 _ (List.mem_of_getElem? h)) hdg (K H locs ls hP hD hS hl)
/-- a local that holds a reference or null -/
theorem gg_aloadV_n (E : gg_V p l s m args meth c cc nL own g A ro) {k4 : Fin 4} {i : Nat} {r : Option Nat} (hdg : decode cc pc = .ok (.aload_n k4, 1)) (hi : (k4 : Nat) = i) (hl0 : lv[i]? = some (some (va_rf r))) (K : gg_W p l e R s m args below meth c g A nL Q kc ns M lv (va_rf r :: st) (pc + 1)) : gg_W p l e R s m args below meth c g A nL Q kc ns M lv st pc := by
  cases r with
  | none => exact gg_aload_nN E hdg hi hl0 K
  | some a => exact gg_aload_n E hdg hi hl0 K
theorem gg_aloadV (E : gg_V p l s m args meth c cc nL own g A ro) {i : Nat} {r : Option Nat} (hdg : decode cc pc = .ok (.aload i, 2)) (hl0 : lv[i]? = some (some (va_rf r))) (K : gg_W p l e R s m args below meth c g A nL Q kc ns M lv (va_rf r :: st) (pc + 2)) : gg_W p l e R s m args below meth c g A nL Q kc ns M lv st pc := by
  cases r with
  | none => exact gg_aloadN E hdg hl0 K
  | some a => exact gg_aload E hdg hl0 K
theorem gg_astoreV_n (E : gg_V p l s m args meth c cc nL own g A ro) {k4 : Fin 4} {i : Nat} {r : Option Nat} {lv' : List (Option Value)} (hdg : decode cc pc = .ok (.astore_n k4, 1)) (hi : (k4 : Nat) = i) (hn : i < nL) (hf : gg_free lv i = true) (hs : lv.set i (some (va_rf r)) = lv') (K : gg_W p l e R s m args below meth c g A nL Q kc ns M lv' st (pc + 1)) : gg_W p l e R s m args below meth c g A nL Q kc ns M lv (va_rf r :: st) pc := by
  cases r with
  | none => exact gg_astore_nN E hdg hi hn hf hs K
  | some a => exact gg_astore_n E hdg hi hn hf hs K
theorem gg_astoreV (E : gg_V p l s m args meth c cc nL own g A ro) {i : Nat} {r : Option Nat} {lv' : List (Option Value)} (hdg : decode cc pc = .ok (.astore i, 2)) (hn : i < nL) (hf : gg_free lv i = true) (hs : lv.set i (some (va_rf r)) = lv') (K : gg_W p l e R s m args below meth c g A nL Q kc ns M lv' st (pc + 2)) : gg_W p l e R s m args below meth c g A nL Q kc ns M lv (va_rf r :: st) pc := by
  cases r with
  | none => exact gg_astoreN E hdg hn hf hs K
  | some a => exact gg_astore E hdg hn hf hs K
theorem gg_ifnullV (E : gg_V p l s m args meth c cc nL own g A ro) {r : Option Nat} {off : Int} {tgt : Nat} (hdg : decode cc pc = .ok (.ifnull off, 3)) (ht : (pc : Int) + off = (tgt : Int)) (kt : r = none → gg_W p l e R s m args below meth c g A nL Q kc ns M lv st tgt) (kf : ∀ a : Nat, r = some a → gg_W p l e R s m args below meth c g A nL Q kc ns M lv st (pc + 3)) : gg_W p l e R s m args below meth c g A nL Q kc ns M lv (va_rf r :: st) pc := by
  cases r with
  | none => exact gg_ifnullN E hdg ht (kt rfl)
  | some a => exact gg_ifnull E hdg (kf a rfl)
theorem gg_ifnonnullV (E : gg_V p l s m args meth c cc nL own g A ro) {r : Option Nat} {off : Int} {tgt : Nat} (hdg : decode cc pc = .ok (.ifnonnull off, 3)) (ht : (pc : Int) + off = (tgt : Int)) (kt : ∀ a : Nat, r = some a → gg_W p l e R s m args below meth c g A nL Q kc ns M lv st tgt) (kf : r = none → gg_W p l e R s m args below meth c g A nL Q kc ns M lv st (pc + 3)) : gg_W p l e R s m args below meth c g A nL Q kc ns M lv (va_rf r :: st) pc := by
  cases r with
  | none => exact gg_ifnonnullN E hdg (kf rfl)
  | some a => exact gg_ifnonnull E hdg ht (kt a rfl)
/-- checkcast of an object of a known class -/
theorem gg_cast (E : gg_V p l s m args meth c cc nL own g A ro) {ci N : Nat} {Cn nm : String} {T : u_T} {ty : Nat → FieldType} (ck : gg_ck ci Cn T N ty) {index a : Nat} {fs : List Value} (q : Cond.classLink own index nm ∈ lw_all) (hc : Cn = nm ∨ Cond.castable Cn nm ∈ gg_nw) (hdg : decode cc pc = .ok (.checkcast index, 3)) (hm : gg_in g M ro (a, .inl (ci, fs))) (K : gg_W p l e R s m args below meth c g A nL Q kc ns M lv (.ref a :: st) (pc + 3)) : gg_W p l e R s m args below meth c g A nL Q kc ns M lv (.ref a :: st) pc := by
  intro H locs ls hP hD hS hl
  rcases hc with rfl | hc
  · exact va_castS E.1 E.2.1 E.2.2.2.1 (E.2.2.2.2.1 _ q) (E.2.2.2.2.2.1.1.1 ci _ ck.1).2 (gg_recv E ck (hm.at E hP hS)) hdg (K H locs ls hP hD hS hl)
  · exact va_castY E.1 E.2.1 E.2.2.2.1 (E.2.2.2.2.1 _ q) (E.2.2.2.2.2.1.2.1 _ hc) (gg_recv E ck (hm.at E hP hS)) hdg (K H locs ls hP hD hS hl)
theorem gg_isaO (E : gg_V p l s m args meth c cc nL own g A ro) {ci N : Nat} {Cn C : String} {T : u_T} {ty : Nat → FieldType} {a : Nat} {fs : List Value} (hm : gg_in g M ro (a, .inl (ci, fs))) (ck : gg_ck ci Cn T N ty) (hc : Cond.castable Cn C ∈ gg_nw) : ∀ (H : Heap) (locs : List Loc), gg_P g M.flatten H → va_S A s.heap H locs → gg_isa s C H a := by
  intro H locs hP hS
  obtain ⟨cell, g1, g2, g3⟩ := gg_recv E ck (hm.at E hP hS)
  obtain ⟨-, kC, hkC, -⟩ := (E.2.2.2.2.2.1.1.1 ci _ ck.1).2
  have hcc := (E.2.2.2.2.2.1.1.1 ci _ ck.1).2.1
  have he : cell.cls = g.1.1 ci := Option.some.inj (g3.symm.trans hcc)
  refine ⟨cell, g1, g2, ⟨kC, by rw [he]; exact hkC⟩, fun comp hcomp => ?_⟩
  obtain ⟨c1, t1, h1, h2, h3⟩ := Cond.castable_spec (E.2.2.2.2.2.1.2.1 _ hc)
  have e1 : c1 = cell.cls := Option.some.inj (h1.symm.trans g3)
  have e2 : t1 = comp := Option.some.inj (h2.symm.trans hcomp)
  rw [← e1, ← e2]
  exact h3
/-- putfield of a nest mate's field -/
theorem gg_putN (E : gg_V p l s m args meth c cc nL own g A ro) {ci N : Nat} {C : String} {T : u_T} {ty : Nat → FieldType} (ck : gg_ck ci C T N ty) {index : Nat} (k : Nat) {ref nm ds host : String} {a : Nat} {fs fs' : List Value} {v : Value} {tv : FieldType} {M' : List gg_S} (q : Cond.fieldLinkNest own index ref nm ds host ∈ gg_nw) (hT : T k = (ref, nm, ds, false)) (hk : k < N) (hdg : decode cc pc = .ok (.putfield index, 3)) (i : Nat) (hm : M[i]? = some [(a, .inl (ci, fs))]) (hd : parseFieldDescriptor ds = some tv) (hn : narrow tv v = v) (hfit : fits tv v = true) (hl : k < fs.length) (hs : fs.set k v = fs') (hM : M.set i [(a, .inl (ci, fs'))] = M') (K : gg_W p l e R s m args below meth c g A nL Q kc ns M' lv st (pc + 3)) : gg_W p l e R s m args below meth c g A nL Q kc ns M lv (v :: .ref a :: st) pc := by
  intro H locs ls hP hD hS hlv
  have hK := E.2.2.2.2.2.1.1
  have hts := E.2.2.2.2.1
  have hown := E.2.2.2.1
  have hap := va_apart (own := own) hts ck.2.1 ty ck.2.2.1 ck.2.2.2 hK ck.1
  obtain ⟨r, h1, cell, q1, q2, q3, q4⟩ := gg_atm hm hP
  have hr : r = (C, T, N) := Option.some.inj (h1.symm.trans ck.1)
  subst hr
  obtain ⟨hS', hfc, kC, hkC, hkind⟩ := hK.1 ci _ ck.1
  obtain ⟨cf, kf, fi, f, hi, hsl⟩ := hS' k hk
  have hlay := hts _ (ck.2.1 _ (u_in_lay hk))
  unfold u_lay at hlay
  rw [hT] at hlay
  dsimp only at hlay hi
  rw [hT] at hi
  dsimp only at hi
  rw [if_neg (by decide)] at hlay
  have hst := (u_facts hfc hkC (Or.inl hlay) hi).1
  have h6 := u_store hfc hkC hkind hlay hi hd hn hfit
  refine va_WputK E.1 E.2.1 hown (va_Nw.use rfl (E.2.2.2.2.2.1.2.1 _ q)) hi hst (by rw [q2]; exact h6) q1 q3 (by rw [hsl]; exact k2_hasslot (q4 k hk)) rfl rfl hdg fun H' e1 e2 e3 => ?_
  rw [hsl] at e1 ⊢
  obtain ⟨w1, w2, w3⟩ := gg_wrote E hm hM hP hD hS (y := .inl (ci, fs')) ⟨_, ck.1, t_OB.to (V := updV (vp_V fs) k v) ⟨_, e1, q2, q3, t_set q4 hap hk v⟩ (fun j _ => by rw [← hs]; exact vp_updV_set hl v j)⟩ e2 e3
  exact K H' _ ls w1 w2 w3 hlv
/-- behind a call through an interface -/
theorem gg_after5 (E : gg_V p l s m args meth c cc nL own g A ro) {C F : List gg_S} {Post : Option Value → List gg_S → Prop} {PX : String → Nat → List gg_S → Prop} {mc ms : Nat} {rest st0 : List Value} {a : Array Value} (hperm : M.flatten.Perm (C.flatten ++ F.flatten))
    (hrun : ∀ (H : Heap) (locs : List Loc) (ls : Array Slot), gg_P g M.flatten H → gg_D A M.flatten → va_S A s.heap H locs → gg_L ls nL lv → vx_Run5 p l e R s m args below meth c H locs kc ns mc ms (F0 m pc ls st0) rest (gg_Qc g C H.size Post a) (gg_Xc g C H.size PX) (gg_A C.flatten H.size))
    (K : ∀ (v : Option Value) (C1 : List gg_S), Post v C1 → gg_W p l e R s m args below meth c g A nL Q (kc + mc) (ns + ms) (C1 ++ F) lv (v.toList ++ rest) (pc + 5))
    (KX : ∀ (X : String) (q : Nat) (C1 : List gg_S), PX X q C1 → gg_X p l e R s m args below meth c g A nL Q (kc + mc) (ns + ms) (C1 ++ F) lv X q pc) : gg_W p l e R s m args below meth c g A nL Q kc ns M lv st0 pc := by
  intro H locs ls hP hD hS hl T hT X
  have hPp : gg_P g (C.flatten ++ F.flatten) H := hP.of fun q hq => hperm.mem_iff.mpr hq
  have hDp := hD.perm hperm
  obtain ⟨dC, dF, dx⟩ := hDp.apart
  have hA1 : ∀ q, gg_A C.flatten H.size q → A q := by
    rintro q (⟨e, he⟩ | h)
    · exact dC.2 _ he
    · exact E.2.2.2.2.2.2.1 q (Nat.le_trans hS.1 h)
  have key : ∀ {st₀ t T' : State} {L : List Loc} {C1 : List gg_S}, st₀.heap = H → T'.heap = t.heap → (∀ q ∈ L, gg_A C.flatten H.size q.base) → va_F (gg_A C.flatten H.size) st₀ t → gg_P g C1.flatten t.heap → gg_D (gg_A C.flatten H.size) C1.flatten → gg_P g (C1 ++ F).flatten T'.heap ∧ gg_D A (C1 ++ F).flatten ∧ va_S A s.heap T'.heap (locs ++ L) := by
    intro st₀ t T' L C1 h0 e1 hL hF hp1 hd1
    obtain ⟨k1, k2, k3⟩ := vx_keep h0 e1 hS (fun q _ h => hA1 q h) hA1 hL hF
    have hFn : ∀ q ∈ F.flatten, ¬ gg_A C.flatten H.size q.1 := by
      rintro q hq (⟨e, he⟩ | h)
      · exact dx _ he q hq rfl
      · exact absurd (hPp q (List.mem_append_right _ hq)).lt (Nat.not_lt.mpr h)
    rw [List.flatten_append]
    refine ⟨gg_P.app (by rw [e1]; exact hp1) (gg_P.kept (fun q hq => hPp q (List.mem_append_right _ hq)) fun q hq => k2 q.1 (hPp q (List.mem_append_right _ hq)).lt (hFn q hq)), (hd1.weaken fun q hq => hA1 _ (hd1.2 q hq)).app dF ?_, k3⟩
    intro x hx y hy e
    exact hFn y hy (e ▸ hd1.2 x hx)
  rcases hrun H locs ls hP hD hS hl T hT X with ⟨v, st₀, t, T', L, h0, X', hL, e1, e2, ⟨⟨v', C1, hv, hp, hp1, hd1⟩, hF⟩, st⟩ | ⟨q, st₀, t, T', L, E', ce, h0, X', hL, e1, e2, ⟨⟨C1, hp, hp1, hd1⟩, hF⟩, hce, hcv, hcl, st⟩
  · cases hv
    obtain ⟨w1, w2, w3⟩ := key h0 e1 hL hF hp1 hd1
    obtain ⟨t2, a1, b1⟩ := K v C1 hp T'.heap (locs ++ L) ls w1 w2 w3 hl T' rfl X'
    exact ⟨t2, st t2 a1, b1⟩
  · obtain ⟨w1, w2, w3⟩ := key h0 e1 hL hF hp1 hd1
    obtain ⟨t2, a1, b1⟩ := KX E' q C1 hp T'.heap (locs ++ L) ls ce rest w1 w2 w3 hl (by rw [e1]; exact hce) hcv hcl T' rfl X'
    exact ⟨t2, st.trans a1, b1⟩
theorem gg_cwF {C : String} {x y : MethodName} {bytes : ByteArray} {maxL index : Nat} {ret : Option FieldType} {rm : Room} (n : Nat) (E : gg_V p l s m args meth c cc nL own g A ro) (hx : x ∈ gg_ifs) (h3 : Cond.publicMethod y ∈ gg_nw) (h4 : Cond.unhidden C x.name x.desc ∈ gg_nw) (h5 : Cond.castable C x.cls ∈ gg_nw) (hT : GoodIn lw_all (va_wsF own index C x y (ws_ y bytes maxL ret))) (hd : (parseMethodDescriptor x.desc).map (fun d => d.parameters.length) = some n) (hR : rm.frames + 1 ≤ R.frames ∧ 8 + (maxL + 11) + rm.locals ≤ R.locals) : va_CI R s args own C index x y bytes maxL ret (ws_ y bytes maxL ret) rm rm.cells rm.slots n :=
  va_cwF n E.2.2.2.2.1 hT rfl rfl rfl ⟨(E.2.2.2.2.2.1.2.2.2.1 x hx).1, (E.2.2.2.2.2.1.2.2.2.1 x hx).2, E.2.2.2.2.2.1.2.1 _ h3, E.2.2.2.2.2.1.2.1 _ h4, E.2.2.2.2.2.1.2.1 _ h5⟩ ⟨(gg_ifs_ok x hx).1, (gg_ifs_ok x hx).2, hd⟩ hR
theorem gg_callF (E : gg_V p l s m args meth c cc nL own g A ro) {ci N : Nat} {Cn : String} {T : u_T} {ty : Nat → FieldType} (ck : gg_ck ci Cn T N ty) {x y : MethodName} {bytes : ByteArray} {maxL n index count b : Nat} {ret : Option FieldType} {ws : List Cond} {rm : Room} {As rest : List Value} {ro' : gg_S} {C F : List gg_S} {fs : List Value} {Post : Option Value → List gg_S → Prop} {PX : String → Nat → List gg_S → Prop} (hct : gg_C l g y ws rm (.ref b :: As) ro' C Post PX) (cw : va_CI R s args own Cn index x y bytes maxL ret ws rm rm.cells rm.slots n) (hdg : decode cc pc = .ok (.invokeinterface index count, 5))
    (is : List Nat) (hd : is.Nodup) (hC : is.map (fun i => M[i]?) = C.map some) (hF : gg_rest M is = F) (hro : ∀ q ∈ ro', gg_in g F ro q) (hb : gg_in g M ro (b, .inl (ci, fs))) (hn : As.length = n) (hst : st = As.reverse ++ .ref b :: rest) (hw : (rest.map fun v => v.category).sum ≤ 8) (hc : kc + rm.cells ≤ R.cells) (hs : ns + rm.slots ≤ R.slots)
    (K : ∀ (v : Option Value) (C1 : List gg_S), Post v C1 → gg_W p l e R s m args below meth c g A nL Q (kc + rm.cells) (ns + rm.slots) (C1 ++ F) lv (v.toList ++ rest) (pc + 5))
    (KX : ∀ (X : String) (q : Nat) (C1 : List gg_S), PX X q C1 → gg_X p l e R s m args below meth c g A nL Q (kc + rm.cells) (ns + rm.slots) (C1 ++ F) lv X q pc) : gg_W p l e R s m args below meth c g A nL Q kc ns M lv st pc := by
  have hperm := gg_pick is hd hC hF
  subst hst
  refine gg_after5 (a := (Value.ref b :: As).toArray) E hperm (fun H locs ls hP hD hS hl => ?_) K KX
  exact vx_runF (As := As) (rest := rest) (b := b) (E.2.2.2.2.2.1.1.1 ci _ ck.1).2 (gg_fix E) (hct H.size) cw ⟨gg_blind, gg_recv E ck (hb.at E hP hS), fun U hU hW => gg_asks E hperm hro hP hD hS U hU hW⟩ rfl hn hl.1 rfl (lv_room (m := m) (pc := pc) (ls := ls) (rest := As.reverse ++ .ref b :: rest) hw) hdg ⟨hc, hs⟩
end GGmore
section GGnat
variable {p : Program} {l : Launch} {e : Env} {R : Room} {s : State} {m : MethodId} {args : Array Value} {below : List Frame} {meth : Method} {c : Code} {g : gg_G} {A : Nat → Prop} {ro : gg_S} {nL : Nat} {Q : State → Prop} {kc ns : Nat} {M : List gg_S} {lv : List (Option Value)} {st : List Value} {pc : Nat} {cc : ByteArray} {own : String}
/-! ints that are naturals: x = nI a by rfl; the rows keep the form nI -/
theorem gg_iaddN (E : gg_V p l s m args meth c cc nL own g A ro) {x y : Int32} (a b : Nat) (hx : x = nI a) (hy : y = nI b) (hdg : decode cc pc = .ok (.iadd, 1)) (K : gg_W p l e R s m args below meth c g A nL Q kc ns M lv (.int (nI (a + b)) :: st) (pc + 1)) : gg_W p l e R s m args below meth c g A nL Q kc ns M lv (.int y :: .int x :: st) pc := by
  subst hx; subst hy
  exact gg_iadd E hdg (by rw [nI_add]; exact K)
theorem gg_imulN (E : gg_V p l s m args meth c cc nL own g A ro) {x y : Int32} (a b : Nat) (hx : x = nI a) (hy : y = nI b) (hdg : decode cc pc = .ok (.imul, 1)) (K : gg_W p l e R s m args below meth c g A nL Q kc ns M lv (.int (nI (a * b)) :: st) (pc + 1)) : gg_W p l e R s m args below meth c g A nL Q kc ns M lv (.int y :: .int x :: st) pc := by
  subst hx; subst hy
  exact gg_imul E hdg (by rw [pk_mul]; exact K)
theorem gg_isubN (E : gg_V p l s m args meth c cc nL own g A ro) {x y : Int32} (a b : Nat) (hx : x = nI a) (hy : y = nI b) (hab : b ≤ a) (hdg : decode cc pc = .ok (.isub, 1)) (K : gg_W p l e R s m args below meth c g A nL Q kc ns M lv (.int (nI (a - b)) :: st) (pc + 1)) : gg_W p l e R s m args below meth c g A nL Q kc ns M lv (.int y :: .int x :: st) pc := by
  subst hx; subst hy
  exact gg_isub E hdg (by rw [pk_sub hab]; exact K)
theorem gg_idivN (E : gg_V p l s m args meth c cc nL own g A ro) {x y : Int32} (a b : Nat) (hx : x = nI a) (hy : y = nI b) (ha : a < 2 ^ 31) (h0 : 0 < b) (hb : b < 2 ^ 31) (hdg : decode cc pc = .ok (.idiv, 1)) (K : gg_W p l e R s m args below meth c g A nL Q kc ns M lv (.int (nI (a / b)) :: st) (pc + 1)) : gg_W p l e R s m args below meth c g A nL Q kc ns M lv (.int y :: .int x :: st) pc := by
  subst hx; subst hy
  exact gg_idiv E hdg (nI_ne0 h0 hb) (by rw [pk_div ha h0 hb]; exact K)
theorem gg_iremN (E : gg_V p l s m args meth c cc nL own g A ro) {x y : Int32} (a b : Nat) (hx : x = nI a) (hy : y = nI b) (ha : a < 2 ^ 31) (h0 : 0 < b) (hb : b < 2 ^ 31) (hdg : decode cc pc = .ok (.irem, 1)) (K : gg_W p l e R s m args below meth c g A nL Q kc ns M lv (.int (nI (a % b)) :: st) (pc + 1)) : gg_W p l e R s m args below meth c g A nL Q kc ns M lv (.int y :: .int x :: st) pc := by
  subst hx; subst hy
  exact gg_irem E hdg (nI_ne0 h0 hb) (by rw [pk_rem ha h0 hb]; exact K)
theorem gg_iincN (E : gg_V p l s m args meth c cc nL own g A ro) {i k : Nat} {n : Int} {x : Int32} (a : Nat) {lv' : List (Option Value)} (hdg : decode cc pc = .ok (.iinc i n, 3)) (hk : lv[i]? = some (some (.int x))) (hx : x = nI a) (hv : Int32.ofInt n = nI k) (hn : i < nL) (hf : gg_free lv i = true) (hs : lv.set i (some (Value.int (nI (a + k)))) = lv') (K : gg_W p l e R s m args below meth c g A nL Q kc ns M lv' st (pc + 3)) : gg_W p l e R s m args below meth c g A nL Q kc ns M lv st pc := by
  subst hx
  exact gg_iinc E hdg hk (by rw [hv, nI_add]) hn hf hs K
theorem gg_decN (E : gg_V p l s m args meth c cc nL own g A ro) {i : Nat} {x : Int32} (a : Nat) {lv' : List (Option Value)} (hdg : decode cc pc = .ok (.iinc i (-1), 3)) (hk : lv[i]? = some (some (.int x))) (hx : x = nI a) (h1 : 1 ≤ a) (hn : i < nL) (hf : gg_free lv i = true) (hs : lv.set i (some (Value.int (nI (a - 1)))) = lv') (K : gg_W p l e R s m args below meth c g A nL Q kc ns M lv' st (pc + 3)) : gg_W p l e R s m args below meth c g A nL Q kc ns M lv st pc := by
  subst hx
  refine gg_iinc E hdg hk ?_ hn hf hs K
  obtain ⟨b, rfl⟩ : ∃ b, a = b + 1 := ⟨a - 1, by omega⟩
  exact pk_m1 b
theorem gg_ialdN (E : gg_V p l s m args meth c cc nL own g A ro) {a N : Nat} {f : Nat → Int32} {i : Int32} (j : Nat) (hi : i = nI j) (hj : j < N) (hN : N < 2 ^ 31) (hdg : decode cc pc = .ok (.iaload, 1)) (hm : gg_in g M ro (a, gg_ai g N f)) (K : gg_W p l e R s m args below meth c g A nL Q kc ns M lv (.int (f j) :: st) (pc + 1)) : gg_W p l e R s m args below meth c g A nL Q kc ns M lv (.int i :: .ref a :: st) pc := by
  subst hi
  exact gg_iald E hdg hm (vp_in_nI hj hN) (by rw [nI_clamp (by omega)]; exact K)
theorem gg_baldN (E : gg_V p l s m args meth c cc nL own g A ro) {a N : Nat} {f : Nat → Int32} {i : Int32} (j : Nat) (hi : i = nI j) (hj : j < N) (hN : N < 2 ^ 31) (hdg : decode cc pc = .ok (.baload, 1)) (hm : gg_in g M ro (a, gg_ab g N f)) (K : gg_W p l e R s m args below meth c g A nL Q kc ns M lv (.int (f j) :: st) (pc + 1)) : gg_W p l e R s m args below meth c g A nL Q kc ns M lv (.int i :: .ref a :: st) pc := by
  subst hi
  exact gg_bald E hdg hm (vp_in_nI hj hN) (by rw [nI_clamp (by omega)]; exact K)
theorem gg_zaldN (E : gg_V p l s m args meth c cc nL own g A ro) {a N : Nat} {f : Nat → Int32} {i : Int32} (j : Nat) (hi : i = nI j) (hj : j < N) (hN : N < 2 ^ 31) (hdg : decode cc pc = .ok (.baload, 1)) (hm : gg_in g M ro (a, gg_az g N f)) (K : gg_W p l e R s m args below meth c g A nL Q kc ns M lv (.int (f j) :: st) (pc + 1)) : gg_W p l e R s m args below meth c g A nL Q kc ns M lv (.int i :: .ref a :: st) pc := by
  subst hi
  exact gg_zald E hdg hm (vp_in_nI hj hN) (by rw [nI_clamp (by omega)]; exact K)
theorem gg_laldN (E : gg_V p l s m args meth c cc nL own g A ro) {a N : Nat} {f : Nat → Int64} {i : Int32} (j : Nat) (hi : i = nI j) (hj : j < N) (hN : N < 2 ^ 31) (hdg : decode cc pc = .ok (.laload, 1)) (hm : gg_in g M ro (a, gg_al g N f)) (K : gg_W p l e R s m args below meth c g A nL Q kc ns M lv (.long (f j) :: st) (pc + 1)) : gg_W p l e R s m args below meth c g A nL Q kc ns M lv (.int i :: .ref a :: st) pc := by
  subst hi
  exact gg_lald E hdg hm (vp_in_nI hj hN) (by rw [nI_clamp (by omega)]; exact K)
theorem gg_aaldN (E : gg_V p l s m args meth c cc nL own g A ro) (t : Nat) {C : String} (ht : (gg_tys g.2.1)[t]? = some (g.2.1 t, .object C)) {a N : Nat} {f : Nat → Option Nat} {i : Int32} (j : Nat) (hi : i = nI j) (hj : j < N) (hN : N < 2 ^ 31) (hdg : decode cc pc = .ok (.aaload, 1)) (hm : gg_in g M ro (a, gg_ao g t N f)) (K : gg_W p l e R s m args below meth c g A nL Q kc ns M lv (va_rf (f j) :: st) (pc + 1)) : gg_W p l e R s m args below meth c g A nL Q kc ns M lv (.int i :: .ref a :: st) pc := by
  subst hi
  exact gg_aald E t ht hdg hm (vp_in_nI hj hN) (by rw [nI_clamp (by omega)]; exact K)
theorem gg_iastN (E : gg_V p l s m args meth c cc nL own g A ro) {a N : Nat} {f : Nat → Int32} {i x : Int32} {M' : List gg_S} (j : Nat) (hi : i = nI j) (hj : j < N) (hN : N < 2 ^ 31) (hdg : decode cc pc = .ok (.iastore, 1)) (k : Nat) (hm : M[k]? = some [(a, gg_ai g N f)]) (hM : M.set k [(a, gg_ai g N (upd f j x))] = M') (K : gg_W p l e R s m args below meth c g A nL Q kc ns M' lv st (pc + 1)) : gg_W p l e R s m args below meth c g A nL Q kc ns M lv (.int x :: .int i :: .ref a :: st) pc := by
  subst hi
  exact gg_iast E hdg k hm (vp_in_nI hj hN) (by rw [nI_clamp (by omega)]; exact hM) K
theorem gg_bastN (E : gg_V p l s m args meth c cc nL own g A ro) {a N : Nat} {f : Nat → Int32} {i x : Int32} {M' : List gg_S} (j : Nat) (hi : i = nI j) (hj : j < N) (hN : N < 2 ^ 31) (hdg : decode cc pc = .ok (.bastore, 1)) (k : Nat) (hm : M[k]? = some [(a, gg_ab g N f)]) (hM : M.set k [(a, gg_ab g N (upd f j x.toInt8.toInt32))] = M') (K : gg_W p l e R s m args below meth c g A nL Q kc ns M' lv st (pc + 1)) : gg_W p l e R s m args below meth c g A nL Q kc ns M lv (.int x :: .int i :: .ref a :: st) pc := by
  subst hi
  exact gg_bast E hdg k hm (vp_in_nI hj hN) (by rw [nI_clamp (by omega)]; exact hM) K
theorem gg_zastN (E : gg_V p l s m args meth c cc nL own g A ro) {a N : Nat} {f : Nat → Int32} {i x : Int32} {M' : List gg_S} (j : Nat) (hi : i = nI j) (hj : j < N) (hN : N < 2 ^ 31) (hdg : decode cc pc = .ok (.bastore, 1)) (k : Nat) (hm : M[k]? = some [(a, gg_az g N f)]) (hM : M.set k [(a, gg_az g N (upd f j (x &&& 1)))] = M') (K : gg_W p l e R s m args below meth c g A nL Q kc ns M' lv st (pc + 1)) : gg_W p l e R s m args below meth c g A nL Q kc ns M lv (.int x :: .int i :: .ref a :: st) pc := by
  subst hi
  exact gg_zast E hdg k hm (vp_in_nI hj hN) (by rw [nI_clamp (by omega)]; exact hM) K
theorem gg_lastN (E : gg_V p l s m args meth c cc nL own g A ro) {a N : Nat} {f : Nat → Int64} {i : Int32} {x : Int64} {M' : List gg_S} (j : Nat) (hi : i = nI j) (hj : j < N) (hN : N < 2 ^ 31) (hdg : decode cc pc = .ok (.lastore, 1)) (k : Nat) (hm : M[k]? = some [(a, gg_al g N f)]) (hM : M.set k [(a, gg_al g N (vp_updL f j x))] = M') (K : gg_W p l e R s m args below meth c g A nL Q kc ns M' lv st (pc + 1)) : gg_W p l e R s m args below meth c g A nL Q kc ns M lv (.long x :: .int i :: .ref a :: st) pc := by
  subst hi
  exact gg_last E hdg k hm (vp_in_nI hj hN) (by rw [nI_clamp (by omega)]; exact hM) K
theorem gg_aastRN (E : gg_V p l s m args meth c cc nL own g A ro) (t : Nat) {C : String} (ht : (gg_tys g.2.1)[t]? = some (g.2.1 t, .object C)) {a N b : Nat} {f : Nat → Option Nat} {i : Int32} {M' : List gg_S} (j : Nat) (hi : i = nI j) (hj : j < N) (hN : N < 2 ^ 31) (hdg : decode cc pc = .ok (.aastore, 1)) (k : Nat) (hm : M[k]? = some [(a, gg_ao g t N f)]) (hv : ∀ (H : Heap) (locs : List Loc), gg_P g M.flatten H → va_S A s.heap H locs → gg_isa s C H b) (hM : M.set k [(a, gg_ao g t N (va_up f j (some b)))] = M') (K : gg_W p l e R s m args below meth c g A nL Q kc ns M' lv st (pc + 1)) : gg_W p l e R s m args below meth c g A nL Q kc ns M lv (.ref b :: .int i :: .ref a :: st) pc := by
  subst hi
  exact gg_aast E t ht hdg k hm (vp_in_nI hj hN) hv (by rw [nI_clamp (by omega)]; exact hM) K
theorem gg_aastNN (E : gg_V p l s m args meth c cc nL own g A ro) (t : Nat) {C : String} (ht : (gg_tys g.2.1)[t]? = some (g.2.1 t, .object C)) {a N : Nat} {f : Nat → Option Nat} {i : Int32} {M' : List gg_S} (j : Nat) (hi : i = nI j) (hj : j < N) (hN : N < 2 ^ 31) (hdg : decode cc pc = .ok (.aastore, 1)) (k : Nat) (hm : M[k]? = some [(a, gg_ao g t N f)]) (hM : M.set k [(a, gg_ao g t N (va_up f j none))] = M') (K : gg_W p l e R s m args below meth c g A nL Q kc ns M' lv st (pc + 1)) : gg_W p l e R s m args below meth c g A nL Q kc ns M lv (.null :: .int i :: .ref a :: st) pc := by
  subst hi
  exact gg_aastN E t ht hdg k hm (vp_in_nI hj hN) (by rw [nI_clamp (by omega)]; exact hM) K
theorem gg_icmpN_eq (E : gg_V p l s m args meth c cc nL own g A ro) {x y : Int32} (a b : Nat) (hx : x = nI a) (hy : y = nI b) (ha : a < 2 ^ 31) (hb : b < 2 ^ 31) {off : Int} {tgt : Nat} (hdg : decode cc pc = .ok (.if_icmp .eq off, 3)) (ht : (pc : Int) + off = (tgt : Int)) (kt : a = b → gg_W p l e R s m args below meth c g A nL Q kc ns M lv st tgt) (kf : ¬ a = b → gg_W p l e R s m args below meth c g A nL Q kc ns M lv st (pc + 3)) : gg_W p l e R s m args below meth c g A nL Q kc ns M lv (.int y :: .int x :: st) pc := by
  subst hx; subst hy
  have h := nI_eq ha hb
  exact gg_icmp_eq E hdg ht (fun z => kt (by first | exact h.mp z | exact fun w => z (h.mpr w))) (fun z => kf (by first | exact h.mp z | exact fun w => z (h.mpr w) | exact Nat.lt_of_not_le (fun w => z (h.mpr w)) | exact Nat.le_of_not_lt (fun w => z (h.mpr w))))
theorem gg_icmpN_ne (E : gg_V p l s m args meth c cc nL own g A ro) {x y : Int32} (a b : Nat) (hx : x = nI a) (hy : y = nI b) (ha : a < 2 ^ 31) (hb : b < 2 ^ 31) {off : Int} {tgt : Nat} (hdg : decode cc pc = .ok (.if_icmp .ne off, 3)) (ht : (pc : Int) + off = (tgt : Int)) (kt : ¬ a = b → gg_W p l e R s m args below meth c g A nL Q kc ns M lv st tgt) (kf : a = b → gg_W p l e R s m args below meth c g A nL Q kc ns M lv st (pc + 3)) : gg_W p l e R s m args below meth c g A nL Q kc ns M lv (.int y :: .int x :: st) pc := by
  subst hx; subst hy
  have h := nI_eq ha hb
  exact gg_icmp_ne E hdg ht (fun z => kt (by first | exact h.mp z | exact fun w => z (h.mpr w))) (fun z => kf (by first | exact h.mp z | exact fun w => z (h.mpr w) | exact Nat.lt_of_not_le (fun w => z (h.mpr w)) | exact Nat.le_of_not_lt (fun w => z (h.mpr w))))
theorem gg_icmpN_lt (E : gg_V p l s m args meth c cc nL own g A ro) {x y : Int32} (a b : Nat) (hx : x = nI a) (hy : y = nI b) (ha : a < 2 ^ 31) (hb : b < 2 ^ 31) {off : Int} {tgt : Nat} (hdg : decode cc pc = .ok (.if_icmp .lt off, 3)) (ht : (pc : Int) + off = (tgt : Int)) (kt : a < b → gg_W p l e R s m args below meth c g A nL Q kc ns M lv st tgt) (kf : b ≤ a → gg_W p l e R s m args below meth c g A nL Q kc ns M lv st (pc + 3)) : gg_W p l e R s m args below meth c g A nL Q kc ns M lv (.int y :: .int x :: st) pc := by
  subst hx; subst hy
  have h := nI_ltI ha hb
  exact gg_icmp_lt E hdg ht (fun z => kt (by first | exact h.mp z | exact fun w => z (h.mpr w))) (fun z => kf (by first | exact h.mp z | exact fun w => z (h.mpr w) | exact Nat.lt_of_not_le (fun w => z (h.mpr w)) | exact Nat.le_of_not_lt (fun w => z (h.mpr w))))
theorem gg_icmpN_ge (E : gg_V p l s m args meth c cc nL own g A ro) {x y : Int32} (a b : Nat) (hx : x = nI a) (hy : y = nI b) (ha : a < 2 ^ 31) (hb : b < 2 ^ 31) {off : Int} {tgt : Nat} (hdg : decode cc pc = .ok (.if_icmp .ge off, 3)) (ht : (pc : Int) + off = (tgt : Int)) (kt : b ≤ a → gg_W p l e R s m args below meth c g A nL Q kc ns M lv st tgt) (kf : a < b → gg_W p l e R s m args below meth c g A nL Q kc ns M lv st (pc + 3)) : gg_W p l e R s m args below meth c g A nL Q kc ns M lv (.int y :: .int x :: st) pc := by
  subst hx; subst hy
  have h := nI_leI hb ha
  exact gg_icmp_ge E hdg ht (fun z => kt (by first | exact h.mp z | exact fun w => z (h.mpr w))) (fun z => kf (by first | exact h.mp z | exact fun w => z (h.mpr w) | exact Nat.lt_of_not_le (fun w => z (h.mpr w)) | exact Nat.le_of_not_lt (fun w => z (h.mpr w))))
theorem gg_icmpN_gt (E : gg_V p l s m args meth c cc nL own g A ro) {x y : Int32} (a b : Nat) (hx : x = nI a) (hy : y = nI b) (ha : a < 2 ^ 31) (hb : b < 2 ^ 31) {off : Int} {tgt : Nat} (hdg : decode cc pc = .ok (.if_icmp .gt off, 3)) (ht : (pc : Int) + off = (tgt : Int)) (kt : b < a → gg_W p l e R s m args below meth c g A nL Q kc ns M lv st tgt) (kf : a ≤ b → gg_W p l e R s m args below meth c g A nL Q kc ns M lv st (pc + 3)) : gg_W p l e R s m args below meth c g A nL Q kc ns M lv (.int y :: .int x :: st) pc := by
  subst hx; subst hy
  have h := nI_ltI hb ha
  exact gg_icmp_gt E hdg ht (fun z => kt (by first | exact h.mp z | exact fun w => z (h.mpr w))) (fun z => kf (by first | exact h.mp z | exact fun w => z (h.mpr w) | exact Nat.lt_of_not_le (fun w => z (h.mpr w)) | exact Nat.le_of_not_lt (fun w => z (h.mpr w))))
theorem gg_icmpN_le (E : gg_V p l s m args meth c cc nL own g A ro) {x y : Int32} (a b : Nat) (hx : x = nI a) (hy : y = nI b) (ha : a < 2 ^ 31) (hb : b < 2 ^ 31) {off : Int} {tgt : Nat} (hdg : decode cc pc = .ok (.if_icmp .le off, 3)) (ht : (pc : Int) + off = (tgt : Int)) (kt : a ≤ b → gg_W p l e R s m args below meth c g A nL Q kc ns M lv st tgt) (kf : b < a → gg_W p l e R s m args below meth c g A nL Q kc ns M lv st (pc + 3)) : gg_W p l e R s m args below meth c g A nL Q kc ns M lv (.int y :: .int x :: st) pc := by
  subst hx; subst hy
  have h := nI_leI ha hb
  exact gg_icmp_le E hdg ht (fun z => kt (by first | exact h.mp z | exact fun w => z (h.mpr w))) (fun z => kf (by first | exact h.mp z | exact fun w => z (h.mpr w) | exact Nat.lt_of_not_le (fun w => z (h.mpr w)) | exact Nat.le_of_not_lt (fun w => z (h.mpr w))))
theorem gg_ifN_eq (E : gg_V p l s m args meth c cc nL own g A ro) {x : Int32} (a : Nat) (hx : x = nI a) (ha : a < 2 ^ 31) {off : Int} {tgt : Nat} (hdg : decode cc pc = .ok (.ifCond .eq off, 3)) (ht : (pc : Int) + off = (tgt : Int)) (kt : a = 0 → gg_W p l e R s m args below meth c g A nL Q kc ns M lv st tgt) (kf : ¬ a = 0 → gg_W p l e R s m args below meth c g A nL Q kc ns M lv st (pc + 3)) : gg_W p l e R s m args below meth c g A nL Q kc ns M lv (.int x :: st) pc := by
  subst hx
  have e : nI a = 0 ↔ a = 0 := nI_eq (b := 0) ha (by decide)
  have h1 : 0 < nI a ↔ 0 < a := nI_ltI (a := 0) (by decide) ha
  have h2 : nI a ≤ 0 ↔ a ≤ 0 := nI_leI (b := 0) ha (by decide)
  have h3 : nI a < 0 ↔ a < 0 := nI_ltI (b := 0) ha (by decide)
  have h4 : 0 ≤ nI a ↔ 0 ≤ a := nI_leI (a := 0) (by decide) ha
  exact gg_if_eq E hdg ht (fun z => kt (by first | exact trivial | exact e.mp z | (rw [e] at z; exact z) | (rw [h1] at z; omega) | (rw [h2] at z; omega) | (rw [h3] at z; omega) | (rw [h4] at z; omega))) (fun z => kf (by first | exact trivial | exact e.mp z | (rw [e] at z; exact z) | (rw [h1] at z; omega) | (rw [h2] at z; omega) | (rw [h3] at z; omega) | (rw [h4] at z; omega)))
theorem gg_ifN_ne (E : gg_V p l s m args meth c cc nL own g A ro) {x : Int32} (a : Nat) (hx : x = nI a) (ha : a < 2 ^ 31) {off : Int} {tgt : Nat} (hdg : decode cc pc = .ok (.ifCond .ne off, 3)) (ht : (pc : Int) + off = (tgt : Int)) (kt : ¬ a = 0 → gg_W p l e R s m args below meth c g A nL Q kc ns M lv st tgt) (kf : a = 0 → gg_W p l e R s m args below meth c g A nL Q kc ns M lv st (pc + 3)) : gg_W p l e R s m args below meth c g A nL Q kc ns M lv (.int x :: st) pc := by
  subst hx
  have e : nI a = 0 ↔ a = 0 := nI_eq (b := 0) ha (by decide)
  have h1 : 0 < nI a ↔ 0 < a := nI_ltI (a := 0) (by decide) ha
  have h2 : nI a ≤ 0 ↔ a ≤ 0 := nI_leI (b := 0) ha (by decide)
  have h3 : nI a < 0 ↔ a < 0 := nI_ltI (b := 0) ha (by decide)
  have h4 : 0 ≤ nI a ↔ 0 ≤ a := nI_leI (a := 0) (by decide) ha
  exact gg_if_ne E hdg ht (fun z => kt (by first | exact trivial | exact e.mp z | (rw [e] at z; exact z) | (rw [h1] at z; omega) | (rw [h2] at z; omega) | (rw [h3] at z; omega) | (rw [h4] at z; omega))) (fun z => kf (by first | exact trivial | exact e.mp z | (rw [e] at z; exact z) | (rw [h1] at z; omega) | (rw [h2] at z; omega) | (rw [h3] at z; omega) | (rw [h4] at z; omega)))
theorem gg_ifN_lt (E : gg_V p l s m args meth c cc nL own g A ro) {x : Int32} (a : Nat) (hx : x = nI a) (ha : a < 2 ^ 31) {off : Int} {tgt : Nat} (hdg : decode cc pc = .ok (.ifCond .lt off, 3)) (ht : (pc : Int) + off = (tgt : Int)) (kt : False → gg_W p l e R s m args below meth c g A nL Q kc ns M lv st tgt) (kf : True → gg_W p l e R s m args below meth c g A nL Q kc ns M lv st (pc + 3)) : gg_W p l e R s m args below meth c g A nL Q kc ns M lv (.int x :: st) pc := by
  subst hx
  have e : nI a = 0 ↔ a = 0 := nI_eq (b := 0) ha (by decide)
  have h1 : 0 < nI a ↔ 0 < a := nI_ltI (a := 0) (by decide) ha
  have h2 : nI a ≤ 0 ↔ a ≤ 0 := nI_leI (b := 0) ha (by decide)
  have h3 : nI a < 0 ↔ a < 0 := nI_ltI (b := 0) ha (by decide)
  have h4 : 0 ≤ nI a ↔ 0 ≤ a := nI_leI (a := 0) (by decide) ha
  exact gg_if_lt E hdg ht (fun z => kt (by first | exact trivial | exact e.mp z | (rw [e] at z; exact z) | (rw [h1] at z; omega) | (rw [h2] at z; omega) | (rw [h3] at z; omega) | (rw [h4] at z; omega))) (fun z => kf (by first | exact trivial | exact e.mp z | (rw [e] at z; exact z) | (rw [h1] at z; omega) | (rw [h2] at z; omega) | (rw [h3] at z; omega) | (rw [h4] at z; omega)))
theorem gg_ifN_ge (E : gg_V p l s m args meth c cc nL own g A ro) {x : Int32} (a : Nat) (hx : x = nI a) (ha : a < 2 ^ 31) {off : Int} {tgt : Nat} (hdg : decode cc pc = .ok (.ifCond .ge off, 3)) (ht : (pc : Int) + off = (tgt : Int)) (kt : True → gg_W p l e R s m args below meth c g A nL Q kc ns M lv st tgt) (kf : False → gg_W p l e R s m args below meth c g A nL Q kc ns M lv st (pc + 3)) : gg_W p l e R s m args below meth c g A nL Q kc ns M lv (.int x :: st) pc := by
  subst hx
  have e : nI a = 0 ↔ a = 0 := nI_eq (b := 0) ha (by decide)
  have h1 : 0 < nI a ↔ 0 < a := nI_ltI (a := 0) (by decide) ha
  have h2 : nI a ≤ 0 ↔ a ≤ 0 := nI_leI (b := 0) ha (by decide)
  have h3 : nI a < 0 ↔ a < 0 := nI_ltI (b := 0) ha (by decide)
  have h4 : 0 ≤ nI a ↔ 0 ≤ a := nI_leI (a := 0) (by decide) ha
  exact gg_if_ge E hdg ht (fun z => kt (by first | exact trivial | exact e.mp z | (rw [e] at z; exact z) | (rw [h1] at z; omega) | (rw [h2] at z; omega) | (rw [h3] at z; omega) | (rw [h4] at z; omega))) (fun z => kf (by first | exact trivial | exact e.mp z | (rw [e] at z; exact z) | (rw [h1] at z; omega) | (rw [h2] at z; omega) | (rw [h3] at z; omega) | (rw [h4] at z; omega)))
theorem gg_ifN_gt (E : gg_V p l s m args meth c cc nL own g A ro) {x : Int32} (a : Nat) (hx : x = nI a) (ha : a < 2 ^ 31) {off : Int} {tgt : Nat} (hdg : decode cc pc = .ok (.ifCond .gt off, 3)) (ht : (pc : Int) + off = (tgt : Int)) (kt : 0 < a → gg_W p l e R s m args below meth c g A nL Q kc ns M lv st tgt) (kf : a = 0 → gg_W p l e R s m args below meth c g A nL Q kc ns M lv st (pc + 3)) : gg_W p l e R s m args below meth c g A nL Q kc ns M lv (.int x :: st) pc := by
  subst hx
  have e : nI a = 0 ↔ a = 0 := nI_eq (b := 0) ha (by decide)
  have h1 : 0 < nI a ↔ 0 < a := nI_ltI (a := 0) (by decide) ha
  have h2 : nI a ≤ 0 ↔ a ≤ 0 := nI_leI (b := 0) ha (by decide)
  have h3 : nI a < 0 ↔ a < 0 := nI_ltI (b := 0) ha (by decide)
  have h4 : 0 ≤ nI a ↔ 0 ≤ a := nI_leI (a := 0) (by decide) ha
  exact gg_if_gt E hdg ht (fun z => kt (by first | exact trivial | exact e.mp z | (rw [e] at z; exact z) | (rw [h1] at z; omega) | (rw [h2] at z; omega) | (rw [h3] at z; omega) | (rw [h4] at z; omega))) (fun z => kf (by first | exact trivial | exact e.mp z | (rw [e] at z; exact z) | (rw [h1] at z; omega) | (rw [h2] at z; omega) | (rw [h3] at z; omega) | (rw [h4] at z; omega)))
theorem gg_ifN_le (E : gg_V p l s m args meth c cc nL own g A ro) {x : Int32} (a : Nat) (hx : x = nI a) (ha : a < 2 ^ 31) {off : Int} {tgt : Nat} (hdg : decode cc pc = .ok (.ifCond .le off, 3)) (ht : (pc : Int) + off = (tgt : Int)) (kt : a = 0 → gg_W p l e R s m args below meth c g A nL Q kc ns M lv st tgt) (kf : 0 < a → gg_W p l e R s m args below meth c g A nL Q kc ns M lv st (pc + 3)) : gg_W p l e R s m args below meth c g A nL Q kc ns M lv (.int x :: st) pc := by
  subst hx
  have e : nI a = 0 ↔ a = 0 := nI_eq (b := 0) ha (by decide)
  have h1 : 0 < nI a ↔ 0 < a := nI_ltI (a := 0) (by decide) ha
  have h2 : nI a ≤ 0 ↔ a ≤ 0 := nI_leI (b := 0) ha (by decide)
  have h3 : nI a < 0 ↔ a < 0 := nI_ltI (b := 0) ha (by decide)
  have h4 : 0 ≤ nI a ↔ 0 ≤ a := nI_leI (a := 0) (by decide) ha
  exact gg_if_le E hdg ht (fun z => kt (by first | exact trivial | exact e.mp z | (rw [e] at z; exact z) | (rw [h1] at z; omega) | (rw [h2] at z; omega) | (rw [h3] at z; omega) | (rw [h4] at z; omega))) (fun z => kf (by first | exact trivial | exact e.mp z | (rw [e] at z; exact z) | (rw [h1] at z; omega) | (rw [h2] at z; omega) | (rw [h3] at z; omega) | (rw [h4] at z; omega)))
end GGnat
section GGbool
variable {p : Program} {l : Launch} {e : Env} {R : Room} {s : State} {m : MethodId} {args : Array Value} {below : List Frame} {meth : Method} {c : Code} {g : gg_G} {A : Nat → Prop} {ro : gg_S} {nL : Nat} {Q : State → Prop} {kc ns : Nat} {M : List gg_S} {lv : List (Option Value)} {st : List Value} {pc : Nat} {cc : ByteArray} {own : String}
/-- the state by equals -/
theorem gg_conv {M' : List gg_S} {lv' : List (Option Value)} {st' : List Value} (hM : M = M') (hl : lv = lv') (hs : st = st') (K : gg_W p l e R s m args below meth c g A nL Q kc ns M' lv' st' pc) : gg_W p l e R s m args below meth c g A nL Q kc ns M lv st pc := by
  subst hM; subst hl; subst hs
  exact K
/-! a comparison that becomes a boolean: if..; iconst_1; goto; iconst_0 -/
theorem gg_icmpB_eq (E : gg_V p l s m args meth c cc nL own g A ro) {x y : Int32} (h1 : decode cc pc = .ok (.if_icmp .eq 7, 3)) (h2 : decode cc (pc + 3) = .ok (.iconst 1, 1)) (h3 : decode cc (pc + 4) = .ok (.goto 4, 3)) (h4 : decode cc (pc + 7) = .ok (.iconst 0, 1)) (K : gg_W p l e R s m args below meth c g A nL Q kc ns M lv (.int (if ¬ x = y then 1 else 0) :: st) (pc + 8)) : gg_W p l e R s m args below meth c g A nL Q kc ns M lv (.int y :: .int x :: st) pc := by
  refine gg_icmp_eq (tgt := pc + 7) E h1 (by omega) (fun z => ?_) (fun z => ?_)
  · refine gg_iconst (v := 0) E h4 (by decide) ?_
    rw [if_neg (by first | exact z | exact fun w => w z)] at K
    exact K
  · refine gg_iconst (v := 1) E h2 (by decide) ?_
    refine gg_goto (tgt := pc + 8) E h3 (by omega) ?_
    rw [if_pos (by first | exact z)] at K
    exact K
theorem gg_icmpB_ne (E : gg_V p l s m args meth c cc nL own g A ro) {x y : Int32} (h1 : decode cc pc = .ok (.if_icmp .ne 7, 3)) (h2 : decode cc (pc + 3) = .ok (.iconst 1, 1)) (h3 : decode cc (pc + 4) = .ok (.goto 4, 3)) (h4 : decode cc (pc + 7) = .ok (.iconst 0, 1)) (K : gg_W p l e R s m args below meth c g A nL Q kc ns M lv (.int (if x = y then 1 else 0) :: st) (pc + 8)) : gg_W p l e R s m args below meth c g A nL Q kc ns M lv (.int y :: .int x :: st) pc := by
  refine gg_icmp_ne (tgt := pc + 7) E h1 (by omega) (fun z => ?_) (fun z => ?_)
  · refine gg_iconst (v := 0) E h4 (by decide) ?_
    rw [if_neg (by first | exact z | exact fun w => w z)] at K
    exact K
  · refine gg_iconst (v := 1) E h2 (by decide) ?_
    refine gg_goto (tgt := pc + 8) E h3 (by omega) ?_
    rw [if_pos (by first | exact z)] at K
    exact K
theorem gg_icmpB_lt (E : gg_V p l s m args meth c cc nL own g A ro) {x y : Int32} (h1 : decode cc pc = .ok (.if_icmp .lt 7, 3)) (h2 : decode cc (pc + 3) = .ok (.iconst 1, 1)) (h3 : decode cc (pc + 4) = .ok (.goto 4, 3)) (h4 : decode cc (pc + 7) = .ok (.iconst 0, 1)) (K : gg_W p l e R s m args below meth c g A nL Q kc ns M lv (.int (if ¬ x < y then 1 else 0) :: st) (pc + 8)) : gg_W p l e R s m args below meth c g A nL Q kc ns M lv (.int y :: .int x :: st) pc := by
  refine gg_icmp_lt (tgt := pc + 7) E h1 (by omega) (fun z => ?_) (fun z => ?_)
  · refine gg_iconst (v := 0) E h4 (by decide) ?_
    rw [if_neg (by first | exact z | exact fun w => w z)] at K
    exact K
  · refine gg_iconst (v := 1) E h2 (by decide) ?_
    refine gg_goto (tgt := pc + 8) E h3 (by omega) ?_
    rw [if_pos (by first | exact z)] at K
    exact K
theorem gg_icmpB_ge (E : gg_V p l s m args meth c cc nL own g A ro) {x y : Int32} (h1 : decode cc pc = .ok (.if_icmp .ge 7, 3)) (h2 : decode cc (pc + 3) = .ok (.iconst 1, 1)) (h3 : decode cc (pc + 4) = .ok (.goto 4, 3)) (h4 : decode cc (pc + 7) = .ok (.iconst 0, 1)) (K : gg_W p l e R s m args below meth c g A nL Q kc ns M lv (.int (if ¬ y ≤ x then 1 else 0) :: st) (pc + 8)) : gg_W p l e R s m args below meth c g A nL Q kc ns M lv (.int y :: .int x :: st) pc := by
  refine gg_icmp_ge (tgt := pc + 7) E h1 (by omega) (fun z => ?_) (fun z => ?_)
  · refine gg_iconst (v := 0) E h4 (by decide) ?_
    rw [if_neg (by first | exact z | exact fun w => w z)] at K
    exact K
  · refine gg_iconst (v := 1) E h2 (by decide) ?_
    refine gg_goto (tgt := pc + 8) E h3 (by omega) ?_
    rw [if_pos (by first | exact z)] at K
    exact K
theorem gg_icmpB_gt (E : gg_V p l s m args meth c cc nL own g A ro) {x y : Int32} (h1 : decode cc pc = .ok (.if_icmp .gt 7, 3)) (h2 : decode cc (pc + 3) = .ok (.iconst 1, 1)) (h3 : decode cc (pc + 4) = .ok (.goto 4, 3)) (h4 : decode cc (pc + 7) = .ok (.iconst 0, 1)) (K : gg_W p l e R s m args below meth c g A nL Q kc ns M lv (.int (if ¬ y < x then 1 else 0) :: st) (pc + 8)) : gg_W p l e R s m args below meth c g A nL Q kc ns M lv (.int y :: .int x :: st) pc := by
  refine gg_icmp_gt (tgt := pc + 7) E h1 (by omega) (fun z => ?_) (fun z => ?_)
  · refine gg_iconst (v := 0) E h4 (by decide) ?_
    rw [if_neg (by first | exact z | exact fun w => w z)] at K
    exact K
  · refine gg_iconst (v := 1) E h2 (by decide) ?_
    refine gg_goto (tgt := pc + 8) E h3 (by omega) ?_
    rw [if_pos (by first | exact z)] at K
    exact K
theorem gg_icmpB_le (E : gg_V p l s m args meth c cc nL own g A ro) {x y : Int32} (h1 : decode cc pc = .ok (.if_icmp .le 7, 3)) (h2 : decode cc (pc + 3) = .ok (.iconst 1, 1)) (h3 : decode cc (pc + 4) = .ok (.goto 4, 3)) (h4 : decode cc (pc + 7) = .ok (.iconst 0, 1)) (K : gg_W p l e R s m args below meth c g A nL Q kc ns M lv (.int (if ¬ x ≤ y then 1 else 0) :: st) (pc + 8)) : gg_W p l e R s m args below meth c g A nL Q kc ns M lv (.int y :: .int x :: st) pc := by
  refine gg_icmp_le (tgt := pc + 7) E h1 (by omega) (fun z => ?_) (fun z => ?_)
  · refine gg_iconst (v := 0) E h4 (by decide) ?_
    rw [if_neg (by first | exact z | exact fun w => w z)] at K
    exact K
  · refine gg_iconst (v := 1) E h2 (by decide) ?_
    refine gg_goto (tgt := pc + 8) E h3 (by omega) ?_
    rw [if_pos (by first | exact z)] at K
    exact K
theorem gg_ifB_eq (E : gg_V p l s m args meth c cc nL own g A ro) {x : Int32} (h1 : decode cc pc = .ok (.ifCond .eq 7, 3)) (h2 : decode cc (pc + 3) = .ok (.iconst 1, 1)) (h3 : decode cc (pc + 4) = .ok (.goto 4, 3)) (h4 : decode cc (pc + 7) = .ok (.iconst 0, 1)) (K : gg_W p l e R s m args below meth c g A nL Q kc ns M lv (.int (if ¬ x = 0 then 1 else 0) :: st) (pc + 8)) : gg_W p l e R s m args below meth c g A nL Q kc ns M lv (.int x :: st) pc := by
  refine gg_if_eq (tgt := pc + 7) E h1 (by omega) (fun z => ?_) (fun z => ?_)
  · refine gg_iconst (v := 0) E h4 (by decide) ?_
    rw [if_neg (by first | exact z | exact fun w => w z)] at K
    exact K
  · refine gg_iconst (v := 1) E h2 (by decide) ?_
    refine gg_goto (tgt := pc + 8) E h3 (by omega) ?_
    rw [if_pos (by first | exact z)] at K
    exact K
theorem gg_ifB_ne (E : gg_V p l s m args meth c cc nL own g A ro) {x : Int32} (h1 : decode cc pc = .ok (.ifCond .ne 7, 3)) (h2 : decode cc (pc + 3) = .ok (.iconst 1, 1)) (h3 : decode cc (pc + 4) = .ok (.goto 4, 3)) (h4 : decode cc (pc + 7) = .ok (.iconst 0, 1)) (K : gg_W p l e R s m args below meth c g A nL Q kc ns M lv (.int (if x = 0 then 1 else 0) :: st) (pc + 8)) : gg_W p l e R s m args below meth c g A nL Q kc ns M lv (.int x :: st) pc := by
  refine gg_if_ne (tgt := pc + 7) E h1 (by omega) (fun z => ?_) (fun z => ?_)
  · refine gg_iconst (v := 0) E h4 (by decide) ?_
    rw [if_neg (by first | exact z | exact fun w => w z)] at K
    exact K
  · refine gg_iconst (v := 1) E h2 (by decide) ?_
    refine gg_goto (tgt := pc + 8) E h3 (by omega) ?_
    rw [if_pos (by first | exact z)] at K
    exact K
theorem gg_ifB_lt (E : gg_V p l s m args meth c cc nL own g A ro) {x : Int32} (h1 : decode cc pc = .ok (.ifCond .lt 7, 3)) (h2 : decode cc (pc + 3) = .ok (.iconst 1, 1)) (h3 : decode cc (pc + 4) = .ok (.goto 4, 3)) (h4 : decode cc (pc + 7) = .ok (.iconst 0, 1)) (K : gg_W p l e R s m args below meth c g A nL Q kc ns M lv (.int (if ¬ x < 0 then 1 else 0) :: st) (pc + 8)) : gg_W p l e R s m args below meth c g A nL Q kc ns M lv (.int x :: st) pc := by
  refine gg_if_lt (tgt := pc + 7) E h1 (by omega) (fun z => ?_) (fun z => ?_)
  · refine gg_iconst (v := 0) E h4 (by decide) ?_
    rw [if_neg (by first | exact z | exact fun w => w z)] at K
    exact K
  · refine gg_iconst (v := 1) E h2 (by decide) ?_
    refine gg_goto (tgt := pc + 8) E h3 (by omega) ?_
    rw [if_pos (by first | exact z)] at K
    exact K
theorem gg_ifB_ge (E : gg_V p l s m args meth c cc nL own g A ro) {x : Int32} (h1 : decode cc pc = .ok (.ifCond .ge 7, 3)) (h2 : decode cc (pc + 3) = .ok (.iconst 1, 1)) (h3 : decode cc (pc + 4) = .ok (.goto 4, 3)) (h4 : decode cc (pc + 7) = .ok (.iconst 0, 1)) (K : gg_W p l e R s m args below meth c g A nL Q kc ns M lv (.int (if ¬ 0 ≤ x then 1 else 0) :: st) (pc + 8)) : gg_W p l e R s m args below meth c g A nL Q kc ns M lv (.int x :: st) pc := by
  refine gg_if_ge (tgt := pc + 7) E h1 (by omega) (fun z => ?_) (fun z => ?_)
  · refine gg_iconst (v := 0) E h4 (by decide) ?_
    rw [if_neg (by first | exact z | exact fun w => w z)] at K
    exact K
  · refine gg_iconst (v := 1) E h2 (by decide) ?_
    refine gg_goto (tgt := pc + 8) E h3 (by omega) ?_
    rw [if_pos (by first | exact z)] at K
    exact K
theorem gg_ifB_gt (E : gg_V p l s m args meth c cc nL own g A ro) {x : Int32} (h1 : decode cc pc = .ok (.ifCond .gt 7, 3)) (h2 : decode cc (pc + 3) = .ok (.iconst 1, 1)) (h3 : decode cc (pc + 4) = .ok (.goto 4, 3)) (h4 : decode cc (pc + 7) = .ok (.iconst 0, 1)) (K : gg_W p l e R s m args below meth c g A nL Q kc ns M lv (.int (if ¬ 0 < x then 1 else 0) :: st) (pc + 8)) : gg_W p l e R s m args below meth c g A nL Q kc ns M lv (.int x :: st) pc := by
  refine gg_if_gt (tgt := pc + 7) E h1 (by omega) (fun z => ?_) (fun z => ?_)
  · refine gg_iconst (v := 0) E h4 (by decide) ?_
    rw [if_neg (by first | exact z | exact fun w => w z)] at K
    exact K
  · refine gg_iconst (v := 1) E h2 (by decide) ?_
    refine gg_goto (tgt := pc + 8) E h3 (by omega) ?_
    rw [if_pos (by first | exact z)] at K
    exact K
theorem gg_ifB_le (E : gg_V p l s m args meth c cc nL own g A ro) {x : Int32} (h1 : decode cc pc = .ok (.ifCond .le 7, 3)) (h2 : decode cc (pc + 3) = .ok (.iconst 1, 1)) (h3 : decode cc (pc + 4) = .ok (.goto 4, 3)) (h4 : decode cc (pc + 7) = .ok (.iconst 0, 1)) (K : gg_W p l e R s m args below meth c g A nL Q kc ns M lv (.int (if ¬ x ≤ 0 then 1 else 0) :: st) (pc + 8)) : gg_W p l e R s m args below meth c g A nL Q kc ns M lv (.int x :: st) pc := by
  refine gg_if_le (tgt := pc + 7) E h1 (by omega) (fun z => ?_) (fun z => ?_)
  · refine gg_iconst (v := 0) E h4 (by decide) ?_
    rw [if_neg (by first | exact z | exact fun w => w z)] at K
    exact K
  · refine gg_iconst (v := 1) E h2 (by decide) ?_
    refine gg_goto (tgt := pc + 8) E h3 (by omega) ?_
    rw [if_pos (by first | exact z)] at K
    exact K
theorem gg_b01 {P : Prop} [Decidable P] : (if P then (1 : Int32) else 0) = 0 ∨ (if P then (1 : Int32) else 0) = 1 := by split <;> simp
theorem gg_bz {P : Prop} [Decidable P] : (if P then (1 : Int32) else 0) = 0 ↔ ¬ P := by split <;> simp_all
theorem gg_bn {P : Prop} [Decidable P] : ¬ (if P then (1 : Int32) else 0) = 0 ↔ P := by split <;> simp_all
/-! numbers: sums, the first that .., blocks of an array -/
def sm (f : Nat → Int32) : Nat → Int32
  | 0 => 0
  | n + 1 => sm f n + f n
def fi (P : Nat → Prop) [DecidablePred P] (n : Nat) : Int32 := match (List.range n).find? (fun i => decide (P i)) with
  | some i => nI i
  | none => -1
theorem fi_some {P : Nat → Prop} [DecidablePred P] {n i : Nat} (hi : i < n) (h : P i) (hm : ∀ j, j < i → ¬ P j) : fi P n = nI i := by
  have : (List.range n).find? (fun i => decide (P i)) = some i := by
    rw [List.find?_eq_some_iff_append]
    refine ⟨by simpa using h, List.range i, (List.range (n - i - 1)).map (· + (i + 1)), ?_, ?_⟩
    · refine List.ext_getElem? fun k => ?_
      rw [List.getElem?_append]
      simp only [List.length_range, List.getElem?_cons, List.getElem?_map, List.getElem?_range]
      by_cases h1 : k < i
      · rw [if_pos h1]
        simp [List.getElem?_range, h1, show k < n by omega]
      · rw [if_neg h1]
        by_cases h2 : k - i = 0
        · rw [if_pos h2]
          have : k = i := by omega
          subst this
          simp [List.getElem?_range, hi]
        · rw [if_neg h2]
          by_cases h3 : k < n
          · rw [List.getElem?_range h3, List.getElem?_range (by omega)]
            simp only [Option.map_some, Option.some.injEq]
            omega
          · rw [List.getElem?_eq_none (by simp; omega), List.getElem?_eq_none (by simp; omega)]
            rfl
    · intro j hj
      simpa using hm j (List.mem_range.mp hj)
  unfold fi
  rw [this]
theorem fi_none {P : Nat → Prop} [DecidablePred P] {n : Nat} (hm : ∀ j, j < n → ¬ P j) : fi P n = -1 := by
  have : (List.range n).find? (fun i => decide (P i)) = none := by
    rw [List.find?_eq_none]
    intro j hj
    simpa using hm j (List.mem_range.mp hj)
  unfold fi
  rw [this]
/-- a block of an array written anew -/
def ub (f : Nat → Int32) (o n : Nat) (v : Nat → Int32) : Nat → Int32 := fun k => if o ≤ k ∧ k < o + n then v (k - o) else f k
theorem ub_0 (f : Nat → Int32) (o : Nat) (v : Nat → Int32) : ub f o 0 v = f := by
  funext k
  unfold ub
  rw [if_neg (by omega)]
theorem ub_1 (f : Nat → Int32) (o n : Nat) (v : Nat → Int32) (x : Int32) (hx : x = v n) : upd (ub f o n v) (o + n) x = ub f o (n + 1) v := by
  funext k
  unfold upd ub
  by_cases h : k = o + n
  · rw [if_pos h, if_pos (by omega), hx]
    congr 1
    omega
  · rw [if_neg h]
    by_cases h2 : o ≤ k ∧ k < o + n
    · rw [if_pos h2, if_pos (by omega)]
    · rw [if_neg h2, if_neg (by omega)]
theorem ub_in (f : Nat → Int32) (o n : Nat) (v : Nat → Int32) {k : Nat} (h1 : o ≤ k) (h2 : k < o + n) : ub f o n v k = v (k - o) := if_pos ⟨h1, h2⟩
theorem ub_out (f : Nat → Int32) (o n : Nat) (v : Nat → Int32) {k : Nat} (h : k < o ∨ o + n ≤ k) : ub f o n v k = f k := if_neg (by omega)
end GGbool
theorem all_s {P : Nat → Prop} {i : Nat} (h : ∀ j, j < i → P j) (hi : P i) : ∀ j, j < i + 1 → P j := by
  intro j hj
  rcases Nat.lt_or_ge j i with q | q
  · exact h j q
  · have e : j = i := by omega
    rw [e]
    exact hi
section GGle
variable {p : Program} {l : Launch} {e : Env} {R : Room} {s : State} {m : MethodId} {args : Array Value} {below : List Frame} {meth : Method} {c : Code} {g : gg_G} {A : Nat → Prop} {ro : gg_S} {nL : Nat} {Q : State → Prop} {kc ns : Nat} {M : List gg_S} {lv : List (Option Value)} {st : List Value} {pc : Nat} {cc : ByteArray} {own : String}
/-- the second list says less -/
def gg_le : List (Option Value) → List (Option Value) → Prop
  | a :: t, b :: u => (b = none ∨ a = b) ∧ gg_le t u
  | [], [] => True
  | _, _ => False
theorem gg_le_at : ∀ (l1 l2 : List (Option Value)), gg_le l1 l2 → ∀ (i : Nat) (v : Value), l2[i]? = some (some v) → l1[i]? = some (some v) := by
  intro l1
  induction l1 with
  | nil =>
    intro l2 h i v hi
    cases l2 with
    | nil => simp at hi
    | cons b u => exact h.elim
  | cons a t ih =>
    intro l2 h i v hi
    cases l2 with
    | nil => simp at hi
    | cons b u =>
      cases i with
      | zero =>
        simp only [List.getElem?_cons_zero, Option.some.injEq] at hi ⊢
        rcases h.1 with q | q
        · rw [hi] at q; cases q
        · rw [q]; exact hi
      | succ i =>
        simp only [List.getElem?_cons_succ] at hi ⊢
        exact ih u h.2 i v hi
theorem gg_le0 : gg_le [] [] := trivial
theorem gg_leS {a : Option Value} {t u : List (Option Value)} (h : gg_le t u) : gg_le (a :: t) (a :: u) := ⟨Or.inr rfl, h⟩
theorem gg_leN {a : Option Value} {t u : List (Option Value)} (h : gg_le t u) : gg_le (a :: t) (none :: u) := ⟨Or.inl rfl, h⟩
theorem gg_cv {M' : List gg_S} {lv' : List (Option Value)} {st' : List Value} {kc' ns' : Nat} (hM : M = M') (hl : gg_le lv lv') (hs : st = st') (hk : kc ≤ kc') (hn : ns ≤ ns') (K : gg_W p l e R s m args below meth c g A nL Q kc' ns' M' lv' st' pc) : gg_W p l e R s m args below meth c g A nL Q kc ns M lv st pc := by
  subst hM; subst hs
  exact gg_widen hk hn (gg_less (gg_le_at _ _ hl) K)
theorem gg_ifP_eq (E : gg_V p l s m args meth c cc nL own g A ro) {P : Prop} [Decidable P] {off : Int} {tgt : Nat} (hdg : decode cc pc = .ok (.ifCond .eq off, 3)) (ht : (pc : Int) + off = (tgt : Int)) (kt : ¬ P → gg_W p l e R s m args below meth c g A nL Q kc ns M lv st tgt) (kf : P → gg_W p l e R s m args below meth c g A nL Q kc ns M lv st (pc + 3)) : gg_W p l e R s m args below meth c g A nL Q kc ns M lv (.int (if P then 1 else 0) :: st) pc :=
  gg_if_eq E hdg ht (fun z => kt (gg_bz.mp z)) (fun z => kf (gg_bn.mp z))
theorem gg_ifP_ne (E : gg_V p l s m args meth c cc nL own g A ro) {P : Prop} [Decidable P] {off : Int} {tgt : Nat} (hdg : decode cc pc = .ok (.ifCond .ne off, 3)) (ht : (pc : Int) + off = (tgt : Int)) (kt : P → gg_W p l e R s m args below meth c g A nL Q kc ns M lv st tgt) (kf : ¬ P → gg_W p l e R s m args below meth c g A nL Q kc ns M lv st (pc + 3)) : gg_W p l e R s m args below meth c g A nL Q kc ns M lv (.int (if P then 1 else 0) :: st) pc :=
  gg_if_ne E hdg ht (fun z => kt (gg_bn.mp z)) (fun z => kf (gg_bz.mp z))
theorem gg_topI {x y : Int32} (h : x = y) (K : gg_W p l e R s m args below meth c g A nL Q kc ns M lv (.int y :: st) pc) : gg_W p l e R s m args below meth c g A nL Q kc ns M lv (.int x :: st) pc := by
  subst h
  exact K
end GGle
def mx (a b : Int32) : Int32 := if a < b then b else a
def mn (a b : Int32) : Int32 := if b < a then b else a
/-- how many notes are heard wrong -/
def wb (wind far ear notes : Int32) : Int32 := mn notes (mx 0 (wind * far - 3 * ear) / 10)
/-- which exception: 0 for none -/
def th (a b c : Int32) : Int32 := if a = 0 then 1 else if b = 0 then 2 else if c = 0 then 3 else 0
theorem i64_le (a b : Int32) : a.toInt64 ≤ b.toInt64 ↔ a ≤ b := by
  rw [Int64.le_iff_toInt_le, Int32.le_iff_toInt_le, Int32.toInt_toInt64, Int32.toInt_toInt64]

section GGmath
variable {p : Program} {l : Launch} {e : Env} {R : Room} {s : State} {m : MethodId} {args : Array Value} {below : List Frame} {meth : Method} {c : Code} {g : gg_G} {A : Nat → Prop} {ro : gg_S} {nL : Nat} {Q : State → Prop} {kc ns : Nat} {M : List gg_S} {lv : List (Option Value)} {st : List Value} {pc : Nat} {cc : ByteArray} {own : String}
theorem gg_mmax (E : gg_V p l s m args meth c cc nL own g A ro) {index : Nat} {x y : Int32} (q1 : Cond.methodLink own index Lib.Math.max.name ∈ lw_all) (q2 : Cond.static Lib.Math.max.name ∈ lw_all) (q3 : Cond.initialized "java/lang/Math" ∈ lw_all) (q4 : Cond.code Lib.Math.max.name Lib.Math.max.code 2 (some .int) ∈ lw_all) (hdg : decode cc pc = .ok (.invokestatic index, 3)) (hf : 1 ≤ R.frames) (hlo : (st.map fun v => v.category).sum + 13 ≤ R.locals) (hc : kc ≤ R.cells) (hs : ns ≤ R.slots) (K : gg_W p l e R s m args below meth c g A nL Q kc ns M lv (.int (mx x y) :: st) (pc + 3)) : gg_W p l e R s m args below meth c g A nL Q kc ns M lv (.int y :: .int x :: st) pc :=
  fun H locs ls hP hD hS hl => va_mmax E.1 E.2.1 (by rw [E.2.2.1]; exact hl.1.symm) E.2.2.2.1 (E.2.2.2.2.1 _ q1) (E.2.2.2.2.1 _ q2) (E.2.2.2.2.1 _ q3) (E.2.2.2.2.1 _ q4) hf hlo hc hs hdg (K H locs ls hP hD hS hl)
theorem gg_mmin (E : gg_V p l s m args meth c cc nL own g A ro) {index : Nat} {x y : Int32} (q1 : Cond.methodLink own index Lib.Math.min.name ∈ lw_all) (q2 : Cond.static Lib.Math.min.name ∈ lw_all) (q3 : Cond.initialized "java/lang/Math" ∈ lw_all) (q4 : Cond.code Lib.Math.min.name Lib.Math.min.code 2 (some .int) ∈ lw_all) (hdg : decode cc pc = .ok (.invokestatic index, 3)) (hf : 1 ≤ R.frames) (hlo : (st.map fun v => v.category).sum + 13 ≤ R.locals) (hc : kc ≤ R.cells) (hs : ns ≤ R.slots) (K : gg_W p l e R s m args below meth c g A nL Q kc ns M lv (.int (mn x y) :: st) (pc + 3)) : gg_W p l e R s m args below meth c g A nL Q kc ns M lv (.int y :: .int x :: st) pc :=
  fun H locs ls hP hD hS hl => va_mmin E.1 E.2.1 (by rw [E.2.2.1]; exact hl.1.symm) E.2.2.2.1 (E.2.2.2.2.1 _ q1) (E.2.2.2.2.1 _ q2) (E.2.2.2.2.1 _ q3) (E.2.2.2.2.1 _ q4) hf hlo hc hs hdg (K H locs ls hP hD hS hl)
end GGmath
section GGup
variable {p : Program} {l : Launch} {e : Env} {R : Room} {s : State} {m : MethodId} {args : Array Value} {below : List Frame} {meth : Method} {c : Code} {g : gg_G} {A : Nat → Prop} {ro : gg_S} {nL : Nat} {Q : State → Prop} {kc ns : Nat} {M : List gg_S} {lv : List (Option Value)} {st : List Value} {pc : Nat} {cc : ByteArray} {own : String}
theorem gg_upG {a : gg_S} (bs r : List gg_S) (K : gg_W p l e R s m args below meth c g A nL Q kc ns (bs ++ a :: r) lv st pc) : gg_W p l e R s m args below meth c g A nL Q kc ns (a :: (bs ++ r)) lv st pc :=
  gg_perm (List.Perm.flatten (List.perm_middle.symm)) K
theorem gg_up1 {a b0 : gg_S} {r : List gg_S} (K : gg_W p l e R s m args below meth c g A nL Q kc ns (b0 :: a :: r) lv st pc) : gg_W p l e R s m args below meth c g A nL Q kc ns (a :: b0 :: r) lv st pc := gg_upG [b0] r K
theorem gg_up2 {a b0 b1 : gg_S} {r : List gg_S} (K : gg_W p l e R s m args below meth c g A nL Q kc ns (b0 :: b1 :: a :: r) lv st pc) : gg_W p l e R s m args below meth c g A nL Q kc ns (a :: b0 :: b1 :: r) lv st pc := gg_upG [b0, b1] r K
theorem gg_up3 {a b0 b1 b2 : gg_S} {r : List gg_S} (K : gg_W p l e R s m args below meth c g A nL Q kc ns (b0 :: b1 :: b2 :: a :: r) lv st pc) : gg_W p l e R s m args below meth c g A nL Q kc ns (a :: b0 :: b1 :: b2 :: r) lv st pc := gg_upG [b0, b1, b2] r K
theorem gg_up4 {a b0 b1 b2 b3 : gg_S} {r : List gg_S} (K : gg_W p l e R s m args below meth c g A nL Q kc ns (b0 :: b1 :: b2 :: b3 :: a :: r) lv st pc) : gg_W p l e R s m args below meth c g A nL Q kc ns (a :: b0 :: b1 :: b2 :: b3 :: r) lv st pc := gg_upG [b0, b1, b2, b3] r K
theorem gg_up5 {a b0 b1 b2 b3 b4 : gg_S} {r : List gg_S} (K : gg_W p l e R s m args below meth c g A nL Q kc ns (b0 :: b1 :: b2 :: b3 :: b4 :: a :: r) lv st pc) : gg_W p l e R s m args below meth c g A nL Q kc ns (a :: b0 :: b1 :: b2 :: b3 :: b4 :: r) lv st pc := gg_upG [b0, b1, b2, b3, b4] r K
theorem gg_up6 {a b0 b1 b2 b3 b4 b5 : gg_S} {r : List gg_S} (K : gg_W p l e R s m args below meth c g A nL Q kc ns (b0 :: b1 :: b2 :: b3 :: b4 :: b5 :: a :: r) lv st pc) : gg_W p l e R s m args below meth c g A nL Q kc ns (a :: b0 :: b1 :: b2 :: b3 :: b4 :: b5 :: r) lv st pc := gg_upG [b0, b1, b2, b3, b4, b5] r K
theorem gg_up7 {a b0 b1 b2 b3 b4 b5 b6 : gg_S} {r : List gg_S} (K : gg_W p l e R s m args below meth c g A nL Q kc ns (b0 :: b1 :: b2 :: b3 :: b4 :: b5 :: b6 :: a :: r) lv st pc) : gg_W p l e R s m args below meth c g A nL Q kc ns (a :: b0 :: b1 :: b2 :: b3 :: b4 :: b5 :: b6 :: r) lv st pc := gg_upG [b0, b1, b2, b3, b4, b5, b6] r K
theorem gg_up8 {a b0 b1 b2 b3 b4 b5 b6 b7 : gg_S} {r : List gg_S} (K : gg_W p l e R s m args below meth c g A nL Q kc ns (b0 :: b1 :: b2 :: b3 :: b4 :: b5 :: b6 :: b7 :: a :: r) lv st pc) : gg_W p l e R s m args below meth c g A nL Q kc ns (a :: b0 :: b1 :: b2 :: b3 :: b4 :: b5 :: b6 :: b7 :: r) lv st pc := gg_upG [b0, b1, b2, b3, b4, b5, b6, b7] r K
theorem gg_up9 {a b0 b1 b2 b3 b4 b5 b6 b7 b8 : gg_S} {r : List gg_S} (K : gg_W p l e R s m args below meth c g A nL Q kc ns (b0 :: b1 :: b2 :: b3 :: b4 :: b5 :: b6 :: b7 :: b8 :: a :: r) lv st pc) : gg_W p l e R s m args below meth c g A nL Q kc ns (a :: b0 :: b1 :: b2 :: b3 :: b4 :: b5 :: b6 :: b7 :: b8 :: r) lv st pc := gg_upG [b0, b1, b2, b3, b4, b5, b6, b7, b8] r K
theorem gg_up10 {a b0 b1 b2 b3 b4 b5 b6 b7 b8 b9 : gg_S} {r : List gg_S} (K : gg_W p l e R s m args below meth c g A nL Q kc ns (b0 :: b1 :: b2 :: b3 :: b4 :: b5 :: b6 :: b7 :: b8 :: b9 :: a :: r) lv st pc) : gg_W p l e R s m args below meth c g A nL Q kc ns (a :: b0 :: b1 :: b2 :: b3 :: b4 :: b5 :: b6 :: b7 :: b8 :: b9 :: r) lv st pc := gg_upG [b0, b1, b2, b3, b4, b5, b6, b7, b8, b9] r K
theorem gg_up11 {a b0 b1 b2 b3 b4 b5 b6 b7 b8 b9 b10 : gg_S} {r : List gg_S} (K : gg_W p l e R s m args below meth c g A nL Q kc ns (b0 :: b1 :: b2 :: b3 :: b4 :: b5 :: b6 :: b7 :: b8 :: b9 :: b10 :: a :: r) lv st pc) : gg_W p l e R s m args below meth c g A nL Q kc ns (a :: b0 :: b1 :: b2 :: b3 :: b4 :: b5 :: b6 :: b7 :: b8 :: b9 :: b10 :: r) lv st pc := gg_upG [b0, b1, b2, b3, b4, b5, b6, b7, b8, b9, b10] r K
theorem gg_up12 {a b0 b1 b2 b3 b4 b5 b6 b7 b8 b9 b10 b11 : gg_S} {r : List gg_S} (K : gg_W p l e R s m args below meth c g A nL Q kc ns (b0 :: b1 :: b2 :: b3 :: b4 :: b5 :: b6 :: b7 :: b8 :: b9 :: b10 :: b11 :: a :: r) lv st pc) : gg_W p l e R s m args below meth c g A nL Q kc ns (a :: b0 :: b1 :: b2 :: b3 :: b4 :: b5 :: b6 :: b7 :: b8 :: b9 :: b10 :: b11 :: r) lv st pc := gg_upG [b0, b1, b2, b3, b4, b5, b6, b7, b8, b9, b10, b11] r K
theorem gg_up13 {a b0 b1 b2 b3 b4 b5 b6 b7 b8 b9 b10 b11 b12 : gg_S} {r : List gg_S} (K : gg_W p l e R s m args below meth c g A nL Q kc ns (b0 :: b1 :: b2 :: b3 :: b4 :: b5 :: b6 :: b7 :: b8 :: b9 :: b10 :: b11 :: b12 :: a :: r) lv st pc) : gg_W p l e R s m args below meth c g A nL Q kc ns (a :: b0 :: b1 :: b2 :: b3 :: b4 :: b5 :: b6 :: b7 :: b8 :: b9 :: b10 :: b11 :: b12 :: r) lv st pc := gg_upG [b0, b1, b2, b3, b4, b5, b6, b7, b8, b9, b10, b11, b12] r K
theorem gg_up14 {a b0 b1 b2 b3 b4 b5 b6 b7 b8 b9 b10 b11 b12 b13 : gg_S} {r : List gg_S} (K : gg_W p l e R s m args below meth c g A nL Q kc ns (b0 :: b1 :: b2 :: b3 :: b4 :: b5 :: b6 :: b7 :: b8 :: b9 :: b10 :: b11 :: b12 :: b13 :: a :: r) lv st pc) : gg_W p l e R s m args below meth c g A nL Q kc ns (a :: b0 :: b1 :: b2 :: b3 :: b4 :: b5 :: b6 :: b7 :: b8 :: b9 :: b10 :: b11 :: b12 :: b13 :: r) lv st pc := gg_upG [b0, b1, b2, b3, b4, b5, b6, b7, b8, b9, b10, b11, b12, b13] r K
theorem gg_up15 {a b0 b1 b2 b3 b4 b5 b6 b7 b8 b9 b10 b11 b12 b13 b14 : gg_S} {r : List gg_S} (K : gg_W p l e R s m args below meth c g A nL Q kc ns (b0 :: b1 :: b2 :: b3 :: b4 :: b5 :: b6 :: b7 :: b8 :: b9 :: b10 :: b11 :: b12 :: b13 :: b14 :: a :: r) lv st pc) : gg_W p l e R s m args below meth c g A nL Q kc ns (a :: b0 :: b1 :: b2 :: b3 :: b4 :: b5 :: b6 :: b7 :: b8 :: b9 :: b10 :: b11 :: b12 :: b13 :: b14 :: r) lv st pc := gg_upG [b0, b1, b2, b3, b4, b5, b6, b7, b8, b9, b10, b11, b12, b13, b14] r K
theorem gg_ifc {P W : Prop} [Decidable P] [Decidable W] (h : P ↔ W) : (if P then (1 : Int32) else 0) = if W then 1 else 0 := by
  by_cases q : W
  · rw [if_pos q, if_pos (h.mpr q)]
  · rw [if_neg q, if_neg (fun z => q (h.mp z))]
end GGup

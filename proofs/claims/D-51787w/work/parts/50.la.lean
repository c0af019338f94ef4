set_option maxRecDepth 100000
/-! ===== THE LAYER: exceptions; methods with handlers ===== -/
theorem dl_gl {α : Type} {M : List α} {x : α} (h : M.getLast? = some x) : M.dropLast ++ [x] = M := by
  obtain ⟨hn, e⟩ := List.getLast?_eq_some_iff.mp h
  rw [e, List.dropLast_concat]
section GGx
variable {p : Program} {l : Launch} {e : Env} {R : Room} {s : State} {m : MethodId} {args : Array Value} {below : List Frame} {meth : Method} {c : Code} {g : gg_G} {A : Nat → Prop} {ro : gg_S} {nL : Nat} {Q : State → Prop} {kc ns : Nat} {M : List gg_S} {lv : List (Option Value)} {st : List Value} {pc : Nat} {cc : ByteArray} {own : String}
variable {ret : Option FieldType} {mc ms : Nat} {Post : Option Value → List gg_S → Prop} {PX : String → Nat → List gg_S → Prop}
/-- athrow of an object that lies in the cells -/
theorem gg_athrow (E : gg_V p l s m args meth c cc nL own g A ro) {ci N : Nat} {Cn : String} {T : u_T} {ty : Nat → FieldType} (ck : gg_ck ci Cn T N ty) {q : Nat} {fs : List Value} (hdg : decode cc pc = .ok (.athrow, 1)) (hm : gg_in g M ro (q, .inl (ci, fs))) (K : gg_X p l e R s m args below meth c g A nL Q kc ns M lv Cn q pc) : gg_W p l e R s m args below meth c g A nL Q kc ns M lv (.ref q :: st) pc := by
  intro H locs ls hP hD hS hl
  obtain ⟨q', h1, cell, g1, g2, g3, -⟩ := hm.at E hP hS
  exact vx_athrow E.1 E.2.1 hdg (K H locs ls cell st hP hD hS hl g1 g3 (by rw [g2]; exact (E.2.2.2.2.2.1.1.1 ci _ ck.1).2.1))
/-- an exception leaves the method -/
theorem gg_xout (E : gg_V p l s m args meth c cc nL own g A ro) (Fn : gg_Fin s args below meth g A Q ret mc ms Post PX) {X : String} {q : Nat} (hout : ∀ x ∈ c.exceptionTable.toList, covers x pc = false) (hk : kc ≤ mc) (hn : ns ≤ ms) (hp : PX X q M) : gg_X p l e R s m args below meth c g A nL Q kc ns M lv X q pc := by
  intro H locs ls ce st hP hD hS hl hc hv hcl
  obtain ⟨C, hA, hQ, -⟩ := Fn
  subst hQ
  refine vx_out hout E.2.2.2.2.2.2.2.1 hc hv hcl (fun t ht hW => ⟨⟨M, hp, by rw [ht]; exact hP, by rw [← hA]; exact hD⟩, by rw [← hA]; exact hS.F ht⟩) (by rw [← hA]; exact hS.2.2) hk hn
/-- the same, past handlers for other classes -/
theorem gg_xoutP (E : gg_V p l s m args meth c cc nL own g A ro) (Fn : gg_Fin s args below meth g A Q ret mc ms Post PX) {X : String} {q : Nat} (hpass : ∀ z ∈ c.exceptionTable.toList, covers z pc = false ∨ (z.catchType ≠ 0 ∧ ∃ nm : String, (Cond.classLink own z.catchType nm).before args s = true ∧ va_Nc X nm s)) (hk : kc ≤ mc) (hn : ns ≤ ms) (hp : PX X q M) : gg_X p l e R s m args below meth c g A nL Q kc ns M lv X q pc := by
  intro H locs ls ce st hP hD hS hl hc hv hcl
  obtain ⟨C, hA, hQ, -⟩ := Fn
  subst hQ
  refine vx_outP E.2.2.2.1 E.2.2.2.2.2.2.2.1 hpass hc hv hcl (fun t ht hW => ⟨⟨M, hp, by rw [ht]; exact hP, by rw [← hA]; exact hD⟩, by rw [← hA]; exact hS.F ht⟩) (by rw [← hA]; exact hS.2.2) hk hn
/-- new X(); athrow, which leaves the method -/
theorem gg_throw0 (E : gg_V p l s m args meth c cc nL own g A ro) (Fn : gg_Fin s args below meth g A Q ret mc ms Post PX) {X : String} {names : List String} {ik ic : Nat} (hcls : Bundle.fit X = true) (hnames : ∀ n ∈ names, Bundle.fit n = true)
    (hk : Cond.classLink own ik X ∈ lw_all) (hini : Cond.initialized X ∈ lw_all) (hat : ∀ w ∈ vx_at0 own ic X names, w.before args s = true) (hgood : ∀ w ∈ Cond.classLink own ik X :: Cond.initialized X :: vx_at0 own ic X names, vx_ot w = true)
    (d0 : decode cc pc = .ok (.new ik, 3)) (d3 : decode cc (pc + 3) = .ok (.dup, 1)) (d4 : decode cc (pc + 4) = .ok (.invokespecial ic, 3)) (d7 : decode cc (pc + 7) = .ok (.athrow, 1))
    (hout : ∀ x ∈ c.exceptionTable.toList, covers x (pc + 7) = false)
    (hRf : names.length + 3 < R.frames) (hRl : (st.map fun v => v.category).sum + (13 * (names.length + 1) + 42) ≤ R.locals) (hRc : kc + 1 ≤ R.cells) (hRs : ns + 6 ≤ R.slots) (hmc : kc + 1 ≤ mc) (hms : ns + 6 ≤ ms) (hp : ∀ q : Nat, PX X q M) : gg_W p l e R s m args below meth c g A nL Q kc ns M lv st pc := by
  intro H locs ls hP hD hS hl
  have hR := E.2.2.2.2.2.2.2.2.2.1
  obtain ⟨C, hA, hQ, -⟩ := Fn
  subst hQ
  refine vx_throw0 (A := A) E.1 E.2.1 E.2.2.2.2.2.2.2.2.1 E.2.2.2.1 hcls hnames (E.2.2.2.2.1 _ hk) (E.2.2.2.2.1 _ hini) hat hgood hR.2.2.2.1 hR.2.2.2.2 hS (by rw [E.2.2.1]; exact hl.1) d0 d3 d4 d7 hout hRf hRl hRc hRs E.2.2.2.2.2.2.2.1 (fun q9 t hvm hsz ho => ?_) (by rw [← hA]; exact hS.2.2) hmc hms
  exact ⟨⟨M, hp q9, hP.kept fun q hq => ho q.1 (hP q hq).lt, by rw [← hA]; exact hD⟩, Nat.le_trans hS.1 hsz, fun q h1 h2 => (ho q (Nat.lt_of_lt_of_le h1 hS.1)).trans (hS.2.1 q h1 (by rw [hA]; exact h2))⟩
/-- an exception is caught -/
theorem gg_catch (E : gg_V p l s m args meth c cc nL own g A ro) {X name : String} {q tgt : Nat} (pre : List ExceptionTableEntry) (x : ExceptionTableEntry) (suf : List ExceptionTableEntry) (hsplit : c.exceptionTable.toList = pre ++ x :: suf)
    (hpass : ∀ z ∈ pre, covers z pc = false ∨ (z.catchType ≠ 0 ∧ ∃ nm : String, (Cond.classLink own z.catchType nm).before args s = true ∧ va_Nc X nm s)) (hx : covers x pc = true) (h0 : x.catchType ≠ 0)
    (hlink : (Cond.classLink own x.catchType name).before args s = true) (hcast : (Cond.castable X name).before args s = true) (ht : x.handlerPc = tgt) (K : gg_W p l e R s m args below meth c g A nL Q kc ns M lv [.ref q] tgt) : gg_X p l e R s m args below meth c g A nL Q kc ns M lv X q pc := by
  intro H locs ls ce st hP hD hS hl hc hv hcl
  subst ht
  exact vx_catch E.2.2.2.1 pre x suf hsplit hpass hx h0 hlink hcast hc hv hcl (K H locs ls hP hD hS hl)
theorem gg_catch0 (E : gg_V p l s m args meth c cc nL own g A ro) {X : String} {q tgt : Nat} (x : ExceptionTableEntry) (suf : List ExceptionTableEntry) (hsplit : c.exceptionTable.toList = x :: suf) (hx : covers x pc = true) (h0 : x.catchType = 0) (ht : x.handlerPc = tgt) (K : gg_W p l e R s m args below meth c g A nL Q kc ns M lv [.ref q] tgt) : gg_X p l e R s m args below meth c g A nL Q kc ns M lv X q pc := by
  intro H locs ls ce st hP hD hS hl hc hv hcl T hT X0
  subst ht
  obtain ⟨vm', X', st'⟩ := X0.thenCaughtThrough q (g := F0 m pc ls st) rfl (Steps.refl _) (by rw [hT]; exact hc) (by rw [hv]; rfl) (by obtain ⟨k9, h9, -⟩ := Vm.findClass_spec hcl; exact ⟨k9, h9⟩) [] x suf hsplit (fun z hz => by cases hz) hx (Or.inl h0)
  obtain ⟨t, a1, b1⟩ := K H locs ls hP hD hS hl (T.setVm vm') hT X'
  exact ⟨t, st'.trans a1, b1⟩
theorem gg_xwiden {k1 n1 : Nat} {X : String} {q : Nat} (h1 : kc ≤ k1) (h2 : ns ≤ n1) (K : gg_X p l e R s m args below meth c g A nL Q k1 n1 M lv X q pc) : gg_X p l e R s m args below meth c g A nL Q kc ns M lv X q pc :=
  fun H locs ls ce st hP hD hS hl hc hv hcl => vx_widen h1 h2 (K H locs ls ce st hP hD hS hl hc hv hcl)
theorem gg_xperm {M1 : List gg_S} {X : String} {q : Nat} (h : M.flatten.Perm M1.flatten) (K : gg_X p l e R s m args below meth c g A nL Q kc ns M1 lv X q pc) : gg_X p l e R s m args below meth c g A nL Q kc ns M lv X q pc :=
  fun H locs ls ce st hP hD hS hl => K H locs ls ce st (hP.of fun q hq => h.mem_iff.mpr hq) (hD.perm h) hS hl
/-- words by their places -/
theorem gg_wa (E : gg_V p l s m args meth c cc nL own g A ro) {w : Cond} (h : w ∈ lw_all) : vx_no w = true → w.before args s = true := fun _ => E.2.2.2.2.1 w h
theorem gg_wn (E : gg_V p l s m args meth c cc nL own g A ro) {w : Cond} (hw : w.onTables = true) (h : w ∈ gg_nw) : vx_no w = true → w.before args s = true := fun _ => va_Nw.use hw (E.2.2.2.2.2.1.2.1 w h)
/-- A CONTRACT FROM A WALK of a method with handlers -/
theorem gg_ofH {y : MethodName} {rm : Room} {As : List Value} {C : List gg_S} {hh : List (Nat × Nat × Nat × Nat)} (hy : plainName y.cls = true) (hl : l.stackTraces = false) (hL : (lg_sl As).length ≤ nL) (hlv : gg_ent As ++ List.replicate (nL - (gg_ent As).length) none = lv)
    (body : ∀ (p : Program) (e : Env) (R : Room) (s : State) (m : MethodId) (args : Array Value) (below : List Frame) (meth : Method) (c : Code) (A : Nat → Prop) (Q : State → Prop), R.frames = rm.frames → R.locals = rm.locals → R.cells = rm.cells → R.slots = rm.slots → gg_V p l s m args meth c cc nL y.cls g A ro → gg_Fin s args below meth g A Q ret rm.cells rm.slots Post PX → meth.name = y.name → c.exceptionTable.toList = tableOf hh → gg_W p l e R s m args below meth c g A nL Q 0 0 C lv [] 0) : gg_C l g y (wsW_ y cc nL ret hh) rm As ro C Post PX := by
  intro sz
  refine vx_ofWH (hh := hh) hy rfl ?_
  intro p e s m args below meth c s₁ B hml hv
  obtain ⟨rfl, hsz, hP, hD, hK, hR, hro, hrA⟩ := hv
  subst hsz
  have hts0 := atoms_spec (ws := wsW_ y cc nL ret hh) B.pre
  have hts : ∀ w ∈ lw_all, w.before _ s = true := fun w h => hts0 w (List.mem_cons_of_mem _ h)
  have hnm : meth.name = y.name := (name_of_methodNamed B.named B.method).1
  have htab : c.exceptionTable.toList = tableOf hh := vx_table (x := y) B (hts0 _ List.mem_cons_self)
  have hw := body p e rm s m As.toArray below meth c (gg_A C.flatten s.heap.size) _ rfl rfl rfl rfl ⟨B.exec, B.bytes, hml, findClass_of_methodNamed B.named, hts, hK, fun q h => Or.inr h, B.notSynchronized, hl, hR, hro, hrA⟩ ⟨C, rfl, rfl, B.returns⟩ hnm htab s.heap [] _ hP hD.self va_S.rf (gg_entry As hL hlv)
  rw [lg_entry_eq]
  exact hw
end GGx
section GGcw
variable {p : Program} {l : Launch} {e : Env} {R : Room} {s : State} {m : MethodId} {args : Array Value} {below : List Frame} {meth : Method} {c : Code} {g : gg_G} {A : Nat → Prop} {ro : gg_S} {nL : Nat} {Q : State → Prop} {kc ns : Nat} {M : List gg_S} {lv : List (Option Value)} {st : List Value} {pc : Nat} {cc : ByteArray} {own : String}
/-- invokevirtual, invokestatic of a method with handlers -/
theorem gg_callVW (E : gg_V p l s m args meth c cc nL own g A ro) {ci N : Nat} {Cn : String} {T : u_T} {ty : Nat → FieldType} (ck : gg_ck ci Cn T N ty) {y : MethodName} {bytes : ByteArray} {maxL n index b : Nat} {ret : Option FieldType} {hh : List (Nat × Nat × Nat × Nat)} {ws : List Cond} {rm : Room} {As rest : List Value} {ro' : gg_S} {C F : List gg_S} {fs : List Value} {Post : Option Value → List gg_S → Prop} {PX : String → Nat → List gg_S → Prop} (hct : gg_C l g y ws rm (.ref b :: As) ro' C Post PX) (cw : vx_CVW R s args own Cn index y bytes maxL ret hh ws rm rm.cells rm.slots n) (hdg : decode cc pc = .ok (.invokevirtual index, 3))
    (is : List Nat) (hd : is.Nodup) (hC : is.map (fun i => M[i]?) = C.map some) (hF : gg_rest M is = F) (hro : ∀ q ∈ ro', gg_in g F ro q) (hb : gg_in g M ro (b, .inl (ci, fs))) (hn : As.length = n) (hst : st = As.reverse ++ .ref b :: rest) (hw : (rest.map fun v => v.category).sum ≤ 8) (hc : kc + rm.cells ≤ R.cells) (hs : ns + rm.slots ≤ R.slots)
    (K : ∀ (v : Option Value) (C1 : List gg_S), Post v C1 → gg_W p l e R s m args below meth c g A nL Q (kc + rm.cells) (ns + rm.slots) (C1 ++ F) lv (v.toList ++ rest) (pc + 3))
    (KX : ∀ (X : String) (q : Nat) (C1 : List gg_S), PX X q C1 → gg_X p l e R s m args below meth c g A nL Q (kc + rm.cells) (ns + rm.slots) (C1 ++ F) lv X q pc) : gg_W p l e R s m args below meth c g A nL Q kc ns M lv st pc := by
  have hperm := gg_pick is hd hC hF
  subst hst
  refine gg_after (a := (Value.ref b :: As).toArray) E hperm (fun H locs ls hP hD hS hl => ?_) K KX
  exact vx_runVX (As := As) (rest := rest) (b := b) (gg_fix E) (hct H.size) cw ⟨gg_blind, gg_recv E ck (hb.at E hP hS), fun U hU hW => gg_asks E hperm hro hP hD hS U hU hW⟩ rfl hn hl.1 rfl (lv_room (m := m) (pc := pc) (ls := ls) (rest := As.reverse ++ .ref b :: rest) hw) hdg ⟨hc, hs⟩
theorem gg_callSW (E : gg_V p l s m args meth c cc nL own g A ro) {y : MethodName} {bytes : ByteArray} {maxL n index : Nat} {ret : Option FieldType} {hh : List (Nat × Nat × Nat × Nat)} {ws : List Cond} {rm : Room} {As rest : List Value} {ro' : gg_S} {C F : List gg_S} {Post : Option Value → List gg_S → Prop} {PX : String → Nat → List gg_S → Prop} (hct : gg_C l g y ws rm As ro' C Post PX) (cw : vx_CSW R s args own index y bytes maxL ret hh ws rm rm.cells rm.slots n) (hdg : decode cc pc = .ok (.invokestatic index, 3))
    (is : List Nat) (hd : is.Nodup) (hC : is.map (fun i => M[i]?) = C.map some) (hF : gg_rest M is = F) (hro : ∀ q ∈ ro', gg_in g F ro q) (hn : As.length = n) (hst : st = As.reverse ++ rest) (hw : (rest.map fun v => v.category).sum ≤ 8) (hc : kc + rm.cells ≤ R.cells) (hs : ns + rm.slots ≤ R.slots)
    (K : ∀ (v : Option Value) (C1 : List gg_S), Post v C1 → gg_W p l e R s m args below meth c g A nL Q (kc + rm.cells) (ns + rm.slots) (C1 ++ F) lv (v.toList ++ rest) (pc + 3))
    (KX : ∀ (X : String) (q : Nat) (C1 : List gg_S), PX X q C1 → gg_X p l e R s m args below meth c g A nL Q (kc + rm.cells) (ns + rm.slots) (C1 ++ F) lv X q pc) : gg_W p l e R s m args below meth c g A nL Q kc ns M lv st pc := by
  have hperm := gg_pick is hd hC hF
  subst hst
  refine gg_after (a := As.toArray) E hperm (fun H locs ls hP hD hS hl => ?_) K KX
  exact vx_runSX (As := As) (rest := rest) (gg_fix E) (hct H.size) cw ⟨gg_blind, fun U hU hW => gg_asks E hperm hro hP hD hS U hU hW⟩ rfl hn hl.1 rfl (lv_room (m := m) (pc := pc) (ls := ls) (rest := As.reverse ++ rest) hw) hdg ⟨hc, hs⟩
end GGcw
/-! ===== segments of cells by their numbers ===== -/
def mp (F : Nat → Nat × gg_E) (n : Nat) : gg_S := (List.range n).map F
/-- all but the k-th -/
def mpo (F : Nat → Nat × gg_E) (n k : Nat) : gg_S := ((List.range n).filter (fun j => !(j == k))).map F
theorem mp_mem {F : Nat → Nat × gg_E} {n k : Nat} (h : k < n) : F k ∈ mp F n := List.mem_map.mpr ⟨k, List.mem_range.mpr h, rfl⟩
theorem mpo_mem {F : Nat → Nat × gg_E} {n k j : Nat} (h : j < n) (hk : j ≠ k) : F j ∈ mpo F n k := List.mem_map.mpr ⟨j, List.mem_filter.mpr ⟨List.mem_range.mpr h, by simpa using hk⟩, rfl⟩
theorem rg_split {n k : Nat} (h : k < n) : (List.range n).Perm (k :: (List.range n).filter (fun j => !(j == k))) := by
  have h1 := (List.filter_append_perm (fun j => j == k) (List.range n)).symm
  have h2 : (List.range n).filter (fun j => j == k) = [k] := by
    induction n with
    | zero => omega
    | succ n ih =>
      rw [List.range_succ, List.filter_append]
      by_cases e : k = n
      · subst e
        have : (List.range k).filter (fun j => j == k) = [] := by
          rw [List.filter_eq_nil_iff]
          intro j hj
          have := List.mem_range.mp hj
          simp
          omega
        rw [this]
        simp
      · rw [ih (by omega) ((List.filter_append_perm (fun j => j == k) (List.range n)).symm)]
        simp
        omega
  rw [h2] at h1
  exact h1
theorem mp_open {F : Nat → Nat × gg_E} {n k : Nat} (h : k < n) : (mp F n).Perm (F k :: mpo F n k) := by
  unfold mp mpo
  exact (rg_split h).map F
theorem mpo_eq {F F' : Nat → Nat × gg_E} {n k : Nat} (h : ∀ j, j < n → j ≠ k → F' j = F j) : mpo F n k = mpo F' n k := by
  unfold mpo
  refine List.map_congr_left fun j hj => ?_
  have := List.mem_filter.mp hj
  exact (h j (List.mem_range.mp this.1) (by simpa using this.2)).symm
theorem mp_close {F F' : Nat → Nat × gg_E} {n k : Nat} (h : k < n) (hj : ∀ j, j < n → j ≠ k → F' j = F j) : (F' k :: mpo F n k).Perm (mp F' n) := by
  rw [mpo_eq hj]
  exact (mp_open h).symm
theorem mp_eq {F F' : Nat → Nat × gg_E} {n : Nat} (h : ∀ j, j < n → F' j = F j) : mp F n = mp F' n := by
  unfold mp
  exact List.map_congr_left fun j hj => (h j (List.mem_range.mp hj)).symm
theorem mp_s (F : Nat → Nat × gg_E) (n : Nat) : mp F (n + 1) = mp F n ++ [F n] := by
  unfold mp
  rw [List.range_succ, List.map_append]
  rfl
theorem mp_push {F F' : Nat → Nat × gg_E} {n : Nat} (h : ∀ j, j < n → F' j = F j) : mp F' (n + 1) = mp F n ++ [F' n] := by
  rw [mp_s, mp_eq h]
theorem mp_0 (F : Nat → Nat × gg_E) : mp F 0 = [] := rfl
section GGseg
variable {p : Program} {l : Launch} {e : Env} {R : Room} {s : State} {m : MethodId} {args : Array Value} {below : List Frame} {meth : Method} {c : Code} {g : gg_G} {A : Nat → Prop} {ro : gg_S} {nL : Nat} {Q : State → Prop} {kc ns : Nat} {M : List gg_S} {lv : List (Option Value)} {st : List Value} {pc : Nat} {cc : ByteArray} {own : String}
theorem fl_set {M : List gg_S} {i : Nat} {S S1 x : gg_S} (h : M[i]? = some S) (hp : S.Perm (x ++ S1)) : M.flatten.Perm (M.set i S1 ++ [x]).flatten := by
  obtain ⟨a, b, e1, e2⟩ := gg_flat_set h S1
  rw [e2]
  subst e1
  simp only [List.flatten_append, List.flatten_cons, List.flatten_nil, List.append_nil]
  refine ((hp.append_right _).append_left _).trans ?_
  rw [List.append_assoc, List.append_assoc]
  refine List.Perm.append_left _ ?_
  exact List.perm_append_comm
/-- the k-th cell of a segment is laid open, as the last segment -/
theorem gg_opn {F : Nat → Nat × gg_E} {n k : Nat} {M' : List gg_S} (i : Nat) (hm : M[i]? = some (mp F n)) (hk : k < n) (hM : M.set i (mpo F n k) ++ [[F k]] = M') (K : gg_W p l e R s m args below meth c g A nL Q kc ns M' lv st pc) : gg_W p l e R s m args below meth c g A nL Q kc ns M lv st pc := by
  subst hM
  exact gg_perm (fl_set hm (mp_open hk)) K
/-- and closed again -/
theorem gg_cls {F F' : Nat → Nat × gg_E} {n k : Nat} {M' : List gg_S} {x : Nat × gg_E} (i : Nat) (h0 : M.getLast? = some [x]) (hm : M.dropLast[i]? = some (mpo F n k)) (hk : k < n) (hx : F' k = x) (hj : ∀ j, j < n → j ≠ k → F' j = F j) (hM : M.dropLast.set i (mp F' n) = M') (K : gg_W p l e R s m args below meth c g A nL Q kc ns M' lv st pc) : gg_W p l e R s m args below meth c g A nL Q kc ns M lv st pc := by
  have h1 : M = M.dropLast ++ [[x]] := (dl_gl h0).symm
  generalize M.dropLast = M1 at h1 hm hM
  clear h0
  subst hM h1 hx
  have h2 : (M1.set i (mp F' n))[i]? = some (mp F' n) := by
    rw [List.getElem?_set_self]
    exact (List.getElem?_eq_some_iff.mp hm).1
  have h3 := fl_set (M := M1.set i (mp F' n)) (S1 := mpo F n k) (x := [F' k]) h2 (mp_close hk hj).symm
  rw [List.set_set, show M1.set i (mpo F n k) = M1 from ls_self hm] at h3
  exact gg_perm h3.symm K
/-- a segment is taken for another list of the same cells -/
theorem gg_seg {S S' : gg_S} {M' : List gg_S} (i : Nat) (hm : M[i]? = some S) (h : S = S') (hM : M.set i S' = M') (K : gg_W p l e R s m args below meth c g A nL Q kc ns M' lv st pc) : gg_W p l e R s m args below meth c g A nL Q kc ns M lv st pc := by
  subst hM h
  rw [show M.set i S = M from ls_self hm] at K
  exact K
/-- the last segment goes to the end of another -/
theorem gg_psh {S x : gg_S} {M' : List gg_S} (i : Nat) (h0 : M.getLast? = some x) (hm : M.dropLast[i]? = some S) (hM : M.dropLast.set i (S ++ x) = M') (K : gg_W p l e R s m args below meth c g A nL Q kc ns M' lv st pc) : gg_W p l e R s m args below meth c g A nL Q kc ns M lv st pc := by
  have h1 : M = M.dropLast ++ [x] := (dl_gl h0).symm
  generalize M.dropLast = M1 at h1 hm hM
  clear h0
  subst hM h1
  have h2 : (M1.set i (S ++ x))[i]? = some (S ++ x) := by
    rw [List.getElem?_set_self]
    exact (List.getElem?_eq_some_iff.mp hm).1
  have h3 := fl_set (M := M1.set i (S ++ x)) (S1 := S) (x := x) h2 List.perm_append_comm
  rw [List.set_set, show M1.set i S = M1 from ls_self hm] at h3
  exact gg_perm h3.symm K
end GGseg
section GGtopV
variable {p : Program} {l : Launch} {e : Env} {R : Room} {s : State} {m : MethodId} {args : Array Value} {below : List Frame} {meth : Method} {c : Code} {g : gg_G} {A : Nat → Prop} {ro : gg_S} {nL : Nat} {Q : State → Prop} {kc ns : Nat} {M : List gg_S} {lv : List (Option Value)} {st : List Value} {pc : Nat} {cc : ByteArray} {own : String}
theorem gg_topV {v w : Value} (h : v = w) (K : gg_W p l e R s m args below meth c g A nL Q kc ns M lv (w :: st) pc) : gg_W p l e R s m args below meth c g A nL Q kc ns M lv (v :: st) pc := by
  rw [h]
  exact K
end GGtopV
section GGspl
variable {p : Program} {l : Launch} {e : Env} {R : Room} {s : State} {m : MethodId} {args : Array Value} {below : List Frame} {meth : Method} {c : Code} {g : gg_G} {A : Nat → Prop} {ro : gg_S} {nL : Nat} {Q : State → Prop} {kc ns : Nat} {M : List gg_S} {lv : List (Option Value)} {st : List Value} {pc : Nat} {cc : ByteArray} {own : String}
/-- a segment in two: the second part becomes the last segment -/
theorem gg_spl {S1 S2 : gg_S} {M' : List gg_S} (i : Nat) (hm : M[i]? = some (S1 ++ S2)) (hM : M.set i S1 ++ [S2] = M') (K : gg_W p l e R s m args below meth c g A nL Q kc ns M' lv st pc) : gg_W p l e R s m args below meth c g A nL Q kc ns M lv st pc := by
  subst hM
  exact gg_perm (fl_set hm List.perm_append_comm) K
/-- the last segment is let go -/
theorem gg_let {x : gg_S} {M1 : List gg_S} (h0 : M.getLast? = some x) (hM : M.dropLast = M1) (K : gg_W p l e R s m args below meth c g A nL Q kc ns M1 lv st pc) : gg_W p l e R s m args below meth c g A nL Q kc ns M lv st pc := by
  have h : M = M.dropLast ++ [x] := (dl_gl h0).symm
  rw [hM] at h
  subst h
  refine gg_drop ?_ K
  rw [List.flatten_append]
  exact List.sublist_append_left _ _
/-- an exception's segments in another order -/
theorem gg_xupG {X : String} {q : Nat} {a : gg_S} (bs r : List gg_S) (K : gg_X p l e R s m args below meth c g A nL Q kc ns (bs ++ a :: r) lv X q pc) : gg_X p l e R s m args below meth c g A nL Q kc ns (a :: (bs ++ r)) lv X q pc :=
  gg_xperm (List.Perm.flatten (List.perm_middle.symm)) K
theorem gg_xup1 {X : String} {q : Nat} {a b0 : gg_S} {r : List gg_S} (K : gg_X p l e R s m args below meth c g A nL Q kc ns (b0 :: a :: r) lv X q pc) : gg_X p l e R s m args below meth c g A nL Q kc ns (a :: b0 :: r) lv X q pc := gg_xupG [b0] r K
theorem gg_xup2 {X : String} {q : Nat} {a b0 b1 : gg_S} {r : List gg_S} (K : gg_X p l e R s m args below meth c g A nL Q kc ns (b0 :: b1 :: a :: r) lv X q pc) : gg_X p l e R s m args below meth c g A nL Q kc ns (a :: b0 :: b1 :: r) lv X q pc := gg_xupG [b0, b1] r K
theorem gg_xup3 {X : String} {q : Nat} {a b0 b1 b2 : gg_S} {r : List gg_S} (K : gg_X p l e R s m args below meth c g A nL Q kc ns (b0 :: b1 :: b2 :: a :: r) lv X q pc) : gg_X p l e R s m args below meth c g A nL Q kc ns (a :: b0 :: b1 :: b2 :: r) lv X q pc := gg_xupG [b0, b1, b2] r K
theorem gg_xup4 {X : String} {q : Nat} {a b0 b1 b2 b3 : gg_S} {r : List gg_S} (K : gg_X p l e R s m args below meth c g A nL Q kc ns (b0 :: b1 :: b2 :: b3 :: a :: r) lv X q pc) : gg_X p l e R s m args below meth c g A nL Q kc ns (a :: b0 :: b1 :: b2 :: b3 :: r) lv X q pc := gg_xupG [b0, b1, b2, b3] r K
theorem gg_xup5 {X : String} {q : Nat} {a b0 b1 b2 b3 b4 : gg_S} {r : List gg_S} (K : gg_X p l e R s m args below meth c g A nL Q kc ns (b0 :: b1 :: b2 :: b3 :: b4 :: a :: r) lv X q pc) : gg_X p l e R s m args below meth c g A nL Q kc ns (a :: b0 :: b1 :: b2 :: b3 :: b4 :: r) lv X q pc := gg_xupG [b0, b1, b2, b3, b4] r K
theorem gg_xup6 {X : String} {q : Nat} {a b0 b1 b2 b3 b4 b5 : gg_S} {r : List gg_S} (K : gg_X p l e R s m args below meth c g A nL Q kc ns (b0 :: b1 :: b2 :: b3 :: b4 :: b5 :: a :: r) lv X q pc) : gg_X p l e R s m args below meth c g A nL Q kc ns (a :: b0 :: b1 :: b2 :: b3 :: b4 :: b5 :: r) lv X q pc := gg_xupG [b0, b1, b2, b3, b4, b5] r K
theorem gg_xup7 {X : String} {q : Nat} {a b0 b1 b2 b3 b4 b5 b6 : gg_S} {r : List gg_S} (K : gg_X p l e R s m args below meth c g A nL Q kc ns (b0 :: b1 :: b2 :: b3 :: b4 :: b5 :: b6 :: a :: r) lv X q pc) : gg_X p l e R s m args below meth c g A nL Q kc ns (a :: b0 :: b1 :: b2 :: b3 :: b4 :: b5 :: b6 :: r) lv X q pc := gg_xupG [b0, b1, b2, b3, b4, b5, b6] r K
theorem gg_xup8 {X : String} {q : Nat} {a b0 b1 b2 b3 b4 b5 b6 b7 : gg_S} {r : List gg_S} (K : gg_X p l e R s m args below meth c g A nL Q kc ns (b0 :: b1 :: b2 :: b3 :: b4 :: b5 :: b6 :: b7 :: a :: r) lv X q pc) : gg_X p l e R s m args below meth c g A nL Q kc ns (a :: b0 :: b1 :: b2 :: b3 :: b4 :: b5 :: b6 :: b7 :: r) lv X q pc := gg_xupG [b0, b1, b2, b3, b4, b5, b6, b7] r K
theorem gg_xup9 {X : String} {q : Nat} {a b0 b1 b2 b3 b4 b5 b6 b7 b8 : gg_S} {r : List gg_S} (K : gg_X p l e R s m args below meth c g A nL Q kc ns (b0 :: b1 :: b2 :: b3 :: b4 :: b5 :: b6 :: b7 :: b8 :: a :: r) lv X q pc) : gg_X p l e R s m args below meth c g A nL Q kc ns (a :: b0 :: b1 :: b2 :: b3 :: b4 :: b5 :: b6 :: b7 :: b8 :: r) lv X q pc := gg_xupG [b0, b1, b2, b3, b4, b5, b6, b7, b8] r K
theorem gg_xup10 {X : String} {q : Nat} {a b0 b1 b2 b3 b4 b5 b6 b7 b8 b9 : gg_S} {r : List gg_S} (K : gg_X p l e R s m args below meth c g A nL Q kc ns (b0 :: b1 :: b2 :: b3 :: b4 :: b5 :: b6 :: b7 :: b8 :: b9 :: a :: r) lv X q pc) : gg_X p l e R s m args below meth c g A nL Q kc ns (a :: b0 :: b1 :: b2 :: b3 :: b4 :: b5 :: b6 :: b7 :: b8 :: b9 :: r) lv X q pc := gg_xupG [b0, b1, b2, b3, b4, b5, b6, b7, b8, b9] r K
theorem gg_xup11 {X : String} {q : Nat} {a b0 b1 b2 b3 b4 b5 b6 b7 b8 b9 b10 : gg_S} {r : List gg_S} (K : gg_X p l e R s m args below meth c g A nL Q kc ns (b0 :: b1 :: b2 :: b3 :: b4 :: b5 :: b6 :: b7 :: b8 :: b9 :: b10 :: a :: r) lv X q pc) : gg_X p l e R s m args below meth c g A nL Q kc ns (a :: b0 :: b1 :: b2 :: b3 :: b4 :: b5 :: b6 :: b7 :: b8 :: b9 :: b10 :: r) lv X q pc := gg_xupG [b0, b1, b2, b3, b4, b5, b6, b7, b8, b9, b10] r K
theorem gg_xup12 {X : String} {q : Nat} {a b0 b1 b2 b3 b4 b5 b6 b7 b8 b9 b10 b11 : gg_S} {r : List gg_S} (K : gg_X p l e R s m args below meth c g A nL Q kc ns (b0 :: b1 :: b2 :: b3 :: b4 :: b5 :: b6 :: b7 :: b8 :: b9 :: b10 :: b11 :: a :: r) lv X q pc) : gg_X p l e R s m args below meth c g A nL Q kc ns (a :: b0 :: b1 :: b2 :: b3 :: b4 :: b5 :: b6 :: b7 :: b8 :: b9 :: b10 :: b11 :: r) lv X q pc := gg_xupG [b0, b1, b2, b3, b4, b5, b6, b7, b8, b9, b10, b11] r K
theorem gg_xup13 {X : String} {q : Nat} {a b0 b1 b2 b3 b4 b5 b6 b7 b8 b9 b10 b11 b12 : gg_S} {r : List gg_S} (K : gg_X p l e R s m args below meth c g A nL Q kc ns (b0 :: b1 :: b2 :: b3 :: b4 :: b5 :: b6 :: b7 :: b8 :: b9 :: b10 :: b11 :: b12 :: a :: r) lv X q pc) : gg_X p l e R s m args below meth c g A nL Q kc ns (a :: b0 :: b1 :: b2 :: b3 :: b4 :: b5 :: b6 :: b7 :: b8 :: b9 :: b10 :: b11 :: b12 :: r) lv X q pc := gg_xupG [b0, b1, b2, b3, b4, b5, b6, b7, b8, b9, b10, b11, b12] r K
theorem gg_xup14 {X : String} {q : Nat} {a b0 b1 b2 b3 b4 b5 b6 b7 b8 b9 b10 b11 b12 b13 : gg_S} {r : List gg_S} (K : gg_X p l e R s m args below meth c g A nL Q kc ns (b0 :: b1 :: b2 :: b3 :: b4 :: b5 :: b6 :: b7 :: b8 :: b9 :: b10 :: b11 :: b12 :: b13 :: a :: r) lv X q pc) : gg_X p l e R s m args below meth c g A nL Q kc ns (a :: b0 :: b1 :: b2 :: b3 :: b4 :: b5 :: b6 :: b7 :: b8 :: b9 :: b10 :: b11 :: b12 :: b13 :: r) lv X q pc := gg_xupG [b0, b1, b2, b3, b4, b5, b6, b7, b8, b9, b10, b11, b12, b13] r K
theorem gg_xup15 {X : String} {q : Nat} {a b0 b1 b2 b3 b4 b5 b6 b7 b8 b9 b10 b11 b12 b13 b14 : gg_S} {r : List gg_S} (K : gg_X p l e R s m args below meth c g A nL Q kc ns (b0 :: b1 :: b2 :: b3 :: b4 :: b5 :: b6 :: b7 :: b8 :: b9 :: b10 :: b11 :: b12 :: b13 :: b14 :: a :: r) lv X q pc) : gg_X p l e R s m args below meth c g A nL Q kc ns (a :: b0 :: b1 :: b2 :: b3 :: b4 :: b5 :: b6 :: b7 :: b8 :: b9 :: b10 :: b11 :: b12 :: b13 :: b14 :: r) lv X q pc := gg_xupG [b0, b1, b2, b3, b4, b5, b6, b7, b8, b9, b10, b11, b12, b13, b14] r K
theorem gg_xup16 {X : String} {q : Nat} {a b0 b1 b2 b3 b4 b5 b6 b7 b8 b9 b10 b11 b12 b13 b14 b15 : gg_S} {r : List gg_S} (K : gg_X p l e R s m args below meth c g A nL Q kc ns (b0 :: b1 :: b2 :: b3 :: b4 :: b5 :: b6 :: b7 :: b8 :: b9 :: b10 :: b11 :: b12 :: b13 :: b14 :: b15 :: a :: r) lv X q pc) : gg_X p l e R s m args below meth c g A nL Q kc ns (a :: b0 :: b1 :: b2 :: b3 :: b4 :: b5 :: b6 :: b7 :: b8 :: b9 :: b10 :: b11 :: b12 :: b13 :: b14 :: b15 :: r) lv X q pc := gg_xupG [b0, b1, b2, b3, b4, b5, b6, b7, b8, b9, b10, b11, b12, b13, b14, b15] r K
theorem gg_xup17 {X : String} {q : Nat} {a b0 b1 b2 b3 b4 b5 b6 b7 b8 b9 b10 b11 b12 b13 b14 b15 b16 : gg_S} {r : List gg_S} (K : gg_X p l e R s m args below meth c g A nL Q kc ns (b0 :: b1 :: b2 :: b3 :: b4 :: b5 :: b6 :: b7 :: b8 :: b9 :: b10 :: b11 :: b12 :: b13 :: b14 :: b15 :: b16 :: a :: r) lv X q pc) : gg_X p l e R s m args below meth c g A nL Q kc ns (a :: b0 :: b1 :: b2 :: b3 :: b4 :: b5 :: b6 :: b7 :: b8 :: b9 :: b10 :: b11 :: b12 :: b13 :: b14 :: b15 :: b16 :: r) lv X q pc := gg_xupG [b0, b1, b2, b3, b4, b5, b6, b7, b8, b9, b10, b11, b12, b13, b14, b15, b16] r K
theorem gg_xup18 {X : String} {q : Nat} {a b0 b1 b2 b3 b4 b5 b6 b7 b8 b9 b10 b11 b12 b13 b14 b15 b16 b17 : gg_S} {r : List gg_S} (K : gg_X p l e R s m args below meth c g A nL Q kc ns (b0 :: b1 :: b2 :: b3 :: b4 :: b5 :: b6 :: b7 :: b8 :: b9 :: b10 :: b11 :: b12 :: b13 :: b14 :: b15 :: b16 :: b17 :: a :: r) lv X q pc) : gg_X p l e R s m args below meth c g A nL Q kc ns (a :: b0 :: b1 :: b2 :: b3 :: b4 :: b5 :: b6 :: b7 :: b8 :: b9 :: b10 :: b11 :: b12 :: b13 :: b14 :: b15 :: b16 :: b17 :: r) lv X q pc := gg_xupG [b0, b1, b2, b3, b4, b5, b6, b7, b8, b9, b10, b11, b12, b13, b14, b15, b16, b17] r K
theorem gg_up16 {a b0 b1 b2 b3 b4 b5 b6 b7 b8 b9 b10 b11 b12 b13 b14 b15 : gg_S} {r : List gg_S} (K : gg_W p l e R s m args below meth c g A nL Q kc ns (b0 :: b1 :: b2 :: b3 :: b4 :: b5 :: b6 :: b7 :: b8 :: b9 :: b10 :: b11 :: b12 :: b13 :: b14 :: b15 :: a :: r) lv st pc) : gg_W p l e R s m args below meth c g A nL Q kc ns (a :: b0 :: b1 :: b2 :: b3 :: b4 :: b5 :: b6 :: b7 :: b8 :: b9 :: b10 :: b11 :: b12 :: b13 :: b14 :: b15 :: r) lv st pc := gg_upG [b0, b1, b2, b3, b4, b5, b6, b7, b8, b9, b10, b11, b12, b13, b14, b15] r K
theorem gg_up17 {a b0 b1 b2 b3 b4 b5 b6 b7 b8 b9 b10 b11 b12 b13 b14 b15 b16 : gg_S} {r : List gg_S} (K : gg_W p l e R s m args below meth c g A nL Q kc ns (b0 :: b1 :: b2 :: b3 :: b4 :: b5 :: b6 :: b7 :: b8 :: b9 :: b10 :: b11 :: b12 :: b13 :: b14 :: b15 :: b16 :: a :: r) lv st pc) : gg_W p l e R s m args below meth c g A nL Q kc ns (a :: b0 :: b1 :: b2 :: b3 :: b4 :: b5 :: b6 :: b7 :: b8 :: b9 :: b10 :: b11 :: b12 :: b13 :: b14 :: b15 :: b16 :: r) lv st pc := gg_upG [b0, b1, b2, b3, b4, b5, b6, b7, b8, b9, b10, b11, b12, b13, b14, b15, b16] r K
theorem gg_up18 {a b0 b1 b2 b3 b4 b5 b6 b7 b8 b9 b10 b11 b12 b13 b14 b15 b16 b17 : gg_S} {r : List gg_S} (K : gg_W p l e R s m args below meth c g A nL Q kc ns (b0 :: b1 :: b2 :: b3 :: b4 :: b5 :: b6 :: b7 :: b8 :: b9 :: b10 :: b11 :: b12 :: b13 :: b14 :: b15 :: b16 :: b17 :: a :: r) lv st pc) : gg_W p l e R s m args below meth c g A nL Q kc ns (a :: b0 :: b1 :: b2 :: b3 :: b4 :: b5 :: b6 :: b7 :: b8 :: b9 :: b10 :: b11 :: b12 :: b13 :: b14 :: b15 :: b16 :: b17 :: r) lv st pc := gg_upG [b0, b1, b2, b3, b4, b5, b6, b7, b8, b9, b10, b11, b12, b13, b14, b15, b16, b17] r K
theorem gg_up19 {a b0 b1 b2 b3 b4 b5 b6 b7 b8 b9 b10 b11 b12 b13 b14 b15 b16 b17 b18 : gg_S} {r : List gg_S} (K : gg_W p l e R s m args below meth c g A nL Q kc ns (b0 :: b1 :: b2 :: b3 :: b4 :: b5 :: b6 :: b7 :: b8 :: b9 :: b10 :: b11 :: b12 :: b13 :: b14 :: b15 :: b16 :: b17 :: b18 :: a :: r) lv st pc) : gg_W p l e R s m args below meth c g A nL Q kc ns (a :: b0 :: b1 :: b2 :: b3 :: b4 :: b5 :: b6 :: b7 :: b8 :: b9 :: b10 :: b11 :: b12 :: b13 :: b14 :: b15 :: b16 :: b17 :: b18 :: r) lv st pc := gg_upG [b0, b1, b2, b3, b4, b5, b6, b7, b8, b9, b10, b11, b12, b13, b14, b15, b16, b17, b18] r K
theorem gg_up20 {a b0 b1 b2 b3 b4 b5 b6 b7 b8 b9 b10 b11 b12 b13 b14 b15 b16 b17 b18 b19 : gg_S} {r : List gg_S} (K : gg_W p l e R s m args below meth c g A nL Q kc ns (b0 :: b1 :: b2 :: b3 :: b4 :: b5 :: b6 :: b7 :: b8 :: b9 :: b10 :: b11 :: b12 :: b13 :: b14 :: b15 :: b16 :: b17 :: b18 :: b19 :: a :: r) lv st pc) : gg_W p l e R s m args below meth c g A nL Q kc ns (a :: b0 :: b1 :: b2 :: b3 :: b4 :: b5 :: b6 :: b7 :: b8 :: b9 :: b10 :: b11 :: b12 :: b13 :: b14 :: b15 :: b16 :: b17 :: b18 :: b19 :: r) lv st pc := gg_upG [b0, b1, b2, b3, b4, b5, b6, b7, b8, b9, b10, b11, b12, b13, b14, b15, b16, b17, b18, b19] r K
theorem gg_up21 {a b0 b1 b2 b3 b4 b5 b6 b7 b8 b9 b10 b11 b12 b13 b14 b15 b16 b17 b18 b19 b20 : gg_S} {r : List gg_S} (K : gg_W p l e R s m args below meth c g A nL Q kc ns (b0 :: b1 :: b2 :: b3 :: b4 :: b5 :: b6 :: b7 :: b8 :: b9 :: b10 :: b11 :: b12 :: b13 :: b14 :: b15 :: b16 :: b17 :: b18 :: b19 :: b20 :: a :: r) lv st pc) : gg_W p l e R s m args below meth c g A nL Q kc ns (a :: b0 :: b1 :: b2 :: b3 :: b4 :: b5 :: b6 :: b7 :: b8 :: b9 :: b10 :: b11 :: b12 :: b13 :: b14 :: b15 :: b16 :: b17 :: b18 :: b19 :: b20 :: r) lv st pc := gg_upG [b0, b1, b2, b3, b4, b5, b6, b7, b8, b9, b10, b11, b12, b13, b14, b15, b16, b17, b18, b19, b20] r K
theorem gg_up22 {a b0 b1 b2 b3 b4 b5 b6 b7 b8 b9 b10 b11 b12 b13 b14 b15 b16 b17 b18 b19 b20 b21 : gg_S} {r : List gg_S} (K : gg_W p l e R s m args below meth c g A nL Q kc ns (b0 :: b1 :: b2 :: b3 :: b4 :: b5 :: b6 :: b7 :: b8 :: b9 :: b10 :: b11 :: b12 :: b13 :: b14 :: b15 :: b16 :: b17 :: b18 :: b19 :: b20 :: b21 :: a :: r) lv st pc) : gg_W p l e R s m args below meth c g A nL Q kc ns (a :: b0 :: b1 :: b2 :: b3 :: b4 :: b5 :: b6 :: b7 :: b8 :: b9 :: b10 :: b11 :: b12 :: b13 :: b14 :: b15 :: b16 :: b17 :: b18 :: b19 :: b20 :: b21 :: r) lv st pc := gg_upG [b0, b1, b2, b3, b4, b5, b6, b7, b8, b9, b10, b11, b12, b13, b14, b15, b16, b17, b18, b19, b20, b21] r K
theorem gg_up23 {a b0 b1 b2 b3 b4 b5 b6 b7 b8 b9 b10 b11 b12 b13 b14 b15 b16 b17 b18 b19 b20 b21 b22 : gg_S} {r : List gg_S} (K : gg_W p l e R s m args below meth c g A nL Q kc ns (b0 :: b1 :: b2 :: b3 :: b4 :: b5 :: b6 :: b7 :: b8 :: b9 :: b10 :: b11 :: b12 :: b13 :: b14 :: b15 :: b16 :: b17 :: b18 :: b19 :: b20 :: b21 :: b22 :: a :: r) lv st pc) : gg_W p l e R s m args below meth c g A nL Q kc ns (a :: b0 :: b1 :: b2 :: b3 :: b4 :: b5 :: b6 :: b7 :: b8 :: b9 :: b10 :: b11 :: b12 :: b13 :: b14 :: b15 :: b16 :: b17 :: b18 :: b19 :: b20 :: b21 :: b22 :: r) lv st pc := gg_upG [b0, b1, b2, b3, b4, b5, b6, b7, b8, b9, b10, b11, b12, b13, b14, b15, b16, b17, b18, b19, b20, b21, b22] r K
theorem gg_up24 {a b0 b1 b2 b3 b4 b5 b6 b7 b8 b9 b10 b11 b12 b13 b14 b15 b16 b17 b18 b19 b20 b21 b22 b23 : gg_S} {r : List gg_S} (K : gg_W p l e R s m args below meth c g A nL Q kc ns (b0 :: b1 :: b2 :: b3 :: b4 :: b5 :: b6 :: b7 :: b8 :: b9 :: b10 :: b11 :: b12 :: b13 :: b14 :: b15 :: b16 :: b17 :: b18 :: b19 :: b20 :: b21 :: b22 :: b23 :: a :: r) lv st pc) : gg_W p l e R s m args below meth c g A nL Q kc ns (a :: b0 :: b1 :: b2 :: b3 :: b4 :: b5 :: b6 :: b7 :: b8 :: b9 :: b10 :: b11 :: b12 :: b13 :: b14 :: b15 :: b16 :: b17 :: b18 :: b19 :: b20 :: b21 :: b22 :: b23 :: r) lv st pc := gg_upG [b0, b1, b2, b3, b4, b5, b6, b7, b8, b9, b10, b11, b12, b13, b14, b15, b16, b17, b18, b19, b20, b21, b22, b23] r K
end GGspl
section GGcopy
variable {p : Program} {l : Launch} {e : Env} {R : Room} {s : State} {m : MethodId} {args : Array Value} {below : List Frame} {meth : Method} {c : Code} {g : gg_G} {A : Nat → Prop} {ro : gg_S} {nL : Nat} {Q : State → Prop} {kc ns : Nat} {M : List gg_S} {lv : List (Option Value)} {st : List Value} {pc : Nat} {cc : ByteArray} {own : String}
/-- System.arraycopy of the first k ints -/
theorem gg_copyI (E : gg_V p l s m args meth c cc nL own g A ro) {index a0 a n0 n1 k : Nat} {f h : Nat → Int32} {M' : List gg_S} (q1 : Cond.methodLink own index arraycopyName ∈ lw_all) (q2 : Cond.native arraycopyName ∈ lw_all) (q3 : Cond.static arraycopyName ∈ lw_all) (q4 : Cond.initialized "java/lang/System" ∈ lw_all) (hdg : decode cc pc = .ok (.invokestatic index, 3))
    (hm0 : gg_in g M ro (a0, gg_ai g n0 f)) (i : Nat) (hm : M[i]? = some [(a, gg_ai g n1 h)]) (h0 : k ≤ n0) (h1 : k ≤ n1) (hk : k < 2 ^ 31) (hRf : 1 ≤ R.frames) (hRl : (st.map fun v => v.category).sum + (nativeFrameWords "java/lang/System" "arraycopy" 5 + 11) ≤ R.locals)
    (hM : M.set i [(a, gg_ai g n1 (fun j => if j < k then f j else h j))] = M') (K : gg_W p l e R s m args below meth c g A nL Q kc ns M' lv st (pc + 3)) : gg_W p l e R s m args below meth c g A nL Q kc ns M lv (.int (nI k) :: .int 0 :: .ref a :: .int 0 :: .ref a0 :: st) pc := by
  intro H locs ls hP hD hS hl T hT X
  have hc0 : H[a0]? = some (arrV (g.2.1 0) n0 (fun j => .int (f j))) := hm0.at E hP hS
  have hc1 : H[a]? = some (arrV (g.2.1 0) n1 (fun j => .int (h j))) := gg_atm hm hP
  have hK := E.2.2.2.2.2.1.1
  obtain ⟨-, k0, hk0, cm0, hkk0⟩ := (hK.2 0 _ rfl).1 n0 (fun j => .int (f j))
  obtain ⟨-, k1, hk1, cm1, hkk1⟩ := (hK.2 0 _ rfl).1 n1 (fun j => .int (h j))
  have z0 : (0 : Int32).toNatClampNeg = 0 := by decide
  have zi : (0 : Int32).toInt = 0 := by decide
  have zn : (nI k).toNatClampNeg = k := nI_clamp hk
  obtain ⟨vm', X', step⟩ := X.arraycopy E.1 E.2.2.2.1 (E.2.2.2.2.1 _ q1) (E.2.2.2.2.1 _ q2) (E.2.2.2.2.1 _ q3) (E.2.2.2.2.1 _ q4) (src := a0) (dst := a) (cs := arrV (g.2.1 0) n0 (fun j => .int (f j))) (cd := arrV (g.2.1 0) n1 (fun j => .int (h j))) (srcPos := 0) (destPos := 0) (n := nI k) (by rw [hT]; exact hc0) (by rw [hT]; exact hc1)
    (fun _ h => by cases h) (fun _ h => by cases h) (fun h => by cases h) (fun h => by cases h) hk0 hk1 hkk0 hkk1 (by simp [refKind]) (by decide) (by decide) (nI_pos hk)
    (by rw [zi, nI_toInt hk]; show ¬ _ > ((arrV (g.2.1 0) n0 (fun j => .int (f j))).slots.size : Int); rw [arrV_size]; omega)
    (by rw [zi, nI_toInt hk]; show ¬ _ > ((arrV (g.2.1 0) n1 (fun j => .int (h j))).slots.size : Int); rw [arrV_size]; omega)
    (fun vm₁ _ i hi => by
      rw [zn] at hi
      have e : (arrV (g.2.1 0) n0 (fun j => .int (f j))).slots.getD ((0 : Int32).toNatClampNeg + i) .null = .int (f i) := by
        rw [z0, Nat.zero_add, Array.getD_eq_getD_getElem?, arrV_read _ _ (by omega)]
        rfl
      refine ⟨?_, ?_⟩
      · rw [e]
        rfl
      · rw [e]
        exact trivial)
    (g := F0 m pc ls (.int (nI k) :: .int 0 :: .ref a :: .int 0 :: .ref a0 :: st)) rfl (by show ls.size = _; rw [E.2.2.1]; exact hl.1) (rest := st) rfl (by rw [E.2.1]; exact hdg) hRf (by show 2 * 0 + _ + _ ≤ _; omega)
  have e0 : (fun j => Value.int (if j < k then f j else h j)) = fun j => Value.int (va_cpy f h 0 0 k j) := by
    funext j
    unfold va_cpy
    by_cases q : j < k
    · rw [if_pos q, if_pos ⟨Nat.zero_le _, by omega⟩, Nat.zero_add, Nat.sub_zero]
    · rw [if_neg q, if_neg (by omega)]
  have e1 : copied (arrV (g.2.1 0) n0 (fun j => .int (f j))) (arrV (g.2.1 0) n1 (fun j => .int (h j))) 0 0 (nI k) = arrV (g.2.1 0) n1 (fun j => .int (if j < k then f j else h j)) := by
    rw [e0]
    have := va_copied (fun z => Value.int z) (g.2.1 0) (g.2.1 0) (n0 := n0) (n1 := n1) (sp := 0) (dp := 0) (n := k) f h (by omega)
    rw [← this]
    unfold copied
    rw [z0, zn]
  rw [e1] at X' step
  have hlt : a < H.size := (Array.getElem?_eq_some_iff.mp hc1).1
  have hM2 : M.set i [(a, .inr (arrV (g.2.1 0) n1 (fun j => Value.int (if j < k then f j else h j))))] = M' := hM
  clear hM
  generalize hnew : arrV (g.2.1 0) n1 (fun j => Value.int (if j < k then f j else h j)) = nc at X' step hM2
  have hheap : ((T.setVm vm').setCell a nc).heap = H.setIfInBounds a nc := by rw [← hT]; rfl
  have oq : ∀ q : Nat, q ≠ a → (H.setIfInBounds a nc)[q]? = H[q]? := fun q hq => by simp [Array.getElem?_setIfInBounds, Ne.symm hq]
  have haA : A a := hD.2 (a, gg_ai g n1 h) (List.mem_flatten.mpr ⟨_, List.mem_of_getElem? hm, List.mem_singleton.mpr rfl⟩)
  obtain ⟨w1, w2⟩ := gg_swap1 (y := .inr nc) hm hM2 hP hD (show (H.setIfInBounds a nc)[a]? = some nc by simp [Array.getElem?_setIfInBounds, hlt]) oq
  obtain ⟨t, a1, b1⟩ := K _ _ ls w1 w2 ⟨by simp; exact hS.1, fun q g1 g2 => by
      rw [oq q (fun e => g2 (by rw [e]; exact haA))]
      exact hS.2.1 q g1 g2, fun q hq => by
      rcases List.mem_append.mp hq with h | h
      · exact hS.2.2 q h
      · obtain ⟨z, -, hz⟩ := List.mem_map.mp h
        rw [← hz]
        exact haA⟩ hl _ hheap X'
  exact ⟨t, step t a1, b1⟩
end GGcopy

section GGcwO
variable {p : Program} {l : Launch} {e : Env} {R : Room} {s : State} {args : Array Value}
/-- an overriding method, by the word 'declares' for what the reference names -/
theorem gg_cwO {own C owner : String} {index maxL mc ms : Nat} {x y : MethodName} {bytes : ByteArray} {ret : Option FieldType} {Ts ws ws' : List Cond} {rm : Room} (n : Nat) (ht : ∀ w ∈ Ts, w.before args s = true) (hT : GoodIn Ts (va_wsU own index C owner x y ws)) (hw : ws = Cond.code y bytes maxL ret :: ws') (hrc : rm.cells = mc) (hrs : rm.slots = ms)
    (hdc : (Cond.declares ⟨owner, x.name, x.desc⟩).before args s = true) (hd : owner ≠ "java/lang/invoke/MethodHandle" ∧ owner ≠ "java/lang/invoke/VarHandle" ∧ (parseMethodDescriptor x.desc).map (fun d => d.parameters.length) = some n) (hR : rm.frames + 1 ≤ R.frames ∧ 8 + (maxL + 11) + rm.locals ≤ R.locals) : va_CU R s args own C owner index x y bytes maxL ret ws rm mc ms n := by
  have ok : ∀ w ∈ va_wsU own index C owner x y ws, w.before args s = true := fun w h => ht w (hT w h).1
  have hG : GoodIn Ts ws := fun w h => hT w (by unfold va_wsU; exact List.mem_append_right _ h)
  have hc : Cond.code y bytes maxL ret ∈ ws := by rw [hw]; exact List.mem_cons_self
  obtain ⟨r0, r, h1, h2, h3, h4⟩ := Cond.declares_spec hdc
  refine ⟨⟨hrc, hrs, hR.1, hR.2, pay_in ht hG, hc⟩, ht _ (hG _ hc).1, ok _ (by simp [va_wsU]), ⟨hd.1, hd.2.1⟩, fun sig h => ?_, ok _ (by simp [va_wsU]), ok _ (by simp [va_wsU]), ⟨r0, r, h1, h2, h3, h4⟩, ok _ (by simp [va_wsU]), ok _ (by simp [va_wsU])⟩
  have h2 := hd.2.2
  rw [h] at h2
  exact (Option.some.inj h2).symm
end GGcwO

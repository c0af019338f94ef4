set_option maxRecDepth 100000
/-! ===== rows: instanceof, checkcast of a byte array, lookupswitch ===== -/
section GGld
variable {p : Program} {l : Launch} {e : Env} {R : Room} {s : State} {m : MethodId} {args : Array Value} {below : List Frame} {meth : Method} {c : Code} {g : gg_G} {A : Nat → Prop} {ro : gg_S} {nL : Nat} {Q : State → Prop} {kc ns : Nat} {M : List gg_S} {lv : List (Option Value)} {st : List Value} {pc : Nat} {cc : ByteArray} {own : String}
theorem gg_inst (E : gg_V p l s m args meth c cc nL own g A ro) {ci N : Nat} {Cn nm : String} {T : u_T} {ty : Nat → FieldType} (ck : gg_ck ci Cn T N ty) {index a : Nat} {fs : List Value} (q : Cond.classLink own index nm ∈ lw_all) (hc : Cn = nm ∨ Cond.castable Cn nm ∈ gg_nw) (hdg : decode cc pc = .ok (.instanceof index, 3)) (hm : gg_in g M ro (a, .inl (ci, fs))) (K : gg_W p l e R s m args below meth c g A nL Q kc ns M lv (.int 1 :: st) (pc + 3)) : gg_W p l e R s m args below meth c g A nL Q kc ns M lv (.ref a :: st) pc := by
  intro H locs ls hP hD hS hl
  rcases hc with rfl | hc
  · exact va_instS E.1 E.2.1 E.2.2.2.1 (E.2.2.2.2.1 _ q) (E.2.2.2.2.2.1.1.1 ci _ ck.1).2 (gg_recv E ck (hm.at E hP hS)) hdg (K H locs ls hP hD hS hl)
  · exact va_instY E.1 E.2.1 E.2.2.2.1 (E.2.2.2.2.1 _ q) (E.2.2.2.2.2.1.2.1 _ hc) (gg_recv E ck (hm.at E hP hS)) hdg (K H locs ls hP hD hS hl)
theorem gg_nmB (E : gg_V p l s m args meth c cc nL own g A ro) : s.vm.findClass "[B" = some (g.2.1 1) := by
  rw [show "[B" = "[" ++ (FieldType.byte).toString from by decide]
  exact (E.2.2.2.2.2.1.1.2 1 _ rfl).2
theorem gg_castB (E : gg_V p l s m args meth c cc nL own g A ro) {index a n : Nat} {f : Nat → Int32} (q : Cond.classLink own index "[B" ∈ lw_all) (hdg : decode cc pc = .ok (.checkcast index, 3)) (hm : gg_in g M ro (a, gg_ab g n f)) (K : gg_W p l e R s m args below meth c g A nL Q kc ns M lv (.ref a :: st) (pc + 3)) : gg_W p l e R s m args below meth c g A nL Q kc ns M lv (.ref a :: st) pc := by
  intro H locs ls hP hD hS hl T hT X
  obtain ⟨vm', X', st⟩ := X.checkcastYes E.1 E.2.2.2.1 (E.2.2.2.2.1 _ q) (by rw [hT]; exact hm.at E hP hS) rfl (gg_nmB E) (va_asg _ _) (g := F0 m pc ls (.ref a :: st)) rfl rfl (by rw [E.2.1]; exact hdg)
  obtain ⟨t, a1, b1⟩ := K H locs ls hP hD hS hl (T.setVm vm') hT X'
  exact ⟨t, st t a1, b1⟩
/-- one place, one object -/
theorem gg_sameO (E : gg_V p l s m args meth c cc nL own g A ro) {ci N : Nat} {Cn : String} {T : u_T} {ty : Nat → FieldType} (ck : gg_ck ci Cn T N ty) {a : Nat} {fs fs' : List Value} (h1 : gg_in g M ro (a, .inl (ci, fs))) (h2 : gg_in g M ro (a, .inl (ci, fs'))) (K : (∀ k, k < N → vp_V fs k = vp_V fs' k) → gg_W p l e R s m args below meth c g A nL Q kc ns M lv st pc) : gg_W p l e R s m args below meth c g A nL Q kc ns M lv st pc := by
  intro H locs ls hP hD hS hl
  refine K (fun k hk => ?_) H locs ls hP hD hS hl
  obtain ⟨r, hr, cell, q1, -, -, q4⟩ := h1.at E hP hS
  obtain ⟨r', hr', cell', q1', -, -, q4'⟩ := h2.at E hP hS
  have e1 := hr.symm.trans ck.1
  have e2 := hr'.symm.trans ck.1
  cases Option.some.inj e1
  cases Option.some.inj e2
  cases q1.symm.trans q1'
  exact Option.some.inj ((q4 k hk).symm.trans (q4' k hk))
theorem gg_sameB (E : gg_V p l s m args meth c cc nL own g A ro) {a n1 n2 : Nat} {f1 f2 : Nat → Int32} (h1 : gg_in g M ro (a, gg_ab g n1 f1)) (h2 : gg_in g M ro (a, gg_ab g n2 f2)) (K : (n1 = n2 ∧ ∀ j, j < n1 → f1 j = f2 j) → gg_W p l e R s m args below meth c g A nL Q kc ns M lv st pc) : gg_W p l e R s m args below meth c g A nL Q kc ns M lv st pc := by
  intro H locs ls hP hD hS hl
  have c1 : H[a]? = some (arrV (g.2.1 1) n1 (fun j => .int (f1 j))) := h1.at E hP hS
  have c2 : H[a]? = some (arrV (g.2.1 1) n2 (fun j => .int (f2 j))) := h2.at E hP hS
  have e := Option.some.inj (c1.symm.trans c2)
  have en : n1 = n2 := by
    have := congrArg (fun z : Cell => z.slots.size) e
    simpa [arrV_size] using this
  refine K ⟨en, fun j hj => ?_⟩ H locs ls hP hD hS hl
  have r1 := arrV_read (g.2.1 1) (fun j => Value.int (f1 j)) hj
  have r2 := arrV_read (g.2.1 1) (fun j => Value.int (f2 j)) (show j < n2 by omega)
  rw [e, r2] at r1
  exact (Value.int.inj (Option.some.inj r1)).symm
end GGld
section GGcwP
variable {p : Program} {l : Launch} {e : Env} {R : Room} {s : State} {args : Array Value}
/-- a private method, on an object of a class below its own -/
theorem gg_selP {C C0 : String} {x0 y0 y : MethodName} {cC : ClassId} (h0 : (Cond.selects C0 x0 y0).before args s = true) (hy0 : y0.cls = y.cls) (hC : s.vm.findClass C = some cC) (hpr : (Cond.privateMethod y).before args s = true) (hinst : (Cond.instanceMethod y).before args s = true) (hy : y.cls ≠ "java/lang/invoke/MethodHandle" ∧ y.cls ≠ "java/lang/invoke/VarHandle") : (Cond.selects C y y).before args s = true := by
  obtain ⟨c, r, m0, q1, q2, q3, q4, kP, hkP, hni⟩ := Cond.selects_spec h0
  obtain ⟨mk, methM, hnamed, hmethM, -, -⟩ := Cond.instanceMethod_spec hinst
  have hfound : s.methodFound? y.cls y.name y.desc = some mk := State.methodFound?_of_named hnamed hy
  have e1 := findClass_of_methodNamed hnamed
  have e2 := findClass_of_methodNamed q3
  rw [hy0] at e2
  have hcls : m0.cls = mk.cls := Option.some.inj (e2.symm.trans e1)
  rw [hcls] at hkP
  have hsel : selectMethod {} s.vm cC mk = .method mk := selectMethod_private hmethM (Cond.privateMethod_at hpr mk methM hnamed hmethM)
  simp only [Cond.before, Cond.holds, Cond.value, hC, hfound, hnamed, hsel, hkP]
  simp
  exact hni
theorem gg_cwP {own C C0 : String} {index maxL mc ms : Nat} {y x0 y0 : MethodName} {cC : ClassId} {bytes : ByteArray} {ret : Option FieldType} {Ts ws ws' : List Cond} {rm : Room} (n : Nat) (ht : ∀ w ∈ Ts, w.before args s = true) (hT : GoodIn Ts (([.methodLink own index y, .sameMethod y.cls y.cls y.name y.desc, .instanceMethod y, .initialized y.cls] : List Cond) ++ ws)) (hw : ws = Cond.code y bytes maxL ret :: ws') (hrc : rm.cells = mc) (hrs : rm.slots = ms) (hpr : (Cond.privateMethod y).before args s = true) (h0 : (Cond.selects C0 x0 y0).before args s = true) (hy0 : y0.cls = y.cls) (hC : s.vm.findClass C = some cC)
    (hd : y.cls ≠ "java/lang/invoke/MethodHandle" ∧ y.cls ≠ "java/lang/invoke/VarHandle" ∧ (parseMethodDescriptor y.desc).map (fun d => d.parameters.length) = some n) (hR : rm.frames + 1 ≤ R.frames ∧ 8 + (maxL + 11) + rm.locals ≤ R.locals) : va_CU R s args own C y.cls index y y bytes maxL ret ws rm mc ms n := by
  have ok : ∀ w ∈ (([.methodLink own index y, .sameMethod y.cls y.cls y.name y.desc, .instanceMethod y, .initialized y.cls] : List Cond) ++ ws), w.before args s = true := fun w h => ht w (hT w h).1
  have hG : GoodIn Ts ws := fun w h => hT w (List.mem_append_right _ h)
  have hc : Cond.code y bytes maxL ret ∈ ws := by rw [hw]; exact List.mem_cons_self
  have hi : (Cond.instanceMethod y).before args s = true := ok _ (by simp)
  refine ⟨⟨hrc, hrs, hR.1, hR.2, pay_in ht hG, hc⟩, ht _ (hG _ hc).1, ok _ (by simp), ⟨hd.1, hd.2.1⟩, fun sig h => ?_, ok _ (by simp), ok _ (by simp), va_Decl.of hi (ht _ (hG _ hc).1), gg_selP h0 hy0 hC hpr hi ⟨hd.1, hd.2.1⟩, hi⟩
  have h2 := hd.2.2
  rw [h] at h2
  exact (Option.some.inj h2).symm
end GGcwP

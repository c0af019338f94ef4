set_option maxRecDepth 100000
/-! ===== cells of one segment lie apart; class objects; arraycopy of references and of bytes ===== -/
theorem mp_ndI {F : Nat → Nat × gg_E} {n : Nat} (h : ((mp F n).map Prod.fst).Nodup) {a b : Nat} (ha : a < n) (hb : b < n) (e : (F a).1 = (F b).1) : a = b := by
  unfold mp at h
  rw [List.map_map] at h
  have h2 := List.pairwise_map.mp h
  rcases Nat.lt_trichotomy a b with q | q | q
  · exact absurd e (List.pairwise_iff_getElem.mp h2 a b (by simpa using ha) (by simpa using hb) q |> fun z => by simpa using z)
  · exact q
  · exact absurd e.symm (List.pairwise_iff_getElem.mp h2 b a (by simpa using hb) (by simpa using ha) q |> fun z => by simpa using z)
section GGlc
variable {p : Program} {l : Launch} {e : Env} {R : Room} {s : State} {m : MethodId} {args : Array Value} {below : List Frame} {meth : Method} {c : Code} {g : gg_G} {A : Nat → Prop} {ro : gg_S} {nL : Nat} {Q : State → Prop} {kc ns : Nat} {M : List gg_S} {lv : List (Option Value)} {st : List Value} {pc : Nat} {cc : ByteArray} {own : String}
theorem gg_dst {S : gg_S} (i : Nat) (hm : M[i]? = some S) (K : (S.map Prod.fst).Nodup → gg_W p l e R s m args below meth c g A nL Q kc ns M lv st pc) : gg_W p l e R s m args below meth c g A nL Q kc ns M lv st pc := by
  intro H locs ls hP hD hS hl
  refine K ?_ H locs ls hP hD hS hl
  obtain ⟨hi, rfl⟩ := List.getElem?_eq_some_iff.mp hm
  exact List.Nodup.sublist ((List.sublist_flatten_of_mem (List.getElem_mem hi)).map _) hD.1
theorem gg_ldcM (E : gg_V p l s m args meth c cc nL own g A ro) {index mi : Nat} {C : String} (q : Cond.classLink own index C ∈ lw_all) (hM : va_Mi C mi s) (hdg : decode cc pc = .ok (.ldc index, 2)) (K : gg_W p l e R s m args below meth c g A nL Q kc ns M lv (.ref mi :: st) (pc + 2)) : gg_W p l e R s m args below meth c g A nL Q kc ns M lv st pc :=
  fun H locs ls hP hD hS hl => va_ldcM E.1 E.2.1 E.2.2.2.1 (E.2.2.2.2.1 _ q) hM hdg (K H locs ls hP hD hS hl)
theorem gg_mi (E : gg_V p l s m args meth c cc nL own g A ro) : va_Mi "[Ljava/lang/Object;" (g.2.2.1 9) s := E.2.2.2.2.2.1.2.2.2.2.2
theorem gg_getC (E : gg_V p l s m args meth c cc nL own g A ro) {index a n : Nat} {f : Nat → Option Nat} (q1 : Cond.methodLink own index ⟨"java/lang/Object", "getClass", "()Ljava/lang/Class;"⟩ ∈ lw_all) (q2 : Cond.declares ⟨"java/lang/Object", "getClass", "()Ljava/lang/Class;"⟩ ∈ gg_nw) (q3 : Cond.selects "[Ljava/lang/Object;" ⟨"java/lang/Object", "getClass", "()Ljava/lang/Class;"⟩ ⟨"java/lang/Object", "getClass", "()Ljava/lang/Class;"⟩ ∈ lw_all) (q4 : Cond.instanceMethod ⟨"java/lang/Object", "getClass", "()Ljava/lang/Class;"⟩ ∈ lw_all) (q5 : Cond.native ⟨"java/lang/Object", "getClass", "()Ljava/lang/Class;"⟩ ∈ lw_all) (hdg : decode cc pc = .ok (.invokevirtual index, 3)) (hm : gg_in g M ro (a, gg_ao g 4 n f)) (hRf : 1 ≤ R.frames) (hRl : (st.map fun v => v.category).sum + 14 ≤ R.locals) (K : gg_W p l e R s m args below meth c g A nL Q kc ns M lv (.ref (g.2.2.1 9) :: st) (pc + 3)) : gg_W p l e R s m args below meth c g A nL Q kc ns M lv (.ref a :: st) pc :=
  fun H locs ls hP hD hS hl => va_getC E.1 E.2.1 (by rw [E.2.2.1, hl.1]) E.2.2.2.1 (E.2.2.2.2.1 _ q1) (va_Nw.use rfl (E.2.2.2.2.2.1.2.1 _ q2)) (E.2.2.2.2.1 _ q3) (E.2.2.2.2.1 _ q4) (E.2.2.2.2.1 _ q5) (gg_mi E) ⟨_, hm.at E hP hS, rfl, va_nmO (E.2.2.2.2.2.1.1.2 4 _ rfl).2 (by decide)⟩ hRf hRl hdg (K H locs ls hP hD hS hl)
/-- System.arraycopy of the first k references -/
theorem gg_copyR (E : gg_V p l s m args meth c cc nL own g A ro) {index a0 a n0 n1 k : Nat} {f h : Nat → Option Nat} {M' : List gg_S} (q1 : Cond.methodLink own index arraycopyName ∈ lw_all) (q2 : Cond.native arraycopyName ∈ lw_all) (q3 : Cond.static arraycopyName ∈ lw_all) (q4 : Cond.initialized "java/lang/System" ∈ lw_all) (hdg : decode cc pc = .ok (.invokestatic index, 3))
    (hm0 : gg_in g M ro (a0, gg_ao g 4 n0 f)) (i : Nat) (hm : M[i]? = some [(a, gg_ao g 4 n1 h)]) (hel : ∀ j, j < k → ∀ y, f j = some y → ∀ (H : Heap) (locs : List Loc), gg_P g M.flatten H → va_S A s.heap H locs → gg_isa s "java/lang/Object" H y) (h0 : k ≤ n0) (h1 : k ≤ n1) (hk : k < 2 ^ 31) (hRf : 1 ≤ R.frames) (hRl : (st.map fun v => v.category).sum + (nativeFrameWords "java/lang/System" "arraycopy" 5 + 11) ≤ R.locals)
    (hM : M.set i [(a, gg_ao g 4 n1 (fun j => if j < k then f j else h j))] = M') (K : gg_W p l e R s m args below meth c g A nL Q kc ns M' lv st (pc + 3)) : gg_W p l e R s m args below meth c g A nL Q kc ns M lv (.int (nI k) :: .int 0 :: .ref a :: .int 0 :: .ref a0 :: st) pc := by
  intro H locs ls hP hD hS hl T hT X
  have hc0 : H[a0]? = some (arrV (g.2.1 4) n0 (fun j => va_rf (f j))) := hm0.at E hP hS
  have hc1 : H[a]? = some (arrV (g.2.1 4) n1 (fun j => va_rf (h j))) := gg_atm hm hP
  have hK := E.2.2.2.2.2.1.1
  obtain ⟨-, k0, hk0, cm0, hkk0⟩ := (hK.2 4 _ rfl).1 n0 (fun j => va_rf (f j))
  obtain ⟨-, k1, hk1, cm1, hkk1⟩ := (hK.2 4 _ rfl).1 n1 (fun j => va_rf (h j))
  have z0 : (0 : Int32).toNatClampNeg = 0 := by decide
  have zi : (0 : Int32).toInt = 0 := by decide
  have zn : (nI k).toNatClampNeg = k := nI_clamp hk
  obtain ⟨vm', X', step⟩ := X.arraycopy E.1 E.2.2.2.1 (E.2.2.2.2.1 _ q1) (E.2.2.2.2.1 _ q2) (E.2.2.2.2.1 _ q3) (E.2.2.2.2.1 _ q4) (src := a0) (dst := a) (cs := arrV (g.2.1 4) n0 (fun j => va_rf (f j))) (cd := arrV (g.2.1 4) n1 (fun j => va_rf (h j))) (srcPos := 0) (destPos := 0) (n := nI k) (by rw [hT]; exact hc0) (by rw [hT]; exact hc1)
    (fun _ h => by cases h) (fun _ h => by cases h) (fun h => by cases h) (fun h => by cases h) hk0 hk1 hkk0 hkk1 rfl (by decide) (by decide) (nI_pos hk)
    (by rw [zi, nI_toInt hk]; show ¬ _ > ((arrV (g.2.1 4) n0 (fun j => va_rf (f j))).slots.size : Int); rw [arrV_size]; omega)
    (by rw [zi, nI_toInt hk]; show ¬ _ > ((arrV (g.2.1 4) n1 (fun j => va_rf (h j))).slots.size : Int); rw [arrV_size]; omega)
    (fun vm₁ hal i hi => by
      rw [zn] at hi
      have e : (arrV (g.2.1 4) n0 (fun j => va_rf (f j))).slots.getD ((0 : Int32).toNatClampNeg + i) .null = va_rf (f i) := by
        rw [z0, Nat.zero_add, Array.getD_eq_getD_getElem?, arrV_read _ _ (by omega)]
        rfl
      rw [e]
      cases hy : f i with
      | none => exact ⟨rfl, trivial⟩
      | some y =>
        obtain ⟨cellV, g1, g2, ⟨kC, hkC⟩, g3⟩ := hel i hi y hy H locs hP hS
        obtain ⟨kA, comp, r1, r2, r3, -⟩ := (hK.2 4 _ rfl).2
        cases hk1.symm.trans r1
        cases hkk1.symm.trans r2
        obtain ⟨kE, hkE, -⟩ := Vm.findClass_spec r3
        obtain ⟨kC', hkC', -⟩ := hal.2.2 _ _ hkC
        obtain ⟨kE', hkE', -⟩ := hal.2.2 _ _ hkE
        refine ⟨rfl, cellV, (show T.heap[y]? = some cellV by rw [hT]; exact g1), (fun q h => by rw [h] at g2; cases g2), ⟨kC', hkC'⟩, ⟨kE', hkE'⟩, ?_⟩
        show vm₁.assignable _ _ = true
        rw [hal.assignable]
        exact g3 _ r3)
    (g := F0 m pc ls (.int (nI k) :: .int 0 :: .ref a :: .int 0 :: .ref a0 :: st)) rfl (by show ls.size = _; rw [E.2.2.1]; exact hl.1) (rest := st) rfl (by rw [E.2.1]; exact hdg) hRf (by show 2 * 0 + _ + _ ≤ _; omega)
  have e0 : (fun j => va_rf (if j < k then f j else h j)) = fun j => va_rf (va_cpy f h 0 0 k j) := by
    funext j
    unfold va_cpy
    by_cases q : j < k
    · rw [if_pos q, if_pos ⟨Nat.zero_le _, by omega⟩, Nat.zero_add, Nat.sub_zero]
    · rw [if_neg q, if_neg (by omega)]
  have e1 : copied (arrV (g.2.1 4) n0 (fun j => va_rf (f j))) (arrV (g.2.1 4) n1 (fun j => va_rf (h j))) 0 0 (nI k) = arrV (g.2.1 4) n1 (fun j => va_rf (if j < k then f j else h j)) := by
    rw [e0]
    have := va_copied (fun z => va_rf z) (g.2.1 4) (g.2.1 4) (n0 := n0) (n1 := n1) (sp := 0) (dp := 0) (n := k) f h (by omega)
    rw [← this]
    unfold copied
    rw [z0, zn]
  rw [e1] at X' step
  have hlt : a < H.size := (Array.getElem?_eq_some_iff.mp hc1).1
  have hM2 : M.set i [(a, .inr (arrV (g.2.1 4) n1 (fun j => va_rf (if j < k then f j else h j))))] = M' := hM
  clear hM
  generalize hnew : arrV (g.2.1 4) n1 (fun j => va_rf (if j < k then f j else h j)) = nc at X' step hM2
  have hheap : ((T.setVm vm').setCell a nc).heap = H.setIfInBounds a nc := by rw [← hT]; rfl
  have oq : ∀ q : Nat, q ≠ a → (H.setIfInBounds a nc)[q]? = H[q]? := fun q hq => by simp [Array.getElem?_setIfInBounds, Ne.symm hq]
  have haA : A a := hD.2 (a, gg_ao g 4 n1 h) (List.mem_flatten.mpr ⟨_, List.mem_of_getElem? hm, List.mem_singleton.mpr rfl⟩)
  obtain ⟨w1, w2⟩ := gg_swap1 (y := .inr nc) hm hM2 hP hD (show (H.setIfInBounds a nc)[a]? = some nc by simp [Array.getElem?_setIfInBounds, hlt]) oq
  obtain ⟨t, a1, b1⟩ := K _ _ ls w1 w2 ⟨by simp; exact hS.1, fun q g1 g2 => by
      rw [oq q (fun e => g2 (by rw [e]; exact haA))]
      exact hS.2.1 q g1 g2, fun q hq => by
      rcases List.mem_append.mp hq with h | h
      · exact hS.2.2 q h
      · obtain ⟨z, -, hz⟩ := List.mem_map.mp h
        rw [← hz]
        exact haA⟩ hl _ hheap X'
  exact ⟨t, step t a1, b1⟩
/-- System.arraycopy of k bytes -/
theorem gg_copyB (E : gg_V p l s m args meth c cc nL own g A ro) {index a0 a n0 n1 k sp dp : Nat} {f h : Nat → Int32} {M' : List gg_S} (q1 : Cond.methodLink own index arraycopyName ∈ lw_all) (q2 : Cond.native arraycopyName ∈ lw_all) (q3 : Cond.static arraycopyName ∈ lw_all) (q4 : Cond.initialized "java/lang/System" ∈ lw_all) (hdg : decode cc pc = .ok (.invokestatic index, 3))
    (hm0 : gg_in g M ro (a0, gg_ab g n0 f)) (i : Nat) (hm : M[i]? = some [(a, gg_ab g n1 h)]) (h0 : sp + k ≤ n0) (h1 : dp + k ≤ n1) (hk : k < 2 ^ 31) (hsp : sp < 2 ^ 31) (hdp : dp < 2 ^ 31) (hfb : ∀ j, j < k → fits .byte (.int (f (sp + j))) = true) (hRf : 1 ≤ R.frames) (hRl : (st.map fun v => v.category).sum + (nativeFrameWords "java/lang/System" "arraycopy" 5 + 11) ≤ R.locals)
    (hM : M.set i [(a, gg_ab g n1 (va_cpy f h sp dp k))] = M') (K : gg_W p l e R s m args below meth c g A nL Q kc ns M' lv st (pc + 3)) : gg_W p l e R s m args below meth c g A nL Q kc ns M lv (.int (nI k) :: .int (nI dp) :: .ref a :: .int (nI sp) :: .ref a0 :: st) pc := by
  intro H locs ls hP hD hS hl T hT X
  have hc0 : H[a0]? = some (arrV (g.2.1 1) n0 (fun j => .int (f j))) := hm0.at E hP hS
  have hc1 : H[a]? = some (arrV (g.2.1 1) n1 (fun j => .int (h j))) := gg_atm hm hP
  have hK := E.2.2.2.2.2.1.1
  obtain ⟨-, k0, hk0, cm0, hkk0⟩ := (hK.2 1 _ rfl).1 n0 (fun j => .int (f j))
  obtain ⟨-, k1, hk1, cm1, hkk1⟩ := (hK.2 1 _ rfl).1 n1 (fun j => .int (h j))
  have zn : (nI k).toNatClampNeg = k := nI_clamp hk
  have zs : (nI sp).toNatClampNeg = sp := nI_clamp hsp
  have zd : (nI dp).toNatClampNeg = dp := nI_clamp hdp
  obtain ⟨vm', X', step⟩ := X.arraycopy E.1 E.2.2.2.1 (E.2.2.2.2.1 _ q1) (E.2.2.2.2.1 _ q2) (E.2.2.2.2.1 _ q3) (E.2.2.2.2.1 _ q4) (src := a0) (dst := a) (cs := arrV (g.2.1 1) n0 (fun j => .int (f j))) (cd := arrV (g.2.1 1) n1 (fun j => .int (h j))) (srcPos := nI sp) (destPos := nI dp) (n := nI k) (by rw [hT]; exact hc0) (by rw [hT]; exact hc1)
    (fun _ h => by cases h) (fun _ h => by cases h) (fun h => by cases h) (fun h => by cases h) hk0 hk1 hkk0 hkk1 (by simp [refKind]) (nI_pos hsp) (nI_pos hdp) (nI_pos hk)
    (by rw [nI_toInt hsp, nI_toInt hk]; show ¬ _ > ((arrV (g.2.1 1) n0 (fun j => .int (f j))).slots.size : Int); rw [arrV_size]; omega)
    (by rw [nI_toInt hdp, nI_toInt hk]; show ¬ _ > ((arrV (g.2.1 1) n1 (fun j => .int (h j))).slots.size : Int); rw [arrV_size]; omega)
    (fun vm₁ _ i hi => by
      rw [zn] at hi
      have e : (arrV (g.2.1 1) n0 (fun j => .int (f j))).slots.getD ((nI sp).toNatClampNeg + i) .null = .int (f (sp + i)) := by
        rw [zs, Array.getD_eq_getD_getElem?, arrV_read _ _ (by omega)]
        rfl
      refine ⟨?_, ?_⟩
      · rw [e]
        exact hfb i hi
      · rw [e]
        exact trivial)
    (g := F0 m pc ls (.int (nI k) :: .int (nI dp) :: .ref a :: .int (nI sp) :: .ref a0 :: st)) rfl (by show ls.size = _; rw [E.2.2.1]; exact hl.1) (rest := st) rfl (by rw [E.2.1]; exact hdg) hRf (by show 2 * 0 + _ + _ ≤ _; omega)
  have e1 : copied (arrV (g.2.1 1) n0 (fun j => .int (f j))) (arrV (g.2.1 1) n1 (fun j => .int (h j))) (nI sp) (nI dp) (nI k) = arrV (g.2.1 1) n1 (fun j => .int (va_cpy f h sp dp k j)) := by
    have := va_copied (fun z => Value.int z) (g.2.1 1) (g.2.1 1) (n0 := n0) (n1 := n1) (sp := sp) (dp := dp) (n := k) f h (by omega)
    rw [← this]
    unfold copied
    rw [zs, zd, zn]
  rw [e1] at X' step
  have hlt : a < H.size := (Array.getElem?_eq_some_iff.mp hc1).1
  have hM2 : M.set i [(a, .inr (arrV (g.2.1 1) n1 (fun j => Value.int (va_cpy f h sp dp k j))))] = M' := hM
  clear hM
  generalize hnew : arrV (g.2.1 1) n1 (fun j => Value.int (va_cpy f h sp dp k j)) = nc at X' step hM2
  have hheap : ((T.setVm vm').setCell a nc).heap = H.setIfInBounds a nc := by rw [← hT]; rfl
  have oq : ∀ q : Nat, q ≠ a → (H.setIfInBounds a nc)[q]? = H[q]? := fun q hq => by simp [Array.getElem?_setIfInBounds, Ne.symm hq]
  have haA : A a := hD.2 (a, gg_ab g n1 h) (List.mem_flatten.mpr ⟨_, List.mem_of_getElem? hm, List.mem_singleton.mpr rfl⟩)
  obtain ⟨w1, w2⟩ := gg_swap1 (y := .inr nc) hm hM2 hP hD (show (H.setIfInBounds a nc)[a]? = some nc by simp [Array.getElem?_setIfInBounds, hlt]) oq
  obtain ⟨t, a1, b1⟩ := K _ _ ls w1 w2 ⟨by simp; exact hS.1, fun q g1 g2 => by
      rw [oq q (fun e => g2 (by rw [e]; exact haA))]
      exact hS.2.1 q g1 g2, fun q hq => by
      rcases List.mem_append.mp hq with h | h
      · exact hS.2.2 q h
      · obtain ⟨z, -, hz⟩ := List.mem_map.mp h
        rw [← hz]
        exact haA⟩ hl _ hheap X'
  exact ⟨t, step t a1, b1⟩
end GGlc

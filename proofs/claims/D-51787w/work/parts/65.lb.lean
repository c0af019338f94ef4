set_option maxRecDepth 100000
/-! ===== a node less (pure) ===== -/
/-- the places but the k-th -/
def sk (k j : Nat) : Nat := if j < k then j else j + 1
theorem rg_del {k : Nat} : ∀ n, k < n → (List.range n).filter (fun j => !(j == k)) = (List.range (n - 1)).map (sk k) := by
  intro n
  induction n with
  | zero => intro h; omega
  | succ n ih =>
    intro h
    rw [List.range_succ, List.filter_append]
    by_cases e : k = n
    · subst e
      have h1 : (List.range k).filter (fun j => !(j == k)) = List.range k := by
        rw [List.filter_eq_self]
        intro j hj
        have := List.mem_range.mp hj
        simp
        omega
      have h2 : (List.range k).map (sk k) = List.range k := by
        have h3 : (List.range k).map (sk k) = (List.range k).map id := List.map_congr_left fun j hj => by
          have := List.mem_range.mp hj
          exact if_pos this
        rw [h3, List.map_id]
      rw [h1, Nat.add_sub_cancel, h2]
      simp
    · rw [ih (by omega), Nat.add_sub_cancel]
      have h4 : (List.range n).map (sk k) = (List.range (n - 1)).map (sk k) ++ [n] := by
        obtain ⟨m, rfl⟩ : ∃ m, n = m + 1 := ⟨n - 1, by omega⟩
        rw [List.range_succ, List.map_append, Nat.add_sub_cancel]
        congr 1
        show [sk k m] = [m + 1]
        unfold sk
        rw [if_neg (by omega)]
      rw [h4]
      congr 1
      simp
      omega
theorem mpo_del {F F' : Nat → Nat × gg_E} {n k : Nat} (hk : k < n) (h : ∀ j, j < n - 1 → F' j = F (sk k j)) : mpo F n k = mp F' (n - 1) := by
  unfold mpo mp
  rw [rg_del n hk, List.map_map]
  exact List.map_congr_left fun j hj => (h j (List.mem_range.mp hj)).symm
section GGputS
variable {p : Program} {l : Launch} {e : Env} {R : Room} {s : State} {m : MethodId} {args : Array Value} {below : List Frame} {meth : Method} {c : Code} {g : gg_G} {A : Nat → Prop} {ro : gg_S} {nL : Nat} {Q : State → Prop} {kc ns : Nat} {M : List gg_S} {lv : List (Option Value)} {st : List Value} {pc : Nat} {cc : ByteArray} {own : String}
/-- putfield into a cell of a segment -/
theorem gg_putS (E : gg_V p l s m args meth c cc nL own g A ro) {ci N : Nat} {C : String} {T : u_T} {ty : Nat → FieldType} (ck : gg_ck ci C T N ty) {index : Nat} (k : Nat) {ref nm ds : String} {a : Nat} {fs fs' : List Value} {v : Value} {tv : FieldType} {F F' : Nat → Nat × gg_E} {n i0 : Nat} {M' : List gg_S} (q : Cond.fieldLink own index ref nm ds ∈ lw_all) (hT : T k = (ref, nm, ds, false)) (hk : k < N) (hdg : decode cc pc = .ok (.putfield index, 3)) (i : Nat) (hm : M[i]? = some (mp F n)) (hi : i0 < n) (hF : F i0 = (a, .inl (ci, fs))) (hd : parseFieldDescriptor ds = some tv) (hn : narrow tv v = v) (hfit : fits tv v = true) (hl : k < fs.length) (hs : fs.set k v = fs') (hF' : F' i0 = (a, .inl (ci, fs'))) (hj : ∀ j, j < n → j ≠ i0 → F' j = F j) (hM : M.set i (mp F' n) = M') (K : gg_W p l e R s m args below meth c g A nL Q kc ns M' lv st (pc + 3)) : gg_W p l e R s m args below meth c g A nL Q kc ns M lv (v :: .ref a :: st) pc := by
  refine gg_opn (k := i0) i hm hi rfl ?_
  rw [hF]
  have hlen : i < M.length := (List.getElem?_eq_some_iff.mp hm).1
  refine gg_put E ck k q hT hk hdg (M.set i (mpo F n i0)).length (by simp) hd hn hfit hl hs (M' := M.set i (mpo F n i0) ++ [[(a, .inl (ci, fs'))]]) (by simp) ?_
  refine gg_cls (F := F) (F' := F') (n := n) (k := i0) (x := (a, .inl (ci, fs'))) i (by simp) (by simp [List.dropLast_concat, hlen]) hi hF' hj (by rw [List.dropLast_concat, List.set_set]; exact hM) K
end GGputS

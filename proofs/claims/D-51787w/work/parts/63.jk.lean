set_option maxRecDepth 100000
/-! ===== PriorityQueue of stops ===== -/
abbrev stN (so ro fa : Nat → Nat) (k : Nat) : Nat × gg_E := (so k, .inl (9, [.int (nI (ro k)), .int (nI (fa k))]))
def kyS (ro fa : Nat → Nat) (k : Nat) : Nat := fa k * 10 + ro k
theorem icm_lt {a b : Nat} (ha : a < 2 ^ 31) (hb : b < 2 ^ 31) : icm (nI a) (nI b) < 0 ↔ a < b := by
  unfold icm
  by_cases h : nI a < nI b
  · rw [if_pos h]
    exact ⟨fun _ => (nI_ltI ha hb).mp h, fun _ => by decide⟩
  · rw [if_neg h]
    refine ⟨fun q => ?_, fun q => absurd ((nI_ltI ha hb).mpr q) h⟩
    split at q <;> exact absurd q (by decide)
theorem icm_gt {a b : Nat} (ha : a < 2 ^ 31) (hb : b < 2 ^ 31) : 0 < icm (nI a) (nI b) ↔ b < a := by
  unfold icm
  by_cases h : nI a < nI b
  · rw [if_pos h]
    have := (nI_ltI ha hb).mp h
    exact ⟨fun q => absurd q (by decide), fun q => by omega⟩
  · rw [if_neg h]
    have h1 : ¬ a < b := fun q => h ((nI_ltI ha hb).mpr q)
    by_cases e : nI a = nI b
    · rw [if_pos e]
      have := (nI_eq ha hb).mp e
      exact ⟨fun q => absurd q (by decide), fun q => by omega⟩
    · rw [if_neg e]
      have : a ≠ b := fun q => e (by rw [q])
      exact ⟨fun _ => by omega, fun _ => by decide⟩
theorem np_lt {ro fa : Nat → Nat} {i j : Nat} (hi : ro i < 10 ∧ fa i ≤ 1000) (hj : ro j < 10 ∧ fa j ≤ 1000) : npC (nI (fa i)) (nI (ro i)) (nI (fa j)) (nI (ro j)) < 0 ↔ kyS ro fa i < kyS ro fa j := by
  unfold npC kyS
  by_cases e : nI (fa i) = nI (fa j)
  · rw [if_pos e, icm_lt (by omega) (by omega)]
    have := (nI_eq (by omega) (by omega)).mp e
    omega
  · rw [if_neg e, icm_lt (by omega) (by omega)]
    have : fa i ≠ fa j := fun q => e (by rw [q])
    omega
theorem np_gt {ro fa : Nat → Nat} {i j : Nat} (hi : ro i < 10 ∧ fa i ≤ 1000) (hj : ro j < 10 ∧ fa j ≤ 1000) : 0 < npC (nI (fa i)) (nI (ro i)) (nI (fa j)) (nI (ro j)) ↔ kyS ro fa j < kyS ro fa i := by
  unfold npC kyS
  by_cases e : nI (fa i) = nI (fa j)
  · rw [if_pos e, icm_gt (by omega) (by omega)]
    have := (nI_eq (by omega) (by omega)).mp e
    omega
  · rw [if_neg e, icm_gt (by omega) (by omega)]
    have : fa i ≠ fa j := fun q => e (by rw [q])
    omega
theorem ush1 : ∀ a, a < 100 → ((nI a).toUInt32 >>> ((1 : Int32).toUInt32 &&& Int32.toUInt32 31)).toInt32 = nI (a / 2) := by decide +kernel
theorem shl1 : ∀ a, a < 100 → nI a <<< ((1 : Int32) &&& 31) = nI (2 * a) := by decide +kernel
theorem push_Qi {Q : Nat → Nat} {n x i : Nat} : Qi (llU Q n x) (n + 1) i ↔ Qi Q n i ∨ i = x := by
  constructor
  · rintro ⟨j, hj, e⟩
    by_cases h : j = n
    · subst h; rw [llU_n] at e; exact Or.inr e.symm
    · rw [llU_o h] at e; exact Or.inl ⟨j, by omega, e⟩
  · rintro (⟨j, hj, e⟩ | e)
    · exact ⟨j, by omega, (llU_o (by omega)).trans e⟩
    · exact ⟨n, by omega, llU_n.trans e.symm⟩
theorem push_Qj {Q : Nat → Nat} {n x : Nat} (h : Qj Q n) (hx : ¬ Qi Q n x) : Qj (llU Q n x) (n + 1) := by
  intro a b ha hb e
  by_cases h1 : a = n
  · by_cases h2 : b = n
    · omega
    · rw [h1, llU_n, llU_o h2] at e
      exact absurd ⟨b, by omega, e.symm⟩ hx
  · by_cases h2 : b = n
    · rw [h2, llU_n, llU_o h1] at e
      exact absurd ⟨a, by omega, e⟩ hx
    · rw [llU_o h1, llU_o h2] at e
      exact h a b (by omega) (by omega) e
theorem pu_f {ob Q : Nat → Nat} {n x j : Nat} (hj : j ≠ n) : lsF (fun j => ob (Q j)) n j = lsF (fun j => ob (llU Q n x j)) (n + 1) j := by
  unfold lsF
  by_cases h : j < n
  · rw [if_pos h, if_pos (by omega)]
    dsimp only
    rw [llU_o hj]
  · rw [if_neg h, if_neg (by omega)]
theorem dn_f {ob Q : Nat → Nat} {n x j : Nat} (hj : j ≠ 0) : lsF (fun j => ob (Q j)) n j = lsF (fun j => ob (llU Q 0 x j)) n j := by
  unfold lsF
  by_cases h : j < n
  · rw [if_pos h, if_pos h]
    dsimp only
    rw [llU_o hj]
  · rw [if_neg h, if_neg h]
theorem sw_f {ob Q : Nat → Nat} {f2 : Nat → Option Nat} {n k p : Nat} (hk : k < n) (hf : ∀ j, j ≠ k → f2 j = lsF (fun j => ob (Q j)) n j) : ∀ j, j ≠ p → va_up f2 k (some (ob (Q p))) j = lsF (fun j => ob (sw Q k p j)) n j := by
  intro j hj
  by_cases e : j = k
  · subst e
    rw [va_up_self]
    unfold lsF
    rw [if_pos hk]
    dsimp only
    rw [sw_a]
  · rw [va_up_ne _ _ e, hf j e]
    unfold lsF
    by_cases h : j < n
    · rw [if_pos h, if_pos h]
      dsimp only
      rw [sw_o e hj]
    · rw [if_neg h, if_neg h]
theorem sw_lt {Q : Nat → Nat} {n k p N : Nat} (hk : k < n) (hp : p < n) (h : ∀ j, j < n → Q j < N) : ∀ j, j < n → sw Q k p j < N := by
  intro j hj
  unfold sw
  split
  · exact h p hp
  · split
    · exact h k hk
    · exact h j hj
theorem fin_f {ob Q : Nat → Nat} {f2 : Nat → Option Nat} {n k x : Nat} (hk : k < n) (hx : Q k = x) (hf : ∀ j, j ≠ k → f2 j = lsF (fun j => ob (Q j)) n j) : va_up f2 k (some (ob x)) = lsF (fun j => ob (Q j)) n := by
  funext j
  by_cases e : j = k
  · subst e
    rw [va_up_self]
    unfold lsF
    rw [if_pos hk]
    dsimp only
    rw [hx]
  · rw [va_up_ne _ _ e, hf j e]
set_option maxHeartbeats 4000000 in
theorem ct_J32_siftUpUsingComparator {l : Launch} (hl : l.stackTraces = false) {g : gg_G}  {ea cm0 cap n1 x1 N : Nat} {so ro fa Qa : Nat → Nat} (hn : n1 < cap) (hcap : cap ≤ 90) (hkey : ∀ k, k < N → ro k < 10 ∧ fa k ≤ 1000) (hx1 : x1 < N) (hQ : ∀ j, j < n1 → Qa j < N) (hHp : Hp (kyS ro fa) Qa n1) : gg_C l g yJ32_siftUpUsingComparator (ws_ yJ32_siftUpUsingComparator cJ32_siftUpUsingComparator 6 none) { frames := 6, cells := 0, slots := 0, locals := 140 } [.int (nI n1), .ref (so x1), .ref ea, .ref cm0] ([(cm0, .inl (8, []))] ++ (mp (stN so ro fa) N)) [[(ea, gg_ao g 4 cap (lsF (fun j => so (Qa j)) (n1)))]] (fun vv CC => ∃ (Q3 : Nat → Nat), (Hp (kyS ro fa) Q3 (n1 + 1) ∧ (∀ i, Qi Q3 (n1 + 1) i ↔ Qi Qa n1 i ∨ i = x1) ∧ (Qj Qa n1 → ¬ Qi Qa n1 x1 → Qj Q3 (n1 + 1))) ∧ vv = none ∧ CC = [[(ea, gg_ao g 4 cap (lsF (fun j => so (Q3 j)) (n1 + 1)))]]) gg_no := by
  refine gg_of (lv := [_, _, _, _, _, _]) (by decide) hl (Nat.le_of_ble_eq_true rfl) rfl ?_
  intro p e R s m args below meth c A Q hRf hRl hRc hRs E Fn hnm hex
  have L0 : ∀ (n : Nat) (k : Nat) (Q2 : Nat → Nat) (f2 : Nat → Option Nat), k < n → (k ≤ n1) → (Up (kyS ro fa) Q2 (n1 + 1) k) → (Q2 k = x1) → (∀ i, Qi Q2 (n1 + 1) i ↔ Qi Qa n1 i ∨ i = x1) → (Qj Qa n1 → ¬ Qi Qa n1 x1 → Qj Q2 (n1 + 1)) → (∀ j, j ≠ k → f2 j = lsF (fun j => so (Q2 j)) (n1 + 1) j) → (∀ j, j < n1 + 1 → Q2 j < N) → gg_W p l e R s m args below meth c g A 6 Q 0 0 [[(ea, gg_ao g 4 cap f2)]] [some (.int (nI k)), some (.ref (so x1)), some (.ref ea), some (.ref cm0), none, none] [] 0 := by
    intro n0
    induction n0 with
    | zero => intro k Q2 f2 hmz; exact absurd hmz (Nat.not_lt_zero _)
    | succ n0 ih0 =>
      intro k Q2 f2 hm0 hk hup hx hset hinj hf hlt
      refine gg_iload_n (pc := 0) E dJ32_siftUpUsingComparator_0 rfl rfl ?_
      refine gg_ifN_le (tgt := 43) (pc := 1) E k rfl (by omega) dJ32_siftUpUsingComparator_1 (by decide) (fun c1 => ?_) (fun c1 => ?_)
      · refine gg_aload_n (pc := 43) E dJ32_siftUpUsingComparator_43 rfl rfl ?_
        refine gg_iload_n (pc := 44) E dJ32_siftUpUsingComparator_44 rfl rfl ?_
        refine gg_aload_n (pc := 45) E dJ32_siftUpUsingComparator_45 rfl rfl ?_
        refine gg_aastRN (M' := [_]) (pc := 46) E 4 rfl k rfl (by omega) (by omega) dJ32_siftUpUsingComparator_46 0 rfl (gg_isaO E (gg_rm (List.mem_append_right _ (mp_mem (by first | omega | exact hlt _ (by omega))))) ck_X10 nq3516) rfl ?_
        refine gg_vret (pc := 47) E Fn rfl dJ32_siftUpUsingComparator_47 (by first | exact Nat.le_of_ble_eq_true rfl | (dsimp only; omega)) (by first | exact Nat.le_of_ble_eq_true rfl | (dsimp only; omega)) ?_
        exact ⟨Q2, ⟨up_done hup (Or.inl (by omega)), hset, hinj⟩, rfl, by rw [fin_f (by omega) hx hf]⟩
      · refine gg_iload_n (pc := 4) E dJ32_siftUpUsingComparator_4 rfl rfl ?_
        refine gg_iconst (v := 1) (pc := 5) E dJ32_siftUpUsingComparator_5 (by decide) ?_
        refine gg_isubN (pc := 6) E k 1 rfl rfl (by omega) dJ32_siftUpUsingComparator_6 ?_
        refine gg_iconst (v := 1) (pc := 7) E dJ32_siftUpUsingComparator_7 (by decide) ?_
        refine gg_iushr (pc := 8) E dJ32_siftUpUsingComparator_8 rfl ?_
        refine gg_topI (y := nI ((k - 1) / 2)) (ush1 _ (by omega)) ?_
        refine gg_istore (lv' := [_, _, _, _, _, _]) (pc := 9) E dJ32_siftUpUsingComparator_9 (Nat.le_of_ble_eq_true rfl) rfl rfl ?_
        refine gg_aload_n (pc := 11) E dJ32_siftUpUsingComparator_11 rfl rfl ?_
        refine gg_iload (pc := 12) E dJ32_siftUpUsingComparator_12 rfl ?_
        refine gg_aaldN (pc := 14) E 4 rfl ((k - 1) / 2) rfl (by omega) (by omega) dJ32_siftUpUsingComparator_14 (gg_i 0 rfl) ?_
        refine gg_topV (show va_rf (f2 ((k - 1) / 2)) = .ref (so (Q2 ((k - 1) / 2))) from by rw [hf _ (by omega), lsF_at (by omega)]; rfl) ?_
        refine gg_astore (lv' := [_, _, _, _, _, _]) (pc := 15) E dJ32_siftUpUsingComparator_15 (Nat.le_of_ble_eq_true rfl) rfl rfl ?_
        refine gg_aload_n (pc := 17) E dJ32_siftUpUsingComparator_17 rfl rfl ?_
        refine gg_aload_n (pc := 18) E dJ32_siftUpUsingComparator_18 rfl rfl ?_
        refine gg_aload (pc := 19) E dJ32_siftUpUsingComparator_19 rfl ?_
        refine gg_callF (F := [_]) (As := [_, _]) (rest := []) (pc := 21) E ck_X9 (ct_X9_compare hl ) (gg_cwF 2 E (x := ⟨"java/util/Comparator", "compare", "(Ljava/lang/Object;Ljava/lang/Object;)I"⟩) (by decide) nq1821 nq1819 nq1817 (lw_app (lw_in _ [1798, 1818, 1820, 195] (by decide +kernel) (by decide +kernel)) (lw_meth q1822)) (by decide +kernel) ⟨by rw [hRf]; exact Nat.le_of_ble_eq_true rfl, by rw [hRl]; exact Nat.le_of_ble_eq_true rfl⟩) dJ32_siftUpUsingComparator_21 [] (by decide) rfl rfl (List.forall_mem_cons.mpr ⟨(gg_r 0 rfl), (List.forall_mem_cons.mpr ⟨(gg_rm (List.mem_append_right _ (mp_mem (by first | omega | exact hlt _ (by omega))))), (List.forall_mem_cons.mpr ⟨(gg_rm (List.mem_append_right _ (mp_mem (by first | omega | exact hlt _ (by omega))))), (fun _ h => by cases h)⟩)⟩)⟩) (gg_r 0 rfl) rfl rfl (Nat.le_of_ble_eq_true rfl) (by first | (rw [hRc]; exact Nat.le_of_ble_eq_true rfl) | (rw [hRc]; dsimp only; omega)) (by first | (rw [hRs]; exact Nat.le_of_ble_eq_true rfl) | (rw [hRs]; dsimp only; omega)) ?_ (fun X q C1 h => h.elim)
        rintro _ _ ⟨rfl, rfl⟩
        dsimp only [List.cons_append, List.nil_append, Option.toList]
        refine gg_if_lt (tgt := 32) (pc := 26) E dJ32_siftUpUsingComparator_26 (by decide) (fun c26 => ?_) (fun c26 => ?_)
        · refine gg_aload_n (pc := 32) E dJ32_siftUpUsingComparator_32 rfl rfl ?_
          refine gg_iload_n (pc := 33) E dJ32_siftUpUsingComparator_33 rfl rfl ?_
          refine gg_aload (pc := 34) E dJ32_siftUpUsingComparator_34 rfl ?_
          refine gg_aastRN (M' := [_]) (pc := 36) E 4 rfl k rfl (by omega) (by omega) dJ32_siftUpUsingComparator_36 0 rfl (gg_isaO E (gg_rm (List.mem_append_right _ (mp_mem (by first | omega | exact hlt _ (by omega))))) ck_X10 nq3516) rfl ?_
          refine gg_iload (pc := 37) E dJ32_siftUpUsingComparator_37 rfl ?_
          refine gg_istore_n (lv' := [_, _, _, _, _, _]) (pc := 39) E dJ32_siftUpUsingComparator_39 rfl (Nat.le_of_ble_eq_true rfl) rfl rfl ?_
          refine gg_goto (tgt := 0) (pc := 40) E dJ32_siftUpUsingComparator_40 (by decide) ?_
          refine gg_cv rfl (gg_leS (gg_leS (gg_leS (gg_leS (gg_leN (gg_leN gg_le0)))))) rfl (by first | exact Nat.le_refl _ | (dsimp only; omega)) (by first | exact Nat.le_refl _ | (dsimp only; omega)) (ih0 ((k - 1) / 2) (sw Q2 k ((k - 1) / 2)) (va_up f2 k (some (so (Q2 ((k - 1) / 2))))) (by omega) (by omega) (up_step hup (by omega) (by omega) (by rw [hx]; exact (np_lt (hkey _ hx1) (hkey _ (hlt _ (by omega)))).mp c26)) (sw_b.trans hx) (fun i => (sw_Qi (by omega) (by omega)).trans (hset i)) (fun a b => sw_Qj (by omega) (by omega) (hinj a b)) (sw_f (by omega) hf) (sw_lt (by omega) (by omega) hlt))
        · refine gg_goto (tgt := 43) (pc := 29) E dJ32_siftUpUsingComparator_29 (by decide) ?_
          refine gg_aload_n (pc := 43) E dJ32_siftUpUsingComparator_43 rfl rfl ?_
          refine gg_iload_n (pc := 44) E dJ32_siftUpUsingComparator_44 rfl rfl ?_
          refine gg_aload_n (pc := 45) E dJ32_siftUpUsingComparator_45 rfl rfl ?_
          refine gg_aastRN (M' := [_]) (pc := 46) E 4 rfl k rfl (by omega) (by omega) dJ32_siftUpUsingComparator_46 0 rfl (gg_isaO E (gg_rm (List.mem_append_right _ (mp_mem (by first | omega | exact hlt _ (by omega))))) ck_X10 nq3516) rfl ?_
          refine gg_vret (pc := 47) E Fn rfl dJ32_siftUpUsingComparator_47 (by first | exact Nat.le_of_ble_eq_true rfl | (dsimp only; omega)) (by first | exact Nat.le_of_ble_eq_true rfl | (dsimp only; omega)) ?_
          exact ⟨Q2, ⟨up_done hup (Or.inr (by rw [hx]; exact Nat.le_of_not_lt fun q => c26 ((np_lt (hkey _ hx1) (hkey _ (hlt _ (by omega)))).mpr q))), hset, hinj⟩, rfl, by rw [fin_f (by omega) hx hf]⟩
  refine gg_cv rfl (gg_leS (gg_leS (gg_leS (gg_leS (gg_leN (gg_leN gg_le0)))))) rfl (by first | exact Nat.le_refl _ | (dsimp only; omega)) (by first | exact Nat.le_refl _ | (dsimp only; omega)) (L0 _ n1 (llU Qa n1 x1) (lsF (fun j => so (Qa j)) n1) (Nat.lt_succ_self _) (Nat.le_refl _) (up_start hHp) (llU_n) (fun i => push_Qi) (fun a b => push_Qj a b) (fun j hj => pu_f hj) (fun j hj => by unfold llU; split; exact hx1; exact hQ j (by omega)))
set_option maxHeartbeats 4000000 in
theorem ct_J32_siftDownUsingComparator {l : Launch} (hl : l.stackTraces = false) {g : gg_G}  {ea cm0 cap n1 x1 N : Nat} {so ro fa Qa : Nat → Nat} (hn : n1 < cap) (hn0 : 1 ≤ n1) (hcap : cap ≤ 90) (hkey : ∀ k, k < N → ro k < 10 ∧ fa k ≤ 1000) (hx1 : x1 < N) (hQ : ∀ j, j < n1 → Qa j < N) (hHp : Hp (kyS ro fa) Qa (n1 + 1)) (hxn : Qa n1 = x1) : gg_C l g yJ32_siftDownUsingComparator (ws_ yJ32_siftDownUsingComparator cJ32_siftDownUsingComparator 9 none) { frames := 6, cells := 0, slots := 0, locals := 140 } [.int (nI 0), .ref (so x1), .ref ea, .int (nI n1), .ref cm0] ([(cm0, .inl (8, []))] ++ (mp (stN so ro fa) N)) [[(ea, gg_ao g 4 cap (lsF (fun j => so (Qa j)) (n1)))]] (fun vv CC => ∃ (Q3 : Nat → Nat), (Hp (kyS ro fa) Q3 n1 ∧ (∀ i, Qi Q3 n1 i ↔ Qi (llU Qa 0 x1) n1 i) ∧ (Qj (llU Qa 0 x1) n1 → Qj Q3 n1)) ∧ vv = none ∧ CC = [[(ea, gg_ao g 4 cap (lsF (fun j => so (Q3 j)) (n1)))]]) gg_no := by
  refine gg_of (lv := [_, _, _, _, _, _, _, _, _]) (by decide) hl (Nat.le_of_ble_eq_true rfl) rfl ?_
  intro p e R s m args below meth c A Q hRf hRl hRc hRs E Fn hnm hex
  refine gg_iload_n (pc := 0) E dJ32_siftDownUsingComparator_0 rfl rfl ?_
  refine gg_iconst (v := 1) (pc := 1) E dJ32_siftDownUsingComparator_1 (by decide) ?_
  refine gg_iushr (pc := 2) E dJ32_siftDownUsingComparator_2 rfl ?_
  refine gg_topI (y := nI (n1 / 2)) (ush1 _ (by omega)) ?_
  refine gg_istore (lv' := [_, _, _, _, _, _, _, _, _]) (pc := 3) E dJ32_siftDownUsingComparator_3 (Nat.le_of_ble_eq_true rfl) rfl rfl ?_
  have L5 : ∀ (n : Nat) (k : Nat) (Q2 : Nat → Nat) (f2 : Nat → Option Nat), n1 - k < n → (k < n1) → (Dn (kyS ro fa) Q2 n1 k) → (Q2 k = x1) → (∀ i, Qi Q2 n1 i ↔ Qi (llU Qa 0 x1) n1 i) → (Qj (llU Qa 0 x1) n1 → Qj Q2 n1) → (∀ j, j ≠ k → f2 j = lsF (fun j => so (Q2 j)) n1 j) → (∀ j, j < n1 → Q2 j < N) → gg_W p l e R s m args below meth c g A 9 Q 0 0 [[(ea, gg_ao g 4 cap f2)]] [some (.int (nI k)), some (.ref (so x1)), some (.ref ea), some (.int (nI n1)), some (.ref cm0), some (.int (nI (n1 / 2))), none, none, none] [] 5 := by
    intro n5
    induction n5 with
    | zero => intro k Q2 f2 hmz; exact absurd hmz (Nat.not_lt_zero _)
    | succ n5 ih5 =>
      intro k Q2 f2 hm5 hk hup hx hset hinj hf hlt
      refine gg_iload_n (pc := 5) E dJ32_siftDownUsingComparator_5 rfl rfl ?_
      refine gg_iload (pc := 6) E dJ32_siftDownUsingComparator_6 rfl ?_
      refine gg_icmpN_ge (tgt := 88) (pc := 8) E k (n1 / 2) rfl rfl (by omega) (by omega) dJ32_siftDownUsingComparator_8 (by decide) (fun c8 => ?_) (fun c8 => ?_)
      · refine gg_aload_n (pc := 88) E dJ32_siftDownUsingComparator_88 rfl rfl ?_
        refine gg_iload_n (pc := 89) E dJ32_siftDownUsingComparator_89 rfl rfl ?_
        refine gg_aload_n (pc := 90) E dJ32_siftDownUsingComparator_90 rfl rfl ?_
        refine gg_aastRN (M' := [_]) (pc := 91) E 4 rfl k rfl (by omega) (by omega) dJ32_siftDownUsingComparator_91 0 rfl (gg_isaO E (gg_rm (List.mem_append_right _ (mp_mem (by first | omega | exact hlt _ (by omega))))) ck_X10 nq3516) rfl ?_
        refine gg_vret (pc := 92) E Fn rfl dJ32_siftDownUsingComparator_92 (by first | exact Nat.le_of_ble_eq_true rfl | (dsimp only; omega)) (by first | exact Nat.le_of_ble_eq_true rfl | (dsimp only; omega)) ?_
        exact ⟨Q2, ⟨dn_done hup (fun j j0 hj e9 => by omega), hset, hinj⟩, rfl, by rw [fin_f (by omega) hx hf]⟩
      · refine gg_iload_n (pc := 11) E dJ32_siftDownUsingComparator_11 rfl rfl ?_
        refine gg_iconst (v := 1) (pc := 12) E dJ32_siftDownUsingComparator_12 (by decide) ?_
        refine gg_ishl (pc := 13) E dJ32_siftDownUsingComparator_13 ?_
        refine gg_topI (y := nI (2 * k)) (shl1 _ (by omega)) ?_
        refine gg_iconst (v := 1) (pc := 14) E dJ32_siftDownUsingComparator_14 (by decide) ?_
        refine gg_iaddN (pc := 15) E (2 * k) 1 rfl rfl dJ32_siftDownUsingComparator_15 ?_
        refine gg_istore (lv' := [_, _, _, _, _, _, _, _, _]) (pc := 16) E dJ32_siftDownUsingComparator_16 (Nat.le_of_ble_eq_true rfl) rfl rfl ?_
        refine gg_aload_n (pc := 18) E dJ32_siftDownUsingComparator_18 rfl rfl ?_
        refine gg_iload (pc := 19) E dJ32_siftDownUsingComparator_19 rfl ?_
        refine gg_aaldN (pc := 21) E 4 rfl ((2 * k) + 1) rfl (by omega) (by omega) dJ32_siftDownUsingComparator_21 (gg_i 0 rfl) ?_
        refine gg_topV (show va_rf (f2 (2 * k + 1)) = .ref (so (Q2 (2 * k + 1))) from by rw [hf _ (by omega), lsF_at (by omega)]; rfl) ?_
        refine gg_astore (lv' := [_, _, _, _, _, _, _, _, _]) (pc := 22) E dJ32_siftDownUsingComparator_22 (Nat.le_of_ble_eq_true rfl) rfl rfl ?_
        refine gg_iload (pc := 24) E dJ32_siftDownUsingComparator_24 rfl ?_
        refine gg_iconst (v := 1) (pc := 26) E dJ32_siftDownUsingComparator_26 (by decide) ?_
        refine gg_iaddN (pc := 27) E ((2 * k) + 1) 1 rfl rfl dJ32_siftDownUsingComparator_27 ?_
        refine gg_istore (lv' := [_, _, _, _, _, _, _, _, _]) (pc := 28) E dJ32_siftDownUsingComparator_28 (Nat.le_of_ble_eq_true rfl) rfl rfl ?_
        refine gg_iload (pc := 30) E dJ32_siftDownUsingComparator_30 rfl ?_
        refine gg_iload_n (pc := 32) E dJ32_siftDownUsingComparator_32 rfl rfl ?_
        refine gg_icmpN_ge (tgt := 61) (pc := 33) E ((2 * k) + 1 + 1) n1 rfl rfl (by omega) (by omega) dJ32_siftDownUsingComparator_33 (by decide) (fun c33 => ?_) (fun c33 => ?_)
        · refine gg_aload (pc := 61) E dJ32_siftDownUsingComparator_61 rfl ?_
          refine gg_aload_n (pc := 63) E dJ32_siftDownUsingComparator_63 rfl rfl ?_
          refine gg_aload (pc := 64) E dJ32_siftDownUsingComparator_64 rfl ?_
          refine gg_callF (F := [_]) (As := [_, _]) (rest := []) (pc := 66) E ck_X9 (ct_X9_compare hl ) (gg_cwF 2 E (x := ⟨"java/util/Comparator", "compare", "(Ljava/lang/Object;Ljava/lang/Object;)I"⟩) (by decide) nq1821 nq1819 nq1817 (lw_app (lw_in _ [1798, 1818, 1820, 195] (by decide +kernel) (by decide +kernel)) (lw_meth q1822)) (by decide +kernel) ⟨by rw [hRf]; exact Nat.le_of_ble_eq_true rfl, by rw [hRl]; exact Nat.le_of_ble_eq_true rfl⟩) dJ32_siftDownUsingComparator_66 [] (by decide) rfl rfl (List.forall_mem_cons.mpr ⟨(gg_r 0 rfl), (List.forall_mem_cons.mpr ⟨(gg_rm (List.mem_append_right _ (mp_mem (by first | omega | exact hlt _ (by omega))))), (List.forall_mem_cons.mpr ⟨(gg_rm (List.mem_append_right _ (mp_mem (by first | omega | exact hlt _ (by omega))))), (fun _ h => by cases h)⟩)⟩)⟩) (gg_r 0 rfl) rfl rfl (Nat.le_of_ble_eq_true rfl) (by first | (rw [hRc]; exact Nat.le_of_ble_eq_true rfl) | (rw [hRc]; dsimp only; omega)) (by first | (rw [hRs]; exact Nat.le_of_ble_eq_true rfl) | (rw [hRs]; dsimp only; omega)) ?_ (fun X q C1 h => h.elim)
          rintro _ _ ⟨rfl, rfl⟩
          dsimp only [List.cons_append, List.nil_append, Option.toList]
          refine gg_if_gt (tgt := 77) (pc := 71) E dJ32_siftDownUsingComparator_71 (by decide) (fun c71 => ?_) (fun c71 => ?_)
          · refine gg_aload_n (pc := 77) E dJ32_siftDownUsingComparator_77 rfl rfl ?_
            refine gg_iload_n (pc := 78) E dJ32_siftDownUsingComparator_78 rfl rfl ?_
            refine gg_aload (pc := 79) E dJ32_siftDownUsingComparator_79 rfl ?_
            refine gg_aastRN (M' := [_]) (pc := 81) E 4 rfl k rfl (by omega) (by omega) dJ32_siftDownUsingComparator_81 0 rfl (gg_isaO E (gg_rm (List.mem_append_right _ (mp_mem (by first | omega | exact hlt _ (by omega))))) ck_X10 nq3516) rfl ?_
            refine gg_iload (pc := 82) E dJ32_siftDownUsingComparator_82 rfl ?_
            refine gg_istore_n (lv' := [_, _, _, _, _, _, _, _, _]) (pc := 84) E dJ32_siftDownUsingComparator_84 rfl (Nat.le_of_ble_eq_true rfl) rfl rfl ?_
            refine gg_goto (tgt := 5) (pc := 85) E dJ32_siftDownUsingComparator_85 (by decide) ?_
            refine gg_cv rfl (gg_leS (gg_leS (gg_leS (gg_leS (gg_leS (gg_leS (gg_leN (gg_leN (gg_leN gg_le0))))))))) rfl (by first | exact Nat.le_refl _ | (dsimp only; omega)) (by first | exact Nat.le_refl _ | (dsimp only; omega)) (ih5 (2 * k + 1) (sw Q2 k (2 * k + 1)) (va_up f2 k (some (so (Q2 (2 * k + 1))))) (by omega) (by omega) (dn_step hup (by omega) (by omega) (by omega) (fun j j0 hj e9 => Nat.le_of_eq (by rw [show j = 2 * k + 1 by omega])) (by rw [hx]; exact (np_gt (hkey _ hx1) (hkey _ (hlt _ (by omega)))).mp c71)) (sw_b.trans hx) (fun i => (sw_Qi (by omega) (by omega)).trans (hset i)) (fun a => sw_Qj (by omega) (by omega) (hinj a)) (sw_f (by omega) hf) (sw_lt (by omega) (by omega) hlt))
          · refine gg_goto (tgt := 88) (pc := 74) E dJ32_siftDownUsingComparator_74 (by decide) ?_
            refine gg_aload_n (pc := 88) E dJ32_siftDownUsingComparator_88 rfl rfl ?_
            refine gg_iload_n (pc := 89) E dJ32_siftDownUsingComparator_89 rfl rfl ?_
            refine gg_aload_n (pc := 90) E dJ32_siftDownUsingComparator_90 rfl rfl ?_
            refine gg_aastRN (M' := [_]) (pc := 91) E 4 rfl k rfl (by omega) (by omega) dJ32_siftDownUsingComparator_91 0 rfl (gg_isaO E (gg_rm (List.mem_append_right _ (mp_mem (by first | omega | exact hlt _ (by omega))))) ck_X10 nq3516) rfl ?_
            refine gg_vret (pc := 92) E Fn rfl dJ32_siftDownUsingComparator_92 (by first | exact Nat.le_of_ble_eq_true rfl | (dsimp only; omega)) (by first | exact Nat.le_of_ble_eq_true rfl | (dsimp only; omega)) ?_
            have hmn : ∀ j, 0 < j → j < n1 → (j - 1) / 2 = k → (kyS ro fa) (Q2 (2 * k + 1)) ≤ (kyS ro fa) (Q2 j) := (fun j j0 hj e9 => Nat.le_of_eq (by rw [show j = 2 * k + 1 by omega]))
            exact ⟨Q2, ⟨dn_done hup (fun j j0 hj e9 => Nat.le_trans (by rw [hx]; exact Nat.le_of_not_lt fun q => c71 ((np_gt (hkey _ hx1) (hkey _ (hlt _ (by omega)))).mpr q)) (hmn j j0 hj e9)), hset, hinj⟩, rfl, by rw [fin_f (by omega) hx hf]⟩
        · refine gg_aload (pc := 36) E dJ32_siftDownUsingComparator_36 rfl ?_
          refine gg_aload (pc := 38) E dJ32_siftDownUsingComparator_38 rfl ?_
          refine gg_aload_n (pc := 40) E dJ32_siftDownUsingComparator_40 rfl rfl ?_
          refine gg_iload (pc := 41) E dJ32_siftDownUsingComparator_41 rfl ?_
          refine gg_aaldN (pc := 43) E 4 rfl ((2 * k) + 1 + 1) rfl (by omega) (by omega) dJ32_siftDownUsingComparator_43 (gg_i 0 rfl) ?_
          refine gg_topV (show va_rf (f2 (2 * k + 1 + 1)) = .ref (so (Q2 (2 * k + 1 + 1))) from by rw [hf _ (by omega), lsF_at (by omega)]; rfl) ?_
          refine gg_callF (F := [_]) (As := [_, _]) (rest := []) (pc := 44) E ck_X9 (ct_X9_compare hl ) (gg_cwF 2 E (x := ⟨"java/util/Comparator", "compare", "(Ljava/lang/Object;Ljava/lang/Object;)I"⟩) (by decide) nq1821 nq1819 nq1817 (lw_app (lw_in _ [1798, 1818, 1820, 195] (by decide +kernel) (by decide +kernel)) (lw_meth q1822)) (by decide +kernel) ⟨by rw [hRf]; exact Nat.le_of_ble_eq_true rfl, by rw [hRl]; exact Nat.le_of_ble_eq_true rfl⟩) dJ32_siftDownUsingComparator_44 [] (by decide) rfl rfl (List.forall_mem_cons.mpr ⟨(gg_r 0 rfl), (List.forall_mem_cons.mpr ⟨(gg_rm (List.mem_append_right _ (mp_mem (by first | omega | exact hlt _ (by omega))))), (List.forall_mem_cons.mpr ⟨(gg_rm (List.mem_append_right _ (mp_mem (by first | omega | exact hlt _ (by omega))))), (fun _ h => by cases h)⟩)⟩)⟩) (gg_r 0 rfl) rfl rfl (Nat.le_of_ble_eq_true rfl) (by first | (rw [hRc]; exact Nat.le_of_ble_eq_true rfl) | (rw [hRc]; dsimp only; omega)) (by first | (rw [hRs]; exact Nat.le_of_ble_eq_true rfl) | (rw [hRs]; dsimp only; omega)) ?_ (fun X q C1 h => h.elim)
          rintro _ _ ⟨rfl, rfl⟩
          dsimp only [List.cons_append, List.nil_append, Option.toList]
          refine gg_if_le (tgt := 61) (pc := 49) E dJ32_siftDownUsingComparator_49 (by decide) (fun c49 => ?_) (fun c49 => ?_)
          · refine gg_aload (pc := 61) E dJ32_siftDownUsingComparator_61 rfl ?_
            refine gg_aload_n (pc := 63) E dJ32_siftDownUsingComparator_63 rfl rfl ?_
            refine gg_aload (pc := 64) E dJ32_siftDownUsingComparator_64 rfl ?_
            refine gg_callF (F := [_]) (As := [_, _]) (rest := []) (pc := 66) E ck_X9 (ct_X9_compare hl ) (gg_cwF 2 E (x := ⟨"java/util/Comparator", "compare", "(Ljava/lang/Object;Ljava/lang/Object;)I"⟩) (by decide) nq1821 nq1819 nq1817 (lw_app (lw_in _ [1798, 1818, 1820, 195] (by decide +kernel) (by decide +kernel)) (lw_meth q1822)) (by decide +kernel) ⟨by rw [hRf]; exact Nat.le_of_ble_eq_true rfl, by rw [hRl]; exact Nat.le_of_ble_eq_true rfl⟩) dJ32_siftDownUsingComparator_66 [] (by decide) rfl rfl (List.forall_mem_cons.mpr ⟨(gg_r 0 rfl), (List.forall_mem_cons.mpr ⟨(gg_rm (List.mem_append_right _ (mp_mem (by first | omega | exact hlt _ (by omega))))), (List.forall_mem_cons.mpr ⟨(gg_rm (List.mem_append_right _ (mp_mem (by first | omega | exact hlt _ (by omega))))), (fun _ h => by cases h)⟩)⟩)⟩) (gg_r 0 rfl) rfl rfl (Nat.le_of_ble_eq_true rfl) (by first | (rw [hRc]; exact Nat.le_of_ble_eq_true rfl) | (rw [hRc]; dsimp only; omega)) (by first | (rw [hRs]; exact Nat.le_of_ble_eq_true rfl) | (rw [hRs]; dsimp only; omega)) ?_ (fun X q C1 h => h.elim)
            rintro _ _ ⟨rfl, rfl⟩
            dsimp only [List.cons_append, List.nil_append, Option.toList]
            refine gg_if_gt (tgt := 77) (pc := 71) E dJ32_siftDownUsingComparator_71 (by decide) (fun c71 => ?_) (fun c71 => ?_)
            · refine gg_aload_n (pc := 77) E dJ32_siftDownUsingComparator_77 rfl rfl ?_
              refine gg_iload_n (pc := 78) E dJ32_siftDownUsingComparator_78 rfl rfl ?_
              refine gg_aload (pc := 79) E dJ32_siftDownUsingComparator_79 rfl ?_
              refine gg_aastRN (M' := [_]) (pc := 81) E 4 rfl k rfl (by omega) (by omega) dJ32_siftDownUsingComparator_81 0 rfl (gg_isaO E (gg_rm (List.mem_append_right _ (mp_mem (by first | omega | exact hlt _ (by omega))))) ck_X10 nq3516) rfl ?_
              refine gg_iload (pc := 82) E dJ32_siftDownUsingComparator_82 rfl ?_
              refine gg_istore_n (lv' := [_, _, _, _, _, _, _, _, _]) (pc := 84) E dJ32_siftDownUsingComparator_84 rfl (Nat.le_of_ble_eq_true rfl) rfl rfl ?_
              refine gg_goto (tgt := 5) (pc := 85) E dJ32_siftDownUsingComparator_85 (by decide) ?_
              refine gg_cv rfl (gg_leS (gg_leS (gg_leS (gg_leS (gg_leS (gg_leS (gg_leN (gg_leN (gg_leN gg_le0))))))))) rfl (by first | exact Nat.le_refl _ | (dsimp only; omega)) (by first | exact Nat.le_refl _ | (dsimp only; omega)) (ih5 (2 * k + 1) (sw Q2 k (2 * k + 1)) (va_up f2 k (some (so (Q2 (2 * k + 1))))) (by omega) (by omega) (dn_step hup (by omega) (by omega) (by omega) (fun j j0 hj e9 => (show j = 2 * k + 1 ∨ j = 2 * k + 1 + 1 by omega).elim (fun z => Nat.le_of_eq (by rw [z])) (fun z => by rw [z]; exact Nat.le_of_not_lt fun q => absurd ((np_gt (hkey _ (hlt _ (by omega))) (hkey _ (hlt _ (by omega)))).mpr q) (Int32.not_lt.mpr c49))) (by rw [hx]; exact (np_gt (hkey _ hx1) (hkey _ (hlt _ (by omega)))).mp c71)) (sw_b.trans hx) (fun i => (sw_Qi (by omega) (by omega)).trans (hset i)) (fun a => sw_Qj (by omega) (by omega) (hinj a)) (sw_f (by omega) hf) (sw_lt (by omega) (by omega) hlt))
            · refine gg_goto (tgt := 88) (pc := 74) E dJ32_siftDownUsingComparator_74 (by decide) ?_
              refine gg_aload_n (pc := 88) E dJ32_siftDownUsingComparator_88 rfl rfl ?_
              refine gg_iload_n (pc := 89) E dJ32_siftDownUsingComparator_89 rfl rfl ?_
              refine gg_aload_n (pc := 90) E dJ32_siftDownUsingComparator_90 rfl rfl ?_
              refine gg_aastRN (M' := [_]) (pc := 91) E 4 rfl k rfl (by omega) (by omega) dJ32_siftDownUsingComparator_91 0 rfl (gg_isaO E (gg_rm (List.mem_append_right _ (mp_mem (by first | omega | exact hlt _ (by omega))))) ck_X10 nq3516) rfl ?_
              refine gg_vret (pc := 92) E Fn rfl dJ32_siftDownUsingComparator_92 (by first | exact Nat.le_of_ble_eq_true rfl | (dsimp only; omega)) (by first | exact Nat.le_of_ble_eq_true rfl | (dsimp only; omega)) ?_
              have hmn : ∀ j, 0 < j → j < n1 → (j - 1) / 2 = k → (kyS ro fa) (Q2 (2 * k + 1)) ≤ (kyS ro fa) (Q2 j) := (fun j j0 hj e9 => (show j = 2 * k + 1 ∨ j = 2 * k + 1 + 1 by omega).elim (fun z => Nat.le_of_eq (by rw [z])) (fun z => by rw [z]; exact Nat.le_of_not_lt fun q => absurd ((np_gt (hkey _ (hlt _ (by omega))) (hkey _ (hlt _ (by omega)))).mpr q) (Int32.not_lt.mpr c49)))
              exact ⟨Q2, ⟨dn_done hup (fun j j0 hj e9 => Nat.le_trans (by rw [hx]; exact Nat.le_of_not_lt fun q => c71 ((np_gt (hkey _ hx1) (hkey _ (hlt _ (by omega)))).mpr q)) (hmn j j0 hj e9)), hset, hinj⟩, rfl, by rw [fin_f (by omega) hx hf]⟩
          · refine gg_aload_n (pc := 52) E dJ32_siftDownUsingComparator_52 rfl rfl ?_
            refine gg_iload (pc := 53) E dJ32_siftDownUsingComparator_53 rfl ?_
            refine gg_dup (pc := 55) E dJ32_siftDownUsingComparator_55 rfl ?_
            refine gg_istore (lv' := [_, _, _, _, _, _, _, _, _]) (pc := 56) E dJ32_siftDownUsingComparator_56 (Nat.le_of_ble_eq_true rfl) rfl rfl ?_
            refine gg_aaldN (pc := 58) E 4 rfl ((2 * k) + 1 + 1) rfl (by omega) (by omega) dJ32_siftDownUsingComparator_58 (gg_i 0 rfl) ?_
            refine gg_topV (show va_rf (f2 (2 * k + 1 + 1)) = .ref (so (Q2 (2 * k + 1 + 1))) from by rw [hf _ (by omega), lsF_at (by omega)]; rfl) ?_
            refine gg_astore (lv' := [_, _, _, _, _, _, _, _, _]) (pc := 59) E dJ32_siftDownUsingComparator_59 (Nat.le_of_ble_eq_true rfl) rfl rfl ?_
            refine gg_aload (pc := 61) E dJ32_siftDownUsingComparator_61 rfl ?_
            refine gg_aload_n (pc := 63) E dJ32_siftDownUsingComparator_63 rfl rfl ?_
            refine gg_aload (pc := 64) E dJ32_siftDownUsingComparator_64 rfl ?_
            refine gg_callF (F := [_]) (As := [_, _]) (rest := []) (pc := 66) E ck_X9 (ct_X9_compare hl ) (gg_cwF 2 E (x := ⟨"java/util/Comparator", "compare", "(Ljava/lang/Object;Ljava/lang/Object;)I"⟩) (by decide) nq1821 nq1819 nq1817 (lw_app (lw_in _ [1798, 1818, 1820, 195] (by decide +kernel) (by decide +kernel)) (lw_meth q1822)) (by decide +kernel) ⟨by rw [hRf]; exact Nat.le_of_ble_eq_true rfl, by rw [hRl]; exact Nat.le_of_ble_eq_true rfl⟩) dJ32_siftDownUsingComparator_66 [] (by decide) rfl rfl (List.forall_mem_cons.mpr ⟨(gg_r 0 rfl), (List.forall_mem_cons.mpr ⟨(gg_rm (List.mem_append_right _ (mp_mem (by first | omega | exact hlt _ (by omega))))), (List.forall_mem_cons.mpr ⟨(gg_rm (List.mem_append_right _ (mp_mem (by first | omega | exact hlt _ (by omega))))), (fun _ h => by cases h)⟩)⟩)⟩) (gg_r 0 rfl) rfl rfl (Nat.le_of_ble_eq_true rfl) (by first | (rw [hRc]; exact Nat.le_of_ble_eq_true rfl) | (rw [hRc]; dsimp only; omega)) (by first | (rw [hRs]; exact Nat.le_of_ble_eq_true rfl) | (rw [hRs]; dsimp only; omega)) ?_ (fun X q C1 h => h.elim)
            rintro _ _ ⟨rfl, rfl⟩
            dsimp only [List.cons_append, List.nil_append, Option.toList]
            refine gg_if_gt (tgt := 77) (pc := 71) E dJ32_siftDownUsingComparator_71 (by decide) (fun c71 => ?_) (fun c71 => ?_)
            · refine gg_aload_n (pc := 77) E dJ32_siftDownUsingComparator_77 rfl rfl ?_
              refine gg_iload_n (pc := 78) E dJ32_siftDownUsingComparator_78 rfl rfl ?_
              refine gg_aload (pc := 79) E dJ32_siftDownUsingComparator_79 rfl ?_
              refine gg_aastRN (M' := [_]) (pc := 81) E 4 rfl k rfl (by omega) (by omega) dJ32_siftDownUsingComparator_81 0 rfl (gg_isaO E (gg_rm (List.mem_append_right _ (mp_mem (by first | omega | exact hlt _ (by omega))))) ck_X10 nq3516) rfl ?_
              refine gg_iload (pc := 82) E dJ32_siftDownUsingComparator_82 rfl ?_
              refine gg_istore_n (lv' := [_, _, _, _, _, _, _, _, _]) (pc := 84) E dJ32_siftDownUsingComparator_84 rfl (Nat.le_of_ble_eq_true rfl) rfl rfl ?_
              refine gg_goto (tgt := 5) (pc := 85) E dJ32_siftDownUsingComparator_85 (by decide) ?_
              refine gg_cv rfl (gg_leS (gg_leS (gg_leS (gg_leS (gg_leS (gg_leS (gg_leN (gg_leN (gg_leN gg_le0))))))))) rfl (by first | exact Nat.le_refl _ | (dsimp only; omega)) (by first | exact Nat.le_refl _ | (dsimp only; omega)) (ih5 (2 * k + 1 + 1) (sw Q2 k (2 * k + 1 + 1)) (va_up f2 k (some (so (Q2 (2 * k + 1 + 1))))) (by omega) (by omega) (dn_step hup (by omega) (by omega) (by omega) (fun j j0 hj e9 => (show j = 2 * k + 1 ∨ j = 2 * k + 1 + 1 by omega).elim (fun z => by rw [z]; exact Nat.le_of_lt ((np_gt (hkey _ (hlt _ (by omega))) (hkey _ (hlt _ (by omega)))).mp (Int32.not_le.mp c49))) (fun z => Nat.le_of_eq (by rw [z]))) (by rw [hx]; exact (np_gt (hkey _ hx1) (hkey _ (hlt _ (by omega)))).mp c71)) (sw_b.trans hx) (fun i => (sw_Qi (by omega) (by omega)).trans (hset i)) (fun a => sw_Qj (by omega) (by omega) (hinj a)) (sw_f (by omega) hf) (sw_lt (by omega) (by omega) hlt))
            · refine gg_goto (tgt := 88) (pc := 74) E dJ32_siftDownUsingComparator_74 (by decide) ?_
              refine gg_aload_n (pc := 88) E dJ32_siftDownUsingComparator_88 rfl rfl ?_
              refine gg_iload_n (pc := 89) E dJ32_siftDownUsingComparator_89 rfl rfl ?_
              refine gg_aload_n (pc := 90) E dJ32_siftDownUsingComparator_90 rfl rfl ?_
              refine gg_aastRN (M' := [_]) (pc := 91) E 4 rfl k rfl (by omega) (by omega) dJ32_siftDownUsingComparator_91 0 rfl (gg_isaO E (gg_rm (List.mem_append_right _ (mp_mem (by first | omega | exact hlt _ (by omega))))) ck_X10 nq3516) rfl ?_
              refine gg_vret (pc := 92) E Fn rfl dJ32_siftDownUsingComparator_92 (by first | exact Nat.le_of_ble_eq_true rfl | (dsimp only; omega)) (by first | exact Nat.le_of_ble_eq_true rfl | (dsimp only; omega)) ?_
              have hmn : ∀ j, 0 < j → j < n1 → (j - 1) / 2 = k → (kyS ro fa) (Q2 (2 * k + 1 + 1)) ≤ (kyS ro fa) (Q2 j) := (fun j j0 hj e9 => (show j = 2 * k + 1 ∨ j = 2 * k + 1 + 1 by omega).elim (fun z => by rw [z]; exact Nat.le_of_lt ((np_gt (hkey _ (hlt _ (by omega))) (hkey _ (hlt _ (by omega)))).mp (Int32.not_le.mp c49))) (fun z => Nat.le_of_eq (by rw [z])))
              exact ⟨Q2, ⟨dn_done hup (fun j j0 hj e9 => Nat.le_trans (by rw [hx]; exact Nat.le_of_not_lt fun q => c71 ((np_gt (hkey _ hx1) (hkey _ (hlt _ (by omega)))).mpr q)) (hmn j j0 hj e9)), hset, hinj⟩, rfl, by rw [fin_f (by omega) hx hf]⟩
  refine gg_cv rfl (gg_leS (gg_leS (gg_leS (gg_leS (gg_leS (gg_leS (gg_leN (gg_leN (gg_leN gg_le0))))))))) rfl (by first | exact Nat.le_refl _ | (dsimp only; omega)) (by first | exact Nat.le_refl _ | (dsimp only; omega)) (L5 _ 0 (llU Qa 0 x1) (lsF (fun j => so (Qa j)) n1) (Nat.lt_succ_self _) (by omega) (by rw [← hxn]; exact dn_start hHp) (llU_n) (fun i => Iff.rfl) (id) (fun j hj => dn_f hj) (fun j hj => by unfold llU; split; exact hx1; exact hQ j hj))

set_option maxRecDepth 100000
abbrev isB (k : Int32) : Prop := k = 32 ∨ k = 10
abbrev isL (k : Int32) : Prop := 97 ≤ k.toInt ∧ k.toInt ≤ 122
abbrev isD (k : Int32) : Prop := 48 ≤ k.toInt ∧ k.toInt ≤ 57
/-- the end of a run -/
def run (P : Int32 → Prop) [DecidablePred P] (b : Nat → Int32) (bn : Nat) : Nat → Nat → Nat
  | 0, p => p
  | f + 1, p => if p < bn ∧ P (b p) then run P b bn f (p + 1) else p
def rn (P : Int32 → Prop) [DecidablePred P] (b : Nat → Int32) (bn p : Nat) : Nat := run P b bn (bn - p) p
theorem rn_t {P : Int32 → Prop} [DecidablePred P] {b : Nat → Int32} {bn p : Nat} (h : p < bn) (hp : P (b p)) : rn P b bn p = rn P b bn (p + 1) := by
  unfold rn
  rw [show bn - p = (bn - (p + 1)) + 1 by omega]
  conv => lhs; unfold run
  rw [if_pos ⟨h, hp⟩]
theorem rn_f {P : Int32 → Prop} [DecidablePred P] {b : Nat → Int32} {bn p : Nat} (h : ¬ (p < bn ∧ P (b p))) : rn P b bn p = p := by
  unfold rn
  generalize bn - p = f
  cases f with
  | zero => rfl
  | succ f =>
    unfold run
    rw [if_neg h]
theorem run_le {P : Int32 → Prop} [DecidablePred P] {b : Nat → Int32} {bn : Nat} : ∀ f p, p ≤ bn → p ≤ run P b bn f p ∧ run P b bn f p ≤ bn := by
  intro f
  induction f with
  | zero => intro p h; exact ⟨Nat.le_refl _, h⟩
  | succ f ih =>
    intro p h
    unfold run
    by_cases q : p < bn ∧ P (b p)
    · rw [if_pos q]
      have := ih (p + 1) (by omega)
      omega
    · rw [if_neg q]
      exact ⟨Nat.le_refl _, h⟩
theorem rn_le {P : Int32 → Prop} [DecidablePred P] {b : Nat → Int32} {bn p : Nat} (h : p ≤ bn) : p ≤ rn P b bn p ∧ rn P b bn p ≤ bn := run_le _ _ h
/-- the number that n digits from a tell -/
def vl (b : Nat → Int32) (a : Nat) : Nat → Int32
  | 0 => 0
  | k + 1 => if k < 3 then 10 * vl b a k + b (a + k) - 48 else vl b a k
theorem vl_t {b : Nat → Int32} {q r : Nat} (h : q ≤ r) (h3 : r - q < 3) : 10 * vl b q (r - q) + b r - 48 = vl b q (r + 1 - q) := by
  rw [show r + 1 - q = (r - q) + 1 by omega]
  conv => rhs; unfold vl
  rw [if_pos h3, show q + (r - q) = r by omega]
theorem vl_f {b : Nat → Int32} {q r : Nat} (h : q ≤ r) (h3 : ¬ r - q < 3) : vl b q (r - q) = vl b q (r + 1 - q) := by
  rw [show r + 1 - q = (r - q) + 1 by omega]
  conv => rhs; unfold vl
  rw [if_neg h3]
/-- what going on by a token makes of the scalars -/
def goT (b : Nat → Int32) (bn a : Nat) (x : Nat → Int32) : Nat → Int32 :=
  if a = bn then upd (upd (upd x 16 (nI a)) 17 (nI a)) 18 0
  else if isL (b a) then upd (upd (upd x 16 (nI a)) 17 (nI (rn isL b bn a))) 18 (if rn isL b bn a - a ≤ 8 then 1 else 4)
  else if isD (b a) then upd (upd (upd (upd x 16 (nI a)) 17 (nI (rn isD b bn a))) 19 (vl b a (rn isD b bn a - a))) 18 (if rn isD b bn a - a ≤ 3 then 2 else 4)
  else upd (upd (upd x 16 (nI a)) 17 (nI (a + 1))) 18 (if b a = 59 then 3 else 4)
def goX (b : Nat → Int32) (bn : Nat) (x : Nat → Int32) : Nat → Int32 := if 0 < x 20 then x else goT b bn (rn isB b bn (tn (x 17))) x
set_option maxHeartbeats 4000000 in
theorem ct_X5_goesOn {l : Launch} (hl : l.stackTraces = false) {g : gg_G}  {h : Nat} {ad : Nat → Nat} {x : Nat → Int32} {b : Nat → Int32} {bn p0 : Nat} (hx : x 13 = nI bn) (hbn : bn ≤ 800) (hp : x 17 = nI p0) (hpb : p0 ≤ bn) : gg_C l g yX5_goesOn (ws_ yX5_goesOn cX5_goesOn 1 none) { frames := 2, cells := 0, slots := 0, locals := 46 } [.ref h] [((ad 12), gg_ab g 800 b)] [[(h, .inl (4, mo_f ad x))]] (fun vv CC => vv = none ∧ CC = [[(h, .inl (4, mo_f ad (goX b bn x)))]]) gg_no := by
  refine gg_of (lv := [_]) (by decide) hl (Nat.le_of_ble_eq_true rfl) rfl ?_
  intro p e R s m args below meth c A Q hRf hRl hRc hRs E Fn hnm hex
  have hp0 : tn (x 17) = p0 := by rw [hp, tn_nI (j := p0) (by omega)]
  refine gg_aload_n (pc := 0) E dX5_goesOn_0 rfl rfl ?_
  refine gg_get (pc := 1) E ck_X5 20 q2879 rfl (by decide) dX5_goesOn_1 (gg_i 0 rfl) rfl ?_
  refine gg_if_le (tgt := 8) (pc := 4) E dX5_goesOn_4 (by decide) (fun c4 => ?_) (fun c4 => ?_)
  · refine gg_aload_n (pc := 8) E dX5_goesOn_8 rfl rfl ?_
    refine gg_aload_n (pc := 9) E dX5_goesOn_9 rfl rfl ?_
    refine gg_get (pc := 10) E ck_X5 17 q2876 rfl (by decide) dX5_goesOn_10 (gg_i 0 rfl) rfl ?_
    refine gg_topI (y := nI p0) hp ?_
    refine gg_putM (M' := [_]) (pc := 13) E ck_X5 16 q2875 rfl (by decide) dX5_goesOn_13 0 rfl rfl (rfl) rfl (Nat.le_of_ble_eq_true rfl) rfl rfl ?_
    have L16 : ∀ (n : Nat) (q : Nat), bn - q < n → (q ≤ bn) → (rn isB b bn q = rn isB b bn p0) → gg_W p l e R s m args below meth c g A 1 Q 0 0 [[(h, .inl (4, mo_f ad (upd x 16 (nI q))))]] [some (.ref h)] [] 16 := by
      intro n16
      induction n16 with
      | zero => intro q hmz; exact absurd hmz (Nat.not_lt_zero _)
      | succ n16 ih16 =>
        intro q hm16 hqb hrn
        refine gg_aload_n (pc := 16) E dX5_goesOn_16 rfl rfl ?_
        refine gg_get (pc := 17) E ck_X5 16 q2875 rfl (by decide) dX5_goesOn_17 (gg_i 0 rfl) rfl ?_
        refine gg_topI (y := nI q) pk_us ?_
        refine gg_aload_n (pc := 20) E dX5_goesOn_20 rfl rfl ?_
        refine gg_get (pc := 21) E ck_X5 13 q2872 rfl (by decide) dX5_goesOn_21 (gg_i 0 rfl) rfl ?_
        refine gg_topI (y := nI bn) ((pk_un (by omega)).trans hx) ?_
        refine gg_icmpN_ge (tgt := 68) (pc := 24) E q bn rfl rfl (by omega) (by omega) dX5_goesOn_24 (by decide) (fun c24 => ?_) (fun c24 => ?_)
        · have hq : rn isB b bn p0 = q := hrn.symm.trans (rn_f (fun z => absurd z.1 (by omega)))
          refine gg_aload_n (pc := 68) E dX5_goesOn_68 rfl rfl ?_
          refine gg_aload_n (pc := 69) E dX5_goesOn_69 rfl rfl ?_
          refine gg_get (pc := 70) E ck_X5 16 q2875 rfl (by decide) dX5_goesOn_70 (gg_i 0 rfl) rfl ?_
          refine gg_topI (y := nI q) pk_us ?_
          refine gg_putM (M' := [_]) (pc := 73) E ck_X5 17 q2876 rfl (by decide) dX5_goesOn_73 0 rfl rfl (rfl) rfl (Nat.le_of_ble_eq_true rfl) rfl rfl ?_
          refine gg_aload_n (pc := 76) E dX5_goesOn_76 rfl rfl ?_
          refine gg_get (pc := 77) E ck_X5 16 q2875 rfl (by decide) dX5_goesOn_77 (gg_i 0 rfl) rfl ?_
          refine gg_topI (y := nI q) ((pk_un (by omega)).trans pk_us) ?_
          refine gg_aload_n (pc := 80) E dX5_goesOn_80 rfl rfl ?_
          refine gg_get (pc := 81) E ck_X5 13 q2872 rfl (by decide) dX5_goesOn_81 (gg_i 0 rfl) rfl ?_
          refine gg_topI (y := nI bn) ((pk_un (by omega)).trans ((pk_un (by omega)).trans hx)) ?_
          refine gg_icmpN_ne (tgt := 95) (pc := 84) E q bn rfl rfl (by omega) (by omega) dX5_goesOn_84 (by decide) (fun c84 => ?_) (fun c84 => ?_)
          · refine gg_aload_n (pc := 95) E dX5_goesOn_95 rfl rfl ?_
            refine gg_aload_n (pc := 96) E dX5_goesOn_96 rfl rfl ?_
            refine gg_get (pc := 97) E ck_X5 16 q2875 rfl (by decide) dX5_goesOn_97 (gg_i 0 rfl) rfl ?_
            refine gg_topI (y := nI q) ((pk_un (by omega)).trans pk_us) ?_
            refine gg_callV (F := [_]) (As := [.int (nI q)]) (rest := []) (pc := 100) E ck_X5 (ct_X5_isLetter hl ((pk_un (by omega)).trans ((pk_un (by omega)).trans hx)) (hbn) (by omega)) (cwV 1 E.2.2.2.2.1 (lw_V q2988 q2990 qs73 q179 q2991) rfl rfl rfl (by decide +kernel) ⟨by rw [hRf]; exact Nat.le_of_ble_eq_true rfl, by rw [hRl]; exact Nat.le_of_ble_eq_true rfl⟩) dX5_goesOn_100 [] (by decide) rfl rfl (List.forall_mem_cons.mpr ⟨(gg_i 0 rfl), (List.forall_mem_cons.mpr ⟨(gg_r 0 rfl), (fun _ h => by cases h)⟩)⟩) (gg_i 0 rfl) rfl rfl (Nat.le_of_ble_eq_true rfl) (by first | (rw [hRc]; exact Nat.le_of_ble_eq_true rfl) | (rw [hRc]; dsimp only; omega)) (by first | (rw [hRs]; exact Nat.le_of_ble_eq_true rfl) | (rw [hRs]; dsimp only; omega)) ?_ (fun X q C1 h => h.elim)
            rintro _ _ ⟨rfl, rfl⟩
            dsimp only [List.cons_append, List.nil_append, Option.toList]
            refine gg_ifP_eq (tgt := 156) (pc := 103) E dX5_goesOn_103 (by decide) (fun c103 => ?_) (fun c103 => ?_)
            · refine gg_aload_n (pc := 156) E dX5_goesOn_156 rfl rfl ?_
              refine gg_aload_n (pc := 157) E dX5_goesOn_157 rfl rfl ?_
              refine gg_get (pc := 158) E ck_X5 16 q2875 rfl (by decide) dX5_goesOn_158 (gg_i 0 rfl) rfl ?_
              refine gg_topI (y := nI q) ((pk_un (by omega)).trans pk_us) ?_
              refine gg_callV (F := [_]) (As := [.int (nI q)]) (rest := []) (pc := 161) E ck_X5 (ct_X5_isDigit hl ((pk_un (by omega)).trans ((pk_un (by omega)).trans hx)) (hbn) (by omega)) (cwV 1 E.2.2.2.2.1 (lw_V q2994 q2996 qs74 q179 q2997) rfl rfl rfl (by decide +kernel) ⟨by rw [hRf]; exact Nat.le_of_ble_eq_true rfl, by rw [hRl]; exact Nat.le_of_ble_eq_true rfl⟩) dX5_goesOn_161 [] (by decide) rfl rfl (List.forall_mem_cons.mpr ⟨(gg_i 0 rfl), (List.forall_mem_cons.mpr ⟨(gg_r 0 rfl), (fun _ h => by cases h)⟩)⟩) (gg_i 0 rfl) rfl rfl (Nat.le_of_ble_eq_true rfl) (by first | (rw [hRc]; exact Nat.le_of_ble_eq_true rfl) | (rw [hRc]; dsimp only; omega)) (by first | (rw [hRs]; exact Nat.le_of_ble_eq_true rfl) | (rw [hRs]; dsimp only; omega)) ?_ (fun X q C1 h => h.elim)
              rintro _ _ ⟨rfl, rfl⟩
              dsimp only [List.cons_append, List.nil_append, Option.toList]
              refine gg_ifP_eq (tgt := 265) (pc := 164) E dX5_goesOn_164 (by decide) (fun c164 => ?_) (fun c164 => ?_)
              · refine gg_aload_n (pc := 265) E dX5_goesOn_265 rfl rfl ?_
                refine gg_aload_n (pc := 266) E dX5_goesOn_266 rfl rfl ?_
                refine gg_get (pc := 267) E ck_X5 12 q2871 rfl (by decide) dX5_goesOn_267 (gg_i 0 rfl) rfl ?_
                refine gg_aload_n (pc := 270) E dX5_goesOn_270 rfl rfl ?_
                refine gg_get (pc := 271) E ck_X5 16 q2875 rfl (by decide) dX5_goesOn_271 (gg_i 0 rfl) rfl ?_
                refine gg_topI (y := nI q) ((pk_un (by omega)).trans pk_us) ?_
                refine gg_baldN (pc := 274) E q rfl (by omega) (by omega) dX5_goesOn_274 (gg_r 0 rfl) ?_
                refine gg_bipush (v := 59) (pc := 275) E dX5_goesOn_275 (by decide) ?_
                refine gg_icmp_ne (tgt := 284) (pc := 277) E dX5_goesOn_277 (by decide) (fun c277 => ?_) (fun c277 => ?_)
                · refine gg_iconst (v := 4) (pc := 284) E dX5_goesOn_284 (by decide) ?_
                  refine gg_putM (M' := [_]) (pc := 285) E ck_X5 18 q2877 rfl (by decide) dX5_goesOn_285 0 rfl rfl (rfl) rfl (Nat.le_of_ble_eq_true rfl) rfl rfl ?_
                  refine gg_aload_n (pc := 288) E dX5_goesOn_288 rfl rfl ?_
                  refine gg_dup (pc := 289) E dX5_goesOn_289 rfl ?_
                  refine gg_get (pc := 290) E ck_X5 17 q2876 rfl (by decide) dX5_goesOn_290 (gg_i 0 rfl) rfl ?_
                  refine gg_topI (y := nI q) ((pk_un (by omega)).trans pk_us) ?_
                  refine gg_iconst (v := 1) (pc := 293) E dX5_goesOn_293 (by decide) ?_
                  refine gg_iaddN (pc := 294) E q 1 rfl rfl dX5_goesOn_294 ?_
                  refine gg_putM (M' := [_]) (pc := 295) E ck_X5 17 q2876 rfl (by decide) dX5_goesOn_295 0 rfl rfl (rfl) rfl (Nat.le_of_ble_eq_true rfl) rfl rfl ?_
                  refine gg_vret (pc := 298) E Fn rfl dX5_goesOn_298 (by first | exact Nat.le_of_ble_eq_true rfl | (dsimp only; omega)) (by first | exact Nat.le_of_ble_eq_true rfl | (dsimp only; omega)) ?_
                  refine ⟨rfl, ?_⟩
                  unfold goX goT
                  rw [if_neg (Int32.not_lt.mpr c4), hp0, hq, if_neg c84, if_neg (fun z => c103 ⟨by omega, z⟩), if_neg (fun z => c164 ⟨by omega, z⟩), if_neg c277, upd_cm (a := 18) (b := 17) (by omega), upd_2]
                · refine gg_iconst (v := 3) (pc := 280) E dX5_goesOn_280 (by decide) ?_
                  refine gg_goto (tgt := 285) (pc := 281) E dX5_goesOn_281 (by decide) ?_
                  refine gg_putM (M' := [_]) (pc := 285) E ck_X5 18 q2877 rfl (by decide) dX5_goesOn_285 0 rfl rfl (rfl) rfl (Nat.le_of_ble_eq_true rfl) rfl rfl ?_
                  refine gg_aload_n (pc := 288) E dX5_goesOn_288 rfl rfl ?_
                  refine gg_dup (pc := 289) E dX5_goesOn_289 rfl ?_
                  refine gg_get (pc := 290) E ck_X5 17 q2876 rfl (by decide) dX5_goesOn_290 (gg_i 0 rfl) rfl ?_
                  refine gg_topI (y := nI q) ((pk_un (by omega)).trans pk_us) ?_
                  refine gg_iconst (v := 1) (pc := 293) E dX5_goesOn_293 (by decide) ?_
                  refine gg_iaddN (pc := 294) E q 1 rfl rfl dX5_goesOn_294 ?_
                  refine gg_putM (M' := [_]) (pc := 295) E ck_X5 17 q2876 rfl (by decide) dX5_goesOn_295 0 rfl rfl (rfl) rfl (Nat.le_of_ble_eq_true rfl) rfl rfl ?_
                  refine gg_vret (pc := 298) E Fn rfl dX5_goesOn_298 (by first | exact Nat.le_of_ble_eq_true rfl | (dsimp only; omega)) (by first | exact Nat.le_of_ble_eq_true rfl | (dsimp only; omega)) ?_
                  refine ⟨rfl, ?_⟩
                  unfold goX goT
                  rw [if_neg (Int32.not_lt.mpr c4), hp0, hq, if_neg c84, if_neg (fun z => c103 ⟨by omega, z⟩), if_neg (fun z => c164 ⟨by omega, z⟩), if_pos c277, upd_cm (a := 18) (b := 17) (by omega), upd_2]
              · refine gg_aload_n (pc := 167) E dX5_goesOn_167 rfl rfl ?_
                refine gg_iconst (v := 0) (pc := 168) E dX5_goesOn_168 (by decide) ?_
                refine gg_putM (M' := [_]) (pc := 169) E ck_X5 19 q2878 rfl (by decide) dX5_goesOn_169 0 rfl rfl (rfl) rfl (Nat.le_of_ble_eq_true rfl) rfl rfl ?_
                have L172 : ∀ (n : Nat) (r : Nat), bn - r < n → (q ≤ r) → (r ≤ bn) → (rn isD b bn r = rn isD b bn q) → gg_W p l e R s m args below meth c g A 1 Q 0 0 [[(h, .inl (4, mo_f ad (upd (upd (upd x 16 (nI q)) 17 (nI r)) 19 (vl b q (r - q)))))]] [some (.ref h)] [] 172 := by
                  intro n172
                  induction n172 with
                  | zero => intro r hmz; exact absurd hmz (Nat.not_lt_zero _)
                  | succ n172 ih172 =>
                    intro r hm172 hqr hrb hrl
                    refine gg_aload_n (pc := 172) E dX5_goesOn_172 rfl rfl ?_
                    refine gg_aload_n (pc := 173) E dX5_goesOn_173 rfl rfl ?_
                    refine gg_get (pc := 174) E ck_X5 17 q2876 rfl (by decide) dX5_goesOn_174 (gg_i 0 rfl) rfl ?_
                    refine gg_topI (y := nI r) ((pk_un (by omega)).trans pk_us) ?_
                    refine gg_callV (F := [_]) (As := [.int (nI r)]) (rest := []) (pc := 177) E ck_X5 (ct_X5_isDigit hl ((pk_un (by omega)).trans ((pk_un (by omega)).trans ((pk_un (by omega)).trans hx))) (hbn) (by omega)) (cwV 1 E.2.2.2.2.1 (lw_V q2994 q2996 qs74 q179 q2997) rfl rfl rfl (by decide +kernel) ⟨by rw [hRf]; exact Nat.le_of_ble_eq_true rfl, by rw [hRl]; exact Nat.le_of_ble_eq_true rfl⟩) dX5_goesOn_177 [] (by decide) rfl rfl (List.forall_mem_cons.mpr ⟨(gg_i 0 rfl), (List.forall_mem_cons.mpr ⟨(gg_r 0 rfl), (fun _ h => by cases h)⟩)⟩) (gg_i 0 rfl) rfl rfl (Nat.le_of_ble_eq_true rfl) (by first | (rw [hRc]; exact Nat.le_of_ble_eq_true rfl) | (rw [hRc]; dsimp only; omega)) (by first | (rw [hRs]; exact Nat.le_of_ble_eq_true rfl) | (rw [hRs]; dsimp only; omega)) ?_ (fun X q C1 h => h.elim)
                    rintro _ _ ⟨rfl, rfl⟩
                    dsimp only [List.cons_append, List.nil_append, Option.toList]
                    refine gg_ifP_eq (tgt := 240) (pc := 180) E dX5_goesOn_180 (by decide) (fun c180 => ?_) (fun c180 => ?_)
                    · refine gg_aload_n (pc := 240) E dX5_goesOn_240 rfl rfl ?_
                      refine gg_aload_n (pc := 241) E dX5_goesOn_241 rfl rfl ?_
                      refine gg_get (pc := 242) E ck_X5 17 q2876 rfl (by decide) dX5_goesOn_242 (gg_i 0 rfl) rfl ?_
                      refine gg_topI (y := nI r) ((pk_un (by omega)).trans pk_us) ?_
                      refine gg_aload_n (pc := 245) E dX5_goesOn_245 rfl rfl ?_
                      refine gg_get (pc := 246) E ck_X5 16 q2875 rfl (by decide) dX5_goesOn_246 (gg_i 0 rfl) rfl ?_
                      refine gg_topI (y := nI q) ((pk_un (by omega)).trans ((pk_un (by omega)).trans pk_us)) ?_
                      refine gg_isubN (pc := 249) E r q rfl rfl (by omega) dX5_goesOn_249 ?_
                      refine gg_iconst (v := 3) (pc := 250) E dX5_goesOn_250 (by decide) ?_
                      refine gg_icmpN_le (tgt := 258) (pc := 251) E (r - q) 3 rfl rfl (by omega) (by omega) dX5_goesOn_251 (by decide) (fun c251 => ?_) (fun c251 => ?_)
                      · refine gg_iconst (v := 2) (pc := 258) E dX5_goesOn_258 (by decide) ?_
                        refine gg_putM (M' := [_]) (pc := 259) E ck_X5 18 q2877 rfl (by decide) dX5_goesOn_259 0 rfl rfl (rfl) rfl (Nat.le_of_ble_eq_true rfl) rfl rfl ?_
                        refine gg_goto (tgt := 298) (pc := 262) E dX5_goesOn_262 (by decide) ?_
                        refine gg_vret (pc := 298) E Fn rfl dX5_goesOn_298 (by first | exact Nat.le_of_ble_eq_true rfl | (dsimp only; omega)) (by first | exact Nat.le_of_ble_eq_true rfl | (dsimp only; omega)) ?_
                        have hr : rn isD b bn q = r := hrl.symm.trans (rn_f c180)
                        refine ⟨rfl, ?_⟩
                        unfold goX goT
                        rw [if_neg (Int32.not_lt.mpr c4), hp0, hq, if_neg c84, if_neg (fun z => c103 ⟨by omega, z⟩), if_pos c164.2, hr, if_pos c251]
                      · refine gg_iconst (v := 4) (pc := 254) E dX5_goesOn_254 (by decide) ?_
                        refine gg_goto (tgt := 259) (pc := 255) E dX5_goesOn_255 (by decide) ?_
                        refine gg_putM (M' := [_]) (pc := 259) E ck_X5 18 q2877 rfl (by decide) dX5_goesOn_259 0 rfl rfl (rfl) rfl (Nat.le_of_ble_eq_true rfl) rfl rfl ?_
                        refine gg_goto (tgt := 298) (pc := 262) E dX5_goesOn_262 (by decide) ?_
                        refine gg_vret (pc := 298) E Fn rfl dX5_goesOn_298 (by first | exact Nat.le_of_ble_eq_true rfl | (dsimp only; omega)) (by first | exact Nat.le_of_ble_eq_true rfl | (dsimp only; omega)) ?_
                        have hr : rn isD b bn q = r := hrl.symm.trans (rn_f c180)
                        refine ⟨rfl, ?_⟩
                        unfold goX goT
                        rw [if_neg (Int32.not_lt.mpr c4), hp0, hq, if_neg c84, if_neg (fun z => c103 ⟨by omega, z⟩), if_pos c164.2, hr, if_neg (show ¬ r - q ≤ 3 by omega)]
                    · refine gg_aload_n (pc := 183) E dX5_goesOn_183 rfl rfl ?_
                      refine gg_aload_n (pc := 184) E dX5_goesOn_184 rfl rfl ?_
                      refine gg_get (pc := 185) E ck_X5 17 q2876 rfl (by decide) dX5_goesOn_185 (gg_i 0 rfl) rfl ?_
                      refine gg_topI (y := nI r) ((pk_un (by omega)).trans pk_us) ?_
                      refine gg_aload_n (pc := 188) E dX5_goesOn_188 rfl rfl ?_
                      refine gg_get (pc := 189) E ck_X5 16 q2875 rfl (by decide) dX5_goesOn_189 (gg_i 0 rfl) rfl ?_
                      refine gg_topI (y := nI q) ((pk_un (by omega)).trans ((pk_un (by omega)).trans pk_us)) ?_
                      refine gg_isubN (pc := 192) E r q rfl rfl (by omega) dX5_goesOn_192 ?_
                      refine gg_iconst (v := 3) (pc := 193) E dX5_goesOn_193 (by decide) ?_
                      refine gg_icmpN_ge (tgt := 220) (pc := 194) E (r - q) 3 rfl rfl (by omega) (by omega) dX5_goesOn_194 (by decide) (fun c194 => ?_) (fun c194 => ?_)
                      · refine gg_aload_n (pc := 220) E dX5_goesOn_220 rfl rfl ?_
                        refine gg_get (pc := 221) E ck_X5 19 q2878 rfl (by decide) dX5_goesOn_221 (gg_i 0 rfl) rfl ?_
                        refine gg_topI (y := vl b q (r - q)) pk_us ?_
                        refine gg_topI (y := vl b q (r + 1 - q)) (vl_f hqr (by omega)) ?_
                        refine gg_putM (M' := [_]) (pc := 224) E ck_X5 19 q2878 rfl (by decide) dX5_goesOn_224 0 rfl rfl (rfl) rfl (Nat.le_of_ble_eq_true rfl) rfl rfl ?_
                        refine gg_aload_n (pc := 227) E dX5_goesOn_227 rfl rfl ?_
                        refine gg_dup (pc := 228) E dX5_goesOn_228 rfl ?_
                        refine gg_get (pc := 229) E ck_X5 17 q2876 rfl (by decide) dX5_goesOn_229 (gg_i 0 rfl) rfl ?_
                        refine gg_topI (y := nI r) ((pk_un (by omega)).trans ((pk_un (by omega)).trans pk_us)) ?_
                        refine gg_iconst (v := 1) (pc := 232) E dX5_goesOn_232 (by decide) ?_
                        refine gg_iaddN (pc := 233) E r 1 rfl rfl dX5_goesOn_233 ?_
                        refine gg_putM (M' := [_]) (pc := 234) E ck_X5 17 q2876 rfl (by decide) dX5_goesOn_234 0 rfl rfl (rfl) rfl (Nat.le_of_ble_eq_true rfl) rfl rfl ?_
                        refine gg_goto (tgt := 172) (pc := 237) E dX5_goesOn_237 (by decide) ?_
                        refine gg_cv ?_ (gg_leS gg_le0) rfl (by first | exact Nat.le_refl _ | (dsimp only; omega)) (by first | exact Nat.le_refl _ | (dsimp only; omega)) (ih172 (r + 1) (by omega) (by omega) (by omega) ((rn_t c180.1 c180.2).symm.trans hrl))
                        · first | (rw [upd_2, upd_cm (a := 19) (b := 17) (by omega), upd_2]; done) | (rw [upd_2, upd_cm (a := 19) (b := 17) (by omega), upd_2]; rfl)
                      · refine gg_bipush (v := 10) (pc := 197) E dX5_goesOn_197 (by decide) ?_
                        refine gg_aload_n (pc := 199) E dX5_goesOn_199 rfl rfl ?_
                        refine gg_get (pc := 200) E ck_X5 19 q2878 rfl (by decide) dX5_goesOn_200 (gg_i 0 rfl) rfl ?_
                        refine gg_topI (y := vl b q (r - q)) pk_us ?_
                        refine gg_imul (pc := 203) E dX5_goesOn_203 ?_
                        refine gg_aload_n (pc := 204) E dX5_goesOn_204 rfl rfl ?_
                        refine gg_get (pc := 205) E ck_X5 12 q2871 rfl (by decide) dX5_goesOn_205 (gg_i 0 rfl) rfl ?_
                        refine gg_aload_n (pc := 208) E dX5_goesOn_208 rfl rfl ?_
                        refine gg_get (pc := 209) E ck_X5 17 q2876 rfl (by decide) dX5_goesOn_209 (gg_i 0 rfl) rfl ?_
                        refine gg_topI (y := nI r) ((pk_un (by omega)).trans pk_us) ?_
                        refine gg_baldN (pc := 212) E r rfl (by omega) (by omega) dX5_goesOn_212 (gg_r 0 rfl) ?_
                        refine gg_iadd (pc := 213) E dX5_goesOn_213 ?_
                        refine gg_bipush (v := 48) (pc := 214) E dX5_goesOn_214 (by decide) ?_
                        refine gg_isub (pc := 216) E dX5_goesOn_216 ?_
                        refine gg_goto (tgt := 224) (pc := 217) E dX5_goesOn_217 (by decide) ?_
                        refine gg_topI (y := vl b q (r + 1 - q)) (vl_t hqr (by omega)) ?_
                        refine gg_putM (M' := [_]) (pc := 224) E ck_X5 19 q2878 rfl (by decide) dX5_goesOn_224 0 rfl rfl (rfl) rfl (Nat.le_of_ble_eq_true rfl) rfl rfl ?_
                        refine gg_aload_n (pc := 227) E dX5_goesOn_227 rfl rfl ?_
                        refine gg_dup (pc := 228) E dX5_goesOn_228 rfl ?_
                        refine gg_get (pc := 229) E ck_X5 17 q2876 rfl (by decide) dX5_goesOn_229 (gg_i 0 rfl) rfl ?_
                        refine gg_topI (y := nI r) ((pk_un (by omega)).trans ((pk_un (by omega)).trans pk_us)) ?_
                        refine gg_iconst (v := 1) (pc := 232) E dX5_goesOn_232 (by decide) ?_
                        refine gg_iaddN (pc := 233) E r 1 rfl rfl dX5_goesOn_233 ?_
                        refine gg_putM (M' := [_]) (pc := 234) E ck_X5 17 q2876 rfl (by decide) dX5_goesOn_234 0 rfl rfl (rfl) rfl (Nat.le_of_ble_eq_true rfl) rfl rfl ?_
                        refine gg_goto (tgt := 172) (pc := 237) E dX5_goesOn_237 (by decide) ?_
                        refine gg_cv ?_ (gg_leS gg_le0) rfl (by first | exact Nat.le_refl _ | (dsimp only; omega)) (by first | exact Nat.le_refl _ | (dsimp only; omega)) (ih172 (r + 1) (by omega) (by omega) (by omega) ((rn_t c180.1 c180.2).symm.trans hrl))
                        · first | (rw [upd_2, upd_cm (a := 19) (b := 17) (by omega), upd_2]; done) | (rw [upd_2, upd_cm (a := 19) (b := 17) (by omega), upd_2]; rfl)
                refine gg_cv ?_ (gg_leS gg_le0) rfl (by first | exact Nat.le_refl _ | (dsimp only; omega)) (by first | exact Nat.le_refl _ | (dsimp only; omega)) (L172 _ q (Nat.lt_succ_self _) (Nat.le_refl _) (hqb) (rfl))
                · rw [Nat.sub_self]; rfl
            · have L106 : ∀ (n : Nat) (r : Nat), bn - r < n → (q ≤ r) → (r ≤ bn) → (rn isL b bn r = rn isL b bn q) → gg_W p l e R s m args below meth c g A 1 Q 0 0 [[(h, .inl (4, mo_f ad (upd (upd x 16 (nI q)) 17 (nI r))))]] [some (.ref h)] [] 106 := by
                intro n106
                induction n106 with
                | zero => intro r hmz; exact absurd hmz (Nat.not_lt_zero _)
                | succ n106 ih106 =>
                  intro r hm106 hqr hrb hrl
                  refine gg_aload_n (pc := 106) E dX5_goesOn_106 rfl rfl ?_
                  refine gg_aload_n (pc := 107) E dX5_goesOn_107 rfl rfl ?_
                  refine gg_get (pc := 108) E ck_X5 17 q2876 rfl (by decide) dX5_goesOn_108 (gg_i 0 rfl) rfl ?_
                  refine gg_topI (y := nI r) pk_us ?_
                  refine gg_callV (F := [_]) (As := [.int (nI r)]) (rest := []) (pc := 111) E ck_X5 (ct_X5_isLetter hl ((pk_un (by omega)).trans ((pk_un (by omega)).trans hx)) (hbn) (by omega)) (cwV 1 E.2.2.2.2.1 (lw_V q2988 q2990 qs73 q179 q2991) rfl rfl rfl (by decide +kernel) ⟨by rw [hRf]; exact Nat.le_of_ble_eq_true rfl, by rw [hRl]; exact Nat.le_of_ble_eq_true rfl⟩) dX5_goesOn_111 [] (by decide) rfl rfl (List.forall_mem_cons.mpr ⟨(gg_i 0 rfl), (List.forall_mem_cons.mpr ⟨(gg_r 0 rfl), (fun _ h => by cases h)⟩)⟩) (gg_i 0 rfl) rfl rfl (Nat.le_of_ble_eq_true rfl) (by first | (rw [hRc]; exact Nat.le_of_ble_eq_true rfl) | (rw [hRc]; dsimp only; omega)) (by first | (rw [hRs]; exact Nat.le_of_ble_eq_true rfl) | (rw [hRs]; dsimp only; omega)) ?_ (fun X q C1 h => h.elim)
                  rintro _ _ ⟨rfl, rfl⟩
                  dsimp only [List.cons_append, List.nil_append, Option.toList]
                  refine gg_ifP_eq (tgt := 130) (pc := 114) E dX5_goesOn_114 (by decide) (fun c114 => ?_) (fun c114 => ?_)
                  · refine gg_aload_n (pc := 130) E dX5_goesOn_130 rfl rfl ?_
                    refine gg_aload_n (pc := 131) E dX5_goesOn_131 rfl rfl ?_
                    refine gg_get (pc := 132) E ck_X5 17 q2876 rfl (by decide) dX5_goesOn_132 (gg_i 0 rfl) rfl ?_
                    refine gg_topI (y := nI r) pk_us ?_
                    refine gg_aload_n (pc := 135) E dX5_goesOn_135 rfl rfl ?_
                    refine gg_get (pc := 136) E ck_X5 16 q2875 rfl (by decide) dX5_goesOn_136 (gg_i 0 rfl) rfl ?_
                    refine gg_topI (y := nI q) ((pk_un (by omega)).trans pk_us) ?_
                    refine gg_isubN (pc := 139) E r q rfl rfl (by omega) dX5_goesOn_139 ?_
                    refine gg_bipush (v := 8) (pc := 140) E dX5_goesOn_140 (by decide) ?_
                    refine gg_icmpN_le (tgt := 149) (pc := 142) E (r - q) 8 rfl rfl (by omega) (by omega) dX5_goesOn_142 (by decide) (fun c142 => ?_) (fun c142 => ?_)
                    · refine gg_iconst (v := 1) (pc := 149) E dX5_goesOn_149 (by decide) ?_
                      refine gg_putM (M' := [_]) (pc := 150) E ck_X5 18 q2877 rfl (by decide) dX5_goesOn_150 0 rfl rfl (rfl) rfl (Nat.le_of_ble_eq_true rfl) rfl rfl ?_
                      refine gg_goto (tgt := 298) (pc := 153) E dX5_goesOn_153 (by decide) ?_
                      refine gg_vret (pc := 298) E Fn rfl dX5_goesOn_298 (by first | exact Nat.le_of_ble_eq_true rfl | (dsimp only; omega)) (by first | exact Nat.le_of_ble_eq_true rfl | (dsimp only; omega)) ?_
                      have hr : rn isL b bn q = r := hrl.symm.trans (rn_f c114)
                      refine ⟨rfl, ?_⟩
                      unfold goX goT
                      rw [if_neg (Int32.not_lt.mpr c4), hp0, hq, if_neg c84, if_pos c103.2, hr, if_pos c142]
                    · refine gg_iconst (v := 4) (pc := 145) E dX5_goesOn_145 (by decide) ?_
                      refine gg_goto (tgt := 150) (pc := 146) E dX5_goesOn_146 (by decide) ?_
                      refine gg_putM (M' := [_]) (pc := 150) E ck_X5 18 q2877 rfl (by decide) dX5_goesOn_150 0 rfl rfl (rfl) rfl (Nat.le_of_ble_eq_true rfl) rfl rfl ?_
                      refine gg_goto (tgt := 298) (pc := 153) E dX5_goesOn_153 (by decide) ?_
                      refine gg_vret (pc := 298) E Fn rfl dX5_goesOn_298 (by first | exact Nat.le_of_ble_eq_true rfl | (dsimp only; omega)) (by first | exact Nat.le_of_ble_eq_true rfl | (dsimp only; omega)) ?_
                      have hr : rn isL b bn q = r := hrl.symm.trans (rn_f c114)
                      refine ⟨rfl, ?_⟩
                      unfold goX goT
                      rw [if_neg (Int32.not_lt.mpr c4), hp0, hq, if_neg c84, if_pos c103.2, hr, if_neg (show ¬ r - q ≤ 8 by omega)]
                  · refine gg_aload_n (pc := 117) E dX5_goesOn_117 rfl rfl ?_
                    refine gg_dup (pc := 118) E dX5_goesOn_118 rfl ?_
                    refine gg_get (pc := 119) E ck_X5 17 q2876 rfl (by decide) dX5_goesOn_119 (gg_i 0 rfl) rfl ?_
                    refine gg_topI (y := nI r) pk_us ?_
                    refine gg_iconst (v := 1) (pc := 122) E dX5_goesOn_122 (by decide) ?_
                    refine gg_iaddN (pc := 123) E r 1 rfl rfl dX5_goesOn_123 ?_
                    refine gg_putM (M' := [_]) (pc := 124) E ck_X5 17 q2876 rfl (by decide) dX5_goesOn_124 0 rfl rfl (rfl) rfl (Nat.le_of_ble_eq_true rfl) rfl rfl ?_
                    refine gg_goto (tgt := 106) (pc := 127) E dX5_goesOn_127 (by decide) ?_
                    refine gg_cv ?_ (gg_leS gg_le0) rfl (by first | exact Nat.le_refl _ | (dsimp only; omega)) (by first | exact Nat.le_refl _ | (dsimp only; omega)) (ih106 (r + 1) (by omega) (by omega) (by omega) ((rn_t c114.1 c114.2).symm.trans hrl))
                    · first | (rw [upd_2]; done) | (rw [upd_2]; rfl)
              refine gg_cv rfl (gg_leS gg_le0) rfl (by first | exact Nat.le_refl _ | (dsimp only; omega)) (by first | exact Nat.le_refl _ | (dsimp only; omega)) (L106 _ q (Nat.lt_succ_self _) (Nat.le_refl _) (hqb) (rfl))
          · refine gg_aload_n (pc := 87) E dX5_goesOn_87 rfl rfl ?_
            refine gg_iconst (v := 0) (pc := 88) E dX5_goesOn_88 (by decide) ?_
            refine gg_putM (M' := [_]) (pc := 89) E ck_X5 18 q2877 rfl (by decide) dX5_goesOn_89 0 rfl rfl (rfl) rfl (Nat.le_of_ble_eq_true rfl) rfl rfl ?_
            refine gg_goto (tgt := 298) (pc := 92) E dX5_goesOn_92 (by decide) ?_
            refine gg_vret (pc := 298) E Fn rfl dX5_goesOn_298 (by first | exact Nat.le_of_ble_eq_true rfl | (dsimp only; omega)) (by first | exact Nat.le_of_ble_eq_true rfl | (dsimp only; omega)) ?_
            refine ⟨rfl, ?_⟩
            unfold goX goT
            rw [if_neg (Int32.not_lt.mpr c4), hp0, hq, if_pos c84]
        · refine gg_aload_n (pc := 27) E dX5_goesOn_27 rfl rfl ?_
          refine gg_get (pc := 28) E ck_X5 12 q2871 rfl (by decide) dX5_goesOn_28 (gg_i 0 rfl) rfl ?_
          refine gg_aload_n (pc := 31) E dX5_goesOn_31 rfl rfl ?_
          refine gg_get (pc := 32) E ck_X5 16 q2875 rfl (by decide) dX5_goesOn_32 (gg_i 0 rfl) rfl ?_
          refine gg_topI (y := nI q) pk_us ?_
          refine gg_baldN (pc := 35) E q rfl (by omega) (by omega) dX5_goesOn_35 (gg_r 0 rfl) ?_
          refine gg_bipush (v := 32) (pc := 36) E dX5_goesOn_36 (by decide) ?_
          refine gg_icmp_eq (tgt := 55) (pc := 38) E dX5_goesOn_38 (by decide) (fun c38 => ?_) (fun c38 => ?_)
          · refine gg_aload_n (pc := 55) E dX5_goesOn_55 rfl rfl ?_
            refine gg_dup (pc := 56) E dX5_goesOn_56 rfl ?_
            refine gg_get (pc := 57) E ck_X5 16 q2875 rfl (by decide) dX5_goesOn_57 (gg_i 0 rfl) rfl ?_
            refine gg_topI (y := nI q) pk_us ?_
            refine gg_iconst (v := 1) (pc := 60) E dX5_goesOn_60 (by decide) ?_
            refine gg_iaddN (pc := 61) E q 1 rfl rfl dX5_goesOn_61 ?_
            refine gg_putM (M' := [_]) (pc := 62) E ck_X5 16 q2875 rfl (by decide) dX5_goesOn_62 0 rfl rfl (rfl) rfl (Nat.le_of_ble_eq_true rfl) rfl rfl ?_
            refine gg_goto (tgt := 16) (pc := 65) E dX5_goesOn_65 (by decide) ?_
            refine gg_cv ?_ (gg_leS gg_le0) rfl (by first | exact Nat.le_refl _ | (dsimp only; omega)) (by first | exact Nat.le_refl _ | (dsimp only; omega)) (ih16 (q + 1) (by omega) (by omega) ((rn_t (by omega) (Or.inl c38)).symm.trans hrn))
            · first | (rw [upd_2]; done) | (rw [upd_2]; rfl)
          · refine gg_aload_n (pc := 41) E dX5_goesOn_41 rfl rfl ?_
            refine gg_get (pc := 42) E ck_X5 12 q2871 rfl (by decide) dX5_goesOn_42 (gg_i 0 rfl) rfl ?_
            refine gg_aload_n (pc := 45) E dX5_goesOn_45 rfl rfl ?_
            refine gg_get (pc := 46) E ck_X5 16 q2875 rfl (by decide) dX5_goesOn_46 (gg_i 0 rfl) rfl ?_
            refine gg_topI (y := nI q) pk_us ?_
            refine gg_baldN (pc := 49) E q rfl (by omega) (by omega) dX5_goesOn_49 (gg_r 0 rfl) ?_
            refine gg_bipush (v := 10) (pc := 50) E dX5_goesOn_50 (by decide) ?_
            refine gg_icmp_ne (tgt := 68) (pc := 52) E dX5_goesOn_52 (by decide) (fun c52 => ?_) (fun c52 => ?_)
            · have hq : rn isB b bn p0 = q := hrn.symm.trans (rn_f (fun z => z.2.elim c38 c52))
              refine gg_aload_n (pc := 68) E dX5_goesOn_68 rfl rfl ?_
              refine gg_aload_n (pc := 69) E dX5_goesOn_69 rfl rfl ?_
              refine gg_get (pc := 70) E ck_X5 16 q2875 rfl (by decide) dX5_goesOn_70 (gg_i 0 rfl) rfl ?_
              refine gg_topI (y := nI q) pk_us ?_
              refine gg_putM (M' := [_]) (pc := 73) E ck_X5 17 q2876 rfl (by decide) dX5_goesOn_73 0 rfl rfl (rfl) rfl (Nat.le_of_ble_eq_true rfl) rfl rfl ?_
              refine gg_aload_n (pc := 76) E dX5_goesOn_76 rfl rfl ?_
              refine gg_get (pc := 77) E ck_X5 16 q2875 rfl (by decide) dX5_goesOn_77 (gg_i 0 rfl) rfl ?_
              refine gg_topI (y := nI q) ((pk_un (by omega)).trans pk_us) ?_
              refine gg_aload_n (pc := 80) E dX5_goesOn_80 rfl rfl ?_
              refine gg_get (pc := 81) E ck_X5 13 q2872 rfl (by decide) dX5_goesOn_81 (gg_i 0 rfl) rfl ?_
              refine gg_topI (y := nI bn) ((pk_un (by omega)).trans ((pk_un (by omega)).trans hx)) ?_
              refine gg_icmpN_ne (tgt := 95) (pc := 84) E q bn rfl rfl (by omega) (by omega) dX5_goesOn_84 (by decide) (fun c84 => ?_) (fun c84 => ?_)
              · refine gg_aload_n (pc := 95) E dX5_goesOn_95 rfl rfl ?_
                refine gg_aload_n (pc := 96) E dX5_goesOn_96 rfl rfl ?_
                refine gg_get (pc := 97) E ck_X5 16 q2875 rfl (by decide) dX5_goesOn_97 (gg_i 0 rfl) rfl ?_
                refine gg_topI (y := nI q) ((pk_un (by omega)).trans pk_us) ?_
                refine gg_callV (F := [_]) (As := [.int (nI q)]) (rest := []) (pc := 100) E ck_X5 (ct_X5_isLetter hl ((pk_un (by omega)).trans ((pk_un (by omega)).trans hx)) (hbn) (by omega)) (cwV 1 E.2.2.2.2.1 (lw_V q2988 q2990 qs73 q179 q2991) rfl rfl rfl (by decide +kernel) ⟨by rw [hRf]; exact Nat.le_of_ble_eq_true rfl, by rw [hRl]; exact Nat.le_of_ble_eq_true rfl⟩) dX5_goesOn_100 [] (by decide) rfl rfl (List.forall_mem_cons.mpr ⟨(gg_i 0 rfl), (List.forall_mem_cons.mpr ⟨(gg_r 0 rfl), (fun _ h => by cases h)⟩)⟩) (gg_i 0 rfl) rfl rfl (Nat.le_of_ble_eq_true rfl) (by first | (rw [hRc]; exact Nat.le_of_ble_eq_true rfl) | (rw [hRc]; dsimp only; omega)) (by first | (rw [hRs]; exact Nat.le_of_ble_eq_true rfl) | (rw [hRs]; dsimp only; omega)) ?_ (fun X q C1 h => h.elim)
                rintro _ _ ⟨rfl, rfl⟩
                dsimp only [List.cons_append, List.nil_append, Option.toList]
                refine gg_ifP_eq (tgt := 156) (pc := 103) E dX5_goesOn_103 (by decide) (fun c103 => ?_) (fun c103 => ?_)
                · refine gg_aload_n (pc := 156) E dX5_goesOn_156 rfl rfl ?_
                  refine gg_aload_n (pc := 157) E dX5_goesOn_157 rfl rfl ?_
                  refine gg_get (pc := 158) E ck_X5 16 q2875 rfl (by decide) dX5_goesOn_158 (gg_i 0 rfl) rfl ?_
                  refine gg_topI (y := nI q) ((pk_un (by omega)).trans pk_us) ?_
                  refine gg_callV (F := [_]) (As := [.int (nI q)]) (rest := []) (pc := 161) E ck_X5 (ct_X5_isDigit hl ((pk_un (by omega)).trans ((pk_un (by omega)).trans hx)) (hbn) (by omega)) (cwV 1 E.2.2.2.2.1 (lw_V q2994 q2996 qs74 q179 q2997) rfl rfl rfl (by decide +kernel) ⟨by rw [hRf]; exact Nat.le_of_ble_eq_true rfl, by rw [hRl]; exact Nat.le_of_ble_eq_true rfl⟩) dX5_goesOn_161 [] (by decide) rfl rfl (List.forall_mem_cons.mpr ⟨(gg_i 0 rfl), (List.forall_mem_cons.mpr ⟨(gg_r 0 rfl), (fun _ h => by cases h)⟩)⟩) (gg_i 0 rfl) rfl rfl (Nat.le_of_ble_eq_true rfl) (by first | (rw [hRc]; exact Nat.le_of_ble_eq_true rfl) | (rw [hRc]; dsimp only; omega)) (by first | (rw [hRs]; exact Nat.le_of_ble_eq_true rfl) | (rw [hRs]; dsimp only; omega)) ?_ (fun X q C1 h => h.elim)
                  rintro _ _ ⟨rfl, rfl⟩
                  dsimp only [List.cons_append, List.nil_append, Option.toList]
                  refine gg_ifP_eq (tgt := 265) (pc := 164) E dX5_goesOn_164 (by decide) (fun c164 => ?_) (fun c164 => ?_)
                  · refine gg_aload_n (pc := 265) E dX5_goesOn_265 rfl rfl ?_
                    refine gg_aload_n (pc := 266) E dX5_goesOn_266 rfl rfl ?_
                    refine gg_get (pc := 267) E ck_X5 12 q2871 rfl (by decide) dX5_goesOn_267 (gg_i 0 rfl) rfl ?_
                    refine gg_aload_n (pc := 270) E dX5_goesOn_270 rfl rfl ?_
                    refine gg_get (pc := 271) E ck_X5 16 q2875 rfl (by decide) dX5_goesOn_271 (gg_i 0 rfl) rfl ?_
                    refine gg_topI (y := nI q) ((pk_un (by omega)).trans pk_us) ?_
                    refine gg_baldN (pc := 274) E q rfl (by omega) (by omega) dX5_goesOn_274 (gg_r 0 rfl) ?_
                    refine gg_bipush (v := 59) (pc := 275) E dX5_goesOn_275 (by decide) ?_
                    refine gg_icmp_ne (tgt := 284) (pc := 277) E dX5_goesOn_277 (by decide) (fun c277 => ?_) (fun c277 => ?_)
                    · refine gg_iconst (v := 4) (pc := 284) E dX5_goesOn_284 (by decide) ?_
                      refine gg_putM (M' := [_]) (pc := 285) E ck_X5 18 q2877 rfl (by decide) dX5_goesOn_285 0 rfl rfl (rfl) rfl (Nat.le_of_ble_eq_true rfl) rfl rfl ?_
                      refine gg_aload_n (pc := 288) E dX5_goesOn_288 rfl rfl ?_
                      refine gg_dup (pc := 289) E dX5_goesOn_289 rfl ?_
                      refine gg_get (pc := 290) E ck_X5 17 q2876 rfl (by decide) dX5_goesOn_290 (gg_i 0 rfl) rfl ?_
                      refine gg_topI (y := nI q) ((pk_un (by omega)).trans pk_us) ?_
                      refine gg_iconst (v := 1) (pc := 293) E dX5_goesOn_293 (by decide) ?_
                      refine gg_iaddN (pc := 294) E q 1 rfl rfl dX5_goesOn_294 ?_
                      refine gg_putM (M' := [_]) (pc := 295) E ck_X5 17 q2876 rfl (by decide) dX5_goesOn_295 0 rfl rfl (rfl) rfl (Nat.le_of_ble_eq_true rfl) rfl rfl ?_
                      refine gg_vret (pc := 298) E Fn rfl dX5_goesOn_298 (by first | exact Nat.le_of_ble_eq_true rfl | (dsimp only; omega)) (by first | exact Nat.le_of_ble_eq_true rfl | (dsimp only; omega)) ?_
                      refine ⟨rfl, ?_⟩
                      unfold goX goT
                      rw [if_neg (Int32.not_lt.mpr c4), hp0, hq, if_neg c84, if_neg (fun z => c103 ⟨by omega, z⟩), if_neg (fun z => c164 ⟨by omega, z⟩), if_neg c277, upd_cm (a := 18) (b := 17) (by omega), upd_2]
                    · refine gg_iconst (v := 3) (pc := 280) E dX5_goesOn_280 (by decide) ?_
                      refine gg_goto (tgt := 285) (pc := 281) E dX5_goesOn_281 (by decide) ?_
                      refine gg_putM (M' := [_]) (pc := 285) E ck_X5 18 q2877 rfl (by decide) dX5_goesOn_285 0 rfl rfl (rfl) rfl (Nat.le_of_ble_eq_true rfl) rfl rfl ?_
                      refine gg_aload_n (pc := 288) E dX5_goesOn_288 rfl rfl ?_
                      refine gg_dup (pc := 289) E dX5_goesOn_289 rfl ?_
                      refine gg_get (pc := 290) E ck_X5 17 q2876 rfl (by decide) dX5_goesOn_290 (gg_i 0 rfl) rfl ?_
                      refine gg_topI (y := nI q) ((pk_un (by omega)).trans pk_us) ?_
                      refine gg_iconst (v := 1) (pc := 293) E dX5_goesOn_293 (by decide) ?_
                      refine gg_iaddN (pc := 294) E q 1 rfl rfl dX5_goesOn_294 ?_
                      refine gg_putM (M' := [_]) (pc := 295) E ck_X5 17 q2876 rfl (by decide) dX5_goesOn_295 0 rfl rfl (rfl) rfl (Nat.le_of_ble_eq_true rfl) rfl rfl ?_
                      refine gg_vret (pc := 298) E Fn rfl dX5_goesOn_298 (by first | exact Nat.le_of_ble_eq_true rfl | (dsimp only; omega)) (by first | exact Nat.le_of_ble_eq_true rfl | (dsimp only; omega)) ?_
                      refine ⟨rfl, ?_⟩
                      unfold goX goT
                      rw [if_neg (Int32.not_lt.mpr c4), hp0, hq, if_neg c84, if_neg (fun z => c103 ⟨by omega, z⟩), if_neg (fun z => c164 ⟨by omega, z⟩), if_pos c277, upd_cm (a := 18) (b := 17) (by omega), upd_2]
                  · refine gg_aload_n (pc := 167) E dX5_goesOn_167 rfl rfl ?_
                    refine gg_iconst (v := 0) (pc := 168) E dX5_goesOn_168 (by decide) ?_
                    refine gg_putM (M' := [_]) (pc := 169) E ck_X5 19 q2878 rfl (by decide) dX5_goesOn_169 0 rfl rfl (rfl) rfl (Nat.le_of_ble_eq_true rfl) rfl rfl ?_
                    have L172 : ∀ (n : Nat) (r : Nat), bn - r < n → (q ≤ r) → (r ≤ bn) → (rn isD b bn r = rn isD b bn q) → gg_W p l e R s m args below meth c g A 1 Q 0 0 [[(h, .inl (4, mo_f ad (upd (upd (upd x 16 (nI q)) 17 (nI r)) 19 (vl b q (r - q)))))]] [some (.ref h)] [] 172 := by
                      intro n172
                      induction n172 with
                      | zero => intro r hmz; exact absurd hmz (Nat.not_lt_zero _)
                      | succ n172 ih172 =>
                        intro r hm172 hqr hrb hrl
                        refine gg_aload_n (pc := 172) E dX5_goesOn_172 rfl rfl ?_
                        refine gg_aload_n (pc := 173) E dX5_goesOn_173 rfl rfl ?_
                        refine gg_get (pc := 174) E ck_X5 17 q2876 rfl (by decide) dX5_goesOn_174 (gg_i 0 rfl) rfl ?_
                        refine gg_topI (y := nI r) ((pk_un (by omega)).trans pk_us) ?_
                        refine gg_callV (F := [_]) (As := [.int (nI r)]) (rest := []) (pc := 177) E ck_X5 (ct_X5_isDigit hl ((pk_un (by omega)).trans ((pk_un (by omega)).trans ((pk_un (by omega)).trans hx))) (hbn) (by omega)) (cwV 1 E.2.2.2.2.1 (lw_V q2994 q2996 qs74 q179 q2997) rfl rfl rfl (by decide +kernel) ⟨by rw [hRf]; exact Nat.le_of_ble_eq_true rfl, by rw [hRl]; exact Nat.le_of_ble_eq_true rfl⟩) dX5_goesOn_177 [] (by decide) rfl rfl (List.forall_mem_cons.mpr ⟨(gg_i 0 rfl), (List.forall_mem_cons.mpr ⟨(gg_r 0 rfl), (fun _ h => by cases h)⟩)⟩) (gg_i 0 rfl) rfl rfl (Nat.le_of_ble_eq_true rfl) (by first | (rw [hRc]; exact Nat.le_of_ble_eq_true rfl) | (rw [hRc]; dsimp only; omega)) (by first | (rw [hRs]; exact Nat.le_of_ble_eq_true rfl) | (rw [hRs]; dsimp only; omega)) ?_ (fun X q C1 h => h.elim)
                        rintro _ _ ⟨rfl, rfl⟩
                        dsimp only [List.cons_append, List.nil_append, Option.toList]
                        refine gg_ifP_eq (tgt := 240) (pc := 180) E dX5_goesOn_180 (by decide) (fun c180 => ?_) (fun c180 => ?_)
                        · refine gg_aload_n (pc := 240) E dX5_goesOn_240 rfl rfl ?_
                          refine gg_aload_n (pc := 241) E dX5_goesOn_241 rfl rfl ?_
                          refine gg_get (pc := 242) E ck_X5 17 q2876 rfl (by decide) dX5_goesOn_242 (gg_i 0 rfl) rfl ?_
                          refine gg_topI (y := nI r) ((pk_un (by omega)).trans pk_us) ?_
                          refine gg_aload_n (pc := 245) E dX5_goesOn_245 rfl rfl ?_
                          refine gg_get (pc := 246) E ck_X5 16 q2875 rfl (by decide) dX5_goesOn_246 (gg_i 0 rfl) rfl ?_
                          refine gg_topI (y := nI q) ((pk_un (by omega)).trans ((pk_un (by omega)).trans pk_us)) ?_
                          refine gg_isubN (pc := 249) E r q rfl rfl (by omega) dX5_goesOn_249 ?_
                          refine gg_iconst (v := 3) (pc := 250) E dX5_goesOn_250 (by decide) ?_
                          refine gg_icmpN_le (tgt := 258) (pc := 251) E (r - q) 3 rfl rfl (by omega) (by omega) dX5_goesOn_251 (by decide) (fun c251 => ?_) (fun c251 => ?_)
                          · refine gg_iconst (v := 2) (pc := 258) E dX5_goesOn_258 (by decide) ?_
                            refine gg_putM (M' := [_]) (pc := 259) E ck_X5 18 q2877 rfl (by decide) dX5_goesOn_259 0 rfl rfl (rfl) rfl (Nat.le_of_ble_eq_true rfl) rfl rfl ?_
                            refine gg_goto (tgt := 298) (pc := 262) E dX5_goesOn_262 (by decide) ?_
                            refine gg_vret (pc := 298) E Fn rfl dX5_goesOn_298 (by first | exact Nat.le_of_ble_eq_true rfl | (dsimp only; omega)) (by first | exact Nat.le_of_ble_eq_true rfl | (dsimp only; omega)) ?_
                            have hr : rn isD b bn q = r := hrl.symm.trans (rn_f c180)
                            refine ⟨rfl, ?_⟩
                            unfold goX goT
                            rw [if_neg (Int32.not_lt.mpr c4), hp0, hq, if_neg c84, if_neg (fun z => c103 ⟨by omega, z⟩), if_pos c164.2, hr, if_pos c251]
                          · refine gg_iconst (v := 4) (pc := 254) E dX5_goesOn_254 (by decide) ?_
                            refine gg_goto (tgt := 259) (pc := 255) E dX5_goesOn_255 (by decide) ?_
                            refine gg_putM (M' := [_]) (pc := 259) E ck_X5 18 q2877 rfl (by decide) dX5_goesOn_259 0 rfl rfl (rfl) rfl (Nat.le_of_ble_eq_true rfl) rfl rfl ?_
                            refine gg_goto (tgt := 298) (pc := 262) E dX5_goesOn_262 (by decide) ?_
                            refine gg_vret (pc := 298) E Fn rfl dX5_goesOn_298 (by first | exact Nat.le_of_ble_eq_true rfl | (dsimp only; omega)) (by first | exact Nat.le_of_ble_eq_true rfl | (dsimp only; omega)) ?_
                            have hr : rn isD b bn q = r := hrl.symm.trans (rn_f c180)
                            refine ⟨rfl, ?_⟩
                            unfold goX goT
                            rw [if_neg (Int32.not_lt.mpr c4), hp0, hq, if_neg c84, if_neg (fun z => c103 ⟨by omega, z⟩), if_pos c164.2, hr, if_neg (show ¬ r - q ≤ 3 by omega)]
                        · refine gg_aload_n (pc := 183) E dX5_goesOn_183 rfl rfl ?_
                          refine gg_aload_n (pc := 184) E dX5_goesOn_184 rfl rfl ?_
                          refine gg_get (pc := 185) E ck_X5 17 q2876 rfl (by decide) dX5_goesOn_185 (gg_i 0 rfl) rfl ?_
                          refine gg_topI (y := nI r) ((pk_un (by omega)).trans pk_us) ?_
                          refine gg_aload_n (pc := 188) E dX5_goesOn_188 rfl rfl ?_
                          refine gg_get (pc := 189) E ck_X5 16 q2875 rfl (by decide) dX5_goesOn_189 (gg_i 0 rfl) rfl ?_
                          refine gg_topI (y := nI q) ((pk_un (by omega)).trans ((pk_un (by omega)).trans pk_us)) ?_
                          refine gg_isubN (pc := 192) E r q rfl rfl (by omega) dX5_goesOn_192 ?_
                          refine gg_iconst (v := 3) (pc := 193) E dX5_goesOn_193 (by decide) ?_
                          refine gg_icmpN_ge (tgt := 220) (pc := 194) E (r - q) 3 rfl rfl (by omega) (by omega) dX5_goesOn_194 (by decide) (fun c194 => ?_) (fun c194 => ?_)
                          · refine gg_aload_n (pc := 220) E dX5_goesOn_220 rfl rfl ?_
                            refine gg_get (pc := 221) E ck_X5 19 q2878 rfl (by decide) dX5_goesOn_221 (gg_i 0 rfl) rfl ?_
                            refine gg_topI (y := vl b q (r - q)) pk_us ?_
                            refine gg_topI (y := vl b q (r + 1 - q)) (vl_f hqr (by omega)) ?_
                            refine gg_putM (M' := [_]) (pc := 224) E ck_X5 19 q2878 rfl (by decide) dX5_goesOn_224 0 rfl rfl (rfl) rfl (Nat.le_of_ble_eq_true rfl) rfl rfl ?_
                            refine gg_aload_n (pc := 227) E dX5_goesOn_227 rfl rfl ?_
                            refine gg_dup (pc := 228) E dX5_goesOn_228 rfl ?_
                            refine gg_get (pc := 229) E ck_X5 17 q2876 rfl (by decide) dX5_goesOn_229 (gg_i 0 rfl) rfl ?_
                            refine gg_topI (y := nI r) ((pk_un (by omega)).trans ((pk_un (by omega)).trans pk_us)) ?_
                            refine gg_iconst (v := 1) (pc := 232) E dX5_goesOn_232 (by decide) ?_
                            refine gg_iaddN (pc := 233) E r 1 rfl rfl dX5_goesOn_233 ?_
                            refine gg_putM (M' := [_]) (pc := 234) E ck_X5 17 q2876 rfl (by decide) dX5_goesOn_234 0 rfl rfl (rfl) rfl (Nat.le_of_ble_eq_true rfl) rfl rfl ?_
                            refine gg_goto (tgt := 172) (pc := 237) E dX5_goesOn_237 (by decide) ?_
                            refine gg_cv ?_ (gg_leS gg_le0) rfl (by first | exact Nat.le_refl _ | (dsimp only; omega)) (by first | exact Nat.le_refl _ | (dsimp only; omega)) (ih172 (r + 1) (by omega) (by omega) (by omega) ((rn_t c180.1 c180.2).symm.trans hrl))
                            · first | (rw [upd_2, upd_cm (a := 19) (b := 17) (by omega), upd_2]; done) | (rw [upd_2, upd_cm (a := 19) (b := 17) (by omega), upd_2]; rfl)
                          · refine gg_bipush (v := 10) (pc := 197) E dX5_goesOn_197 (by decide) ?_
                            refine gg_aload_n (pc := 199) E dX5_goesOn_199 rfl rfl ?_
                            refine gg_get (pc := 200) E ck_X5 19 q2878 rfl (by decide) dX5_goesOn_200 (gg_i 0 rfl) rfl ?_
                            refine gg_topI (y := vl b q (r - q)) pk_us ?_
                            refine gg_imul (pc := 203) E dX5_goesOn_203 ?_
                            refine gg_aload_n (pc := 204) E dX5_goesOn_204 rfl rfl ?_
                            refine gg_get (pc := 205) E ck_X5 12 q2871 rfl (by decide) dX5_goesOn_205 (gg_i 0 rfl) rfl ?_
                            refine gg_aload_n (pc := 208) E dX5_goesOn_208 rfl rfl ?_
                            refine gg_get (pc := 209) E ck_X5 17 q2876 rfl (by decide) dX5_goesOn_209 (gg_i 0 rfl) rfl ?_
                            refine gg_topI (y := nI r) ((pk_un (by omega)).trans pk_us) ?_
                            refine gg_baldN (pc := 212) E r rfl (by omega) (by omega) dX5_goesOn_212 (gg_r 0 rfl) ?_
                            refine gg_iadd (pc := 213) E dX5_goesOn_213 ?_
                            refine gg_bipush (v := 48) (pc := 214) E dX5_goesOn_214 (by decide) ?_
                            refine gg_isub (pc := 216) E dX5_goesOn_216 ?_
                            refine gg_goto (tgt := 224) (pc := 217) E dX5_goesOn_217 (by decide) ?_
                            refine gg_topI (y := vl b q (r + 1 - q)) (vl_t hqr (by omega)) ?_
                            refine gg_putM (M' := [_]) (pc := 224) E ck_X5 19 q2878 rfl (by decide) dX5_goesOn_224 0 rfl rfl (rfl) rfl (Nat.le_of_ble_eq_true rfl) rfl rfl ?_
                            refine gg_aload_n (pc := 227) E dX5_goesOn_227 rfl rfl ?_
                            refine gg_dup (pc := 228) E dX5_goesOn_228 rfl ?_
                            refine gg_get (pc := 229) E ck_X5 17 q2876 rfl (by decide) dX5_goesOn_229 (gg_i 0 rfl) rfl ?_
                            refine gg_topI (y := nI r) ((pk_un (by omega)).trans ((pk_un (by omega)).trans pk_us)) ?_
                            refine gg_iconst (v := 1) (pc := 232) E dX5_goesOn_232 (by decide) ?_
                            refine gg_iaddN (pc := 233) E r 1 rfl rfl dX5_goesOn_233 ?_
                            refine gg_putM (M' := [_]) (pc := 234) E ck_X5 17 q2876 rfl (by decide) dX5_goesOn_234 0 rfl rfl (rfl) rfl (Nat.le_of_ble_eq_true rfl) rfl rfl ?_
                            refine gg_goto (tgt := 172) (pc := 237) E dX5_goesOn_237 (by decide) ?_
                            refine gg_cv ?_ (gg_leS gg_le0) rfl (by first | exact Nat.le_refl _ | (dsimp only; omega)) (by first | exact Nat.le_refl _ | (dsimp only; omega)) (ih172 (r + 1) (by omega) (by omega) (by omega) ((rn_t c180.1 c180.2).symm.trans hrl))
                            · first | (rw [upd_2, upd_cm (a := 19) (b := 17) (by omega), upd_2]; done) | (rw [upd_2, upd_cm (a := 19) (b := 17) (by omega), upd_2]; rfl)
                    refine gg_cv ?_ (gg_leS gg_le0) rfl (by first | exact Nat.le_refl _ | (dsimp only; omega)) (by first | exact Nat.le_refl _ | (dsimp only; omega)) (L172 _ q (Nat.lt_succ_self _) (Nat.le_refl _) (hqb) (rfl))
                    · rw [Nat.sub_self]; rfl
                · have L106 : ∀ (n : Nat) (r : Nat), bn - r < n → (q ≤ r) → (r ≤ bn) → (rn isL b bn r = rn isL b bn q) → gg_W p l e R s m args below meth c g A 1 Q 0 0 [[(h, .inl (4, mo_f ad (upd (upd x 16 (nI q)) 17 (nI r))))]] [some (.ref h)] [] 106 := by
                    intro n106
                    induction n106 with
                    | zero => intro r hmz; exact absurd hmz (Nat.not_lt_zero _)
                    | succ n106 ih106 =>
                      intro r hm106 hqr hrb hrl
                      refine gg_aload_n (pc := 106) E dX5_goesOn_106 rfl rfl ?_
                      refine gg_aload_n (pc := 107) E dX5_goesOn_107 rfl rfl ?_
                      refine gg_get (pc := 108) E ck_X5 17 q2876 rfl (by decide) dX5_goesOn_108 (gg_i 0 rfl) rfl ?_
                      refine gg_topI (y := nI r) pk_us ?_
                      refine gg_callV (F := [_]) (As := [.int (nI r)]) (rest := []) (pc := 111) E ck_X5 (ct_X5_isLetter hl ((pk_un (by omega)).trans ((pk_un (by omega)).trans hx)) (hbn) (by omega)) (cwV 1 E.2.2.2.2.1 (lw_V q2988 q2990 qs73 q179 q2991) rfl rfl rfl (by decide +kernel) ⟨by rw [hRf]; exact Nat.le_of_ble_eq_true rfl, by rw [hRl]; exact Nat.le_of_ble_eq_true rfl⟩) dX5_goesOn_111 [] (by decide) rfl rfl (List.forall_mem_cons.mpr ⟨(gg_i 0 rfl), (List.forall_mem_cons.mpr ⟨(gg_r 0 rfl), (fun _ h => by cases h)⟩)⟩) (gg_i 0 rfl) rfl rfl (Nat.le_of_ble_eq_true rfl) (by first | (rw [hRc]; exact Nat.le_of_ble_eq_true rfl) | (rw [hRc]; dsimp only; omega)) (by first | (rw [hRs]; exact Nat.le_of_ble_eq_true rfl) | (rw [hRs]; dsimp only; omega)) ?_ (fun X q C1 h => h.elim)
                      rintro _ _ ⟨rfl, rfl⟩
                      dsimp only [List.cons_append, List.nil_append, Option.toList]
                      refine gg_ifP_eq (tgt := 130) (pc := 114) E dX5_goesOn_114 (by decide) (fun c114 => ?_) (fun c114 => ?_)
                      · refine gg_aload_n (pc := 130) E dX5_goesOn_130 rfl rfl ?_
                        refine gg_aload_n (pc := 131) E dX5_goesOn_131 rfl rfl ?_
                        refine gg_get (pc := 132) E ck_X5 17 q2876 rfl (by decide) dX5_goesOn_132 (gg_i 0 rfl) rfl ?_
                        refine gg_topI (y := nI r) pk_us ?_
                        refine gg_aload_n (pc := 135) E dX5_goesOn_135 rfl rfl ?_
                        refine gg_get (pc := 136) E ck_X5 16 q2875 rfl (by decide) dX5_goesOn_136 (gg_i 0 rfl) rfl ?_
                        refine gg_topI (y := nI q) ((pk_un (by omega)).trans pk_us) ?_
                        refine gg_isubN (pc := 139) E r q rfl rfl (by omega) dX5_goesOn_139 ?_
                        refine gg_bipush (v := 8) (pc := 140) E dX5_goesOn_140 (by decide) ?_
                        refine gg_icmpN_le (tgt := 149) (pc := 142) E (r - q) 8 rfl rfl (by omega) (by omega) dX5_goesOn_142 (by decide) (fun c142 => ?_) (fun c142 => ?_)
                        · refine gg_iconst (v := 1) (pc := 149) E dX5_goesOn_149 (by decide) ?_
                          refine gg_putM (M' := [_]) (pc := 150) E ck_X5 18 q2877 rfl (by decide) dX5_goesOn_150 0 rfl rfl (rfl) rfl (Nat.le_of_ble_eq_true rfl) rfl rfl ?_
                          refine gg_goto (tgt := 298) (pc := 153) E dX5_goesOn_153 (by decide) ?_
                          refine gg_vret (pc := 298) E Fn rfl dX5_goesOn_298 (by first | exact Nat.le_of_ble_eq_true rfl | (dsimp only; omega)) (by first | exact Nat.le_of_ble_eq_true rfl | (dsimp only; omega)) ?_
                          have hr : rn isL b bn q = r := hrl.symm.trans (rn_f c114)
                          refine ⟨rfl, ?_⟩
                          unfold goX goT
                          rw [if_neg (Int32.not_lt.mpr c4), hp0, hq, if_neg c84, if_pos c103.2, hr, if_pos c142]
                        · refine gg_iconst (v := 4) (pc := 145) E dX5_goesOn_145 (by decide) ?_
                          refine gg_goto (tgt := 150) (pc := 146) E dX5_goesOn_146 (by decide) ?_
                          refine gg_putM (M' := [_]) (pc := 150) E ck_X5 18 q2877 rfl (by decide) dX5_goesOn_150 0 rfl rfl (rfl) rfl (Nat.le_of_ble_eq_true rfl) rfl rfl ?_
                          refine gg_goto (tgt := 298) (pc := 153) E dX5_goesOn_153 (by decide) ?_
                          refine gg_vret (pc := 298) E Fn rfl dX5_goesOn_298 (by first | exact Nat.le_of_ble_eq_true rfl | (dsimp only; omega)) (by first | exact Nat.le_of_ble_eq_true rfl | (dsimp only; omega)) ?_
                          have hr : rn isL b bn q = r := hrl.symm.trans (rn_f c114)
                          refine ⟨rfl, ?_⟩
                          unfold goX goT
                          rw [if_neg (Int32.not_lt.mpr c4), hp0, hq, if_neg c84, if_pos c103.2, hr, if_neg (show ¬ r - q ≤ 8 by omega)]
                      · refine gg_aload_n (pc := 117) E dX5_goesOn_117 rfl rfl ?_
                        refine gg_dup (pc := 118) E dX5_goesOn_118 rfl ?_
                        refine gg_get (pc := 119) E ck_X5 17 q2876 rfl (by decide) dX5_goesOn_119 (gg_i 0 rfl) rfl ?_
                        refine gg_topI (y := nI r) pk_us ?_
                        refine gg_iconst (v := 1) (pc := 122) E dX5_goesOn_122 (by decide) ?_
                        refine gg_iaddN (pc := 123) E r 1 rfl rfl dX5_goesOn_123 ?_
                        refine gg_putM (M' := [_]) (pc := 124) E ck_X5 17 q2876 rfl (by decide) dX5_goesOn_124 0 rfl rfl (rfl) rfl (Nat.le_of_ble_eq_true rfl) rfl rfl ?_
                        refine gg_goto (tgt := 106) (pc := 127) E dX5_goesOn_127 (by decide) ?_
                        refine gg_cv ?_ (gg_leS gg_le0) rfl (by first | exact Nat.le_refl _ | (dsimp only; omega)) (by first | exact Nat.le_refl _ | (dsimp only; omega)) (ih106 (r + 1) (by omega) (by omega) (by omega) ((rn_t c114.1 c114.2).symm.trans hrl))
                        · first | (rw [upd_2]; done) | (rw [upd_2]; rfl)
                  refine gg_cv rfl (gg_leS gg_le0) rfl (by first | exact Nat.le_refl _ | (dsimp only; omega)) (by first | exact Nat.le_refl _ | (dsimp only; omega)) (L106 _ q (Nat.lt_succ_self _) (Nat.le_refl _) (hqb) (rfl))
              · refine gg_aload_n (pc := 87) E dX5_goesOn_87 rfl rfl ?_
                refine gg_iconst (v := 0) (pc := 88) E dX5_goesOn_88 (by decide) ?_
                refine gg_putM (M' := [_]) (pc := 89) E ck_X5 18 q2877 rfl (by decide) dX5_goesOn_89 0 rfl rfl (rfl) rfl (Nat.le_of_ble_eq_true rfl) rfl rfl ?_
                refine gg_goto (tgt := 298) (pc := 92) E dX5_goesOn_92 (by decide) ?_
                refine gg_vret (pc := 298) E Fn rfl dX5_goesOn_298 (by first | exact Nat.le_of_ble_eq_true rfl | (dsimp only; omega)) (by first | exact Nat.le_of_ble_eq_true rfl | (dsimp only; omega)) ?_
                refine ⟨rfl, ?_⟩
                unfold goX goT
                rw [if_neg (Int32.not_lt.mpr c4), hp0, hq, if_pos c84]
            · refine gg_aload_n (pc := 55) E dX5_goesOn_55 rfl rfl ?_
              refine gg_dup (pc := 56) E dX5_goesOn_56 rfl ?_
              refine gg_get (pc := 57) E ck_X5 16 q2875 rfl (by decide) dX5_goesOn_57 (gg_i 0 rfl) rfl ?_
              refine gg_topI (y := nI q) pk_us ?_
              refine gg_iconst (v := 1) (pc := 60) E dX5_goesOn_60 (by decide) ?_
              refine gg_iaddN (pc := 61) E q 1 rfl rfl dX5_goesOn_61 ?_
              refine gg_putM (M' := [_]) (pc := 62) E ck_X5 16 q2875 rfl (by decide) dX5_goesOn_62 0 rfl rfl (rfl) rfl (Nat.le_of_ble_eq_true rfl) rfl rfl ?_
              refine gg_goto (tgt := 16) (pc := 65) E dX5_goesOn_65 (by decide) ?_
              refine gg_cv ?_ (gg_leS gg_le0) rfl (by first | exact Nat.le_refl _ | (dsimp only; omega)) (by first | exact Nat.le_refl _ | (dsimp only; omega)) (ih16 (q + 1) (by omega) (by omega) ((rn_t (by omega) (Or.inr c52)).symm.trans hrn))
              · first | (rw [upd_2]; done) | (rw [upd_2]; rfl)
    refine gg_cv rfl (gg_leS gg_le0) rfl (by first | exact Nat.le_refl _ | (dsimp only; omega)) (by first | exact Nat.le_refl _ | (dsimp only; omega)) (L16 _ p0 (Nat.lt_succ_self _) (hpb) (rfl))
  · refine gg_vret (pc := 7) E Fn rfl dX5_goesOn_7 (by first | exact Nat.le_of_ble_eq_true rfl | (dsimp only; omega)) (by first | exact Nat.le_of_ble_eq_true rfl | (dsimp only; omega)) ?_
    exact ⟨rfl, by unfold goX; rw [if_pos (Int32.not_le.mp c4)]⟩

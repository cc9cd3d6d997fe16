/-! ===== PrayerMatsFace: pairings, bestPairing ===== -/
theorem mkM_prS (S : SQ) (r : List (Option Nat)) : mkM S (prS S r).2.2.1 = prS S r := by
  obtain ⟨f1, f2, f3, f4⟩ := prC_fr r S.1.length 0 S
  have f1 : (prS S r).1 = S.1 := f1
  have f2 : (prS S r).2.1 = S.2.1 := f2
  have f3 : (prS S r).2.2.2 = S.2.2.2 := f3
  unfold mkM
  rw [← f1, ← f2, ← f3]
def be0 : List Int32 := List.replicate 6 (-9)
def pS (st : Bool) (S : SQ) (nn : Nat) : Int32 × Int32 × List Int32 := (prG S.1.length 7 (2 ^ S.1.length - 1) S.2.2.1).foldl (lookF st S nn) (0, 1000000000, be0)
def lkR (st : Bool) (S : SQ) (nn : Nat) (s : Int32 × Int32 × List Int32) (r : List (Option Nat)) : Int32 × Int32 × List Int32 := lookF st S nn s (prS S r).2.2.1
theorem pS_eq {st : Bool} {S : SQ} {nn : Nat} (hL : LenS S) : pS st S nn = (pairsL S.1.length).foldl (lkR st S nn) (0, 1000000000, be0) := by
  unfold pS
  rw [prG_S hL, List.foldl_map]
  rfl
def keptR (S : SQ) (o : Option (List (Option Nat))) (be : List Int32) : List Int32 := match o with
  | none => be
  | some r => (prS S r).2.2.1.map mI
theorem pS_stab (S : SQ) (nn : Nat) : ∀ (L : List (List (Option Nat))) (c : Nat) (le : Int32) (be : List Int32), c + L.length < 2 ^ 20 → L.foldl (lkR true S nn) (nI c, le, be) = (nI (c + (L.filter (stQ S)).length), le, if c = 0 then keptR S (L.find? (stQ S)) be else be)
  | [], c, le, be, _ => by
    show (nI c, le, be) = (nI (c + 0), le, if c = 0 then be else be)
    rw [ite_self, Nat.add_zero]
  | r :: L, c, le, be, h => by
    have h : c + (L.length + 1) < 2 ^ 20 := h
    rw [List.foldl_cons]
    cases hq : stQ S r with
    | true =>
      have e : lkR true S nn (nI c, le, be) r = (nI (c + 1), le, if c = 0 then (prS S r).2.2.1.map mI else be) := by
        unfold lkR lookF
        rw [if_pos rfl, mkM_prS, if_pos (show stabS (prS S r) = true from hq)]
        show (nI c + 1, le, if nI c = 0 then _ else be) = _
        by_cases z : c = 0
        · subst z
          rw [if_pos rfl, show nI 0 = 0 from rfl, if_pos rfl]
          rfl
        · have z2 : ¬ nI c = 0 := fun q => z (nI_inj (b := 0) (by omega) (by omega) q)
          rw [if_neg z, if_neg z2, nI_1]
      rw [e, pS_stab S nn L (c + 1) le _ (by omega), List.filter_cons_of_pos hq, List.find?_cons_of_pos hq, if_neg (Nat.succ_ne_zero c), List.length_cons]
      congr 1
      · congr 1; omega
    | false =>
      have e : lkR true S nn (nI c, le, be) r = (nI c, le, be) := by
        unfold lkR lookF
        rw [if_pos rfl, mkM_prS, if_neg (show ¬ stabS (prS S r) = true from fun q => by have hq : stabS (prS S r) = false := hq; rw [hq] at q; cases q)]
      rw [e, pS_stab S nn L c le _ (by omega), List.filter_cons_of_neg (by rw [hq]; decide), List.find?_cons_of_neg (by rw [hq]; decide)]
def BsR (S : SQ) (acc : Option (Nat × List (Option Nat))) (s : Int32 × Int32 × List Int32) : Prop := (acc = none ∧ s.2.1 = 1000000000 ∧ s.2.2 = be0) ∨ ∃ v r, acc = some (v, r) ∧ v < 2 ^ 20 ∧ s.2.1 = nI v ∧ s.2.2 = (prS S r).2.2.1.map mI
theorem pS_day {S : SQ} {nn : Nat} (hS : OKS S) : ∀ (L : List (List (Option Nat))) (acc : Option (Nat × List (Option Nat))) (s : Int32 × Int32 × List Int32), (∀ r ∈ L, r ∈ pairsL S.1.length) → BsR S acc s → BsR S (L.foldl (bstF S nn) acc) (L.foldl (lkR false S nn) s)
  | [], _, _, _, h => h
  | r :: L, acc, s, hm, h => by
    rw [List.foldl_cons, List.foldl_cons]
    refine pS_day hS L _ _ (fun x hx => hm x (List.mem_cons_of_mem _ hx)) ?_
    have hr := (prS_ok hS (hm r List.mem_cons_self)).days nn
    have hv := allN_le hr.1 hr.2.1
    unfold lkR lookF bstF
    rw [if_neg (by decide), mkM_prS, allS_N]
    generalize allN (daysS nn (prS S r)) = v9 at hv
    rcases h with ⟨rfl, h1, h2⟩ | ⟨v, r0, rfl, hv0, h1, h2⟩
    · rw [if_pos (by rw [h1]; exact nI_lt (b := 1000000000) (by omega) (by decide))]
      exact Or.inr ⟨v9, r, rfl, by omega, rfl, rfl⟩
    · show BsR S (if v9 < v then some (v9, r) else some (v, r0)) _
      by_cases z : v9 < v
      · rw [if_pos z, if_pos (by rw [h1]; exact nI_lt z (by omega))]
        exact Or.inr ⟨v9, r, rfl, by omega, rfl, rfl⟩
      · rw [if_neg z, if_neg (by rw [h1]; exact fun q => z ((nI_ltI (by omega) (by omega)).mp q))]
        exact Or.inr ⟨v, r0, rfl, hv0, h1, h2⟩
theorem bst_some (S : SQ) (nn : Nat) : ∀ (l : List (List (Option Nat))) (x : Option (Nat × List (Option Nat))), x ≠ none → l.foldl (bstF S nn) x ≠ none
  | [], _, h => h
  | r :: l, x, h => by
    refine bst_some S nn l _ ?_
    unfold bstF
    cases x with
    | none => exact absurd rfl h
    | some y =>
      show (if _ then _ else _) ≠ _
      split <;> exact Option.some_ne_none _
theorem kept_get {S : SQ} {r : List (Option Nat)} {a : Nat} (hL : LenS S) (ha : a < S.1.length) : ((prS S r).2.2.1.map mI).getD a 0 = mI (r.getD a none) := by
  have h6 := hL.1
  have hl : (prS S r).2.2.1.length = 6 := (prC_fr r S.1.length 0 S).2.2.2.trans hL.2.2.1
  have e := prS_mt (r := r) a hL
  rw [if_pos ha] at e
  rw [← e]
  unfold mt
  simp only [List.getD_eq_getElem?_getD]
  rw [List.getElem?_map, List.getElem?_eq_getElem (by omega)]
  rfl
section XP3
variable {G : GD} {n x : Nat} {w w' w2 : XW} {g g' : RH} {σ : SG} {X Y : QX} {Z : List Nat × Int32} {s : Int32 × Int32 × List Int32} {S : SQ}
theorem PW.xr (hw : PW w w' X s) (h : XR x w g σ) : XR x w' g σ := h.scr hw.1
theorem k_X0_findsPairing {st : Bool} {nn : Nat} (h : XR x w g σ) (hd : st = false → w.2.2.2 13 = nI nn) (hn : nn < 2 ^ 30) : Ct G yX0_findsPairing cX0_findsPairing 3 none 18 0 0 [.ref x, .int (bI st)] n (xh x w g) (fun r n' h' => r = none ∧ n' = n ∧ ∃ X w'', h' = xh x w'' g ∧ PW w w'' X (pS st σ.1 nn)) := by
  refine Ct.intro (k := 1) [some (.ref x), some (.int (bI st)), none] (by decide) (Nat.le_of_ble_eq_true rfl) rfl fun z hz hin => ?_
  have hk := h.kx
  have h6 := hk.l6
  have hX1 := h.lx 1 (by decide)
  have p0 : PW w w (w.1 1) (w.2.2.2 11, w.2.2.2 12, w.2.2.1.2.2.1) := ⟨⟨rfl, fun _ _ => rfl, h.2.1, rfl, rfl, rfl, rfl, h.2.2.2.2.2.1, rfl, rfl, rfl, rfl⟩, rfl, rfl, rfl, rfl, rfl⟩
  refine J.heap (h2 := xh x (setq w 1 (w.1 1)) g) (by rw [setq_self]) ?_
  refine r_aload_0 (q := 1) dX0_findsPairing_0 rfl ?_
  refine r_get gf_X0_20_0 xh_x rfl (q := 4) dX0_findsPairing_1 rfl ?_
  refine r_aload_0 (q := 5) dX0_findsPairing_4 rfl ?_
  refine r_get gf_X0_16_0 xh_x rfl (q := 8) dX0_findsPairing_5 rfl ?_
  refine r_callVv_1 cv_X0_103 (xe_o 1 (by decide) rfl) rfl (by decide) (Nat.le_of_ble_eq_true rfl) ⟨Nat.le_refl _, Nat.le_refl _⟩ (m_takes 1 0 (by decide) (by decide) (by decide) hX1 hk rfl) (q := 11) dX0_findsPairing_8 rfl ?_
  have kt : KX x g (mkM (w.1 0).1 (w.1 0).1.2.2.1, (tkX (w.1 0) (w.1 1)).2) := hk.tk
  have p1 : PW w (setq w 1 (tkX (w.1 0) (w.1 1))) (mkM (w.1 0).1 (w.1 0).1.2.2.1, (tkX (w.1 0) (w.1 1)).2) _ := p0.q1 kt.lx
  have p2 := (p1.fo (v := 0)).le (v := 1000000000)
  refine r_aload_0 (q := 12) dX0_findsPairing_11 rfl ?_
  refine r_iconst 0 (by decide) (q := 13) dX0_findsPairing_12 rfl ?_
  refine r_put gf_X0_224_0 cl_ok_0 ft_0_11 xh_x (Nat.le_of_ble_eq_true rfl) rfl rfl (q := 16) dX0_findsPairing_13 rfl ?_
  refine J.heap (xset_f rfl) ?_
  refine r_aload_0 (q := 17) dX0_findsPairing_16 rfl ?_
  refine r_ldc q776 (q := 19) dX0_findsPairing_17 rfl ?_
  refine r_put gf_X0_233_0 cl_ok_0 ft_0_12 xh_x (Nat.le_of_ble_eq_true rfl) rfl rfl (q := 22) dX0_findsPairing_19 rfl ?_
  refine J.heap (xset_f rfl) ?_
  refine r_iconst 0 (by decide) (q := 23) dX0_findsPairing_22 rfl ?_
  refine r_istore_2 (by decide) rfl (q := 24) dX0_findsPairing_23 rfl ?_
  generalize hW : setf (setf (setq w 1 (tkX (w.1 0) (w.1 1))) 11 0) 12 1000000000 = w2 at p2 ⊢
  refine J.heap (h2 := xh x (setbe w2 w2.2.2.1.2.2.1) g) rfl ?_
  refine upto (P := fun i => ∀ l : List Int32, l.length = 6 → (∀ q, q < i → l.getD q 0 = -9) → J G z cX0_findsPairing 3 RX0 18 0 0 0 0 24 [some (.ref x), some (.int (bI st)), some (.int (nI i))] [] n (xh x (setbe w2 l) g)) 6 (fun l l1 l2 => ?_) (fun i hi next l l1 l2 => ?_) 0 (Nat.zero_le _) _ (by rw [p2.2.2.1]; exact p2.len) (fun q hq => absurd hq (Nat.not_lt_zero _))
  · have el : l = be0 := getD_ext (d := (0 : Int32)) (by rw [l1]; rfl) (fun i hi => by
      rw [l2 i (by omega)]
      have : ∀ i, i < 6 → (-9 : Int32) = be0.getD i 0 := by decide
      exact this i (by omega))
    have p3 := p2.be l1
    rw [el] at p3 ⊢
    have k0 : KX x g ((setbe w2 be0).1 0) := by rw [p3.1.1]; exact hk
    have hp0 : 0 < 2 ^ (w.1 0).1.1.length := Nat.pow_pos (by decide)
    have hp6 : 2 ^ (w.1 0).1.1.length ≤ 2 ^ 6 := Nat.pow_le_pow_right (by decide) h6
    refine r_iload_2 (q := 25) dX0_findsPairing_24 rfl ?_
    refine r_bipush 6 (by decide) (q := 27) dX0_findsPairing_25 rfl ?_
    refine r_icmp_ge (q := 30) (tgt := 44) dX0_findsPairing_27 rfl rfl (fun c27 => ?_) (fun c27 => ?_)
    · refine r_aload_0 (q := 45) dX0_findsPairing_44 rfl ?_
      refine r_iconst 1 (by decide) (q := 46) dX0_findsPairing_45 rfl ?_
      refine r_aload_0 (q := 47) dX0_findsPairing_46 rfl ?_
      refine r_get gf_X0_16_0 xh_x rfl (q := 50) dX0_findsPairing_47 rfl ?_
      refine r_callV_0 cv_X0_74 (xe_o 0 (by decide) rfl) rfl (by decide) (Nat.le_of_ble_eq_true rfl) ⟨Nat.le_refl _, Nat.le_refl _⟩ (x_many 0 (by decide) k0 rfl) (q := 53) dX0_findsPairing_50 rfl ?_
      rw [p3.1.1]
      refine r_ishl (q := 54) dX0_findsPairing_53 rfl ?_
      refine J.topi (shl_ok _ (by omega)) ?_
      refine r_iconst 1 (by decide) (q := 55) dX0_findsPairing_54 rfl ?_
      refine r_isub (q := 56) dX0_findsPairing_55 rfl ?_
      refine J.topi (y := nI (2 ^ (w.1 0).1.1.length - 1)) (nI_sub (b := 1) hp0) ?_
      refine r_iload_1 (q := 57) dX0_findsPairing_56 rfl ?_
      refine r_callVp_2 cv_X0_243 xh_x rfl (by decide) (Nat.le_of_ble_eq_true rfl) ⟨Nat.le_refl _, Nat.le_refl _⟩ (k_X0_eachPairing (S := (w.1 0).1) (Z := (tkX (w.1 0) (w.1 1)).2) hk rfl hd hn 7 (2 ^ (w.1 0).1.1.length - 1) (w.1 0).1.2.2.1 _ (0, 1000000000, be0) (by omega) (by omega) (Nat.le_trans (pop_le7 _ (by omega)) (by decide)) kt p3) (q := 60) dX0_findsPairing_57 rfl ?_
      intro r n' h' hq
      obtain ⟨rfl, rfl, M', w'', rfl, -, -, hP⟩ := hq
      exact r_vret hz dX0_findsPairing_60 (Nat.le_refl _) (Nat.le_refl _) ⟨rfl, rfl, _, w'', rfl, by rw [← h.s]; exact hP⟩
    · exact absurd (by decide : (6 : Int32) ≤ nI 6) c27
  · refine r_iload_2 (q := 25) dX0_findsPairing_24 rfl ?_
    refine r_bipush 6 (by decide) (q := 27) dX0_findsPairing_25 rfl ?_
    refine r_icmp_ge (q := 30) (tgt := 44) dX0_findsPairing_27 rfl rfl (fun c27 => ?_) (fun c27 => ?_)
    · exact absurd c27 (nI_ge (b := 6) hi (by decide))
    refine r_aload_0 (q := 31) dX0_findsPairing_30 rfl ?_
    refine r_get gf_X0_36_0 xh_x rfl (q := 34) dX0_findsPairing_31 rfl ?_
    refine r_iload_2 (q := 35) dX0_findsPairing_34 rfl ?_
    refine r_bipush (-9) (by decide) (q := 37) dX0_findsPairing_35 rfl ?_
    refine r_iast i 6 xh_be (by show l.length = 6; exact l1) rfl hi (by decide) (q := 38) dX0_findsPairing_37 rfl ?_
    rw [xset_be]
    refine J.heap (h2 := xh x (setbe w2 (l.set i (-9))) g) rfl ?_
    refine r_inc_2 (by decide) rfl (q := 41) dX0_findsPairing_38 rfl ?_
    refine r_goto (q := 24) dX0_findsPairing_41 rfl ?_
    refine next _ (by rw [List.length_set]; exact l1) (fun q hq => ?_)
    rw [getD_set, l1]
    rcases Nat.lt_succ_iff_lt_or_eq.mp hq with z | z
    · rw [if_neg (fun y => by omega)]; exact l2 q z
    · rw [if_pos ⟨z, hi⟩]
theorem k_X0_pairings {p : Int32} (h : XR x w g σ) : Ct G yX0_pairings cX0_pairings 2 (some .int) 19 0 0 [.ref x, .int p] n (xh x w g) (XPo x n g (pairingsS σ p)) := by
  refine Ct.intro (k := 0) [some (.ref x), some (.int p)] (by decide) (Nat.le_of_ble_eq_true rfl) rfl fun z hz hin => ?_
  have hk := h.kx
  have h6 := h.oks.1.1
  have hL := h.oks.1
  have yes : (p = -1 ∨ isPer σ.1 p = true) → J G z cX0_pairings 2 RX0 19 0 0 0 0 19 [some (.ref x), some (.int p)] [] n (xh x w g) := by
    intro t1
    have e0 : pairingsS σ p = (if p < 0 then nI ((pairsL σ.1.1.length).filter (stQ σ.1)).length else mFst ((pairsL σ.1.1.length).find? (stQ σ.1)) (cl p), σ) := if_pos (if_pos t1)
    rw [e0] at hz
    have hL76 := pairs_len σ.1.1.length (by omega)
    have ep : pS true σ.1 0 = _ := (pS_eq hL).trans (pS_stab σ.1 0 (pairsL σ.1.1.length) 0 1000000000 be0 (by omega))
    rw [if_pos rfl, Nat.zero_add] at ep
    refine r_aload_0 (q := 20) dX0_pairings_19 rfl ?_
    refine r_iconst 1 (by decide) (q := 21) dX0_pairings_20 rfl ?_
    refine r_callVp_1 cv_X0_247 xh_x rfl (by decide) (Nat.le_of_ble_eq_true rfl) ⟨Nat.le_refl _, Nat.le_refl _⟩ (k_X0_findsPairing (st := true) (nn := 0) h (fun q => by cases q) (by decide)) (q := 24) dX0_pairings_21 rfl ?_
    intro r n' h' hq
    obtain ⟨rfl, rfl, X, w'', rfl, hP⟩ := hq
    rw [ep] at hP
    have hR := hP.xr h
    refine r_iload_1 (q := 25) dX0_pairings_24 rfl ?_
    refine r_if_ge (q := 28) (tgt := 35) dX0_pairings_25 rfl rfl (fun c25 => ?_) (fun c25 => ?_)
    · rw [if_neg (Int32.not_lt.mpr c25)] at hz
      rcases t1 with rfl | t1
      · exact absurd c25 (by decide)
      obtain ⟨a, ha, rfl⟩ := isPer_t hL t1
      rw [cl_nI (by omega)] at hz
      refine r_aload_0 (q := 36) dX0_pairings_35 rfl ?_
      refine r_get gf_X0_36_0 xh_x rfl (q := 39) dX0_pairings_36 rfl ?_
      refine r_iload_1 (q := 40) dX0_pairings_39 rfl ?_
      refine r_iald a 6 xh_be (by rw [hP.2.2.1]; exact hP.len) rfl (by omega) (by decide) (q := 41) dX0_pairings_40 rfl ?_
      refine J.topi (y := mFst ((pairsL σ.1.1.length).find? (stQ σ.1)) a) (by
        rw [hP.2.2.1]
        cases (pairsL σ.1.1.length).find? (stQ σ.1) with
        | none =>
          have : ∀ a, a < 6 → be0.getD a 0 = -9 := by decide
          exact this a (by omega)
        | some r => exact kept_get hL ha) ?_
      exact r_iret hz dX0_pairings_41 (Nat.le_refl _) (Nat.le_refl _) (.of rfl hR)
    · rw [if_pos (Int32.not_le.mp c25)] at hz
      refine r_aload_0 (q := 29) dX0_pairings_28 rfl ?_
      refine r_get gf_X0_224_0 xh_x rfl (q := 32) dX0_pairings_29 rfl ?_
      refine J.topi (y := nI ((pairsL σ.1.1.length).filter (stQ σ.1)).length) hP.2.2.2.1 ?_
      refine r_goto (q := 41) dX0_pairings_32 rfl ?_
      exact r_iret hz dX0_pairings_41 (Nat.le_refl _) (Nat.le_refl _) (.of rfl hR)
  refine r_iload_1 (q := 1) dX0_pairings_0 rfl ?_
  refine r_iconst (-1) (by decide) (q := 2) dX0_pairings_1 rfl ?_
  refine r_icmp_eq (q := 5) (tgt := 19) dX0_pairings_2 rfl rfl (fun c2 => ?_) (fun c2 => ?_)
  · exact yes (Or.inl c2)
  refine r_aload_0 (q := 6) dX0_pairings_5 rfl ?_
  refine r_iload_1 (q := 7) dX0_pairings_6 rfl ?_
  refine r_callV_1 cv_X0_82 xh_x rfl (by decide) (Nat.le_of_ble_eq_true rfl) ⟨Nat.le_refl _, Nat.le_refl _⟩ (k_X0_isPerson hk) (q := 10) dX0_pairings_7 rfl ?_
  rw [h.s]
  refine r_if_ne (q := 13) (tgt := 19) dX0_pairings_10 rfl rfl (fun c10 => ?_) (fun c10 => ?_)
  · exact yes (Or.inr (bI_n0.mp c10))
  · have t1 : ¬ (p = -1 ∨ isPer σ.1 p = true) := fun q => by
      rcases q with q | q
      · exact c2 q
      · rw [bI_0.mp c10] at q; cases q
    have e1 : noPai σ.1 p = -1 := if_neg t1
    have e0 : pairingsS σ p = (-1, rfS σ (-1)) := by
      unfold pairingsS
      rw [e1]
      rfl
    rw [e0] at hz
    refine r_aload_0 (q := 14) dX0_pairings_13 rfl ?_
    refine r_iconst (-1) (by decide) (q := 15) dX0_pairings_14 rfl ?_
    refine r_callV_1 cv_X0_48 xh_x rfl (by decide) (Nat.le_of_ble_eq_true rfl) ⟨Nat.le_refl _, Nat.le_refl _⟩ (k_X0_refuse isC_1 h.ra) (q := 18) dX0_pairings_15 rfl ?_
    exact r_iret hz dX0_pairings_18 (Nat.le_refl _) (Nat.le_refl _) (.of rfl (h.refuse _))
theorem XR.f13 (h : XR x w g σ) (v : Int32) : XR x (setf w 13 v) g σ := h.scr ⟨rfl, fun _ _ => rfl, h.2.1, rfl, rfl, rfl, rfl, h.2.2.2.2.2.1, rfl, rfl, rfl, rfl⟩
theorem k_X0_bestPairing {a p : Int32} (h : XR x w g σ) : Ct G yX0_bestPairing cX0_bestPairing 4 (some .int) 19 0 0 [.ref x, .int a, .int p] n (xh x w g) (XPo x n g (bestPS σ a p)) := by
  refine Ct.intro (k := 1) [some (.ref x), some (.int a), some (.int p), none] (by decide) (Nat.le_of_ble_eq_true rfl) rfl fun z hz hin => ?_
  have hk := h.kx
  have h6 := h.oks.1.1
  have hL := h.oks.1
  have fin : ∀ no : Int32, no = noBst σ.1 a p → J G z cX0_bestPairing 4 RX0 19 0 0 0 0 21 [some (.ref x), some (.int a), some (.int p), none] [.int no] n (xh x w g) := by
    intro no hno
    refine r_istore_3 (by decide) rfl (q := 22) dX0_bestPairing_21 rfl ?_
    refine r_iload_3 (q := 23) dX0_bestPairing_22 rfl ?_
    refine r_if_eq (q := 26) (tgt := 32) dX0_bestPairing_23 rfl rfl (fun c23 => ?_) (fun c23 => ?_)
    · have h0 : noBst σ.1 a p = 0 := by rw [← hno]; exact c23
      have t1 : p = -1 ∨ isPer σ.1 p = true := by
        unfold noBst at h0
        split at h0
        · assumption
        · exact absurd h0 (by decide)
      have hwi : wi a 0 99 = 0 := by
        unfold noBst at h0
        rw [if_pos t1] at h0
        exact h0
      obtain ⟨l1, l2⟩ := wi_0 hwi
      obtain ⟨nn, hnn, rfl⟩ := nI_of (x := a) (Int32.not_lt.mpr l1)
      have u2 : nn ≤ 99 := (nI_leI (b := 99) hnn (by decide)).mp l2
      have e0 : bestPS σ (nI nn) p = (bstO ((pairsL σ.1.1.length).foldl (bstF σ.1 nn) none) p, σ) := by
        unfold bestPS
        rw [if_pos h0, cl_nI (by omega)]
      rw [e0] at hz
      have hB := pS_day (nn := nn) h.oks (pairsL σ.1.1.length) none (0, 1000000000, be0) (fun _ q => q) (Or.inl ⟨rfl, rfl, rfl⟩)
      rw [← pS_eq hL] at hB
      have hL76 := pairs_len σ.1.1.length (by omega)
      have hne : (pairsL σ.1.1.length).foldl (bstF σ.1 nn) none ≠ none := by
        cases hLc : pairsL σ.1.1.length with
        | nil => rw [hLc] at hL76; exact absurd hL76.1 (by decide)
        | cons r l => exact bst_some σ.1 nn l _ (Option.some_ne_none _)
      generalize (pairsL σ.1.1.length).foldl (bstF σ.1 nn) none = acc at hz hB hne
      rcases hB with ⟨q, _, _⟩ | ⟨v9, r9, rfl, hv9, q1, q2⟩
      · exact absurd q hne
      refine r_aload_0 (q := 33) dX0_bestPairing_32 rfl ?_
      refine r_iload_1 (q := 34) dX0_bestPairing_33 rfl ?_
      refine r_put gf_X0_230_0 cl_ok_0 ft_0_13 xh_x (Nat.le_of_ble_eq_true rfl) rfl rfl (q := 37) dX0_bestPairing_34 rfl ?_
      refine J.heap (xset_f rfl) ?_
      refine r_aload_0 (q := 38) dX0_bestPairing_37 rfl ?_
      refine r_iconst 0 (by decide) (q := 39) dX0_bestPairing_38 rfl ?_
      refine r_callVp_1 cv_X0_247 xh_x rfl (by decide) (Nat.le_of_ble_eq_true rfl) ⟨Nat.le_refl _, Nat.le_refl _⟩ (k_X0_findsPairing (st := false) (nn := nn) (h.f13 (nI nn)) (fun _ => rfl) (by omega)) (q := 42) dX0_bestPairing_39 rfl ?_
      intro r n' h' hq
      obtain ⟨rfl, rfl, X, w'', rfl, hP⟩ := hq
      have hR := hP.xr (h.f13 (nI nn))
      refine r_iload_2 (q := 43) dX0_bestPairing_42 rfl ?_
      refine r_if_ge (q := 46) (tgt := 53) dX0_bestPairing_43 rfl rfl (fun c43 => ?_) (fun c43 => ?_)
      · rcases t1 with rfl | t1
        · exact absurd c43 (by decide)
        obtain ⟨b, hb, rfl⟩ := isPer_t hL t1
        have eb : bstO (some (v9, r9)) (nI b) = mI (r9.getD b none) := by
          unfold bstO
          show (if nI b < 0 then _ else _) = _
          rw [if_neg (Int32.not_lt.mpr c43), cl_nI (by omega)]
        rw [eb] at hz
        refine r_aload_0 (q := 54) dX0_bestPairing_53 rfl ?_
        refine r_get gf_X0_36_0 xh_x rfl (q := 57) dX0_bestPairing_54 rfl ?_
        refine r_iload_2 (q := 58) dX0_bestPairing_57 rfl ?_
        refine r_iald b 6 xh_be (by rw [hP.2.2.1]; exact hP.len) rfl (by omega) (by decide) (q := 59) dX0_bestPairing_58 rfl ?_
        refine J.topi (y := mI (r9.getD b none)) (by rw [hP.2.2.1, q2]; exact kept_get hL hb) ?_
        exact r_iret hz dX0_bestPairing_59 (Nat.le_refl _) (Nat.le_refl _) (.of rfl hR)
      · have eb : bstO (some (v9, r9)) p = nI v9 := if_pos (Int32.not_le.mp c43)
        rw [eb] at hz
        refine r_aload_0 (q := 47) dX0_bestPairing_46 rfl ?_
        refine r_get gf_X0_233_0 xh_x rfl (q := 50) dX0_bestPairing_47 rfl ?_
        refine J.topi (y := nI v9) (hP.2.2.2.2.1.trans q1) ?_
        refine r_goto (q := 59) dX0_bestPairing_50 rfl ?_
        exact r_iret hz dX0_bestPairing_59 (Nat.le_refl _) (Nat.le_refl _) (.of rfl hR)
    · have hc : isC no := by rw [hno] at c23 ⊢; exact noBst_c.resolve_left c23
      have e0 : bestPS σ a p = (noBst σ.1 a p, rfS σ (noBst σ.1 a p)) := if_neg (hno ▸ c23)
      rw [e0, ← hno] at hz
      refine r_aload_0 (q := 27) dX0_bestPairing_26 rfl ?_
      refine r_iload_3 (q := 28) dX0_bestPairing_27 rfl ?_
      refine r_callV_1 cv_X0_48 xh_x rfl (by decide) (Nat.le_of_ble_eq_true rfl) ⟨Nat.le_refl _, Nat.le_refl _⟩ (k_X0_refuse hc h.ra) (q := 31) dX0_bestPairing_28 rfl ?_
      exact r_iret hz dX0_bestPairing_31 (Nat.le_refl _) (Nat.le_refl _) (.of rfl (h.refuse _))
  have yes : (p = -1 ∨ isPer σ.1 p = true) → J G z cX0_bestPairing 4 RX0 19 0 0 0 0 13 [some (.ref x), some (.int a), some (.int p), none] [] n (xh x w g) := by
    intro t1
    refine r_iload_1 (q := 14) dX0_bestPairing_13 rfl ?_
    refine r_callS_1 cs_X0_185 (by decide) (Nat.le_of_ble_eq_true rfl) ⟨Nat.le_refl _, Nat.le_refl _⟩ (k_X0_wrongDays) (q := 17) dX0_bestPairing_14 rfl ?_
    refine r_goto (q := 21) dX0_bestPairing_17 rfl ?_
    exact fin _ (if_pos t1).symm
  refine r_iload_2 (q := 1) dX0_bestPairing_0 rfl ?_
  refine r_iconst (-1) (by decide) (q := 2) dX0_bestPairing_1 rfl ?_
  refine r_icmp_eq (q := 5) (tgt := 13) dX0_bestPairing_2 rfl rfl (fun c2 => ?_) (fun c2 => ?_)
  · exact yes (Or.inl c2)
  refine r_aload_0 (q := 6) dX0_bestPairing_5 rfl ?_
  refine r_iload_2 (q := 7) dX0_bestPairing_6 rfl ?_
  refine r_callV_1 cv_X0_82 xh_x rfl (by decide) (Nat.le_of_ble_eq_true rfl) ⟨Nat.le_refl _, Nat.le_refl _⟩ (k_X0_isPerson hk) (q := 10) dX0_bestPairing_7 rfl ?_
  rw [h.s]
  refine r_if_eq (q := 13) (tgt := 20) dX0_bestPairing_10 rfl rfl (fun c10 => ?_) (fun c10 => ?_)
  · have t1 : ¬ (p = -1 ∨ isPer σ.1 p = true) := fun q => by
      rcases q with q | q
      · exact c2 q
      · rw [bI_0.mp c10] at q; cases q
    refine r_iconst (-1) (by decide) (q := 21) dX0_bestPairing_20 rfl ?_
    exact fin _ (if_neg t1).symm
  · exact yes (Or.inr (bI_n0.mp c10))
end XP3


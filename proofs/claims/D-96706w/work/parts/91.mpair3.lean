/-! ===== PrayerMatsFaceModel: pairings, bestPairing ===== -/
def lpD (w : MW) (l15 l16 : List Int32) (v27 v28 : Int32) : MW := sf27 (sf28 (sa15 (sa16 w l16) l15) v28) v27
def PrP (k : Nat) (L : List (List (Option Nat))) (l : List Int32) : Prop := ∀ t, t < L.length → ∀ p, p < k → l.getD (6 * t + p) 0 = mI ((L.getD t []).getD p none)
theorem lp_pre {k c : Nat} (hk : k ≤ 6) (hc : c ≤ 6 ^ k) : ((List.range c).filterMap (lpO k)).length ≤ 76 ∧ (c < 6 ^ k → ∀ tr, lpO k c = some tr → ((List.range c).filterMap (lpO k)).length < 76) := by
  have h1 := (pairs_len k (by omega)).2
  have mono : ∀ c, c ≤ 6 ^ k → ((List.range c).filterMap (lpO k)).length ≤ 76 := by
    intro c hc
    have := ((List.range_sublist.mpr hc).filterMap (lpO k)).length_le
    rw [lp_all hk] at this
    omega
  refine ⟨mono c hc, fun h tr e => ?_⟩
  have := mono (c + 1) h
  rw [List.range_succ, List.filterMap_append, List.length_append] at this
  simp [e] at this
  omega
section MO8
variable {G : GD} {n m : Nat} {w : MW} {g : RH} {σ : SG} {T T0 : SQ} {j j0 : List PP} {h : RH}
theorem k_X2_layPairings (K : OKM T j) (e : w.1 = mS T j) (hp : MRp (ma15 w) (mf27 w) (mf28 w)) (hl : (ma16 w).length = 6) : Ct G yX2_layPairings cX2_layPairings 4 none 3 0 0 [.ref m] n (mh m w g) (fun r n' h' => r = none ∧ n' = n ∧ ∃ l15 l16, l15.length = 456 ∧ l16.length = 6 ∧ h' = mh m (lpD w l15 l16 (nI (pairsL T.1.length).length) (nI T.1.length)) g ∧ PrP T.1.length (pairsL T.1.length) l15) := by
  refine Ct.intro (k := 3) [some (.ref m), none, none, none] (by decide) (Nat.le_of_ble_eq_true rfl) rfl fun z hz hin => ?_
  have h6 := K.l6
  refine r_aload_0 (q := 1) dX2_layPairings_0 rfl ?_
  refine r_get gf_X2_55_2 mh_o rfl (q := 4) dX2_layPairings_1 rfl ?_
  refine r_aload_0 (q := 5) dX2_layPairings_4 rfl ?_
  refine m_getp gf_X2_68_2 K e (q := 8) dX2_layPairings_5 rfl ?_
  refine r_icmp_ne (q := 11) (tgt := 12) dX2_layPairings_8 rfl rfl (fun c8 => ?_) (fun c8 => ?_)
  · generalize hN : T.1.length = N at h6 hz c8
    have hE : (lpD w (ma15 w) (ma16 w) (mf27 w) (mf28 w)).1 = mS T j := e
    refine r_aload_0 (q := 13) dX2_layPairings_12 rfl ?_
    refine r_aload_0 (q := 14) dX2_layPairings_13 rfl ?_
    refine m_getp gf_X2_68_2 K e (q := 17) dX2_layPairings_14 rfl ?_
    rw [hN]
    refine r_put gf_X2_55_2 cl_ok_2 ft_2_28 mh_o (Nat.le_of_ble_eq_true rfl) rfl rfl (q := 20) dX2_layPairings_17 rfl ?_
    refine J.heap mset_f28 ?_
    refine r_aload_0 (q := 21) dX2_layPairings_20 rfl ?_
    refine r_iconst 0 (by decide) (q := 22) dX2_layPairings_21 rfl ?_
    refine r_put gf_X2_253_2 cl_ok_2 ft_2_27 mh_o (Nat.le_of_ble_eq_true rfl) rfl rfl (q := 25) dX2_layPairings_22 rfl ?_
    refine J.heap mset_f27 ?_
    refine r_iconst 1 (by decide) (q := 26) dX2_layPairings_25 rfl ?_
    refine r_istore_1 (by decide) rfl (q := 27) dX2_layPairings_26 rfl ?_
    refine r_iconst 0 (by decide) (q := 28) dX2_layPairings_27 rfl ?_
    refine r_istore_2 (by decide) rfl (q := 29) dX2_layPairings_28 rfl ?_
    refine J.heap (h2 := mh m (lpD w (ma15 w) (ma16 w) 0 (nI N)) g) rfl ?_
    refine upto (P := fun k => J G z cX2_layPairings 4 RX2 3 0 0 0 0 29 [some (.ref m), some (.int (nI (6 ^ k))), some (.int (nI k)), none] [] n (mh m (lpD w (ma15 w) (ma16 w) 0 (nI N)) g)) N ?_ (fun k hk next => ?_) 0 (Nat.zero_le _)
    · refine r_iload_2 (q := 30) dX2_layPairings_29 rfl ?_
      refine r_aload_0 (q := 31) dX2_layPairings_30 rfl ?_
      refine m_getp gf_X2_68_2 K e (q := 34) dX2_layPairings_31 rfl ?_
      rw [hN]
      refine r_icmp_ge (q := 37) (tgt := 48) dX2_layPairings_34 rfl rfl (fun c34 => ?_) (fun c34 => ?_)
      · have p6 := pw6 (e := N) h6
        refine r_iconst 0 (by decide) (q := 49) dX2_layPairings_48 rfl ?_
        refine r_istore_2 (by decide) rfl (q := 50) dX2_layPairings_49 rfl ?_
        refine upto (P := fun c => ∀ (l15 l16 : List Int32) (o3 : Option Value), l15.length = 456 → l16.length = 6 → PrP N ((List.range c).filterMap (lpO N)) l15 → J G z cX2_layPairings 4 RX2 3 0 0 0 0 50 [some (.ref m), some (.int (nI (6 ^ N))), some (.int (nI c)), o3] [] n (mh m (lpD w l15 l16 (nI ((List.range c).filterMap (lpO N)).length) (nI N)) g)) (6 ^ N) (fun l15 l16 o3 a1 a2 a3 => ?_) (fun c hc next l15 l16 o3 a1 a2 a3 => ?_) 0 (Nat.zero_le _) (ma15 w) (ma16 w) none hp.1 hl (fun t ht => absurd ht (Nat.not_lt_zero _))
        · refine r_iload_2 (q := 51) dX2_layPairings_50 rfl ?_
          refine r_iload_1 (q := 52) dX2_layPairings_51 rfl ?_
          refine r_icmp_ge (q := 55) (tgt := 128) dX2_layPairings_52 rfl rfl (fun c52 => ?_) (fun c52 => ?_)
          · rw [lp_all h6] at a3 ⊢
            exact r_vret hz dX2_layPairings_128 (Nat.le_refl _) (Nat.le_refl _) ⟨rfl, rfl, l15, l16, a1, a2, rfl, a3⟩
          · exact absurd (Int32.le_refl _) c52
        · obtain ⟨b1, b2⟩ := lp_pre (k := N) (c := c) h6 (by omega)
          have hE : (lpD w l15 l16 (nI ((List.range c).filterMap (lpO N)).length) (nI N)).1 = mS T j := e
          rw [List.range_succ, List.filterMap_append] at next
          generalize hA : (List.range c).filterMap (lpO N) = A at a3 b1 b2 next hE ⊢
          have lay : J G z cX2_layPairings 4 RX2 3 0 0 0 0 70 [some (.ref m), some (.int (nI (6 ^ N))), some (.int (nI c)), o3] [.int (nI (lpW N)), .int (nI c), .ref m] n (mh m (lpD w l15 l16 (nI A.length) (nI N)) g) := by
            have kt := k_X2_layTrial (G := G) (n := n) (m := m) (w := lpD w l15 l16 (nI A.length) (nI N)) (g := g) (code := c) K hE a2 (by omega)
            rw [hN] at kt
            refine r_callVp_2 cv_X2_256 mh_o rfl (by decide) (Nat.le_of_ble_eq_true rfl) ⟨Nat.le_refl _, Nat.le_refl _⟩ kt (q := 73) dX2_layPairings_70 rfl ?_
            intro r n' h' hq
            obtain ⟨rfl, l, hl6, rfl, hq⟩ := hq
            refine J.heap (h2 := mh m (lpD w l15 l (nI A.length) (nI N)) g) rfl ?_
            cases ho : lpO N c with
            | none =>
              rw [ho] at hq
              have hq : r = some (.int 0) := hq
              subst hq
              have en : List.filterMap (lpO N) [c] = [] := by rw [List.filterMap_cons, ho]; rfl
              rw [en, List.append_nil] at next
              refine r_if_eq (q := 76) (tgt := 122) dX2_layPairings_73 rfl rfl (fun c73 => ?_) (fun c73 => ?_)
              · refine r_inc_2 (by decide) rfl (q := 125) dX2_layPairings_122 rfl ?_
                refine r_goto (q := 50) dX2_layPairings_125 rfl ?_
                exact next l15 l o3 a1 hl6 a3
              · exact absurd rfl c73
            | some tr =>
              rw [ho] at hq
              obtain ⟨hq, htr⟩ : r = some (.int 1) ∧ ∀ p, p < N → l.getD p 0 = mI (tr.getD p none) := hq
              subst hq
              have en : List.filterMap (lpO N) [c] = [tr] := by rw [List.filterMap_cons, ho]; rfl
              rw [en] at next
              have hA76 := b2 hc tr ho
              refine r_if_eq (q := 76) (tgt := 122) dX2_layPairings_73 rfl rfl (fun c73 => ?_) (fun c73 => ?_)
              · exact absurd c73 (by decide)
              refine r_iconst 0 (by decide) (q := 77) dX2_layPairings_76 rfl ?_
              refine r_istore_3 (by decide) rfl (q := 78) dX2_layPairings_77 rfl ?_
              refine upto (P := fun p => ∀ l15' : List Int32, l15'.length = 456 → (∀ i, i < 6 * A.length → l15'.getD i 0 = l15.getD i 0) → (∀ q, q < p → l15'.getD (6 * A.length + q) 0 = l.getD q 0) → J G z cX2_layPairings 4 RX2 3 0 0 0 0 78 [some (.ref m), some (.int (nI (6 ^ N))), some (.int (nI c)), some (.int (nI p))] [] n' (mh m (lpD w l15' l (nI A.length) (nI N)) g)) N (fun l15' d1 d2 d3 => ?_) (fun p hp nx l15' d1 d2 d3 => ?_) 0 (Nat.zero_le _) l15 a1 (fun _ _ => rfl) (fun q hq => absurd hq (Nat.not_lt_zero _))
              · have hE' : (lpD w l15' l (nI A.length) (nI N)).1 = mS T j := e
                refine r_iload_3 (q := 79) dX2_layPairings_78 rfl ?_
                refine r_aload_0 (q := 80) dX2_layPairings_79 rfl ?_
                refine m_getp gf_X2_68_2 K hE' (q := 83) dX2_layPairings_80 rfl ?_
                rw [hN]
                refine r_icmp_ge (q := 86) (tgt := 112) dX2_layPairings_83 rfl rfl (fun c83 => ?_) (fun c83 => ?_)
                · refine r_aload_0 (q := 113) dX2_layPairings_112 rfl ?_
                  refine r_dup rfl (q := 114) dX2_layPairings_113 rfl ?_
                  refine r_get gf_X2_253_2 mh_o rfl (q := 117) dX2_layPairings_114 rfl ?_
                  refine r_iconst 1 (by decide) (q := 118) dX2_layPairings_117 rfl ?_
                  refine r_iadd (q := 119) dX2_layPairings_118 rfl ?_
                  refine J.topi (y := nI (A.length + 1)) (nI_add A.length 1) ?_
                  refine r_put gf_X2_253_2 cl_ok_2 ft_2_27 mh_o (Nat.le_of_ble_eq_true rfl) rfl rfl (q := 122) dX2_layPairings_119 rfl ?_
                  refine J.heap mset_f27 ?_
                  refine J.heap (h2 := mh m (lpD w l15' l (nI (A ++ [tr]).length) (nI N)) g) (by rw [List.length_append]; rfl) ?_
                  refine r_inc_2 (by decide) rfl (q := 125) dX2_layPairings_122 rfl ?_
                  refine r_goto (q := 50) dX2_layPairings_125 rfl ?_
                  refine next l15' l _ d1 hl6 (fun t ht p hp => ?_)
                  rw [List.length_append] at ht
                  have ht : t < A.length + 1 := ht
                  rcases Nat.lt_succ_iff_lt_or_eq.mp ht with z | z
                  · rw [d2 _ (by omega), a3 t z p hp]
                    congr 2
                    simp only [List.getD_eq_getElem?_getD]
                    rw [List.getElem?_append_left z]
                  · subst z
                    rw [d3 p hp, htr p hp]
                    congr 2
                    simp
                · exact absurd (Int32.le_refl _) c83
              · have hE' : (lpD w l15' l (nI A.length) (nI N)).1 = mS T j := e
                refine r_iload_3 (q := 79) dX2_layPairings_78 rfl ?_
                refine r_aload_0 (q := 80) dX2_layPairings_79 rfl ?_
                refine m_getp gf_X2_68_2 K hE' (q := 83) dX2_layPairings_80 rfl ?_
                rw [hN]
                refine r_icmp_ge (q := 86) (tgt := 112) dX2_layPairings_83 rfl rfl (fun c83 => ?_) (fun c83 => ?_)
                · exact absurd c83 (nI_not_lt hp (by omega))
                refine r_aload_0 (q := 87) dX2_layPairings_86 rfl ?_
                refine r_get gf_X2_52_2 mh_o rfl (q := 90) dX2_layPairings_87 rfl ?_
                refine r_bipush 6 (by decide) (q := 92) dX2_layPairings_90 rfl ?_
                refine r_aload_0 (q := 93) dX2_layPairings_92 rfl ?_
                refine r_get gf_X2_253_2 mh_o rfl (q := 96) dX2_layPairings_93 rfl ?_
                refine r_imul (q := 97) dX2_layPairings_96 rfl ?_
                refine J.topi (y := nI (6 * A.length)) (pk_mul 6 A.length) ?_
                refine r_iload_3 (q := 98) dX2_layPairings_97 rfl ?_
                refine r_iadd (q := 99) dX2_layPairings_98 rfl ?_
                refine J.topi (y := nI (6 * A.length + p)) (nI_add _ _) ?_
                refine r_aload_0 (q := 100) dX2_layPairings_99 rfl ?_
                refine r_get gf_X2_59_2 mh_o rfl (q := 103) dX2_layPairings_100 rfl ?_
                refine r_iload_3 (q := 104) dX2_layPairings_103 rfl ?_
                refine r_iald p 6 mh_16 hl6 rfl (by omega) (by decide) (q := 105) dX2_layPairings_104 rfl ?_
                refine r_iast (6 * A.length + p) 456 mh_15 d1 rfl (by omega) (by decide) (q := 106) dX2_layPairings_105 rfl ?_
                rw [mset_15]
                refine J.heap (h2 := mh m (lpD w (l15'.set (6 * A.length + p) (l.getD p 0)) l (nI A.length) (nI N)) g) rfl ?_
                refine r_inc_3 (by decide) rfl (q := 109) dX2_layPairings_106 rfl ?_
                refine r_goto (q := 78) dX2_layPairings_109 rfl ?_
                refine nx _ (by rw [List.length_set]; exact d1) (fun i hi => ?_) (fun q hq => ?_)
                · rw [getD_set, if_neg (fun z => by omega)]
                  exact d2 i hi
                · rw [getD_set, d1]
                  rcases Nat.lt_succ_iff_lt_or_eq.mp hq with z | z
                  · rw [if_neg (fun z => by omega)]
                    exact d3 q z
                  · subst z
                    rw [if_pos ⟨rfl, by omega⟩]
          refine r_iload_2 (q := 51) dX2_layPairings_50 rfl ?_
          refine r_iload_1 (q := 52) dX2_layPairings_51 rfl ?_
          refine r_icmp_ge (q := 55) (tgt := 128) dX2_layPairings_52 rfl rfl (fun c52 => ?_) (fun c52 => ?_)
          · exact absurd c52 (nI_ge hc (by omega))
          refine r_aload_0 (q := 56) dX2_layPairings_55 rfl ?_
          refine r_iload_2 (q := 57) dX2_layPairings_56 rfl ?_
          refine r_iload_1 (q := 58) dX2_layPairings_57 rfl ?_
          refine r_iconst 1 (by decide) (q := 59) dX2_layPairings_58 rfl ?_
          refine r_icmp_le (q := 62) (tgt := 69) dX2_layPairings_59 rfl rfl (fun c59 => ?_) (fun c59 => ?_)
          · have : ¬ 1 < 6 ^ N := fun z => absurd c59 (Int32.not_le.mpr (nI_lt (a := 1) z (by omega)))
            rw [show lpW N = 1 from if_neg this] at lay
            refine r_iconst 1 (by decide) (q := 70) dX2_layPairings_69 rfl ?_
            exact lay
          · have : 1 < 6 ^ N := by
              rcases Nat.lt_or_ge 1 (6 ^ N) with z | z
              · exact z
              · exact absurd (nI_le (b := 1) z (by omega)) c59
            rw [show lpW N = 6 ^ N / 6 from if_pos this] at lay
            refine r_iload_1 (q := 63) dX2_layPairings_62 rfl ?_
            refine r_bipush 6 (by decide) (q := 65) dX2_layPairings_63 rfl ?_
            refine r_idiv (by decide) (q := 66) dX2_layPairings_65 rfl ?_
            refine J.topi (y := nI (6 ^ N / 6)) (pk_div (by omega) (by decide) (by decide)) ?_
            refine r_goto (q := 70) dX2_layPairings_66 rfl ?_
            exact lay
      · exact absurd (Int32.le_refl _) c34
    · have p6 := (pw6 (e := k) (by omega)).2
      refine r_iload_2 (q := 30) dX2_layPairings_29 rfl ?_
      refine r_aload_0 (q := 31) dX2_layPairings_30 rfl ?_
      refine m_getp gf_X2_68_2 K e (q := 34) dX2_layPairings_31 rfl ?_
      rw [hN]
      refine r_icmp_ge (q := 37) (tgt := 48) dX2_layPairings_34 rfl rfl (fun c34 => ?_) (fun c34 => ?_)
      · exact absurd c34 (nI_not_lt hk (by omega))
      refine r_iload_1 (q := 38) dX2_layPairings_37 rfl ?_
      refine r_bipush 6 (by decide) (q := 40) dX2_layPairings_38 rfl ?_
      refine r_imul (q := 41) dX2_layPairings_40 rfl ?_
      refine J.topi (y := nI (6 ^ (k + 1))) (by rw [show (6 : Int32) = nI 6 from rfl, pk_mul, Nat.pow_succ]) ?_
      refine r_istore_1 (by decide) rfl (q := 42) dX2_layPairings_41 rfl ?_
      refine r_inc_2 (by decide) rfl (q := 45) dX2_layPairings_42 rfl ?_
      refine r_goto (q := 29) dX2_layPairings_45 rfl ?_
      exact next
  · have hp28 : mf28 w = nI T.1.length := c8
    obtain ⟨h456, hfo⟩ := hp
    rcases hfo with q | ⟨k, hk, e28, hmany, hpr⟩
    · rw [q] at hp28
      exact absurd (show nI T.1.length < 0 by rw [← hp28]; decide) (nI_pos (by omega))
    · have : k = T.1.length := nI_inj (by omega) (by omega) (e28.symm.trans hp28)
      subst this
      exact r_vret hz dX2_layPairings_11 (Nat.le_refl _) (Nat.le_refl _) ⟨rfl, rfl, ma15 w, ma16 w, h456, hl, by rw [← hmany, ← e28]; rfl, hpr⟩
end MO8


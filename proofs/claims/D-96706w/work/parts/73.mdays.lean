/-! ===== PrayerMatsFaceModel: days, sums, mats ===== -/
theorem held_ok : ∀ v, v < 100 → (heldI (nI v) 99 = nI v) ∧ (∀ a, a < 5 → heldI (nI v + nI a) 99 = nI (min 99 (v + a)) ∧ ∀ b, b < 5 → heldI (nI v - (nI a + nI b)) 99 = nI (v - a - b)) := by decide +kernel
section MD
variable {G : GD} {n m : Nat} {w : MW} {g : RH} {T : SQ} {j : List PP} {h : RH}
theorem k_X2_behindHour {p q hh x y : Nat} (K : OKM T j) (e : w.1 = mS T j) (hp : p < T.1.length) (hq : q < T.1.length) (hhh : hh < 8) (hx : x ≤ 31) (hy : y ≤ 31) : CtE G yX2_behindHour cX2_behindHour 9 (some FieldType.int) 2 [.ref m, .int (nI p), .int (nI q), .int (nI hh), .int (nI x), .int (nI y)] n (mh m w g) (some (.int (nI (kn x y (pr T p) (pr T q) hh (qr T p q))))) (mh m w g) := by
  refine Ct.intro (k := 3) [some (.ref m), some (.int (nI p)), some (.int (nI q)), some (.int (nI hh)), some (.int (nI x)), some (.int (nI y)), none, none, none] (by decide) (Nat.le_of_ble_eq_true rfl) rfl fun z hz hin => ?_
  have h6 := K.l6
  have q99 := K.qr99 p q
  have pa := vs_pr K.vals hp
  have pb := vs_pr K.vals hq
  obtain ⟨o1, o2⟩ := held_ok (qr T p q) (by omega)
  refine r_iload_4 (q := 2) dX2_behindHour_0 rfl ?_
  refine r_iload_3 (q := 3) dX2_behindHour_2 rfl ?_
  refine r_callS_2 cs_X2_93 (by decide) (Nat.le_of_ble_eq_true rfl) ⟨Nat.le_refl _, Nat.le_refl _⟩ (k_X2_hasBit (k := x) (by omega) hhh) (q := 6) dX2_behindHour_3 rfl ?_
  refine r_istore_6 (by decide) rfl (q := 8) dX2_behindHour_6 rfl ?_
  refine r_iload_5 (q := 10) dX2_behindHour_8 rfl ?_
  refine r_iload_3 (q := 11) dX2_behindHour_10 rfl ?_
  refine r_callS_2 cs_X2_93 (by decide) (Nat.le_of_ble_eq_true rfl) ⟨Nat.le_refl _, Nat.le_refl _⟩ (k_X2_hasBit (k := y) (by omega) hhh) (q := 14) dX2_behindHour_11 rfl ?_
  refine r_istore_7 (by decide) rfl (q := 16) dX2_behindHour_14 rfl ?_
  refine r_aload_0 (q := 17) dX2_behindHour_16 rfl ?_
  refine r_iload_1 (q := 18) dX2_behindHour_17 rfl ?_
  refine r_iload_2 (q := 19) dX2_behindHour_18 rfl ?_
  refine r_callV_2 cv_X2_79 mh_o rfl (by decide) (Nat.le_of_ble_eq_true rfl) ⟨Nat.le_refl _, Nat.le_refl _⟩ (k_X2_quarrelOf K e (by omega) (by omega)) (q := 22) dX2_behindHour_19 rfl ?_
  refine r_istore_8 (by decide) rfl (q := 24) dX2_behindHour_22 rfl ?_
  have fin : ∀ (v x6 x7 : Int32), heldI v 99 = nI (kn x y (pr T p) (pr T q) hh (qr T p q)) → J G z cX2_behindHour 9 RX2 2 0 0 0 0 86 [some (.ref m), some (.int (nI p)), some (.int (nI q)), some (.int (nI hh)), some (.int (nI x)), some (.int (nI y)), some (.int x6), some (.int x7), some (.int v)] [] n (mh m w g) := by
    intro v x6 x7 hv
    refine r_iload_8 (q := 88) dX2_behindHour_86 rfl ?_
    refine r_bipush 99 (by decide) (q := 90) dX2_behindHour_88 rfl ?_
    refine r_callS_2 cs_X2_103 (by decide) (Nat.le_of_ble_eq_true rfl) ⟨Nat.le_refl _, Nat.le_refl _⟩ (k_X2_held) (q := 93) dX2_behindHour_90 rfl ?_
    rw [hv]
    exact r_iret hz dX2_behindHour_93 (Nat.le_refl _) (Nat.le_refl _) ⟨rfl, rfl, rfl⟩
  cases f1 : hbt x hh <;> cases f2 : hbt y hh
  · refine r_iload_6 (q := 26) dX2_behindHour_24 rfl ?_
    refine r_if_eq (q := 29) (tgt := 53) dX2_behindHour_26 rfl rfl (fun c26 => ?_) (fun c26 => ?_)
    · refine r_iload_6 (q := 55) dX2_behindHour_53 rfl ?_
      refine r_if_eq (q := 58) (tgt := 71) dX2_behindHour_55 rfl rfl (fun c55 => ?_) (fun c55 => ?_)
      · refine r_iload_7 (q := 73) dX2_behindHour_71 rfl ?_
        refine r_if_eq (q := 76) (tgt := 86) dX2_behindHour_73 rfl rfl (fun c73 => ?_) (fun c73 => ?_)
        · exact fin _ _ _ (by unfold kn; rw [f1, f2]; exact o1)
        · exact absurd rfl c73
      · exact absurd rfl c55
    · exact absurd rfl c26
  · refine r_iload_6 (q := 26) dX2_behindHour_24 rfl ?_
    refine r_if_eq (q := 29) (tgt := 53) dX2_behindHour_26 rfl rfl (fun c26 => ?_) (fun c26 => ?_)
    · refine r_iload_6 (q := 55) dX2_behindHour_53 rfl ?_
      refine r_if_eq (q := 58) (tgt := 71) dX2_behindHour_55 rfl rfl (fun c55 => ?_) (fun c55 => ?_)
      · refine r_iload_7 (q := 73) dX2_behindHour_71 rfl ?_
        refine r_if_eq (q := 76) (tgt := 86) dX2_behindHour_73 rfl rfl (fun c73 => ?_) (fun c73 => ?_)
        · exact absurd c73 (by decide)
        · refine r_iload_8 (q := 78) dX2_behindHour_76 rfl ?_
          refine r_aload_0 (q := 79) dX2_behindHour_78 rfl ?_
          refine r_iload_2 (q := 80) dX2_behindHour_79 rfl ?_
          refine r_callV_1 cv_X2_100 mh_o rfl (by decide) (Nat.le_of_ble_eq_true rfl) ⟨Nat.le_refl _, Nat.le_refl _⟩ (k_X2_soreOf K e hq) (q := 83) dX2_behindHour_80 rfl ?_
          refine r_iadd (q := 84) dX2_behindHour_83 rfl ?_
          refine r_istore_8 (by decide) rfl (q := 86) dX2_behindHour_84 rfl ?_
          exact fin _ _ _ (by unfold kn; rw [f1, f2]; exact (o2 _ (Nat.lt_succ_of_le (Nat.le_trans (sore_le _ pb.1 _ pb.2) (by decide)))).1)
      · exact absurd rfl c55
    · exact absurd rfl c26
  · refine r_iload_6 (q := 26) dX2_behindHour_24 rfl ?_
    refine r_if_eq (q := 29) (tgt := 53) dX2_behindHour_26 rfl rfl (fun c26 => ?_) (fun c26 => ?_)
    · exact absurd c26 (by decide)
    · refine r_iload_7 (q := 31) dX2_behindHour_29 rfl ?_
      refine r_if_eq (q := 34) (tgt := 53) dX2_behindHour_31 rfl rfl (fun c31 => ?_) (fun c31 => ?_)
      · refine r_iload_6 (q := 55) dX2_behindHour_53 rfl ?_
        refine r_if_eq (q := 58) (tgt := 71) dX2_behindHour_55 rfl rfl (fun c55 => ?_) (fun c55 => ?_)
        · exact absurd c55 (by decide)
        · refine r_iload_8 (q := 60) dX2_behindHour_58 rfl ?_
          refine r_aload_0 (q := 61) dX2_behindHour_60 rfl ?_
          refine r_iload_1 (q := 62) dX2_behindHour_61 rfl ?_
          refine r_callV_1 cv_X2_100 mh_o rfl (by decide) (Nat.le_of_ble_eq_true rfl) ⟨Nat.le_refl _, Nat.le_refl _⟩ (k_X2_soreOf K e hp) (q := 65) dX2_behindHour_62 rfl ?_
          refine r_iadd (q := 66) dX2_behindHour_65 rfl ?_
          refine r_istore_8 (by decide) rfl (q := 68) dX2_behindHour_66 rfl ?_
          refine r_goto (q := 86) dX2_behindHour_68 rfl ?_
          exact fin _ _ _ (by unfold kn; rw [f1, f2]; exact (o2 _ (Nat.lt_succ_of_le (Nat.le_trans (sore_le _ pa.1 _ pa.2) (by decide)))).1)
      · exact absurd rfl c31
  · refine r_iload_6 (q := 26) dX2_behindHour_24 rfl ?_
    refine r_if_eq (q := 29) (tgt := 53) dX2_behindHour_26 rfl rfl (fun c26 => ?_) (fun c26 => ?_)
    · exact absurd c26 (by decide)
    · refine r_iload_7 (q := 31) dX2_behindHour_29 rfl ?_
      refine r_if_eq (q := 34) (tgt := 53) dX2_behindHour_31 rfl rfl (fun c31 => ?_) (fun c31 => ?_)
      · exact absurd c31 (by decide)
      · refine r_iload_8 (q := 36) dX2_behindHour_34 rfl ?_
        refine r_aload_0 (q := 37) dX2_behindHour_36 rfl ?_
        refine r_iload_1 (q := 38) dX2_behindHour_37 rfl ?_
        refine r_callV_1 cv_X2_97 mh_o rfl (by decide) (Nat.le_of_ble_eq_true rfl) ⟨Nat.le_refl _, Nat.le_refl _⟩ (k_X2_softOf K e hp) (q := 41) dX2_behindHour_38 rfl ?_
        refine r_aload_0 (q := 42) dX2_behindHour_41 rfl ?_
        refine r_iload_2 (q := 43) dX2_behindHour_42 rfl ?_
        refine r_callV_1 cv_X2_97 mh_o rfl (by decide) (Nat.le_of_ble_eq_true rfl) ⟨Nat.le_refl _, Nat.le_refl _⟩ (k_X2_softOf K e hq) (q := 46) dX2_behindHour_43 rfl ?_
        refine r_iadd (q := 47) dX2_behindHour_46 rfl ?_
        refine r_isub (q := 48) dX2_behindHour_47 rfl ?_
        refine r_istore_8 (by decide) rfl (q := 50) dX2_behindHour_48 rfl ?_
        refine r_goto (q := 86) dX2_behindHour_50 rfl ?_
        exact fin _ _ _ (by unfold kn; rw [f1, f2]; exact (o2 _ (Nat.lt_succ_of_le (soft_le _ pa.1 _ pa.2))).2 _ (Nat.lt_succ_of_le (soft_le _ pb.1 _ pb.2)))
theorem cmH_le {ab : Option Nat} {S : SQ} (h : ValS S) (p : Nat) : cmH ab S p ≤ 31 := by
  unfold cmH
  split
  · omega
  · exact vs_hr h p
theorem k_X2_dayBy {ab tw : Option Nat} (K : OKM T j) (e : w.1 = mS T j) (hab : ∀ a, ab = some a → a < 2 ^ 30) (htw : ∀ a, tw = some a → a < 8) : CtE G yX2_dayBy cX2_dayBy 8 none 3 [.ref m, .int (mI ab), .int (mI tw)] n (mh m w g) none (mh m (sS w (mS (dayM ab tw T) j)) g) := by
  obtain ⟨s0, w2⟩ := w
  have e : s0 = mS T j := e
  subst e
  refine Ct.intro (k := 5) [some (.ref m), some (.int (mI ab)), some (.int (mI tw)), none, none, none, none, none] (by decide) (Nat.le_of_ble_eq_true rfl) rfl fun z hz hin => ?_
  have h6 := K.l6
  refine r_aload_0 (q := 1) dX2_dayBy_0 rfl ?_
  refine r_dup rfl (q := 2) dX2_dayBy_1 rfl ?_
  refine m_getd gf_X2_106_2 K rfl (q := 5) dX2_dayBy_2 rfl ?_
  refine r_iconst 1 (by decide) (q := 6) dX2_dayBy_5 rfl ?_
  refine r_iadd (q := 7) dX2_dayBy_6 rfl ?_
  refine J.topi (nI_1 _) ?_
  refine r_put gf_X2_106_2 cl_ok_2 ft_2_6 mh_o (Nat.le_of_ble_eq_true rfl) rfl rfl (q := 10) dX2_dayBy_7 rfl ?_
  refine J.heap mset_d ?_
  refine r_iconst 0 (by decide) (q := 11) dX2_dayBy_10 rfl ?_
  refine r_istore_3 (by decide) rfl (q := 12) dX2_dayBy_11 rfl ?_
  have K0 : OKM (setD T (T.2.2.2.2 + 1)) j := ⟨⟨K.1.1, K.1.2.1, K.1.2.2.1, K.1.2.2.2⟩, K.2⟩
  refine forJ (f := dayStep ab tw) (σ := SQ) T.1.length (fun s => OKS s ∧ s.1 = T.1) (fun a s => ∀ o4 o5 o6 o7 : Option Value, lc2 o4 = false → lc2 o5 = false → lc2 o6 = false → J G z cX2_dayBy 8 RX2 3 0 0 0 0 12 [some (.ref m), some (.int (mI ab)), some (.int (mI tw)), some (.int (nI a)), o4, o5, o6, o7] [] n (mh m (mS s j, w2) g)) (a0 := 0) (s0 := setD T (T.2.2.2.2 + 1)) (Nat.zero_le _) ⟨K0.1, rfl⟩ (fun s hI hs o4 o5 o6 o7 l4 l5 l6 => ?_) (fun a s _ ha hI => ⟨⟨dayStep_oks ab tw hI.1 (by rw [hI.2]; exact ha), by rw [(dayStep_fr ab tw a s).1]; exact hI.2⟩, fun next o4 o5 o6 o7 l4 l5 l6 => ?_⟩) none none none none rfl rfl rfl
  · have Ks : OKM s j := K.of hI.2 hI.1
    refine r_iload_3 (q := 13) dX2_dayBy_12 rfl ?_
    refine r_aload_0 (q := 14) dX2_dayBy_13 rfl ?_
    refine m_getp gf_X2_68_2 Ks rfl (q := 17) dX2_dayBy_14 rfl ?_
    rw [hI.2]
    refine r_icmp_ge (q := 20) (tgt := 134) dX2_dayBy_17 rfl rfl (fun c17 => ?_) (fun c17 => ?_)
    · rw [← show s = dayM ab tw T from hs] at hz
      exact r_vret hz dX2_dayBy_134 (Nat.le_refl _) (Nat.le_refl _) ⟨rfl, rfl, rfl⟩
    · exact absurd (Int32.le_refl _) c17
  · have Ks : OKM s j := K.of hI.2 hI.1
    have has : a < s.1.length := by rw [hI.2]; exact ha
    have n128 : ∀ s'', s'' = dayStep ab tw a s → ∀ o4 o5 o6 o7 : Option Value, lc2 o4 = false → lc2 o5 = false → lc2 o6 = false → J G z cX2_dayBy 8 RX2 3 0 0 0 0 128 [some (.ref m), some (.int (mI ab)), some (.int (mI tw)), some (.int (nI a)), o4, o5, o6, o7] [] n (mh m (mS s'' j, w2) g) := by
      intro s'' hs o4 o5 o6 o7 l4 l5 l6
      subst hs
      refine r_inc_3 (by decide) rfl (q := 131) dX2_dayBy_128 rfl ?_
      refine r_goto (q := 12) dX2_dayBy_131 rfl ?_
      exact next _ _ _ _ l4 l5 l6
    refine r_iload_3 (q := 13) dX2_dayBy_12 rfl ?_
    refine r_aload_0 (q := 14) dX2_dayBy_13 rfl ?_
    refine m_getp gf_X2_68_2 Ks rfl (q := 17) dX2_dayBy_14 rfl ?_
    rw [hI.2]
    refine r_icmp_ge (q := 20) (tgt := 134) dX2_dayBy_17 rfl rfl (fun c17 => ?_) (fun c17 => ?_)
    · exact absurd c17 (nI_not_lt ha (by omega))
    refine r_aload_0 (q := 21) dX2_dayBy_20 rfl ?_
    refine r_get gf_X2_19_2 mh_o rfl (q := 24) dX2_dayBy_21 rfl ?_
    refine r_iload_3 (q := 25) dX2_dayBy_24 rfl ?_
    refine m_ald4 Ks rfl (by omega) (q := 26) dX2_dayBy_25 rfl ?_
    refine r_istore_4 (by decide) rfl (q := 28) dX2_dayBy_26 rfl ?_
    refine r_iload_4 (q := 30) dX2_dayBy_28 rfl ?_
    refine r_iload_3 (q := 31) dX2_dayBy_30 rfl ?_
    cases em : mt s a with
    | none =>
      refine r_icmp_le (q := 34) (tgt := 128) dX2_dayBy_31 rfl rfl (fun c31 => ?_) (fun c31 => ?_)
      · exact n128 s (by unfold dayStep; rw [em]) _ _ _ _ rfl l5 l6
      · exact absurd (Int32.le_trans (by decide : mI none ≤ 0) (nI_pos' (by omega))) c31
    | some q =>
      have hq := Ks.mtl has em
      rw [hI.2] at hq
      have hqs : q < s.1.length := by rw [hI.2]; exact hq
      refine r_icmp_le (q := 34) (tgt := 128) dX2_dayBy_31 rfl rfl (fun c31 => ?_) (fun c31 => ?_)
      · have : ¬ a < q := fun z => (nI_ge z (by omega)) c31
        exact n128 s (by unfold dayStep; rw [em]; exact (if_neg this).symm) _ _ _ _ rfl l5 l6
      have haq : a < q := by
        rcases Nat.lt_or_ge a q with z | z
        · exact z
        · exact absurd (nI_le z (by omega)) c31
      have c1 := cmH_le (ab := ab) hI.1.2.1 a
      have c2 := cmH_le (ab := ab) hI.1.2.1 q
      have k68 : ∀ x y : Nat, x = cmH ab s a → y = cmH ab s q → ∀ o7 : Option Value, J G z cX2_dayBy 8 RX2 3 0 0 0 0 68 [some (.ref m), some (.int (mI ab)), some (.int (mI tw)), some (.int (nI a)), some (.int (nI q)), some (.int (nI x)), o6, o7] [.int (nI y)] n (mh m (mS s j, w2) g) := by
        intro x y hx hy o7
        refine r_istore_6 (by decide) rfl (q := 70) dX2_dayBy_68 rfl ?_
        refine r_iconst 0 (by decide) (q := 71) dX2_dayBy_70 rfl ?_
        refine r_istore_7 (by decide) rfl (q := 73) dX2_dayBy_71 rfl ?_
        refine forJ (f := pairH x y a q) (σ := SQ) 5 (fun s' => OKS s' ∧ s'.1 = s.1) (fun i s' => J G z cX2_dayBy 8 RX2 3 0 0 0 0 73 [some (.ref m), some (.int (mI ab)), some (.int (mI tw)), some (.int (nI a)), some (.int (nI q)), some (.int (nI x)), some (.int (nI y)), some (.int (nI i))] [] n (mh m (mS s' j, w2) g)) (a0 := 0) (s0 := s) (by decide) ⟨hI.1, rfl⟩ (fun s' hI' hs' => ?_) (fun i s' _ hi hI' => ⟨⟨hI'.1.pairH (by omega) (by omega) (by omega), hI'.2⟩, fun next' => ?_⟩)
        · have K' : OKM s' j := Ks.of hI'.2 hI'.1
          have hl : s'.1.length = T.1.length := by rw [hI'.2, hI.2]
          refine r_iload_7 (q := 75) dX2_dayBy_73 rfl ?_
          refine r_iconst 5 (by decide) (q := 76) dX2_dayBy_75 rfl ?_
          refine r_icmp_ge (q := 79) (tgt := 105) dX2_dayBy_76 rfl rfl (fun c76 => ?_) (fun c76 => ?_)
          · refine r_iload_2 (q := 106) dX2_dayBy_105 rfl ?_
            cases etw : tw with
            | none =>
              rw [etw] at n128
              refine r_if_lt (q := 109) (tgt := 128) dX2_dayBy_106 rfl rfl (fun c106 => ?_) (fun c106 => ?_)
              · refine n128 s' ?_ _ _ _ _ rfl rfl rfl
                rw [hs', dayStep_on em haq, hx, hy]
                rfl
              · exact absurd (by decide : mI none < 0) c106
            | some hh =>
              have hh8 := htw hh etw
              rw [etw] at n128
              refine r_if_lt (q := 109) (tgt := 128) dX2_dayBy_106 rfl rfl (fun c106 => ?_) (fun c106 => ?_)
              · exact absurd c106 (nI_pos (by omega))
              refine r_aload_0 (q := 110) dX2_dayBy_109 rfl ?_
              refine r_iload_3 (q := 111) dX2_dayBy_110 rfl ?_
              refine r_iload_4 (q := 113) dX2_dayBy_111 rfl ?_
              refine r_aload_0 (q := 114) dX2_dayBy_113 rfl ?_
              refine r_iload_3 (q := 115) dX2_dayBy_114 rfl ?_
              refine r_iload_4 (q := 117) dX2_dayBy_115 rfl ?_
              refine r_iload_2 (q := 118) dX2_dayBy_117 rfl ?_
              refine r_iload_5 (q := 120) dX2_dayBy_118 rfl ?_
              refine r_iload_6 (q := 122) dX2_dayBy_120 rfl ?_
              refine r_callV_5 cv_X2_109 mh_o rfl (by decide) (Nat.le_of_ble_eq_true rfl) ⟨Nat.le_refl _, Nat.le_refl _⟩ (k_X2_behindHour K' rfl (by omega) (by omega) hh8 (by omega) (by omega)) (q := 125) dX2_dayBy_122 rfl ?_
              refine r_callVv_3 cv_X2_113 mh_o rfl (by decide) (Nat.le_of_ble_eq_true rfl) ⟨Nat.le_refl _, Nat.le_refl _⟩ (k_X2_setQuarrel K' rfl (by omega) (by omega)) (q := 128) dX2_dayBy_125 rfl ?_
              refine n128 (pairH x y a q hh s') ?_ _ _ _ _ rfl rfl rfl
              rw [hs', dayStep_on em haq, hx, hy]
              rfl
          · exact absurd (nI_le (a := 5) (b := 5) (by omega) (by omega)) c76
        · have K' : OKM s' j := Ks.of hI'.2 hI'.1
          have hl : s'.1.length = T.1.length := by rw [hI'.2, hI.2]
          refine r_iload_7 (q := 75) dX2_dayBy_73 rfl ?_
          refine r_iconst 5 (by decide) (q := 76) dX2_dayBy_75 rfl ?_
          refine r_icmp_ge (q := 79) (tgt := 105) dX2_dayBy_76 rfl rfl (fun c76 => ?_) (fun c76 => ?_)
          · exact absurd c76 (nI_not_lt (b := 5) hi (by omega))
          refine r_aload_0 (q := 80) dX2_dayBy_79 rfl ?_
          refine r_iload_3 (q := 81) dX2_dayBy_80 rfl ?_
          refine r_iload_4 (q := 83) dX2_dayBy_81 rfl ?_
          refine r_aload_0 (q := 84) dX2_dayBy_83 rfl ?_
          refine r_iload_3 (q := 85) dX2_dayBy_84 rfl ?_
          refine r_iload_4 (q := 87) dX2_dayBy_85 rfl ?_
          refine r_iload_7 (q := 89) dX2_dayBy_87 rfl ?_
          refine r_iload_5 (q := 91) dX2_dayBy_89 rfl ?_
          refine r_iload_6 (q := 93) dX2_dayBy_91 rfl ?_
          refine r_callV_5 cv_X2_109 mh_o rfl (by decide) (Nat.le_of_ble_eq_true rfl) ⟨Nat.le_refl _, Nat.le_refl _⟩ (k_X2_behindHour K' rfl (by omega) (by omega) (by omega) (by omega) (by omega)) (q := 96) dX2_dayBy_93 rfl ?_
          refine r_callVv_3 cv_X2_113 mh_o rfl (by decide) (Nat.le_of_ble_eq_true rfl) ⟨Nat.le_refl _, Nat.le_refl _⟩ (k_X2_setQuarrel K' rfl (by omega) (by omega)) (q := 99) dX2_dayBy_96 rfl ?_
          refine r_inc_7 (by decide) rfl (q := 102) dX2_dayBy_99 rfl ?_
          refine r_goto (q := 73) dX2_dayBy_102 rfl ?_
          exact next'
      have k49 : ∀ x : Nat, x = cmH ab s a → J G z cX2_dayBy 8 RX2 3 0 0 0 0 49 [some (.ref m), some (.int (mI ab)), some (.int (mI tw)), some (.int (nI a)), some (.int (nI q)), o5, o6, o7] [.int (nI x)] n (mh m (mS s j, w2) g) := by
        intro x hx
        refine r_istore_5 (by decide) rfl (q := 51) dX2_dayBy_49 rfl ?_
        refine r_iload_4 (q := 53) dX2_dayBy_51 rfl ?_
        refine r_iload_1 (q := 54) dX2_dayBy_53 rfl ?_
        have eq2 := mI_eq (o := ab) (a := q) (by omega) hab
        refine r_icmp_ne (q := 57) (tgt := 61) dX2_dayBy_54 rfl rfl (fun c54 => ?_) (fun c54 => ?_)
        · refine r_aload_0 (q := 62) dX2_dayBy_61 rfl ?_
          refine r_get gf_X2_16_2 mh_o rfl (q := 65) dX2_dayBy_62 rfl ?_
          refine r_iload_4 (q := 67) dX2_dayBy_65 rfl ?_
          refine m_ald3 Ks rfl (by omega) (q := 68) dX2_dayBy_67 rfl ?_
          exact k68 x _ hx (by unfold cmH; rw [if_neg (fun z => c54 (eq2.mpr z).symm)]) _
        · refine r_iconst 0 (by decide) (q := 58) dX2_dayBy_57 rfl ?_
          refine r_goto (q := 68) dX2_dayBy_58 rfl ?_
          exact k68 x 0 hx (by unfold cmH; rw [if_pos (eq2.mp c54.symm)]) _
      refine r_iload_3 (q := 35) dX2_dayBy_34 rfl ?_
      refine r_iload_1 (q := 36) dX2_dayBy_35 rfl ?_
      have eq1 := mI_eq (o := ab) (a := a) (by omega) hab
      refine r_icmp_ne (q := 39) (tgt := 43) dX2_dayBy_36 rfl rfl (fun c36 => ?_) (fun c36 => ?_)
      · refine r_aload_0 (q := 44) dX2_dayBy_43 rfl ?_
        refine r_get gf_X2_16_2 mh_o rfl (q := 47) dX2_dayBy_44 rfl ?_
        refine r_iload_3 (q := 48) dX2_dayBy_47 rfl ?_
        refine m_ald3 Ks rfl (by omega) (q := 49) dX2_dayBy_48 rfl ?_
        exact k49 _ (by unfold cmH; rw [if_neg (fun z => c36 (eq1.mpr z).symm)])
      · refine r_iconst 0 (by decide) (q := 40) dX2_dayBy_39 rfl ?_
        refine r_goto (q := 49) dX2_dayBy_40 rfl ?_
        exact k49 0 (by unfold cmH; rw [if_pos (eq1.mp c36.symm)])
theorem k_X2_day (K : OKM T j) (e : w.1 = mS T j) : CtE G yX2_dayBy cX2_dayBy 8 none 3 [.ref m, .int (-9), .int (-9)] n (mh m w g) none (mh m (sS w (mS (goesS T) j)) g) := by
  have k := k_X2_dayBy (G := G) (n := n) (m := m) (g := g) (ab := none) (tw := none) K e (fun _ q => by cases q) (fun _ q => by cases q)
  rw [dayM_goes K.1] at k
  exact k
theorem OKM.goes (K : OKM T j) : OKM (goesS T) j := K.of (goesS_fr T).1 K.1.goes
theorem OKM.days (K : OKM T j) (c : Nat) : OKM (daysS c T) j := K.of (daysS_fr c T).1 (K.1.days c)
theorem k_X2_goDays {c : Nat} (K : OKM T j) (e : w.1 = mS T j) (hc : c < 2 ^ 30) : CtE G yX2_goDays cX2_goDays 3 none 4 [.ref m, .int (nI c)] n (mh m w g) none (mh m (sS w (mS (daysS c T) j)) g) := by
  obtain ⟨s0, w2⟩ := w
  have e : s0 = mS T j := e
  subst e
  refine Ct.intro (k := 1) [some (.ref m), some (.int (nI c)), none] (by decide) (Nat.le_of_ble_eq_true rfl) rfl fun z hz hin => ?_
  have loop : ∀ (d a : Nat) (S : SQ), OKM S j → a + d = c → daysS d S = daysS c T → J G z cX2_goDays 3 RX2 4 0 0 0 0 2 [some (.ref m), some (.int (nI c)), some (.int (nI a))] [] n (mh m (mS S j, w2) g) := by
    intro d
    induction d with
    | zero =>
      intro a S k h1 h2
      have h1 : a = c := h1
      subst h1
      refine r_iload_2 (q := 3) dX2_goDays_2 rfl ?_
      refine r_iload_1 (q := 4) dX2_goDays_3 rfl ?_
      refine r_icmp_ge (q := 7) (tgt := 21) dX2_goDays_4 rfl rfl (fun c4 => ?_) (fun c4 => ?_)
      · rw [← show S = daysS a T from h2] at hz
        exact r_vret hz dX2_goDays_21 (Nat.le_refl _) (Nat.le_refl _) ⟨rfl, rfl, rfl⟩
      · exact absurd (Int32.le_refl _) c4
    | succ d ih =>
      intro a S k h1 h2
      refine r_iload_2 (q := 3) dX2_goDays_2 rfl ?_
      refine r_iload_1 (q := 4) dX2_goDays_3 rfl ?_
      refine r_icmp_ge (q := 7) (tgt := 21) dX2_goDays_4 rfl rfl (fun c4 => ?_) (fun c4 => ?_)
      · exact absurd c4 (nI_not_lt (by omega) (by omega))
      refine r_aload_0 (q := 8) dX2_goDays_7 rfl ?_
      refine r_bipush (-9) (by decide) (q := 10) dX2_goDays_8 rfl ?_
      refine r_bipush (-9) (by decide) (q := 12) dX2_goDays_10 rfl ?_
      refine r_callVv_2 cv_X2_117 mh_o rfl (by decide) (Nat.le_of_ble_eq_true rfl) ⟨Nat.le_refl _, Nat.le_refl _⟩ (k_X2_day k rfl) (q := 15) dX2_goDays_12 rfl ?_
      refine r_inc_2 (by decide) rfl (q := 18) dX2_goDays_15 rfl ?_
      refine r_goto (q := 2) dX2_goDays_18 rfl ?_
      exact ih (a + 1) _ k.goes (by omega) h2
  refine r_iconst 0 (by decide) (q := 1) dX2_goDays_0 rfl ?_
  refine r_istore_2 (by decide) rfl (q := 2) dX2_goDays_1 rfl ?_
  exact loop c 0 T K (Nat.zero_add _) rfl
theorem k_X2_allOf (K : OKM T j) (e : w.1 = mS T j) : CtE G yX2_allOf cX2_allOf 4 (some FieldType.int) 2 [.ref m] n (mh m w g) (some (.int (allS T))) (mh m w g) := by
  refine Ct.intro (k := 3) [some (.ref m), none, none, none] (by decide) (Nat.le_of_ble_eq_true rfl) rfl fun z hz hin => ?_
  have h6 := K.l6
  refine r_iconst 0 (by decide) (q := 1) dX2_allOf_0 rfl ?_
  refine r_istore_1 (by decide) rfl (q := 2) dX2_allOf_1 rfl ?_
  refine r_iconst 0 (by decide) (q := 3) dX2_allOf_2 rfl ?_
  refine r_istore_2 (by decide) rfl (q := 4) dX2_allOf_3 rfl ?_
  refine forJ (f := allI T) (σ := Int32) T.1.length (fun _ => True) (fun a s => ∀ o3 : Option Value, J G z cX2_allOf 4 RX2 2 0 0 0 0 4 [some (.ref m), some (.int s), some (.int (nI a)), o3] [] n (mh m w g)) (a0 := 0) (s0 := 0) (Nat.zero_le _) trivial (fun s _ hs o3 => ?_) (fun a s _ ha _ => ⟨trivial, fun next o3 => ?_⟩) none
  · refine r_iload_2 (q := 5) dX2_allOf_4 rfl ?_
    refine r_aload_0 (q := 6) dX2_allOf_5 rfl ?_
    refine m_getp gf_X2_68_2 K e (q := 9) dX2_allOf_6 rfl ?_
    refine r_icmp_ge (q := 12) (tgt := 45) dX2_allOf_9 rfl rfl (fun c9 => ?_) (fun c9 => ?_)
    · rw [← show s = allS T from hs] at hz
      refine r_iload_1 (q := 46) dX2_allOf_45 rfl ?_
      exact r_iret hz dX2_allOf_46 (Nat.le_refl _) (Nat.le_refl _) ⟨rfl, rfl, rfl⟩
    · exact absurd (Int32.le_refl _) c9
  · refine r_iload_2 (q := 5) dX2_allOf_4 rfl ?_
    refine r_aload_0 (q := 6) dX2_allOf_5 rfl ?_
    refine m_getp gf_X2_68_2 K e (q := 9) dX2_allOf_6 rfl ?_
    refine r_icmp_ge (q := 12) (tgt := 45) dX2_allOf_9 rfl rfl (fun c9 => ?_) (fun c9 => ?_)
    · exact absurd c9 (nI_not_lt ha (by omega))
    refine r_iload_2 (q := 13) dX2_allOf_12 rfl ?_
    refine r_iconst 1 (by decide) (q := 14) dX2_allOf_13 rfl ?_
    refine r_iadd (q := 15) dX2_allOf_14 rfl ?_
    refine J.topi (nI_1 _) ?_
    refine r_istore_3 (by decide) rfl (q := 16) dX2_allOf_15 rfl ?_
    refine forJ (f := fun b acc => acc + nI (qr T a b)) (σ := Int32) T.1.length (fun _ => True) (fun b s => J G z cX2_allOf 4 RX2 2 0 0 0 0 16 [some (.ref m), some (.int s), some (.int (nI a)), some (.int (nI b))] [] n (mh m w g)) (a0 := a + 1) (s0 := s) ha trivial (fun s' _ hs => ?_) (fun b s' _ hb _ => ⟨trivial, fun next' => ?_⟩)
    · refine r_iload_3 (q := 17) dX2_allOf_16 rfl ?_
      refine r_aload_0 (q := 18) dX2_allOf_17 rfl ?_
      refine m_getp gf_X2_68_2 K e (q := 21) dX2_allOf_18 rfl ?_
      refine r_icmp_ge (q := 24) (tgt := 39) dX2_allOf_21 rfl rfl (fun c21 => ?_) (fun c21 => ?_)
      · refine r_inc_2 (by decide) rfl (q := 42) dX2_allOf_39 rfl ?_
        refine r_goto (q := 4) dX2_allOf_42 rfl ?_
        subst hs
        exact next _
      · exact absurd (Int32.le_refl _) c21
    · refine r_iload_3 (q := 17) dX2_allOf_16 rfl ?_
      refine r_aload_0 (q := 18) dX2_allOf_17 rfl ?_
      refine m_getp gf_X2_68_2 K e (q := 21) dX2_allOf_18 rfl ?_
      refine r_icmp_ge (q := 24) (tgt := 39) dX2_allOf_21 rfl rfl (fun c21 => ?_) (fun c21 => ?_)
      · exact absurd c21 (nI_not_lt hb (by omega))
      refine r_iload_1 (q := 25) dX2_allOf_24 rfl ?_
      refine r_aload_0 (q := 26) dX2_allOf_25 rfl ?_
      refine r_iload_2 (q := 27) dX2_allOf_26 rfl ?_
      refine r_iload_3 (q := 28) dX2_allOf_27 rfl ?_
      refine r_callV_2 cv_X2_79 mh_o rfl (by decide) (Nat.le_of_ble_eq_true rfl) ⟨Nat.le_refl _, Nat.le_refl _⟩ (k_X2_quarrelOf K e (by omega) (by omega)) (q := 31) dX2_allOf_28 rfl ?_
      refine r_iadd (q := 32) dX2_allOf_31 rfl ?_
      refine r_istore_1 (by decide) rfl (q := 33) dX2_allOf_32 rfl ?_
      refine r_inc_3 (by decide) rfl (q := 36) dX2_allOf_33 rfl ?_
      refine r_goto (q := 16) dX2_allOf_36 rfl ?_
      exact next'
theorem k_X2_zerosOf (K : OKM T j) (e : w.1 = mS T j) : CtE G yX2_zerosOf cX2_zerosOf 4 (some FieldType.int) 2 [.ref m] n (mh m w g) (some (.int (zerosS T))) (mh m w g) := by
  refine Ct.intro (k := 3) [some (.ref m), none, none, none] (by decide) (Nat.le_of_ble_eq_true rfl) rfl fun z hz hin => ?_
  have h6 := K.l6
  refine r_iconst 0 (by decide) (q := 1) dX2_zerosOf_0 rfl ?_
  refine r_istore_1 (by decide) rfl (q := 2) dX2_zerosOf_1 rfl ?_
  refine r_iconst 0 (by decide) (q := 3) dX2_zerosOf_2 rfl ?_
  refine r_istore_2 (by decide) rfl (q := 4) dX2_zerosOf_3 rfl ?_
  refine forJ (f := zeroI T) (σ := Int32) T.1.length (fun _ => True) (fun a s => ∀ o3 : Option Value, J G z cX2_zerosOf 4 RX2 2 0 0 0 0 4 [some (.ref m), some (.int s), some (.int (nI a)), o3] [] n (mh m w g)) (a0 := 0) (s0 := 0) (Nat.zero_le _) trivial (fun s _ hs o3 => ?_) (fun a s _ ha _ => ⟨trivial, fun next o3 => ?_⟩) none
  · refine r_iload_2 (q := 5) dX2_zerosOf_4 rfl ?_
    refine r_aload_0 (q := 6) dX2_zerosOf_5 rfl ?_
    refine m_getp gf_X2_68_2 K e (q := 9) dX2_zerosOf_6 rfl ?_
    refine r_icmp_ge (q := 12) (tgt := 53) dX2_zerosOf_9 rfl rfl (fun c9 => ?_) (fun c9 => ?_)
    · rw [← show s = zerosS T from hs] at hz
      refine r_iload_1 (q := 54) dX2_zerosOf_53 rfl ?_
      exact r_iret hz dX2_zerosOf_54 (Nat.le_refl _) (Nat.le_refl _) ⟨rfl, rfl, rfl⟩
    · exact absurd (Int32.le_refl _) c9
  · refine r_iload_2 (q := 5) dX2_zerosOf_4 rfl ?_
    refine r_aload_0 (q := 6) dX2_zerosOf_5 rfl ?_
    refine m_getp gf_X2_68_2 K e (q := 9) dX2_zerosOf_6 rfl ?_
    refine r_icmp_ge (q := 12) (tgt := 53) dX2_zerosOf_9 rfl rfl (fun c9 => ?_) (fun c9 => ?_)
    · exact absurd c9 (nI_not_lt ha (by omega))
    refine r_iload_2 (q := 13) dX2_zerosOf_12 rfl ?_
    refine r_iconst 1 (by decide) (q := 14) dX2_zerosOf_13 rfl ?_
    refine r_iadd (q := 15) dX2_zerosOf_14 rfl ?_
    refine J.topi (nI_1 _) ?_
    refine r_istore_3 (by decide) rfl (q := 16) dX2_zerosOf_15 rfl ?_
    refine forJ (f := fun b acc => acc + (if qr T a b = 0 then 1 else 0)) (σ := Int32) T.1.length (fun _ => True) (fun b s => J G z cX2_zerosOf 4 RX2 2 0 0 0 0 16 [some (.ref m), some (.int s), some (.int (nI a)), some (.int (nI b))] [] n (mh m w g)) (a0 := a + 1) (s0 := s) ha trivial (fun s' _ hs => ?_) (fun b s' _ hb _ => ⟨trivial, fun next' => ?_⟩)
    · refine r_iload_3 (q := 17) dX2_zerosOf_16 rfl ?_
      refine r_aload_0 (q := 18) dX2_zerosOf_17 rfl ?_
      refine m_getp gf_X2_68_2 K e (q := 21) dX2_zerosOf_18 rfl ?_
      refine r_icmp_ge (q := 24) (tgt := 47) dX2_zerosOf_21 rfl rfl (fun c21 => ?_) (fun c21 => ?_)
      · refine r_inc_2 (by decide) rfl (q := 50) dX2_zerosOf_47 rfl ?_
        refine r_goto (q := 4) dX2_zerosOf_50 rfl ?_
        subst hs
        exact next _
      · exact absurd (Int32.le_refl _) c21
    · refine r_iload_3 (q := 17) dX2_zerosOf_16 rfl ?_
      refine r_aload_0 (q := 18) dX2_zerosOf_17 rfl ?_
      refine m_getp gf_X2_68_2 K e (q := 21) dX2_zerosOf_18 rfl ?_
      refine r_icmp_ge (q := 24) (tgt := 47) dX2_zerosOf_21 rfl rfl (fun c21 => ?_) (fun c21 => ?_)
      · exact absurd c21 (nI_not_lt hb (by omega))
      have hq := K.qr99 a b
      refine r_iload_1 (q := 25) dX2_zerosOf_24 rfl ?_
      refine r_aload_0 (q := 26) dX2_zerosOf_25 rfl ?_
      refine r_iload_2 (q := 27) dX2_zerosOf_26 rfl ?_
      refine r_iload_3 (q := 28) dX2_zerosOf_27 rfl ?_
      refine r_callV_2 cv_X2_79 mh_o rfl (by decide) (Nat.le_of_ble_eq_true rfl) ⟨Nat.le_refl _, Nat.le_refl _⟩ (k_X2_quarrelOf K e (by omega) (by omega)) (q := 31) dX2_zerosOf_28 rfl ?_
      refine r_if_ne (q := 34) (tgt := 38) dX2_zerosOf_31 rfl rfl (fun c31 => ?_) (fun c31 => ?_)
      · rw [if_neg (fun q => c31 (by rw [q]; rfl))] at next'
        refine r_iconst 0 (by decide) (q := 39) dX2_zerosOf_38 rfl ?_
        refine r_iadd (q := 40) dX2_zerosOf_39 rfl ?_
        refine r_istore_1 (by decide) rfl (q := 41) dX2_zerosOf_40 rfl ?_
        refine r_inc_3 (by decide) rfl (q := 44) dX2_zerosOf_41 rfl ?_
        refine r_goto (q := 16) dX2_zerosOf_44 rfl ?_
        exact next'
      · rw [if_pos (nI_inj (b := 0) (by omega) (by omega) c31)] at next'
        refine r_iconst 1 (by decide) (q := 35) dX2_zerosOf_34 rfl ?_
        refine r_goto (q := 39) dX2_zerosOf_35 rfl ?_
        refine r_iadd (q := 40) dX2_zerosOf_39 rfl ?_
        refine r_istore_1 (by decide) rfl (q := 41) dX2_zerosOf_40 rfl ?_
        refine r_inc_3 (by decide) rfl (q := 44) dX2_zerosOf_41 rfl ?_
        refine r_goto (q := 16) dX2_zerosOf_44 rfl ?_
        exact next'
theorem k_X2_matsOf (K : OKM T j) (e : w.1 = mS T j) : CtE G yX2_matsOf cX2_matsOf 3 (some FieldType.int) 1 [.ref m] n (mh m w g) (some (.int (matsS T))) (mh m w g) := by
  refine Ct.intro (k := 2) [some (.ref m), none, none] (by decide) (Nat.le_of_ble_eq_true rfl) rfl fun z hz hin => ?_
  have h6 := K.l6
  refine r_iconst 0 (by decide) (q := 1) dX2_matsOf_0 rfl ?_
  refine r_istore_1 (by decide) rfl (q := 2) dX2_matsOf_1 rfl ?_
  refine r_iconst 0 (by decide) (q := 3) dX2_matsOf_2 rfl ?_
  refine r_istore_2 (by decide) rfl (q := 4) dX2_matsOf_3 rfl ?_
  refine forJ (f := matI T) (σ := Int32) T.1.length (fun _ => True) (fun a s => J G z cX2_matsOf 3 RX2 1 0 0 0 0 4 [some (.ref m), some (.int s), some (.int (nI a))] [] n (mh m w g)) (a0 := 0) (s0 := 0) (Nat.zero_le _) trivial (fun s _ hs => ?_) (fun a s _ ha _ => ⟨trivial, fun next => ?_⟩)
  · refine r_iload_2 (q := 5) dX2_matsOf_4 rfl ?_
    refine r_aload_0 (q := 6) dX2_matsOf_5 rfl ?_
    refine m_getp gf_X2_68_2 K e (q := 9) dX2_matsOf_6 rfl ?_
    refine r_icmp_ge (q := 12) (tgt := 36) dX2_matsOf_9 rfl rfl (fun c9 => ?_) (fun c9 => ?_)
    · rw [← show s = matsS T from hs] at hz
      refine r_iload_1 (q := 37) dX2_matsOf_36 rfl ?_
      exact r_iret hz dX2_matsOf_37 (Nat.le_refl _) (Nat.le_refl _) ⟨rfl, rfl, rfl⟩
    · exact absurd (Int32.le_refl _) c9
  · have go : ∀ v : Int32, s + v = matI T a s → J G z cX2_matsOf 3 RX2 1 0 0 0 0 28 [some (.ref m), some (.int s), some (.int (nI a))] [.int v, .int s] n (mh m w g) := by
      intro v hv
      refine r_iadd (q := 29) dX2_matsOf_28 rfl ?_
      rw [hv]
      refine r_istore_1 (by decide) rfl (q := 30) dX2_matsOf_29 rfl ?_
      refine r_inc_2 (by decide) rfl (q := 33) dX2_matsOf_30 rfl ?_
      refine r_goto (q := 4) dX2_matsOf_33 rfl ?_
      exact next
    refine r_iload_2 (q := 5) dX2_matsOf_4 rfl ?_
    refine r_aload_0 (q := 6) dX2_matsOf_5 rfl ?_
    refine m_getp gf_X2_68_2 K e (q := 9) dX2_matsOf_6 rfl ?_
    refine r_icmp_ge (q := 12) (tgt := 36) dX2_matsOf_9 rfl rfl (fun c9 => ?_) (fun c9 => ?_)
    · exact absurd c9 (nI_not_lt ha (by omega))
    refine r_iload_1 (q := 13) dX2_matsOf_12 rfl ?_
    refine r_aload_0 (q := 14) dX2_matsOf_13 rfl ?_
    refine r_get gf_X2_19_2 mh_o rfl (q := 17) dX2_matsOf_14 rfl ?_
    refine r_iload_2 (q := 18) dX2_matsOf_17 rfl ?_
    refine m_ald4 K e (by omega) (q := 19) dX2_matsOf_18 rfl ?_
    refine r_iload_2 (q := 20) dX2_matsOf_19 rfl ?_
    have hm := mI_le (o := mt T a) (a := a) (by omega) (fun c hc => Nat.lt_trans (K.mt6 hc) (by decide))
    refine r_icmp_le (q := 23) (tgt := 27) dX2_matsOf_20 rfl rfl (fun c20 => ?_) (fun c20 => ?_)
    · refine r_iconst 0 (by decide) (q := 28) dX2_matsOf_27 rfl ?_
      refine go 0 ?_
      unfold matI
      cases em : mt T a with
      | none => rfl
      | some b =>
        show s + 0 = s + if a < b then 1 else 0
        rw [if_neg (Nat.not_lt.mpr (hm.mp c20 b em))]
    · refine r_iconst 1 (by decide) (q := 24) dX2_matsOf_23 rfl ?_
      refine r_goto (q := 28) dX2_matsOf_24 rfl ?_
      refine go 1 ?_
      unfold matI
      cases em : mt T a with
      | none => exact absurd (hm.mpr (fun b q => by rw [em] at q; cases q)) c20
      | some b =>
        show s + 1 = s + if a < b then 1 else 0
        have : a < b := by
          rcases Nat.lt_or_ge a b with z | z
          · exact z
          · exact absurd (hm.mpr (fun b' q => by rw [em] at q; cases q; exact z)) c20
        rw [if_pos this]
theorem k_X2_leaveMat {a : Nat} (K : OKM T j) (e : w.1 = mS T j) (ha : a < 6) : CtE G yX2_leaveMat cX2_leaveMat 2 none 1 [.ref m, .int (nI a)] n (mh m w g) none (mh m (sS w (mS (leaveS T a) j)) g) := by
  refine Ct.intro (k := 0) [some (.ref m), some (.int (nI a))] (by decide) (Nat.le_of_ble_eq_true rfl) rfl fun z hz hin => ?_
  refine r_aload_0 (q := 1) dX2_leaveMat_0 rfl ?_
  refine r_get gf_X2_19_2 mh_o rfl (q := 4) dX2_leaveMat_1 rfl ?_
  refine r_iload_1 (q := 5) dX2_leaveMat_4 rfl ?_
  refine m_ald4 K e (by omega) (q := 6) dX2_leaveMat_5 rfl ?_
  cases em : mt T a with
  | none =>
    have e1 : leaveS T a = T := by unfold leaveS; rw [em]
    rw [e1] at hz
    refine r_if_lt (q := 9) (tgt := 30) dX2_leaveMat_6 rfl rfl (fun c6 => ?_) (fun c6 => ?_)
    · refine r_vret hz dX2_leaveMat_30 (Nat.le_refl _) (Nat.le_refl _) ⟨rfl, rfl, ?_⟩
      rw [← e]
      rfl
    · exact absurd (by decide : mI none < 0) c6
  | some b =>
    have e1 : leaveS T a = setM (setM T b none) a none := by unfold leaveS; rw [em]
    rw [e1] at hz
    have hb := K.mt6 em
    refine r_if_lt (q := 9) (tgt := 30) dX2_leaveMat_6 rfl rfl (fun c6 => ?_) (fun c6 => ?_)
    · exact absurd c6 (nI_pos (by omega))
    refine r_aload_0 (q := 10) dX2_leaveMat_9 rfl ?_
    refine r_get gf_X2_19_2 mh_o rfl (q := 13) dX2_leaveMat_10 rfl ?_
    refine r_aload_0 (q := 14) dX2_leaveMat_13 rfl ?_
    refine r_get gf_X2_19_2 mh_o rfl (q := 17) dX2_leaveMat_14 rfl ?_
    refine r_iload_1 (q := 18) dX2_leaveMat_17 rfl ?_
    refine m_ald4 K e (by omega) (q := 19) dX2_leaveMat_18 rfl ?_
    refine J.topi (show mI (mt T a) = nI b by rw [em]; rfl) ?_
    refine r_bipush (-9) (by decide) (q := 21) dX2_leaveMat_19 rfl ?_
    refine m_ast4 none K e rfl hb (q := 22) dX2_leaveMat_21 rfl ?_
    refine r_aload_0 (q := 23) dX2_leaveMat_22 rfl ?_
    refine r_get gf_X2_19_2 mh_o rfl (q := 26) dX2_leaveMat_23 rfl ?_
    refine r_iload_1 (q := 27) dX2_leaveMat_26 rfl ?_
    refine r_bipush (-9) (by decide) (q := 29) dX2_leaveMat_27 rfl ?_
    refine r_iastM a 6 none mh_4 (lens_setM (a := b) (v := none) K.lens (fun _ e => by cases e)).2.2.1 rfl rfl ha (by decide) dX2_leaveMat_29 rfl ?_
    rw [mset_4]
    exact r_vret hz dX2_leaveMat_30 (Nat.le_refl _) (Nat.le_refl _) ⟨rfl, rfl, rfl⟩
theorem k_X2_join {p q : Nat} (K : OKM T j) (e : w.1 = mS T j) (hp : p < T.1.length) (hq : q < T.1.length) : CtE G yX2_join cX2_join 3 none 2 [.ref m, .int (nI p), .int (nI q)] n (mh m w g) none (mh m (sS w (mS (joinS T p q) j)) g) := by
  refine Ct.intro (k := 0) [some (.ref m), some (.int (nI p)), some (.int (nI q))] (by decide) (Nat.le_of_ble_eq_true rfl) rfl fun z hz hin => ?_
  have h6 := K.l6
  have K1 : OKM (leaveS T p) j := K.of (leaveS_fr T p).1 (K.1.leave hp)
  have K2 : OKM (leaveS (leaveS T p) q) j := K1.of (leaveS_fr _ q).1 (K1.1.leave (by rw [(leaveS_fr T p).1]; exact hq))
  refine r_aload_0 (q := 1) dX2_join_0 rfl ?_
  refine r_iload_1 (q := 2) dX2_join_1 rfl ?_
  refine r_callVv_1 cv_X2_121 mh_o rfl (by decide) (Nat.le_of_ble_eq_true rfl) ⟨Nat.le_refl _, Nat.le_refl _⟩ (k_X2_leaveMat K e (by omega)) (q := 5) dX2_join_2 rfl ?_
  refine r_aload_0 (q := 6) dX2_join_5 rfl ?_
  refine r_iload_2 (q := 7) dX2_join_6 rfl ?_
  refine r_callVv_1 cv_X2_121 mh_o rfl (by decide) (Nat.le_of_ble_eq_true rfl) ⟨Nat.le_refl _, Nat.le_refl _⟩ (k_X2_leaveMat K1 rfl (by omega)) (q := 10) dX2_join_7 rfl ?_
  refine r_aload_0 (q := 11) dX2_join_10 rfl ?_
  refine r_get gf_X2_19_2 mh_o rfl (q := 14) dX2_join_11 rfl ?_
  refine r_iload_1 (q := 15) dX2_join_14 rfl ?_
  refine r_iload_2 (q := 16) dX2_join_15 rfl ?_
  refine m_ast4 (some q) K2 rfl rfl (by omega) (q := 17) dX2_join_16 rfl ?_
  refine r_aload_0 (q := 18) dX2_join_17 rfl ?_
  refine r_get gf_X2_19_2 mh_o rfl (q := 21) dX2_join_18 rfl ?_
  refine r_iload_2 (q := 22) dX2_join_21 rfl ?_
  refine r_iload_1 (q := 23) dX2_join_22 rfl ?_
  refine r_iastM q 6 (some p) mh_4 (lens_setM (a := p) (v := some q) K2.lens (fun _ e => by cases e; omega)).2.2.1 rfl rfl (by omega) (by decide) dX2_join_23 rfl ?_
  rw [mset_4]
  exact r_vret hz dX2_join_24 (Nat.le_refl _) (Nat.le_refl _) ⟨rfl, rfl, rfl⟩
theorem OKM.join (K : OKM T j) {p q : Nat} (hp : p < T.1.length) (hq : q < T.1.length) (h : p ≠ q) : OKM (joinS T p q) j := K.of (joinS_fr T p q).1 (K.1.join hp hq h)
theorem k_X2_joinOrNot {p q : Nat} (K : OKM T j) (e : w.1 = mS T j) (hp : p < T.1.length) (hq : q < T.1.length) : CtE G yX2_joinOrNot cX2_joinOrNot 3 none 3 [.ref m, .int (nI p), .int (nI q)] n (mh m w g) none (mh m (sS w (mS (turnS T p q) j)) g) := by
  refine Ct.intro (k := 0) [some (.ref m), some (.int (nI p)), some (.int (nI q))] (by decide) (Nat.le_of_ble_eq_true rfl) rfl fun z hz hin => ?_
  have h6 := K.l6
  unfold turnS at hz
  refine r_aload_0 (q := 1) dX2_joinOrNot_0 rfl ?_
  refine r_get gf_X2_19_2 mh_o rfl (q := 4) dX2_joinOrNot_1 rfl ?_
  refine r_iload_1 (q := 5) dX2_joinOrNot_4 rfl ?_
  refine m_ald4 K e (by omega) (q := 6) dX2_joinOrNot_5 rfl ?_
  refine r_iload_2 (q := 7) dX2_joinOrNot_6 rfl ?_
  have em := mI_eq (o := mt T p) (a := q) (by omega) (fun c hc => Nat.lt_trans (K.mt6 hc) (by decide))
  refine r_icmp_ne (q := 10) (tgt := 18) dX2_joinOrNot_7 rfl rfl (fun c7 => ?_) (fun c7 => ?_)
  · rw [if_neg (fun z => c7 (em.mpr z))] at hz
    refine r_aload_0 (q := 19) dX2_joinOrNot_18 rfl ?_
    refine r_iload_1 (q := 20) dX2_joinOrNot_19 rfl ?_
    refine r_iload_2 (q := 21) dX2_joinOrNot_20 rfl ?_
    refine r_callVv_2 cv_X2_125 mh_o rfl (by decide) (Nat.le_of_ble_eq_true rfl) ⟨Nat.le_refl _, Nat.le_refl _⟩ (k_X2_join K e hp hq) (q := 24) dX2_joinOrNot_21 rfl ?_
    exact r_vret hz dX2_joinOrNot_24 (Nat.le_refl _) (Nat.le_refl _) ⟨rfl, rfl, rfl⟩
  · rw [if_pos (em.mp c7)] at hz
    refine r_aload_0 (q := 11) dX2_joinOrNot_10 rfl ?_
    refine r_iload_1 (q := 12) dX2_joinOrNot_11 rfl ?_
    refine r_callVv_1 cv_X2_121 mh_o rfl (by decide) (Nat.le_of_ble_eq_true rfl) ⟨Nat.le_refl _, Nat.le_refl _⟩ (k_X2_leaveMat K e (by omega)) (q := 15) dX2_joinOrNot_12 rfl ?_
    refine r_goto (q := 24) dX2_joinOrNot_15 rfl ?_
    exact r_vret hz dX2_joinOrNot_24 (Nat.le_refl _) (Nat.le_refl _) ⟨rfl, rfl, rfl⟩
/-- whatever the quarter is -/
theorem k_X2_setQraw {a b v : Nat} (hl : T.2.2.2.1.length = 36) (e : w.1.2.2 = T.2) (ha : a < 6) (hb : b < 6) : CtE G yX2_setQuarrel cX2_setQuarrel 4 none 1 [.ref m, .int (nI a), .int (nI b), .int (nI v)] n (mh m w g) none (mh m (sS w (w.1.1, w.1.2.1, (setQr T a b v).2)) g) := by
  refine Ct.intro (k := 0) [some (.ref m), some (.int (nI a)), some (.int (nI b)), some (.int (nI v))] (by decide) (Nat.le_of_ble_eq_true rfl) rfl fun z hz hin => ?_
  have e5 : w.1.2.2.2.2.1 = T.2.2.2.1 := by rw [e]
  have e0 : setQ1 w.1.2 (6 * a + b) v = (w.1.2.1, (setQ1 T (6 * a + b) v).2) := by
    unfold setQ1
    rw [e]
  refine r_aload_0 (q := 1) dX2_setQuarrel_0 rfl ?_
  refine r_get gf_X2_22_2 mh_o rfl (q := 4) dX2_setQuarrel_1 rfl ?_
  refine r_bipush 6 (by decide) (q := 6) dX2_setQuarrel_4 rfl ?_
  refine r_iload_1 (q := 7) dX2_setQuarrel_6 rfl ?_
  refine r_imul (q := 8) dX2_setQuarrel_7 rfl ?_
  refine r_iload_2 (q := 9) dX2_setQuarrel_8 rfl ?_
  refine r_iadd (q := 10) dX2_setQuarrel_9 rfl ?_
  refine r_iload_3 (q := 11) dX2_setQuarrel_10 rfl ?_
  refine r_iastN (6 * a + b) 36 v mh_5 (by rw [e5]; exact hl) (ix6 a b) rfl (by omega) (by decide) (q := 12) dX2_setQuarrel_11 rfl ?_
  rw [mset_5, e0]
  refine r_aload_0 (q := 13) dX2_setQuarrel_12 rfl ?_
  refine r_get gf_X2_22_2 mh_o rfl (q := 16) dX2_setQuarrel_13 rfl ?_
  refine r_bipush 6 (by decide) (q := 18) dX2_setQuarrel_16 rfl ?_
  refine r_iload_2 (q := 19) dX2_setQuarrel_18 rfl ?_
  refine r_imul (q := 20) dX2_setQuarrel_19 rfl ?_
  refine r_iload_1 (q := 21) dX2_setQuarrel_20 rfl ?_
  refine r_iadd (q := 22) dX2_setQuarrel_21 rfl ?_
  refine r_iload_3 (q := 23) dX2_setQuarrel_22 rfl ?_
  refine r_iastN (6 * b + a) 36 v mh_5 ((List.length_set ..).trans hl) (ix6 b a) rfl (by omega) (by decide) (q := 24) dX2_setQuarrel_23 rfl ?_
  rw [mset_5]
  exact r_vret hz dX2_setQuarrel_24 (Nat.le_refl _) (Nat.le_refl _) ⟨rfl, rfl, rfl⟩
/-- one more -/
theorem k_X2_oneComes {k f v : Nat} (K : OKM T j) (e : w.1 = mS T j) (h5 : T.1.length < 6) : CtE G yX2_oneComes cX2_oneComes 5 none 2 [.ref m, .int (nI k), .int (nI f), .int (nI v)] n (mh m w g) none (mh m (sS w (mS (comeS T (k, f) v) j.tail)) g) := by
  obtain ⟨s0, w2⟩ := w
  have e : s0 = mS T j := e
  subst e
  refine Ct.intro (k := 1) [some (.ref m), some (.int (nI k)), some (.int (nI f)), some (.int (nI v)), none] (by decide) (Nat.le_of_ble_eq_true rfl) rfl fun z hz hin => ?_
  obtain ⟨j0, jt, rfl⟩ : ∃ j0 jt, j = j0 :: jt := by
    cases j with
    | nil => exact absurd K.2 (by rw [List.append_nil]; omega)
    | cons a b => exact ⟨a, b, rfl⟩
  have hlen := K.2
  have em : ∀ x : PP, (T.1 ++ j0 :: jt).set T.1.length x = T.1 ++ x :: jt := fun x => by simp
  refine r_aload_0 (q := 1) dX2_oneComes_0 rfl ?_
  refine r_get gf_X2_7_2 mh_o rfl (q := 4) dX2_oneComes_1 rfl ?_
  refine r_aload_0 (q := 5) dX2_oneComes_4 rfl ?_
  refine m_getp gf_X2_68_2 K rfl (q := 8) dX2_oneComes_5 rfl ?_
  refine r_iload_1 (q := 9) dX2_oneComes_8 rfl ?_
  refine r_iast T.1.length 6 mh_1 (by rw [List.length_map]; exact K.2) rfl h5 (by decide) (q := 10) dX2_oneComes_9 rfl ?_
  refine J.heap (h2 := mh m ((T.1.length, T.1 ++ (k, j0.2) :: jt, T.2), w2) g) ?_ ?_
  · refine mset_1.trans ?_
    show mh m ((T.1.length, (T.1 ++ j0 :: jt).set T.1.length (k, ((T.1 ++ j0 :: jt).getD T.1.length (0, 0)).2), T.2), w2) g = _
    rw [em]
    simp
  refine r_aload_0 (q := 11) dX2_oneComes_10 rfl ?_
  refine r_get gf_X2_13_2 mh_o rfl (q := 14) dX2_oneComes_11 rfl ?_
  refine r_aload_0 (q := 15) dX2_oneComes_14 rfl ?_
  refine r_get gf_X2_68_2 mh_o rfl (q := 18) dX2_oneComes_15 rfl ?_
  refine r_iload_2 (q := 19) dX2_oneComes_18 rfl ?_
  refine r_iast T.1.length 6 mh_2 (by rw [List.length_map]; show (T.1 ++ (k, j0.2) :: jt).length = 6; rw [List.length_append] at hlen ⊢; exact hlen) rfl h5 (by decide) (q := 20) dX2_oneComes_19 rfl ?_
  have em2 : ∀ x : PP, (T.1 ++ (k, j0.2) :: jt).set T.1.length x = T.1 ++ x :: jt := fun x => by simp
  refine J.heap (h2 := mh m ((T.1.length, T.1 ++ (k, f) :: jt, T.2), w2) g) ?_ ?_
  · refine mset_2.trans ?_
    show mh m ((T.1.length, (T.1 ++ (k, j0.2) :: jt).set T.1.length (((T.1 ++ (k, j0.2) :: jt).getD T.1.length (0, 0)).1, f), T.2), w2) g = _
    rw [em2]
    simp
  have K1 : OKM T ((k, f) :: jt) := ⟨K.1, by rw [List.length_append] at hlen ⊢; exact hlen⟩
  refine J.heap (h2 := mh m (mS T ((k, f) :: jt), w2) g) rfl ?_
  refine r_aload_0 (q := 21) dX2_oneComes_20 rfl ?_
  refine r_get gf_X2_16_2 mh_o rfl (q := 24) dX2_oneComes_21 rfl ?_
  refine r_aload_0 (q := 25) dX2_oneComes_24 rfl ?_
  refine m_getp gf_X2_68_2 K1 rfl (q := 28) dX2_oneComes_25 rfl ?_
  refine r_iload_3 (q := 29) dX2_oneComes_28 rfl ?_
  refine m_ast3 K1 rfl h5 (q := 30) dX2_oneComes_29 rfl ?_
  refine J.heap (h2 := mh m (mS (setH T T.1.length v) ((k, f) :: jt), w2) g) rfl ?_
  refine r_aload_0 (q := 31) dX2_oneComes_30 rfl ?_
  refine r_get gf_X2_19_2 mh_o rfl (q := 34) dX2_oneComes_31 rfl ?_
  refine r_aload_0 (q := 35) dX2_oneComes_34 rfl ?_
  refine r_get gf_X2_68_2 mh_o rfl (q := 38) dX2_oneComes_35 rfl ?_
  refine r_bipush (-9) (by decide) (q := 40) dX2_oneComes_38 rfl ?_
  refine r_iastM T.1.length 6 none mh_4 K.lens.2.2.1 rfl rfl h5 (by decide) dX2_oneComes_40 (q := 41) rfl ?_
  rw [mset_4]
  refine r_iconst 0 (by decide) (q := 42) dX2_oneComes_41 rfl ?_
  refine r_istore_4 (by decide) rfl (q := 44) dX2_oneComes_42 rfl ?_
  have loop : ∀ (c i : Nat) (S' : SQ), i + c = 6 → S'.2.2.2.1.length = 36 → S'.1 = T.1 → forR (fun k s => setQr s T.1.length k 0) i c S' = forR (fun k s => setQr s T.1.length k 0) 0 6 (setM (setH T T.1.length v) T.1.length none) → J G z cX2_oneComes 5 RX2 2 0 0 0 0 44 [some (.ref m), some (.int (nI k)), some (.int (nI f)), some (.int (nI v)), some (.int (nI i))] [] n (mh m ((T.1.length, T.1 ++ (k, f) :: jt, S'.2), w2) g) := by
    intro c
    induction c with
    | zero =>
      intro i S' h1 h2 h3 h4
      have h4 : S' = _ := h4
      refine r_iload_4 (q := 46) dX2_oneComes_44 rfl ?_
      refine r_bipush 6 (by decide) (q := 48) dX2_oneComes_46 rfl ?_
      refine r_icmp_ge (q := 51) (tgt := 68) dX2_oneComes_48 rfl rfl (fun c48 => ?_) (fun c48 => ?_)
      · refine r_aload_0 (q := 69) dX2_oneComes_68 rfl ?_
        refine r_dup rfl (q := 70) dX2_oneComes_69 rfl ?_
        refine r_get gf_X2_68_2 mh_o rfl (q := 73) dX2_oneComes_70 rfl ?_
        refine r_iconst 1 (by decide) (q := 74) dX2_oneComes_73 rfl ?_
        refine r_iadd (q := 75) dX2_oneComes_74 rfl ?_
        refine J.topi (nI_1 T.1.length) ?_
        refine r_put gf_X2_68_2 cl_ok_2 ft_2_0 mh_o (Nat.le_of_ble_eq_true rfl) rfl rfl (q := 78) dX2_oneComes_75 rfl ?_
        refine J.heap mset_p ?_
        refine r_vret hz dX2_oneComes_78 (Nat.le_refl _) (Nat.le_refl _) ⟨rfl, rfl, ?_⟩
        show mh m ((T.1.length + 1, T.1 ++ (k, f) :: jt, S'.2), w2) g = mh m (((T.1 ++ [(k, f)]).length, (T.1 ++ [(k, f)]) ++ jt, (forR (fun k s => setQr s T.1.length k 0) 0 6 (setM (setH T T.1.length v) T.1.length none)).2), w2) g
        rw [← h4, List.length_append, List.append_assoc]
        rfl
      · exact absurd (nI_le (a := 6) (by omega) (by omega)) c48
    | succ c ih =>
      intro i S' h1 h2 h3 h4
      refine r_iload_4 (q := 46) dX2_oneComes_44 rfl ?_
      refine r_bipush 6 (by decide) (q := 48) dX2_oneComes_46 rfl ?_
      refine r_icmp_ge (q := 51) (tgt := 68) dX2_oneComes_48 rfl rfl (fun c48 => ?_) (fun c48 => ?_)
      · exact absurd c48 (nI_ge (b := 6) (by omega) (by omega))
      refine r_aload_0 (q := 52) dX2_oneComes_51 rfl ?_
      refine r_aload_0 (q := 53) dX2_oneComes_52 rfl ?_
      refine r_get gf_X2_68_2 mh_o rfl (q := 56) dX2_oneComes_53 rfl ?_
      refine r_iload_4 (q := 58) dX2_oneComes_56 rfl ?_
      refine r_iconst 0 (by decide) (q := 59) dX2_oneComes_58 rfl ?_
      refine r_callVv_3 cv_X2_113 mh_o rfl (by decide) (Nat.le_of_ble_eq_true rfl) ⟨Nat.le_refl _, Nat.le_refl _⟩ (k_X2_setQraw (T := S') h2 rfl h5 (by omega)) (q := 62) dX2_oneComes_59 rfl ?_
      refine r_inc_4 (by decide) rfl (q := 65) dX2_oneComes_62 rfl ?_
      refine r_goto (q := 44) dX2_oneComes_65 rfl ?_
      refine ih (i + 1) (setQr S' T.1.length i 0) (by omega) ?_ h3 h4
      show ((S'.2.2.2.1.set _ _).set _ _).length = 36
      rw [List.length_set, List.length_set]
      exact h2
  exact loop 6 0 (setM (setH T T.1.length v) T.1.length none) rfl K.lens.2.2.2.1 rfl rfl
end MD


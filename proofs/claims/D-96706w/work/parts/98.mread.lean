/-! ===== PrayerMatsFaceModel: letters ===== -/
def rdW (w : MW) (i b : Int32) : MW := sf12 (sf11 w i) b
def rdV : Nat ⊕ (Nat × Nat) → Int32 × Int32 × Int32
  | .inl e => (0, nI e, 1)
  | .inr q => (nI q.1, nI q.2, 0)
section MRD
variable {G : GD} {n m : Nat} {w : MW} {g : RH} {L i : Nat}
theorem k_X2_here (h7 : (ma7 w).length = 96) (h10 : mf10 w = nI L) (hL : L ≤ 96) (hi : mf11 w = nI i) (hi30 : i < 2 ^ 30) : CtE G yX2_here cX2_here 1 (some FieldType.int) 1 [.ref m] n (mh m w g) (some (.int (ltA (ma7 w) L i))) (mh m w g) := by
  refine Ct.intro (k := 0) [some (.ref m)] (by decide) (Nat.le_of_ble_eq_true rfl) rfl fun z hz hin => ?_
  unfold ltA at hz
  refine r_aload_0 (q := 1) dX2_here_0 rfl ?_
  refine r_get gf_X2_134_2 mh_o rfl (q := 4) dX2_here_1 rfl ?_
  refine J.topi hi ?_
  refine r_aload_0 (q := 5) dX2_here_4 rfl ?_
  refine r_get gf_X2_131_2 mh_o rfl (q := 8) dX2_here_5 rfl ?_
  refine J.topi h10 ?_
  refine r_icmp_ge (q := 11) (tgt := 23) dX2_here_8 rfl rfl (fun c8 => ?_) (fun c8 => ?_)
  · have hq : ¬ i < L := fun z => absurd c8 (nI_not_lt z (by omega))
    rw [if_neg hq] at hz
    refine r_iconst (-1) (by decide) (q := 24) dX2_here_23 rfl ?_
    exact r_iret hz dX2_here_24 (Nat.le_refl _) (Nat.le_refl _) ⟨rfl, rfl, rfl⟩
  · have hq : i < L := by
      rcases Nat.lt_or_ge i L with z | z
      · exact z
      · exact absurd (nI_le z (by omega)) c8
    rw [if_pos hq] at hz
    refine r_aload_0 (q := 12) dX2_here_11 rfl ?_
    refine r_get gf_X2_28_2 mh_o rfl (q := 15) dX2_here_12 rfl ?_
    refine r_aload_0 (q := 16) dX2_here_15 rfl ?_
    refine r_get gf_X2_134_2 mh_o rfl (q := 19) dX2_here_16 rfl ?_
    refine J.topi hi ?_
    refine r_iald i 96 mh_7 h7 rfl (by omega) (by decide) (q := 20) dX2_here_19 rfl ?_
    refine r_goto (q := 24) dX2_here_20 rfl ?_
    exact r_iret hz dX2_here_24 (Nat.le_refl _) (Nat.le_refl _) ⟨rfl, rfl, rfl⟩
theorem k_X2_isLetter {c : Int32} {h : RH} : CtE G yX2_isLetter cX2_isLetter 1 (some FieldType.boolean) 1 [.int c] n h (some (.int (bI (decide (wids c ≠ []))))) h := by
  refine Ct.intro (k := 0) [some (.int c)] (by decide) (Nat.le_of_ble_eq_true rfl) rfl fun z hz hin => ?_
  have yes : wids c ≠ [] → J G z cX2_isLetter 1 RX2 1 0 0 0 0 30 [some (.int c)] [] n h := by
    intro q
    rw [decide_eq_true q] at hz
    refine r_iconst 1 (by decide) (q := 31) dX2_isLetter_30 rfl ?_
    refine r_goto (q := 35) dX2_isLetter_31 rfl ?_
    exact r_zret hz (by first | exact bI_z _ | rfl) dX2_isLetter_35 (Nat.le_refl _) (Nat.le_refl _) ⟨rfl, rfl, rfl⟩
  refine r_iload_0 (q := 1) dX2_isLetter_0 rfl ?_
  refine r_bipush 112 (by decide) (q := 3) dX2_isLetter_1 rfl ?_
  refine r_icmp_eq (q := 6) (tgt := 30) dX2_isLetter_3 rfl rfl (fun c3 => ?_) (fun c3 => ?_)
  · exact yes (by rw [c3]; decide)
  refine r_iload_0 (q := 7) dX2_isLetter_6 rfl ?_
  refine r_bipush 104 (by decide) (q := 9) dX2_isLetter_7 rfl ?_
  refine r_icmp_eq (q := 12) (tgt := 30) dX2_isLetter_9 rfl rfl (fun c9 => ?_) (fun c9 => ?_)
  · exact yes (by rw [c9]; decide)
  refine r_iload_0 (q := 13) dX2_isLetter_12 rfl ?_
  refine r_bipush 113 (by decide) (q := 15) dX2_isLetter_13 rfl ?_
  refine r_icmp_eq (q := 18) (tgt := 30) dX2_isLetter_15 rfl rfl (fun c15 => ?_) (fun c15 => ?_)
  · exact yes (by rw [c15]; decide)
  refine r_iload_0 (q := 19) dX2_isLetter_18 rfl ?_
  refine r_bipush 109 (by decide) (q := 21) dX2_isLetter_19 rfl ?_
  refine r_icmp_eq (q := 24) (tgt := 30) dX2_isLetter_21 rfl rfl (fun c21 => ?_) (fun c21 => ?_)
  · exact yes (by rw [c21]; decide)
  refine r_iload_0 (q := 25) dX2_isLetter_24 rfl ?_
  refine r_bipush 100 (by decide) (q := 27) dX2_isLetter_25 rfl ?_
  refine r_icmp_ne (q := 30) (tgt := 34) dX2_isLetter_27 rfl rfl (fun c27 => ?_) (fun c27 => ?_)
  · have q : wids c = [] := by
      unfold wids
      rw [if_neg c3, if_neg c9, if_neg c15, if_neg c21, if_neg c27]
    rw [q] at hz
    refine r_iconst 0 (by decide) (q := 35) dX2_isLetter_34 rfl ?_
    exact r_zret hz (by first | exact bI_z _ | rfl) dX2_isLetter_35 (Nat.le_refl _) (Nat.le_refl _) ⟨rfl, rfl, rfl⟩
  · exact yes (by rw [c27]; decide)
theorem dig_in {c : Int32} : decide ((48 : Int32) ≤ c ∧ c ≤ 57) = true ↔ 48 ≤ c ∧ c ≤ 57 := decide_eq_true_iff
theorem k_X2_readDigits {W : Nat} (hW : W ≤ 2) (h7 : (ma7 w).length = 96) (h10 : mf10 w = nI L) (hL : L ≤ 96) (hi : i ≤ 200) : CtE G yX2_readDigits cX2_readDigits 4 (some FieldType.int) 2 [.ref m, .int (nI W)] n (mh m (rdW w (nI i) 0) g) (some (.int (rdV (rdD (ma7 w) L W i 0)).1)) (mh m (rdW w (rdV (rdD (ma7 w) L W i 0)).2.1 (rdV (rdD (ma7 w) L W i 0)).2.2) g) := by
  refine Ct.intro (k := 2) [some (.ref m), some (.int (nI W)), none, none] (by decide) (Nat.le_of_ble_eq_true rfl) rfl fun z hz hin => ?_
  generalize hF : rdD (ma7 w) L W i 0 = F at hz
  have bad : ∀ (c k e : Nat), k + c = W → F = .inl e → J G z cX2_readDigits 4 RX2 2 0 0 0 0 4 [some (.ref m), some (.int (nI W)), some (.int 0), some (.int (nI k))] [] n (mh m (rdW w (nI e) 1) g) := by
    intro c
    induction c with
    | zero =>
      intro k e h1 h2
      have h1 : k = W := h1
      rw [h2] at hz
      refine r_iload_3 (q := 5) dX2_readDigits_4 rfl ?_
      refine r_iload_1 (q := 6) dX2_readDigits_5 rfl ?_
      refine r_icmp_ge (q := 9) (tgt := 98) dX2_readDigits_6 rfl rfl (fun c6 => ?_) (fun c6 => ?_)
      · refine r_iload_2 (q := 99) dX2_readDigits_98 rfl ?_
        exact r_iret hz dX2_readDigits_99 (Nat.le_refl _) (Nat.le_refl _) ⟨rfl, rfl, rfl⟩
      · exact absurd (by rw [h1]; exact Int32.le_refl _) c6
    | succ c ih =>
      intro k e h1 h2
      refine r_iload_3 (q := 5) dX2_readDigits_4 rfl ?_
      refine r_iload_1 (q := 6) dX2_readDigits_5 rfl ?_
      refine r_icmp_ge (q := 9) (tgt := 98) dX2_readDigits_6 rfl rfl (fun c6 => ?_) (fun c6 => ?_)
      · exact absurd c6 (nI_not_lt (by omega) (by omega))
      refine r_aload_0 (q := 10) dX2_readDigits_9 rfl ?_
      refine r_aload_0 (q := 11) dX2_readDigits_10 rfl ?_
      refine r_get gf_X2_137_2 mh_o rfl (q := 14) dX2_readDigits_11 rfl ?_
      refine J.topi (y := 1) rfl ?_
      refine r_if_ne (q := 17) (tgt := 34) dX2_readDigits_14 rfl rfl (fun c14 => ?_) (fun c14 => ?_)
      · refine r_iconst 1 (by decide) (q := 35) dX2_readDigits_34 rfl ?_
        refine r_goto (q := 39) dX2_readDigits_35 rfl ?_
        refine r_put gf_X2_137_2 cl_ok_2 ft_2_12 mh_o (Nat.le_of_ble_eq_true rfl) rfl rfl (q := 42) dX2_readDigits_39 rfl ?_
        refine J.heap mset_f12 ?_
        refine r_aload_0 (q := 43) dX2_readDigits_42 rfl ?_
        refine r_get gf_X2_137_2 mh_o rfl (q := 46) dX2_readDigits_43 rfl ?_
        refine J.topi (y := 1) rfl ?_
        refine r_if_eq (q := 49) (tgt := 53) dX2_readDigits_46 rfl rfl (fun c46 => ?_) (fun c46 => ?_)
        · exact absurd c46 (by decide)
        refine r_iconst 0 (by decide) (q := 50) dX2_readDigits_49 rfl ?_
        refine r_goto (q := 70) dX2_readDigits_50 rfl ?_
        refine r_istore_2 (by decide) rfl (q := 71) dX2_readDigits_70 rfl ?_
        refine r_aload_0 (q := 72) dX2_readDigits_71 rfl ?_
        refine r_dup rfl (q := 73) dX2_readDigits_72 rfl ?_
        refine r_get gf_X2_134_2 mh_o rfl (q := 76) dX2_readDigits_73 rfl ?_
        refine r_aload_0 (q := 77) dX2_readDigits_76 rfl ?_
        refine r_get gf_X2_137_2 mh_o rfl (q := 80) dX2_readDigits_77 rfl ?_
        refine J.topi (y := 1) rfl ?_
        refine r_if_eq (q := 83) (tgt := 87) dX2_readDigits_80 rfl rfl (fun c80 => ?_) (fun c80 => ?_)
        · exact absurd c80 (by decide)
        refine r_iconst 0 (by decide) (q := 84) dX2_readDigits_83 rfl ?_
        refine r_goto (q := 88) dX2_readDigits_84 rfl ?_
        refine r_iadd (q := 89) dX2_readDigits_88 rfl ?_
        refine J.topi (y := nI e) (nI_add e 0) ?_
        refine r_put gf_X2_134_2 cl_ok_2 ft_2_11 mh_o (Nat.le_of_ble_eq_true rfl) rfl rfl (q := 92) dX2_readDigits_89 rfl ?_
        refine J.heap mset_f11 ?_
        refine J.heap (h2 := mh m (rdW w (nI e) 1) g) rfl ?_
        refine r_inc_3 (by decide) rfl (q := 95) dX2_readDigits_92 rfl ?_
        refine r_goto (q := 4) dX2_readDigits_95 rfl ?_
        exact ih (k + 1) e (by omega) h2
      · exact absurd c14 (by decide)
  have loop : ∀ (c k j v : Nat), k + c = W → j + c ≤ 202 → v < 10 ^ k → rdD (ma7 w) L c j v = F → J G z cX2_readDigits 4 RX2 2 0 0 0 0 4 [some (.ref m), some (.int (nI W)), some (.int (nI v)), some (.int (nI k))] [] n (mh m (rdW w (nI j) 0) g) := by
    intro c
    induction c with
    | zero =>
      intro k j v h1 h2 h3 h4
      have h1 : k = W := h1
      have h4 : .inr (v, j) = F := h4
      rw [← h4] at hz
      refine r_iload_3 (q := 5) dX2_readDigits_4 rfl ?_
      refine r_iload_1 (q := 6) dX2_readDigits_5 rfl ?_
      refine r_icmp_ge (q := 9) (tgt := 98) dX2_readDigits_6 rfl rfl (fun c6 => ?_) (fun c6 => ?_)
      · refine r_iload_2 (q := 99) dX2_readDigits_98 rfl ?_
        exact r_iret hz dX2_readDigits_99 (Nat.le_refl _) (Nat.le_refl _) ⟨rfl, rfl, rfl⟩
      · exact absurd (by rw [h1]; exact Int32.le_refl _) c6
    | succ c ih =>
      intro k j v h1 h2 h3 h4
      have v10 : v < 10 := by
        have : 10 ^ k ≤ 10 ^ 1 := Nat.pow_le_pow_right (by decide) (by omega)
        omega
      unfold rdD at h4
      refine r_iload_3 (q := 5) dX2_readDigits_4 rfl ?_
      refine r_iload_1 (q := 6) dX2_readDigits_5 rfl ?_
      refine r_icmp_ge (q := 9) (tgt := 98) dX2_readDigits_6 rfl rfl (fun c6 => ?_) (fun c6 => ?_)
      · exact absurd c6 (nI_not_lt (by omega) (by omega))
      refine r_aload_0 (q := 10) dX2_readDigits_9 rfl ?_
      refine r_aload_0 (q := 11) dX2_readDigits_10 rfl ?_
      refine r_get gf_X2_137_2 mh_o rfl (q := 14) dX2_readDigits_11 rfl ?_
      refine J.topi (y := 0) rfl ?_
      refine r_if_ne (q := 17) (tgt := 34) dX2_readDigits_14 rfl rfl (fun c14 => ?_) (fun c14 => ?_)
      · exact absurd rfl c14
      refine r_aload_0 (q := 18) dX2_readDigits_17 rfl ?_
      refine r_callV_0 cv_X2_141 mh_o rfl (by decide) (Nat.le_of_ble_eq_true rfl) ⟨Nat.le_refl _, Nat.le_refl _⟩ (k_X2_here (w := rdW w (nI j) 0) (i := j) (L := L) h7 h10 hL rfl (by omega)) (q := 21) dX2_readDigits_18 rfl ?_
      refine r_i2l (q := 22) dX2_readDigits_21 rfl ?_
      refine r_ldc2 q1140 (q := 25) dX2_readDigits_22 rfl ?_
      refine r_ldc2 q1141 (q := 28) dX2_readDigits_25 rfl ?_
      refine r_callS_3 cs_X2_71 (by decide) (Nat.le_of_ble_eq_true rfl) ⟨Nat.le_refl _, Nat.le_refl _⟩ (k_X2_in32 (lo := 48) (hi := 57) (by decide) (by decide)) (q := 31) dX2_readDigits_28 rfl ?_
      refine r_if_ne (q := 34) (tgt := 38) dX2_readDigits_31 rfl rfl (fun c31 => ?_) (fun c31 => ?_)
      · have hd : 48 ≤ ltA (ma7 w) L j ∧ ltA (ma7 w) L j ≤ 57 := of_decide_eq_true (bI_n0.mp c31)
        rw [if_pos hd] at h4
        have hj : j < L := by
          rcases Nat.lt_or_ge j L with z | z
          · exact z
          · have e : ltA (ma7 w) L j = -1 := if_neg (by omega)
            rw [e] at hd
            exact absurd hd.1 (by decide)
        have el : ltA (ma7 w) L j = (ma7 w).getD j 0 := if_pos hj
        obtain ⟨mm, hm, em⟩ := nI_of (x := ltA (ma7 w) L j) (Int32.not_lt.mpr (Int32.le_trans (by decide) hd.1))
        rw [em] at hd h4
        have m1 : 48 ≤ mm := (nI_leI (a := 48) (by decide) hm).mp hd.1
        have m2 : mm ≤ 57 := (nI_leI (b := 57) hm (by decide)).mp hd.2
        rw [show nI mm - 48 = nI (mm - 48) from nI_sub (b := 48) m1, cl_nI (by omega)] at h4
        refine r_iconst 0 (by decide) (q := 39) dX2_readDigits_38 rfl ?_
        refine r_put gf_X2_137_2 cl_ok_2 ft_2_12 mh_o (Nat.le_of_ble_eq_true rfl) rfl rfl (q := 42) dX2_readDigits_39 rfl ?_
        refine J.heap mset_f12 ?_
        refine r_aload_0 (q := 43) dX2_readDigits_42 rfl ?_
        refine r_get gf_X2_137_2 mh_o rfl (q := 46) dX2_readDigits_43 rfl ?_
        refine J.topi (y := 0) rfl ?_
        refine r_if_eq (q := 49) (tgt := 53) dX2_readDigits_46 rfl rfl (fun c46 => ?_) (fun c46 => ?_)
        · refine r_bipush 10 (by decide) (q := 55) dX2_readDigits_53 rfl ?_
          refine r_iload_2 (q := 56) dX2_readDigits_55 rfl ?_
          refine r_imul (q := 57) dX2_readDigits_56 rfl ?_
          refine J.topi (y := nI (10 * v)) (pk_mul 10 v) ?_
          refine r_aload_0 (q := 58) dX2_readDigits_57 rfl ?_
          refine r_get gf_X2_28_2 mh_o rfl (q := 61) dX2_readDigits_58 rfl ?_
          refine r_aload_0 (q := 62) dX2_readDigits_61 rfl ?_
          refine r_get gf_X2_134_2 mh_o rfl (q := 65) dX2_readDigits_62 rfl ?_
          refine J.topi (y := nI j) rfl ?_
          refine r_iald j 96 mh_7 h7 rfl (by omega) (by decide) (q := 66) dX2_readDigits_65 rfl ?_
          refine J.topi (y := nI mm) (el.symm.trans em) ?_
          refine r_iadd (q := 67) dX2_readDigits_66 rfl ?_
          refine J.topi (y := nI (10 * v + mm)) (nI_add _ _) ?_
          refine r_bipush 48 (by decide) (q := 69) dX2_readDigits_67 rfl ?_
          refine r_isub (q := 70) dX2_readDigits_69 rfl ?_
          refine J.topi (y := nI (10 * v + (mm - 48))) ((nI_sub (b := 48) (by omega)).trans (by congr 1; omega)) ?_
          refine r_istore_2 (by decide) rfl (q := 71) dX2_readDigits_70 rfl ?_
          refine r_aload_0 (q := 72) dX2_readDigits_71 rfl ?_
          refine r_dup rfl (q := 73) dX2_readDigits_72 rfl ?_
          refine r_get gf_X2_134_2 mh_o rfl (q := 76) dX2_readDigits_73 rfl ?_
          refine r_aload_0 (q := 77) dX2_readDigits_76 rfl ?_
          refine r_get gf_X2_137_2 mh_o rfl (q := 80) dX2_readDigits_77 rfl ?_
          refine J.topi (y := 0) rfl ?_
          refine r_if_eq (q := 83) (tgt := 87) dX2_readDigits_80 rfl rfl (fun c80 => ?_) (fun c80 => ?_)
          · refine r_iconst 1 (by decide) (q := 88) dX2_readDigits_87 rfl ?_
            refine r_iadd (q := 89) dX2_readDigits_88 rfl ?_
            refine J.topi (y := nI (j + 1)) (nI_add j 1) ?_
            refine r_put gf_X2_134_2 cl_ok_2 ft_2_11 mh_o (Nat.le_of_ble_eq_true rfl) rfl rfl (q := 92) dX2_readDigits_89 rfl ?_
            refine J.heap mset_f11 ?_
            refine J.heap (h2 := mh m (rdW w (nI (j + 1)) 0) g) rfl ?_
            refine r_inc_3 (by decide) rfl (q := 95) dX2_readDigits_92 rfl ?_
            refine r_goto (q := 4) dX2_readDigits_95 rfl ?_
            exact ih (k + 1) (j + 1) _ (by omega) (by omega) (by rw [Nat.pow_succ]; omega) h4
          · exact absurd rfl c80
        · exact absurd rfl c46
      · have hd : ¬ (48 ≤ ltA (ma7 w) L j ∧ ltA (ma7 w) L j ≤ 57) := of_decide_eq_false (bI_0.mp c31)
        rw [if_neg hd] at h4
        refine r_iconst 1 (by decide) (q := 35) dX2_readDigits_34 rfl ?_
        refine r_goto (q := 39) dX2_readDigits_35 rfl ?_
        refine r_put gf_X2_137_2 cl_ok_2 ft_2_12 mh_o (Nat.le_of_ble_eq_true rfl) rfl rfl (q := 42) dX2_readDigits_39 rfl ?_
        refine J.heap mset_f12 ?_
        refine r_aload_0 (q := 43) dX2_readDigits_42 rfl ?_
        refine r_get gf_X2_137_2 mh_o rfl (q := 46) dX2_readDigits_43 rfl ?_
        refine J.topi (y := 1) rfl ?_
        refine r_if_eq (q := 49) (tgt := 53) dX2_readDigits_46 rfl rfl (fun c46 => ?_) (fun c46 => ?_)
        · exact absurd c46 (by decide)
        refine r_iconst 0 (by decide) (q := 50) dX2_readDigits_49 rfl ?_
        refine r_goto (q := 70) dX2_readDigits_50 rfl ?_
        refine r_istore_2 (by decide) rfl (q := 71) dX2_readDigits_70 rfl ?_
        refine r_aload_0 (q := 72) dX2_readDigits_71 rfl ?_
        refine r_dup rfl (q := 73) dX2_readDigits_72 rfl ?_
        refine r_get gf_X2_134_2 mh_o rfl (q := 76) dX2_readDigits_73 rfl ?_
        refine r_aload_0 (q := 77) dX2_readDigits_76 rfl ?_
        refine r_get gf_X2_137_2 mh_o rfl (q := 80) dX2_readDigits_77 rfl ?_
        refine J.topi (y := 1) rfl ?_
        refine r_if_eq (q := 83) (tgt := 87) dX2_readDigits_80 rfl rfl (fun c80 => ?_) (fun c80 => ?_)
        · exact absurd c80 (by decide)
        refine r_iconst 0 (by decide) (q := 84) dX2_readDigits_83 rfl ?_
        refine r_goto (q := 88) dX2_readDigits_84 rfl ?_
        refine r_iadd (q := 89) dX2_readDigits_88 rfl ?_
        refine J.topi (y := nI j) (nI_add j 0) ?_
        refine r_put gf_X2_134_2 cl_ok_2 ft_2_11 mh_o (Nat.le_of_ble_eq_true rfl) rfl rfl (q := 92) dX2_readDigits_89 rfl ?_
        refine J.heap mset_f11 ?_
        refine J.heap (h2 := mh m (rdW w (nI j) 1) g) rfl ?_
        refine r_inc_3 (by decide) rfl (q := 95) dX2_readDigits_92 rfl ?_
        refine r_goto (q := 4) dX2_readDigits_95 rfl ?_
        exact bad c (k + 1) j (by omega) h4.symm
  refine r_iconst 0 (by decide) (q := 1) dX2_readDigits_0 rfl ?_
  refine r_istore_2 (by decide) rfl (q := 2) dX2_readDigits_1 rfl ?_
  refine r_iconst 0 (by decide) (q := 3) dX2_readDigits_2 rfl ?_
  refine r_istore_3 (by decide) rfl (q := 4) dX2_readDigits_3 rfl ?_
  exact loop W 0 i 0 (Nat.zero_add _) (by omega) (by decide) hF
theorem k_X2_readDigitsB {W e : Nat} (hW : W ≤ 2) : CtE G yX2_readDigits cX2_readDigits 4 (some FieldType.int) 2 [.ref m, .int (nI W)] n (mh m (rdW w (nI e) 1) g) (some (.int 0)) (mh m (rdW w (nI e) 1) g) := by
  refine Ct.intro (k := 2) [some (.ref m), some (.int (nI W)), none, none] (by decide) (Nat.le_of_ble_eq_true rfl) rfl fun z hz hin => ?_
  have bad : ∀ (c k : Nat), k + c = W → J G z cX2_readDigits 4 RX2 2 0 0 0 0 4 [some (.ref m), some (.int (nI W)), some (.int 0), some (.int (nI k))] [] n (mh m (rdW w (nI e) 1) g) := by
    intro c
    induction c with
    | zero =>
      intro k h1
      have h1 : k = W := h1
      refine r_iload_3 (q := 5) dX2_readDigits_4 rfl ?_
      refine r_iload_1 (q := 6) dX2_readDigits_5 rfl ?_
      refine r_icmp_ge (q := 9) (tgt := 98) dX2_readDigits_6 rfl rfl (fun c6 => ?_) (fun c6 => ?_)
      · refine r_iload_2 (q := 99) dX2_readDigits_98 rfl ?_
        exact r_iret hz dX2_readDigits_99 (Nat.le_refl _) (Nat.le_refl _) ⟨rfl, rfl, rfl⟩
      · exact absurd (by rw [h1]; exact Int32.le_refl _) c6
    | succ c ih =>
      intro k h1
      refine r_iload_3 (q := 5) dX2_readDigits_4 rfl ?_
      refine r_iload_1 (q := 6) dX2_readDigits_5 rfl ?_
      refine r_icmp_ge (q := 9) (tgt := 98) dX2_readDigits_6 rfl rfl (fun c6 => ?_) (fun c6 => ?_)
      · exact absurd c6 (nI_not_lt (by omega) (by omega))
      refine r_aload_0 (q := 10) dX2_readDigits_9 rfl ?_
      refine r_aload_0 (q := 11) dX2_readDigits_10 rfl ?_
      refine r_get gf_X2_137_2 mh_o rfl (q := 14) dX2_readDigits_11 rfl ?_
      refine J.topi (y := 1) rfl ?_
      refine r_if_ne (q := 17) (tgt := 34) dX2_readDigits_14 rfl rfl (fun c14 => ?_) (fun c14 => ?_)
      · refine r_iconst 1 (by decide) (q := 35) dX2_readDigits_34 rfl ?_
        refine r_goto (q := 39) dX2_readDigits_35 rfl ?_
        refine r_put gf_X2_137_2 cl_ok_2 ft_2_12 mh_o (Nat.le_of_ble_eq_true rfl) rfl rfl (q := 42) dX2_readDigits_39 rfl ?_
        refine J.heap mset_f12 ?_
        refine r_aload_0 (q := 43) dX2_readDigits_42 rfl ?_
        refine r_get gf_X2_137_2 mh_o rfl (q := 46) dX2_readDigits_43 rfl ?_
        refine J.topi (y := 1) rfl ?_
        refine r_if_eq (q := 49) (tgt := 53) dX2_readDigits_46 rfl rfl (fun c46 => ?_) (fun c46 => ?_)
        · exact absurd c46 (by decide)
        refine r_iconst 0 (by decide) (q := 50) dX2_readDigits_49 rfl ?_
        refine r_goto (q := 70) dX2_readDigits_50 rfl ?_
        refine r_istore_2 (by decide) rfl (q := 71) dX2_readDigits_70 rfl ?_
        refine r_aload_0 (q := 72) dX2_readDigits_71 rfl ?_
        refine r_dup rfl (q := 73) dX2_readDigits_72 rfl ?_
        refine r_get gf_X2_134_2 mh_o rfl (q := 76) dX2_readDigits_73 rfl ?_
        refine r_aload_0 (q := 77) dX2_readDigits_76 rfl ?_
        refine r_get gf_X2_137_2 mh_o rfl (q := 80) dX2_readDigits_77 rfl ?_
        refine J.topi (y := 1) rfl ?_
        refine r_if_eq (q := 83) (tgt := 87) dX2_readDigits_80 rfl rfl (fun c80 => ?_) (fun c80 => ?_)
        · exact absurd c80 (by decide)
        refine r_iconst 0 (by decide) (q := 84) dX2_readDigits_83 rfl ?_
        refine r_goto (q := 88) dX2_readDigits_84 rfl ?_
        refine r_iadd (q := 89) dX2_readDigits_88 rfl ?_
        refine J.topi (y := nI e) (nI_add e 0) ?_
        refine r_put gf_X2_134_2 cl_ok_2 ft_2_11 mh_o (Nat.le_of_ble_eq_true rfl) rfl rfl (q := 92) dX2_readDigits_89 rfl ?_
        refine J.heap mset_f11 ?_
        refine J.heap (h2 := mh m (rdW w (nI e) 1) g) rfl ?_
        refine r_inc_3 (by decide) rfl (q := 95) dX2_readDigits_92 rfl ?_
        refine r_goto (q := 4) dX2_readDigits_95 rfl ?_
        exact ih (k + 1) (by omega)
      · exact absurd c14 (by decide)
  refine r_iconst 0 (by decide) (q := 1) dX2_readDigits_0 rfl ?_
  refine r_istore_2 (by decide) rfl (q := 2) dX2_readDigits_1 rfl ?_
  refine r_iconst 0 (by decide) (q := 3) dX2_readDigits_2 rfl ?_
  refine r_istore_3 (by decide) rfl (q := 4) dX2_readDigits_3 rfl ?_
  exact bad W 0 (Nat.zero_add _)
/-- numbers into told from t on, by the widths ws -/
def rdP (l10 : List Int32) (t : Nat) (vs : List Nat) (l10' : List Int32) : Prop := l10'.length = 147 ∧ (∀ q, q < t → l10'.getD q 0 = l10.getD q 0) ∧ ∀ q, q < vs.length → l10'.getD (t + q) 0 = nI (vs.getD q 0)
/-- one number read and put at t + k; bad or not -/
theorem rd_put {l l' : List Int32} {t k v : Nat} {vs : List Nat} (h : rdP l t vs l') (hk : vs.length = k) (ht : t + k < 147) : rdP l t (vs ++ [v]) (l'.set (t + k) (nI v)) := by
  refine ⟨(List.length_set ..).trans h.1, fun q hq => ?_, fun q hq => ?_⟩
  · rw [getD_set, if_neg (fun z => by omega)]
    exact h.2.1 q hq
  · rw [List.length_append] at hq
    have hq : q < vs.length + 1 := hq
    rw [getD_set, h.1]
    rcases Nat.lt_succ_iff_lt_or_eq.mp hq with z | z
    · rw [if_neg (fun y => by omega), h.2.2 q z]
      congr 1
      simp only [List.getD_eq_getElem?_getD]
      rw [List.getElem?_append_left z]
    · have e : t + q = t + k := by omega
      rw [if_pos ⟨e, ht⟩]
      congr 1
      rw [z]
      simp
theorem rdP_0 {l : List Int32} {t : Nat} (h : l.length = 147) : rdP l t [] l := ⟨h, fun _ _ => rfl, fun _ q => absurd q (Nat.not_lt_zero _)⟩
/-- what the numbers of a statement leave -/
def RnP (m n : Nat) (w : MW) (g : RH) (t : Nat) : Nat ⊕ (List Nat × Nat) → Option Value → Nat → RH → Prop
  | .inl e => fun r n' h' => r = none ∧ n' = n ∧ ∃ l, l.length = 147 ∧ (∀ q, q < t → l.getD q 0 = (ma10 w).getD q 0) ∧ h' = mh m (rdW (sa10 w l) (nI e) 1) g
  | .inr q => fun r n' h' => r = none ∧ n' = n ∧ ∃ l, rdP (ma10 w) t q.1 l ∧ h' = mh m (rdW (sa10 w l) (nI q.2) 0) g
/-- the letter d: one number of two digits -/
theorem k_X2_readNumbers_d {t : Nat} (h7 : (ma7 w).length = 96) (h10 : mf10 w = nI L) (hL : L ≤ 96) (hi : i ≤ 100) (hl : (ma10 w).length = 147) (ht : t + 2 < 147) : Ct G yX2_readNumbers cX2_readNumbers 3 none 3 0 0 [.ref m, .int 100, .int (nI t)] n (mh m (rdW w (nI i) 0) g) (RnP m n w g t (rdL (ma7 w) L [2] i [])) := by
  refine Ct.intro (k := 0) [some (.ref m), some (.int 100), some (.int (nI t))] (by decide) (Nat.le_of_ble_eq_true rfl) rfl fun z hz hin => ?_
  have e : rdL (ma7 w) L [2] i [] = (match rdD (ma7 w) L 2 i 0 with | .inl e => .inl e | .inr q => .inr ([q.1], q.2)) := by
    unfold rdL
    cases rdD (ma7 w) L 2 i 0 <;> rfl
  rw [e] at hz
  refine r_aload_0 (q := 1) dX2_readNumbers_0 rfl ?_
  refine r_get gf_X2_37_2 mh_o rfl (q := 4) dX2_readNumbers_1 rfl ?_
  refine r_iload_2 (q := 5) dX2_readNumbers_4 rfl ?_
  refine r_aload_0 (q := 6) dX2_readNumbers_5 rfl ?_
  refine r_iload_1 (q := 7) dX2_readNumbers_6 rfl ?_
  refine r_bipush 100 (by decide) (q := 9) dX2_readNumbers_7 rfl ?_
  refine r_icmp_ne (q := 12) (tgt := 16) dX2_readNumbers_9 rfl rfl (fun c9 => ?_) (fun c9 => ?_)
  · exact absurd rfl c9
  refine r_iconst 2 (by decide) (q := 13) dX2_readNumbers_12 rfl ?_
  refine r_goto (q := 17) dX2_readNumbers_13 rfl ?_
  refine r_callV_1 cv_X2_149 mh_o rfl (by decide) (Nat.le_of_ble_eq_true rfl) ⟨Nat.le_refl _, Nat.le_refl _⟩ (k_X2_readDigits (W := 2) (L := L) (i := i) (by decide) h7 h10 hL (by omega)) (q := 20) dX2_readNumbers_17 rfl ?_
  cases hd : rdD (ma7 w) L 2 i 0 with
  | inl e9 =>
    rw [hd] at hz
    refine r_iast t 147 mh_10 hl rfl (by omega) (by decide) (q := 21) dX2_readNumbers_20 rfl ?_
    rw [mset_10]
    refine J.heap (h2 := mh m (rdW (sa10 w ((ma10 w).set t 0)) (nI e9) 1) g) rfl ?_
    refine r_iload_1 (q := 22) dX2_readNumbers_21 rfl ?_
    refine r_bipush 104 (by decide) (q := 24) dX2_readNumbers_22 rfl ?_
    refine r_icmp_ne (q := 27) (tgt := 43) dX2_readNumbers_24 rfl rfl (fun c24 => ?_) (fun c24 => ?_)
    · refine r_iload_1 (q := 44) dX2_readNumbers_43 rfl ?_
      refine r_bipush 100 (by decide) (q := 46) dX2_readNumbers_44 rfl ?_
      refine r_icmp_eq (q := 49) (tgt := 62) dX2_readNumbers_46 rfl rfl (fun c46 => ?_) (fun c46 => ?_)
      · refine r_iload_1 (q := 63) dX2_readNumbers_62 rfl ?_
        refine r_bipush 112 (by decide) (q := 65) dX2_readNumbers_63 rfl ?_
        refine r_icmp_eq (q := 68) (tgt := 74) dX2_readNumbers_65 rfl rfl (fun c65 => ?_) (fun c65 => ?_)
        · exact absurd c65 (by decide)
        refine r_iload_1 (q := 69) dX2_readNumbers_68 rfl ?_
        refine r_bipush 113 (by decide) (q := 71) dX2_readNumbers_69 rfl ?_
        refine r_icmp_ne (q := 74) (tgt := 87) dX2_readNumbers_71 rfl rfl (fun c71 => ?_) (fun c71 => ?_)
        · exact r_vret hz dX2_readNumbers_87 (Nat.le_refl _) (Nat.le_refl _) ⟨rfl, rfl, _, (List.length_set ..).trans hl, fun q hq => by rw [getD_set, if_neg (fun z => by omega)], rfl⟩
        · exact absurd c71 (by decide)
      · exact absurd rfl c46
    · exact absurd c24 (by decide)
  | inr q9 =>
    rw [hd] at hz
    refine r_iast t 147 mh_10 hl rfl (by omega) (by decide) (q := 21) dX2_readNumbers_20 rfl ?_
    rw [mset_10]
    refine J.heap (h2 := mh m (rdW (sa10 w ((ma10 w).set t (nI q9.1))) (nI q9.2) 0) g) rfl ?_
    refine r_iload_1 (q := 22) dX2_readNumbers_21 rfl ?_
    refine r_bipush 104 (by decide) (q := 24) dX2_readNumbers_22 rfl ?_
    refine r_icmp_ne (q := 27) (tgt := 43) dX2_readNumbers_24 rfl rfl (fun c24 => ?_) (fun c24 => ?_)
    · refine r_iload_1 (q := 44) dX2_readNumbers_43 rfl ?_
      refine r_bipush 100 (by decide) (q := 46) dX2_readNumbers_44 rfl ?_
      refine r_icmp_eq (q := 49) (tgt := 62) dX2_readNumbers_46 rfl rfl (fun c46 => ?_) (fun c46 => ?_)
      · refine r_iload_1 (q := 63) dX2_readNumbers_62 rfl ?_
        refine r_bipush 112 (by decide) (q := 65) dX2_readNumbers_63 rfl ?_
        refine r_icmp_eq (q := 68) (tgt := 74) dX2_readNumbers_65 rfl rfl (fun c65 => ?_) (fun c65 => ?_)
        · exact absurd c65 (by decide)
        refine r_iload_1 (q := 69) dX2_readNumbers_68 rfl ?_
        refine r_bipush 113 (by decide) (q := 71) dX2_readNumbers_69 rfl ?_
        refine r_icmp_ne (q := 74) (tgt := 87) dX2_readNumbers_71 rfl rfl (fun c71 => ?_) (fun c71 => ?_)
        · exact r_vret hz dX2_readNumbers_87 (Nat.le_refl _) (Nat.le_refl _) ⟨rfl, rfl, _, rd_put (k := 0) (vs := []) (rdP_0 hl) rfl (by omega), rfl⟩
        · exact absurd c71 (by decide)
      · exact absurd rfl c46
    · exact absurd c24 (by decide)
end MRD


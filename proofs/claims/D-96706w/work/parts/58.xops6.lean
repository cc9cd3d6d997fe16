/-! ===== personOf, count ===== -/
def pofV (S : SQ) (i : Nat) : Nat → Int32
  | 0 => nI (pr S i).1
  | 1 => nI (pr S i).2
  | 2 => nI (hr S i)
  | 3 => mI (mt S i)
  | 4 => nI (softN (pr S i).1 (pr S i).2)
  | 5 => nI (soreN (pr S i).1 (pr S i).2)
  | _ => nI (charmN (pr S i).1 (pr S i).2)
def persS (σ : SG) (p what : Int32) : Int32 × SG :=
  if isPer σ.1 p = true then (if inI what 7 = true then (pofV σ.1 (cl p) (cl what), σ) else (-2, rfS σ (-2))) else (-1, rfS σ (-1))
def couV (σ : SG) : Nat → Int32
  | 0 => nI σ.1.1.length
  | 1 => nI σ.1.2.2.2.2
  | 2 => matsS σ.1
  | 3 => allS σ.1
  | 4 => allComS σ.1
  | 5 => nI σ.2.1.2.1.2
  | 6 => nI σ.2.1.2.2.2
  | _ => nI σ.2.2.1.length
def countS (σ : SG) (what : Int32) : Int32 × SG :=
  if 10 < what ∧ what < 17 then (σ.2.1.1.getD (cl (what - 10)) 0, σ) else if inI what 8 = true then (couV σ (cl what), σ) else (-9, σ)
theorem inI_n {v : Int32} {k : Nat} (hk : k < 2 ^ 30) (h : inI v (nI k) = true) : ∃ j, j < k ∧ v = nI j := isP hk (of_decide_eq_true h)
theorem inI_out {v : Int32} {k : Nat} (hk : k < 2 ^ 30) (h : inI v (nI k) = false) : v.toInt < 0 ∨ (k : Int) - 1 < v.toInt := by
  have h := of_decide_eq_false h
  by_cases h0 : v < 0
  · exact Or.inl (by simpa using Int32.lt_iff_toInt_lt.mp h0)
  · refine Or.inr ?_
    obtain ⟨j, hj, rfl⟩ := nI_of h0
    rw [nI_toInt hj]
    rcases Nat.lt_or_ge j k with z | z
    · exact absurd ⟨nI_pos' hj, nI_lt z (by omega)⟩ h
    · omega
theorem gfk : ∀ k, k < 6 → GFok RX0 128 (5 + k) 0
  | 0, _ => gf_X0_128_5
  | 1, _ => gf_X0_128_6
  | 2, _ => gf_X0_128_7
  | 3, _ => gf_X0_128_8
  | 4, _ => gf_X0_128_9
  | 5, _ => gf_X0_128_10
theorem gff : ∀ k, k < 6 → GFok RX0 131 (5 + k) 1
  | 0, _ => gf_X0_131_5
  | 1, _ => gf_X0_131_6
  | 2, _ => gf_X0_131_7
  | 3, _ => gf_X0_131_8
  | 4, _ => gf_X0_131_9
  | 5, _ => gf_X0_131_10
section XO6
variable {G : GD} {n x : Nat} {w w' : XW} {g : RH} {σ : SG} {X Y : QX}
theorem k_X0_personOf {p what : Int32} (h : XR x w g σ) : Ct G yX0_personOf cX0_personOf 4 (some .int) 6 0 0 [.ref x, .int p, .int what] n (xh x w g) (XPo x n g (persS σ p what)) := by
  refine Ct.intro (k := 1) [some (.ref x), some (.int p), some (.int what), none] (by decide) (Nat.le_of_ble_eq_true rfl) rfl fun z hz hin => ?_
  unfold persS at hz
  refine r_aload_0 (q := 1) dX0_personOf_0 rfl ?_
  refine r_iload_1 (q := 2) dX0_personOf_1 rfl ?_
  refine r_callV_1 cv_X0_82 xh_x rfl (by decide) (Nat.le_of_ble_eq_true rfl) ⟨Nat.le_refl _, Nat.le_refl _⟩ (k_X0_isPerson h.kx) (q := 5) dX0_personOf_2 rfl ?_
  rw [h.s]
  refine r_if_ne (q := 8) (tgt := 14) dX0_personOf_5 rfl rfl (fun c5 => ?_) (fun c5 => ?_)
  · have hp := bI_n0.mp c5
    obtain ⟨i, hi, rfl⟩ := isPer_t h.oks.1 hp
    have h6 := h.oks.1.1
    rw [if_pos hp, cl_nI (by omega), ← h.s] at hz
    rw [← h.s] at hi h6
    have kx := h.kx
    refine r_aload_0 (q := 15) dX0_personOf_14 rfl ?_
    refine r_get gf_X0_16_0 xh_x rfl (q := 18) dX0_personOf_15 rfl ?_
    refine r_iload_1 (q := 19) dX0_personOf_18 rfl ?_
    refine r_callV_1 cv_X0_124 (xe_o 0 (by decide) rfl) rfl (by decide) (Nat.le_of_ble_eq_true rfl) ⟨Nat.le_refl _, Nat.le_refl _⟩ (x_person 0 (by decide) kx rfl hi) (q := 22) dX0_personOf_19 rfl ?_
    refine r_astore_3 (by decide) rfl (q := 23) dX0_personOf_22 rfl ?_
    refine r_iload_2 (q := 24) dX0_personOf_23 rfl ?_
    have pa := vs_pr kx.2.1 hi
    have hc := kx.pers (w := w) hi
    cases hw : inI what 7 with
    | false =>
      rw [hw] at hz
      refine r_tableOut dX0_personOf_24 (inI_out (k := 7) (by decide) hw) rfl ?_
      refine r_aload_0 (q := 114) dX0_personOf_113 rfl ?_
      refine r_bipush (-2) (by decide) (q := 116) dX0_personOf_114 rfl ?_
      refine r_callV_1 cv_X0_48 xh_x rfl (by decide) (Nat.le_of_ble_eq_true rfl) ⟨Nat.le_refl _, Nat.le_refl _⟩ (k_X0_refuse isC_2 h.ra) (q := 119) dX0_personOf_116 rfl ?_
      exact r_iret hz dX0_personOf_119 (Nat.le_refl _) (Nat.le_refl _) (.of rfl (h.refuse _))
    | true =>
      rw [hw] at hz
      obtain ⟨j, hj, rfl⟩ := inI_n (k := 7) (by decide) hw
      rw [cl_nI (by omega)] at hz
      match j, hj with
      | 0, _ =>
        refine r_tableIn dX0_personOf_24 (by decide) (by decide) (off := 44) (by decide) rfl ?_
        refine r_aload_3 (q := 69) dX0_personOf_68 rfl ?_
        refine r_get (gfk _ pa.1) hc rfl (q := 72) dX0_personOf_69 rfl ?_
        exact r_iret hz dX0_personOf_72 (Nat.le_refl _) (Nat.le_refl _) (.of rfl h)
      | 1, _ =>
        refine r_tableIn dX0_personOf_24 (by decide) (by decide) (off := 49) (by decide) rfl ?_
        refine r_aload_3 (q := 74) dX0_personOf_73 rfl ?_
        refine r_get (gff _ pa.1) hc rfl (q := 77) dX0_personOf_74 rfl ?_
        exact r_iret hz dX0_personOf_77 (Nat.le_refl _) (Nat.le_refl _) (.of rfl h)
      | 2, _ =>
        refine r_tableIn dX0_personOf_24 (by decide) (by decide) (off := 54) (by decide) rfl ?_
        refine r_aload_0 (q := 79) dX0_personOf_78 rfl ?_
        refine r_get gf_X0_16_0 xh_x rfl (q := 82) dX0_personOf_79 rfl ?_
        refine r_getN gn_X0_134_1 (xe_o 0 (by decide) rfl) rfl (q := 85) dX0_personOf_82 rfl ?_
        refine r_iload_1 (q := 86) dX0_personOf_85 rfl ?_
        refine r_ialdN i 6 (xe_h 0 (by decide) rfl) kx.1.2.1 rfl (by omega) (by decide) (q := 87) dX0_personOf_86 rfl ?_
        exact r_iret hz dX0_personOf_87 (Nat.le_refl _) (Nat.le_refl _) (.of rfl h)
      | 3, _ =>
        refine r_tableIn dX0_personOf_24 (by decide) (by decide) (off := 64) (by decide) rfl ?_
        refine r_aload_0 (q := 89) dX0_personOf_88 rfl ?_
        refine r_get gf_X0_16_0 xh_x rfl (q := 92) dX0_personOf_89 rfl ?_
        refine r_getN gn_X0_94_1 (xe_o 0 (by decide) rfl) rfl (q := 95) dX0_personOf_92 rfl ?_
        refine r_iload_1 (q := 96) dX0_personOf_95 rfl ?_
        refine r_ialdM i 6 (xe_m 0 (by decide) rfl) kx.1.2.2.1 rfl (by omega) (by decide) (q := 97) dX0_personOf_96 rfl ?_
        exact r_iret hz dX0_personOf_97 (Nat.le_refl _) (Nat.le_refl _) (.of rfl h)
      | 4, _ =>
        refine r_tableIn dX0_personOf_24 (by decide) (by decide) (off := 74) (by decide) rfl ?_
        refine r_aload_3 (q := 99) dX0_personOf_98 rfl ?_
        refine r_soft_X0 pa.1 pa.2 hc (by decide) (Nat.le_of_ble_eq_true rfl) ⟨Nat.le_refl _, Nat.le_refl _⟩ (q := 102) dX0_personOf_99 rfl ?_
        exact r_iret hz dX0_personOf_102 (Nat.le_refl _) (Nat.le_refl _) (.of rfl h)
      | 5, _ =>
        refine r_tableIn dX0_personOf_24 (by decide) (by decide) (off := 79) (by decide) rfl ?_
        refine r_aload_3 (q := 104) dX0_personOf_103 rfl ?_
        refine r_sore_X0 pa.1 pa.2 hc (by decide) (Nat.le_of_ble_eq_true rfl) ⟨Nat.le_refl _, Nat.le_refl _⟩ (q := 107) dX0_personOf_104 rfl ?_
        exact r_iret hz dX0_personOf_107 (Nat.le_refl _) (Nat.le_refl _) (.of rfl h)
      | 6, _ =>
        refine r_tableIn dX0_personOf_24 (by decide) (by decide) (off := 84) (by decide) rfl ?_
        refine r_aload_3 (q := 109) dX0_personOf_108 rfl ?_
        refine r_charm_X0 pa.1 pa.2 hc (by decide) (Nat.le_of_ble_eq_true rfl) ⟨Nat.le_refl _, Nat.le_refl _⟩ (q := 112) dX0_personOf_109 rfl ?_
        exact r_iret hz dX0_personOf_112 (Nat.le_refl _) (Nat.le_refl _) (.of rfl h)
  · have hp := bI_0.mp c5
    rw [hp] at hz
    refine r_aload_0 (q := 9) dX0_personOf_8 rfl ?_
    refine r_iconst (-1) (by decide) (q := 10) dX0_personOf_9 rfl ?_
    refine r_callV_1 cv_X0_48 xh_x rfl (by decide) (Nat.le_of_ble_eq_true rfl) ⟨Nat.le_refl _, Nat.le_refl _⟩ (k_X0_refuse isC_1 h.ra) (q := 13) dX0_personOf_10 rfl ?_
    exact r_iret hz dX0_personOf_13 (Nat.le_refl _) (Nat.le_refl _) (.of rfl (h.refuse _))
theorem k_X0_count {what : Int32} (h : XR x w g σ) : Ct G yX0_count cX0_count 2 (some .int) 5 0 0 [.ref x, .int what] n (xh x w g) (XPo x n g (countS σ what)) := by
  refine Ct.intro (k := 0) [some (.ref x), some (.int what)] (by decide) (Nat.le_of_ble_eq_true rfl) rfl fun z hz hin => ?_
  unfold countS at hz
  have kx := h.kx
  have rest : ¬(10 < what ∧ what < 17) → J G z cX0_count 2 RX0 5 0 0 0 0 22 [some (.ref x), some (.int what)] [] n (xh x w g) := by
    intro hn
    rw [if_neg hn] at hz
    refine r_iload_1 (q := 23) dX0_count_22 rfl ?_
    cases hw : inI what 8 with
    | false =>
      rw [hw] at hz
      refine r_tableOut dX0_count_23 (inI_out (k := 8) (by decide) hw) rfl ?_
      refine r_bipush (-9) (by decide) (q := 122) dX0_count_120 rfl ?_
      exact r_iret hz dX0_count_122 (Nat.le_refl _) (Nat.le_refl _) (.of rfl h)
    | true =>
      rw [hw] at hz
      obtain ⟨j, hj, rfl⟩ := inI_n (k := 8) (by decide) hw
      rw [cl_nI (by omega)] at hz
      match j, hj with
      | 0, _ =>
        refine r_tableIn dX0_count_23 (by decide) (by decide) (off := 45) (by decide) rfl ?_
        refine r_aload_0 (q := 69) dX0_count_68 rfl ?_
        refine r_get gf_X0_16_0 xh_x rfl (q := 72) dX0_count_69 rfl ?_
        refine r_callV_0 cv_X0_74 (xe_o 0 (by decide) rfl) rfl (by decide) (Nat.le_of_ble_eq_true rfl) ⟨Nat.le_refl _, Nat.le_refl _⟩ (x_many 0 (by decide) kx rfl) (q := 75) dX0_count_72 rfl ?_
        exact r_iret hz dX0_count_75 (Nat.le_refl _) (Nat.le_refl _) (.of (by rw [h.s]; rfl) h)
      | 1, _ =>
        refine r_tableIn dX0_count_23 (by decide) (by decide) (off := 53) (by decide) rfl ?_
        refine r_aload_0 (q := 77) dX0_count_76 rfl ?_
        refine r_get gf_X0_16_0 xh_x rfl (q := 80) dX0_count_77 rfl ?_
        refine r_getN gn_X0_178_1 (xe_o 0 (by decide) rfl) rfl (q := 83) dX0_count_80 rfl ?_
        exact r_iret hz dX0_count_83 (Nat.le_refl _) (Nat.le_refl _) (.of (by rw [h.s]; rfl) h)
      | 2, _ =>
        refine r_tableIn dX0_count_23 (by decide) (by decide) (off := 61) (by decide) rfl ?_
        refine r_aload_0 (q := 85) dX0_count_84 rfl ?_
        refine r_get gf_X0_16_0 xh_x rfl (q := 88) dX0_count_85 rfl ?_
        refine r_callV_0 cv_X0_175 (xe_o 0 (by decide) rfl) rfl (by decide) (Nat.le_of_ble_eq_true rfl) ⟨Nat.le_refl _, Nat.le_refl _⟩ (x_mats 0 (by decide) kx rfl) (q := 91) dX0_count_88 rfl ?_
        exact r_iret hz dX0_count_91 (Nat.le_refl _) (Nat.le_refl _) (.of (by rw [h.s]; rfl) h)
      | 3, _ =>
        refine r_tableIn dX0_count_23 (by decide) (by decide) (off := 69) (by decide) rfl ?_
        refine r_aload_0 (q := 93) dX0_count_92 rfl ?_
        refine r_get gf_X0_16_0 xh_x rfl (q := 96) dX0_count_93 rfl ?_
        refine r_callV_0 cv_X0_184 (xe_o 0 (by decide) rfl) rfl (by decide) (Nat.le_of_ble_eq_true rfl) ⟨Nat.le_refl _, Nat.le_refl _⟩ (x_all 0 (by decide) kx rfl) (q := 99) dX0_count_96 rfl ?_
        exact r_iret hz dX0_count_99 (Nat.le_refl _) (Nat.le_refl _) (.of (by rw [h.s]; rfl) h)
      | 4, _ =>
        refine r_tableIn dX0_count_23 (by decide) (by decide) (off := 77) (by decide) rfl ?_
        refine r_aload_0 (q := 101) dX0_count_100 rfl ?_
        refine r_callV_0 cv_X0_344 xh_x rfl (by decide) (Nat.le_of_ble_eq_true rfl) ⟨Nat.le_refl _, Nat.le_refl _⟩ (k_X0_allComing kx) (q := 104) dX0_count_101 rfl ?_
        exact r_iret hz dX0_count_104 (Nat.le_refl _) (Nat.le_refl _) (.of (by rw [h.s]; rfl) h)
      | 5, _ =>
        refine r_tableIn dX0_count_23 (by decide) (by decide) (off := 82) (by decide) rfl ?_
        refine r_aload_0 (q := 106) dX0_count_105 rfl ?_
        refine r_get gf_X0_90_0 xh_x rfl (q := 109) dX0_count_106 rfl ?_
        refine J.topi (y := nI σ.2.1.2.1.2) h.2.2.2.1.2.2.1 ?_
        exact r_iret hz dX0_count_109 (Nat.le_refl _) (Nat.le_refl _) (.of rfl h)
      | 6, _ =>
        refine r_tableIn dX0_count_23 (by decide) (by decide) (off := 87) (by decide) rfl ?_
        refine r_aload_0 (q := 111) dX0_count_110 rfl ?_
        refine r_get gf_X0_262_0 xh_x rfl (q := 114) dX0_count_111 rfl ?_
        refine J.topi (y := nI σ.2.1.2.2.2) h.2.2.2.2.1.2.2.1 ?_
        exact r_iret hz dX0_count_114 (Nat.le_refl _) (Nat.le_refl _) (.of rfl h)
      | 7, _ =>
        refine r_tableIn dX0_count_23 (by decide) (by decide) (off := 92) (by decide) rfl ?_
        refine r_aload_0 (q := 116) dX0_count_115 rfl ?_
        refine r_get gf_X0_118_0 xh_x rfl (q := 119) dX0_count_116 rfl ?_
        refine J.topi (y := nI σ.2.2.1.length) h.2.2.2.2.2.2.1.2.2.2.2.1 ?_
        exact r_iret hz dX0_count_119 (Nat.le_refl _) (Nat.le_refl _) (.of rfl h)
  refine r_iload_1 (q := 1) dX0_count_0 rfl ?_
  refine r_bipush 10 (by decide) (q := 3) dX0_count_1 rfl ?_
  refine r_icmp_le (q := 6) (tgt := 22) dX0_count_3 rfl rfl (fun c3 => ?_) (fun c3 => ?_)
  · exact rest (fun q => absurd q.1 (Int32.not_lt.mpr c3))
  refine r_iload_1 (q := 7) dX0_count_6 rfl ?_
  refine r_bipush 17 (by decide) (q := 9) dX0_count_7 rfl ?_
  refine r_icmp_ge (q := 12) (tgt := 22) dX0_count_9 rfl rfl (fun c9 => ?_) (fun c9 => ?_)
  · exact rest (fun q => absurd q.2 (Int32.not_lt.mpr c9))
  have h1 := Int32.not_le.mp c3
  have h2 := Int32.not_le.mp c9
  rw [if_pos ⟨h1, h2⟩] at hz
  obtain ⟨j, hj, rfl⟩ := nI_of (x := what) (Int32.not_lt.mpr (Int32.le_trans (by decide : (0 : Int32) ≤ 10) (Int32.le_of_lt h1)))
  have j1 : 10 < j := (nI_ltI (a := 10) (by omega) hj).mp h1
  have j2 : j < 17 := (nI_ltI (b := 17) hj (by omega)).mp h2
  have e : ∀ j, j < 17 → 10 < j → nI j - 10 = nI (j - 10) := by decide +kernel
  have e1 := e j j2 j1
  rw [e1, cl_nI (by omega)] at hz
  refine r_aload_0 (q := 13) dX0_count_12 rfl ?_
  refine r_get gf_X0_7_0 xh_x rfl (q := 16) dX0_count_13 rfl ?_
  refine r_iload_1 (q := 17) dX0_count_16 rfl ?_
  refine r_bipush 10 (by decide) (q := 19) dX0_count_17 rfl ?_
  refine r_isub (q := 20) dX0_count_19 rfl ?_
  refine r_iald (j - 10) 7 xh_ra h.ra e1 (by omega) (by decide) (q := 21) dX0_count_20 rfl ?_
  exact r_iret hz dX0_count_21 (Nat.le_refl _) (Nat.le_refl _) (.of (by rw [← h.2.2.1.1]) h)
end XO6


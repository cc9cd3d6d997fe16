/-! ===== PrayerMatsFaceModel: what is told, what is done ===== -/
theorem inI_le {v : Int32} {k : Nat} (hk : k < 2 ^ 30) : (0 ≤ v ∧ v ≤ nI k) ↔ inI v (nI (k + 1)) = true := by
  unfold inI
  rw [decide_eq_true_iff]
  refine and_congr_right fun h0 => ?_
  obtain ⟨a, ha, rfl⟩ := nI_of (x := v) (Int32.not_lt.mpr h0)
  rw [nI_leI (by omega) (by omega), nI_ltI (by omega) (by omega)]
  omega
theorem wbI_eq {wr v : Int32} {k : Nat} (hk : k < 2 ^ 30) : wbI wr v (nI k) = if wr = 0 ∧ inI v (nI (k + 1)) = false then -2 else wr := by
  unfold wbI
  have e : (wr = 0 ∧ ¬(0 ≤ v ∧ v ≤ nI k)) ↔ (wr = 0 ∧ inI v (nI (k + 1)) = false) := by
    rw [inI_le hk, Bool.not_eq_true]
  by_cases h : wr = 0 ∧ inI v (nI (k + 1)) = false
  · rw [if_pos h, if_pos (e.mpr h)]
  · rw [if_neg h, if_neg (fun q => h (e.mp q))]
theorem wbI_tw {S : SQ} {a b v : Int32} {k : Nat} (hk : k < 2 ^ 30) : wbI (if areTw S a b = true then 0 else -1) v (nI k) = noTw S a b v (nI (k + 1)) := by
  rw [wbI_eq hk]
  unfold noTw
  by_cases h : areTw S a b = true
  · rw [if_pos h, if_pos h]
    cases h2 : inI v (nI (k + 1))
    · rw [if_pos ⟨rfl, rfl⟩]; rfl
    · rw [if_neg (fun q => absurd q.2 (by decide))]; rfl
  · rw [if_neg h, if_neg h, if_neg (fun q => absurd q.1 (by decide))]
theorem wbI_pw {S : SQ} {p v : Int32} {k : Nat} (hk : k < 2 ^ 30) : wbI (if isPer S p = true then 0 else -1) v (nI k) = noPw S p v (nI (k + 1)) := by
  rw [wbI_eq hk]
  unfold noPw
  by_cases h : isPer S p = true
  · rw [if_pos h, if_pos h]
    cases h2 : inI v (nI (k + 1))
    · rw [if_pos ⟨rfl, rfl⟩]; rfl
    · rw [if_neg (fun q => absurd q.2 (by decide))]; rfl
  · rw [if_neg h, if_neg h, if_neg (fun q => absurd q.1 (by decide))]
theorem wbI_all {v what : Int32} : wbI (wi v 0 99) what 2 = noAll v what := wbI_eq (k := 2) (by decide)
theorem isC_lt {c : Int32} (h : isC c) : ¬ 0 ≤ c := by
  rcases h with rfl | rfl | rfl | rfl | rfl <;> decide
theorem no_ge {c : Int32} (h : c = 0 ∨ isC c) : (0 ≤ c → c = 0) ∧ (¬ 0 ≤ c → isC c) := by
  rcases h with rfl | h
  · exact ⟨fun _ => rfl, fun q => absurd (Int32.le_refl _) q⟩
  · exact ⟨fun q => absurd q (isC_lt h), fun _ => h⟩
theorem noComes_c {S : SQ} {p v : Int32} : noComes S p v = 0 ∨ isC (noComes S p v) := by
  unfold noComes
  split
  · exact wi_c _ _ _
  · exact Or.inr isC_1
theorem noQua_c {S : SQ} {a b v : Int32} : noQua S a b v = 0 ∨ isC (noQua S a b v) := by
  unfold noQua
  split
  · exact wi_c _ _ _
  · exact Or.inr isC_1
theorem noDays_c {S : SQ} {v : Int32} : noDays S v = 0 ∨ isC (noDays S v) := by
  unfold noDays
  split
  · exact Or.inr isC_6
  · exact wi_c _ _ _
section MO1
variable {G : GD} {n m : Nat} {w : MW} {g : RH} {σ : SG} {T : SQ} {j : List PP}
theorem k_X2_personOf {p what : Int32} (h : MR w σ) : Ct G yX2_personOf cX2_personOf 3 (some .int) 4 0 0 [.ref m, .int p, .int what] n (mh m w g) (MPo m n g (persS σ p what)) := by
  refine Ct.intro (k := 0) [some (.ref m), some (.int p), some (.int what)] (by decide) (Nat.le_of_ble_eq_true rfl) rfl fun z hz hin => ?_
  obtain ⟨j, e, K⟩ := h.1
  have h6 := K.l6
  unfold persS at hz
  refine r_aload_0 (q := 1) dX2_personOf_0 rfl ?_
  refine r_iconst 0 (by decide) (q := 2) dX2_personOf_1 rfl ?_
  refine r_put gf_X2_65_2 cl_ok_2 ft_2_7 mh_o (Nat.le_of_ble_eq_true rfl) rfl rfl (q := 5) dX2_personOf_2 rfl ?_
  refine J.heap mset_f7 ?_
  refine r_aload_0 (q := 6) dX2_personOf_5 rfl ?_
  refine r_iload_1 (q := 7) dX2_personOf_6 rfl ?_
  refine r_callV_1 cv_X2_75 mh_o rfl (by decide) (Nat.le_of_ble_eq_true rfl) ⟨Nat.le_refl _, Nat.le_refl _⟩ (k_X2_isOne K e) (q := 10) dX2_personOf_7 rfl ?_
  refine r_if_eq (q := 13) (tgt := 25) dX2_personOf_10 rfl rfl (fun c10 => ?_) (fun c10 => ?_)
  · have hp := bI_0.mp c10
    rw [if_neg (by rw [hp]; decide)] at hz
    refine r_aload_0 (q := 26) dX2_personOf_25 rfl ?_
    refine r_aload_0 (q := 27) dX2_personOf_26 rfl ?_
    refine r_iload_1 (q := 28) dX2_personOf_27 rfl ?_
    refine r_callV_1 cv_X2_75 mh_o rfl (by decide) (Nat.le_of_ble_eq_true rfl) ⟨Nat.le_refl _, Nat.le_refl _⟩ (k_X2_isOne K e) (q := 31) dX2_personOf_28 rfl ?_
    refine r_if_eq (q := 34) (tgt := 39) dX2_personOf_31 rfl rfl (fun c31 => ?_) (fun c31 => ?_)
    · refine r_iconst (-1) (by decide) (q := 40) dX2_personOf_39 rfl ?_
      refine r_callV_1 cv_X2_128 mh_o rfl (by decide) (Nat.le_of_ble_eq_true rfl) ⟨Nat.le_refl _, Nat.le_refl _⟩ (k_X2_refuse isC_1 (h.th 0).l6) (q := 43) dX2_personOf_40 rfl ?_
      exact r_iret hz dX2_personOf_43 (Nat.le_refl _) (Nat.le_refl _) (.of rfl ((h.th 0).refuse _))
    · exact absurd c10 c31
  have hp := bI_n0.mp c10
  rw [if_pos hp] at hz
  obtain ⟨a, ha, rfl⟩ := isPer_t K.lens hp
  refine r_iload_2 (q := 14) dX2_personOf_13 rfl ?_
  refine r_i2l (q := 15) dX2_personOf_14 rfl ?_
  refine r_lconst 0 (by decide) (q := 16) dX2_personOf_15 rfl ?_
  refine r_ldc2 q1240 (q := 19) dX2_personOf_16 rfl ?_
  refine r_callS_3 cs_X2_71 (by decide) (Nat.le_of_ble_eq_true rfl) ⟨Nat.le_refl _, Nat.le_refl _⟩ (k_X2_in32 (lo := 0) (hi := 6) (by decide) (by decide)) (q := 22) dX2_personOf_19 rfl ?_
  have ei : decide ((0 : Int32) ≤ what ∧ what ≤ 6) = inI what 7 := by
    have := inI_le (v := what) (k := 6) (by decide)
    cases hh : inI what 7
    · exact decide_eq_false (fun q => by have := this.mp q; rw [show inI what (nI (6 + 1)) = inI what 7 from rfl, hh] at this; cases this)
    · exact decide_eq_true (this.mpr hh)
  rw [ei]
  refine r_if_ne (q := 25) (tgt := 44) dX2_personOf_22 rfl rfl (fun c22 => ?_) (fun c22 => ?_)
  · have hw := bI_n0.mp c22
    rw [if_pos hw, cl_nI (by omega)] at hz
    obtain ⟨v, hv, rfl⟩ := inI_n (k := 7) (by decide) hw
    rw [cl_nI (by omega)] at hz
    refine r_iload_2 (q := 45) dX2_personOf_44 rfl ?_
    match v, hv with
    | 0, _ =>
      refine r_tableIn dX2_personOf_45 (by decide) (by decide) (off := 39) (by decide) (q := 84) rfl ?_
      refine r_aload_0 (q := 85) dX2_personOf_84 rfl ?_
      refine r_get gf_X2_7_2 mh_o rfl (q := 88) dX2_personOf_85 rfl ?_
      refine r_iload_1 (q := 89) dX2_personOf_88 rfl ?_
      refine m_ald1 K e ha (q := 90) dX2_personOf_89 rfl ?_
      exact r_iret hz dX2_personOf_90 (Nat.le_refl _) (Nat.le_refl _) (.of rfl (h.th 0))
    | 1, _ =>
      refine r_tableIn dX2_personOf_45 (by decide) (by decide) (off := 46) (by decide) (q := 91) rfl ?_
      refine r_aload_0 (q := 92) dX2_personOf_91 rfl ?_
      refine r_get gf_X2_13_2 mh_o rfl (q := 95) dX2_personOf_92 rfl ?_
      refine r_iload_1 (q := 96) dX2_personOf_95 rfl ?_
      refine m_ald2 K e ha (q := 97) dX2_personOf_96 rfl ?_
      exact r_iret hz dX2_personOf_97 (Nat.le_refl _) (Nat.le_refl _) (.of rfl (h.th 0))
    | 2, _ =>
      refine r_tableIn dX2_personOf_45 (by decide) (by decide) (off := 53) (by decide) (q := 98) rfl ?_
      refine r_aload_0 (q := 99) dX2_personOf_98 rfl ?_
      refine r_get gf_X2_16_2 mh_o rfl (q := 102) dX2_personOf_99 rfl ?_
      refine r_iload_1 (q := 103) dX2_personOf_102 rfl ?_
      refine m_ald3 K e (by omega) (q := 104) dX2_personOf_103 rfl ?_
      exact r_iret hz dX2_personOf_104 (Nat.le_refl _) (Nat.le_refl _) (.of rfl (h.th 0))
    | 3, _ =>
      refine r_tableIn dX2_personOf_45 (by decide) (by decide) (off := 60) (by decide) (q := 105) rfl ?_
      refine r_aload_0 (q := 106) dX2_personOf_105 rfl ?_
      refine r_get gf_X2_19_2 mh_o rfl (q := 109) dX2_personOf_106 rfl ?_
      refine r_iload_1 (q := 110) dX2_personOf_109 rfl ?_
      refine m_ald4 K e (by omega) (q := 111) dX2_personOf_110 rfl ?_
      exact r_iret hz dX2_personOf_111 (Nat.le_refl _) (Nat.le_refl _) (.of rfl (h.th 0))
    | 4, _ =>
      refine r_tableIn dX2_personOf_45 (by decide) (by decide) (off := 67) (by decide) (q := 112) rfl ?_
      refine r_aload_0 (q := 113) dX2_personOf_112 rfl ?_
      refine r_iload_1 (q := 114) dX2_personOf_113 rfl ?_
      refine r_callV_1 cv_X2_97 mh_o rfl (by decide) (Nat.le_of_ble_eq_true rfl) ⟨Nat.le_refl _, Nat.le_refl _⟩ (k_X2_softOf K e ha) (q := 117) dX2_personOf_114 rfl ?_
      exact r_iret hz dX2_personOf_117 (Nat.le_refl _) (Nat.le_refl _) (.of rfl (h.th 0))
    | 5, _ =>
      refine r_tableIn dX2_personOf_45 (by decide) (by decide) (off := 73) (by decide) (q := 118) rfl ?_
      refine r_aload_0 (q := 119) dX2_personOf_118 rfl ?_
      refine r_iload_1 (q := 120) dX2_personOf_119 rfl ?_
      refine r_callV_1 cv_X2_100 mh_o rfl (by decide) (Nat.le_of_ble_eq_true rfl) ⟨Nat.le_refl _, Nat.le_refl _⟩ (k_X2_soreOf K e ha) (q := 123) dX2_personOf_120 rfl ?_
      exact r_iret hz dX2_personOf_123 (Nat.le_refl _) (Nat.le_refl _) (.of rfl (h.th 0))
    | 6, _ =>
      refine r_tableOut dX2_personOf_45 (Or.inr (by decide)) (q := 124) rfl ?_
      refine r_aload_0 (q := 125) dX2_personOf_124 rfl ?_
      refine r_iload_1 (q := 126) dX2_personOf_125 rfl ?_
      refine r_callV_1 cv_X2_87 mh_o rfl (by decide) (Nat.le_of_ble_eq_true rfl) ⟨Nat.le_refl _, Nat.le_refl _⟩ (k_X2_charmOf K e ha) (q := 129) dX2_personOf_126 rfl ?_
      exact r_iret hz dX2_personOf_129 (Nat.le_refl _) (Nat.le_refl _) (.of rfl (h.th 0))
  · have hw := bI_0.mp c22
    rw [if_neg (by rw [hw]; decide)] at hz
    refine r_aload_0 (q := 26) dX2_personOf_25 rfl ?_
    refine r_aload_0 (q := 27) dX2_personOf_26 rfl ?_
    refine r_iload_1 (q := 28) dX2_personOf_27 rfl ?_
    refine r_callV_1 cv_X2_75 mh_o rfl (by decide) (Nat.le_of_ble_eq_true rfl) ⟨Nat.le_refl _, Nat.le_refl _⟩ (k_X2_isOne K e) (q := 31) dX2_personOf_28 rfl ?_
    refine r_if_eq (q := 34) (tgt := 39) dX2_personOf_31 rfl rfl (fun c31 => ?_) (fun c31 => ?_)
    · exact absurd c31 c10
    · refine r_bipush (-2) (by decide) (q := 36) dX2_personOf_34 rfl ?_
      refine r_goto (q := 40) dX2_personOf_36 rfl ?_
      refine r_callV_1 cv_X2_128 mh_o rfl (by decide) (Nat.le_of_ble_eq_true rfl) ⟨Nat.le_refl _, Nat.le_refl _⟩ (k_X2_refuse isC_2 (h.th 0).l6) (q := 43) dX2_personOf_40 rfl ?_
      exact r_iret hz dX2_personOf_43 (Nat.le_refl _) (Nat.le_refl _) (.of rfl ((h.th 0).refuse _))
theorem k_X2_between {a b what : Int32} (h : MR w σ) : Ct G yX2_between cX2_between 5 (some .int) 4 0 0 [.ref m, .int a, .int b, .int what] n (mh m w g) (MPo m n g (betwS σ a b what)) := by
  refine Ct.intro (k := 1) [some (.ref m), some (.int a), some (.int b), some (.int what), none] (by decide) (Nat.le_of_ble_eq_true rfl) rfl fun z hz hin => ?_
  obtain ⟨j, e, K⟩ := h.1
  have h6 := K.l6
  have fin : ∀ v : Int32, v = (if areTw σ.1 a b = true then 0 else -1) → J G z cX2_between 5 RX2 4 0 0 0 0 19 [some (.ref m), some (.int a), some (.int b), some (.int what), none] [.int v] n (mh m (sf7 w 0) g) := by
    intro v hv
    refine r_iload_3 (q := 20) dX2_between_19 rfl ?_
    refine r_iconst 1 (by decide) (q := 21) dX2_between_20 rfl ?_
    refine r_callS_3 cs_X2_211 (by decide) (Nat.le_of_ble_eq_true rfl) ⟨Nat.le_refl _, Nat.le_refl _⟩ (k_X2_wrongBit) (q := 24) dX2_between_21 rfl ?_
    refine J.topi (x := wbI v what 1) (y := noTw σ.1 a b what 2) (by rw [hv]; exact wbI_tw (k := 1) (by decide)) ?_
    obtain ⟨q1, q2⟩ := no_ge (noTw_c (S := σ.1) (a := a) (b := b) (what := what) (k := 2))
    refine r_istore_4 (by decide) rfl (q := 26) dX2_between_24 rfl ?_
    refine r_iload_4 (q := 28) dX2_between_26 rfl ?_
    refine r_if_ge (q := 31) (tgt := 38) dX2_between_28 rfl rfl (fun c28 => ?_) (fun c28 => ?_)
    · have h0 := q1 c28
      obtain ⟨t1, t2⟩ := noTw_0 h0
      have e0 : betwS σ a b what = (if what = 0 then nI (qr σ.1 (cl a) (cl b)) else likS σ.1 (cl a) (cl b) + 1000, σ) := if_pos h0
      rw [e0] at hz
      obtain ⟨a', b', ha, hb, -, rfl, rfl⟩ := areTw_t K.lens t1
      rw [cl_nI (by omega), cl_nI (by omega)] at hz
      refine r_iload_3 (q := 39) dX2_between_38 rfl ?_
      refine r_if_ne (q := 42) (tgt := 51) dX2_between_39 rfl rfl (fun c39 => ?_) (fun c39 => ?_)
      · rw [if_neg c39] at hz
        refine r_aload_0 (q := 52) dX2_between_51 rfl ?_
        refine r_iload_1 (q := 53) dX2_between_52 rfl ?_
        refine r_iload_2 (q := 54) dX2_between_53 rfl ?_
        refine r_callV_2 cv_X2_90 mh_o rfl (by decide) (Nat.le_of_ble_eq_true rfl) ⟨Nat.le_refl _, Nat.le_refl _⟩ (k_X2_likesOf K e (by omega) (by omega)) (q := 57) dX2_between_54 rfl ?_
        refine r_sipush 1000 (by decide) (q := 60) dX2_between_57 rfl ?_
        refine r_iadd (q := 61) dX2_between_60 rfl ?_
        exact r_iret hz dX2_between_61 (Nat.le_refl _) (Nat.le_refl _) (.of rfl (h.th 0))
      · rw [if_pos c39] at hz
        refine r_aload_0 (q := 43) dX2_between_42 rfl ?_
        refine r_iload_1 (q := 44) dX2_between_43 rfl ?_
        refine r_iload_2 (q := 45) dX2_between_44 rfl ?_
        refine r_callV_2 cv_X2_79 mh_o rfl (by decide) (Nat.le_of_ble_eq_true rfl) ⟨Nat.le_refl _, Nat.le_refl _⟩ (k_X2_quarrelOf K e (by omega) (by omega)) (q := 48) dX2_between_45 rfl ?_
        refine r_goto (q := 61) dX2_between_48 rfl ?_
        exact r_iret hz dX2_between_61 (Nat.le_refl _) (Nat.le_refl _) (.of rfl (h.th 0))
    · have hc := q2 c28
      have e0 : betwS σ a b what = (noTw σ.1 a b what 2, rfS σ (noTw σ.1 a b what 2)) := if_neg (isC_ne hc)
      rw [e0] at hz
      refine r_aload_0 (q := 32) dX2_between_31 rfl ?_
      refine r_iload_4 (q := 34) dX2_between_32 rfl ?_
      refine r_callV_1 cv_X2_128 mh_o rfl (by decide) (Nat.le_of_ble_eq_true rfl) ⟨Nat.le_refl _, Nat.le_refl _⟩ (k_X2_refuse hc (h.th 0).l6) (q := 37) dX2_between_34 rfl ?_
      exact r_iret hz dX2_between_37 (Nat.le_refl _) (Nat.le_refl _) (.of rfl ((h.th 0).refuse _))
  refine r_aload_0 (q := 1) dX2_between_0 rfl ?_
  refine r_iconst 0 (by decide) (q := 2) dX2_between_1 rfl ?_
  refine r_put gf_X2_65_2 cl_ok_2 ft_2_7 mh_o (Nat.le_of_ble_eq_true rfl) rfl rfl (q := 5) dX2_between_2 rfl ?_
  refine J.heap mset_f7 ?_
  refine r_aload_0 (q := 6) dX2_between_5 rfl ?_
  refine r_iload_1 (q := 7) dX2_between_6 rfl ?_
  refine r_iload_2 (q := 8) dX2_between_7 rfl ?_
  refine r_callV_2 cv_X2_164 mh_o rfl (by decide) (Nat.le_of_ble_eq_true rfl) ⟨Nat.le_refl _, Nat.le_refl _⟩ (k_X2_areTwo K e) (q := 11) dX2_between_8 rfl ?_
  refine r_if_eq (q := 14) (tgt := 18) dX2_between_11 rfl rfl (fun c11 => ?_) (fun c11 => ?_)
  · refine r_iconst (-1) (by decide) (q := 19) dX2_between_18 rfl ?_
    exact fin (-1) (by rw [if_neg (by rw [bI_0.mp c11]; decide)])
  · refine r_iconst 0 (by decide) (q := 15) dX2_between_14 rfl ?_
    refine r_goto (q := 19) dX2_between_15 rfl ?_
    exact fin 0 (by rw [if_pos (bI_n0.mp c11)])
theorem comeS_tail {S : SQ} (K : OKM S j) (h5 : S.1.length < 6) {p : PP} {v : Nat} (hp : p.1 < 6 ∧ p.2 < 10) (hv : v ≤ 31) : OKM (comeS S p v) j.tail := by
  refine ⟨K.1.come h5 hp hv, ?_⟩
  have := K.2
  cases j with
  | nil => rw [List.append_nil] at this; omega
  | cons a b =>
    show ((S.1 ++ [p]) ++ b).length = 6
    rw [List.length_append] at this ⊢
    rw [List.length_append]
    simp at this ⊢
    omega
theorem k_X2_person {k f v : Int32} (h : MR w σ) : Ct G yX2_person cX2_person 5 (some .int) 4 0 0 [.ref m, .int k, .int f, .int v] n (mh m w g) (MPo m n g (personS σ k f v)) := by
  refine Ct.intro (k := 1) [some (.ref m), some (.int k), some (.int f), some (.int v), none] (by decide) (Nat.le_of_ble_eq_true rfl) rfl fun z hz hin => ?_
  obtain ⟨j, e, K⟩ := h.1
  have h6 := K.l6
  have fin : ∀ no : Int32, no = noPer σ.1 k f v → J G z cX2_person 5 RX2 4 0 0 0 0 67 [some (.ref m), some (.int k), some (.int f), some (.int v), some (.int no)] [] n (mh m (sf7 w 0) g) := by
    intro no h1
    obtain ⟨q1, q2⟩ := no_ge (noPer_c (S := σ.1) (k := k) (f := f) (h := v))
    refine r_iload_4 (q := 69) dX2_person_67 rfl ?_
    rw [h1]
    refine r_if_ge (q := 72) (tgt := 79) dX2_person_69 rfl rfl (fun c69 => ?_) (fun c69 => ?_)
    · have h0 := q1 c69
      have h1' := h0
      unfold noPer at h1'
      split at h1'
      · rename_i hk
        split at h1'
        · exact absurd h1' (by decide)
        rename_i hb
        split at h1'
        · exact absurd h1' (by decide)
        rename_i hr
        have hb1 : ¬ f < 0 := fun q => hb (Or.inl q)
        have hb2 : ¬ v < 0 := fun q => hb (Or.inr q)
        have hr1 : ¬ 9 < f := fun q => hr (Or.inl q)
        have hr2 : ¬ 31 < v := fun q => hr (Or.inr (Or.inl q))
        have hr3 : ¬ σ.1.1.length = 6 := fun q => hr (Or.inr (Or.inr q))
        obtain ⟨kk, hkk, rfl⟩ := inI_n (k := 6) (by decide) hk
        obtain ⟨ff, hff, rfl⟩ := nI_of hb1
        obtain ⟨vv, hvv, rfl⟩ := nI_of hb2
        have f9 : ff ≤ 9 := by
          rcases Nat.lt_or_ge 9 ff with q | q
          · exact absurd (nI_lt (a := 9) q (by omega)) hr1
          · exact q
        have v31 : vv ≤ 31 := by
          rcases Nat.lt_or_ge 31 vv with q | q
          · exact absurd (nI_lt (a := 31) q (by omega)) hr2
          · exact q
        have e0 : personS σ (nI kk) (nI ff) (nI vv) = (nI σ.1.1.length, (comeS σ.1 (kk, ff) vv, σ.2.1, [], σ.2.2.2)) := by
          unfold personS
          rw [if_pos h0, cl_nI (by omega), cl_nI (by omega), cl_nI (by omega)]
        rw [e0] at hz
        refine r_aload_0 (q := 80) dX2_person_79 rfl ?_
        refine r_iload_1 (q := 81) dX2_person_80 rfl ?_
        refine r_iload_2 (q := 82) dX2_person_81 rfl ?_
        refine r_iload_3 (q := 83) dX2_person_82 rfl ?_
        refine r_callVv_3 cv_X2_161 mh_o rfl (by decide) (Nat.le_of_ble_eq_true rfl) ⟨Nat.le_refl _, Nat.le_refl _⟩ (k_X2_oneComes (w := sf7 w 0) K e (by omega)) (q := 86) dX2_person_83 rfl ?_
        have K' := comeS_tail (v := vv) K (by omega) (p := (kk, ff)) ⟨hkk, by show ff < 10; omega⟩ v31
        refine r_aload_0 (q := 87) dX2_person_86 rfl ?_
        refine r_iconst 0 (by decide) (q := 88) dX2_person_87 rfl ?_
        refine r_put gf_X2_187_2 cl_ok_2 ft_2_25 mh_o (Nat.le_of_ble_eq_true rfl) rfl rfl (q := 91) dX2_person_88 rfl ?_
        refine J.heap mset_f25 ?_
        refine r_aload_0 (q := 92) dX2_person_91 rfl ?_
        refine m_getp gf_X2_68_2 K' rfl (q := 95) dX2_person_92 rfl ?_
        refine r_iconst 1 (by decide) (q := 96) dX2_person_95 rfl ?_
        refine r_isub (q := 97) dX2_person_96 rfl ?_
        have el : nI (comeS σ.1 (kk, ff) vv).1.length - 1 = nI σ.1.1.length := by
          show nI (σ.1.1 ++ [(kk, ff)]).length - 1 = _
          rw [List.length_append]
          exact nI_pred _
        refine J.topi el ?_
        refine r_iret hz dX2_person_97 (Nat.le_refl _) (Nat.le_refl _) (.of rfl ?_)
        obtain ⟨a1, a2, ⟨c1, c2, c3, c4, c5, c6⟩, a4⟩ := h
        exact ⟨⟨_, rfl, K'⟩, by rw [show (comeS σ.1 (kk, ff) vv, σ.2.1, ([] : List SQ), σ.2.2.2).1 = comeS σ.1 (kk, ff) vv from rfl, comeS_day]; exact a2, ⟨c1, c2, c3, ⟨c4.1, rfl, Nat.zero_le _, fun k hk => absurd hk (Nat.not_lt_zero _)⟩, c5, c6⟩, a4⟩
      · exact absurd h1' (by decide)
    · have hc := q2 c69
      have e0 : personS σ k f v = (noPer σ.1 k f v, rfS σ (noPer σ.1 k f v)) := if_neg (isC_ne hc)
      rw [e0] at hz
      refine r_aload_0 (q := 73) dX2_person_72 rfl ?_
      refine r_iload_4 (q := 75) dX2_person_73 rfl ?_
      refine r_callV_1 cv_X2_128 mh_o rfl (by decide) (Nat.le_of_ble_eq_true rfl) ⟨Nat.le_refl _, Nat.le_refl _⟩ (k_X2_refuse hc (h.th 0).l6) (q := 78) dX2_person_75 rfl ?_
      exact r_iret hz dX2_person_78 (Nat.le_refl _) (Nat.le_refl _) (.of rfl ((h.th 0).refuse _))
  refine r_aload_0 (q := 1) dX2_person_0 rfl ?_
  refine r_iconst 0 (by decide) (q := 2) dX2_person_1 rfl ?_
  refine r_put gf_X2_65_2 cl_ok_2 ft_2_7 mh_o (Nat.le_of_ble_eq_true rfl) rfl rfl (q := 5) dX2_person_2 rfl ?_
  refine J.heap mset_f7 ?_
  refine r_iconst 0 (by decide) (q := 6) dX2_person_5 rfl ?_
  refine r_istore_4 (by decide) rfl (q := 8) dX2_person_6 rfl ?_
  refine r_iload_1 (q := 9) dX2_person_8 rfl ?_
  refine r_i2l (q := 10) dX2_person_9 rfl ?_
  refine r_lconst 0 (by decide) (q := 11) dX2_person_10 rfl ?_
  refine r_ldc2 q1263 (q := 14) dX2_person_11 rfl ?_
  refine r_callS_3 cs_X2_71 (by decide) (Nat.le_of_ble_eq_true rfl) ⟨Nat.le_refl _, Nat.le_refl _⟩ (k_X2_in32 (lo := 0) (hi := 5) (by decide) (by decide)) (q := 17) dX2_person_14 rfl ?_
  have ei : decide ((0 : Int32) ≤ k ∧ k ≤ 5) = inI k 6 := by
    have := inI_le (v := k) (k := 5) (by decide)
    cases hh : inI k 6
    · exact decide_eq_false (fun q => by have := this.mp q; rw [show inI k (nI (5 + 1)) = inI k 6 from rfl, hh] at this; cases this)
    · exact decide_eq_true (this.mpr hh)
  rw [ei]
  refine r_if_ne (q := 20) (tgt := 27) dX2_person_17 rfl rfl (fun c17 => ?_) (fun c17 => ?_)
  · have hk := bI_n0.mp c17
    have no4 : (f < 0 ∨ v < 0) → J G z cX2_person 5 RX2 4 0 0 0 0 35 [some (.ref m), some (.int k), some (.int f), some (.int v), some (.int 0)] [] n (mh m (sf7 w 0) g) := by
      intro q
      refine r_bipush (-4) (by decide) (q := 37) dX2_person_35 rfl ?_
      refine r_istore_4 (by decide) rfl (q := 39) dX2_person_37 rfl ?_
      refine r_goto (q := 67) dX2_person_39 rfl ?_
      exact fin _ (by unfold noPer; rw [if_pos hk, if_pos q])
    refine r_iload_2 (q := 28) dX2_person_27 rfl ?_
    refine r_if_lt (q := 31) (tgt := 35) dX2_person_28 rfl rfl (fun c28 => ?_) (fun c28 => ?_)
    · exact no4 (Or.inl c28)
    refine r_iload_3 (q := 32) dX2_person_31 rfl ?_
    refine r_if_ge (q := 35) (tgt := 42) dX2_person_32 rfl rfl (fun c32 => ?_) (fun c32 => ?_)
    · have hb : ¬(f < 0 ∨ v < 0) := fun q => by rcases q with q | q; exact c28 q; exact absurd q (Int32.not_lt.mpr c32)
      have no6 : (9 < f ∨ 31 < v ∨ σ.1.1.length = 6) → J G z cX2_person 5 RX2 4 0 0 0 0 63 [some (.ref m), some (.int k), some (.int f), some (.int v), some (.int 0)] [] n (mh m (sf7 w 0) g) := by
        intro q
        refine r_bipush (-6) (by decide) (q := 65) dX2_person_63 rfl ?_
        refine r_istore_4 (by decide) rfl (q := 67) dX2_person_65 rfl ?_
        exact fin _ (by unfold noPer; rw [if_pos hk, if_neg hb, if_pos q])
      refine r_iload_2 (q := 43) dX2_person_42 rfl ?_
      refine r_bipush 9 (by decide) (q := 45) dX2_person_43 rfl ?_
      refine r_icmp_gt (q := 48) (tgt := 63) dX2_person_45 rfl rfl (fun c45 => ?_) (fun c45 => ?_)
      · exact no6 (Or.inl c45)
      refine r_iload_3 (q := 49) dX2_person_48 rfl ?_
      refine r_bipush 31 (by decide) (q := 51) dX2_person_49 rfl ?_
      refine r_icmp_gt (q := 54) (tgt := 63) dX2_person_51 rfl rfl (fun c51 => ?_) (fun c51 => ?_)
      · exact no6 (Or.inr (Or.inl c51))
      refine r_aload_0 (q := 55) dX2_person_54 rfl ?_
      refine m_getp gf_X2_68_2 K e (q := 58) dX2_person_55 rfl ?_
      refine r_bipush 6 (by decide) (q := 60) dX2_person_58 rfl ?_
      refine r_icmp_ne (q := 63) (tgt := 67) dX2_person_60 rfl rfl (fun c60 => ?_) (fun c60 => ?_)
      · have hne : ¬ σ.1.1.length = 6 := fun q => c60 (by rw [q]; rfl)
        exact fin 0 (by unfold noPer; rw [if_pos hk, if_neg hb, if_neg (fun q => by rcases q with q | q | q; exact c45 q; exact c51 q; exact hne q)])
      · exact no6 (Or.inr (Or.inr (nI_inj (b := 6) (by omega) (by omega) c60)))
    · exact no4 (Or.inr (Int32.not_le.mp c32))
  · have hk := bI_0.mp c17
    refine r_bipush (-2) (by decide) (q := 22) dX2_person_20 rfl ?_
    refine r_istore_4 (by decide) rfl (q := 24) dX2_person_22 rfl ?_
    refine r_goto (q := 67) dX2_person_24 rfl ?_
    exact fin _ (by unfold noPer; rw [hk]; rfl)
/-- behind keepTurn -/
theorem MR.q0 {T' : SQ} (h : MR w σ) (K : OKM T' j) (hd : T'.2.2.2.2 ≤ 999) : MR (sS w (mS T' j)) (T', σ.2) := ⟨⟨j, rfl, K⟩, hd, h.2.2.1, h.2.2.2⟩
theorem k_X2_comes {p v : Int32} (h : MR w σ) : Ct G yX2_comes cX2_comes 5 (some .int) 4 0 0 [.ref m, .int p, .int v] n (mh m w g) (MPo m n g (comesS σ p v)) := by
  refine Ct.intro (k := 2) [some (.ref m), some (.int p), some (.int v), none, none] (by decide) (Nat.le_of_ble_eq_true rfl) rfl fun z hz hin => ?_
  obtain ⟨j, e, K⟩ := h.1
  have h6 := K.l6
  have fin : ∀ no : Int32, no = noComes σ.1 p v → J G z cX2_comes 5 RX2 4 0 0 0 0 24 [some (.ref m), some (.int p), some (.int v), none, none] [.int no] n (mh m (sf7 w 0) g) := by
    intro no h1
    obtain ⟨q1, q2⟩ := no_ge (noComes_c (S := σ.1) (p := p) (v := v))
    rw [h1]
    refine r_istore_3 (by decide) rfl (q := 25) dX2_comes_24 rfl ?_
    refine r_iload_3 (q := 26) dX2_comes_25 rfl ?_
    refine r_if_ge (q := 29) (tgt := 35) dX2_comes_26 rfl rfl (fun c26 => ?_) (fun c26 => ?_)
    · have h0 := q1 c26
      have h0' := h0
      unfold noComes at h0'
      split at h0'
      · rename_i hp
        obtain ⟨a, ha, rfl⟩ := isPer_t K.lens hp
        obtain ⟨vv, hv, rfl⟩ := wi_n (k := 31) rfl (by decide) h0'
        have e0 : comesS σ (nI a) (nI vv) = (nI (hr σ.1 a), (setH σ.1 a vv, (remS σ).2)) := by
          unfold comesS
          rw [if_pos h0, cl_nI (by omega), cl_nI (by omega)]
        rw [e0] at hz
        refine r_aload_0 (q := 36) dX2_comes_35 rfl ?_
        refine r_callVp_0 cv_X2_220 mh_o rfl (by decide) (Nat.le_of_ble_eq_true rfl) ⟨Nat.le_refl _, Nat.le_refl _⟩ (k_X2_keepTurn (h.th 0)) (q := 39) dX2_comes_36 rfl ?_
        intro r n' h' hq
        obtain ⟨rfl, rfl, w', rfl, hM⟩ := hq
        obtain ⟨j', e', K'⟩ := hM.1
        refine r_aload_0 (q := 40) dX2_comes_39 rfl ?_
        refine r_get gf_X2_16_2 mh_o rfl (q := 43) dX2_comes_40 rfl ?_
        refine r_iload_1 (q := 44) dX2_comes_43 rfl ?_
        refine m_ald3 K' e' (by omega) (q := 45) dX2_comes_44 rfl ?_
        refine r_istore_4 (by decide) rfl (q := 47) dX2_comes_45 rfl ?_
        refine r_aload_0 (q := 48) dX2_comes_47 rfl ?_
        refine r_get gf_X2_16_2 mh_o rfl (q := 51) dX2_comes_48 rfl ?_
        refine r_iload_1 (q := 52) dX2_comes_51 rfl ?_
        refine r_iload_2 (q := 53) dX2_comes_52 rfl ?_
        refine m_ast3 (T := σ.1) K' e' (by omega) (q := 54) dX2_comes_53 rfl ?_
        refine r_iload_4 (q := 56) dX2_comes_54 rfl ?_
        exact r_iret hz dX2_comes_56 (Nat.le_refl _) (Nat.le_refl _) (.of rfl (hM.q0 (K'.of rfl (K'.1.stH hv)) h.2.1))
      · exact absurd h0' (by decide)
    · have hc := q2 c26
      have e0 : comesS σ p v = (noComes σ.1 p v, rfS σ (noComes σ.1 p v)) := if_neg (isC_ne hc)
      rw [e0] at hz
      refine r_aload_0 (q := 30) dX2_comes_29 rfl ?_
      refine r_iload_3 (q := 31) dX2_comes_30 rfl ?_
      refine r_callV_1 cv_X2_128 mh_o rfl (by decide) (Nat.le_of_ble_eq_true rfl) ⟨Nat.le_refl _, Nat.le_refl _⟩ (k_X2_refuse hc (h.th 0).l6) (q := 34) dX2_comes_31 rfl ?_
      exact r_iret hz dX2_comes_34 (Nat.le_refl _) (Nat.le_refl _) (.of rfl ((h.th 0).refuse _))
  refine r_aload_0 (q := 1) dX2_comes_0 rfl ?_
  refine r_iconst 0 (by decide) (q := 2) dX2_comes_1 rfl ?_
  refine r_put gf_X2_65_2 cl_ok_2 ft_2_7 mh_o (Nat.le_of_ble_eq_true rfl) rfl rfl (q := 5) dX2_comes_2 rfl ?_
  refine J.heap mset_f7 ?_
  refine r_aload_0 (q := 6) dX2_comes_5 rfl ?_
  refine r_iload_1 (q := 7) dX2_comes_6 rfl ?_
  refine r_callV_1 cv_X2_75 mh_o rfl (by decide) (Nat.le_of_ble_eq_true rfl) ⟨Nat.le_refl _, Nat.le_refl _⟩ (k_X2_isOne K e) (q := 10) dX2_comes_7 rfl ?_
  refine r_if_eq (q := 13) (tgt := 23) dX2_comes_10 rfl rfl (fun c10 => ?_) (fun c10 => ?_)
  · refine r_iconst (-1) (by decide) (q := 24) dX2_comes_23 rfl ?_
    exact fin (-1) (by unfold noComes; rw [if_neg (by rw [bI_0.mp c10]; decide)])
  · refine r_iload_2 (q := 14) dX2_comes_13 rfl ?_
    refine r_iconst 0 (by decide) (q := 15) dX2_comes_14 rfl ?_
    refine r_bipush 31 (by decide) (q := 17) dX2_comes_15 rfl ?_
    refine r_callS_3 cs_X2_217 (by decide) (Nat.le_of_ble_eq_true rfl) ⟨Nat.le_refl _, Nat.le_refl _⟩ (k_X2_wrongNumber) (q := 20) dX2_comes_17 rfl ?_
    refine r_goto (q := 24) dX2_comes_20 rfl ?_
    exact fin _ (by unfold noComes; rw [if_pos (bI_n0.mp c10)])
theorem k_X2_quarrels {a b v : Int32} (h : MR w σ) : Ct G yX2_quarrels cX2_quarrels 6 (some .int) 4 0 0 [.ref m, .int a, .int b, .int v] n (mh m w g) (MPo m n g (quarS σ a b v)) := by
  refine Ct.intro (k := 2) [some (.ref m), some (.int a), some (.int b), some (.int v), none, none] (by decide) (Nat.le_of_ble_eq_true rfl) rfl fun z hz hin => ?_
  obtain ⟨j, e, K⟩ := h.1
  have h6 := K.l6
  have fin : ∀ no : Int32, no = noQua σ.1 a b v → J G z cX2_quarrels 6 RX2 4 0 0 0 0 25 [some (.ref m), some (.int a), some (.int b), some (.int v), none, none] [.int no] n (mh m (sf7 w 0) g) := by
    intro no h1
    obtain ⟨q1, q2⟩ := no_ge (noQua_c (S := σ.1) (a := a) (b := b) (v := v))
    rw [h1]
    refine r_istore_4 (by decide) rfl (q := 27) dX2_quarrels_25 rfl ?_
    refine r_iload_4 (q := 29) dX2_quarrels_27 rfl ?_
    refine r_if_ge (q := 32) (tgt := 39) dX2_quarrels_29 rfl rfl (fun c29 => ?_) (fun c29 => ?_)
    · have h0 := q1 c29
      obtain ⟨t1, t2⟩ := noQua_0 h0
      obtain ⟨a', b', ha, hb, hab, rfl, rfl⟩ := areTw_t K.lens t1
      obtain ⟨vv, hv, rfl⟩ := wi_n (k := 99) rfl (by decide) t2
      have e0 : quarS σ (nI a') (nI b') (nI vv) = (nI (qr σ.1 a' b'), (setQr σ.1 a' b' vv, (remS σ).2)) := by
        unfold quarS
        rw [if_pos h0, cl_nI (by omega), cl_nI (by omega), cl_nI (by omega)]
      rw [e0] at hz
      refine r_aload_0 (q := 40) dX2_quarrels_39 rfl ?_
      refine r_callVp_0 cv_X2_220 mh_o rfl (by decide) (Nat.le_of_ble_eq_true rfl) ⟨Nat.le_refl _, Nat.le_refl _⟩ (k_X2_keepTurn (h.th 0)) (q := 43) dX2_quarrels_40 rfl ?_
      intro r n' h' hq
      obtain ⟨rfl, rfl, w', rfl, hM⟩ := hq
      obtain ⟨j', e', K'⟩ := hM.1
      have K' : OKM σ.1 j' := K'
      refine r_aload_0 (q := 44) dX2_quarrels_43 rfl ?_
      refine r_iload_1 (q := 45) dX2_quarrels_44 rfl ?_
      refine r_iload_2 (q := 46) dX2_quarrels_45 rfl ?_
      refine r_callV_2 cv_X2_79 mh_o rfl (by decide) (Nat.le_of_ble_eq_true rfl) ⟨Nat.le_refl _, Nat.le_refl _⟩ (k_X2_quarrelOf K' e' (by omega) (by omega)) (q := 49) dX2_quarrels_46 rfl ?_
      refine r_istore_5 (by decide) rfl (q := 51) dX2_quarrels_49 rfl ?_
      refine r_aload_0 (q := 52) dX2_quarrels_51 rfl ?_
      refine r_iload_1 (q := 53) dX2_quarrels_52 rfl ?_
      refine r_iload_2 (q := 54) dX2_quarrels_53 rfl ?_
      refine r_iload_3 (q := 55) dX2_quarrels_54 rfl ?_
      refine r_callVv_3 cv_X2_113 mh_o rfl (by decide) (Nat.le_of_ble_eq_true rfl) ⟨Nat.le_refl _, Nat.le_refl _⟩ (k_X2_setQuarrel K' e' (by omega) (by omega)) (q := 58) dX2_quarrels_55 rfl ?_
      refine r_iload_5 (q := 60) dX2_quarrels_58 rfl ?_
      exact r_iret hz dX2_quarrels_60 (Nat.le_refl _) (Nat.le_refl _) (.of rfl (hM.q0 (K'.of rfl (K'.1.stQ (by omega) (by omega) (Or.inl hab) hv)) h.2.1))
    · have hc := q2 c29
      have e0 : quarS σ a b v = (noQua σ.1 a b v, rfS σ (noQua σ.1 a b v)) := if_neg (isC_ne hc)
      rw [e0] at hz
      refine r_aload_0 (q := 33) dX2_quarrels_32 rfl ?_
      refine r_iload_4 (q := 35) dX2_quarrels_33 rfl ?_
      refine r_callV_1 cv_X2_128 mh_o rfl (by decide) (Nat.le_of_ble_eq_true rfl) ⟨Nat.le_refl _, Nat.le_refl _⟩ (k_X2_refuse hc (h.th 0).l6) (q := 38) dX2_quarrels_35 rfl ?_
      exact r_iret hz dX2_quarrels_38 (Nat.le_refl _) (Nat.le_refl _) (.of rfl ((h.th 0).refuse _))
  refine r_aload_0 (q := 1) dX2_quarrels_0 rfl ?_
  refine r_iconst 0 (by decide) (q := 2) dX2_quarrels_1 rfl ?_
  refine r_put gf_X2_65_2 cl_ok_2 ft_2_7 mh_o (Nat.le_of_ble_eq_true rfl) rfl rfl (q := 5) dX2_quarrels_2 rfl ?_
  refine J.heap mset_f7 ?_
  refine r_aload_0 (q := 6) dX2_quarrels_5 rfl ?_
  refine r_iload_1 (q := 7) dX2_quarrels_6 rfl ?_
  refine r_iload_2 (q := 8) dX2_quarrels_7 rfl ?_
  refine r_callV_2 cv_X2_164 mh_o rfl (by decide) (Nat.le_of_ble_eq_true rfl) ⟨Nat.le_refl _, Nat.le_refl _⟩ (k_X2_areTwo K e) (q := 11) dX2_quarrels_8 rfl ?_
  refine r_if_eq (q := 14) (tgt := 24) dX2_quarrels_11 rfl rfl (fun c11 => ?_) (fun c11 => ?_)
  · refine r_iconst (-1) (by decide) (q := 25) dX2_quarrels_24 rfl ?_
    exact fin (-1) (by unfold noQua; rw [if_neg (by rw [bI_0.mp c11]; decide)])
  · refine r_iload_3 (q := 15) dX2_quarrels_14 rfl ?_
    refine r_iconst 0 (by decide) (q := 16) dX2_quarrels_15 rfl ?_
    refine r_bipush 99 (by decide) (q := 18) dX2_quarrels_16 rfl ?_
    refine r_callS_3 cs_X2_217 (by decide) (Nat.le_of_ble_eq_true rfl) ⟨Nat.le_refl _, Nat.le_refl _⟩ (k_X2_wrongNumber) (q := 21) dX2_quarrels_18 rfl ?_
    refine r_goto (q := 25) dX2_quarrels_21 rfl ?_
    exact fin _ (by unfold noQua; rw [if_pos (bI_n0.mp c11)])
theorem k_X2_joins {a b : Int32} (h : MR w σ) : Ct G yX2_joins cX2_joins 3 (some .int) 4 0 0 [.ref m, .int a, .int b] n (mh m w g) (MPo m n g (joinsS σ a b)) := by
  refine Ct.intro (k := 0) [some (.ref m), some (.int a), some (.int b)] (by decide) (Nat.le_of_ble_eq_true rfl) rfl fun z hz hin => ?_
  obtain ⟨j, e, K⟩ := h.1
  have h6 := K.l6
  unfold joinsS at hz
  refine r_aload_0 (q := 1) dX2_joins_0 rfl ?_
  refine r_iconst 0 (by decide) (q := 2) dX2_joins_1 rfl ?_
  refine r_put gf_X2_65_2 cl_ok_2 ft_2_7 mh_o (Nat.le_of_ble_eq_true rfl) rfl rfl (q := 5) dX2_joins_2 rfl ?_
  refine J.heap mset_f7 ?_
  refine r_aload_0 (q := 6) dX2_joins_5 rfl ?_
  refine r_iload_1 (q := 7) dX2_joins_6 rfl ?_
  refine r_iload_2 (q := 8) dX2_joins_7 rfl ?_
  refine r_callV_2 cv_X2_164 mh_o rfl (by decide) (Nat.le_of_ble_eq_true rfl) ⟨Nat.le_refl _, Nat.le_refl _⟩ (k_X2_areTwo K e) (q := 11) dX2_joins_8 rfl ?_
  refine r_if_ne (q := 14) (tgt := 20) dX2_joins_11 rfl rfl (fun c11 => ?_) (fun c11 => ?_)
  · have t1 := bI_n0.mp c11
    rw [if_pos t1] at hz
    obtain ⟨a', b', ha, hb, hab, rfl, rfl⟩ := areTw_t K.lens t1
    rw [cl_nI (by omega), cl_nI (by omega)] at hz
    refine r_aload_0 (q := 21) dX2_joins_20 rfl ?_
    refine r_callVp_0 cv_X2_220 mh_o rfl (by decide) (Nat.le_of_ble_eq_true rfl) ⟨Nat.le_refl _, Nat.le_refl _⟩ (k_X2_keepTurn (h.th 0)) (q := 24) dX2_joins_21 rfl ?_
    intro r n' h' hq
    obtain ⟨rfl, rfl, w', rfl, hM⟩ := hq
    obtain ⟨j', e', K'⟩ := hM.1
    have K' : OKM σ.1 j' := K'
    have K2 : OKM (turnS σ.1 a' b') j' := K'.of (turnS_fr _ _ _) (K'.1.turn ha hb hab)
    refine r_aload_0 (q := 25) dX2_joins_24 rfl ?_
    refine r_iload_1 (q := 26) dX2_joins_25 rfl ?_
    refine r_iload_2 (q := 27) dX2_joins_26 rfl ?_
    refine r_callVv_2 cv_X2_167 mh_o rfl (by decide) (Nat.le_of_ble_eq_true rfl) ⟨Nat.le_refl _, Nat.le_refl _⟩ (k_X2_joinOrNot K' e' ha hb) (q := 30) dX2_joins_27 rfl ?_
    refine r_aload_0 (q := 31) dX2_joins_30 rfl ?_
    refine r_callV_0 cv_X2_223 mh_o rfl (by decide) (Nat.le_of_ble_eq_true rfl) ⟨Nat.le_refl _, Nat.le_refl _⟩ (k_X2_matsOf K2 rfl) (q := 34) dX2_joins_31 rfl ?_
    exact r_iret hz dX2_joins_34 (Nat.le_refl _) (Nat.le_refl _) (.of rfl (hM.q0 K2 (by rw [turnS_day]; exact h.2.1)))
  · rw [if_neg (by rw [bI_0.mp c11]; decide)] at hz
    refine r_aload_0 (q := 15) dX2_joins_14 rfl ?_
    refine r_iconst (-1) (by decide) (q := 16) dX2_joins_15 rfl ?_
    refine r_callV_1 cv_X2_128 mh_o rfl (by decide) (Nat.le_of_ble_eq_true rfl) ⟨Nat.le_refl _, Nat.le_refl _⟩ (k_X2_refuse isC_1 (h.th 0).l6) (q := 19) dX2_joins_16 rfl ?_
    exact r_iret hz dX2_joins_19 (Nat.le_refl _) (Nat.le_refl _) (.of rfl ((h.th 0).refuse _))
theorem k_X2_days {v : Int32} (h : MR w σ) : Ct G yX2_days cX2_days 3 (some .int) 5 0 0 [.ref m, .int v] n (mh m w g) (MPo m n g (gdaysS σ v)) := by
  refine Ct.intro (k := 1) [some (.ref m), some (.int v), none] (by decide) (Nat.le_of_ble_eq_true rfl) rfl fun z hz hin => ?_
  obtain ⟨j, e, K⟩ := h.1
  have h6 := K.l6
  have fin : ∀ (no : Int32) (o2 : Option Value), lc2 o2 = false → no = noDays σ.1 v → J G z cX2_days 3 RX2 5 0 0 0 0 35 [some (.ref m), some (.int v), o2] [.int no] n (mh m (sf7 w 0) g) := by
    intro no o2 ho h1
    obtain ⟨q1, q2⟩ := no_ge (noDays_c (S := σ.1) (v := v))
    rw [h1]
    refine r_istore_2 (by decide) rfl (q := 36) dX2_days_35 rfl ?_
    refine r_iload_2 (q := 37) dX2_days_36 rfl ?_
    refine r_if_ge (q := 40) (tgt := 46) dX2_days_37 rfl rfl (fun c37 => ?_) (fun c37 => ?_)
    · have h0 := q1 c37
      have h0' := h0
      unfold noDays at h0'
      split at h0'
      · exact absurd h0' (by decide)
      rename_i hn
      obtain ⟨l1, l2⟩ := wi_0 h0'
      obtain ⟨vv, hv, rfl⟩ := nI_of (x := v) (Int32.not_lt.mpr (Int32.le_trans (by decide) l1))
      have v60 : vv ≤ 60 := (nI_leI (b := 60) hv (by decide)).mp l2
      have d999 : σ.1.2.2.2.2 + vv ≤ 999 := by
        rcases Nat.lt_or_ge 999 (σ.1.2.2.2.2 + vv) with z | z
        · have hd := h.2.1
          exact absurd ⟨h0', by rw [nI_add]; exact nI_lt (a := 999) z (by omega)⟩ hn
        · exact z
      have e0 : gdaysS σ (nI vv) = (allS (daysS vv σ.1), (daysS vv σ.1, (remS σ).2)) := by
        unfold gdaysS
        rw [if_pos h0, cl_nI (by omega)]
      rw [e0] at hz
      refine r_aload_0 (q := 47) dX2_days_46 rfl ?_
      refine r_callVp_0 cv_X2_220 mh_o rfl (by decide) (Nat.le_of_ble_eq_true rfl) ⟨Nat.le_refl _, Nat.le_refl _⟩ (k_X2_keepTurn (h.th 0)) (q := 50) dX2_days_47 rfl ?_
      intro r n' h' hq
      obtain ⟨rfl, rfl, w', rfl, hM⟩ := hq
      obtain ⟨j', e', K'⟩ := hM.1
      have K' : OKM σ.1 j' := K'
      refine r_aload_0 (q := 51) dX2_days_50 rfl ?_
      refine r_iload_1 (q := 52) dX2_days_51 rfl ?_
      refine r_callVv_1 cv_X2_172 mh_o rfl (by decide) (Nat.le_of_ble_eq_true rfl) ⟨Nat.le_refl _, Nat.le_refl _⟩ (k_X2_goDays K' e' (by omega)) (q := 55) dX2_days_52 rfl ?_
      have K2 := K'.days vv
      refine r_aload_0 (q := 56) dX2_days_55 rfl ?_
      refine r_callV_0 cv_X2_226 mh_o rfl (by decide) (Nat.le_of_ble_eq_true rfl) ⟨Nat.le_refl _, Nat.le_refl _⟩ (k_X2_allOf K2 rfl) (q := 59) dX2_days_56 rfl ?_
      exact r_iret hz dX2_days_59 (Nat.le_refl _) (Nat.le_refl _) (.of rfl (hM.q0 K2 (by rw [daysS_day]; exact d999)))
    · have hc := q2 c37
      have e0 : gdaysS σ v = (noDays σ.1 v, rfS σ (noDays σ.1 v)) := if_neg (isC_ne hc)
      rw [e0] at hz
      refine r_aload_0 (q := 41) dX2_days_40 rfl ?_
      refine r_iload_2 (q := 42) dX2_days_41 rfl ?_
      refine r_callV_1 cv_X2_128 mh_o rfl (by decide) (Nat.le_of_ble_eq_true rfl) ⟨Nat.le_refl _, Nat.le_refl _⟩ (k_X2_refuse hc (h.th 0).l6) (q := 45) dX2_days_42 rfl ?_
      exact r_iret hz dX2_days_45 (Nat.le_refl _) (Nat.le_refl _) (.of rfl ((h.th 0).refuse _))
  refine r_aload_0 (q := 1) dX2_days_0 rfl ?_
  refine r_iconst 0 (by decide) (q := 2) dX2_days_1 rfl ?_
  refine r_put gf_X2_65_2 cl_ok_2 ft_2_7 mh_o (Nat.le_of_ble_eq_true rfl) rfl rfl (q := 5) dX2_days_2 rfl ?_
  refine J.heap mset_f7 ?_
  refine r_iload_1 (q := 6) dX2_days_5 rfl ?_
  refine r_iconst 1 (by decide) (q := 7) dX2_days_6 rfl ?_
  refine r_bipush 60 (by decide) (q := 9) dX2_days_7 rfl ?_
  refine r_callS_3 cs_X2_217 (by decide) (Nat.le_of_ble_eq_true rfl) ⟨Nat.le_refl _, Nat.le_refl _⟩ (k_X2_wrongNumber) (q := 12) dX2_days_9 rfl ?_
  refine r_istore_2 (by decide) rfl (q := 13) dX2_days_12 rfl ?_
  refine r_iload_2 (q := 14) dX2_days_13 rfl ?_
  have no34 : (¬(wi v 1 60 = 0 ∧ 999 < nI σ.1.2.2.2.2 + v)) → J G z cX2_days 3 RX2 5 0 0 0 0 34 [some (.ref m), some (.int v), some (.int (wi v 1 60))] [] n (mh m (sf7 w 0) g) := by
    intro hn
    refine r_iload_2 (q := 35) dX2_days_34 rfl ?_
    exact fin _ _ rfl (by unfold noDays; rw [if_neg hn])
  refine r_if_ne (q := 17) (tgt := 34) dX2_days_14 rfl rfl (fun c14 => ?_) (fun c14 => ?_)
  · exact no34 (fun q => c14 q.1)
  refine r_aload_0 (q := 18) dX2_days_17 rfl ?_
  refine m_getd gf_X2_106_2 K e (q := 21) dX2_days_18 rfl ?_
  refine r_iload_1 (q := 22) dX2_days_21 rfl ?_
  refine r_iadd (q := 23) dX2_days_22 rfl ?_
  refine r_sipush 999 (by decide) (q := 26) dX2_days_23 rfl ?_
  refine r_icmp_le (q := 29) (tgt := 34) dX2_days_26 rfl rfl (fun c26 => ?_) (fun c26 => ?_)
  · exact no34 (fun q => absurd q.2 (Int32.not_lt.mpr c26))
  · refine r_bipush (-6) (by decide) (q := 31) dX2_days_29 rfl ?_
    refine r_goto (q := 35) dX2_days_31 rfl ?_
    exact fin _ _ rfl (by unfold noDays; rw [if_pos ⟨c14, Int32.not_le.mp c26⟩])
theorem k_X2_behind {a b v : Int32} (h : MR w σ) : Ct G yX2_behind cX2_behind 6 (some .int) 5 0 0 [.ref m, .int a, .int b, .int v] n (mh m w g) (MPo m n g (behS σ a b v)) := by
  refine Ct.intro (k := 2) [some (.ref m), some (.int a), some (.int b), some (.int v), none, none] (by decide) (Nat.le_of_ble_eq_true rfl) rfl fun z hz hin => ?_
  obtain ⟨j, e, K⟩ := h.1
  have h6 := K.l6
  have fin : ∀ no : Int32, no = noQua σ.1 a b v → J G z cX2_behind 6 RX2 5 0 0 0 0 25 [some (.ref m), some (.int a), some (.int b), some (.int v), none, none] [.int no] n (mh m (sf7 w 0) g) := by
    intro no h1
    obtain ⟨q1, q2⟩ := no_ge (noQua_c (S := σ.1) (a := a) (b := b) (v := v))
    rw [h1]
    refine r_istore_4 (by decide) rfl (q := 27) dX2_behind_25 rfl ?_
    refine r_iload_4 (q := 29) dX2_behind_27 rfl ?_
    refine r_if_ge (q := 32) (tgt := 39) dX2_behind_29 rfl rfl (fun c29 => ?_) (fun c29 => ?_)
    · have h0 := q1 c29
      obtain ⟨t1, t2⟩ := noQua_0 h0
      obtain ⟨a', b', ha, hb, hab, rfl, rfl⟩ := areTw_t K.lens t1
      obtain ⟨vv, hv, rfl⟩ := wi_n (k := 99) rfl (by decide) t2
      have e0 : behS σ (nI a') (nI b') (nI vv) = (nI (qr (daysS vv σ.1) a' b'), σ) := by
        unfold behS
        rw [if_pos h0, cl_nI (by omega), cl_nI (by omega), cl_nI (by omega)]
      rw [e0] at hz
      refine r_aload_0 (q := 40) dX2_behind_39 rfl ?_
      refine r_callVv_0 cv_X2_178 mh_o rfl (by decide) (Nat.le_of_ble_eq_true rfl) ⟨Nat.le_refl _, Nat.le_refl _⟩ (k_X2_think K e h.l11) (q := 43) dX2_behind_40 rfl ?_
      refine r_aload_0 (q := 44) dX2_behind_43 rfl ?_
      refine r_iload_3 (q := 45) dX2_behind_44 rfl ?_
      refine r_callVv_1 cv_X2_172 mh_o rfl (by decide) (Nat.le_of_ble_eq_true rfl) ⟨Nat.le_refl _, Nat.le_refl _⟩ (k_X2_goDays K rfl (by omega)) (q := 48) dX2_behind_45 rfl ?_
      have K2 := K.days vv
      refine r_aload_0 (q := 49) dX2_behind_48 rfl ?_
      refine r_iload_1 (q := 50) dX2_behind_49 rfl ?_
      refine r_iload_2 (q := 51) dX2_behind_50 rfl ?_
      refine r_callV_2 cv_X2_79 mh_o rfl (by decide) (Nat.le_of_ble_eq_true rfl) ⟨Nat.le_refl _, Nat.le_refl _⟩ (k_X2_quarrelOf K2 rfl (by omega) (by omega)) (q := 54) dX2_behind_51 rfl ?_
      refine r_istore_5 (by decide) rfl (q := 56) dX2_behind_54 rfl ?_
      refine r_aload_0 (q := 57) dX2_behind_56 rfl ?_
      refine r_callVv_0 cv_X2_184 mh_o rfl (by decide) (Nat.le_of_ble_eq_true rfl) ⟨Nat.le_refl _, Nat.le_refl _⟩ (k_X2_again K rfl K2 rfl) (q := 60) dX2_behind_57 rfl ?_
      refine r_iload_5 (q := 62) dX2_behind_60 rfl ?_
      exact r_iret hz dX2_behind_62 (Nat.le_refl _) (Nat.le_refl _) (.of rfl ((h.th 0).fin e))
    · have hc := q2 c29
      have e0 : behS σ a b v = (noQua σ.1 a b v, rfS σ (noQua σ.1 a b v)) := if_neg (isC_ne hc)
      rw [e0] at hz
      refine r_aload_0 (q := 33) dX2_behind_32 rfl ?_
      refine r_iload_4 (q := 35) dX2_behind_33 rfl ?_
      refine r_callV_1 cv_X2_128 mh_o rfl (by decide) (Nat.le_of_ble_eq_true rfl) ⟨Nat.le_refl _, Nat.le_refl _⟩ (k_X2_refuse hc (h.th 0).l6) (q := 38) dX2_behind_35 rfl ?_
      exact r_iret hz dX2_behind_38 (Nat.le_refl _) (Nat.le_refl _) (.of rfl ((h.th 0).refuse _))
  refine r_aload_0 (q := 1) dX2_behind_0 rfl ?_
  refine r_iconst 0 (by decide) (q := 2) dX2_behind_1 rfl ?_
  refine r_put gf_X2_65_2 cl_ok_2 ft_2_7 mh_o (Nat.le_of_ble_eq_true rfl) rfl rfl (q := 5) dX2_behind_2 rfl ?_
  refine J.heap mset_f7 ?_
  refine r_aload_0 (q := 6) dX2_behind_5 rfl ?_
  refine r_iload_1 (q := 7) dX2_behind_6 rfl ?_
  refine r_iload_2 (q := 8) dX2_behind_7 rfl ?_
  refine r_callV_2 cv_X2_164 mh_o rfl (by decide) (Nat.le_of_ble_eq_true rfl) ⟨Nat.le_refl _, Nat.le_refl _⟩ (k_X2_areTwo K e) (q := 11) dX2_behind_8 rfl ?_
  refine r_if_eq (q := 14) (tgt := 24) dX2_behind_11 rfl rfl (fun c11 => ?_) (fun c11 => ?_)
  · refine r_iconst (-1) (by decide) (q := 25) dX2_behind_24 rfl ?_
    exact fin (-1) (by unfold noQua; rw [if_neg (by rw [bI_0.mp c11]; decide)])
  · refine r_iload_3 (q := 15) dX2_behind_14 rfl ?_
    refine r_iconst 0 (by decide) (q := 16) dX2_behind_15 rfl ?_
    refine r_bipush 99 (by decide) (q := 18) dX2_behind_16 rfl ?_
    refine r_callS_3 cs_X2_217 (by decide) (Nat.le_of_ble_eq_true rfl) ⟨Nat.le_refl _, Nat.le_refl _⟩ (k_X2_wrongNumber) (q := 21) dX2_behind_18 rfl ?_
    refine r_goto (q := 25) dX2_behind_21 rfl ?_
    exact fin _ (by unfold noQua; rw [if_pos (bI_n0.mp c11)])
theorem k_X2_worstTwo (K : OKM T j) (e : w.1 = mS T j) : CtE G yX2_worstTwo cX2_worstTwo 5 (some FieldType.int) 2 [.ref m] n (mh m w g) (some (.int (lawS T).1)) (mh m w g) := by
  refine Ct.intro (k := 4) [some (.ref m), none, none, none, none] (by decide) (Nat.le_of_ble_eq_true rfl) rfl fun z hz hin => ?_
  have h6 := K.l6
  refine r_bipush (-9) (by decide) (q := 2) dX2_worstTwo_0 rfl ?_
  refine r_istore_1 (by decide) rfl (q := 3) dX2_worstTwo_2 rfl ?_
  refine r_iconst (-1) (by decide) (q := 4) dX2_worstTwo_3 rfl ?_
  refine r_istore_2 (by decide) rfl (q := 5) dX2_worstTwo_4 rfl ?_
  refine r_iconst 0 (by decide) (q := 6) dX2_worstTwo_5 rfl ?_
  refine r_istore_3 (by decide) rfl (q := 7) dX2_worstTwo_6 rfl ?_
  refine forJ (f := lawI T) (σ := Int32 × Int32) T.1.length (fun _ => True) (fun a s => ∀ o4 : Option Value, lc2 o4 = false → J G z cX2_worstTwo 5 RX2 2 0 0 0 0 7 [some (.ref m), some (.int s.1), some (.int s.2), some (.int (nI a)), o4] [] n (mh m w g)) (a0 := 0) (s0 := (-9, -1)) (Nat.zero_le _) trivial (fun s _ hs o4 _ => ?_) (fun a s _ ha _ => ⟨trivial, fun next o4 _ => ?_⟩) none rfl
  · refine r_iload_3 (q := 8) dX2_worstTwo_7 rfl ?_
    refine r_aload_0 (q := 9) dX2_worstTwo_8 rfl ?_
    refine m_getp gf_X2_68_2 K e (q := 12) dX2_worstTwo_9 rfl ?_
    refine r_icmp_ge (q := 15) (tgt := 87) dX2_worstTwo_12 rfl rfl (fun c12 => ?_) (fun c12 => ?_)
    · rw [← show s = lawS T from hs] at hz
      refine r_iload_1 (q := 88) dX2_worstTwo_87 rfl ?_
      exact r_iret hz dX2_worstTwo_88 (Nat.le_refl _) (Nat.le_refl _) ⟨rfl, rfl, rfl⟩
    · exact absurd (Int32.le_refl _) c12
  · refine r_iload_3 (q := 8) dX2_worstTwo_7 rfl ?_
    refine r_aload_0 (q := 9) dX2_worstTwo_8 rfl ?_
    refine m_getp gf_X2_68_2 K e (q := 12) dX2_worstTwo_9 rfl ?_
    refine r_icmp_ge (q := 15) (tgt := 87) dX2_worstTwo_12 rfl rfl (fun c12 => ?_) (fun c12 => ?_)
    · exact absurd c12 (nI_not_lt ha (by omega))
    refine r_iload_3 (q := 16) dX2_worstTwo_15 rfl ?_
    refine r_iconst 1 (by decide) (q := 17) dX2_worstTwo_16 rfl ?_
    refine r_iadd (q := 18) dX2_worstTwo_17 rfl ?_
    refine J.topi (nI_1 _) ?_
    refine r_istore_4 (by decide) rfl (q := 20) dX2_worstTwo_18 rfl ?_
    refine forJ (f := lawF T a) (σ := Int32 × Int32) T.1.length (fun _ => True) (fun b s => J G z cX2_worstTwo 5 RX2 2 0 0 0 0 20 [some (.ref m), some (.int s.1), some (.int s.2), some (.int (nI a)), some (.int (nI b))] [] n (mh m w g)) (a0 := a + 1) (s0 := s) ha trivial (fun s' _ hs => ?_) (fun b s' _ hb _ => ⟨trivial, fun next' => ?_⟩)
    · refine r_iload_4 (q := 22) dX2_worstTwo_20 rfl ?_
      refine r_aload_0 (q := 23) dX2_worstTwo_22 rfl ?_
      refine m_getp gf_X2_68_2 K e (q := 26) dX2_worstTwo_23 rfl ?_
      refine r_icmp_ge (q := 29) (tgt := 81) dX2_worstTwo_26 rfl rfl (fun c26 => ?_) (fun c26 => ?_)
      · refine r_inc_3 (by decide) rfl (q := 84) dX2_worstTwo_81 rfl ?_
        refine r_goto (q := 7) dX2_worstTwo_84 rfl ?_
        subst hs
        exact next _ rfl
      · exact absurd (Int32.le_refl _) c26
    · refine r_iload_4 (q := 22) dX2_worstTwo_20 rfl ?_
      refine r_aload_0 (q := 23) dX2_worstTwo_22 rfl ?_
      refine m_getp gf_X2_68_2 K e (q := 26) dX2_worstTwo_23 rfl ?_
      refine r_icmp_ge (q := 29) (tgt := 81) dX2_worstTwo_26 rfl rfl (fun c26 => ?_) (fun c26 => ?_)
      · exact absurd c26 (nI_not_lt hb (by omega))
      unfold lawF at next'
      refine r_aload_0 (q := 30) dX2_worstTwo_29 rfl ?_
      refine r_iload_3 (q := 31) dX2_worstTwo_30 rfl ?_
      refine r_iload_4 (q := 33) dX2_worstTwo_31 rfl ?_
      refine r_callV_2 cv_X2_79 mh_o rfl (by decide) (Nat.le_of_ble_eq_true rfl) ⟨Nat.le_refl _, Nat.le_refl _⟩ (k_X2_quarrelOf K e (by omega) (by omega)) (q := 36) dX2_worstTwo_33 rfl ?_
      refine r_iload_2 (q := 37) dX2_worstTwo_36 rfl ?_
      refine r_icmp_le (q := 40) (tgt := 50) dX2_worstTwo_37 rfl rfl (fun c37 => ?_) (fun c37 => ?_)
      · rw [if_pos c37] at next'
        refine r_iload_1 (q := 51) dX2_worstTwo_50 rfl ?_
        refine r_istore_1 (by decide) rfl (q := 52) dX2_worstTwo_51 rfl ?_
        refine r_aload_0 (q := 53) dX2_worstTwo_52 rfl ?_
        refine r_iload_3 (q := 54) dX2_worstTwo_53 rfl ?_
        refine r_iload_4 (q := 56) dX2_worstTwo_54 rfl ?_
        refine r_callV_2 cv_X2_79 mh_o rfl (by decide) (Nat.le_of_ble_eq_true rfl) ⟨Nat.le_refl _, Nat.le_refl _⟩ (k_X2_quarrelOf K e (by omega) (by omega)) (q := 59) dX2_worstTwo_56 rfl ?_
        refine r_iload_2 (q := 60) dX2_worstTwo_59 rfl ?_
        refine r_icmp_le (q := 63) (tgt := 73) dX2_worstTwo_60 rfl rfl (fun c60 => ?_) (fun c60 => ?_)
        · refine r_iload_2 (q := 74) dX2_worstTwo_73 rfl ?_
          refine r_istore_2 (by decide) rfl (q := 75) dX2_worstTwo_74 rfl ?_
          refine r_inc_4 (by decide) rfl (q := 78) dX2_worstTwo_75 rfl ?_
          refine r_goto (q := 20) dX2_worstTwo_78 rfl ?_
          exact next'
        · exact absurd c37 c60
      · rw [if_neg c37] at next'
        refine r_bipush 10 (by decide) (q := 42) dX2_worstTwo_40 rfl ?_
        refine r_iload_3 (q := 43) dX2_worstTwo_42 rfl ?_
        refine r_imul (q := 44) dX2_worstTwo_43 rfl ?_
        refine r_iload_4 (q := 46) dX2_worstTwo_44 rfl ?_
        refine r_iadd (q := 47) dX2_worstTwo_46 rfl ?_
        refine r_goto (q := 51) dX2_worstTwo_47 rfl ?_
        refine r_istore_1 (by decide) rfl (q := 52) dX2_worstTwo_51 rfl ?_
        refine r_aload_0 (q := 53) dX2_worstTwo_52 rfl ?_
        refine r_iload_3 (q := 54) dX2_worstTwo_53 rfl ?_
        refine r_iload_4 (q := 56) dX2_worstTwo_54 rfl ?_
        refine r_callV_2 cv_X2_79 mh_o rfl (by decide) (Nat.le_of_ble_eq_true rfl) ⟨Nat.le_refl _, Nat.le_refl _⟩ (k_X2_quarrelOf K e (by omega) (by omega)) (q := 59) dX2_worstTwo_56 rfl ?_
        refine r_iload_2 (q := 60) dX2_worstTwo_59 rfl ?_
        refine r_icmp_le (q := 63) (tgt := 73) dX2_worstTwo_60 rfl rfl (fun c60 => ?_) (fun c60 => ?_)
        · exact absurd c60 c37
        · refine r_aload_0 (q := 64) dX2_worstTwo_63 rfl ?_
          refine r_iload_3 (q := 65) dX2_worstTwo_64 rfl ?_
          refine r_iload_4 (q := 67) dX2_worstTwo_65 rfl ?_
          refine r_callV_2 cv_X2_79 mh_o rfl (by decide) (Nat.le_of_ble_eq_true rfl) ⟨Nat.le_refl _, Nat.le_refl _⟩ (k_X2_quarrelOf K e (by omega) (by omega)) (q := 70) dX2_worstTwo_67 rfl ?_
          refine r_goto (q := 74) dX2_worstTwo_70 rfl ?_
          refine r_istore_2 (by decide) rfl (q := 75) dX2_worstTwo_74 rfl ?_
          refine r_inc_4 (by decide) rfl (q := 78) dX2_worstTwo_75 rfl ?_
          refine r_goto (q := 20) dX2_worstTwo_78 rfl ?_
          exact next'
end MO1


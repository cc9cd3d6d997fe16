/-! ===== PrayerMatsFaceModel: days in mind, who leaves, mates ===== -/
section MO2
variable {G : GD} {n m : Nat} {w : MW} {g : RH} {σ : SG} {T T0 : SQ} {j j0 : List PP}
theorem k_X2_all {v what : Int32} (h : MR w σ) : Ct G yX2_all cX2_all 5 (some .int) 5 0 0 [.ref m, .int v, .int what] n (mh m w g) (MPo m n g (xallS σ v what)) := by
  refine Ct.intro (k := 2) [some (.ref m), some (.int v), some (.int what), none, none] (by decide) (Nat.le_of_ble_eq_true rfl) rfl fun z hz hin => ?_
  obtain ⟨j, e, K⟩ := h.1
  have h6 := K.l6
  obtain ⟨q1, q2⟩ := no_ge (noAll_c (v := v) (what := what))
  refine r_aload_0 (q := 1) dX2_all_0 rfl ?_
  refine r_iconst 0 (by decide) (q := 2) dX2_all_1 rfl ?_
  refine r_put gf_X2_65_2 cl_ok_2 ft_2_7 mh_o (Nat.le_of_ble_eq_true rfl) rfl rfl (q := 5) dX2_all_2 rfl ?_
  refine J.heap mset_f7 ?_
  refine r_iload_1 (q := 6) dX2_all_5 rfl ?_
  refine r_iconst 0 (by decide) (q := 7) dX2_all_6 rfl ?_
  refine r_bipush 99 (by decide) (q := 9) dX2_all_7 rfl ?_
  refine r_callS_3 cs_X2_217 (by decide) (Nat.le_of_ble_eq_true rfl) ⟨Nat.le_refl _, Nat.le_refl _⟩ (k_X2_wrongNumber) (q := 12) dX2_all_9 rfl ?_
  refine r_iload_2 (q := 13) dX2_all_12 rfl ?_
  refine r_iconst 2 (by decide) (q := 14) dX2_all_13 rfl ?_
  refine r_callS_3 cs_X2_211 (by decide) (Nat.le_of_ble_eq_true rfl) ⟨Nat.le_refl _, Nat.le_refl _⟩ (k_X2_wrongBit) (q := 17) dX2_all_14 rfl ?_
  refine J.topi (x := wbI (wi v 0 99) what 2) wbI_all ?_
  refine r_istore_3 (by decide) rfl (q := 18) dX2_all_17 rfl ?_
  refine r_iload_3 (q := 19) dX2_all_18 rfl ?_
  refine r_if_ge (q := 22) (tgt := 28) dX2_all_19 rfl rfl (fun c19 => ?_) (fun c19 => ?_)
  · have h0 := q1 c19
    have e0 : xallS σ v what = (if what = 0 then allS (daysS (cl v) σ.1) else if what = 1 then zerosS (daysS (cl v) σ.1) else (lawS (daysS (cl v) σ.1)).1, σ) := if_pos h0
    rw [e0] at hz
    have hv : wi v 0 99 = 0 := by
      unfold noAll at h0
      split at h0
      · exact absurd h0 (by decide)
      · exact h0
    obtain ⟨vv, hv9, rfl⟩ := wi_n (k := 99) rfl (by decide) hv
    rw [cl_nI (by omega)] at hz
    have K2 := K.days vv
    have fin : ∀ v : Int32, v = (if what = 0 then allS (daysS vv σ.1) else if what = 1 then zerosS (daysS vv σ.1) else (lawS (daysS vv σ.1)).1) → J G z cX2_all 5 RX2 5 0 0 0 0 64 [some (.ref m), some (.int (nI vv)), some (.int what), some (.int (noAll (nI vv) what)), none] [.int v] n (mh m (sS (cw11 m (sf7 w 0) 1 (mS σ.1 j) (encS (mS σ.1 j)) 62) (mS (daysS vv σ.1) j)) g) := by
      intro v hv
      subst hv
      refine r_istore_4 (by decide) rfl (q := 66) dX2_all_64 rfl ?_
      refine r_aload_0 (q := 67) dX2_all_66 rfl ?_
      refine r_callVv_0 cv_X2_184 mh_o rfl (by decide) (Nat.le_of_ble_eq_true rfl) ⟨Nat.le_refl _, Nat.le_refl _⟩ (k_X2_again K rfl K2 rfl) (q := 70) dX2_all_67 rfl ?_
      refine r_iload_4 (q := 72) dX2_all_70 rfl ?_
      exact r_iret hz dX2_all_72 (Nat.le_refl _) (Nat.le_refl _) (.of rfl ((h.th 0).fin e))
    refine r_aload_0 (q := 29) dX2_all_28 rfl ?_
    refine r_callVv_0 cv_X2_178 mh_o rfl (by decide) (Nat.le_of_ble_eq_true rfl) ⟨Nat.le_refl _, Nat.le_refl _⟩ (k_X2_think K e h.l11) (q := 32) dX2_all_29 rfl ?_
    refine r_aload_0 (q := 33) dX2_all_32 rfl ?_
    refine r_iload_1 (q := 34) dX2_all_33 rfl ?_
    refine r_callVv_1 cv_X2_172 mh_o rfl (by decide) (Nat.le_of_ble_eq_true rfl) ⟨Nat.le_refl _, Nat.le_refl _⟩ (k_X2_goDays K rfl (by omega)) (q := 37) dX2_all_34 rfl ?_
    refine r_iload_2 (q := 38) dX2_all_37 rfl ?_
    refine r_if_ne (q := 41) (tgt := 48) dX2_all_38 rfl rfl (fun c38 => ?_) (fun c38 => ?_)
    · refine r_iload_2 (q := 49) dX2_all_48 rfl ?_
      refine r_iconst 1 (by decide) (q := 50) dX2_all_49 rfl ?_
      refine r_icmp_ne (q := 53) (tgt := 60) dX2_all_50 rfl rfl (fun c50 => ?_) (fun c50 => ?_)
      · refine r_aload_0 (q := 61) dX2_all_60 rfl ?_
        refine r_callV_0 cv_X2_232 mh_o rfl (by decide) (Nat.le_of_ble_eq_true rfl) ⟨Nat.le_refl _, Nat.le_refl _⟩ (k_X2_worstTwo K2 rfl) (q := 64) dX2_all_61 rfl ?_
        exact fin _ (by rw [if_neg c38, if_neg c50])
      · refine r_aload_0 (q := 54) dX2_all_53 rfl ?_
        refine r_callV_0 cv_X2_229 mh_o rfl (by decide) (Nat.le_of_ble_eq_true rfl) ⟨Nat.le_refl _, Nat.le_refl _⟩ (k_X2_zerosOf K2 rfl) (q := 57) dX2_all_54 rfl ?_
        refine r_goto (q := 64) dX2_all_57 rfl ?_
        exact fin _ (by rw [if_neg c38, if_pos c50])
    · refine r_aload_0 (q := 42) dX2_all_41 rfl ?_
      refine r_callV_0 cv_X2_226 mh_o rfl (by decide) (Nat.le_of_ble_eq_true rfl) ⟨Nat.le_refl _, Nat.le_refl _⟩ (k_X2_allOf K2 rfl) (q := 45) dX2_all_42 rfl ?_
      refine r_goto (q := 64) dX2_all_45 rfl ?_
      exact fin _ (by rw [if_pos c38])
  · have hc := q2 c19
    have e0 : xallS σ v what = (noAll v what, rfS σ (noAll v what)) := if_neg (isC_ne hc)
    rw [e0] at hz
    refine r_aload_0 (q := 23) dX2_all_22 rfl ?_
    refine r_iload_3 (q := 24) dX2_all_23 rfl ?_
    refine r_callV_1 cv_X2_128 mh_o rfl (by decide) (Nat.le_of_ble_eq_true rfl) ⟨Nat.le_refl _, Nat.le_refl _⟩ (k_X2_refuse hc (h.th 0).l6) (q := 27) dX2_all_24 rfl ?_
    exact r_iret hz dX2_all_27 (Nat.le_refl _) (Nat.le_refl _) (.of rfl ((h.th 0).refuse _))
theorem told_nI {k : Nat} (h : k < 100) : toldI (nI k) = nI k := if_neg (fun q => by have := nI_inj (b := 100) (by omega) (by omega) q; omega)
theorem k_X2_zeroIn {a b : Nat} (K : OKM T j) (e : w.1 = mS T j) (K0 : OKM T0 j0) (hk : ma11 w = encS (mS T0 j0)) (ha : a < 6) (hb : b < 6) : CtE G yX2_zeroIn cX2_zeroIn 5 (some FieldType.int) 4 [.ref m, .int (nI a), .int (nI b)] n (mh m w g) (some (.int (toldI (zin a b 100 0 T)))) (mh m (cw11 m w 0 (mS T0 j0) (encS (mS T0 j0)) 62) g) := by
  obtain ⟨s0, w2⟩ := w
  have e : s0 = mS T j := e
  subst e
  refine Ct.intro (k := 2) [some (.ref m), some (.int (nI a)), some (.int (nI b)), none, none] (by decide) (Nat.le_of_ble_eq_true rfl) rfl fun z hz hin => ?_
  have stop : ∀ (v : Int32) (S : SQ) (k : Nat), OKM S j → v = toldI (zin a b 100 0 T) → J G z cX2_zeroIn 5 RX2 4 0 0 0 0 48 [some (.ref m), some (.int (nI a)), some (.int (nI b)), some (.int v), some (.int (nI k))] [] n (mh m (mS S j, w2) g) := by
    intro v S k hS hv
    subst hv
    refine r_aload_0 (q := 49) dX2_zeroIn_48 rfl ?_
    refine r_callVv_0 cv_X2_184 mh_o rfl (by decide) (Nat.le_of_ble_eq_true rfl) ⟨Nat.le_refl _, Nat.le_refl _⟩ (k_X2_again K0 rfl hS hk) (q := 52) dX2_zeroIn_49 rfl ?_
    refine r_iload_3 (q := 53) dX2_zeroIn_52 rfl ?_
    exact r_iret hz dX2_zeroIn_53 (Nat.le_refl _) (Nat.le_refl _) ⟨rfl, rfl, rfl⟩
  have loop : ∀ (c k : Nat) (S : SQ), k + c = 100 → OKM S j → toldI (zin a b c k S) = toldI (zin a b 100 0 T) → J G z cX2_zeroIn 5 RX2 4 0 0 0 0 6 [some (.ref m), some (.int (nI a)), some (.int (nI b)), some (.int (-9)), some (.int (nI k))] [] n (mh m (mS S j, w2) g) := by
    intro c
    induction c with
    | zero =>
      intro k S h1 h2 h3
      refine r_iload_4 (q := 8) dX2_zeroIn_6 rfl ?_
      refine r_bipush 99 (by decide) (q := 10) dX2_zeroIn_8 rfl ?_
      refine r_icmp_gt (q := 13) (tgt := 48) dX2_zeroIn_10 rfl rfl (fun c10 => ?_) (fun c10 => ?_)
      · exact stop (-9) S k h2 h3
      · exact absurd (nI_lt (a := 99) (b := k) (by omega) (by omega)) c10
    | succ c ih =>
      intro k S h1 h2 h3
      have hq := h2.qr99 a b
      refine r_iload_4 (q := 8) dX2_zeroIn_6 rfl ?_
      refine r_bipush 99 (by decide) (q := 10) dX2_zeroIn_8 rfl ?_
      refine r_icmp_gt (q := 13) (tgt := 48) dX2_zeroIn_10 rfl rfl (fun c10 => ?_) (fun c10 => ?_)
      · exact absurd c10 (nI_nlt (a := 99) (b := k) (by omega) (by omega))
      refine r_iload_3 (q := 14) dX2_zeroIn_13 rfl ?_
      refine r_if_ge (q := 17) (tgt := 48) dX2_zeroIn_14 rfl rfl (fun c14 => ?_) (fun c14 => ?_)
      · exact absurd c14 (by decide)
      refine r_aload_0 (q := 18) dX2_zeroIn_17 rfl ?_
      refine r_iload_1 (q := 19) dX2_zeroIn_18 rfl ?_
      refine r_iload_2 (q := 20) dX2_zeroIn_19 rfl ?_
      refine r_callV_2 cv_X2_79 mh_o rfl (by decide) (Nat.le_of_ble_eq_true rfl) ⟨Nat.le_refl _, Nat.le_refl _⟩ (k_X2_quarrelOf h2 rfl (by omega) (by omega)) (q := 23) dX2_zeroIn_20 rfl ?_
      have h3 : toldI (if qr S a b = 0 then nI k else zin a b c (k + 1) (goesS S)) = toldI (zin a b 100 0 T) := h3
      refine r_if_ne (q := 26) (tgt := 31) dX2_zeroIn_23 rfl rfl (fun c23 => ?_) (fun c23 => ?_)
      · rw [if_neg (fun q => c23 (by rw [q]; rfl))] at h3
        refine r_bipush (-9) (by decide) (q := 33) dX2_zeroIn_31 rfl ?_
        refine r_istore_3 (by decide) rfl (q := 34) dX2_zeroIn_33 rfl ?_
        refine r_aload_0 (q := 35) dX2_zeroIn_34 rfl ?_
        refine r_bipush (-9) (by decide) (q := 37) dX2_zeroIn_35 rfl ?_
        refine r_bipush (-9) (by decide) (q := 39) dX2_zeroIn_37 rfl ?_
        refine r_callVv_2 cv_X2_117 mh_o rfl (by decide) (Nat.le_of_ble_eq_true rfl) ⟨Nat.le_refl _, Nat.le_refl _⟩ (k_X2_day h2 rfl) (q := 42) dX2_zeroIn_39 rfl ?_
        refine r_inc_4 (by decide) rfl (q := 45) dX2_zeroIn_42 rfl ?_
        refine r_goto (q := 6) dX2_zeroIn_45 rfl ?_
        exact ih (k + 1) (goesS S) (by omega) h2.goes h3
      · rw [if_pos (nI_inj (b := 0) (by omega) (by omega) c23), told_nI (by omega)] at h3
        refine r_iload_4 (q := 28) dX2_zeroIn_26 rfl ?_
        refine r_goto (q := 33) dX2_zeroIn_28 rfl ?_
        refine r_istore_3 (by decide) rfl (q := 34) dX2_zeroIn_33 rfl ?_
        refine r_aload_0 (q := 35) dX2_zeroIn_34 rfl ?_
        refine r_bipush (-9) (by decide) (q := 37) dX2_zeroIn_35 rfl ?_
        refine r_bipush (-9) (by decide) (q := 39) dX2_zeroIn_37 rfl ?_
        refine r_callVv_2 cv_X2_117 mh_o rfl (by decide) (Nat.le_of_ble_eq_true rfl) ⟨Nat.le_refl _, Nat.le_refl _⟩ (k_X2_day h2 rfl) (q := 42) dX2_zeroIn_39 rfl ?_
        refine r_inc_4 (by decide) rfl (q := 45) dX2_zeroIn_42 rfl ?_
        refine r_goto (q := 6) dX2_zeroIn_45 rfl ?_
        refine r_iload_4 (q := 8) dX2_zeroIn_6 rfl ?_
        refine r_bipush 99 (by decide) (q := 10) dX2_zeroIn_8 rfl ?_
        refine r_icmp_gt (q := 13) (tgt := 48) dX2_zeroIn_10 rfl rfl (fun c10 => ?_) (fun c10 => ?_)
        · exact stop _ _ _ h2.goes h3
        refine r_iload_3 (q := 14) dX2_zeroIn_13 rfl ?_
        refine r_if_ge (q := 17) (tgt := 48) dX2_zeroIn_14 rfl rfl (fun c14 => ?_) (fun c14 => ?_)
        · exact stop _ _ _ h2.goes h3
        · exact absurd (nI_pos' (by omega)) c14
  refine r_bipush (-9) (by decide) (q := 2) dX2_zeroIn_0 rfl ?_
  refine r_istore_3 (by decide) rfl (q := 3) dX2_zeroIn_2 rfl ?_
  refine r_iconst 0 (by decide) (q := 4) dX2_zeroIn_3 rfl ?_
  refine r_istore_4 (by decide) rfl (q := 6) dX2_zeroIn_4 rfl ?_
  exact loop 100 0 T rfl K rfl
theorem k_X2_mended {a b : Int32} (h : MR w σ) : Ct G yX2_mended cX2_mended 3 (some .int) 5 0 0 [.ref m, .int a, .int b] n (mh m w g) (MPo m n g (mendS σ a b)) := by
  refine Ct.intro (k := 0) [some (.ref m), some (.int a), some (.int b)] (by decide) (Nat.le_of_ble_eq_true rfl) rfl fun z hz hin => ?_
  obtain ⟨j, e, K⟩ := h.1
  have h6 := K.l6
  unfold mendS at hz
  refine r_aload_0 (q := 1) dX2_mended_0 rfl ?_
  refine r_iconst 0 (by decide) (q := 2) dX2_mended_1 rfl ?_
  refine r_put gf_X2_65_2 cl_ok_2 ft_2_7 mh_o (Nat.le_of_ble_eq_true rfl) rfl rfl (q := 5) dX2_mended_2 rfl ?_
  refine J.heap mset_f7 ?_
  refine r_aload_0 (q := 6) dX2_mended_5 rfl ?_
  refine r_iload_1 (q := 7) dX2_mended_6 rfl ?_
  refine r_iload_2 (q := 8) dX2_mended_7 rfl ?_
  refine r_callV_2 cv_X2_164 mh_o rfl (by decide) (Nat.le_of_ble_eq_true rfl) ⟨Nat.le_refl _, Nat.le_refl _⟩ (k_X2_areTwo K e) (q := 11) dX2_mended_8 rfl ?_
  refine r_if_ne (q := 14) (tgt := 20) dX2_mended_11 rfl rfl (fun c11 => ?_) (fun c11 => ?_)
  · have t1 := bI_n0.mp c11
    rw [if_pos t1] at hz
    obtain ⟨a', b', ha, hb, hab, rfl, rfl⟩ := areTw_t K.lens t1
    rw [cl_nI (by omega), cl_nI (by omega)] at hz
    refine r_aload_0 (q := 21) dX2_mended_20 rfl ?_
    refine r_callVv_0 cv_X2_178 mh_o rfl (by decide) (Nat.le_of_ble_eq_true rfl) ⟨Nat.le_refl _, Nat.le_refl _⟩ (k_X2_think K e h.l11) (q := 24) dX2_mended_21 rfl ?_
    refine r_aload_0 (q := 25) dX2_mended_24 rfl ?_
    refine r_iload_1 (q := 26) dX2_mended_25 rfl ?_
    refine r_iload_2 (q := 27) dX2_mended_26 rfl ?_
    refine r_callV_2 cv_X2_235 mh_o rfl (by decide) (Nat.le_of_ble_eq_true rfl) ⟨Nat.le_refl _, Nat.le_refl _⟩ (k_X2_zeroIn K rfl K rfl (by omega) (by omega)) (q := 30) dX2_mended_27 rfl ?_
    exact r_iret hz dX2_mended_30 (Nat.le_refl _) (Nat.le_refl _) (.of rfl ((h.th 0).fin e))
  · rw [if_neg (by rw [bI_0.mp c11]; decide)] at hz
    refine r_aload_0 (q := 15) dX2_mended_14 rfl ?_
    refine r_iconst (-1) (by decide) (q := 16) dX2_mended_15 rfl ?_
    refine r_callV_1 cv_X2_128 mh_o rfl (by decide) (Nat.le_of_ble_eq_true rfl) ⟨Nat.le_refl _, Nat.le_refl _⟩ (k_X2_refuse isC_1 (h.th 0).l6) (q := 19) dX2_mended_16 rfl ?_
    exact r_iret hz dX2_mended_19 (Nat.le_refl _) (Nat.le_refl _) (.of rfl ((h.th 0).refuse _))
theorem k_X2_soonest {a b : Int32} (h : MR w σ) : Ct G yX2_soonest cX2_soonest 3 (some .int) 5 0 0 [.ref m, .int a, .int b] n (mh m w g) (MPo m n g (soonS σ a b)) := by
  refine Ct.intro (k := 0) [some (.ref m), some (.int a), some (.int b)] (by decide) (Nat.le_of_ble_eq_true rfl) rfl fun z hz hin => ?_
  obtain ⟨j, e, K⟩ := h.1
  have h6 := K.l6
  unfold soonS at hz
  refine r_aload_0 (q := 1) dX2_soonest_0 rfl ?_
  refine r_iconst 0 (by decide) (q := 2) dX2_soonest_1 rfl ?_
  refine r_put gf_X2_65_2 cl_ok_2 ft_2_7 mh_o (Nat.le_of_ble_eq_true rfl) rfl rfl (q := 5) dX2_soonest_2 rfl ?_
  refine J.heap mset_f7 ?_
  refine r_aload_0 (q := 6) dX2_soonest_5 rfl ?_
  refine r_iload_1 (q := 7) dX2_soonest_6 rfl ?_
  refine r_iload_2 (q := 8) dX2_soonest_7 rfl ?_
  refine r_callV_2 cv_X2_164 mh_o rfl (by decide) (Nat.le_of_ble_eq_true rfl) ⟨Nat.le_refl _, Nat.le_refl _⟩ (k_X2_areTwo K e) (q := 11) dX2_soonest_8 rfl ?_
  refine r_if_ne (q := 14) (tgt := 20) dX2_soonest_11 rfl rfl (fun c11 => ?_) (fun c11 => ?_)
  · have t1 := bI_n0.mp c11
    rw [if_pos t1] at hz
    obtain ⟨a', b', ha, hb, hab, rfl, rfl⟩ := areTw_t K.lens t1
    rw [cl_nI (by omega), cl_nI (by omega)] at hz
    refine r_aload_0 (q := 21) dX2_soonest_20 rfl ?_
    refine r_callVv_0 cv_X2_178 mh_o rfl (by decide) (Nat.le_of_ble_eq_true rfl) ⟨Nat.le_refl _, Nat.le_refl _⟩ (k_X2_think K e h.l11) (q := 24) dX2_soonest_21 rfl ?_
    refine r_aload_0 (q := 25) dX2_soonest_24 rfl ?_
    refine r_iload_1 (q := 26) dX2_soonest_25 rfl ?_
    refine r_iload_2 (q := 27) dX2_soonest_26 rfl ?_
    refine r_callVv_2 cv_X2_125 mh_o rfl (by decide) (Nat.le_of_ble_eq_true rfl) ⟨Nat.le_refl _, Nat.le_refl _⟩ (k_X2_join K rfl ha hb) (q := 30) dX2_soonest_27 rfl ?_
    refine r_aload_0 (q := 31) dX2_soonest_30 rfl ?_
    refine r_iload_1 (q := 32) dX2_soonest_31 rfl ?_
    refine r_iload_2 (q := 33) dX2_soonest_32 rfl ?_
    refine r_callV_2 cv_X2_235 mh_o rfl (by decide) (Nat.le_of_ble_eq_true rfl) ⟨Nat.le_refl _, Nat.le_refl _⟩ (k_X2_zeroIn (K.join ha hb hab) rfl K rfl (by omega) (by omega)) (q := 36) dX2_soonest_33 rfl ?_
    exact r_iret hz dX2_soonest_36 (Nat.le_refl _) (Nat.le_refl _) (.of rfl ((h.th 0).fin e))
  · rw [if_neg (by rw [bI_0.mp c11]; decide)] at hz
    refine r_aload_0 (q := 15) dX2_soonest_14 rfl ?_
    refine r_iconst (-1) (by decide) (q := 16) dX2_soonest_15 rfl ?_
    refine r_callV_1 cv_X2_128 mh_o rfl (by decide) (Nat.le_of_ble_eq_true rfl) ⟨Nat.le_refl _, Nat.le_refl _⟩ (k_X2_refuse isC_1 (h.th 0).l6) (q := 19) dX2_soonest_16 rfl ?_
    exact r_iret hz dX2_soonest_19 (Nat.le_refl _) (Nat.le_refl _) (.of rfl ((h.th 0).refuse _))
theorem k_X2_never (h : MR w σ) : Ct G yX2_never cX2_never 3 (some .int) 5 0 0 [.ref m] n (mh m w g) (MPo m n g (neverS σ)) := by
  refine Ct.intro (k := 2) [some (.ref m), none, none] (by decide) (Nat.le_of_ble_eq_true rfl) rfl fun z hz hin => ?_
  obtain ⟨j, e, K⟩ := h.1
  have h6 := K.l6
  have K2 := K.days 99
  unfold neverS at hz
  generalize hD : daysS 99 σ.1 = D at K2 hz
  have l2 := K2.l6
  refine r_aload_0 (q := 1) dX2_never_0 rfl ?_
  refine r_iconst 0 (by decide) (q := 2) dX2_never_1 rfl ?_
  refine r_put gf_X2_65_2 cl_ok_2 ft_2_7 mh_o (Nat.le_of_ble_eq_true rfl) rfl rfl (q := 5) dX2_never_2 rfl ?_
  refine J.heap mset_f7 ?_
  refine r_iconst 0 (by decide) (q := 6) dX2_never_5 rfl ?_
  refine r_istore_1 (by decide) rfl (q := 7) dX2_never_6 rfl ?_
  refine r_aload_0 (q := 8) dX2_never_7 rfl ?_
  refine r_callVv_0 cv_X2_178 mh_o rfl (by decide) (Nat.le_of_ble_eq_true rfl) ⟨Nat.le_refl _, Nat.le_refl _⟩ (k_X2_think K e h.l11) (q := 11) dX2_never_8 rfl ?_
  refine r_aload_0 (q := 12) dX2_never_11 rfl ?_
  refine r_bipush 99 (by decide) (q := 14) dX2_never_12 rfl ?_
  refine r_callVv_1 cv_X2_172 mh_o rfl (by decide) (Nat.le_of_ble_eq_true rfl) ⟨Nat.le_refl _, Nat.le_refl _⟩ (k_X2_goDays (c := 99) K rfl (by omega)) (q := 17) dX2_never_14 rfl ?_
  rw [hD]
  refine r_iconst 0 (by decide) (q := 18) dX2_never_17 rfl ?_
  refine r_istore_2 (by decide) rfl (q := 19) dX2_never_18 rfl ?_
  refine forJ (f := nevF D) (σ := Int32) D.1.length (fun _ => True) (fun a s => J G z cX2_never 3 RX2 5 0 0 0 0 19 [some (.ref m), some (.int s), some (.int (nI a))] [] n (mh m (sS (cw11 m (sf7 w 0) 1 (mS σ.1 j) (encS (mS σ.1 j)) 62) (mS D j)) g)) (a0 := 0) (s0 := 0) (Nat.zero_le _) trivial (fun s _ hs => ?_) (fun a s _ ha _ => ⟨trivial, fun next => ?_⟩)
  · refine r_iload_2 (q := 20) dX2_never_19 rfl ?_
    refine r_aload_0 (q := 21) dX2_never_20 rfl ?_
    refine m_getp gf_X2_68_2 K2 rfl (q := 24) dX2_never_21 rfl ?_
    refine r_icmp_ge (q := 27) (tgt := 65) dX2_never_24 rfl rfl (fun c24 => ?_) (fun c24 => ?_)
    · rw [← show s = nevS D from hs] at hz
      refine r_aload_0 (q := 66) dX2_never_65 rfl ?_
      refine r_callVv_0 cv_X2_184 mh_o rfl (by decide) (Nat.le_of_ble_eq_true rfl) ⟨Nat.le_refl _, Nat.le_refl _⟩ (k_X2_againT K K2) (q := 69) dX2_never_66 rfl ?_
      refine r_iload_1 (q := 70) dX2_never_69 rfl ?_
      exact r_iret hz dX2_never_70 (Nat.le_refl _) (Nat.le_refl _) (.of rfl ((h.th 0).fin e))
    · exact absurd (Int32.le_refl _) c24
  · have go : ∀ v : Int32, s + v = nevF D a s → J G z cX2_never 3 RX2 5 0 0 0 0 57 [some (.ref m), some (.int s), some (.int (nI a))] [.int v, .int s] n (mh m (sS (cw11 m (sf7 w 0) 1 (mS σ.1 j) (encS (mS σ.1 j)) 62) (mS D j)) g) := by
      intro v hv
      refine r_iadd (q := 58) dX2_never_57 rfl ?_
      rw [hv]
      refine r_istore_1 (by decide) rfl (q := 59) dX2_never_58 rfl ?_
      refine r_inc_2 (by decide) rfl (q := 62) dX2_never_59 rfl ?_
      refine r_goto (q := 19) dX2_never_62 rfl ?_
      exact next
    refine r_iload_2 (q := 20) dX2_never_19 rfl ?_
    refine r_aload_0 (q := 21) dX2_never_20 rfl ?_
    refine m_getp gf_X2_68_2 K2 rfl (q := 24) dX2_never_21 rfl ?_
    refine r_icmp_ge (q := 27) (tgt := 65) dX2_never_24 rfl rfl (fun c24 => ?_) (fun c24 => ?_)
    · exact absurd c24 (nI_not_lt ha (by omega))
    refine r_iload_1 (q := 28) dX2_never_27 rfl ?_
    refine r_aload_0 (q := 29) dX2_never_28 rfl ?_
    refine r_get gf_X2_19_2 mh_o rfl (q := 32) dX2_never_29 rfl ?_
    refine r_iload_2 (q := 33) dX2_never_32 rfl ?_
    refine m_ald4 K2 rfl (by omega) (q := 34) dX2_never_33 rfl ?_
    refine r_iload_2 (q := 35) dX2_never_34 rfl ?_
    have hm := mI_le (o := mt D a) (a := a) (by omega) (fun c hc => Nat.lt_trans (K2.mt6 hc) (by decide))
    cases em : mt D a with
    | none =>
      rw [em] at hm
      refine r_icmp_le (q := 38) (tgt := 56) dX2_never_35 rfl rfl (fun c35 => ?_) (fun c35 => ?_)
      · refine r_iconst 0 (by decide) (q := 57) dX2_never_56 rfl ?_
        exact go 0 (by unfold nevF; rw [em])
      · exact absurd (hm.mpr (fun b q => by cases q)) c35
    | some b =>
      have hb := K2.mt6 em
      have hq := K2.qr99 a b
      rw [em] at hm
      refine r_icmp_le (q := 38) (tgt := 56) dX2_never_35 rfl rfl (fun c35 => ?_) (fun c35 => ?_)
      · refine r_iconst 0 (by decide) (q := 57) dX2_never_56 rfl ?_
        refine go 0 ?_
        unfold nevF
        rw [em]
        show s + 0 = s + if a < b ∧ 0 < qr D a b then 1 else 0
        rw [if_neg (fun q => absurd q.1 (Nat.not_lt.mpr (hm.mp c35 b rfl)))]
      · have hab : a < b := by
          rcases Nat.lt_or_ge a b with z | z
          · exact z
          · exact absurd (hm.mpr (fun b' q => by cases q; exact z)) c35
        refine r_aload_0 (q := 39) dX2_never_38 rfl ?_
        refine r_iload_2 (q := 40) dX2_never_39 rfl ?_
        refine r_aload_0 (q := 41) dX2_never_40 rfl ?_
        refine r_get gf_X2_19_2 mh_o rfl (q := 44) dX2_never_41 rfl ?_
        refine r_iload_2 (q := 45) dX2_never_44 rfl ?_
        refine m_ald4 K2 rfl (by omega) (q := 46) dX2_never_45 rfl ?_
        refine J.topi (show mI (mt D a) = nI b by rw [em]; rfl) ?_
        refine r_callV_2 cv_X2_79 mh_o rfl (by decide) (Nat.le_of_ble_eq_true rfl) ⟨Nat.le_refl _, Nat.le_refl _⟩ (k_X2_quarrelOf K2 rfl (by omega) (by omega)) (q := 49) dX2_never_46 rfl ?_
        refine r_if_le (q := 52) (tgt := 56) dX2_never_49 rfl rfl (fun c49 => ?_) (fun c49 => ?_)
        · refine r_iconst 0 (by decide) (q := 57) dX2_never_56 rfl ?_
          refine go 0 ?_
          unfold nevF
          rw [em]
          show s + 0 = s + if a < b ∧ 0 < qr D a b then 1 else 0
          have := (nI_leI (b := 0) (by omega) (by omega)).mp c49
          rw [if_neg (fun q => by omega)]
        · refine r_iconst 1 (by decide) (q := 53) dX2_never_52 rfl ?_
          refine r_goto (q := 57) dX2_never_53 rfl ?_
          refine go 1 ?_
          unfold nevF
          rw [em]
          show s + 1 = s + if a < b ∧ 0 < qr D a b then 1 else 0
          have : 0 < qr D a b := by
            rcases Nat.eq_zero_or_pos (qr D a b) with z | z
            · exact absurd (by rw [z]; exact Int32.le_refl _) c49
            · exact z
          rw [if_pos ⟨hab, this⟩]
theorem k_X2_turn {a b : Int32} (h : MR w σ) : Ct G yX2_turn cX2_turn 4 (some .int) 5 0 0 [.ref m, .int a, .int b] n (mh m w g) (MPo m n g (xturnS σ a b)) := by
  refine Ct.intro (k := 1) [some (.ref m), some (.int a), some (.int b), none] (by decide) (Nat.le_of_ble_eq_true rfl) rfl fun z hz hin => ?_
  obtain ⟨j, e, K⟩ := h.1
  have h6 := K.l6
  unfold xturnS at hz
  refine r_aload_0 (q := 1) dX2_turn_0 rfl ?_
  refine r_iconst 0 (by decide) (q := 2) dX2_turn_1 rfl ?_
  refine r_put gf_X2_65_2 cl_ok_2 ft_2_7 mh_o (Nat.le_of_ble_eq_true rfl) rfl rfl (q := 5) dX2_turn_2 rfl ?_
  refine J.heap mset_f7 ?_
  refine r_aload_0 (q := 6) dX2_turn_5 rfl ?_
  refine r_iload_1 (q := 7) dX2_turn_6 rfl ?_
  refine r_iload_2 (q := 8) dX2_turn_7 rfl ?_
  refine r_callV_2 cv_X2_164 mh_o rfl (by decide) (Nat.le_of_ble_eq_true rfl) ⟨Nat.le_refl _, Nat.le_refl _⟩ (k_X2_areTwo K e) (q := 11) dX2_turn_8 rfl ?_
  refine r_if_ne (q := 14) (tgt := 23) dX2_turn_11 rfl rfl (fun c11 => ?_) (fun c11 => ?_)
  · have t1 := bI_n0.mp c11
    rw [if_pos t1] at hz
    obtain ⟨a', b', ha, hb, hab, rfl, rfl⟩ := areTw_t K.lens t1
    rw [cl_nI (by omega), cl_nI (by omega)] at hz
    have K1 := K.join ha hb hab
    have K2 : OKM (setQr (joinS σ.1 a' b') a' b' 50) j := K1.of rfl (K1.1.stQ (by omega) (by omega) (Or.inl hab) (by decide))
    refine r_aload_0 (q := 24) dX2_turn_23 rfl ?_
    refine r_callVv_0 cv_X2_178 mh_o rfl (by decide) (Nat.le_of_ble_eq_true rfl) ⟨Nat.le_refl _, Nat.le_refl _⟩ (k_X2_think K e h.l11) (q := 27) dX2_turn_24 rfl ?_
    refine r_aload_0 (q := 28) dX2_turn_27 rfl ?_
    refine r_iload_1 (q := 29) dX2_turn_28 rfl ?_
    refine r_iload_2 (q := 30) dX2_turn_29 rfl ?_
    refine r_callVv_2 cv_X2_125 mh_o rfl (by decide) (Nat.le_of_ble_eq_true rfl) ⟨Nat.le_refl _, Nat.le_refl _⟩ (k_X2_join K rfl ha hb) (q := 33) dX2_turn_30 rfl ?_
    refine r_aload_0 (q := 34) dX2_turn_33 rfl ?_
    refine r_iload_1 (q := 35) dX2_turn_34 rfl ?_
    refine r_iload_2 (q := 36) dX2_turn_35 rfl ?_
    refine r_bipush 50 (by decide) (q := 38) dX2_turn_36 rfl ?_
    refine r_callVv_3 cv_X2_113 mh_o rfl (by decide) (Nat.le_of_ble_eq_true rfl) ⟨Nat.le_refl _, Nat.le_refl _⟩ (k_X2_setQuarrel (v := 50) K1 rfl (by omega) (by omega)) (q := 41) dX2_turn_38 rfl ?_
    rw [sS_sS]
    refine r_aload_0 (q := 42) dX2_turn_41 rfl ?_
    refine r_bipush (-9) (by decide) (q := 44) dX2_turn_42 rfl ?_
    refine r_bipush (-9) (by decide) (q := 46) dX2_turn_44 rfl ?_
    refine r_callVv_2 cv_X2_117 mh_o rfl (by decide) (Nat.le_of_ble_eq_true rfl) ⟨Nat.le_refl _, Nat.le_refl _⟩ (k_X2_day K2 rfl) (q := 49) dX2_turn_46 rfl ?_
    rw [sS_sS]
    refine r_aload_0 (q := 50) dX2_turn_49 rfl ?_
    refine r_iload_1 (q := 51) dX2_turn_50 rfl ?_
    refine r_iload_2 (q := 52) dX2_turn_51 rfl ?_
    refine r_callV_2 cv_X2_79 mh_o rfl (by decide) (Nat.le_of_ble_eq_true rfl) ⟨Nat.le_refl _, Nat.le_refl _⟩ (k_X2_quarrelOf K2.goes rfl (by omega) (by omega)) (q := 55) dX2_turn_52 rfl ?_
    refine r_bipush 50 (by decide) (q := 57) dX2_turn_55 rfl ?_
    refine r_isub (q := 58) dX2_turn_57 rfl ?_
    refine r_istore_3 (by decide) rfl (q := 59) dX2_turn_58 rfl ?_
    refine r_aload_0 (q := 60) dX2_turn_59 rfl ?_
    refine r_callVv_0 cv_X2_184 mh_o rfl (by decide) (Nat.le_of_ble_eq_true rfl) ⟨Nat.le_refl _, Nat.le_refl _⟩ (k_X2_againT K K2.goes) (q := 63) dX2_turn_60 rfl ?_
    refine r_iload_3 (q := 64) dX2_turn_63 rfl ?_
    exact r_iret hz dX2_turn_64 (Nat.le_refl _) (Nat.le_refl _) (.of rfl ((h.th 0).fin e))
  · rw [if_neg (by rw [bI_0.mp c11]; decide)] at hz
    refine r_ldc q1327 (q := 16) dX2_turn_14 rfl ?_
    refine r_aload_0 (q := 17) dX2_turn_16 rfl ?_
    refine r_iconst (-1) (by decide) (q := 18) dX2_turn_17 rfl ?_
    refine r_callV_1 cv_X2_128 mh_o rfl (by decide) (Nat.le_of_ble_eq_true rfl) ⟨Nat.le_refl _, Nat.le_refl _⟩ (k_X2_refuse isC_1 (h.th 0).l6) (q := 21) dX2_turn_18 rfl ?_
    refine r_isub (q := 22) dX2_turn_21 rfl ?_
    exact r_iret hz dX2_turn_22 (Nat.le_refl _) (Nat.le_refl _) (.of rfl ((h.th 0).refuse _))
/-! who leaves -/
theorem k_X2_wouldLeave {a b : Nat} (K : OKM T j) (e : w.1 = mS T j) (ha : a < T.1.length) (hb : b < T.1.length) (hab : a ≠ b) : CtE G yX2_wouldLeave cX2_wouldLeave 3 (some FieldType.boolean) 4 [.ref m, .int (nI a), .int (nI b)] n (mh m w g) (some (.int (bI (leavS T a b)))) (mh m w g) := by
  refine Ct.intro (k := 0) [some (.ref m), some (.int (nI a)), some (.int (nI b))] (by decide) (Nat.le_of_ble_eq_true rfl) rfl fun z hz hin => ?_
  have h6 := K.l6
  have fin : ∀ t : Bool, t = leavS T a b → J G z cX2_wouldLeave 3 RX2 4 0 0 0 0 33 [some (.ref m), some (.int (nI a)), some (.int (nI b))] [.int (bI t)] n (mh m w g) := by
    intro t ht
    exact r_zret hz (by first | exact bI_z _ | rfl) dX2_wouldLeave_33 (Nat.le_refl _) (Nat.le_refl _) ⟨by rw [ht], rfl, rfl⟩
  have no : false = leavS T a b → J G z cX2_wouldLeave 3 RX2 4 0 0 0 0 32 [some (.ref m), some (.int (nI a)), some (.int (nI b))] [] n (mh m w g) := by
    intro ht
    refine r_iconst 0 (by decide) (q := 33) dX2_wouldLeave_32 rfl ?_
    exact fin false ht
  have em := mI_eq (o := mt T a) (a := b) (by omega) (fun c hc => Nat.lt_trans (K.mt6 hc) (by decide))
  have w1 : wouldS T a b = rathS T a b := by unfold wouldS; rw [decide_eq_true hab]; rfl
  have w2 : wouldS T b a = rathS T b a := by unfold wouldS; rw [decide_eq_true (Ne.symm hab)]; rfl
  refine r_aload_0 (q := 1) dX2_wouldLeave_0 rfl ?_
  refine r_get gf_X2_19_2 mh_o rfl (q := 4) dX2_wouldLeave_1 rfl ?_
  refine r_iload_1 (q := 5) dX2_wouldLeave_4 rfl ?_
  refine m_ald4 K e (by omega) (q := 6) dX2_wouldLeave_5 rfl ?_
  refine r_iload_2 (q := 7) dX2_wouldLeave_6 rfl ?_
  refine r_icmp_eq (q := 10) (tgt := 32) dX2_wouldLeave_7 rfl rfl (fun c7 => ?_) (fun c7 => ?_)
  · exact no (by unfold leavS; rw [decide_eq_false (fun q => q (em.mp c7))]; rfl)
  have hne : decide (mt T a ≠ some b) = true := decide_eq_true (fun q => c7 (em.mpr q))
  refine r_aload_0 (q := 11) dX2_wouldLeave_10 rfl ?_
  refine r_iload_1 (q := 12) dX2_wouldLeave_11 rfl ?_
  refine r_iload_2 (q := 13) dX2_wouldLeave_12 rfl ?_
  refine r_callV_2 cv_X2_239 mh_o rfl (by decide) (Nat.le_of_ble_eq_true rfl) ⟨Nat.le_refl _, Nat.le_refl _⟩ (k_X2_ratherThanMate K e (by omega) (by omega)) (q := 16) dX2_wouldLeave_13 rfl ?_
  refine r_if_eq (q := 19) (tgt := 32) dX2_wouldLeave_16 rfl rfl (fun c16 => ?_) (fun c16 => ?_)
  · exact no (by unfold leavS; rw [hne, w1, bI_0.mp c16]; rfl)
  refine r_aload_0 (q := 20) dX2_wouldLeave_19 rfl ?_
  refine r_iload_2 (q := 21) dX2_wouldLeave_20 rfl ?_
  refine r_iload_1 (q := 22) dX2_wouldLeave_21 rfl ?_
  refine r_callV_2 cv_X2_239 mh_o rfl (by decide) (Nat.le_of_ble_eq_true rfl) ⟨Nat.le_refl _, Nat.le_refl _⟩ (k_X2_ratherThanMate K e (by omega) (by omega)) (q := 25) dX2_wouldLeave_22 rfl ?_
  refine r_if_eq (q := 28) (tgt := 32) dX2_wouldLeave_25 rfl rfl (fun c25 => ?_) (fun c25 => ?_)
  · exact no (by unfold leavS; rw [hne, w1, w2, bI_n0.mp c16, bI_0.mp c25]; rfl)
  · refine r_iconst 1 (by decide) (q := 29) dX2_wouldLeave_28 rfl ?_
    refine r_goto (q := 33) dX2_wouldLeave_29 rfl ?_
    exact fin true (by unfold leavS; rw [hne, w1, w2, bI_n0.mp c16, bI_n0.mp c25]; rfl)
def ltF (T : SQ) (a : Nat) (b : Nat) (s : Int32) : Int32 := s + (if leavS T a b = true then 1 else 0)
def ltI (T : SQ) (a : Nat) (s : Int32) : Int32 := forR (ltF T a) (a + 1) (T.1.length - (a + 1)) s
def ltS (T : SQ) : Int32 := forR (ltI T) 0 T.1.length 0
def rbF (T : SQ) (a : Nat) (s : Int32) : Int32 := s ||| (if ridS T a = true then b1 a else 0)
def rbS (T : SQ) : Int32 := forR (rbF T) 0 T.1.length 0
theorem k_X2_ridBits (K : OKM T j) (e : w.1 = mS T j) : CtE G yX2_ridBits cX2_ridBits 3 (some FieldType.int) 3 [.ref m] n (mh m w g) (some (.int (rbS T))) (mh m w g) := by
  refine Ct.intro (k := 2) [some (.ref m), none, none] (by decide) (Nat.le_of_ble_eq_true rfl) rfl fun z hz hin => ?_
  have h6 := K.l6
  refine r_iconst 0 (by decide) (q := 1) dX2_ridBits_0 rfl ?_
  refine r_istore_1 (by decide) rfl (q := 2) dX2_ridBits_1 rfl ?_
  refine r_iconst 0 (by decide) (q := 3) dX2_ridBits_2 rfl ?_
  refine r_istore_2 (by decide) rfl (q := 4) dX2_ridBits_3 rfl ?_
  refine forJ (f := rbF T) (σ := Int32) T.1.length (fun _ => True) (fun a s => J G z cX2_ridBits 3 RX2 3 0 0 0 0 4 [some (.ref m), some (.int s), some (.int (nI a))] [] n (mh m w g)) (a0 := 0) (s0 := 0) (Nat.zero_le _) trivial (fun s _ hs => ?_) (fun a s _ ha _ => ⟨trivial, fun next => ?_⟩)
  · refine r_iload_2 (q := 5) dX2_ridBits_4 rfl ?_
    refine r_aload_0 (q := 6) dX2_ridBits_5 rfl ?_
    refine m_getp gf_X2_68_2 K e (q := 9) dX2_ridBits_6 rfl ?_
    refine r_icmp_ge (q := 12) (tgt := 53) dX2_ridBits_9 rfl rfl (fun c9 => ?_) (fun c9 => ?_)
    · rw [← show s = rbS T from hs] at hz
      refine r_iload_1 (q := 54) dX2_ridBits_53 rfl ?_
      exact r_iret hz dX2_ridBits_54 (Nat.le_refl _) (Nat.le_refl _) ⟨rfl, rfl, rfl⟩
    · exact absurd (Int32.le_refl _) c9
  · have go : ∀ v : Int32, v = (if ridS T a = true then b1 a else 0) → J G z cX2_ridBits 3 RX2 3 0 0 0 0 45 [some (.ref m), some (.int s), some (.int (nI a))] [.int v, .int s] n (mh m w g) := by
      intro v hv
      subst hv
      refine r_ior (q := 46) dX2_ridBits_45 rfl ?_
      refine r_istore_1 (by decide) rfl (q := 47) dX2_ridBits_46 rfl ?_
      refine r_inc_2 (by decide) rfl (q := 50) dX2_ridBits_47 rfl ?_
      refine r_goto (q := 4) dX2_ridBits_50 rfl ?_
      exact next
    refine r_iload_2 (q := 5) dX2_ridBits_4 rfl ?_
    refine r_aload_0 (q := 6) dX2_ridBits_5 rfl ?_
    refine m_getp gf_X2_68_2 K e (q := 9) dX2_ridBits_6 rfl ?_
    refine r_icmp_ge (q := 12) (tgt := 53) dX2_ridBits_9 rfl rfl (fun c9 => ?_) (fun c9 => ?_)
    · exact absurd c9 (nI_not_lt ha (by omega))
    refine r_iload_1 (q := 13) dX2_ridBits_12 rfl ?_
    refine r_aload_0 (q := 14) dX2_ridBits_13 rfl ?_
    refine r_get gf_X2_19_2 mh_o rfl (q := 17) dX2_ridBits_14 rfl ?_
    refine r_iload_2 (q := 18) dX2_ridBits_17 rfl ?_
    refine m_ald4 K e (by omega) (q := 19) dX2_ridBits_18 rfl ?_
    cases em : mt T a with
    | none =>
      refine r_if_lt (q := 22) (tgt := 44) dX2_ridBits_19 rfl rfl (fun c19 => ?_) (fun c19 => ?_)
      · refine r_iconst 0 (by decide) (q := 45) dX2_ridBits_44 rfl ?_
        exact go 0 (by unfold ridS; rw [em]; rfl)
      · exact absurd (by decide : mI none < 0) c19
    | some b =>
      have hb := K.mtl ha em
      refine r_if_lt (q := 22) (tgt := 44) dX2_ridBits_19 rfl rfl (fun c19 => ?_) (fun c19 => ?_)
      · exact absurd c19 (nI_pos (by omega))
      refine r_aload_0 (q := 23) dX2_ridBits_22 rfl ?_
      refine r_iload_2 (q := 24) dX2_ridBits_23 rfl ?_
      refine r_aload_0 (q := 25) dX2_ridBits_24 rfl ?_
      refine r_get gf_X2_19_2 mh_o rfl (q := 28) dX2_ridBits_25 rfl ?_
      refine r_iload_2 (q := 29) dX2_ridBits_28 rfl ?_
      refine m_ald4 K e (by omega) (q := 30) dX2_ridBits_29 rfl ?_
      refine J.topi (show mI (mt T a) = nI b by rw [em]; rfl) ?_
      refine r_callV_2 cv_X2_90 mh_o rfl (by decide) (Nat.le_of_ble_eq_true rfl) ⟨Nat.le_refl _, Nat.le_refl _⟩ (k_X2_likesOf K e (by omega) (by omega)) (q := 33) dX2_ridBits_30 rfl ?_
      refine r_bipush 50 (by decide) (q := 35) dX2_ridBits_33 rfl ?_
      refine r_icmp_ge (q := 38) (tgt := 44) dX2_ridBits_35 rfl rfl (fun c35 => ?_) (fun c35 => ?_)
      · refine r_iconst 0 (by decide) (q := 45) dX2_ridBits_44 rfl ?_
        refine go 0 ?_
        unfold ridS
        rw [em]
        show 0 = if decide (likS T a b < 50) = true then b1 a else 0
        rw [if_neg (by rw [decide_eq_false (Int32.not_lt.mpr c35)]; decide)]
      · refine r_iconst 1 (by decide) (q := 39) dX2_ridBits_38 rfl ?_
        refine r_iload_2 (q := 40) dX2_ridBits_39 rfl ?_
        refine r_ishl (q := 41) dX2_ridBits_40 rfl ?_
        refine r_goto (q := 45) dX2_ridBits_41 rfl ?_
        refine go (b1 a) ?_
        unfold ridS
        rw [em]
        show b1 a = if decide (likS T a b < 50) = true then b1 a else 0
        rw [if_pos (decide_eq_true (Int32.not_le.mp c35))]
theorem k_X2_leavingTwos (K : OKM T j) (e : w.1 = mS T j) : CtE G yX2_leavingTwos cX2_leavingTwos 4 (some FieldType.int) 5 [.ref m] n (mh m w g) (some (.int (ltS T))) (mh m w g) := by
  refine Ct.intro (k := 3) [some (.ref m), none, none, none] (by decide) (Nat.le_of_ble_eq_true rfl) rfl fun z hz hin => ?_
  have h6 := K.l6
  refine r_iconst 0 (by decide) (q := 1) dX2_leavingTwos_0 rfl ?_
  refine r_istore_1 (by decide) rfl (q := 2) dX2_leavingTwos_1 rfl ?_
  refine r_iconst 0 (by decide) (q := 3) dX2_leavingTwos_2 rfl ?_
  refine r_istore_2 (by decide) rfl (q := 4) dX2_leavingTwos_3 rfl ?_
  refine forJ (f := ltI T) (σ := Int32) T.1.length (fun _ => True) (fun a s => ∀ o3 : Option Value, J G z cX2_leavingTwos 4 RX2 5 0 0 0 0 4 [some (.ref m), some (.int s), some (.int (nI a)), o3] [] n (mh m w g)) (a0 := 0) (s0 := 0) (Nat.zero_le _) trivial (fun s _ hs o3 => ?_) (fun a s _ ha _ => ⟨trivial, fun next o3 => ?_⟩) none
  · refine r_iload_2 (q := 5) dX2_leavingTwos_4 rfl ?_
    refine r_aload_0 (q := 6) dX2_leavingTwos_5 rfl ?_
    refine m_getp gf_X2_68_2 K e (q := 9) dX2_leavingTwos_6 rfl ?_
    refine r_icmp_ge (q := 12) (tgt := 53) dX2_leavingTwos_9 rfl rfl (fun c9 => ?_) (fun c9 => ?_)
    · rw [← show s = ltS T from hs] at hz
      refine r_iload_1 (q := 54) dX2_leavingTwos_53 rfl ?_
      exact r_iret hz dX2_leavingTwos_54 (Nat.le_refl _) (Nat.le_refl _) ⟨rfl, rfl, rfl⟩
    · exact absurd (Int32.le_refl _) c9
  · refine r_iload_2 (q := 5) dX2_leavingTwos_4 rfl ?_
    refine r_aload_0 (q := 6) dX2_leavingTwos_5 rfl ?_
    refine m_getp gf_X2_68_2 K e (q := 9) dX2_leavingTwos_6 rfl ?_
    refine r_icmp_ge (q := 12) (tgt := 53) dX2_leavingTwos_9 rfl rfl (fun c9 => ?_) (fun c9 => ?_)
    · exact absurd c9 (nI_not_lt ha (by omega))
    refine r_iload_2 (q := 13) dX2_leavingTwos_12 rfl ?_
    refine r_iconst 1 (by decide) (q := 14) dX2_leavingTwos_13 rfl ?_
    refine r_iadd (q := 15) dX2_leavingTwos_14 rfl ?_
    refine J.topi (nI_1 _) ?_
    refine r_istore_3 (by decide) rfl (q := 16) dX2_leavingTwos_15 rfl ?_
    refine forJ (f := ltF T a) (σ := Int32) T.1.length (fun _ => True) (fun b s => J G z cX2_leavingTwos 4 RX2 5 0 0 0 0 16 [some (.ref m), some (.int s), some (.int (nI a)), some (.int (nI b))] [] n (mh m w g)) (a0 := a + 1) (s0 := s) ha trivial (fun s' _ hs => ?_) (fun b s' hab hb _ => ⟨trivial, fun next' => ?_⟩)
    · refine r_iload_3 (q := 17) dX2_leavingTwos_16 rfl ?_
      refine r_aload_0 (q := 18) dX2_leavingTwos_17 rfl ?_
      refine m_getp gf_X2_68_2 K e (q := 21) dX2_leavingTwos_18 rfl ?_
      refine r_icmp_ge (q := 24) (tgt := 47) dX2_leavingTwos_21 rfl rfl (fun c21 => ?_) (fun c21 => ?_)
      · refine r_inc_2 (by decide) rfl (q := 50) dX2_leavingTwos_47 rfl ?_
        refine r_goto (q := 4) dX2_leavingTwos_50 rfl ?_
        subst hs
        exact next _
      · exact absurd (Int32.le_refl _) c21
    · refine r_iload_3 (q := 17) dX2_leavingTwos_16 rfl ?_
      refine r_aload_0 (q := 18) dX2_leavingTwos_17 rfl ?_
      refine m_getp gf_X2_68_2 K e (q := 21) dX2_leavingTwos_18 rfl ?_
      refine r_icmp_ge (q := 24) (tgt := 47) dX2_leavingTwos_21 rfl rfl (fun c21 => ?_) (fun c21 => ?_)
      · exact absurd c21 (nI_not_lt hb (by omega))
      unfold ltF at next'
      refine r_iload_1 (q := 25) dX2_leavingTwos_24 rfl ?_
      refine r_aload_0 (q := 26) dX2_leavingTwos_25 rfl ?_
      refine r_iload_2 (q := 27) dX2_leavingTwos_26 rfl ?_
      refine r_iload_3 (q := 28) dX2_leavingTwos_27 rfl ?_
      refine r_callV_2 cv_X2_242 mh_o rfl (by decide) (Nat.le_of_ble_eq_true rfl) ⟨Nat.le_refl _, Nat.le_refl _⟩ (k_X2_wouldLeave K e ha hb (by omega)) (q := 31) dX2_leavingTwos_28 rfl ?_
      refine r_if_eq (q := 34) (tgt := 38) dX2_leavingTwos_31 rfl rfl (fun c31 => ?_) (fun c31 => ?_)
      · rw [bI_0.mp c31] at next'
        refine r_iconst 0 (by decide) (q := 39) dX2_leavingTwos_38 rfl ?_
        refine r_iadd (q := 40) dX2_leavingTwos_39 rfl ?_
        refine r_istore_1 (by decide) rfl (q := 41) dX2_leavingTwos_40 rfl ?_
        refine r_inc_3 (by decide) rfl (q := 44) dX2_leavingTwos_41 rfl ?_
        refine r_goto (q := 16) dX2_leavingTwos_44 rfl ?_
        exact next'
      · rw [bI_n0.mp c31] at next'
        refine r_iconst 1 (by decide) (q := 35) dX2_leavingTwos_34 rfl ?_
        refine r_goto (q := 39) dX2_leavingTwos_35 rfl ?_
        refine r_iadd (q := 40) dX2_leavingTwos_39 rfl ?_
        refine r_istore_1 (by decide) rfl (q := 41) dX2_leavingTwos_40 rfl ?_
        refine r_inc_3 (by decide) rfl (q := 44) dX2_leavingTwos_41 rfl ?_
        refine r_goto (q := 16) dX2_leavingTwos_44 rfl ?_
        exact next'
theorem k_X2_mostLiked {p : Nat} (K : OKM T j) (e : w.1 = mS T j) (hp : p < T.1.length) : CtE G yX2_mostLiked cX2_mostLiked 4 (some FieldType.int) 3 [.ref m, .int (nI p)] n (mh m w g) (some (.int (mI (favS T p)))) (mh m w g) := by
  refine Ct.intro (k := 2) [some (.ref m), some (.int (nI p)), none, none] (by decide) (Nat.le_of_ble_eq_true rfl) rfl fun z hz hin => ?_
  have h6 := K.l6
  refine r_bipush (-9) (by decide) (q := 2) dX2_mostLiked_0 rfl ?_
  refine r_istore_2 (by decide) rfl (q := 3) dX2_mostLiked_2 rfl ?_
  refine r_iconst 0 (by decide) (q := 4) dX2_mostLiked_3 rfl ?_
  refine r_istore_3 (by decide) rfl (q := 5) dX2_mostLiked_4 rfl ?_
  refine forJ (f := favF T p) (σ := Option Nat) T.1.length (fun s => ∀ k, s = some k → k < T.1.length) (fun a s => J G z cX2_mostLiked 4 RX2 3 0 0 0 0 5 [some (.ref m), some (.int (nI p)), some (.int (mI s)), some (.int (nI a))] [] n (mh m w g)) (a0 := 0) (s0 := none) (Nat.zero_le _) (fun k e => by cases e) (fun s hk hs => ?_) (fun a s _ ha hk => ⟨?_, fun next => ?_⟩)
  · refine r_iload_3 (q := 6) dX2_mostLiked_5 rfl ?_
    refine r_aload_0 (q := 7) dX2_mostLiked_6 rfl ?_
    refine m_getp gf_X2_68_2 K e (q := 10) dX2_mostLiked_7 rfl ?_
    refine r_icmp_ge (q := 13) (tgt := 49) dX2_mostLiked_10 rfl rfl (fun c10 => ?_) (fun c10 => ?_)
    · rw [← show s = favS T p from hs] at hz
      refine r_iload_2 (q := 50) dX2_mostLiked_49 rfl ?_
      exact r_iret hz dX2_mostLiked_50 (Nat.le_refl _) (Nat.le_refl _) ⟨rfl, rfl, rfl⟩
    · exact absurd (Int32.le_refl _) c10
  · intro k e
    unfold favF at e
    split at e
    · exact hk k e
    · split at e
      · cases e; exact ha
      · split at e
        · cases e; exact ha
        · exact hk k e
  · have take : favF T p a s = some a → ∀ s0 : Option Nat, J G z cX2_mostLiked 4 RX2 3 0 0 0 0 37 [some (.ref m), some (.int (nI p)), some (.int (mI s0)), some (.int (nI a))] [] n (mh m w g) := by
      intro e s0
      rw [e] at next
      refine r_iload_3 (q := 38) dX2_mostLiked_37 rfl ?_
      refine r_goto (q := 42) dX2_mostLiked_38 rfl ?_
      refine r_istore_2 (by decide) rfl (q := 43) dX2_mostLiked_42 rfl ?_
      refine r_inc_3 (by decide) rfl (q := 46) dX2_mostLiked_43 rfl ?_
      refine r_goto (q := 5) dX2_mostLiked_46 rfl ?_
      exact next
    have keep : favF T p a s = s → J G z cX2_mostLiked 4 RX2 3 0 0 0 0 41 [some (.ref m), some (.int (nI p)), some (.int (mI s)), some (.int (nI a))] [] n (mh m w g) := by
      intro e
      rw [e] at next
      refine r_iload_2 (q := 42) dX2_mostLiked_41 rfl ?_
      refine r_istore_2 (by decide) rfl (q := 43) dX2_mostLiked_42 rfl ?_
      refine r_inc_3 (by decide) rfl (q := 46) dX2_mostLiked_43 rfl ?_
      refine r_goto (q := 5) dX2_mostLiked_46 rfl ?_
      exact next
    refine r_iload_3 (q := 6) dX2_mostLiked_5 rfl ?_
    refine r_aload_0 (q := 7) dX2_mostLiked_6 rfl ?_
    refine m_getp gf_X2_68_2 K e (q := 10) dX2_mostLiked_7 rfl ?_
    refine r_icmp_ge (q := 13) (tgt := 49) dX2_mostLiked_10 rfl rfl (fun c10 => ?_) (fun c10 => ?_)
    · exact absurd c10 (nI_not_lt ha (by omega))
    refine r_iload_3 (q := 14) dX2_mostLiked_13 rfl ?_
    refine r_iload_1 (q := 15) dX2_mostLiked_14 rfl ?_
    refine r_icmp_eq (q := 18) (tgt := 41) dX2_mostLiked_15 rfl rfl (fun c15 => ?_) (fun c15 => ?_)
    · exact keep (if_pos (nI_inj (by omega) (by omega) c15))
    have hap : a ≠ p := fun e => c15 (by rw [e])
    refine r_iload_2 (q := 19) dX2_mostLiked_18 rfl ?_
    cases s with
    | none =>
      refine r_if_lt (q := 22) (tgt := 37) dX2_mostLiked_19 rfl rfl (fun c19 => ?_) (fun c19 => ?_)
      · exact take (if_neg hap) _
      · exact absurd mI_neg c19
    | some k =>
      have hk' := hk k rfl
      refine r_if_lt (q := 22) (tgt := 37) dX2_mostLiked_19 rfl rfl (fun c19 => ?_) (fun c19 => ?_)
      · exact absurd c19 (nI_pos (by omega))
      refine r_aload_0 (q := 23) dX2_mostLiked_22 rfl ?_
      refine r_iload_1 (q := 24) dX2_mostLiked_23 rfl ?_
      refine r_iload_3 (q := 25) dX2_mostLiked_24 rfl ?_
      refine r_callV_2 cv_X2_90 mh_o rfl (by decide) (Nat.le_of_ble_eq_true rfl) ⟨Nat.le_refl _, Nat.le_refl _⟩ (k_X2_likesOf K e (by omega) (by omega)) (q := 28) dX2_mostLiked_25 rfl ?_
      refine r_aload_0 (q := 29) dX2_mostLiked_28 rfl ?_
      refine r_iload_1 (q := 30) dX2_mostLiked_29 rfl ?_
      refine r_iload_2 (q := 31) dX2_mostLiked_30 rfl ?_
      refine J.topi (show mI (some k) = nI k from rfl) ?_
      refine r_callV_2 cv_X2_90 mh_o rfl (by decide) (Nat.le_of_ble_eq_true rfl) ⟨Nat.le_refl _, Nat.le_refl _⟩ (k_X2_likesOf K e (by omega) (by omega)) (q := 34) dX2_mostLiked_31 rfl ?_
      refine r_icmp_le (q := 37) (tgt := 41) dX2_mostLiked_34 rfl rfl (fun c34 => ?_) (fun c34 => ?_)
      · exact keep ((if_neg hap).trans (if_neg (Int32.not_lt.mpr c34)))
      · exact take ((if_neg hap).trans (if_pos (Int32.not_le.mp c34))) _
theorem would_eq {S : SQ} {q p : Nat} : wouldS S q p = true ↔ q ≠ p ∧ mt S q ≠ some p ∧ rathS S q p = true := by
  unfold wouldS
  rw [Bool.and_eq_true, decide_eq_true_iff]
  refine and_congr_right fun _ => ⟨fun h => ⟨fun q => ?_, h⟩, fun h => h.2⟩
  unfold rathS at h
  rw [q] at h
  exact absurd (of_decide_eq_true h) (Int32.not_lt.mpr (Int32.le_refl _))
theorem or0 (x : Int32) : x ||| 0 = x := Int32.or_zero
theorem k_X2_mateFor {p what : Int32} (h : MR w σ) : Ct G yX2_mateFor cX2_mateFor 6 (some .int) 4 0 0 [.ref m, .int p, .int what] n (mh m w g) (MPo m n g (mateS σ p what)) := by
  refine Ct.intro (k := 3) [some (.ref m), some (.int p), some (.int what), none, none, none] (by decide) (Nat.le_of_ble_eq_true rfl) rfl fun z hz hin => ?_
  obtain ⟨j, e, K⟩ := h.1
  have h6 := K.l6
  have fin : ∀ v : Int32, v = (if isPer σ.1 p = true then 0 else -1) → J G z cX2_mateFor 6 RX2 4 0 0 0 0 18 [some (.ref m), some (.int p), some (.int what), none, none, none] [.int v] n (mh m (sf7 w 0) g) := by
    intro v hv
    obtain ⟨q1, q2⟩ := no_ge (noPw_c (S := σ.1) (p := p) (what := what) (k := 2))
    refine r_iload_2 (q := 19) dX2_mateFor_18 rfl ?_
    refine r_iconst 1 (by decide) (q := 20) dX2_mateFor_19 rfl ?_
    refine r_callS_3 cs_X2_211 (by decide) (Nat.le_of_ble_eq_true rfl) ⟨Nat.le_refl _, Nat.le_refl _⟩ (k_X2_wrongBit) (q := 23) dX2_mateFor_20 rfl ?_
    refine J.topi (x := wbI v what 1) (y := noPw σ.1 p what 2) (by rw [hv]; exact wbI_pw (k := 1) (by decide)) ?_
    refine r_istore_3 (by decide) rfl (q := 24) dX2_mateFor_23 rfl ?_
    refine r_iload_3 (q := 25) dX2_mateFor_24 rfl ?_
    refine r_if_ge (q := 28) (tgt := 34) dX2_mateFor_25 rfl rfl (fun c25 => ?_) (fun c25 => ?_)
    · have h0 := q1 c25
      obtain ⟨t1, t2⟩ := noPw_0 h0
      obtain ⟨i, hi, rfl⟩ := isPer_t K.lens t1
      have e0 : mateS σ (nI i) what = (if what = 0 then mI (favS σ.1 i) else forR (matF σ.1 i) 0 σ.1.1.length 0, σ) := by
        unfold mateS
        rw [if_pos h0, cl_nI (by omega)]
      rw [e0] at hz
      refine r_iconst 0 (by decide) (q := 35) dX2_mateFor_34 rfl ?_
      refine r_istore_4 (by decide) rfl (q := 37) dX2_mateFor_35 rfl ?_
      refine r_iconst 0 (by decide) (q := 38) dX2_mateFor_37 rfl ?_
      refine r_istore_5 (by decide) rfl (q := 40) dX2_mateFor_38 rfl ?_
      refine forJ (f := matF σ.1 i) (σ := Int32) σ.1.1.length (fun _ => True) (fun a s => J G z cX2_mateFor 6 RX2 4 0 0 0 0 40 [some (.ref m), some (.int (nI i)), some (.int what), some (.int (noPw σ.1 (nI i) what 2)), some (.int s), some (.int (nI a))] [] n (mh m (sf7 w 0) g)) (a0 := 0) (s0 := 0) (Nat.zero_le _) trivial (fun s _ hs => ?_) (fun a s _ ha _ => ⟨trivial, fun next => ?_⟩)
      · refine r_iload_5 (q := 42) dX2_mateFor_40 rfl ?_
        refine r_aload_0 (q := 43) dX2_mateFor_42 rfl ?_
        refine m_getp gf_X2_68_2 K e (q := 46) dX2_mateFor_43 rfl ?_
        refine r_icmp_ge (q := 49) (tgt := 95) dX2_mateFor_46 rfl rfl (fun c46 => ?_) (fun c46 => ?_)
        · have hs : s = forR (matF σ.1 i) 0 σ.1.1.length 0 := hs
          rw [← hs] at hz
          refine r_iload_2 (q := 96) dX2_mateFor_95 rfl ?_
          refine r_if_ne (q := 99) (tgt := 107) dX2_mateFor_96 rfl rfl (fun c96 => ?_) (fun c96 => ?_)
          · rw [if_neg c96] at hz
            refine r_iload_4 (q := 109) dX2_mateFor_107 rfl ?_
            exact r_iret hz dX2_mateFor_109 (Nat.le_refl _) (Nat.le_refl _) (.of rfl (h.th 0))
          · rw [if_pos c96] at hz
            refine r_aload_0 (q := 100) dX2_mateFor_99 rfl ?_
            refine r_iload_1 (q := 101) dX2_mateFor_100 rfl ?_
            refine r_callV_1 cv_X2_267 mh_o rfl (by decide) (Nat.le_of_ble_eq_true rfl) ⟨Nat.le_refl _, Nat.le_refl _⟩ (k_X2_mostLiked K e hi) (q := 104) dX2_mateFor_101 rfl ?_
            refine r_goto (q := 109) dX2_mateFor_104 rfl ?_
            exact r_iret hz dX2_mateFor_109 (Nat.le_refl _) (Nat.le_refl _) (.of rfl (h.th 0))
        · exact absurd (Int32.le_refl _) c46
      · have keep : ¬ wouldS σ.1 a i = true → J G z cX2_mateFor 6 RX2 4 0 0 0 0 85 [some (.ref m), some (.int (nI i)), some (.int what), some (.int (noPw σ.1 (nI i) what 2)), some (.int s), some (.int (nI a))] [.int s] n (mh m (sf7 w 0) g) := by
          intro hn
          rw [show matF σ.1 i a s = s from if_neg hn] at next
          refine r_iconst 0 (by decide) (q := 86) dX2_mateFor_85 rfl ?_
          refine r_ior (q := 87) dX2_mateFor_86 rfl ?_
          rw [or0]
          refine r_istore_4 (by decide) rfl (q := 89) dX2_mateFor_87 rfl ?_
          refine r_inc_5 (by decide) rfl (q := 92) dX2_mateFor_89 rfl ?_
          refine r_goto (q := 40) dX2_mateFor_92 rfl ?_
          exact next
        have em := mI_eq (o := mt σ.1 a) (a := i) (by omega) (fun c hc => Nat.lt_trans (K.mt6 hc) (by decide))
        refine r_iload_5 (q := 42) dX2_mateFor_40 rfl ?_
        refine r_aload_0 (q := 43) dX2_mateFor_42 rfl ?_
        refine m_getp gf_X2_68_2 K e (q := 46) dX2_mateFor_43 rfl ?_
        refine r_icmp_ge (q := 49) (tgt := 95) dX2_mateFor_46 rfl rfl (fun c46 => ?_) (fun c46 => ?_)
        · exact absurd c46 (nI_not_lt ha (by omega))
        refine r_iload_4 (q := 51) dX2_mateFor_49 rfl ?_
        refine r_iload_5 (q := 53) dX2_mateFor_51 rfl ?_
        refine r_iload_1 (q := 54) dX2_mateFor_53 rfl ?_
        refine r_icmp_eq (q := 57) (tgt := 85) dX2_mateFor_54 rfl rfl (fun c54 => ?_) (fun c54 => ?_)
        · exact keep (fun q => (would_eq.mp q).1 (nI_inj (by omega) (by omega) c54))
        refine r_aload_0 (q := 58) dX2_mateFor_57 rfl ?_
        refine r_get gf_X2_19_2 mh_o rfl (q := 61) dX2_mateFor_58 rfl ?_
        refine r_iload_5 (q := 63) dX2_mateFor_61 rfl ?_
        refine m_ald4 K e (by omega) (q := 64) dX2_mateFor_63 rfl ?_
        refine r_iload_1 (q := 65) dX2_mateFor_64 rfl ?_
        refine r_icmp_eq (q := 68) (tgt := 85) dX2_mateFor_65 rfl rfl (fun c65 => ?_) (fun c65 => ?_)
        · exact keep (fun q => (would_eq.mp q).2.1 (em.mp c65))
        refine r_aload_0 (q := 69) dX2_mateFor_68 rfl ?_
        refine r_iload_5 (q := 71) dX2_mateFor_69 rfl ?_
        refine r_iload_1 (q := 72) dX2_mateFor_71 rfl ?_
        refine r_callV_2 cv_X2_239 mh_o rfl (by decide) (Nat.le_of_ble_eq_true rfl) ⟨Nat.le_refl _, Nat.le_refl _⟩ (k_X2_ratherThanMate K e (by omega) (by omega)) (q := 75) dX2_mateFor_72 rfl ?_
        refine r_if_eq (q := 78) (tgt := 85) dX2_mateFor_75 rfl rfl (fun c75 => ?_) (fun c75 => ?_)
        · exact keep (fun q => by have := (would_eq.mp q).2.2; rw [bI_0.mp c75] at this; cases this)
        · rw [show matF σ.1 i a s = s ||| b1 a from if_pos (would_eq.mpr ⟨fun q => c54 (by rw [q]), fun q => c65 (em.mpr q), bI_n0.mp c75⟩)] at next
          refine r_iconst 1 (by decide) (q := 79) dX2_mateFor_78 rfl ?_
          refine r_iload_5 (q := 81) dX2_mateFor_79 rfl ?_
          refine r_ishl (q := 82) dX2_mateFor_81 rfl ?_
          refine r_goto (q := 86) dX2_mateFor_82 rfl ?_
          refine r_ior (q := 87) dX2_mateFor_86 rfl ?_
          refine r_istore_4 (by decide) rfl (q := 89) dX2_mateFor_87 rfl ?_
          refine r_inc_5 (by decide) rfl (q := 92) dX2_mateFor_89 rfl ?_
          refine r_goto (q := 40) dX2_mateFor_92 rfl ?_
          exact next
    · have hc := q2 c25
      have e0 : mateS σ p what = (noPw σ.1 p what 2, rfS σ (noPw σ.1 p what 2)) := if_neg (isC_ne hc)
      rw [e0] at hz
      refine r_aload_0 (q := 29) dX2_mateFor_28 rfl ?_
      refine r_iload_3 (q := 30) dX2_mateFor_29 rfl ?_
      refine r_callV_1 cv_X2_128 mh_o rfl (by decide) (Nat.le_of_ble_eq_true rfl) ⟨Nat.le_refl _, Nat.le_refl _⟩ (k_X2_refuse hc (h.th 0).l6) (q := 33) dX2_mateFor_30 rfl ?_
      exact r_iret hz dX2_mateFor_33 (Nat.le_refl _) (Nat.le_refl _) (.of rfl ((h.th 0).refuse _))
  refine r_aload_0 (q := 1) dX2_mateFor_0 rfl ?_
  refine r_iconst 0 (by decide) (q := 2) dX2_mateFor_1 rfl ?_
  refine r_put gf_X2_65_2 cl_ok_2 ft_2_7 mh_o (Nat.le_of_ble_eq_true rfl) rfl rfl (q := 5) dX2_mateFor_2 rfl ?_
  refine J.heap mset_f7 ?_
  refine r_aload_0 (q := 6) dX2_mateFor_5 rfl ?_
  refine r_iload_1 (q := 7) dX2_mateFor_6 rfl ?_
  refine r_callV_1 cv_X2_75 mh_o rfl (by decide) (Nat.le_of_ble_eq_true rfl) ⟨Nat.le_refl _, Nat.le_refl _⟩ (k_X2_isOne K e) (q := 10) dX2_mateFor_7 rfl ?_
  refine r_if_eq (q := 13) (tgt := 17) dX2_mateFor_10 rfl rfl (fun c10 => ?_) (fun c10 => ?_)
  · refine r_iconst (-1) (by decide) (q := 18) dX2_mateFor_17 rfl ?_
    exact fin (-1) (by rw [if_neg (by rw [bI_0.mp c10]; decide)])
  · refine r_iconst 0 (by decide) (q := 14) dX2_mateFor_13 rfl ?_
    refine r_goto (q := 18) dX2_mateFor_14 rfl ?_
    exact fin 0 (by rw [if_pos (bI_n0.mp c10)])
end MO2


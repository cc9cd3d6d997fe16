/-! ===== PrayerMatsFace: spread, days away ===== -/
def LawOk (S : SQ) (l : Int32 × Int32) : Prop := l = (-9, -1) ∨ ∃ a b, a < S.1.length ∧ b < S.1.length ∧ l = (nI (10 * a + b), nI (qr S a b))
theorem lawS_ok {S : SQ} (h6 : S.1.length ≤ 6) : LawOk S (lawS S) := by
  refine forR_inv' (f := lawI S) (LawOk S) (N := S.1.length) (fun a s ha hR => ?_) _ _ _ (by omega) (Or.inl rfl)
  refine forR_inv' (f := lawF S a) (LawOk S) (N := S.1.length) (fun b s hb hR => ?_) _ _ _ (by omega) hR
  unfold lawF
  split
  · exact hR
  · refine Or.inr ⟨a, b, by omega, by omega, ?_⟩
    rw [show (10 : Int32) = nI 10 from rfl, pk_mul, nI_add]
theorem awyS_vals {p own away : Nat} (ho : own ≤ 31) : ∀ (c k : Nat) (S : SQ), ValS S → ValS (awyS p own away c k S)
  | 0, _, _, h => h
  | c + 1, k, S, h => awyS_vals ho c (k + 1) _ (goesS_vals (vals_setH h (by split <;> omega)))
theorem KX.days9 {x : Nat} {g : RH} {X : QX} (h : KX x g X) (p own gn k : Nat) (ho : own ≤ 31) : ValS (awyS p own gn k 0 X.1) := awyS_vals ho k 0 X.1 h.2.1
theorem nI_sub {a b : Nat} (h : b ≤ a) : nI a - nI b = nI (a - b) := by
  obtain ⟨d, rfl⟩ : ∃ d, a = d + b := ⟨a - b, by omega⟩
  rw [← nI_add, Nat.add_sub_cancel, Int32.add_sub_cancel]
theorem pop_pow : ∀ n, n < 9 → ∀ g, g < 256 → g < 2 ^ n → pop g ≤ n := by decide +kernel
section XS1
variable {G : GD} {n x : Nat} {w w' : XW} {g : RH} {σ : SG} {X Y : QX}
theorem k_X0_spread (h : XR x w g σ) : Ct G yX0_spread cX0_spread 6 (some .int) 4 0 0 [.ref x] n (xh x w g) (XPo x n g (spreadS σ)) := by
  refine Ct.intro (k := 5) [some (.ref x), none, none, none, none, none] (by decide) (Nat.le_of_ble_eq_true rfl) rfl fun z hz hin => ?_
  have hk := h.kx
  have h6 := hk.l6
  unfold spreadS sprS at hz
  rw [← h.s] at hz
  refine r_aload_0 (q := 1) dX0_spread_0 rfl ?_
  refine r_get gf_X0_16_0 xh_x rfl (q := 4) dX0_spread_1 rfl ?_
  refine r_callS_1 cs_X0_192 (by decide) (Nat.le_of_ble_eq_true rfl) ⟨Nat.le_refl _, Nat.le_refl _⟩ (k_X0_atLaw 0 (by decide) hk rfl) (q := 7) dX0_spread_4 rfl ?_
  refine r_istore_1 (by decide) rfl (q := 8) dX0_spread_7 rfl ?_
  refine r_iload_1 (q := 9) dX0_spread_8 rfl ?_
  rcases lawS_ok h6 with e | ⟨a, b, ha, hb, e⟩
  · rw [e] at hz ⊢
    refine r_if_ge (q := 12) (tgt := 14) dX0_spread_9 rfl rfl (fun c9 => ?_) (fun c9 => ?_)
    · exact absurd c9 (by decide)
    refine r_iconst 0 (by decide) (q := 13) dX0_spread_12 rfl ?_
    exact r_iret hz dX0_spread_13 (Nat.le_refl _) (Nat.le_refl _) (.of rfl h)
  · rw [e] at hz ⊢
    refine r_if_ge (q := 12) (tgt := 14) dX0_spread_9 rfl rfl (fun c9 => ?_) (fun c9 => ?_)
    · rw [show (if (nI (10 * a + b), nI (qr (w.1 0).1 a b)).1 < 0 then (0 : Int32) else (nI (10 * a + b), nI (qr (w.1 0).1 a b)).2 - sprM (w.1 0).1 (nI (10 * a + b), nI (qr (w.1 0).1 a b)).2) = nI (qr (w.1 0).1 a b) - sprM (w.1 0).1 (nI (qr (w.1 0).1 a b)) from if_neg (nI_pos (by omega))] at hz
      refine r_aload_0 (q := 15) dX0_spread_14 rfl ?_
      refine r_get gf_X0_16_0 xh_x rfl (q := 18) dX0_spread_15 rfl ?_
      refine r_iload_1 (q := 19) dX0_spread_18 rfl ?_
      refine r_bipush 10 (by decide) (q := 21) dX0_spread_19 rfl ?_
      refine r_idiv (by decide) (q := 22) dX0_spread_21 rfl ?_
      refine J.topi (y := nI a) (by rw [show (10 : Int32) = nI 10 from rfl, pk_div (by omega) (by decide) (by decide)]; congr 1; omega) ?_
      refine r_iload_1 (q := 23) dX0_spread_22 rfl ?_
      refine r_bipush 10 (by decide) (q := 25) dX0_spread_23 rfl ?_
      refine r_irem (by decide) (q := 26) dX0_spread_25 rfl ?_
      refine J.topi (y := nI b) (by rw [show (10 : Int32) = nI 10 from rfl, pk_rem (by omega) (by decide) (by decide)]; congr 1; omega) ?_
      refine r_callV_2 cv_X0_149 (xe_o 0 (by decide) rfl) rfl (by decide) (Nat.le_of_ble_eq_true rfl) ⟨Nat.le_refl _, Nat.le_refl _⟩ (x_between 0 (by decide) hk rfl (by omega) (by omega)) (q := 29) dX0_spread_26 rfl ?_
      refine r_istore_2 (by decide) rfl (q := 30) dX0_spread_29 rfl ?_
      refine r_iload_2 (q := 31) dX0_spread_30 rfl ?_
      refine r_istore_3 (by decide) rfl (q := 32) dX0_spread_31 rfl ?_
      refine r_iconst 0 (by decide) (q := 33) dX0_spread_32 rfl ?_
      refine r_istore_4 (by decide) rfl (q := 35) dX0_spread_33 rfl ?_
      refine forJ (f := sprI (w.1 0).1) (σ := Int32) (w.1 0).1.1.length (fun _ => True) (fun i s => ∀ o5 : Option Value, J G z cX0_spread 6 RX0 4 0 0 0 0 35 [some (.ref x), some (.int (nI (10 * a + b))), some (.int (nI (qr (w.1 0).1 a b))), some (.int s), some (.int (nI i)), o5] [] n (xh x w g)) (a0 := 0) (s0 := nI (qr (w.1 0).1 a b)) (Nat.zero_le _) trivial (fun s _ hs o5 => ?_) (fun i s _ hi _ => ⟨trivial, fun next o5 => ?_⟩) none
      · refine r_iload_4 (q := 37) dX0_spread_35 rfl ?_
        refine r_aload_0 (q := 38) dX0_spread_37 rfl ?_
        refine r_get gf_X0_16_0 xh_x rfl (q := 41) dX0_spread_38 rfl ?_
        refine r_callV_0 cv_X0_74 (xe_o 0 (by decide) rfl) rfl (by decide) (Nat.le_of_ble_eq_true rfl) ⟨Nat.le_refl _, Nat.le_refl _⟩ (x_many 0 (by decide) hk rfl) (q := 44) dX0_spread_41 rfl ?_
        refine r_icmp_ge (q := 47) (tgt := 93) dX0_spread_44 rfl rfl (fun c44 => ?_) (fun c44 => ?_)
        · rw [← show s = sprM (w.1 0).1 (nI (qr (w.1 0).1 a b)) from hs] at hz
          refine r_iload_2 (q := 94) dX0_spread_93 rfl ?_
          refine r_iload_3 (q := 95) dX0_spread_94 rfl ?_
          refine r_isub (q := 96) dX0_spread_95 rfl ?_
          exact r_iret hz dX0_spread_96 (Nat.le_refl _) (Nat.le_refl _) (.of rfl h)
        · exact absurd (Int32.le_refl _) c44
      · refine r_iload_4 (q := 37) dX0_spread_35 rfl ?_
        refine r_aload_0 (q := 38) dX0_spread_37 rfl ?_
        refine r_get gf_X0_16_0 xh_x rfl (q := 41) dX0_spread_38 rfl ?_
        refine r_callV_0 cv_X0_74 (xe_o 0 (by decide) rfl) rfl (by decide) (Nat.le_of_ble_eq_true rfl) ⟨Nat.le_refl _, Nat.le_refl _⟩ (x_many 0 (by decide) hk rfl) (q := 44) dX0_spread_41 rfl ?_
        refine r_icmp_ge (q := 47) (tgt := 93) dX0_spread_44 rfl rfl (fun c44 => ?_) (fun c44 => ?_)
        · exact absurd c44 (nI_not_lt hi (by omega))
        refine r_iload_4 (q := 49) dX0_spread_47 rfl ?_
        refine r_iconst 1 (by decide) (q := 50) dX0_spread_49 rfl ?_
        refine r_iadd (q := 51) dX0_spread_50 rfl ?_
        refine J.topi (nI_add i 1) ?_
        refine r_istore_5 (by decide) rfl (q := 53) dX0_spread_51 rfl ?_
        refine forJ (f := sprF (w.1 0).1 i) (σ := Int32) (w.1 0).1.1.length (fun _ => True) (fun k s => J G z cX0_spread 6 RX0 4 0 0 0 0 53 [some (.ref x), some (.int (nI (10 * a + b))), some (.int (nI (qr (w.1 0).1 a b))), some (.int s), some (.int (nI i)), some (.int (nI k))] [] n (xh x w g)) (a0 := i + 1) (s0 := s) hi trivial (fun s' _ hs' => ?_) (fun k s' _ hk' _ => ⟨trivial, fun next' => ?_⟩)
        · refine r_iload_5 (q := 55) dX0_spread_53 rfl ?_
          refine r_aload_0 (q := 56) dX0_spread_55 rfl ?_
          refine r_get gf_X0_16_0 xh_x rfl (q := 59) dX0_spread_56 rfl ?_
          refine r_callV_0 cv_X0_74 (xe_o 0 (by decide) rfl) rfl (by decide) (Nat.le_of_ble_eq_true rfl) ⟨Nat.le_refl _, Nat.le_refl _⟩ (x_many 0 (by decide) hk rfl) (q := 62) dX0_spread_59 rfl ?_
          refine r_icmp_ge (q := 65) (tgt := 87) dX0_spread_62 rfl rfl (fun c62 => ?_) (fun c62 => ?_)
          · refine r_inc_4 (by decide) rfl (q := 90) dX0_spread_87 rfl ?_
            refine r_goto (q := 35) dX0_spread_90 rfl ?_
            rw [show s' = sprI (w.1 0).1 i s from hs']
            exact next _
          · exact absurd (Int32.le_refl _) c62
        · refine r_iload_5 (q := 55) dX0_spread_53 rfl ?_
          refine r_aload_0 (q := 56) dX0_spread_55 rfl ?_
          refine r_get gf_X0_16_0 xh_x rfl (q := 59) dX0_spread_56 rfl ?_
          refine r_callV_0 cv_X0_74 (xe_o 0 (by decide) rfl) rfl (by decide) (Nat.le_of_ble_eq_true rfl) ⟨Nat.le_refl _, Nat.le_refl _⟩ (x_many 0 (by decide) hk rfl) (q := 62) dX0_spread_59 rfl ?_
          refine r_icmp_ge (q := 65) (tgt := 87) dX0_spread_62 rfl rfl (fun c62 => ?_) (fun c62 => ?_)
          · exact absurd c62 (nI_not_lt hk' (by omega))
          refine r_iload_3 (q := 66) dX0_spread_65 rfl ?_
          refine r_aload_0 (q := 67) dX0_spread_66 rfl ?_
          refine r_get gf_X0_16_0 xh_x rfl (q := 70) dX0_spread_67 rfl ?_
          refine r_iload_4 (q := 72) dX0_spread_70 rfl ?_
          refine r_iload_5 (q := 74) dX0_spread_72 rfl ?_
          refine r_callV_2 cv_X0_149 (xe_o 0 (by decide) rfl) rfl (by decide) (Nat.le_of_ble_eq_true rfl) ⟨Nat.le_refl _, Nat.le_refl _⟩ (x_between 0 (by decide) hk rfl (by omega) (by omega)) (q := 77) dX0_spread_74 rfl ?_
          refine r_min q934 (by decide) (Nat.le_of_ble_eq_true rfl) ⟨Nat.le_refl _, Nat.le_refl _⟩ (q := 80) dX0_spread_77 rfl ?_
          refine r_istore_3 (by decide) rfl (q := 81) dX0_spread_80 rfl ?_
          refine r_inc_5 (by decide) rfl (q := 84) dX0_spread_81 rfl ?_
          refine r_goto (q := 53) dX0_spread_84 rfl ?_
          exact next'
    · exact absurd (nI_pos' (by omega)) c9
theorem k_X0_away {a b v nn t part : Int32} (h : XR x w g σ) : Ct G yX0_away cX0_away 11 (some .long) 9 0 0 [.ref x, .int a, .int b, .int v, .int nn, .int t, .int part] n (xh x w g) (XPl x n g (awayS σ a b v nn t part)) := by
  refine Ct.intro (k := 4) [some (.ref x), some (.int a), some (.int b), some (.int v), some (.int nn), some (.int t), some (.int part), none, none, none, none] (by decide) (Nat.le_of_ble_eq_true rfl) rfl fun z hz hin => ?_
  have hk := h.kx
  have h6 := hk.l6
  have h6s := h.oks.1.1
  have fin : ∀ no : Int32, no = noAwy σ.1 a b v nn t part → J G z cX0_away 11 RX0 9 0 0 0 0 73 [some (.ref x), some (.int a), some (.int b), some (.int v), some (.int nn), some (.int t), some (.int part), none, none, none, none] [.int no] n (xh x w g) := by
    intro no h1
    refine r_istore_7 (by decide) rfl (q := 75) dX0_away_73 rfl ?_
    refine r_iload_7 (q := 77) dX0_away_75 rfl ?_
    refine r_if_eq (q := 80) (tgt := 87) dX0_away_77 rfl rfl (fun c77 => ?_) (fun c77 => ?_)
    · have h0 : noAwy σ.1 a b v nn t part = 0 := by rw [← h1]; exact c77
      have h0' := h0
      unfold noAwy at h0'
      split at h0'
      · rename_i t1
        split at h0'
        · exact absurd h0' (by decide)
        rename_i hb1
        split at h0'
        · exact absurd h0' (by decide)
        rename_i hb2
        obtain ⟨p, b', ha, hb, -, rfl, rfl⟩ := areTw_t (h.oks.1) t1
        obtain ⟨vv, hvv, rfl⟩ := nI_of (x := v) (fun q => hb1 (Or.inl q))
        obtain ⟨k9, hk9, rfl⟩ := nI_of (x := nn) (fun q => hb1 (Or.inr (Or.inl q)))
        have t2 : (2 : Int32) ≤ t := Int32.not_lt.mp (fun q => hb1 (Or.inr (Or.inr q)))
        obtain ⟨tt, htt, rfl⟩ := nI_of (x := t) (Int32.not_lt.mpr (Int32.le_trans (by decide) t2))
        have u1 : vv ≤ 99 := (nI_leI (b := 99) hvv (by decide)).mp (Int32.not_lt.mp (fun q => hb2 (Or.inl q)))
        have u2 : k9 ≤ 8 := (nI_leI (b := 8) hk9 (by decide)).mp (Int32.not_lt.mp (fun q => hb2 (Or.inr (Or.inl q))))
        have u3 : tt ≤ 20 := (nI_leI (b := 20) htt (by decide)).mp (Int32.not_lt.mp (fun q => hb2 (Or.inr (Or.inr q))))
        have u4 : 2 ≤ tt := (nI_leI (a := 2) (by decide) htt).mp t2
        have e0 : awayS σ (nI p) (nI b') (nI vv) (nI k9) (nI tt) part = (leastL (awyN σ.1 p b' vv k9 tt) (tt ^ k9) part, σ) := by
          unfold awayS
          rw [if_pos h0, cl_nI (by omega), cl_nI (by omega), cl_nI (by omega), cl_nI (by omega), cl_nI (by omega)]
        rw [e0] at hz
        have b256 : 2 ^ k9 ≤ 256 := Nat.pow_le_pow_right (n := 2) (by decide) u2
        have pw := awy_pow (n := k9) (t := tt) u2 u3
        have p20 : 20 ^ 8 < 2 ^ 62 := by decide
        have hl := awyN_le (S := σ.1) (a := p) (b := b') (v := vv) u2 u3
        rw [← h.s] at ha hb hl hz
        refine r_lconst 0 (by decide) (q := 88) dX0_away_87 rfl ?_
        refine r_lstore_8 (by decide) rfl (q := 90) dX0_away_88 rfl ?_
        refine r_iconst 0 (by decide) (q := 91) dX0_away_90 rfl ?_
        refine r_istore_10 (by decide) rfl (q := 93) dX0_away_91 rfl ?_
        refine J.lo (l2 := [some (.ref x), some (.int (nI p)), some (.int (nI b')), some (.int (nI vv)), some (.int (nI k9)), some (.int (nI tt)), some (.int part), some (.int no), some (.long (lN 0)), none, some (.int (nI 0))]) rfl ?_
        refine J.heap (h2 := xh x (setq w 1 (w.1 1)) g) (by rw [setq_self]) ?_
        refine forJ (f := awyF (w.1 0).1 p b' vv k9 tt) (σ := Nat) (2 ^ k9) (fun _ => True) (fun gn acc => ∀ X : QX, LX X → J G z cX0_away 11 RX0 9 0 0 0 0 93 [some (.ref x), some (.int (nI p)), some (.int (nI b')), some (.int (nI vv)), some (.int (nI k9)), some (.int (nI tt)), some (.int part), some (.int no), some (.long (lN acc)), none, some (.int (nI gn))] [] n (xh x (setq w 1 X) g)) (a0 := 0) (s0 := 0) (Nat.zero_le _) trivial (fun acc _ hs X hX => ?_) (fun gn acc _ hgn _ => ⟨trivial, fun next X hX => ?_⟩) (w.1 1) (h.lx 1 (by decide))
        · have hs : acc = awyN (w.1 0).1 p b' vv k9 tt := hs
          refine r_iload_10 (q := 95) dX0_away_93 rfl ?_
          refine r_iconst 1 (by decide) (q := 96) dX0_away_95 rfl ?_
          refine r_iload_4 (q := 98) dX0_away_96 rfl ?_
          refine r_ishl (q := 99) dX0_away_98 rfl ?_
          refine J.topi (shl_ok k9 (by omega)) ?_
          refine r_icmp_ge (q := 102) (tgt := 143) dX0_away_99 rfl rfl (fun c99 => ?_) (fun c99 => ?_)
          · refine r_lload_8 (q := 145) dX0_away_143 rfl ?_
            refine r_iload_5 (q := 147) dX0_away_145 rfl ?_
            refine r_i2l (q := 148) dX0_away_147 rfl ?_
            refine J.topl (nI_l (by omega)) ?_
            refine r_iload_4 (q := 150) dX0_away_148 rfl ?_
            refine r_callS_2 cs_X0_301 (by decide) (Nat.le_of_ble_eq_true rfl) ⟨Nat.le_refl _, Nat.le_refl _⟩ (k_X0_power (t := tt) (m := k9) (by omega)) (q := 153) dX0_away_150 rfl ?_
            refine r_iload_6 (q := 155) dX0_away_153 rfl ?_
            refine r_callS_3 cs_X0_305 (by decide) (Nat.le_of_ble_eq_true rfl) ⟨Nat.le_refl _, Nat.le_refl _⟩ (k_X0_inLeast (a := acc) (b := tt ^ k9) (by omega) (by omega)) (q := 158) dX0_away_155 rfl ?_
            rw [hs]
            exact r_lret hz dX0_away_158 (Nat.le_refl _) (Nat.le_refl _) (.of rfl (h.mind hX))
          · exact absurd (Int32.le_refl _) c99
        · refine r_iload_10 (q := 95) dX0_away_93 rfl ?_
          refine r_iconst 1 (by decide) (q := 96) dX0_away_95 rfl ?_
          refine r_iload_4 (q := 98) dX0_away_96 rfl ?_
          refine r_ishl (q := 99) dX0_away_98 rfl ?_
          refine J.topi (shl_ok k9 (by omega)) ?_
          refine r_icmp_ge (q := 102) (tgt := 143) dX0_away_99 rfl rfl (fun c99 => ?_) (fun c99 => ?_)
          · exact absurd c99 (nI_ge hgn (by omega))
          refine r_aload_0 (q := 103) dX0_away_102 rfl ?_
          refine r_iload_1 (q := 104) dX0_away_103 rfl ?_
          refine r_iload_2 (q := 105) dX0_away_104 rfl ?_
          refine r_iload_4 (q := 107) dX0_away_105 rfl ?_
          refine r_iload_10 (q := 109) dX0_away_107 rfl ?_
          refine r_callVp_4 cv_X0_297 xh_x rfl (by decide) (Nat.le_of_ble_eq_true rfl) ⟨Nat.le_refl _, Nat.le_refl _⟩ (k_X0_quarrelBy (m := k9) (away := gn) hk hX ha hb u2 (by omega)) (q := 112) dX0_away_109 rfl ?_
          intro r n' h' hq
          obtain ⟨rfl, rfl, X', hX', rfl⟩ := hq
          have q99 := vs_qr (hk.days9 p (hr (w.1 0).1 p) gn k9 (by have := vs_hr hk.2.1 p; omega)) p b'
          unfold awyF at next
          refine r_iload_3 (q := 113) dX0_away_112 rfl ?_
          refine r_icmp_gt (q := 116) (tgt := 137) dX0_away_113 rfl rfl (fun c113 => ?_) (fun c113 => ?_)
          · have hq : ¬ qr (awyS p (hr (w.1 0).1 p) gn k9 0 (w.1 0).1) p b' ≤ vv := fun q => absurd c113 (Int32.not_lt.mpr (nI_le q (by omega)))
            rw [if_neg hq] at next
            refine r_inc_10 (by decide) rfl (q := 140) dX0_away_137 rfl ?_
            refine r_goto (q := 93) dX0_away_140 rfl ?_
            exact next X' hX'
          · have hq : qr (awyS p (hr (w.1 0).1 p) gn k9 0 (w.1 0).1) p b' ≤ vv := (nI_leI (by omega) (by omega)).mp (Int32.not_lt.mp c113)
            rw [if_pos hq] at next
            refine r_lload_8 (q := 118) dX0_away_116 rfl ?_
            refine r_iload_5 (q := 120) dX0_away_118 rfl ?_
            refine r_iconst 1 (by decide) (q := 121) dX0_away_120 rfl ?_
            refine r_isub (q := 122) dX0_away_121 rfl ?_
            refine J.topi (y := nI (tt - 1)) (by
              obtain ⟨q, rfl⟩ : ∃ q, tt = q + 1 := ⟨tt - 1, by omega⟩
              exact nI_pred q) ?_
            refine r_i2l (q := 123) dX0_away_122 rfl ?_
            refine J.topl (nI_l (by omega)) ?_
            refine r_iload_4 (q := 125) dX0_away_123 rfl ?_
            refine r_iload_10 (q := 127) dX0_away_125 rfl ?_
            refine r_callS_1 cs_X0_256 (by decide) (Nat.le_of_ble_eq_true rfl) ⟨Nat.le_refl _, Nat.le_refl _⟩ (k_X0_bits (k := gn) (by omega)) (q := 130) dX0_away_127 rfl ?_
            have hpop : pop gn ≤ k9 := pop_pow k9 (by omega) gn (by omega) hgn
            refine r_isub (q := 131) dX0_away_130 rfl ?_
            refine J.topi (y := nI (k9 - pop gn)) (nI_sub hpop) ?_
            refine r_callS_2 cs_X0_301 (by decide) (Nat.le_of_ble_eq_true rfl) ⟨Nat.le_refl _, Nat.le_refl _⟩ (k_X0_power (t := tt - 1) (m := k9 - pop gn) (by omega)) (q := 134) dX0_away_131 rfl ?_
            refine r_ladd (q := 135) dX0_away_134 rfl ?_
            refine J.topl (lN_add _ _) ?_
            refine r_lstore_8 (by decide) rfl (q := 137) dX0_away_135 rfl ?_
            refine r_inc_10 (by decide) rfl (q := 140) dX0_away_137 rfl ?_
            refine r_goto (q := 93) dX0_away_140 rfl ?_
            exact next X' hX'
      · exact absurd h0' (by decide)
    · have hc : isC no := by rw [h1] at c77 ⊢; exact noAwy_c.resolve_left c77
      have e0 : awayS σ a b v nn t part = (4000000000000000000 - (noAwy σ.1 a b v nn t part).toInt64, rfS σ (noAwy σ.1 a b v nn t part)) := if_neg (h1 ▸ c77)
      rw [e0, ← h1] at hz
      refine r_aload_0 (q := 81) dX0_away_80 rfl ?_
      refine r_iload_7 (q := 83) dX0_away_81 rfl ?_
      refine r_callV_1 cv_X0_293 xh_x rfl (by decide) (Nat.le_of_ble_eq_true rfl) ⟨Nat.le_refl _, Nat.le_refl _⟩ (k_X0_refuseWide hc h.ra) (q := 86) dX0_away_83 rfl ?_
      exact r_lret hz dX0_away_86 (Nat.le_refl _) (Nat.le_refl _) (.of rfl (h.refuse _))
  refine r_aload_0 (q := 1) dX0_away_0 rfl ?_
  refine r_iload_1 (q := 2) dX0_away_1 rfl ?_
  refine r_iload_2 (q := 3) dX0_away_2 rfl ?_
  refine r_callV_2 cv_X0_146 xh_x rfl (by decide) (Nat.le_of_ble_eq_true rfl) ⟨Nat.le_refl _, Nat.le_refl _⟩ (k_X0_areTwo hk) (q := 6) dX0_away_3 rfl ?_
  rw [h.s]
  refine r_if_ne (q := 9) (tgt := 13) dX0_away_6 rfl rfl (fun c6 => ?_) (fun c6 => ?_)
  · have t1 := bI_n0.mp c6
    have no4 : (v < 0 ∨ nn < 0 ∨ t < 2) → J G z cX0_away 11 RX0 9 0 0 0 0 28 [some (.ref x), some (.int a), some (.int b), some (.int v), some (.int nn), some (.int t), some (.int part), none, none, none, none] [] n (xh x w g) := by
      intro q
      refine r_bipush (-4) (by decide) (q := 30) dX0_away_28 rfl ?_
      refine r_goto (q := 73) dX0_away_30 rfl ?_
      exact fin _ (by unfold noAwy; rw [if_pos t1, if_pos q])
    refine r_iload_3 (q := 14) dX0_away_13 rfl ?_
    refine r_if_lt (q := 17) (tgt := 28) dX0_away_14 rfl rfl (fun c14 => ?_) (fun c14 => ?_)
    · exact no4 (Or.inl c14)
    refine r_iload_4 (q := 19) dX0_away_17 rfl ?_
    refine r_if_lt (q := 22) (tgt := 28) dX0_away_19 rfl rfl (fun c19 => ?_) (fun c19 => ?_)
    · exact no4 (Or.inr (Or.inl c19))
    refine r_iload_5 (q := 24) dX0_away_22 rfl ?_
    refine r_iconst 2 (by decide) (q := 25) dX0_away_24 rfl ?_
    refine r_icmp_ge (q := 28) (tgt := 33) dX0_away_25 rfl rfl (fun c25 => ?_) (fun c25 => ?_)
    · have hb : ¬(v < 0 ∨ nn < 0 ∨ t < 2) := fun q => by rcases q with q | q | q; exact c14 q; exact c19 q; exact absurd q (Int32.not_lt.mpr c25)
      have no6 : (99 < v ∨ 8 < nn ∨ 20 < t) → J G z cX0_away 11 RX0 9 0 0 0 0 53 [some (.ref x), some (.int a), some (.int b), some (.int v), some (.int nn), some (.int t), some (.int part), none, none, none, none] [] n (xh x w g) := by
        intro q
        refine r_bipush (-6) (by decide) (q := 55) dX0_away_53 rfl ?_
        refine r_goto (q := 73) dX0_away_55 rfl ?_
        exact fin _ (by unfold noAwy; rw [if_pos t1, if_neg hb, if_pos q])
      refine r_iload_3 (q := 34) dX0_away_33 rfl ?_
      refine r_bipush 99 (by decide) (q := 36) dX0_away_34 rfl ?_
      refine r_icmp_gt (q := 39) (tgt := 53) dX0_away_36 rfl rfl (fun c36 => ?_) (fun c36 => ?_)
      · exact no6 (Or.inl c36)
      refine r_iload_4 (q := 41) dX0_away_39 rfl ?_
      refine r_bipush 8 (by decide) (q := 43) dX0_away_41 rfl ?_
      refine r_icmp_gt (q := 46) (tgt := 53) dX0_away_43 rfl rfl (fun c43 => ?_) (fun c43 => ?_)
      · exact no6 (Or.inr (Or.inl c43))
      refine r_iload_5 (q := 48) dX0_away_46 rfl ?_
      refine r_bipush 20 (by decide) (q := 50) dX0_away_48 rfl ?_
      refine r_icmp_le (q := 53) (tgt := 58) dX0_away_50 rfl rfl (fun c50 => ?_) (fun c50 => ?_)
      · have hb2 : ¬(99 < v ∨ 8 < nn ∨ 20 < t) := fun q => by rcases q with q | q | q; exact c36 q; exact c43 q; exact absurd q (Int32.not_lt.mpr c50)
        refine r_iload_6 (q := 60) dX0_away_58 rfl ?_
        refine r_iconst 2 (by decide) (q := 61) dX0_away_60 rfl ?_
        refine r_callS_2 cs_X0_78 (by decide) (Nat.le_of_ble_eq_true rfl) ⟨Nat.le_refl _, Nat.le_refl _⟩ (k_X0_isIn) (q := 64) dX0_away_61 rfl ?_
        refine r_if_eq (q := 67) (tgt := 71) dX0_away_64 rfl rfl (fun c64 => ?_) (fun c64 => ?_)
        · have hp : inI part 2 = false := bI_0.mp c64
          refine r_bipush (-2) (by decide) (q := 73) dX0_away_71 rfl ?_
          exact fin _ (by unfold noAwy; rw [if_pos t1, if_neg hb, if_neg hb2, hp]; rfl)
        · have hp : inI part 2 = true := bI_n0.mp c64
          refine r_iconst 0 (by decide) (q := 68) dX0_away_67 rfl ?_
          refine r_goto (q := 73) dX0_away_68 rfl ?_
          exact fin _ (by unfold noAwy; rw [if_pos t1, if_neg hb, if_neg hb2, if_pos hp])
      · exact no6 (Or.inr (Or.inr (Int32.not_le.mp c50)))
    · exact no4 (Or.inr (Or.inr (Int32.not_le.mp c25)))
  · have t1 : ¬ areTw σ.1 a b = true := fun q => by rw [bI_0.mp c6] at q; cases q
    refine r_iconst (-1) (by decide) (q := 10) dX0_away_9 rfl ?_
    refine r_goto (q := 73) dX0_away_10 rfl ?_
    exact fin _ (by unfold noAwy; rw [if_neg t1])
end XS1


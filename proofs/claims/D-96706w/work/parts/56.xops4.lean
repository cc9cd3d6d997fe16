/-! ===== swaps, help, ways ===== -/
def noHel (S : SQ) (p hr v : Int32) : Int32 := if isPer S p = true ∧ inI hr 5 = true then wi v 0 99 else -1
def helS (S : SQ) (p h m : Nat) : Int32 := match mt S p with
  | none => 0
  | some b => nI (qr (daysS m S) p b) - nI (qr (daysS m (setH S p (hr S p ||| 2 ^ h))) p b)
def helpsS (σ : SG) (p h v : Int32) : Int32 × SG :=
  if noHel σ.1 p h v = 0 then (helS σ.1 (cl p) (cl h) (cl v), σ) else (1000000000 - noHel σ.1 p h v, rfS σ (noHel σ.1 p h v))
theorem hel_bit : ∀ m, m < 32 → ∀ i, i < 5 → nI m ||| (1 : Int32) <<< (nI i &&& 31) = nI (m ||| 2 ^ i) ∧ m ||| 2 ^ i < 32 := by decide +kernel
def gaiS (q a b : Nat) : Int32 := 20 - nI (q - 10 * a - 10 * b) + (if a = b then 0 else if a = 0 then 8 else -5)
def wayF (q : Nat) : Nat → Nat → Int32
  | 0, _ => -9
  | c + 1, k => if gaiS q (1 - k / 2) (k % 2) ≤ gaiS q (k / 2) (k % 2) ∧ gaiS q (1 - k % 2) (k / 2) ≤ gaiS q (k % 2) (k / 2) then 10 * nI (k / 2) + nI (k % 2) else wayF q c (k + 1)
def waysS (σ : SG) (a b : Int32) : Int32 × SG := if areTw σ.1 a b = true then (wayF (qr σ.1 (cl a) (cl b)) 4 0, σ) else (-1, rfS σ (-1))
theorem gai_mx : ∀ q, q < 100 → ∀ a, a < 2 → ∀ b, b < 2 → (if (0 : Int32) < nI q - 10 * nI a - 10 * nI b then nI q - 10 * nI a - 10 * nI b else 0) = nI (q - 10 * a - 10 * b) := by decide +kernel
section XO4
variable {G : GD} {n x : Nat} {w w' : XW} {g : RH} {σ : SG} {X Y : QX}
theorem k_X0_gains {q a b : Nat} {h : RH} (hq : q < 100) (ha : a < 2) (hb : b < 2) : CtE G yX0_gains cX0_gains 4 (some FieldType.int) 2 [.int (nI q), .int (nI a), .int (nI b)] n h (some (.int (gaiS q a b))) h := by
  refine Ct.intro (k := 1) [some (.int (nI q)), some (.int (nI a)), some (.int (nI b)), none] (by decide) (Nat.le_of_ble_eq_true rfl) rfl fun z hz hin => ?_
  unfold gaiS at hz
  refine r_iconst 0 (by decide) (q := 1) dX0_gains_0 rfl ?_
  refine r_iload_0 (q := 2) dX0_gains_1 rfl ?_
  refine r_bipush 10 (by decide) (q := 4) dX0_gains_2 rfl ?_
  refine r_iload_1 (q := 5) dX0_gains_4 rfl ?_
  refine r_imul (q := 6) dX0_gains_5 rfl ?_
  refine r_isub (q := 7) dX0_gains_6 rfl ?_
  refine r_bipush 10 (by decide) (q := 9) dX0_gains_7 rfl ?_
  refine r_iload_2 (q := 10) dX0_gains_9 rfl ?_
  refine r_imul (q := 11) dX0_gains_10 rfl ?_
  refine r_isub (q := 12) dX0_gains_11 rfl ?_
  refine r_max q879 (by decide) (Nat.le_of_ble_eq_true rfl) ⟨Nat.le_refl _, Nat.le_refl _⟩ (q := 15) dX0_gains_12 rfl ?_
  refine J.topi (gai_mx q hq a ha b hb) ?_
  refine r_istore_3 (by decide) rfl (q := 16) dX0_gains_15 rfl ?_
  refine r_bipush 20 (by decide) (q := 18) dX0_gains_16 rfl ?_
  refine r_iload_3 (q := 19) dX0_gains_18 rfl ?_
  refine r_isub (q := 20) dX0_gains_19 rfl ?_
  refine r_iload_1 (q := 21) dX0_gains_20 rfl ?_
  refine r_iload_2 (q := 22) dX0_gains_21 rfl ?_
  refine r_icmp_ne (q := 25) (tgt := 29) dX0_gains_22 rfl rfl (fun c22 => ?_) (fun c22 => ?_)
  · have hne : a ≠ b := fun e => c22 (by rw [e])
    rw [if_neg hne] at hz
    refine r_iload_1 (q := 30) dX0_gains_29 rfl ?_
    refine r_if_ne (q := 33) (tgt := 38) dX0_gains_30 rfl rfl (fun c30 => ?_) (fun c30 => ?_)
    · have : a ≠ 0 := fun e => c30 (by rw [e]; rfl)
      rw [if_neg this] at hz
      refine r_bipush (-5) (by decide) (q := 40) dX0_gains_38 rfl ?_
      refine r_iadd (q := 41) dX0_gains_40 rfl ?_
      exact r_iret hz dX0_gains_41 (Nat.le_refl _) (Nat.le_refl _) ⟨rfl, rfl, rfl⟩
    · have : a = 0 := nI_inj (b := 0) (by omega) (by omega) c30
      rw [if_pos this] at hz
      refine r_bipush 8 (by decide) (q := 35) dX0_gains_33 rfl ?_
      refine r_goto (q := 40) dX0_gains_35 rfl ?_
      refine r_iadd (q := 41) dX0_gains_40 rfl ?_
      exact r_iret hz dX0_gains_41 (Nat.le_refl _) (Nat.le_refl _) ⟨rfl, rfl, rfl⟩
  · have he : a = b := nI_inj (by omega) (by omega) c22
    rw [if_pos he] at hz
    refine r_iconst 0 (by decide) (q := 26) dX0_gains_25 rfl ?_
    refine r_goto (q := 40) dX0_gains_26 rfl ?_
    refine r_iadd (q := 41) dX0_gains_40 rfl ?_
    exact r_iret hz dX0_gains_41 (Nat.le_refl _) (Nat.le_refl _) ⟨rfl, rfl, rfl⟩
theorem k_X0_ways {a b : Int32} (h : XR x w g σ) : Ct G yX0_ways cX0_ways 7 (some .int) 6 0 0 [.ref x, .int a, .int b] n (xh x w g) (XPo x n g (waysS σ a b)) := by
  refine Ct.intro (k := 4) [some (.ref x), some (.int a), some (.int b), none, none, none, none] (by decide) (Nat.le_of_ble_eq_true rfl) rfl fun z hz hin => ?_
  refine r_aload_0 (q := 1) dX0_ways_0 rfl ?_
  refine r_iload_1 (q := 2) dX0_ways_1 rfl ?_
  refine r_iload_2 (q := 3) dX0_ways_2 rfl ?_
  refine r_callV_2 cv_X0_146 xh_x rfl (by decide) (Nat.le_of_ble_eq_true rfl) ⟨Nat.le_refl _, Nat.le_refl _⟩ (k_X0_areTwo h.kx) (q := 6) dX0_ways_3 rfl ?_
  rw [h.s]
  refine r_if_ne (q := 9) (tgt := 15) dX0_ways_6 rfl rfl (fun c6 => ?_) (fun c6 => ?_)
  · have hp := bI_n0.mp c6
    obtain ⟨i, j, hi, hj, hij, rfl, rfl⟩ := areTw_t h.oks.1 hp
    have h6 := h.oks.1.1
    unfold waysS at hz
    rw [if_pos hp, cl_nI (by omega), cl_nI (by omega)] at hz
    refine r_aload_0 (q := 16) dX0_ways_15 rfl ?_
    refine r_get gf_X0_16_0 xh_x rfl (q := 19) dX0_ways_16 rfl ?_
    refine r_iload_1 (q := 20) dX0_ways_19 rfl ?_
    refine r_iload_2 (q := 21) dX0_ways_20 rfl ?_
    refine r_callV_2 cv_X0_149 (xe_o 0 (by decide) rfl) rfl (by decide) (Nat.le_of_ble_eq_true rfl) ⟨Nat.le_refl _, Nat.le_refl _⟩ (x_between 0 (by decide) h.kx rfl (by omega) (by omega)) (q := 24) dX0_ways_21 rfl ?_
    rw [h.s]
    have hq := vs_qr h.oks.2.1 i j
    generalize qr σ.1 i j = q at hz hq
    refine r_istore_3 (by decide) rfl (q := 25) dX0_ways_24 rfl ?_
    refine r_iconst 0 (by decide) (q := 26) dX0_ways_25 rfl ?_
    refine r_istore_4 (by decide) rfl (q := 28) dX0_ways_26 rfl ?_
    have e2 : ∀ k, k < 4 → nI k / 2 = nI (k / 2) ∧ nI k - nI k / 2 * 2 = nI (k % 2) := by decide +kernel
    have e1 : ∀ k, k < 2 → (1 : Int32) - nI k = nI (1 - k) := by decide +kernel
    have loop : ∀ (c k : Nat) (o5 o6 : Option Value), k + c = 4 → wayF q c k = wayF q 4 0 → J G z cX0_ways 7 RX0 6 0 0 0 0 28 [some (.ref x), some (.int (nI i)), some (.int (nI j)), some (.int (nI q)), some (.int (nI k)), o5, o6] [] n (xh x w g) := by
      intro c
      induction c with
      | zero =>
        intro k o5 o6 h1 h2
        have h1 : k = 4 := h1
        subst h1
        refine r_iload_4 (q := 30) dX0_ways_28 rfl ?_
        refine r_iconst 4 (by decide) (q := 31) dX0_ways_30 rfl ?_
        refine r_icmp_ge (q := 34) (tgt := 103) dX0_ways_31 rfl rfl (fun c31 => ?_) (fun c31 => ?_)
        · refine r_bipush (-9) (by decide) (q := 105) dX0_ways_103 rfl ?_
          exact r_iret hz dX0_ways_105 (Nat.le_refl _) (Nat.le_refl _) (.of (by rw [← h2]; rfl) h)
        · exact absurd (by decide) c31
      | succ c ih =>
        intro k o5 o6 h1 h2
        have hk : k < 4 := by omega
        obtain ⟨d1, d2⟩ := e2 k hk
        have k1 : k / 2 < 2 := by omega
        have k2 : k % 2 < 2 := by omega
        have h2 : (if gaiS q (1 - k / 2) (k % 2) ≤ gaiS q (k / 2) (k % 2) ∧ gaiS q (1 - k % 2) (k / 2) ≤ gaiS q (k % 2) (k / 2) then 10 * nI (k / 2) + nI (k % 2) else wayF q c (k + 1)) = wayF q 4 0 := h2
        have go : ¬(gaiS q (1 - k / 2) (k % 2) ≤ gaiS q (k / 2) (k % 2) ∧ gaiS q (1 - k % 2) (k / 2) ≤ gaiS q (k % 2) (k / 2)) → J G z cX0_ways 7 RX0 6 0 0 0 0 97 [some (.ref x), some (.int (nI i)), some (.int (nI j)), some (.int (nI q)), some (.int (nI k)), some (.int (nI (k / 2))), some (.int (nI (k % 2)))] [] n (xh x w g) := by
          intro hn
          rw [if_neg hn] at h2
          refine r_inc_4 (by decide) rfl (q := 100) dX0_ways_97 rfl ?_
          refine r_goto (q := 28) dX0_ways_100 rfl ?_
          exact ih (k + 1) _ _ (by omega) h2
        refine r_iload_4 (q := 30) dX0_ways_28 rfl ?_
        refine r_iconst 4 (by decide) (q := 31) dX0_ways_30 rfl ?_
        refine r_icmp_ge (q := 34) (tgt := 103) dX0_ways_31 rfl rfl (fun c31 => ?_) (fun c31 => ?_)
        · exact absurd c31 (nI_not_lt (b := 4) hk (by decide))
        refine r_iload_4 (q := 36) dX0_ways_34 rfl ?_
        refine r_iconst 2 (by decide) (q := 37) dX0_ways_36 rfl ?_
        refine r_idiv (by decide) (q := 38) dX0_ways_37 rfl ?_
        refine J.topi d1 ?_
        refine r_istore_5 (by decide) rfl (q := 40) dX0_ways_38 rfl ?_
        refine r_iload_4 (q := 42) dX0_ways_40 rfl ?_
        refine r_iconst 2 (by decide) (q := 43) dX0_ways_42 rfl ?_
        refine r_irem (by decide) (q := 44) dX0_ways_43 rfl ?_
        refine J.topi d2 ?_
        refine r_istore_6 (by decide) rfl (q := 46) dX0_ways_44 rfl ?_
        refine r_iload_3 (q := 47) dX0_ways_46 rfl ?_
        refine r_iconst 1 (by decide) (q := 48) dX0_ways_47 rfl ?_
        refine r_iload_5 (q := 50) dX0_ways_48 rfl ?_
        refine r_isub (q := 51) dX0_ways_50 rfl ?_
        refine J.topi (e1 _ k1) ?_
        refine r_iload_6 (q := 53) dX0_ways_51 rfl ?_
        refine r_callS_3 cs_X0_286 (by decide) (Nat.le_of_ble_eq_true rfl) ⟨Nat.le_refl _, Nat.le_refl _⟩ (k_X0_gains (by omega) (by omega) k2) (q := 56) dX0_ways_53 rfl ?_
        refine r_iload_3 (q := 57) dX0_ways_56 rfl ?_
        refine r_iload_5 (q := 59) dX0_ways_57 rfl ?_
        refine r_iload_6 (q := 61) dX0_ways_59 rfl ?_
        refine r_callS_3 cs_X0_286 (by decide) (Nat.le_of_ble_eq_true rfl) ⟨Nat.le_refl _, Nat.le_refl _⟩ (k_X0_gains (by omega) k1 k2) (q := 64) dX0_ways_61 rfl ?_
        refine r_icmp_gt (q := 67) (tgt := 97) dX0_ways_64 rfl rfl (fun c64 => ?_) (fun c64 => ?_)
        · exact go (fun z => absurd z.1 (Int32.not_le.mpr c64))
        refine r_iload_3 (q := 68) dX0_ways_67 rfl ?_
        refine r_iconst 1 (by decide) (q := 69) dX0_ways_68 rfl ?_
        refine r_iload_6 (q := 71) dX0_ways_69 rfl ?_
        refine r_isub (q := 72) dX0_ways_71 rfl ?_
        refine J.topi (e1 _ k2) ?_
        refine r_iload_5 (q := 74) dX0_ways_72 rfl ?_
        refine r_callS_3 cs_X0_286 (by decide) (Nat.le_of_ble_eq_true rfl) ⟨Nat.le_refl _, Nat.le_refl _⟩ (k_X0_gains (by omega) (by omega) k1) (q := 77) dX0_ways_74 rfl ?_
        refine r_iload_3 (q := 78) dX0_ways_77 rfl ?_
        refine r_iload_6 (q := 80) dX0_ways_78 rfl ?_
        refine r_iload_5 (q := 82) dX0_ways_80 rfl ?_
        refine r_callS_3 cs_X0_286 (by decide) (Nat.le_of_ble_eq_true rfl) ⟨Nat.le_refl _, Nat.le_refl _⟩ (k_X0_gains (by omega) k2 k1) (q := 85) dX0_ways_82 rfl ?_
        refine r_icmp_gt (q := 88) (tgt := 97) dX0_ways_85 rfl rfl (fun c85 => ?_) (fun c85 => ?_)
        · exact go (fun z => absurd z.2 (Int32.not_le.mpr c85))
        · rw [if_pos ⟨Int32.not_lt.mp c64, Int32.not_lt.mp c85⟩] at h2
          refine r_bipush 10 (by decide) (q := 90) dX0_ways_88 rfl ?_
          refine r_iload_5 (q := 92) dX0_ways_90 rfl ?_
          refine r_imul (q := 93) dX0_ways_92 rfl ?_
          refine r_iload_6 (q := 95) dX0_ways_93 rfl ?_
          refine r_iadd (q := 96) dX0_ways_95 rfl ?_
          exact r_iret hz dX0_ways_96 (Nat.le_refl _) (Nat.le_refl _) (.of (by rw [← h2]) h)
    exact loop 4 0 none none rfl rfl
  · refine r_aload_0 (q := 10) dX0_ways_9 rfl ?_
    refine r_iconst (-1) (by decide) (q := 11) dX0_ways_10 rfl ?_
    refine r_callV_1 cv_X0_48 xh_x rfl (by decide) (Nat.le_of_ble_eq_true rfl) ⟨Nat.le_refl _, Nat.le_refl _⟩ (k_X0_refuse isC_1 h.ra) (q := 14) dX0_ways_11 rfl ?_
    exact r_iret hz dX0_ways_14 (Nat.le_refl _) (Nat.le_refl _) (.of (by unfold waysS; rw [bI_0.mp c6]; rfl) (h.refuse _))
theorem k_X0_swap (h : XR x w g σ) : Ct G yX0_swap cX0_swap 7 (some .int) 8 0 0 [.ref x] n (xh x w g) (XPo x n g (swapS σ)) := by
  refine Ct.intro (k := 6) [some (.ref x), none, none, none, none, none, none] (by decide) (Nat.le_of_ble_eq_true rfl) rfl fun z hz hin => ?_
  unfold swapS at hz
  rw [← h.s] at hz
  have hk := h.kx
  have h6 := hk.l6
  refine J.qs 1 ?_
  refine r_bipush (-9) (by decide) (q := 2) dX0_swap_0 rfl ?_
  refine r_istore_1 (by decide) rfl (q := 3) dX0_swap_2 rfl ?_
  refine r_aload_0 (q := 4) dX0_swap_3 rfl ?_
  refine r_get gf_X0_16_0 xh_x rfl (q := 7) dX0_swap_4 rfl ?_
  refine r_callV_0 cv_X0_259 (xe_o 0 (by decide) rfl) rfl (by decide) (Nat.le_of_ble_eq_true rfl) ⟨Nat.le_refl _, Nat.le_refl _⟩ (x_allLikes 0 (by decide) hk rfl) (q := 10) dX0_swap_7 rfl ?_
  refine r_istore_2 (by decide) rfl (q := 11) dX0_swap_10 rfl ?_
  refine r_iconst 0 (by decide) (q := 12) dX0_swap_11 rfl ?_
  refine r_istore_3 (by decide) rfl (q := 13) dX0_swap_12 rfl ?_
  refine forJ (f := swaI (w.1 0).1) (σ := Int32 × Int32) (w.1 0).1.1.length (fun _ => True) (fun a s => ∀ X o4 o5 o6, LX X → J G z cX0_swap 7 RX0 8 0 0 0 0 13 [some (.ref x), some (.int s.1), some (.int s.2), some (.int (nI a)), o4, o5, o6] [] n (xh x (setq w 1 X) g)) (a0 := 0) (s0 := (-9, alikS (w.1 0).1)) (Nat.zero_le _) trivial (fun s _ hs X o4 o5 o6 hX => ?_) (fun a s _ ha _ => ⟨trivial, fun next X o4 o5 o6 hX => ?_⟩) _ none none none (h.lx 1 (by decide))
  · refine r_iload_3 (q := 14) dX0_swap_13 rfl ?_
    refine r_aload_0 (q := 15) dX0_swap_14 rfl ?_
    refine r_get gf_X0_16_0 xh_x rfl (q := 18) dX0_swap_15 rfl ?_
    refine r_callV_0 cv_X0_74 (xe_o 0 (by decide) rfl) rfl (by decide) (Nat.le_of_ble_eq_true rfl) ⟨Nat.le_refl _, Nat.le_refl _⟩ (x_many 0 (by decide) hk rfl) (q := 21) dX0_swap_18 rfl ?_
    refine r_icmp_ge (q := 24) (tgt := 154) dX0_swap_21 rfl rfl (fun c21 => ?_) (fun c21 => ?_)
    · rw [← show s = forR (swaI (w.1 0).1) 0 (w.1 0).1.1.length (-9, alikS (w.1 0).1) from hs] at hz
      refine r_iload_1 (q := 155) dX0_swap_154 rfl ?_
      exact r_iret hz dX0_swap_155 (Nat.le_refl _) (Nat.le_refl _) (.of rfl (h.mind hX))
    · exact absurd (Int32.le_refl _) c21
  · refine r_iload_3 (q := 14) dX0_swap_13 rfl ?_
    refine r_aload_0 (q := 15) dX0_swap_14 rfl ?_
    refine r_get gf_X0_16_0 xh_x rfl (q := 18) dX0_swap_15 rfl ?_
    refine r_callV_0 cv_X0_74 (xe_o 0 (by decide) rfl) rfl (by decide) (Nat.le_of_ble_eq_true rfl) ⟨Nat.le_refl _, Nat.le_refl _⟩ (x_many 0 (by decide) hk rfl) (q := 21) dX0_swap_18 rfl ?_
    refine r_icmp_ge (q := 24) (tgt := 154) dX0_swap_21 rfl rfl (fun c21 => ?_) (fun c21 => ?_)
    · exact absurd c21 (nI_not_lt ha (by omega))
    refine r_iload_3 (q := 25) dX0_swap_24 rfl ?_
    refine r_iconst 1 (by decide) (q := 26) dX0_swap_25 rfl ?_
    refine r_iadd (q := 27) dX0_swap_26 rfl ?_
    refine J.topi (nI_1 _) ?_
    refine r_istore_4 (by decide) rfl (q := 29) dX0_swap_27 rfl ?_
    refine forJ (f := swaF (w.1 0).1 a) (σ := Int32 × Int32) (w.1 0).1.1.length (fun _ => True) (fun c s => ∀ X o5 o6, LX X → J G z cX0_swap 7 RX0 8 0 0 0 0 29 [some (.ref x), some (.int s.1), some (.int s.2), some (.int (nI a)), some (.int (nI c)), o5, o6] [] n (xh x (setq w 1 X) g)) (a0 := a + 1) (s0 := s) ha trivial (fun s' _ hs X o5 o6 hX => ?_) (fun c s' _ hc _ => ⟨trivial, fun next' X o5 o6 hX => ?_⟩) _ _ _ hX
    · refine r_iload_4 (q := 31) dX0_swap_29 rfl ?_
      refine r_aload_0 (q := 32) dX0_swap_31 rfl ?_
      refine r_get gf_X0_16_0 xh_x rfl (q := 35) dX0_swap_32 rfl ?_
      refine r_callV_0 cv_X0_74 (xe_o 0 (by decide) rfl) rfl (by decide) (Nat.le_of_ble_eq_true rfl) ⟨Nat.le_refl _, Nat.le_refl _⟩ (x_many 0 (by decide) hk rfl) (q := 38) dX0_swap_35 rfl ?_
      refine r_icmp_ge (q := 41) (tgt := 148) dX0_swap_38 rfl rfl (fun c38 => ?_) (fun c38 => ?_)
      · refine r_inc_3 (by decide) rfl (q := 151) dX0_swap_148 rfl ?_
        refine r_goto (q := 13) dX0_swap_151 rfl ?_
        subst hs
        exact next _ _ _ _ hX
      · exact absurd (Int32.le_refl _) c38
    · have skip : ∀ (o5 o6 : Option Value) X, LX X → swaF (w.1 0).1 a c s' = s' → J G z cX0_swap 7 RX0 8 0 0 0 0 142 [some (.ref x), some (.int s'.1), some (.int s'.2), some (.int (nI a)), some (.int (nI c)), o5, o6] [] n (xh x (setq w 1 X) g) := by
        intro o5 o6 X hX e
        rw [e] at next'
        refine r_inc_4 (by decide) rfl (q := 145) dX0_swap_142 rfl ?_
        refine r_goto (q := 29) dX0_swap_145 rfl ?_
        exact next' _ _ _ hX
      refine r_iload_4 (q := 31) dX0_swap_29 rfl ?_
      refine r_aload_0 (q := 32) dX0_swap_31 rfl ?_
      refine r_get gf_X0_16_0 xh_x rfl (q := 35) dX0_swap_32 rfl ?_
      refine r_callV_0 cv_X0_74 (xe_o 0 (by decide) rfl) rfl (by decide) (Nat.le_of_ble_eq_true rfl) ⟨Nat.le_refl _, Nat.le_refl _⟩ (x_many 0 (by decide) hk rfl) (q := 38) dX0_swap_35 rfl ?_
      refine r_icmp_ge (q := 41) (tgt := 148) dX0_swap_38 rfl rfl (fun c38 => ?_) (fun c38 => ?_)
      · exact absurd c38 (nI_not_lt hc (by omega))
      refine r_aload_0 (q := 42) dX0_swap_41 rfl ?_
      refine r_get gf_X0_16_0 xh_x rfl (q := 45) dX0_swap_42 rfl ?_
      refine r_getN gn_X0_94_1 (xe_o 0 (by decide) rfl) rfl (q := 48) dX0_swap_45 rfl ?_
      refine r_iload_3 (q := 49) dX0_swap_48 rfl ?_
      refine r_ialdM a 6 (xe_m 0 (by decide) rfl) hk.1.2.2.1 rfl (by omega) (by decide) (q := 50) dX0_swap_49 rfl ?_
      refine J.topi (show _ = mI (mt (w.1 0).1 a) from rfl) ?_
      refine r_istore_5 (by decide) rfl (q := 52) dX0_swap_50 rfl ?_
      refine r_aload_0 (q := 53) dX0_swap_52 rfl ?_
      refine r_get gf_X0_16_0 xh_x rfl (q := 56) dX0_swap_53 rfl ?_
      refine r_getN gn_X0_94_1 (xe_o 0 (by decide) rfl) rfl (q := 59) dX0_swap_56 rfl ?_
      refine r_iload_4 (q := 61) dX0_swap_59 rfl ?_
      refine r_ialdM c 6 (xe_m 0 (by decide) rfl) hk.1.2.2.1 rfl (by omega) (by decide) (q := 62) dX0_swap_61 rfl ?_
      refine J.topi (show _ = mI (mt (w.1 0).1 c) from rfl) ?_
      refine r_istore_6 (by decide) rfl (q := 64) dX0_swap_62 rfl ?_
      refine r_iload_5 (q := 66) dX0_swap_64 rfl ?_
      refine r_iload_3 (q := 67) dX0_swap_66 rfl ?_
      have unf : swaF (w.1 0).1 a c s' = (match mt (w.1 0).1 a, mt (w.1 0).1 c with
        | some b, some e => if a ≤ b ∧ c ≤ e then (if alikS (joinS (joinS (w.1 0).1 a e) c b) ≤ s'.2 then s' else (10 * nI a + nI c, alikS (joinS (joinS (w.1 0).1 a e) c b))) else s'
        | _, _ => s') := rfl
      cases em : mt (w.1 0).1 a with
      | none =>
        rw [em] at unf
        refine r_icmp_lt (q := 70) (tgt := 142) dX0_swap_67 rfl rfl (fun c67 => ?_) (fun c67 => ?_)
        · exact skip _ _ _ hX unf
        · exact absurd (Int32.lt_of_lt_of_le mI_neg (nI_pos' (by omega))) c67
      | some b =>
        have hb6 := hk.mt6 em
        have hbl := hk.2.2.1 a ha b em
        rw [em] at unf
        cases en : mt (w.1 0).1 c with
        | none =>
          rw [en] at unf
          refine r_icmp_lt (q := 70) (tgt := 142) dX0_swap_67 rfl rfl (fun c67 => ?_) (fun c67 => ?_)
          · exact skip _ _ _ hX unf
          refine r_iload_6 (q := 72) dX0_swap_70 rfl ?_
          refine r_iload_4 (q := 74) dX0_swap_72 rfl ?_
          refine r_icmp_ge (q := 77) (tgt := 80) dX0_swap_74 rfl rfl (fun c74 => ?_) (fun c74 => ?_)
          · exact absurd (Int32.lt_of_lt_of_le mI_neg (nI_pos' (n := c) (by omega))) (Int32.not_lt.mpr c74)
          · refine r_goto (q := 142) dX0_swap_77 rfl ?_
            exact skip _ _ _ hX unf
        | some e =>
          have he6 := hk.mt6 en
          have hel := hk.2.2.1 c hc e en
          rw [en] at unf
          have unf : swaF (w.1 0).1 a c s' = if a ≤ b ∧ c ≤ e then (if alikS (joinS (joinS (w.1 0).1 a e) c b) ≤ s'.2 then s' else (10 * nI a + nI c, alikS (joinS (joinS (w.1 0).1 a e) c b))) else s' := unf
          refine J.lo (l2 := [some (.ref x), some (.int s'.1), some (.int s'.2), some (.int (nI a)), some (.int (nI c)), some (.int (nI b)), some (.int (nI e))]) rfl ?_
          refine J.stk (s2 := [.int (nI a), .int (nI b)]) rfl ?_
          refine r_icmp_lt (q := 70) (tgt := 142) dX0_swap_67 rfl rfl (fun c67 => ?_) (fun c67 => ?_)
          · have : ¬ a ≤ b := fun q => absurd c67 (nI_nlt q (by omega))
            exact skip _ _ _ hX (unf.trans (if_neg (fun q => this q.1)))
          have hab : a ≤ b := by
            rcases Nat.lt_or_ge b a with q | q
            · exact absurd (nI_lt q (by omega)) c67
            · exact q
          refine r_iload_6 (q := 72) dX0_swap_70 rfl ?_
          refine r_iload_4 (q := 74) dX0_swap_72 rfl ?_
          refine r_icmp_ge (q := 77) (tgt := 80) dX0_swap_74 rfl rfl (fun c74 => ?_) (fun c74 => ?_)
          · have hce : c ≤ e := by
              rcases Nat.lt_or_ge e c with q | q
              · exact absurd c74 (nI_ge q (by omega))
              · exact q
            rw [if_pos ⟨hab, hce⟩] at unf
            refine r_aload_0 (q := 81) dX0_swap_80 rfl ?_
            refine r_get gf_X0_20_0 xh_x rfl (q := 84) dX0_swap_81 rfl ?_
            refine r_aload_0 (q := 85) dX0_swap_84 rfl ?_
            refine r_get gf_X0_16_0 xh_x rfl (q := 88) dX0_swap_85 rfl ?_
            refine r_callVv_1 cv_X0_103 (xe_o 1 (by decide) rfl) rfl (by decide) (Nat.le_of_ble_eq_true rfl) ⟨Nat.le_refl _, Nat.le_refl _⟩ (m_takes 1 0 (by decide) (by decide) (by decide) hX hk rfl) (q := 91) dX0_swap_88 rfl ?_
            have g1 : KX x g (tkX (w.1 0) X) := hk
            refine r_aload_0 (q := 92) dX0_swap_91 rfl ?_
            refine r_get gf_X0_20_0 xh_x rfl (q := 95) dX0_swap_92 rfl ?_
            refine r_iload_3 (q := 96) dX0_swap_95 rfl ?_
            refine r_iload_6 (q := 98) dX0_swap_96 rfl ?_
            refine r_callVv_2 cv_X0_100 (xe_o 1 (by decide) rfl) rfl (by decide) (Nat.le_of_ble_eq_true rfl) ⟨Nat.le_refl _, Nat.le_refl _⟩ (m_joins 1 (by decide) g1 (by omega) he6) (q := 101) dX0_swap_98 rfl ?_
            have g2 := g1.join (a := a) (b := e) ha hel
            refine r_aload_0 (q := 102) dX0_swap_101 rfl ?_
            refine r_get gf_X0_20_0 xh_x rfl (q := 105) dX0_swap_102 rfl ?_
            refine r_iload_4 (q := 107) dX0_swap_105 rfl ?_
            refine r_iload_5 (q := 109) dX0_swap_107 rfl ?_
            refine r_callVv_2 cv_X0_100 (xe_o 1 (by decide) rfl) rfl (by decide) (Nat.le_of_ble_eq_true rfl) ⟨Nat.le_refl _, Nat.le_refl _⟩ (m_joins 1 (by decide) g2 (by omega) hb6) (q := 112) dX0_swap_109 rfl ?_
            have g3 := g2.join (a := c) (b := b) (by rw [(joinS_fr _ _ _).1]; exact hc) (by rw [(joinS_fr _ _ _).1]; exact hbl)
            refine r_aload_0 (q := 113) dX0_swap_112 rfl ?_
            refine r_get gf_X0_20_0 xh_x rfl (q := 116) dX0_swap_113 rfl ?_
            refine r_callV_0 cv_X0_259 (xe_o 1 (by decide) rfl) rfl (by decide) (Nat.le_of_ble_eq_true rfl) ⟨Nat.le_refl _, Nat.le_refl _⟩ (x_allLikes 1 (by decide) g3 rfl) (q := 119) dX0_swap_116 rfl ?_
            refine r_iload_2 (q := 120) dX0_swap_119 rfl ?_
            refine r_icmp_gt (q := 123) (tgt := 126) dX0_swap_120 rfl rfl (fun c120 => ?_) (fun c120 => ?_)
            · have c' : s'.2 < alikS (joinS (joinS (w.1 0).1 a e) c b) := c120
              rw [if_neg (Int32.not_le.mpr c')] at unf
              rw [unf] at next'
              refine r_bipush 10 (by decide) (q := 128) dX0_swap_126 rfl ?_
              refine r_iload_3 (q := 129) dX0_swap_128 rfl ?_
              refine r_imul (q := 130) dX0_swap_129 rfl ?_
              refine r_iload_4 (q := 132) dX0_swap_130 rfl ?_
              refine r_iadd (q := 133) dX0_swap_132 rfl ?_
              refine r_istore_1 (by decide) rfl (q := 134) dX0_swap_133 rfl ?_
              refine r_aload_0 (q := 135) dX0_swap_134 rfl ?_
              refine r_get gf_X0_20_0 xh_x rfl (q := 138) dX0_swap_135 rfl ?_
              refine r_callV_0 cv_X0_259 (xe_o 1 (by decide) rfl) rfl (by decide) (Nat.le_of_ble_eq_true rfl) ⟨Nat.le_refl _, Nat.le_refl _⟩ (x_allLikes 1 (by decide) g3 rfl) (q := 141) dX0_swap_138 rfl ?_
              refine r_istore_2 (by decide) rfl (q := 142) dX0_swap_141 rfl ?_
              refine r_inc_4 (by decide) rfl (q := 145) dX0_swap_142 rfl ?_
              refine r_goto (q := 29) dX0_swap_145 rfl ?_
              exact next' _ _ _ g3.lx
            · have c' : ¬ s'.2 < alikS (joinS (joinS (w.1 0).1 a e) c b) := c120
              rw [if_pos (Int32.not_lt.mp c')] at unf
              refine r_goto (q := 142) dX0_swap_123 rfl ?_
              exact skip _ _ _ g3.lx unf
          · have : ¬ c ≤ e := fun q => c74 (nI_le q (by omega))
            refine r_goto (q := 142) dX0_swap_77 rfl ?_
            exact skip _ _ _ hX (unf.trans (if_neg (fun q => this q.2)))
theorem helpsE {i k m : Nat} {p hr v : Int32} (h1 : noHel σ.1 p hr v = 0) (hp : p = nI i) (hh : hr = nI k) (hv : v = nI m) (hi : i < 2 ^ 30) (hk : k < 2 ^ 30) (hm : m < 2 ^ 30) : helpsS σ p hr v = (helS σ.1 i k m, σ) := by
  unfold helpsS
  rw [if_pos h1, hp, hh, hv, cl_nI hi, cl_nI hk, cl_nI hm]
theorem k_X0_helps {p hr0 v : Int32} (h : XR x w g σ) : Ct G yX0_helps cX0_helps 7 (some .int) 10 0 0 [.ref x, .int p, .int hr0, .int v] n (xh x w g) (XPo x n g (helpsS σ p hr0 v)) := by
  refine Ct.intro (k := 3) [some (.ref x), some (.int p), some (.int hr0), some (.int v), none, none, none] (by decide) (Nat.le_of_ble_eq_true rfl) rfl fun z hz hin => ?_
  have fin : ∀ no : Int32, (no = 0 ∨ isC no) → no = noHel σ.1 p hr0 v → J G z cX0_helps 7 RX0 10 0 0 0 0 24 [some (.ref x), some (.int p), some (.int hr0), some (.int v), none, none, none] [.int no] n (xh x w g) := by
    intro no hno h1
    refine r_istore_4 (by decide) rfl (q := 26) dX0_helps_24 rfl ?_
    refine r_iload_4 (q := 28) dX0_helps_26 rfl ?_
    refine r_if_eq (q := 31) (tgt := 38) dX0_helps_28 rfl rfl (fun c28 => ?_) (fun c28 => ?_)
    · rw [c28] at h1
      have h1' := h1.symm
      unfold noHel at h1'
      split at h1'
      · rename_i hp
        obtain ⟨i, hi, hpi⟩ := isPer_t h.oks.1 hp.1
        obtain ⟨k, hk, hhk⟩ := isP (k := 5) (by decide) (of_decide_eq_true hp.2)
        obtain ⟨m, hm, hvm⟩ := wi_n (k := 99) rfl (by decide) h1'
        have h6 := h.oks.1.1
        have e0 := helpsE h1.symm hpi hhk hvm (by omega) (by omega) (by omega)
        rw [e0] at hz
        subst hpi hhk hvm
        have hs := h.s
        have kx := h.kx
        rw [← hs] at hi hz h6
        refine r_aload_0 (q := 39) dX0_helps_38 rfl ?_
        refine r_get gf_X0_16_0 xh_x rfl (q := 42) dX0_helps_39 rfl ?_
        refine r_getN gn_X0_94_1 (xe_o 0 (by decide) rfl) rfl (q := 45) dX0_helps_42 rfl ?_
        refine r_iload_1 (q := 46) dX0_helps_45 rfl ?_
        refine r_ialdM i 6 (xe_m 0 (by decide) rfl) kx.1.2.2.1 rfl (by omega) (by decide) (q := 47) dX0_helps_46 rfl ?_
        refine J.topi (show _ = mI (mt (w.1 0).1 i) from rfl) ?_
        refine r_istore_5 (by decide) rfl (q := 49) dX0_helps_47 rfl ?_
        refine r_iload_5 (q := 51) dX0_helps_49 rfl ?_
        unfold helS at hz
        cases em : mt (w.1 0).1 i with
        | none =>
          rw [em] at hz
          refine r_if_ge (q := 54) (tgt := 56) dX0_helps_51 rfl rfl (fun c51 => ?_) (fun c51 => ?_)
          · exact absurd c51 (by decide)
          refine r_iconst 0 (by decide) (q := 55) dX0_helps_54 rfl ?_
          exact r_iret hz dX0_helps_55 (Nat.le_refl _) (Nat.le_refl _) (.of rfl h)
        | some b =>
          have hb6 := kx.mt6 em
          have h31 := vs_hr kx.2.1 i
          obtain ⟨e1, e2⟩ := hel_bit (hr (w.1 0).1 i) (by omega) k hk
          rw [em] at hz
          refine J.lo (l2 := [some (.ref x), some (.int (nI i)), some (.int (nI k)), some (.int (nI m)), some (.int no), some (.int (nI b)), none]) rfl ?_
          refine J.stk (s2 := [.int (nI b)]) rfl ?_
          refine r_if_ge (q := 54) (tgt := 56) dX0_helps_51 rfl rfl (fun c51 => ?_) (fun c51 => ?_)
          · refine J.qs 1 ?_
            refine r_aload_0 (q := 57) dX0_helps_56 rfl ?_
            refine r_iload_3 (q := 58) dX0_helps_57 rfl ?_
            refine r_callVv_1 cv_X0_188 xh_x rfl (by decide) (Nat.le_of_ble_eq_true rfl) ⟨Nat.le_refl _, Nat.le_refl _⟩ (k_X0_goesOn (m := m) kx (h.lx 1 (by decide)) (by omega)) (q := 61) dX0_helps_58 rfl ?_
            have g1 : KX x g (daysS m (w.1 0).1, (tkX (w.1 0) (w.1 1)).2) := KX.days (X := tkX (w.1 0) (w.1 1)) kx
            refine r_aload_0 (q := 62) dX0_helps_61 rfl ?_
            refine r_get gf_X0_20_0 xh_x rfl (q := 65) dX0_helps_62 rfl ?_
            refine r_iload_1 (q := 66) dX0_helps_65 rfl ?_
            refine r_iload_5 (q := 68) dX0_helps_66 rfl ?_
            refine r_callV_2 cv_X0_149 (xe_o 1 (by decide) rfl) rfl (by decide) (Nat.le_of_ble_eq_true rfl) ⟨Nat.le_refl _, Nat.le_refl _⟩ (x_between 1 (by decide) g1 rfl (by omega) (by omega)) (q := 71) dX0_helps_68 rfl ?_
            refine r_istore_6 (by decide) rfl (q := 73) dX0_helps_71 rfl ?_
            refine r_aload_0 (q := 74) dX0_helps_73 rfl ?_
            refine r_get gf_X0_20_0 xh_x rfl (q := 77) dX0_helps_74 rfl ?_
            refine r_aload_0 (q := 78) dX0_helps_77 rfl ?_
            refine r_get gf_X0_16_0 xh_x rfl (q := 81) dX0_helps_78 rfl ?_
            refine r_callVv_1 cv_X0_103 (xe_o 1 (by decide) rfl) rfl (by decide) (Nat.le_of_ble_eq_true rfl) ⟨Nat.le_refl _, Nat.le_refl _⟩ (m_takes 1 0 (by decide) (by decide) (by decide) g1.lx kx rfl) (q := 84) dX0_helps_81 rfl ?_
            have g2 : KX x g (tkX (w.1 0) (daysS m (w.1 0).1, (tkX (w.1 0) (w.1 1)).2)) := kx
            refine r_aload_0 (q := 85) dX0_helps_84 rfl ?_
            refine r_get gf_X0_20_0 xh_x rfl (q := 88) dX0_helps_85 rfl ?_
            refine r_getN gn_X0_134_1 (xe_o 1 (by decide) rfl) rfl (q := 91) dX0_helps_88 rfl ?_
            refine r_iload_1 (q := 92) dX0_helps_91 rfl ?_
            refine r_dup2 rfl rfl (q := 93) dX0_helps_92 rfl ?_
            refine r_ialdN i 6 (xe_h 1 (by decide) rfl) g2.1.2.1 rfl (by omega) (by decide) (q := 94) dX0_helps_93 rfl ?_
            refine r_iconst 1 (by decide) (q := 95) dX0_helps_94 rfl ?_
            refine r_iload_2 (q := 96) dX0_helps_95 rfl ?_
            refine r_ishl (q := 97) dX0_helps_96 rfl ?_
            refine r_ior (q := 98) dX0_helps_97 rfl ?_
            refine r_iastN i 6 (hr (w.1 0).1 i ||| 2 ^ k) (xe_h 1 (by decide) rfl) g2.1.2.1 rfl e1 (by omega) (by decide) (q := 99) dX0_helps_98 rfl ?_
            refine J.heap (xs_h (X := tkX (w.1 0) (daysS m (w.1 0).1, (tkX (w.1 0) (w.1 1)).2)) 1 (by decide)) ?_
            have g3 := g2.setH (a := i) (v := hr (w.1 0).1 i ||| 2 ^ k) (by omega)
            refine r_aload_0 (q := 100) dX0_helps_99 rfl ?_
            refine r_get gf_X0_20_0 xh_x rfl (q := 103) dX0_helps_100 rfl ?_
            refine r_iload_3 (q := 104) dX0_helps_103 rfl ?_
            refine r_callVv_1 cv_X0_181 (xe_o 1 (by decide) rfl) rfl (by decide) (Nat.le_of_ble_eq_true rfl) ⟨Nat.le_refl _, Nat.le_refl _⟩ (m_goesOn 1 (by decide) g3 (by omega)) (q := 107) dX0_helps_104 rfl ?_
            have g4 := g3.days (m := m)
            refine r_iload_6 (q := 109) dX0_helps_107 rfl ?_
            refine r_aload_0 (q := 110) dX0_helps_109 rfl ?_
            refine r_get gf_X0_20_0 xh_x rfl (q := 113) dX0_helps_110 rfl ?_
            refine r_iload_1 (q := 114) dX0_helps_113 rfl ?_
            refine r_iload_5 (q := 116) dX0_helps_114 rfl ?_
            refine r_callV_2 cv_X0_149 (xe_o 1 (by decide) rfl) rfl (by decide) (Nat.le_of_ble_eq_true rfl) ⟨Nat.le_refl _, Nat.le_refl _⟩ (x_between 1 (by decide) g4 rfl (by omega) (by omega)) (q := 119) dX0_helps_116 rfl ?_
            refine r_isub (q := 120) dX0_helps_119 rfl ?_
            exact r_iret hz dX0_helps_120 (Nat.le_refl _) (Nat.le_refl _) (.of rfl (h.mind g4.lx))
          · exact absurd (nI_pos' (by omega)) c51
      · exact absurd h1' (by decide)
    · have hc : isC no := hno.resolve_left c28
      refine r_aload_0 (q := 32) dX0_helps_31 rfl ?_
      refine r_iload_4 (q := 34) dX0_helps_32 rfl ?_
      refine r_callV_1 cv_X0_205 xh_x rfl (by decide) (Nat.le_of_ble_eq_true rfl) ⟨Nat.le_refl _, Nat.le_refl _⟩ (k_X0_refuseFar hc h.ra) (q := 37) dX0_helps_34 rfl ?_
      exact r_iret hz dX0_helps_37 (Nat.le_refl _) (Nat.le_refl _) (.of (by unfold helpsS; rw [← h1, if_neg c28]) (h.refuse _))
  have no1 : ¬(isPer σ.1 p = true ∧ inI hr0 5 = true) → J G z cX0_helps 7 RX0 10 0 0 0 0 23 [some (.ref x), some (.int p), some (.int hr0), some (.int v), none, none, none] [] n (xh x w g) := by
    intro hn
    refine r_iconst (-1) (by decide) (q := 24) dX0_helps_23 rfl ?_
    exact fin _ (Or.inr isC_1) (by unfold noHel; rw [if_neg hn])
  refine r_aload_0 (q := 1) dX0_helps_0 rfl ?_
  refine r_iload_1 (q := 2) dX0_helps_1 rfl ?_
  refine r_callV_1 cv_X0_82 xh_x rfl (by decide) (Nat.le_of_ble_eq_true rfl) ⟨Nat.le_refl _, Nat.le_refl _⟩ (k_X0_isPerson h.kx) (q := 5) dX0_helps_2 rfl ?_
  rw [h.s]
  refine r_if_eq (q := 8) (tgt := 23) dX0_helps_5 rfl rfl (fun c5 => ?_) (fun c5 => ?_)
  · exact no1 (fun q => by rw [bI_0.mp c5] at q; cases q.1)
  refine r_iload_2 (q := 9) dX0_helps_8 rfl ?_
  refine r_iconst 5 (by decide) (q := 10) dX0_helps_9 rfl ?_
  refine r_callS_2 cs_X0_78 (by decide) (Nat.le_of_ble_eq_true rfl) ⟨Nat.le_refl _, Nat.le_refl _⟩ (k_X0_isIn) (q := 13) dX0_helps_10 rfl ?_
  refine r_if_eq (q := 16) (tgt := 23) dX0_helps_13 rfl rfl (fun c13 => ?_) (fun c13 => ?_)
  · exact no1 (fun q => by have q2 : decide (0 ≤ hr0 ∧ hr0 < 5) = true := q.2; rw [bI_0.mp c13] at q2; cases q2)
  refine r_iload_3 (q := 17) dX0_helps_16 rfl ?_
  refine r_callS_1 cs_X0_185 (by decide) (Nat.le_of_ble_eq_true rfl) ⟨Nat.le_refl _, Nat.le_refl _⟩ (k_X0_wrongDays) (q := 20) dX0_helps_17 rfl ?_
  refine r_goto (q := 24) dX0_helps_20 rfl ?_
  exact fin _ (wi_c _ _ _) (by unfold noHel; rw [if_pos ⟨bI_n0.mp c5, bI_n0.mp c13⟩])
end XO4


/-! ===== mean; a told quarrel ===== -/
theorem forR_map {σ τ : Type} {f : Nat → σ → σ} {k : Nat → τ → τ} (φ : σ → τ) (h : ∀ j s, φ (f j s) = k j (φ s)) : ∀ (c i : Nat) (s : σ), φ (forR f i c s) = forR k i c (φ s)
  | 0, _, _ => rfl
  | c + 1, i, s => by rw [forR_s, forR_s, forR_map φ h c (i + 1) (f i s), h i s]
theorem forR_le {f : Nat → Nat → Nat} {B : Nat} (h : ∀ j s, f j s ≤ s + B) : ∀ (c i s : Nat), forR f i c s ≤ s + c * B
  | 0, _, s => by rw [forR_0]; omega
  | c + 1, i, s => by
    rw [forR_s]
    have h1 := forR_le h c (i + 1) (f i s)
    have h2 := h i s
    rw [Nat.succ_mul]
    omega
def allNI (S : SQ) (a : Nat) (acc : Nat) : Nat := forR (fun b acc => acc + qr S a b) (a + 1) (S.1.length - (a + 1)) acc
def allN (S : SQ) : Nat := forR (allNI S) 0 S.1.length 0
theorem allS_N (S : SQ) : allS S = nI (allN S) := by
  unfold allS allN
  rw [forR_map (f := allNI S) (k := allI S) nI (fun j s => ?_)]
  · rfl
  · unfold allNI allI
    exact forR_map (f := fun b acc => acc + qr S j b) (k := fun b acc => acc + nI (qr S j b)) nI (fun b s => (nI_add s (qr S j b)).symm) _ _ _
theorem allN_le {S : SQ} (hL : LenS S) (hV : ValS S) : allN S ≤ 6 * 594 := by
  have h1 : ∀ a s, allNI S a s ≤ s + 594 := by
    intro a s
    have := forR_le (f := fun b acc => acc + qr S a b) (B := 99) (fun b s => by have := vs_qr hV a b; show s + qr S a b ≤ s + 99; omega) (S.1.length - (a + 1)) (a + 1) s
    have h6 := hL.1
    unfold allNI
    have h7 : (S.1.length - (a + 1)) * 99 ≤ 6 * 99 := Nat.mul_le_mul_right _ (by omega)
    omega
  have := forR_le h1 S.1.length 0 0
  have h7 : S.1.length * 594 ≤ 6 * 594 := Nat.mul_le_mul_right _ hL.1
  unfold allN
  omega
def meanS (σ : SG) (part : Int32) : Int64 × SG := if inI part 2 = true then (leastL (allN σ.1) (σ.1.1.length * (σ.1.1.length - 1) / 2) part, σ) else (4000000000000000000 - (-2 : Int32).toInt64, rfS σ (-2))
/-- whether the told quarrels are those of the days: fuel, place, quarter -/
def isqS (a b : Nat) (row : List Int32) : Nat → Nat → SQ → Bool
  | 0, _, _ => true
  | c + 1, k, S => if nI (qr S a b) = row.getD k 0 then isqS a b row c (k + 1) (goesS S) else false
section XO8
variable {G : GD} {n x : Nat} {w w' : XW} {g : RH} {σ : SG} {X Y : QX}
theorem mean_pairs : ∀ k, k < 7 → nI k * (nI k - 1) / 2 = nI (k * (k - 1) / 2) := by decide +kernel
theorem k_X0_mean {part : Int32} (h : XR x w g σ) : Ct G yX0_mean cX0_mean 2 (some .long) 5 0 0 [.ref x, .int part] n (xh x w g) (XPl x n g (meanS σ part)) := by
  refine Ct.intro (k := 0) [some (.ref x), some (.int part)] (by decide) (Nat.le_of_ble_eq_true rfl) rfl fun z hz hin => ?_
  unfold meanS at hz
  refine r_iload_1 (q := 1) dX0_mean_0 rfl ?_
  refine r_iconst 2 (by decide) (q := 2) dX0_mean_1 rfl ?_
  refine r_callS_2 cs_X0_78 (by decide) (Nat.le_of_ble_eq_true rfl) ⟨Nat.le_refl _, Nat.le_refl _⟩ (k_X0_isIn) (q := 5) dX0_mean_2 rfl ?_
  refine r_if_eq (q := 8) (tgt := 43) dX0_mean_5 rfl rfl (fun c5 => ?_) (fun c5 => ?_)
  · have hp : inI part 2 = false := bI_0.mp c5
    rw [hp] at hz
    refine r_aload_0 (q := 44) dX0_mean_43 rfl ?_
    refine r_bipush (-2) (by decide) (q := 46) dX0_mean_44 rfl ?_
    refine r_callV_1 cv_X0_293 xh_x rfl (by decide) (Nat.le_of_ble_eq_true rfl) ⟨Nat.le_refl _, Nat.le_refl _⟩ (k_X0_refuseWide isC_2 h.ra) (q := 49) dX0_mean_46 rfl ?_
    exact r_lret hz dX0_mean_49 (Nat.le_refl _) (Nat.le_refl _) (.of rfl (h.refuse _))
  · have hp : inI part 2 = true := bI_n0.mp c5
    rw [if_pos hp] at hz
    have kx := h.kx
    have h6 := h.oks.1.1
    have hN := allN_le h.oks.1 h.oks.2.1
    refine r_aload_0 (q := 9) dX0_mean_8 rfl ?_
    refine r_get gf_X0_16_0 xh_x rfl (q := 12) dX0_mean_9 rfl ?_
    refine r_callV_0 cv_X0_184 (xe_o 0 (by decide) rfl) rfl (by decide) (Nat.le_of_ble_eq_true rfl) ⟨Nat.le_refl _, Nat.le_refl _⟩ (x_all 0 (by decide) kx rfl) (q := 15) dX0_mean_12 rfl ?_
    rw [h.s, allS_N]
    refine r_i2l (q := 16) dX0_mean_15 rfl ?_
    refine J.topl (nI_l (by omega)) ?_
    refine r_aload_0 (q := 17) dX0_mean_16 rfl ?_
    refine r_get gf_X0_16_0 xh_x rfl (q := 20) dX0_mean_17 rfl ?_
    refine r_callV_0 cv_X0_74 (xe_o 0 (by decide) rfl) rfl (by decide) (Nat.le_of_ble_eq_true rfl) ⟨Nat.le_refl _, Nat.le_refl _⟩ (x_many 0 (by decide) kx rfl) (q := 23) dX0_mean_20 rfl ?_
    refine r_aload_0 (q := 24) dX0_mean_23 rfl ?_
    refine r_get gf_X0_16_0 xh_x rfl (q := 27) dX0_mean_24 rfl ?_
    refine r_callV_0 cv_X0_74 (xe_o 0 (by decide) rfl) rfl (by decide) (Nat.le_of_ble_eq_true rfl) ⟨Nat.le_refl _, Nat.le_refl _⟩ (x_many 0 (by decide) kx rfl) (q := 30) dX0_mean_27 rfl ?_
    rw [h.s]
    refine r_iconst 1 (by decide) (q := 31) dX0_mean_30 rfl ?_
    refine r_isub (q := 32) dX0_mean_31 rfl ?_
    refine r_imul (q := 33) dX0_mean_32 rfl ?_
    refine r_iconst 2 (by decide) (q := 34) dX0_mean_33 rfl ?_
    refine r_idiv (by decide) (q := 35) dX0_mean_34 rfl ?_
    refine J.topi (mean_pairs _ (by omega)) ?_
    have hb : σ.1.1.length * (σ.1.1.length - 1) / 2 < 2 ^ 31 := by
      have : σ.1.1.length * (σ.1.1.length - 1) ≤ 6 * 5 := Nat.mul_le_mul h6 (by omega)
      omega
    refine r_i2l (q := 36) dX0_mean_35 rfl ?_
    refine J.topl (nI_l hb) ?_
    refine r_iload_1 (q := 37) dX0_mean_36 rfl ?_
    refine r_callS_3 cs_X0_305 (by decide) (Nat.le_of_ble_eq_true rfl) ⟨Nat.le_refl _, Nat.le_refl _⟩ (k_X0_inLeast (by omega) (by omega)) (q := 40) dX0_mean_37 rfl ?_
    refine r_goto (q := 49) dX0_mean_40 rfl ?_
    exact r_lret hz dX0_mean_49 (Nat.le_refl _) (Nat.le_refl _) (.of rfl h)
theorem k_X0_isQuarrelSo {a b r : Nat} (hX : KX x g X) (ha : a < 6) (hb : b < 6) (hr : w.2.2.2 15 = nI r) (hr12 : r ≤ 12) (hl : w.2.2.1.2.2.2.length = 12) : Ct G yX0_isQuarrelSo cX0_isQuarrelSo 4 (some .boolean) 8 0 0 [.ref x, .int (nI a), .int (nI b)] n (xh x (setq w 1 X) g) (MP x w g n (some (.int (bI (isqS a b w.2.2.1.2.2.2 r 0 X.1))))) := by
  refine Ct.intro (k := 1) [some (.ref x), some (.int (nI a)), some (.int (nI b)), none] (by decide) (Nat.le_of_ble_eq_true rfl) rfl fun z hz hin => ?_
  have loop : ∀ (c k : Nat) (S : SQ), k + c = r → KX x g (S, X.2) → isqS a b w.2.2.1.2.2.2 c k S = isqS a b w.2.2.1.2.2.2 r 0 X.1 → J G z cX0_isQuarrelSo 4 RX0 8 0 0 0 0 2 [some (.ref x), some (.int (nI a)), some (.int (nI b)), some (.int (nI k))] [] n (xh x (setq w 1 (S, X.2)) g) := by
    intro c
    induction c with
    | zero =>
      intro k S h1 h2 h3
      rw [← h3] at hz
      have h1 : k = r := h1
      refine r_iload_3 (q := 3) dX0_isQuarrelSo_2 rfl ?_
      refine r_aload_0 (q := 4) dX0_isQuarrelSo_3 rfl ?_
      refine r_get gf_X0_262_0 xh_x rfl (q := 7) dX0_isQuarrelSo_4 rfl ?_
      refine J.topi (y := nI r) hr ?_
      refine r_icmp_ge (q := 10) (tgt := 43) dX0_isQuarrelSo_7 rfl rfl (fun c7 => ?_) (fun c7 => ?_)
      · refine r_iconst 1 (by decide) (q := 44) dX0_isQuarrelSo_43 rfl ?_
        exact r_zret hz (by first | exact bI_z _ | rfl) dX0_isQuarrelSo_44 (Nat.le_refl _) (Nat.le_refl _) ⟨rfl, rfl, _, h2.lx, rfl⟩
      · exact absurd (nI_le (by omega) (by omega)) c7
    | succ c ih =>
      intro k S h1 h2 h3
      have h3 : (if nI (qr S a b) = w.2.2.1.2.2.2.getD k 0 then isqS a b w.2.2.1.2.2.2 c (k + 1) (goesS S) else false) = isqS a b w.2.2.1.2.2.2 r 0 X.1 := h3
      refine r_iload_3 (q := 3) dX0_isQuarrelSo_2 rfl ?_
      refine r_aload_0 (q := 4) dX0_isQuarrelSo_3 rfl ?_
      refine r_get gf_X0_262_0 xh_x rfl (q := 7) dX0_isQuarrelSo_4 rfl ?_
      refine J.topi (y := nI r) hr ?_
      refine r_icmp_ge (q := 10) (tgt := 43) dX0_isQuarrelSo_7 rfl rfl (fun c7 => ?_) (fun c7 => ?_)
      · exact absurd c7 (nI_not_lt (by omega) (by omega))
      refine r_aload_0 (q := 11) dX0_isQuarrelSo_10 rfl ?_
      refine r_get gf_X0_20_0 xh_x rfl (q := 14) dX0_isQuarrelSo_11 rfl ?_
      refine r_iload_1 (q := 15) dX0_isQuarrelSo_14 rfl ?_
      refine r_iload_2 (q := 16) dX0_isQuarrelSo_15 rfl ?_
      refine r_callV_2 cv_X0_149 (xe_o 1 (by decide) rfl) rfl (by decide) (Nat.le_of_ble_eq_true rfl) ⟨Nat.le_refl _, Nat.le_refl _⟩ (x_between (Y := (S, X.2)) 1 (by decide) h2 rfl ha hb) (q := 19) dX0_isQuarrelSo_16 rfl ?_
      refine r_aload_0 (q := 20) dX0_isQuarrelSo_19 rfl ?_
      refine r_get gf_X0_39_0 xh_x rfl (q := 23) dX0_isQuarrelSo_20 rfl ?_
      refine r_iload_3 (q := 24) dX0_isQuarrelSo_23 rfl ?_
      refine r_iald k 12 xh_ro hl rfl (by omega) (by decide) (q := 25) dX0_isQuarrelSo_24 rfl ?_
      refine r_icmp_eq (q := 28) (tgt := 30) dX0_isQuarrelSo_25 rfl rfl (fun c25 => ?_) (fun c25 => ?_)
      · have c25 : nI (qr S a b) = w.2.2.1.2.2.2.getD k 0 := c25
        rw [if_pos c25] at h3
        refine r_aload_0 (q := 31) dX0_isQuarrelSo_30 rfl ?_
        refine r_get gf_X0_20_0 xh_x rfl (q := 34) dX0_isQuarrelSo_31 rfl ?_
        refine r_callVv_0 cv_X0_196 (xe_o 1 (by decide) rfl) rfl (by decide) (Nat.le_of_ble_eq_true rfl) ⟨Nat.le_refl _, Nat.le_refl _⟩ (m_goes (X := (S, X.2)) 1 (by decide) h2) (q := 37) dX0_isQuarrelSo_34 rfl ?_
        refine r_inc_3 (by decide) rfl (q := 40) dX0_isQuarrelSo_37 rfl ?_
        refine r_goto (q := 2) dX0_isQuarrelSo_40 rfl ?_
        exact ih (k + 1) (goesS S) (by omega) h2.goes h3
      · have c25 : ¬ nI (qr S a b) = w.2.2.1.2.2.2.getD k 0 := c25
        rw [if_neg c25] at h3
        rw [← h3] at hz
        refine r_iconst 0 (by decide) (q := 29) dX0_isQuarrelSo_28 rfl ?_
        exact r_zret hz (by first | exact bI_z _ | rfl) dX0_isQuarrelSo_29 (Nat.le_refl _) (Nat.le_refl _) ⟨rfl, rfl, _, h2.lx, rfl⟩
  refine r_iconst 0 (by decide) (q := 1) dX0_isQuarrelSo_0 rfl ?_
  refine r_istore_3 (by decide) rfl (q := 2) dX0_isQuarrelSo_1 rfl ?_
  exact loop r 0 X.1 (Nat.zero_add _) hX rfl
end XO8


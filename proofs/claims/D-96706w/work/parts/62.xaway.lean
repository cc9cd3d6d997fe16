/-! ===== days away by chance ===== -/
/-- n days, the bits of away tell on which one doesn't come -/
def awyS (p own : Nat) (away : Nat) : Nat → Nat → SQ → SQ
  | 0, _, S => S
  | c + 1, k, S => awyS p own away c (k + 1) (goesS (setH S p (if hbt away k = true then 0 else own)))
section XA
variable {G : GD} {n x : Nat} {w w' : XW} {g : RH} {σ : SG} {X Y : QX}
theorem k_X0_quarrelBy {a b m away : Nat} (h : KX x g (w.1 0)) (hX : LX X) (ha : a < (w.1 0).1.1.length) (hb : b < (w.1 0).1.1.length) (hm : m ≤ 8) (haw : away < 256) : Ct G yX0_quarrelBy cX0_quarrelBy 6 (some .int) 8 0 0 [.ref x, .int (nI a), .int (nI b), .int (nI m), .int (nI away)] n (xh x (setq w 1 X) g) (MP x w g n (some (.int (nI (qr (awyS a (hr (w.1 0).1 a) away m 0 (w.1 0).1) a b))))) := by
  refine Ct.intro (k := 1) [some (.ref x), some (.int (nI a)), some (.int (nI b)), some (.int (nI m)), some (.int (nI away)), none] (by decide) (Nat.le_of_ble_eq_true rfl) rfl fun z hz hin => ?_
  have h6 := h.l6
  refine r_aload_0 (q := 1) dX0_quarrelBy_0 rfl ?_
  refine r_get gf_X0_20_0 xh_x rfl (q := 4) dX0_quarrelBy_1 rfl ?_
  refine r_aload_0 (q := 5) dX0_quarrelBy_4 rfl ?_
  refine r_get gf_X0_16_0 xh_x rfl (q := 8) dX0_quarrelBy_5 rfl ?_
  refine r_callVv_1 cv_X0_103 (xe_o 1 (by decide) rfl) rfl (by decide) (Nat.le_of_ble_eq_true rfl) ⟨Nat.le_refl _, Nat.le_refl _⟩ (m_takes 1 0 (by decide) (by decide) (by decide) hX h rfl) (q := 11) dX0_quarrelBy_8 rfl ?_
  have loop : ∀ (c k : Nat) (S : SQ), k + c = m → KX x g (S, (tkX (w.1 0) X).2) → awyS a (hr (w.1 0).1 a) away c k S = awyS a (hr (w.1 0).1 a) away m 0 (w.1 0).1 → J G z cX0_quarrelBy 6 RX0 8 0 0 0 0 14 [some (.ref x), some (.int (nI a)), some (.int (nI b)), some (.int (nI m)), some (.int (nI away)), some (.int (nI k))] [] n (xh x (setq w 1 (S, (tkX (w.1 0) X).2)) g) := by
    intro c
    induction c with
    | zero =>
      intro k S h1 h2 h3
      rw [← h3] at hz
      have h1 : k = m := h1
      refine r_iload_5 (q := 16) dX0_quarrelBy_14 rfl ?_
      refine r_iload_3 (q := 17) dX0_quarrelBy_16 rfl ?_
      refine r_icmp_ge (q := 20) (tgt := 65) dX0_quarrelBy_17 rfl rfl (fun c17 => ?_) (fun c17 => ?_)
      · refine r_aload_0 (q := 66) dX0_quarrelBy_65 rfl ?_
        refine r_get gf_X0_20_0 xh_x rfl (q := 69) dX0_quarrelBy_66 rfl ?_
        refine r_iload_1 (q := 70) dX0_quarrelBy_69 rfl ?_
        refine r_iload_2 (q := 71) dX0_quarrelBy_70 rfl ?_
        refine r_callV_2 cv_X0_149 (xe_o 1 (by decide) rfl) rfl (by decide) (Nat.le_of_ble_eq_true rfl) ⟨Nat.le_refl _, Nat.le_refl _⟩ (x_between (Y := (S, (tkX (w.1 0) X).2)) 1 (by decide) h2 rfl (by omega) (by omega)) (q := 74) dX0_quarrelBy_71 rfl ?_
        exact r_iret hz dX0_quarrelBy_74 (Nat.le_refl _) (Nat.le_refl _) ⟨rfl, rfl, _, h2.lx, rfl⟩
      · exact absurd (nI_le (by omega) (by omega)) c17
    | succ c ih =>
      intro k S h1 h2 h3
      have go : ∀ v : Nat, v ≤ 31 → v = (if hbt away k = true then 0 else hr (w.1 0).1 a) → J G z cX0_quarrelBy 6 RX0 8 0 0 0 0 51 [some (.ref x), some (.int (nI a)), some (.int (nI b)), some (.int (nI m)), some (.int (nI away)), some (.int (nI k))] [.int (nI v), .int (nI a), .ref (x + qo 1 + 3)] n (xh x (setq w 1 (S, (tkX (w.1 0) X).2)) g) := by
        intro v hv e
        have h3 : awyS a (hr (w.1 0).1 a) away c (k + 1) (goesS (setH S a (if hbt away k = true then 0 else hr (w.1 0).1 a))) = _ := h3
        rw [← e] at h3
        refine r_iastN a 6 v (xe_h 1 (by decide) rfl) h2.1.2.1 rfl rfl (by omega) (by decide) (q := 52) dX0_quarrelBy_51 rfl ?_
        refine J.heap (xs_h (X := (S, (tkX (w.1 0) X).2)) 1 (by decide)) ?_
        have g2 := h2.setH (a := a) (v := v) hv
        refine r_aload_0 (q := 53) dX0_quarrelBy_52 rfl ?_
        refine r_get gf_X0_20_0 xh_x rfl (q := 56) dX0_quarrelBy_53 rfl ?_
        refine r_callVv_0 cv_X0_196 (xe_o 1 (by decide) rfl) rfl (by decide) (Nat.le_of_ble_eq_true rfl) ⟨Nat.le_refl _, Nat.le_refl _⟩ (m_goes 1 (by decide) g2) (q := 59) dX0_quarrelBy_56 rfl ?_
        refine r_inc_5 (by decide) rfl (q := 62) dX0_quarrelBy_59 rfl ?_
        refine r_goto (q := 14) dX0_quarrelBy_62 rfl ?_
        exact ih (k + 1) _ (by omega) g2.goes h3
      refine r_iload_5 (q := 16) dX0_quarrelBy_14 rfl ?_
      refine r_iload_3 (q := 17) dX0_quarrelBy_16 rfl ?_
      refine r_icmp_ge (q := 20) (tgt := 65) dX0_quarrelBy_17 rfl rfl (fun c17 => ?_) (fun c17 => ?_)
      · exact absurd c17 (nI_not_lt (by omega) (by omega))
      refine r_aload_0 (q := 21) dX0_quarrelBy_20 rfl ?_
      refine r_get gf_X0_20_0 xh_x rfl (q := 24) dX0_quarrelBy_21 rfl ?_
      refine r_getN gn_X0_134_1 (xe_o 1 (by decide) rfl) rfl (q := 27) dX0_quarrelBy_24 rfl ?_
      refine r_iload_1 (q := 28) dX0_quarrelBy_27 rfl ?_
      refine r_iload_4 (q := 30) dX0_quarrelBy_28 rfl ?_
      refine r_iload_5 (q := 32) dX0_quarrelBy_30 rfl ?_
      refine r_callS_2 cs_X0_240 (by decide) (Nat.le_of_ble_eq_true rfl) ⟨Nat.le_refl _, Nat.le_refl _⟩ (k_X0_has (m := away) haw (by omega)) (q := 35) dX0_quarrelBy_32 rfl ?_
      refine r_if_eq (q := 38) (tgt := 42) dX0_quarrelBy_35 rfl rfl (fun c35 => ?_) (fun c35 => ?_)
      · refine r_aload_0 (q := 43) dX0_quarrelBy_42 rfl ?_
        refine r_get gf_X0_16_0 xh_x rfl (q := 46) dX0_quarrelBy_43 rfl ?_
        refine r_getN gn_X0_134_1 (xe_o 0 (by decide) rfl) rfl (q := 49) dX0_quarrelBy_46 rfl ?_
        refine r_iload_1 (q := 50) dX0_quarrelBy_49 rfl ?_
        refine r_ialdN a 6 (xe_h 0 (by decide) rfl) h.1.2.1 rfl (by omega) (by decide) (q := 51) dX0_quarrelBy_50 rfl ?_
        exact go (hr (w.1 0).1 a) (vs_hr h.2.1 a) (by rw [bI_0.mp c35]; rfl)
      · refine r_iconst 0 (by decide) (q := 39) dX0_quarrelBy_38 rfl ?_
        refine r_goto (q := 51) dX0_quarrelBy_39 rfl ?_
        exact go 0 (by omega) (by rw [bI_n0.mp c35]; rfl)
  refine r_iconst 0 (by decide) (q := 12) dX0_quarrelBy_11 rfl ?_
  refine r_istore_5 (by decide) rfl (q := 14) dX0_quarrelBy_12 rfl ?_
  exact loop m 0 (w.1 0).1 (Nat.zero_add _) h rfl
end XA


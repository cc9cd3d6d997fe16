/-! ===== PrayerMatsFace: the pairings ===== -/
def mkM (S : SQ) (M : List (Option Nat)) : SQ := (S.1, S.2.1, M, S.2.2.2)
/-- one pairing looked at: found, least, the kept mates -/
def lookF (st : Bool) (S : SQ) (nn : Nat) (s : Int32 × Int32 × List Int32) (M : List (Option Nat)) : Int32 × Int32 × List Int32 :=
  if st = true then (if stabS (mkM S M) = true then (s.1 + 1, s.2.1, if s.1 = 0 then M.map mI else s.2.2) else s)
  else if allS (daysS nn (mkM S M)) < s.2.1 then (s.1, allS (daysS nn (mkM S M)), M.map mI) else s
/-- a world of scratch: what mind holds, the kept mates, found, least -/
def PW (w w' : XW) (X : QX) (s : Int32 × Int32 × List Int32) : Prop := XS w w' ∧ w'.1 1 = X ∧ w'.2.2.1.2.2.1 = s.2.2 ∧ w'.2.2.2 11 = s.1 ∧ w'.2.2.2 12 = s.2.1 ∧ w'.2.2.2 13 = w.2.2.2 13
section XP1
variable {G : GD} {n x : Nat} {w w' w2 : XW} {g g' : RH} {σ : SG} {X Y Z : QX} {s : Int32 × Int32 × List Int32}
theorem PW.lx (h : PW w w' X s) : LX X := h.2.1 ▸ h.1.2.2.1 1 (by decide)
theorem PW.len (h : PW w w' X s) : s.2.2.length = 6 := h.2.2.1 ▸ h.1.2.2.2.2.2.2.2.1
theorem PW.q1 (h : PW w w' X s) (hY : LX Y) : PW w (setq w' 1 Y) Y s := ⟨h.1.trans (XS.mind h.1.2.2.1 h.1.2.2.2.2.2.2.2.1 1 (Or.inl rfl) hY), rfl, h.2.2⟩
theorem PW.q2 (h : PW w w' X s) (hY : LX Y) : PW w (setq w' 2 Y) X s := ⟨h.1.trans (XS.mind h.1.2.2.1 h.1.2.2.2.2.2.2.2.1 2 (Or.inr rfl) hY), h.2.1, h.2.2⟩
theorem PW.be {l : List Int32} (h : PW w w' X s) (hl : l.length = 6) : PW w (setbe w' l) X (s.1, s.2.1, l) := by
  obtain ⟨⟨s1, s2, s3, s4, s5, s6, s7, s8, s9, s10, s11, s12⟩, k1, k2, k3, k4, k5⟩ := h
  exact ⟨⟨s1, s2, s3, s4, s5, s6, s7, hl, s9, s10, s11, s12⟩, k1, rfl, k3, k4, k5⟩
theorem PW.fo {v : Int32} (h : PW w w' X s) : PW w (setf w' 11 v) X (v, s.2.1, s.2.2) := by
  obtain ⟨⟨s1, s2, s3, s4, s5, s6, s7, s8, s9, s10, s11, s12⟩, k1, k2, k3, k4, k5⟩ := h
  exact ⟨⟨s1, s2, s3, s4, s5, s6, s7, s8, s9, s10, s11, s12⟩, k1, k2, rfl, k4, k5⟩
theorem PW.le {v : Int32} (h : PW w w' X s) : PW w (setf w' 12 v) X (s.1, v, s.2.2) := by
  obtain ⟨⟨s1, s2, s3, s4, s5, s6, s7, s8, s9, s10, s11, s12⟩, k1, k2, k3, k4, k5⟩ := h
  exact ⟨⟨s1, s2, s3, s4, s5, s6, s7, s8, s9, s10, s11, s12⟩, k1, k2, k3, rfl, k5⟩
theorem k_X0_keepsPairing (h : PW w w' X s) : CtE G yX0_keepsPairing cX0_keepsPairing 1 none 1 [.ref x] n (xh x w' g) none (xh x (setbe w' (X.1.2.2.1.map mI)) g) := by
  refine Ct.intro (k := 0) [some (.ref x)] (by decide) (Nat.le_of_ble_eq_true rfl) rfl fun z hz hin => ?_
  have hl := h.lx
  have e := h.2.1
  refine r_aload_0 (q := 1) dX0_keepsPairing_0 rfl ?_
  refine r_get gf_X0_20_0 xh_x rfl (q := 4) dX0_keepsPairing_1 rfl ?_
  refine r_getN gn_X0_94_1 (xe_o 1 (by decide) rfl) rfl (q := 7) dX0_keepsPairing_4 rfl ?_
  refine r_iconst 0 (by decide) (q := 8) dX0_keepsPairing_7 rfl ?_
  refine r_aload_0 (q := 9) dX0_keepsPairing_8 rfl ?_
  refine r_get gf_X0_36_0 xh_x rfl (q := 12) dX0_keepsPairing_9 rfl ?_
  refine r_iconst 0 (by decide) (q := 13) dX0_keepsPairing_12 rfl ?_
  refine r_bipush 6 (by decide) (q := 15) dX0_keepsPairing_13 rfl ?_
  refine r_copy 6 (xe_m 1 (by decide) e) xh_be (by rw [List.length_map]; exact hl.1.2.2.1) (h.2.2.1 ▸ h.len) rfl rfl rfl (by decide) (by decide) (Nat.le_of_ble_eq_true rfl) q820 (q := 18) dX0_keepsPairing_15 rfl ?_
  rw [xset_be]
  exact r_vret hz dX0_keepsPairing_18 (Nat.le_refl _) (Nat.le_refl _) ⟨rfl, rfl, rfl⟩
theorem k_X0_looksAt {st : Bool} {nn : Nat} {S : SQ} {M : List (Option Nat)} {Z : List Nat × Int32} (h : PW w w' (mkM S M, Z) s) (hk : KX x g (mkM S M, Z)) (hd : st = false → w.2.2.2 13 = nI nn) (hn : nn < 2 ^ 30) : Ct G yX0_looksAt cX0_looksAt 2 none 9 0 0 [.ref x, .int (bI st)] n (xh x w' g) (fun r n' h' => r = none ∧ n' = n ∧ ∃ w'', h' = xh x w'' g ∧ PW w w'' (mkM S M, Z) (lookF st S nn s M)) := by
  refine Ct.intro (k := 0) [some (.ref x), some (.int (bI st))] (by decide) (Nat.le_of_ble_eq_true rfl) rfl fun z hz hin => ?_
  have e1 := h.2.1
  refine r_iload_1 (q := 1) dX0_looksAt_0 rfl ?_
  refine r_if_eq (q := 4) (tgt := 37) dX0_looksAt_1 rfl rfl (fun c1 => ?_) (fun c1 => ?_)
  · have hs : st = false := bI_0.mp c1
    subst hs
    unfold lookF at hz
    rw [if_neg (by decide)] at hz
    refine J.heap (h2 := xh x (setq w' 2 (w'.1 2)) g) (by rw [setq_self]) ?_
    have hX2 : LX (w'.1 2) := h.1.2.2.1 2 (by decide)
    refine r_aload_0 (q := 38) dX0_looksAt_37 rfl ?_
    refine r_get gf_X0_23_0 xh_x rfl (q := 41) dX0_looksAt_38 rfl ?_
    refine r_aload_0 (q := 42) dX0_looksAt_41 rfl ?_
    refine r_get gf_X0_20_0 xh_x rfl (q := 45) dX0_looksAt_42 rfl ?_
    refine r_callVv_1 cv_X0_103 (xe_o 2 (by decide) rfl) rfl (by decide) (Nat.le_of_ble_eq_true rfl) ⟨Nat.le_refl _, Nat.le_refl _⟩ (m_takes 2 1 (by decide) (by decide) (by decide) hX2 hk e1) (q := 48) dX0_looksAt_45 rfl ?_
    have kt : KX x g (tkX (mkM S M, Z) (w'.1 2)) := hk.tk
    refine r_aload_0 (q := 49) dX0_looksAt_48 rfl ?_
    refine r_get gf_X0_23_0 xh_x rfl (q := 52) dX0_looksAt_49 rfl ?_
    refine r_aload_0 (q := 53) dX0_looksAt_52 rfl ?_
    refine r_get gf_X0_230_0 xh_x rfl (q := 56) dX0_looksAt_53 rfl ?_
    refine J.topi (y := nI nn) (h.2.2.2.2.2.trans (hd rfl)) ?_
    refine r_callVv_1 cv_X0_181 (xe_o 2 (by decide) rfl) rfl (by decide) (Nat.le_of_ble_eq_true rfl) ⟨Nat.le_refl _, Nat.le_refl _⟩ (m_goesOn 2 (by decide) kt hn) (q := 59) dX0_looksAt_56 rfl ?_
    have kd : KX x g (daysS nn (mkM S M), (tkX (mkM S M, Z) (w'.1 2)).2) := kt.days (m := nn)
    refine J.heap (h2 := xh x (setq w' 2 (daysS nn (mkM S M), (tkX (mkM S M, Z) (w'.1 2)).2)) g) rfl ?_
    refine r_aload_0 (q := 60) dX0_looksAt_59 rfl ?_
    refine r_get gf_X0_23_0 xh_x rfl (q := 63) dX0_looksAt_60 rfl ?_
    refine r_callV_0 cv_X0_184 (xe_o 2 (by decide) rfl) rfl (by decide) (Nat.le_of_ble_eq_true rfl) ⟨Nat.le_refl _, Nat.le_refl _⟩ (x_all 2 (by decide) kd rfl) (q := 66) dX0_looksAt_63 rfl ?_
    have h2 := h.q2 kd.lx
    generalize hD : daysS nn (mkM S M) = D at kd h2 hz ⊢
    refine r_aload_0 (q := 67) dX0_looksAt_66 rfl ?_
    refine r_get gf_X0_233_0 xh_x rfl (q := 70) dX0_looksAt_67 rfl ?_
    refine J.topi (y := s.2.1) h2.2.2.2.2.1 ?_
    refine r_icmp_lt (q := 73) (tgt := 74) dX0_looksAt_70 rfl rfl (fun c70 => ?_) (fun c70 => ?_)
    · rw [if_pos c70] at hz
      refine r_aload_0 (q := 75) dX0_looksAt_74 rfl ?_
      refine r_aload_0 (q := 76) dX0_looksAt_75 rfl ?_
      refine r_get gf_X0_23_0 xh_x rfl (q := 79) dX0_looksAt_76 rfl ?_
      refine r_callV_0 cv_X0_184 (xe_o 2 (by decide) rfl) rfl (by decide) (Nat.le_of_ble_eq_true rfl) ⟨Nat.le_refl _, Nat.le_refl _⟩ (x_all 2 (by decide) kd rfl) (q := 82) dX0_looksAt_79 rfl ?_
      refine r_put gf_X0_233_0 cl_ok_0 ft_0_12 xh_x (Nat.le_of_ble_eq_true rfl) rfl rfl (q := 85) dX0_looksAt_82 rfl ?_
      refine J.heap (xset_f rfl) ?_
      refine r_aload_0 (q := 86) dX0_looksAt_85 rfl ?_
      have h3 := h2.le (v := allS D)
      refine r_callVv_0 cv_X0_227 xh_x rfl (by decide) (Nat.le_of_ble_eq_true rfl) ⟨Nat.le_refl _, Nat.le_refl _⟩ (k_X0_keepsPairing h3) (q := 89) dX0_looksAt_86 rfl ?_
      exact r_vret hz dX0_looksAt_89 (Nat.le_refl _) (Nat.le_refl _) ⟨rfl, rfl, _, rfl, h3.be (by show (M.map mI).length = 6; rw [List.length_map]; exact hk.1.2.2.1)⟩
    · rw [if_neg (fun q => c70 (by exact q))] at hz
      exact r_vret hz dX0_looksAt_73 (Nat.le_refl _) (Nat.le_refl _) ⟨rfl, rfl, _, rfl, h2⟩
  · have hs : st = true := bI_n0.mp c1
    subst hs
    unfold lookF at hz
    rw [if_pos rfl] at hz
    refine r_aload_0 (q := 5) dX0_looksAt_4 rfl ?_
    refine r_get gf_X0_20_0 xh_x rfl (q := 8) dX0_looksAt_5 rfl ?_
    refine r_callV_0 cv_X0_220 (xe_o 1 (by decide) rfl) rfl (by decide) (Nat.le_of_ble_eq_true rfl) ⟨Nat.le_refl _, Nat.le_refl _⟩ (x_isStable 1 (by decide) hk e1) (q := 11) dX0_looksAt_8 rfl ?_
    refine r_if_ne (q := 14) (tgt := 15) dX0_looksAt_11 rfl rfl (fun c11 => ?_) (fun c11 => ?_)
    · rw [if_pos (bI_n0.mp c11)] at hz
      refine r_aload_0 (q := 16) dX0_looksAt_15 rfl ?_
      refine r_get gf_X0_224_0 xh_x rfl (q := 19) dX0_looksAt_16 rfl ?_
      have tail : ∀ w3 : XW, PW w w3 (mkM S M, Z) (s.1, s.2.1, if s.1 = 0 then M.map mI else s.2.2) → J G z cX0_looksAt 2 RX0 9 0 0 0 0 26 [some (.ref x), some (.int (bI true))] [] n (xh x w3 g) := by
        intro w3 h3
        refine r_aload_0 (q := 27) dX0_looksAt_26 rfl ?_
        refine r_dup rfl (q := 28) dX0_looksAt_27 rfl ?_
        refine r_get gf_X0_224_0 xh_x rfl (q := 31) dX0_looksAt_28 rfl ?_
        refine r_iconst 1 (by decide) (q := 32) dX0_looksAt_31 rfl ?_
        refine r_iadd (q := 33) dX0_looksAt_32 rfl ?_
        refine r_put gf_X0_224_0 cl_ok_0 ft_0_11 xh_x (Nat.le_of_ble_eq_true rfl) rfl rfl (q := 36) dX0_looksAt_33 rfl ?_
        refine J.heap (xset_f rfl) ?_
        exact r_vret hz dX0_looksAt_36 (Nat.le_refl _) (Nat.le_refl _) ⟨rfl, rfl, _, rfl, by rw [h3.2.2.2.1]; exact h3.fo⟩
      refine r_if_ne (q := 22) (tgt := 26) dX0_looksAt_19 rfl rfl (fun c19 => ?_) (fun c19 => ?_)
      · refine tail w' ?_
        rw [if_neg (fun q => c19 (h.2.2.2.1.trans q))]
        exact h
      · refine r_aload_0 (q := 23) dX0_looksAt_22 rfl ?_
        refine r_callVv_0 cv_X0_227 xh_x rfl (by decide) (Nat.le_of_ble_eq_true rfl) ⟨Nat.le_refl _, Nat.le_refl _⟩ (k_X0_keepsPairing h) (q := 26) dX0_looksAt_23 rfl ?_
        refine tail _ ?_
        rw [if_pos (h.2.2.2.1.symm.trans c19)]
        exact h.be (by show (M.map mI).length = 6; rw [List.length_map]; exact hk.1.2.2.1)
    · rw [if_neg (fun q => by rw [bI_0.mp c11] at q; cases q)] at hz
      exact r_vret hz dX0_looksAt_14 (Nat.le_refl _) (Nat.le_refl _) ⟨rfl, rfl, _, rfl, h⟩
end XP1


/-! ===== image, restore, back, between, comes, quarrels, joins, days ===== -/
def imageS (σ : SG) : Int32 × SG := (nI σ.1.2.2.2.2, (σ.1, σ.2.1, σ.2.2.1, some σ.1))
def restS (σ : SG) : Int32 × SG := match σ.2.2.2 with
  | none => (-3, rfS σ (-3))
  | some S => (nI S.2.2.2.2, (S, σ.2.1, [], some S))
def backS (σ : SG) : Int32 × SG := if σ.2.2.1.length = 0 then (-3, rfS σ (-3)) else (nI (σ.2.2.1.length - 1), (σ.2.2.1.getD (σ.2.2.1.length - 1) S0, σ.2.1, σ.2.2.1.dropLast, σ.2.2.2))
/-- the refusal of two and a number below k -/
def noTw (S : SQ) (a b what k : Int32) : Int32 := if areTw S a b = true then (if inI what k = true then 0 else -2) else -1
def cl (v : Int32) : Nat := v.toNatClampNeg
theorem cl_nI {a : Nat} (h : a < 2 ^ 30) : cl (nI a) = a := nI_clamp (by omega)
def betwS (σ : SG) (a b what : Int32) : Int32 × SG :=
  if noTw σ.1 a b what 2 = 0 then (if what = 0 then nI (qr σ.1 (cl a) (cl b)) else likS σ.1 (cl a) (cl b) + 1000, σ) else (noTw σ.1 a b what 2, rfS σ (noTw σ.1 a b what 2))
def noComes (S : SQ) (p h : Int32) : Int32 := if isPer S p = true then wi h 0 31 else -1
def comesS (σ : SG) (p h : Int32) : Int32 × SG :=
  if noComes σ.1 p h = 0 then (nI (hr σ.1 (cl p)), (setH σ.1 (cl p) (cl h), (remS σ).2)) else (noComes σ.1 p h, rfS σ (noComes σ.1 p h))
def noQua (S : SQ) (a b v : Int32) : Int32 := if areTw S a b = true then wi v 0 99 else -1
def quarS (σ : SG) (a b v : Int32) : Int32 × SG :=
  if noQua σ.1 a b v = 0 then (nI (qr σ.1 (cl a) (cl b)), (setQr σ.1 (cl a) (cl b) (cl v), (remS σ).2)) else (noQua σ.1 a b v, rfS σ (noQua σ.1 a b v))
def joinsS (σ : SG) (a b : Int32) : Int32 × SG :=
  if areTw σ.1 a b = true then (matsS (turnS σ.1 (cl a) (cl b)), (turnS σ.1 (cl a) (cl b), (remS σ).2)) else (-1, rfS σ (-1))
def noDays (S : SQ) (m : Int32) : Int32 := if wi m 1 60 = 0 ∧ 999 < nI S.2.2.2.2 + m then -6 else wi m 1 60
def gdaysS (σ : SG) (m : Int32) : Int32 × SG :=
  if noDays σ.1 m = 0 then (allS (daysS (cl m) σ.1), (daysS (cl m) σ.1, (remS σ).2)) else (noDays σ.1 m, rfS σ (noDays σ.1 m))
theorem wi_0 {v lo hi : Int32} (h : wi v lo hi = 0) : lo ≤ v ∧ v ≤ hi := by
  unfold wi at h
  split at h
  · exact absurd h (by decide)
  · split at h
    · exact absurd h (by decide)
    · rename_i h1 h2
      exact ⟨Int32.not_lt.mp h1, Int32.not_lt.mp h2⟩
theorem wi_n {v hi : Int32} {k : Nat} (hk : hi = nI k) (hk2 : k < 2 ^ 30) (h : wi v 0 hi = 0) : ∃ j, j ≤ k ∧ v = nI j := by
  obtain ⟨h1, h2⟩ := wi_0 h
  obtain ⟨j, hj, rfl⟩ := nI_of (x := v) (Int32.not_lt.mpr h1)
  rw [hk] at h2
  exact ⟨j, (nI_leI hj (by omega)).mp h2, rfl⟩
theorem noTw_c {S : SQ} {a b what k : Int32} : noTw S a b what k = 0 ∨ isC (noTw S a b what k) := by
  unfold noTw
  split
  · split
    · exact Or.inl rfl
    · exact Or.inr isC_2
  · exact Or.inr isC_1
theorem noTw_0 {S : SQ} {a b what k : Int32} (h : noTw S a b what k = 0) : areTw S a b = true ∧ inI what k = true := by
  unfold noTw at h
  split at h
  · split at h
    · exact ⟨by assumption, by assumption⟩
    · exact absurd h (by decide)
  · exact absurd h (by decide)
section XO
variable {G : GD} {n x : Nat} {w w' : XW} {g : RH} {σ : SG} {X Y : QX}
theorem XR.q0 {σ' : SG} (h : XR x w g σ') (hY : OKX x g Y) (hd : Y.1.2.2.2.2 ≤ 999) : XR x (setq w 0 Y) g (Y.1, σ'.2) := by
  obtain ⟨h1, h2, h3, h4, h5, h6, h7, h8⟩ := h
  refine ⟨⟨hY, rfl, hd⟩, h2.setq hY.1.1 hY.kx.pl6, h3, h4, h5, h6, ?_, h8⟩
  obtain ⟨a1, a2, a3, a4, a5, a6⟩ := h7
  refine ⟨a1, a2, a3, a4, a5, fun k hk => ?_⟩
  have hm := (a3 _ (getD_in (l := w.2.1) (i := k) (by have : k < σ'.2.2.1.length := hk; omega))).1
  show OKX x g ((setq w 0 Y).1 (w.2.1.getD k 0)) ∧ ((setq w 0 Y).1 (w.2.1.getD k 0)).1 = _ ∧ _
  rw [setq_ne _ (by omega)]
  exact a6 k hk
/-- the quarter as it is, but in another state -/
theorem OKX.of {S' : SQ} (h : OKX x g Y) (h1 : S'.1 = Y.1.1) (hS : OKS S') : OKX x g (S', Y.2) := ⟨hS, by show PO x g Y.2.1 S'.1; rw [h1]; exact h.2⟩
theorem k_X0_image (h : XR x w g σ) : Ct G yX0_image cX0_image 1 (some .int) 6 0 0 [.ref x] n (xh x w g) (XPo x n g (imageS σ)) := by
  refine Ct.intro (k := 0) [some (.ref x)] (by decide) (Nat.le_of_ble_eq_true rfl) rfl fun z hz hin => ?_
  refine r_aload_0 (q := 1) dX0_image_0 rfl ?_
  refine r_get gf_X0_26_0 xh_x rfl (q := 4) dX0_image_1 rfl ?_
  refine r_aload_0 (q := 5) dX0_image_4 rfl ?_
  refine r_get gf_X0_16_0 xh_x rfl (q := 8) dX0_image_5 rfl ?_
  refine J.heap (h2 := xh x (setq w 3 (w.1 3)) g) (by rw [setq_self]) ?_
  refine r_callVv_1 cv_X0_103 (xe_o 3 (by decide) rfl) rfl (by decide) (Nat.le_of_ble_eq_true rfl) ⟨Nat.le_refl _, Nat.le_refl _⟩ (m_takes 3 0 (by decide) (by decide) (by decide) (h.lx 3 (by decide)) h.kx rfl) (q := 11) dX0_image_8 rfl ?_
  refine r_aload_0 (q := 12) dX0_image_11 rfl ?_
  refine r_iconst 1 (by decide) (q := 13) dX0_image_12 rfl ?_
  refine r_put gf_X0_340_0 cl_ok_0 ft_0_5 xh_x (Nat.le_of_ble_eq_true rfl) rfl rfl (q := 16) dX0_image_13 rfl ?_
  refine J.heap (xset_f rfl) ?_
  refine r_aload_0 (q := 17) dX0_image_16 rfl ?_
  refine r_get gf_X0_16_0 xh_x rfl (q := 20) dX0_image_17 rfl ?_
  refine r_getN gn_X0_178_1 (xe_o 0 (by decide) rfl) rfl (q := 23) dX0_image_20 rfl ?_
  refine J.topi (y := nI σ.1.2.2.2.2) (by show nI (w.1 0).1.2.2.2.2 = _; rw [h.s]) ?_
  refine r_iret hz dX0_image_23 (Nat.le_refl _) (Nat.le_refl _) (.of rfl ?_)
  have hd := h.day
  have hs := h.s
  obtain ⟨h1, h2, h3, h4, h5, h6, h7, h8⟩ := h
  refine ⟨h1, h2.setq h1.1.1.1 h1.1.kx.pl6, h3, h4, h5, h6, ?_, ⟨rfl, h1.1, hs, hd⟩⟩
  obtain ⟨a1, a2, a3, a4, a5, a6⟩ := h7
  refine ⟨a1, a2, a3, a4, a5, fun k hk => ?_⟩
  have hm := (a3 _ (getD_in (l := w.2.1) (i := k) (by have : k < σ.2.2.1.length := hk; omega))).1
  show OKX x g ((setq w 3 _).1 (w.2.1.getD k 0)) ∧ ((setq w 3 _).1 (w.2.1.getD k 0)).1 = _ ∧ _
  rw [setq_ne _ (by omega)]
  exact a6 k hk
theorem k_X0_restore (h : XR x w g σ) : Ct G yX0_restore cX0_restore 1 (some .int) 6 0 0 [.ref x] n (xh x w g) (XPo x n g (restS σ)) := by
  refine Ct.intro (k := 0) [some (.ref x)] (by decide) (Nat.le_of_ble_eq_true rfl) rfl fun z hz hin => ?_
  have h8 := h.2.2.2.2.2.2.2
  refine r_aload_0 (q := 1) dX0_restore_0 rfl ?_
  refine r_get gf_X0_340_0 xh_x rfl (q := 4) dX0_restore_1 rfl ?_
  unfold XRi at h8
  cases e : σ.2.2.2 with
  | none =>
    rw [e] at h8
    refine J.topi (y := 0) (show w.2.2.2 5 = 0 from h8) ?_
    refine r_if_ne (q := 7) (tgt := 14) dX0_restore_4 rfl rfl (fun c4 => ?_) (fun c4 => ?_)
    · exact absurd rfl c4
    refine r_aload_0 (q := 8) dX0_restore_7 rfl ?_
    refine r_bipush (-3) (by decide) (q := 10) dX0_restore_8 rfl ?_
    refine r_callV_1 cv_X0_48 xh_x rfl (by decide) (Nat.le_of_ble_eq_true rfl) ⟨Nat.le_refl _, Nat.le_refl _⟩ (k_X0_refuse isC_3 h.ra) (q := 13) dX0_restore_10 rfl ?_
    exact r_iret hz dX0_restore_13 (Nat.le_refl _) (Nat.le_refl _) (.of (by unfold restS; rw [e]) (h.refuse _))
  | some S =>
    rw [e] at h8
    obtain ⟨i1, i2, i3, i4⟩ := h8
    refine J.topi (y := 1) (show w.2.2.2 5 = 1 from i1) ?_
    refine r_if_ne (q := 7) (tgt := 14) dX0_restore_4 rfl rfl (fun c4 => ?_) (fun c4 => ?_)
    · refine r_aload_0 (q := 15) dX0_restore_14 rfl ?_
      refine r_get gf_X0_16_0 xh_x rfl (q := 18) dX0_restore_15 rfl ?_
      refine r_aload_0 (q := 19) dX0_restore_18 rfl ?_
      refine r_get gf_X0_26_0 xh_x rfl (q := 22) dX0_restore_19 rfl ?_
      refine J.heap (h2 := xh x (setq w 0 (w.1 0)) g) (by rw [setq_self]) ?_
      refine r_callVv_1 cv_X0_103 (xe_o 0 (by decide) rfl) rfl (by decide) (Nat.le_of_ble_eq_true rfl) ⟨Nat.le_refl _, Nat.le_refl _⟩ (m_takes 0 3 (by decide) (by decide) (by decide) (h.lx 0 (by decide)) i2.kx rfl) (q := 25) dX0_restore_22 rfl ?_
      refine r_aload_0 (q := 26) dX0_restore_25 rfl ?_
      refine r_iconst 0 (by decide) (q := 27) dX0_restore_26 rfl ?_
      refine r_put gf_X0_118_0 cl_ok_0 ft_0_9 xh_x (Nat.le_of_ble_eq_true rfl) rfl rfl (q := 30) dX0_restore_27 rfl ?_
      refine J.heap (xset_f rfl) ?_
      refine r_aload_0 (q := 31) dX0_restore_30 rfl ?_
      refine r_get gf_X0_16_0 xh_x rfl (q := 34) dX0_restore_31 rfl ?_
      refine r_getN gn_X0_178_1 (xe_o 0 (by decide) rfl) rfl (q := 37) dX0_restore_34 rfl ?_
      refine J.topi (y := nI S.2.2.2.2) (by show nI (w.1 3).1.2.2.2.2 = _; rw [i3]) ?_
      refine r_iret hz dX0_restore_37 (Nat.le_refl _) (Nat.le_refl _) (.of (σ' := (S, σ.2.1, [], some S)) (by unfold restS; rw [e]) ?_)
      obtain ⟨h1, h2, h3, h4, h5, h6, h7, h8⟩ := h
      obtain ⟨a1, a2, a3, a4, a5, a6⟩ := h7
      exact ⟨⟨i2, i3, i4⟩, h2.setq i2.1.1 i2.kx.pl6, h3, h4, h5, h6, ⟨a1, a2, a3, Nat.zero_le _, rfl, fun k hk => absurd hk (Nat.not_lt_zero _)⟩, ⟨i1, i2, i3, i4⟩⟩
    · exact absurd c4 (by decide)
theorem k_X0_back (h : XR x w g σ) : Ct G yX0_back cX0_back 1 (some .int) 6 0 0 [.ref x] n (xh x w g) (XPo x n g (backS σ)) := by
  refine Ct.intro (k := 0) [some (.ref x)] (by decide) (Nat.le_of_ble_eq_true rfl) rfl fun z hz hin => ?_
  have h7 := h.2.2.2.2.2.2.1
  have e9 : w.2.2.2 9 = nI σ.2.2.1.length := h7.2.2.2.2.1
  have hw8 : w.2.1.length = 8 := h7.1
  have hl8 := h7.2.2.2.1
  refine r_aload_0 (q := 1) dX0_back_0 rfl ?_
  refine r_get gf_X0_118_0 xh_x rfl (q := 4) dX0_back_1 rfl ?_
  refine J.topi (y := nI σ.2.2.1.length) e9 ?_
  refine r_if_ne (q := 7) (tgt := 14) dX0_back_4 rfl rfl (fun c4 => ?_) (fun c4 => ?_)
  · have hs : 0 < σ.2.2.1.length := Nat.pos_of_ne_zero (fun q => c4 (by rw [q]; rfl))
    refine r_aload_0 (q := 15) dX0_back_14 rfl ?_
    refine r_dup rfl (q := 16) dX0_back_15 rfl ?_
    refine r_get gf_X0_118_0 xh_x rfl (q := 19) dX0_back_16 rfl ?_
    refine r_iconst 1 (by decide) (q := 20) dX0_back_19 rfl ?_
    refine r_isub (q := 21) dX0_back_20 rfl ?_
    refine r_put gf_X0_118_0 cl_ok_0 ft_0_9 xh_x (Nat.le_of_ble_eq_true rfl) rfl rfl (q := 24) dX0_back_21 rfl ?_
    refine J.heap (xset_f rfl) ?_
    refine r_aload_0 (q := 25) dX0_back_24 rfl ?_
    refine r_get gf_X0_16_0 xh_x rfl (q := 28) dX0_back_25 rfl ?_
    refine r_aload_0 (q := 29) dX0_back_28 rfl ?_
    refine r_get gf_X0_32_0 xh_x rfl (q := 32) dX0_back_29 rfl ?_
    refine r_aload_0 (q := 33) dX0_back_32 rfl ?_
    refine r_get gf_X0_118_0 xh_x rfl (q := 36) dX0_back_33 rfl ?_
    have e9' : w.2.2.2 9 - 1 = nI (σ.2.2.1.length - 1) := by
      rw [e9]
      obtain ⟨j, hj⟩ : ∃ j, σ.2.2.1.length = j + 1 := ⟨σ.2.2.1.length - 1, by omega⟩
      rw [hj]
      exact nI_pred j
    have hin := h7.2.2.1 _ (getD_in (l := w.2.1) (i := σ.2.2.1.length - 1) (by omega))
    have ho := h7.2.2.2.2.2 (σ.2.2.1.length - 1) (by omega)
    refine r_aald 1 (σ.2.2.1.length - 1) 8 xh_st (by rw [List.length_map]; exact h7.1) e9' (by omega) (by decide) (stD (by show _ < w.2.1.length; omega)) (q := 37) dX0_back_36 rfl ?_
    refine J.heap (h2 := xh x (setq (setf w 9 (w.2.2.2 9 - 1)) 0 (w.1 0)) g) (congrArg (fun v => xh x v g) (setq_self (w := setf w 9 (w.2.2.2 9 - 1)) 0).symm) ?_
    refine r_callVv_1 cv_X0_103 (xe_o 0 (by decide) rfl) rfl (by decide) (Nat.le_of_ble_eq_true rfl) ⟨Nat.le_refl _, Nat.le_refl _⟩ (m_takes 0 (w.2.1.getD (σ.2.2.1.length - 1) 0) (by decide) hin.2 (by omega) (h.lx 0 (by decide)) ho.1.kx rfl) (q := 40) dX0_back_37 rfl ?_
    refine r_aload_0 (q := 41) dX0_back_40 rfl ?_
    refine r_get gf_X0_118_0 xh_x rfl (q := 44) dX0_back_41 rfl ?_
    refine J.topi (y := nI (σ.2.2.1.length - 1)) e9' ?_
    refine r_iret hz dX0_back_44 (Nat.le_refl _) (Nat.le_refl _) (.of (σ' := (σ.2.2.1.getD (σ.2.2.1.length - 1) S0, σ.2.1, σ.2.2.1.dropLast, σ.2.2.2)) (by unfold backS; rw [if_neg (by omega)]) ?_)
    have hp := XRs.pop h7 hs (w.2.2.2 9 - 1) e9' (Y := tkX (w.1 (w.2.1.getD (σ.2.2.1.length - 1) 0)) (w.1 0))
    obtain ⟨h1, h2, h3, h4, h5, h6, h7', h8⟩ := h
    refine ⟨⟨ho.1, ho.2.1, ho.2.2⟩, h2.setq ho.1.1.1 ho.1.kx.pl6, h3, h4, h5, h6, hp, ?_⟩
    unfold XRi at h8 ⊢
    exact h8
  · have he : σ.2.2.1.length = 0 := nI_inj (b := 0) (by omega) (by omega) c4
    refine r_aload_0 (q := 8) dX0_back_7 rfl ?_
    refine r_bipush (-3) (by decide) (q := 10) dX0_back_8 rfl ?_
    refine r_callV_1 cv_X0_48 xh_x rfl (by decide) (Nat.le_of_ble_eq_true rfl) ⟨Nat.le_refl _, Nat.le_refl _⟩ (k_X0_refuse isC_3 h.ra) (q := 13) dX0_back_10 rfl ?_
    exact r_iret hz dX0_back_13 (Nat.le_refl _) (Nat.le_refl _) (.of (by unfold backS; rw [if_pos he]) (h.refuse _))
theorem k_X0_between {a b what : Int32} (h : XR x w g σ) : Ct G yX0_between cX0_between 5 (some .int) 6 0 0 [.ref x, .int a, .int b, .int what] n (xh x w g) (XPo x n g (betwS σ a b what)) := by
  refine Ct.intro (k := 1) [some (.ref x), some (.int a), some (.int b), some (.int what), none] (by decide) (Nat.le_of_ble_eq_true rfl) rfl fun z hz hin => ?_
  have fin : ∀ no : Int32, no = noTw σ.1 a b what 2 → J G z cX0_between 5 RX0 6 0 0 0 0 27 [some (.ref x), some (.int a), some (.int b), some (.int what), none] [.int no] n (xh x w g) := by
    intro no h1
    refine r_istore_4 (by decide) rfl (q := 29) dX0_between_27 rfl ?_
    refine r_iload_4 (q := 31) dX0_between_29 rfl ?_
    refine r_if_eq (q := 34) (tgt := 41) dX0_between_31 rfl rfl (fun c31 => ?_) (fun c31 => ?_)
    · rw [c31] at h1
      have h2 := noTw_0 h1.symm
      obtain ⟨i, j, hi, hj, hij, rfl, rfl⟩ := areTw_t h.oks.1 h2.1
      have h6 := h.oks.1.1
      have e0 : betwS σ (nI i) (nI j) what = (if what = 0 then nI (qr σ.1 i j) else likS σ.1 i j + 1000, σ) := by
        unfold betwS
        rw [if_pos h1.symm, cl_nI (by omega), cl_nI (by omega)]
      rw [e0] at hz
      refine r_iload_3 (q := 42) dX0_between_41 rfl ?_
      refine r_if_ne (q := 45) (tgt := 57) dX0_between_42 rfl rfl (fun c42 => ?_) (fun c42 => ?_)
      · rw [if_neg c42] at hz
        refine r_aload_0 (q := 58) dX0_between_57 rfl ?_
        refine r_get gf_X0_16_0 xh_x rfl (q := 61) dX0_between_58 rfl ?_
        refine r_iload_1 (q := 62) dX0_between_61 rfl ?_
        refine r_iload_2 (q := 63) dX0_between_62 rfl ?_
        refine r_callV_2 cv_X0_153 (xe_o 0 (by decide) rfl) rfl (by decide) (Nat.le_of_ble_eq_true rfl) ⟨Nat.le_refl _, Nat.le_refl _⟩ (x_likes 0 (by decide) h.kx rfl (by rw [h.s]; exact hi) (by rw [h.s]; exact hj)) (q := 66) dX0_between_63 rfl ?_
        rw [h.s]
        refine r_sipush 1000 (by decide) (q := 69) dX0_between_66 rfl ?_
        refine r_iadd (q := 70) dX0_between_69 rfl ?_
        exact r_iret hz dX0_between_70 (Nat.le_refl _) (Nat.le_refl _) (.of rfl h)
      · rw [if_pos c42] at hz
        refine r_aload_0 (q := 46) dX0_between_45 rfl ?_
        refine r_get gf_X0_16_0 xh_x rfl (q := 49) dX0_between_46 rfl ?_
        refine r_iload_1 (q := 50) dX0_between_49 rfl ?_
        refine r_iload_2 (q := 51) dX0_between_50 rfl ?_
        refine r_callV_2 cv_X0_149 (xe_o 0 (by decide) rfl) rfl (by decide) (Nat.le_of_ble_eq_true rfl) ⟨Nat.le_refl _, Nat.le_refl _⟩ (x_between 0 (by decide) h.kx rfl (by omega) (by omega)) (q := 54) dX0_between_51 rfl ?_
        rw [h.s]
        refine r_goto (q := 70) dX0_between_54 rfl ?_
        exact r_iret hz dX0_between_70 (Nat.le_refl _) (Nat.le_refl _) (.of rfl h)
    · have hc : isC no := by rw [h1] at c31 ⊢; exact noTw_c.resolve_left c31
      refine r_aload_0 (q := 35) dX0_between_34 rfl ?_
      refine r_iload_4 (q := 37) dX0_between_35 rfl ?_
      refine r_callV_1 cv_X0_48 xh_x rfl (by decide) (Nat.le_of_ble_eq_true rfl) ⟨Nat.le_refl _, Nat.le_refl _⟩ (k_X0_refuse hc h.ra) (q := 40) dX0_between_37 rfl ?_
      exact r_iret hz dX0_between_40 (Nat.le_refl _) (Nat.le_refl _) (.of (by unfold betwS; rw [← h1, if_neg c31]) (h.refuse _))
  refine r_aload_0 (q := 1) dX0_between_0 rfl ?_
  refine r_iload_1 (q := 2) dX0_between_1 rfl ?_
  refine r_iload_2 (q := 3) dX0_between_2 rfl ?_
  refine r_callV_2 cv_X0_146 xh_x rfl (by decide) (Nat.le_of_ble_eq_true rfl) ⟨Nat.le_refl _, Nat.le_refl _⟩ (k_X0_areTwo h.kx) (q := 6) dX0_between_3 rfl ?_
  rw [h.s]
  refine r_if_ne (q := 9) (tgt := 13) dX0_between_6 rfl rfl (fun c6 => ?_) (fun c6 => ?_)
  · refine r_iload_3 (q := 14) dX0_between_13 rfl ?_
    refine r_iconst 2 (by decide) (q := 15) dX0_between_14 rfl ?_
    refine r_callS_2 cs_X0_78 (by decide) (Nat.le_of_ble_eq_true rfl) ⟨Nat.le_refl _, Nat.le_refl _⟩ (k_X0_isIn) (q := 18) dX0_between_15 rfl ?_
    refine r_if_eq (q := 21) (tgt := 25) dX0_between_18 rfl rfl (fun c18 => ?_) (fun c18 => ?_)
    · refine r_bipush (-2) (by decide) (q := 27) dX0_between_25 rfl ?_
      exact fin _ (by unfold noTw inI; rw [if_pos (bI_n0.mp c6), bI_0.mp c18]; rfl)
    · refine r_iconst 0 (by decide) (q := 22) dX0_between_21 rfl ?_
      refine r_goto (q := 27) dX0_between_22 rfl ?_
      exact fin _ (by unfold noTw inI; rw [if_pos (bI_n0.mp c6), bI_n0.mp c18]; rfl)
  · refine r_iconst (-1) (by decide) (q := 10) dX0_between_9 rfl ?_
    refine r_goto (q := 27) dX0_between_10 rfl ?_
    exact fin _ (by unfold noTw; rw [bI_0.mp c6]; rfl)
theorem k_X0_comes {p v : Int32} (h : XR x w g σ) : Ct G yX0_comes cX0_comes 5 (some .int) 7 0 0 [.ref x, .int p, .int v] n (xh x w g) (XPo x n g (comesS σ p v)) := by
  refine Ct.intro (k := 2) [some (.ref x), some (.int p), some (.int v), none, none] (by decide) (Nat.le_of_ble_eq_true rfl) rfl fun z hz hin => ?_
  have fin : ∀ no : Int32, (no = 0 ∨ isC no) → no = noComes σ.1 p v → J G z cX0_comes 5 RX0 7 0 0 0 0 19 [some (.ref x), some (.int p), some (.int v), none, none] [.int no] n (xh x w g) := by
    intro no hno h1
    refine r_istore_3 (by decide) rfl (q := 20) dX0_comes_19 rfl ?_
    refine r_iload_3 (q := 21) dX0_comes_20 rfl ?_
    refine r_if_eq (q := 24) (tgt := 30) dX0_comes_21 rfl rfl (fun c21 => ?_) (fun c21 => ?_)
    · rw [c21] at h1
      have h1' := h1.symm
      unfold noComes at h1'
      split at h1'
      · rename_i hp
        obtain ⟨i, hi, rfl⟩ := isPer_t h.oks.1 hp
        obtain ⟨k, hk, rfl⟩ := wi_n (k := 31) rfl (by decide) h1'
        have h6 := h.oks.1.1
        have e0 : comesS σ (nI i) (nI k) = (nI (hr σ.1 i), (setH σ.1 i k, (remS σ).2)) := by
          unfold comesS
          rw [if_pos h1.symm, cl_nI (by omega), cl_nI (by omega)]
        rw [e0] at hz
        refine r_aload_0 (q := 31) dX0_comes_30 rfl ?_
        refine r_callVp_0 cv_X0_164 xh_x rfl (by decide) (Nat.le_of_ble_eq_true rfl) ⟨Nat.le_refl _, Nat.le_refl _⟩ (k_X0_remembers h) (q := 34) dX0_comes_31 rfl ?_
        intro r n' h' hq
        obtain ⟨rfl, rfl, w', rfl, hR⟩ := hq
        have hs : (w'.1 0).1 = σ.1 := hR.s
        refine r_aload_0 (q := 35) dX0_comes_34 rfl ?_
        refine r_get gf_X0_16_0 xh_x rfl (q := 38) dX0_comes_35 rfl ?_
        refine r_getN gn_X0_134_1 (xe_o 0 (by decide) rfl) rfl (q := 41) dX0_comes_38 rfl ?_
        refine r_iload_1 (q := 42) dX0_comes_41 rfl ?_
        refine r_ialdN i 6 (xe_h 0 (by decide) rfl) hR.kx.1.2.1 rfl (by omega) (by decide) (q := 43) dX0_comes_42 rfl ?_
        refine r_istore_4 (by decide) rfl (q := 45) dX0_comes_43 rfl ?_
        refine r_aload_0 (q := 46) dX0_comes_45 rfl ?_
        refine r_get gf_X0_16_0 xh_x rfl (q := 49) dX0_comes_46 rfl ?_
        refine r_getN gn_X0_134_1 (xe_o 0 (by decide) rfl) rfl (q := 52) dX0_comes_49 rfl ?_
        refine r_iload_1 (q := 53) dX0_comes_52 rfl ?_
        refine r_iload_2 (q := 54) dX0_comes_53 rfl ?_
        refine r_iastN i 6 k (xe_h 0 (by decide) rfl) hR.kx.1.2.1 rfl rfl (by omega) (by decide) (q := 55) dX0_comes_54 rfl ?_
        refine J.heap (h2 := xh x (setq w' 0 (setH (w'.1 0).1 i k, (w'.1 0).2)) g) ?_ ?_
        · have e := xs_h (x := x) (w := w') (g := g) (X := w'.1 0) (a := i) (v := k) 0 (by decide)
          rw [setq_self] at e
          exact e
        refine r_iload_4 (q := 57) dX0_comes_55 rfl ?_
        refine J.topi (y := nI (hr σ.1 i)) (by show nI (hr (w'.1 0).1 i) = _; rw [hs]) ?_
        refine r_iret hz dX0_comes_57 (Nat.le_refl _) (Nat.le_refl _) (.of (σ' := (setH (w'.1 0).1 i k, (remS σ).2)) (by rw [hs]) ?_)
        exact hR.q0 (Y := (setH (w'.1 0).1 i k, (w'.1 0).2)) (hR.ok.of rfl (hR.ok.1.stH hk)) (by show (w'.1 0).1.2.2.2.2 ≤ 999; rw [hs]; exact h.day)
      · exact absurd h1' (by decide)
    · have hc : isC no := hno.resolve_left c21
      refine r_aload_0 (q := 25) dX0_comes_24 rfl ?_
      refine r_iload_3 (q := 26) dX0_comes_25 rfl ?_
      refine r_callV_1 cv_X0_48 xh_x rfl (by decide) (Nat.le_of_ble_eq_true rfl) ⟨Nat.le_refl _, Nat.le_refl _⟩ (k_X0_refuse hc h.ra) (q := 29) dX0_comes_26 rfl ?_
      exact r_iret hz dX0_comes_29 (Nat.le_refl _) (Nat.le_refl _) (.of (by unfold comesS; rw [← h1, if_neg c21]) (h.refuse _))
  refine r_aload_0 (q := 1) dX0_comes_0 rfl ?_
  refine r_iload_1 (q := 2) dX0_comes_1 rfl ?_
  refine r_callV_1 cv_X0_82 xh_x rfl (by decide) (Nat.le_of_ble_eq_true rfl) ⟨Nat.le_refl _, Nat.le_refl _⟩ (k_X0_isPerson h.kx) (q := 5) dX0_comes_2 rfl ?_
  rw [h.s]
  refine r_if_eq (q := 8) (tgt := 18) dX0_comes_5 rfl rfl (fun c5 => ?_) (fun c5 => ?_)
  · refine r_iconst (-1) (by decide) (q := 19) dX0_comes_18 rfl ?_
    exact fin _ (Or.inr isC_1) (by unfold noComes; rw [bI_0.mp c5]; rfl)
  · refine r_iload_2 (q := 9) dX0_comes_8 rfl ?_
    refine r_iconst 0 (by decide) (q := 10) dX0_comes_9 rfl ?_
    refine r_bipush 31 (by decide) (q := 12) dX0_comes_10 rfl ?_
    refine r_callS_3 cs_X0_86 (by decide) (Nat.le_of_ble_eq_true rfl) ⟨Nat.le_refl _, Nat.le_refl _⟩ (k_X0_within) (q := 15) dX0_comes_12 rfl ?_
    refine r_goto (q := 19) dX0_comes_15 rfl ?_
    exact fin _ (wi_c _ _ _) (by unfold noComes; rw [if_pos (bI_n0.mp c5)])
theorem k_X0_quarrels {a b v : Int32} (h : XR x w g σ) : Ct G yX0_quarrels cX0_quarrels 6 (some .int) 7 0 0 [.ref x, .int a, .int b, .int v] n (xh x w g) (XPo x n g (quarS σ a b v)) := by
  refine Ct.intro (k := 2) [some (.ref x), some (.int a), some (.int b), some (.int v), none, none] (by decide) (Nat.le_of_ble_eq_true rfl) rfl fun z hz hin => ?_
  have fin : ∀ no : Int32, (no = 0 ∨ isC no) → no = noQua σ.1 a b v → J G z cX0_quarrels 6 RX0 7 0 0 0 0 20 [some (.ref x), some (.int a), some (.int b), some (.int v), none, none] [.int no] n (xh x w g) := by
    intro no hno h1
    refine r_istore_4 (by decide) rfl (q := 22) dX0_quarrels_20 rfl ?_
    refine r_iload_4 (q := 24) dX0_quarrels_22 rfl ?_
    refine r_if_eq (q := 27) (tgt := 34) dX0_quarrels_24 rfl rfl (fun c24 => ?_) (fun c24 => ?_)
    · rw [c24] at h1
      have h1' := h1.symm
      unfold noQua at h1'
      split at h1'
      · rename_i hp
        obtain ⟨i, j, hi, hj, hij, rfl, rfl⟩ := areTw_t h.oks.1 hp
        obtain ⟨k, hk, rfl⟩ := wi_n (k := 99) rfl (by decide) h1'
        have h6 := h.oks.1.1
        have e0 : quarS σ (nI i) (nI j) (nI k) = (nI (qr σ.1 i j), (setQr σ.1 i j k, (remS σ).2)) := by
          unfold quarS
          rw [if_pos h1.symm, cl_nI (by omega), cl_nI (by omega), cl_nI (by omega)]
        rw [e0] at hz
        refine r_aload_0 (q := 35) dX0_quarrels_34 rfl ?_
        refine r_callVp_0 cv_X0_164 xh_x rfl (by decide) (Nat.le_of_ble_eq_true rfl) ⟨Nat.le_refl _, Nat.le_refl _⟩ (k_X0_remembers h) (q := 38) dX0_quarrels_35 rfl ?_
        intro r n' h' hq
        obtain ⟨rfl, rfl, w', rfl, hR⟩ := hq
        have hs : (w'.1 0).1 = σ.1 := hR.s
        refine r_aload_0 (q := 39) dX0_quarrels_38 rfl ?_
        refine r_get gf_X0_16_0 xh_x rfl (q := 42) dX0_quarrels_39 rfl ?_
        refine r_iload_1 (q := 43) dX0_quarrels_42 rfl ?_
        refine r_iload_2 (q := 44) dX0_quarrels_43 rfl ?_
        refine r_callV_2 cv_X0_149 (xe_o 0 (by decide) rfl) rfl (by decide) (Nat.le_of_ble_eq_true rfl) ⟨Nat.le_refl _, Nat.le_refl _⟩ (x_between 0 (by decide) hR.kx rfl (by omega) (by omega)) (q := 47) dX0_quarrels_44 rfl ?_
        refine r_istore_5 (by decide) rfl (q := 49) dX0_quarrels_47 rfl ?_
        refine r_aload_0 (q := 50) dX0_quarrels_49 rfl ?_
        refine r_get gf_X0_16_0 xh_x rfl (q := 53) dX0_quarrels_50 rfl ?_
        refine r_iload_1 (q := 54) dX0_quarrels_53 rfl ?_
        refine r_iload_2 (q := 55) dX0_quarrels_54 rfl ?_
        refine r_iload_3 (q := 56) dX0_quarrels_55 rfl ?_
        refine J.heap (h2 := xh x (setq w' 0 (w'.1 0)) g) (by rw [setq_self]) ?_
        refine r_callVv_3 cv_X0_167 (xe_o 0 (by decide) rfl) rfl (by decide) (Nat.le_of_ble_eq_true rfl) ⟨Nat.le_refl _, Nat.le_refl _⟩ (m_quarrels 0 (by decide) hR.kx (by omega) (by omega)) (q := 59) dX0_quarrels_56 rfl ?_
        refine r_iload_5 (q := 61) dX0_quarrels_59 rfl ?_
        refine J.topi (y := nI (qr σ.1 i j)) (by rw [hs]) ?_
        refine r_iret hz dX0_quarrels_61 (Nat.le_refl _) (Nat.le_refl _) (.of (σ' := (setQr (w'.1 0).1 i j k, (remS σ).2)) (by rw [hs]) ?_)
        exact hR.q0 (Y := (setQr (w'.1 0).1 i j k, (w'.1 0).2)) (hR.ok.of rfl (hR.ok.1.stQ (by omega) (by omega) (Or.inl hij) hk)) (by show (w'.1 0).1.2.2.2.2 ≤ 999; rw [hs]; exact h.day)
      · exact absurd h1' (by decide)
    · have hc : isC no := hno.resolve_left c24
      refine r_aload_0 (q := 28) dX0_quarrels_27 rfl ?_
      refine r_iload_4 (q := 30) dX0_quarrels_28 rfl ?_
      refine r_callV_1 cv_X0_48 xh_x rfl (by decide) (Nat.le_of_ble_eq_true rfl) ⟨Nat.le_refl _, Nat.le_refl _⟩ (k_X0_refuse hc h.ra) (q := 33) dX0_quarrels_30 rfl ?_
      exact r_iret hz dX0_quarrels_33 (Nat.le_refl _) (Nat.le_refl _) (.of (by unfold quarS; rw [← h1, if_neg c24]) (h.refuse _))
  refine r_aload_0 (q := 1) dX0_quarrels_0 rfl ?_
  refine r_iload_1 (q := 2) dX0_quarrels_1 rfl ?_
  refine r_iload_2 (q := 3) dX0_quarrels_2 rfl ?_
  refine r_callV_2 cv_X0_146 xh_x rfl (by decide) (Nat.le_of_ble_eq_true rfl) ⟨Nat.le_refl _, Nat.le_refl _⟩ (k_X0_areTwo h.kx) (q := 6) dX0_quarrels_3 rfl ?_
  rw [h.s]
  refine r_if_eq (q := 9) (tgt := 19) dX0_quarrels_6 rfl rfl (fun c6 => ?_) (fun c6 => ?_)
  · refine r_iconst (-1) (by decide) (q := 20) dX0_quarrels_19 rfl ?_
    exact fin _ (Or.inr isC_1) (by unfold noQua; rw [bI_0.mp c6]; rfl)
  · refine r_iload_3 (q := 10) dX0_quarrels_9 rfl ?_
    refine r_iconst 0 (by decide) (q := 11) dX0_quarrels_10 rfl ?_
    refine r_bipush 99 (by decide) (q := 13) dX0_quarrels_11 rfl ?_
    refine r_callS_3 cs_X0_86 (by decide) (Nat.le_of_ble_eq_true rfl) ⟨Nat.le_refl _, Nat.le_refl _⟩ (k_X0_within) (q := 16) dX0_quarrels_13 rfl ?_
    refine r_goto (q := 20) dX0_quarrels_16 rfl ?_
    exact fin _ (wi_c _ _ _) (by unfold noQua; rw [if_pos (bI_n0.mp c6)])
theorem k_X0_joins {a b : Int32} (h : XR x w g σ) : Ct G yX0_joins cX0_joins 3 (some .int) 7 0 0 [.ref x, .int a, .int b] n (xh x w g) (XPo x n g (joinsS σ a b)) := by
  refine Ct.intro (k := 0) [some (.ref x), some (.int a), some (.int b)] (by decide) (Nat.le_of_ble_eq_true rfl) rfl fun z hz hin => ?_
  refine r_aload_0 (q := 1) dX0_joins_0 rfl ?_
  refine r_iload_1 (q := 2) dX0_joins_1 rfl ?_
  refine r_iload_2 (q := 3) dX0_joins_2 rfl ?_
  refine r_callV_2 cv_X0_146 xh_x rfl (by decide) (Nat.le_of_ble_eq_true rfl) ⟨Nat.le_refl _, Nat.le_refl _⟩ (k_X0_areTwo h.kx) (q := 6) dX0_joins_3 rfl ?_
  rw [h.s]
  refine r_if_ne (q := 9) (tgt := 15) dX0_joins_6 rfl rfl (fun c6 => ?_) (fun c6 => ?_)
  · have hp := bI_n0.mp c6
    obtain ⟨i, j, hi, hj, hij, rfl, rfl⟩ := areTw_t h.oks.1 hp
    have h6 := h.oks.1.1
    have e0 : joinsS σ (nI i) (nI j) = (matsS (turnS σ.1 i j), (turnS σ.1 i j, (remS σ).2)) := by
      unfold joinsS
      rw [if_pos hp, cl_nI (by omega), cl_nI (by omega)]
    rw [e0] at hz
    refine r_aload_0 (q := 16) dX0_joins_15 rfl ?_
    refine r_callVp_0 cv_X0_164 xh_x rfl (by decide) (Nat.le_of_ble_eq_true rfl) ⟨Nat.le_refl _, Nat.le_refl _⟩ (k_X0_remembers h) (q := 19) dX0_joins_16 rfl ?_
    intro r n' h' hq
    obtain ⟨rfl, rfl, w', rfl, hR⟩ := hq
    have hs : (w'.1 0).1 = σ.1 := hR.s
    refine r_aload_0 (q := 20) dX0_joins_19 rfl ?_
    refine r_get gf_X0_16_0 xh_x rfl (q := 23) dX0_joins_20 rfl ?_
    refine r_iload_1 (q := 24) dX0_joins_23 rfl ?_
    refine r_iload_2 (q := 25) dX0_joins_24 rfl ?_
    refine J.heap (h2 := xh x (setq w' 0 (w'.1 0)) g) (by rw [setq_self]) ?_
    refine r_callSv_3 cs_X0_171 (by decide) (Nat.le_of_ble_eq_true rfl) ⟨Nat.le_refl _, Nat.le_refl _⟩ (k_X0_turnsMat 0 (by decide) hR.kx (by omega) (by omega)) (q := 28) dX0_joins_25 rfl ?_
    have hk : KX x g (turnS (w'.1 0).1 i j, (w'.1 0).2) := hR.kx.turn (by rw [hs]; exact hi) (by rw [hs]; exact hj)
    refine r_aload_0 (q := 29) dX0_joins_28 rfl ?_
    refine r_get gf_X0_16_0 xh_x rfl (q := 32) dX0_joins_29 rfl ?_
    refine r_callV_0 cv_X0_175 (xe_o 0 (by decide) rfl) rfl (by decide) (Nat.le_of_ble_eq_true rfl) ⟨Nat.le_refl _, Nat.le_refl _⟩ (x_mats (Y := (turnS (w'.1 0).1 i j, (w'.1 0).2)) 0 (by decide) hk rfl) (q := 35) dX0_joins_32 rfl ?_
    refine r_iret hz dX0_joins_35 (Nat.le_refl _) (Nat.le_refl _) (.of (σ' := (turnS (w'.1 0).1 i j, (remS σ).2)) (by rw [hs]) ?_)
    exact hR.q0 (Y := (turnS (w'.1 0).1 i j, (w'.1 0).2)) (hR.ok.of (turnS_fr _ _ _) (hR.ok.1.turn (by rw [hs]; exact hi) (by rw [hs]; exact hj) hij)) (by rw [turnS_day, hs]; exact h.day)
  · refine r_aload_0 (q := 10) dX0_joins_9 rfl ?_
    refine r_iconst (-1) (by decide) (q := 11) dX0_joins_10 rfl ?_
    refine r_callV_1 cv_X0_48 xh_x rfl (by decide) (Nat.le_of_ble_eq_true rfl) ⟨Nat.le_refl _, Nat.le_refl _⟩ (k_X0_refuse isC_1 h.ra) (q := 14) dX0_joins_11 rfl ?_
    exact r_iret hz dX0_joins_14 (Nat.le_refl _) (Nat.le_refl _) (.of (by unfold joinsS; rw [bI_0.mp c6]; rfl) (h.refuse _))
theorem k_X0_days {m : Int32} (h : XR x w g σ) : Ct G yX0_days cX0_days 3 (some .int) 9 0 0 [.ref x, .int m] n (xh x w g) (XPo x n g (gdaysS σ m)) := by
  refine Ct.intro (k := 1) [some (.ref x), some (.int m), none] (by decide) (Nat.le_of_ble_eq_true rfl) rfl fun z hz hin => ?_
  have hday := h.day
  have fin : ∀ no : Int32, (no = 0 ∨ isC no) → (no = 0 → wi m 1 60 = 0 ∧ ¬ 999 < nI σ.1.2.2.2.2 + m) → no = noDays σ.1 m → J G z cX0_days 3 RX0 9 0 0 0 0 30 [some (.ref x), some (.int m), some (.int no)] [] n (xh x w g) := by
    intro no hno h2 h1
    refine r_iload_2 (q := 31) dX0_days_30 rfl ?_
    refine r_if_eq (q := 34) (tgt := 40) dX0_days_31 rfl rfl (fun c31 => ?_) (fun c31 => ?_)
    · rw [c31] at h1
      obtain ⟨q1, q2⟩ := h2 c31
      obtain ⟨q3, q4⟩ := wi_0 q1
      obtain ⟨k, hk, rfl⟩ := nI_of (x := m) (Int32.not_lt.mpr (Int32.le_trans (by decide : (0 : Int32) ≤ 1) q3))
      have hk60 : k ≤ 60 := (nI_leI (b := 60) hk (by omega)).mp q4
      rw [nI_add] at q2
      have hkd : σ.1.2.2.2.2 + k ≤ 999 := by
        rcases Nat.lt_or_ge 999 (σ.1.2.2.2.2 + k) with z | z
        · exact absurd (nI_lt (a := 999) z (by omega)) q2
        · exact z
      have e0 : gdaysS σ (nI k) = (allS (daysS k σ.1), (daysS k σ.1, (remS σ).2)) := by
        unfold gdaysS
        rw [if_pos h1.symm, cl_nI (by omega)]
      rw [e0] at hz
      refine r_aload_0 (q := 41) dX0_days_40 rfl ?_
      refine r_callVp_0 cv_X0_164 xh_x rfl (by decide) (Nat.le_of_ble_eq_true rfl) ⟨Nat.le_refl _, Nat.le_refl _⟩ (k_X0_remembers h) (q := 44) dX0_days_41 rfl ?_
      intro r n' h' hq
      obtain ⟨rfl, rfl, w', rfl, hR⟩ := hq
      have hs : (w'.1 0).1 = σ.1 := hR.s
      refine r_aload_0 (q := 45) dX0_days_44 rfl ?_
      refine r_get gf_X0_16_0 xh_x rfl (q := 48) dX0_days_45 rfl ?_
      refine r_iload_1 (q := 49) dX0_days_48 rfl ?_
      refine J.heap (h2 := xh x (setq w' 0 (w'.1 0)) g) (by rw [setq_self]) ?_
      refine r_callVv_1 cv_X0_181 (xe_o 0 (by decide) rfl) rfl (by decide) (Nat.le_of_ble_eq_true rfl) ⟨Nat.le_refl _, Nat.le_refl _⟩ (m_goesOn 0 (by decide) hR.kx (by omega)) (q := 52) dX0_days_49 rfl ?_
      have hk : KX x g (daysS k (w'.1 0).1, (w'.1 0).2) := hR.kx.days
      refine r_aload_0 (q := 53) dX0_days_52 rfl ?_
      refine r_get gf_X0_16_0 xh_x rfl (q := 56) dX0_days_53 rfl ?_
      refine r_callV_0 cv_X0_184 (xe_o 0 (by decide) rfl) rfl (by decide) (Nat.le_of_ble_eq_true rfl) ⟨Nat.le_refl _, Nat.le_refl _⟩ (x_all (Y := (daysS k (w'.1 0).1, (w'.1 0).2)) 0 (by decide) hk rfl) (q := 59) dX0_days_56 rfl ?_
      refine r_iret hz dX0_days_59 (Nat.le_refl _) (Nat.le_refl _) (.of (σ' := (daysS k (w'.1 0).1, (remS σ).2)) (by rw [hs]) ?_)
      exact hR.q0 (Y := (daysS k (w'.1 0).1, (w'.1 0).2)) (hR.ok.of (daysS_fr _ _).1 (hR.ok.1.days k)) (by rw [daysS_day, hs]; exact hkd)
    · have hc : isC no := hno.resolve_left c31
      refine r_aload_0 (q := 35) dX0_days_34 rfl ?_
      refine r_iload_2 (q := 36) dX0_days_35 rfl ?_
      refine r_callV_1 cv_X0_48 xh_x rfl (by decide) (Nat.le_of_ble_eq_true rfl) ⟨Nat.le_refl _, Nat.le_refl _⟩ (k_X0_refuse hc h.ra) (q := 39) dX0_days_36 rfl ?_
      exact r_iret hz dX0_days_39 (Nat.le_refl _) (Nat.le_refl _) (.of (by unfold gdaysS; rw [← h1, if_neg c31]) (h.refuse _))
  refine r_iload_1 (q := 1) dX0_days_0 rfl ?_
  refine r_iconst 1 (by decide) (q := 2) dX0_days_1 rfl ?_
  refine r_bipush 60 (by decide) (q := 4) dX0_days_2 rfl ?_
  refine r_callS_3 cs_X0_86 (by decide) (Nat.le_of_ble_eq_true rfl) ⟨Nat.le_refl _, Nat.le_refl _⟩ (k_X0_within) (q := 7) dX0_days_4 rfl ?_
  refine r_istore_2 (by decide) rfl (q := 8) dX0_days_7 rfl ?_
  refine r_iload_2 (q := 9) dX0_days_8 rfl ?_
  refine r_if_ne (q := 12) (tgt := 30) dX0_days_9 rfl rfl (fun c9 => ?_) (fun c9 => ?_)
  · exact fin _ (wi_c _ _ _) (fun e => absurd e c9) (by unfold noDays; rw [if_neg (fun q => c9 q.1)])
  refine r_aload_0 (q := 13) dX0_days_12 rfl ?_
  refine r_get gf_X0_16_0 xh_x rfl (q := 16) dX0_days_13 rfl ?_
  refine r_getN gn_X0_178_1 (xe_o 0 (by decide) rfl) rfl (q := 19) dX0_days_16 rfl ?_
  refine r_iload_1 (q := 20) dX0_days_19 rfl ?_
  refine r_iadd (q := 21) dX0_days_20 rfl ?_
  refine r_sipush 999 (by decide) (q := 24) dX0_days_21 rfl ?_
  refine J.stk (s2 := [.int 999, .int (nI σ.1.2.2.2.2 + m)]) (by show [_, Value.int (nI (w.1 0).1.2.2.2.2 + m)] = _; rw [h.s]) ?_
  refine r_icmp_le (q := 27) (tgt := 30) dX0_days_24 rfl rfl (fun c24 => ?_) (fun c24 => ?_)
  · exact fin _ (wi_c _ _ _) (fun e => ⟨e, Int32.not_lt.mpr c24⟩) (by unfold noDays; rw [if_neg (fun q => absurd q.2 (Int32.not_lt.mpr c24))])
  · refine r_bipush (-6) (by decide) (q := 29) dX0_days_27 rfl ?_
    refine r_istore_2 (by decide) rfl (q := 30) dX0_days_29 rfl ?_
    exact fin _ (Or.inr isC_6) (fun e => absurd e (by decide)) (by unfold noDays; rw [if_pos ⟨c9, Int32.not_le.mp c24⟩])
end XO


/-! ===== PrayerMatsFace: lots ===== -/
def sdW (w : XW) (s : Int32) (X : QX) : XW := setq (setf w 16 s) 1 X
section XL2
variable {G : GD} {n x : Nat} {w w' : XW} {g : RH} {σ : SG} {X Y : QX}
theorem sdW_f (s s' : Int32) : setf (sdW w s X) 16 s' = sdW w s' X := by
  have e : (fun j : Nat => if j = 16 then s' else (if j = 16 then s else w.2.2.2 j)) = (fun j => if j = 16 then s' else w.2.2.2 j) := by
    funext k
    by_cases hk : k = 16
    · rw [if_pos hk, if_pos hk]
    · rw [if_neg hk, if_neg hk, if_neg hk]
  exact congrArg (fun q => (((sdW w s X).1, w.2.1, w.2.2.1, q) : XW)) e
theorem sdW_0 (s : Int32) : (sdW w s X).1 0 = w.1 0 := rfl
theorem sdW_1 (s : Int32) : (sdW w s X).1 1 = X := rfl
theorem sdW_s (s : Int32) : (sdW w s X).2.2.2 16 = s := rfl
theorem XR.sd (h : XR x w g σ) (s : Int32) (hX : LX X) : XR x (sdW w s X) g σ := by
  have h2 : XR x (setf w 16 s) g σ := h.scr ⟨rfl, fun _ _ => rfl, h.2.1, rfl, rfl, rfl, rfl, h.2.2.2.2.2.1, rfl, rfl, rfl, rfl⟩
  exact h2.mind hX
theorem k_X0_lots {a zz what : Int32} (h : XR x w g σ) : Ct G yX0_lots cX0_lots 11 (some .int) 9 0 0 [.ref x, .int a, .int zz, .int what] n (xh x w g) (XPo x n g (lotsS σ a zz what)) := by
  refine Ct.intro (k := 7) [some (.ref x), some (.int a), some (.int zz), some (.int what), none, none, none, none, none, none, none] (by decide) (Nat.le_of_ble_eq_true rfl) rfl fun z hz hin => ?_
  have hk := h.kx
  have h6 := h.oks.1.1
  have fin : ∀ no : Int32, no = noLot a what → J G z cX0_lots 11 RX0 9 0 0 0 0 26 [some (.ref x), some (.int a), some (.int zz), some (.int what), some (.int no), none, none, none, none, none, none] [] n (xh x w g) := by
    intro no hno
    refine r_iload_4 (q := 28) dX0_lots_26 rfl ?_
    refine r_if_eq (q := 31) (tgt := 38) dX0_lots_28 rfl rfl (fun c28 => ?_) (fun c28 => ?_)
    · have h0 : noLot a what = 0 := by rw [← hno]; exact c28
      have hv : wi a 1 20 = 0 := by
        unfold noLot at h0
        split at h0
        · exact absurd h0 (by decide)
        · exact h0
      obtain ⟨l1, l2⟩ := wi_0 hv
      obtain ⟨k9, hk9, rfl⟩ := nI_of (x := a) (Int32.not_lt.mpr (Int32.le_trans (by decide) l1))
      have u2 : k9 ≤ 20 := (nI_leI (b := 20) hk9 (by decide)).mp l2
      have e0 : lotsS σ (nI k9) zz what = (if what = 0 then (lotR σ.1 k9 zz).2.1 else (lotR σ.1 k9 zz).2.2, σ) := by
        unfold lotsS
        rw [if_pos h0, cl_nI (by omega)]
      rw [e0] at hz
      have out : ∀ (st : Int32 × Int32 × Int32) (w2 : XW) (o7 o8 o9 o10 : Option Value), (st.2.1 = (lotR σ.1 k9 zz).2.1 ∧ st.2.2 = (lotR σ.1 k9 zz).2.2) → XR x w2 g σ → J G z cX0_lots 11 RX0 9 0 0 0 0 176 [some (.ref x), some (.int (nI k9)), some (.int zz), some (.int what), some (.int no), some (.int st.2.1), some (.int st.2.2), o7, o8, o9, o10] [] n (xh x w2 g) := by
        intro st w2 o7 o8 o9 o10 hst h2
        rw [← hst.1, ← hst.2] at hz
        refine r_iload_3 (q := 177) dX0_lots_176 rfl ?_
        refine r_if_ne (q := 180) (tgt := 185) dX0_lots_177 rfl rfl (fun c177 => ?_) (fun c177 => ?_)
        · refine r_iload_6 (q := 187) dX0_lots_185 rfl ?_
          exact r_iret hz dX0_lots_187 (Nat.le_refl _) (Nat.le_refl _) (.of (by rw [if_neg c177]) h2)
        · have c : what = 0 := c177
          refine r_iload_5 (q := 182) dX0_lots_180 rfl ?_
          refine r_goto (q := 187) dX0_lots_182 rfl ?_
          exact r_iret hz dX0_lots_187 (Nat.le_refl _) (Nat.le_refl _) (.of (by rw [if_pos c]) h2)
      refine r_aload_0 (q := 39) dX0_lots_38 rfl ?_
      refine r_iload_2 (q := 40) dX0_lots_39 rfl ?_
      refine r_put gf_X0_331_0 cl_ok_0 ft_0_16 xh_x (Nat.le_of_ble_eq_true rfl) rfl rfl (q := 43) dX0_lots_40 rfl ?_
      refine J.heap (xset_f rfl) ?_
      refine r_iconst 0 (by decide) (q := 44) dX0_lots_43 rfl ?_
      refine r_istore_5 (by decide) rfl (q := 46) dX0_lots_44 rfl ?_
      refine r_iconst 0 (by decide) (q := 47) dX0_lots_46 rfl ?_
      refine r_istore_6 (by decide) rfl (q := 49) dX0_lots_47 rfl ?_
      refine r_iconst 0 (by decide) (q := 50) dX0_lots_49 rfl ?_
      refine r_istore_7 (by decide) rfl (q := 52) dX0_lots_50 rfl ?_
      refine J.heap (h2 := xh x (sdW w zz (w.1 1)) g) (by unfold sdW; rw [show w.1 1 = (setf w 16 zz).1 1 from rfl, setq_self]) ?_
      have lx1 := h.lx 1 (by decide)
      by_cases hN : σ.1.1.length = 0
      · have el : lotR σ.1 k9 zz = (zz, 0, 0) := if_pos hN
        refine r_iload_7 (q := 54) dX0_lots_52 rfl ?_
        refine r_iload_1 (q := 55) dX0_lots_54 rfl ?_
        refine r_icmp_ge (q := 58) (tgt := 176) dX0_lots_55 rfl rfl (fun c55 => ?_) (fun c55 => ?_)
        · exact out (zz, 0, 0) _ _ _ _ _ (by rw [el]; exact ⟨rfl, rfl⟩) (h.sd zz lx1)
        · refine r_aload_0 (q := 59) dX0_lots_58 rfl ?_
          refine r_get gf_X0_16_0 xh_x rfl (q := 62) dX0_lots_59 rfl ?_
          refine r_callV_0 cv_X0_74 (xe_o 0 (by decide) rfl) rfl (by decide) (Nat.le_of_ble_eq_true rfl) ⟨Nat.le_refl _, Nat.le_refl _⟩ (x_many 0 (by decide) hk rfl) (q := 65) dX0_lots_62 rfl ?_
          rw [h.s, hN]
          refine r_if_le (q := 68) (tgt := 176) dX0_lots_65 rfl rfl (fun c65 => ?_) (fun c65 => ?_)
          · exact out (zz, 0, 0) _ _ _ _ _ (by rw [el]; exact ⟨rfl, rfl⟩) (h.sd zz lx1)
          · exact absurd (by decide : nI 0 ≤ 0) c65
      · have hN0 : 0 < σ.1.1.length := Nat.pos_of_ne_zero hN
        have el : lotR σ.1 k9 zz = forR (lotF σ.1) 0 k9 (zz, 0, 0) := if_neg hN
        rw [el] at out
        refine forJ (f := lotF σ.1) (σ := Int32 × Int32 × Int32) k9 (fun _ => True) (fun k st => ∀ (X : QX) (o8 o9 o10 : Option Value), LX X → J G z cX0_lots 11 RX0 9 0 0 0 0 52 [some (.ref x), some (.int (nI k9)), some (.int zz), some (.int what), some (.int no), some (.int st.2.1), some (.int st.2.2), some (.int (nI k)), o8, o9, o10] [] n (xh x (sdW w st.1 X) g)) (a0 := 0) (s0 := (zz, 0, 0)) (Nat.zero_le _) trivial (fun st _ hs X o8 o9 o10 hX => ?_) (fun k st _ hk' _ => ⟨trivial, fun next X o8 o9 o10 hX => ?_⟩) (w.1 1) none none none lx1
        · have hs : st = forR (lotF σ.1) 0 k9 (zz, 0, 0) := hs
          refine r_iload_7 (q := 54) dX0_lots_52 rfl ?_
          refine r_iload_1 (q := 55) dX0_lots_54 rfl ?_
          refine r_icmp_ge (q := 58) (tgt := 176) dX0_lots_55 rfl rfl (fun c55 => ?_) (fun c55 => ?_)
          · exact out st _ _ _ _ _ (by rw [← hs]; exact ⟨rfl, rfl⟩) (h.sd st.1 hX)
          · exact absurd (Int32.le_refl _) c55
        · have hkd : ∀ (s : Int32) (X : QX), KX x g ((sdW w s X).1 0) := fun _ _ => hk
          refine r_iload_7 (q := 54) dX0_lots_52 rfl ?_
          refine r_iload_1 (q := 55) dX0_lots_54 rfl ?_
          refine r_icmp_ge (q := 58) (tgt := 176) dX0_lots_55 rfl rfl (fun c55 => ?_) (fun c55 => ?_)
          · exact absurd c55 (nI_not_lt hk' (by omega))
          refine r_aload_0 (q := 59) dX0_lots_58 rfl ?_
          refine r_get gf_X0_16_0 xh_x rfl (q := 62) dX0_lots_59 rfl ?_
          refine r_callV_0 cv_X0_74 (xe_o 0 (by decide) rfl) rfl (by decide) (Nat.le_of_ble_eq_true rfl) ⟨Nat.le_refl _, Nat.le_refl _⟩ (x_many (w := sdW w st.1 X) 0 (by decide) hk rfl) (q := 65) dX0_lots_62 rfl ?_
          rw [h.s]
          refine r_if_le (q := 68) (tgt := 176) dX0_lots_65 rfl rfl (fun c65 => ?_) (fun c65 => ?_)
          · exact absurd c65 (Int32.not_le.mpr (nI_lt (a := 0) hN0 (by omega)))
          refine r_aload_0 (q := 69) dX0_lots_68 rfl ?_
          refine r_get gf_X0_20_0 xh_x rfl (q := 72) dX0_lots_69 rfl ?_
          refine r_aload_0 (q := 73) dX0_lots_72 rfl ?_
          refine r_get gf_X0_16_0 xh_x rfl (q := 76) dX0_lots_73 rfl ?_
          refine r_callVv_1 cv_X0_103 (xe_o 1 (by decide) rfl) rfl (by decide) (Nat.le_of_ble_eq_true rfl) ⟨Nat.le_refl _, Nat.le_refl _⟩ (m_takes (w := setf w 16 st.1) 1 0 (by decide) (by decide) (by decide) hX hk rfl) (q := 79) dX0_lots_76 rfl ?_
          refine J.heap (h2 := xh x (sdW w st.1 (σ.1, (tkX (w.1 0) X).2)) g) (by rw [← h.s]; rfl) ?_
          have hpo : PO x g (tkX (w.1 0) X).2.1 σ.1.1 := by rw [← h.s]; exact hk.tk.2.2.2
          generalize (tkX (w.1 0) X).2 = Z at hpo ⊢
          refine r_iconst 0 (by decide) (q := 80) dX0_lots_79 rfl ?_
          refine r_istore_8 (by decide) rfl (q := 82) dX0_lots_80 rfl ?_
          refine forJ (f := fun _ s => lotD σ.1.1.length s) (σ := Int32 × SQ) 30 (fun s => OKS s.2 ∧ s.2.1 = σ.1.1) (fun d s => ∀ (o9 o10 : Option Value), J G z cX0_lots 11 RX0 9 0 0 0 0 82 [some (.ref x), some (.int (nI k9)), some (.int zz), some (.int what), some (.int no), some (.int st.2.1), some (.int st.2.2), some (.int (nI k)), some (.int (nI d)), o9, o10] [] n (xh x (sdW w s.1 (s.2, Z)) g)) (a0 := 0) (s0 := (st.1, σ.1)) (by decide) ⟨h.oks, rfl⟩ (fun s hI hs o9 o10 => ?_) (fun d s _ hd hI => ⟨lotD_ok hN0 hI, fun nx o9 o10 => ?_⟩) o9 o10
          · have hs : s = lotY σ.1.1.length 30 (st.1, σ.1) := hs
            have ks : KX x g (s.2, Z) := OKX.kx ⟨hI.1, by rw [hI.2]; exact hpo⟩
            unfold lotF at next
            rw [← hs] at next
            refine r_iload_8 (q := 84) dX0_lots_82 rfl ?_
            refine r_bipush 30 (by decide) (q := 86) dX0_lots_84 rfl ?_
            refine r_icmp_ge (q := 89) (tgt := 146) dX0_lots_86 rfl rfl (fun c86 => ?_) (fun c86 => ?_)
            · refine r_iload_5 (q := 148) dX0_lots_146 rfl ?_
              refine r_aload_0 (q := 149) dX0_lots_148 rfl ?_
              refine r_get gf_X0_20_0 xh_x rfl (q := 152) dX0_lots_149 rfl ?_
              refine r_callV_0 cv_X0_184 (xe_o 1 (by decide) rfl) rfl (by decide) (Nat.le_of_ble_eq_true rfl) ⟨Nat.le_refl _, Nat.le_refl _⟩ (x_all (w := sdW w s.1 (s.2, Z)) 1 (by decide) ks rfl) (q := 155) dX0_lots_152 rfl ?_
              refine r_iadd (q := 156) dX0_lots_155 rfl ?_
              refine r_istore_5 (by decide) rfl (q := 158) dX0_lots_156 rfl ?_
              refine r_iload_6 (q := 160) dX0_lots_158 rfl ?_
              refine r_aload_0 (q := 161) dX0_lots_160 rfl ?_
              refine r_get gf_X0_20_0 xh_x rfl (q := 164) dX0_lots_161 rfl ?_
              refine r_callV_0 cv_X0_189 (xe_o 1 (by decide) rfl) rfl (by decide) (Nat.le_of_ble_eq_true rfl) ⟨Nat.le_refl _, Nat.le_refl _⟩ (x_mended (w := sdW w s.1 (s.2, Z)) 1 (by decide) ks rfl) (q := 167) dX0_lots_164 rfl ?_
              refine r_iadd (q := 168) dX0_lots_167 rfl ?_
              refine r_istore_6 (by decide) rfl (q := 170) dX0_lots_168 rfl ?_
              refine r_inc_7 (by decide) rfl (q := 173) dX0_lots_170 rfl ?_
              refine r_goto (q := 52) dX0_lots_173 rfl ?_
              exact next _ _ _ _ ks.lx
            · exact absurd (by decide : (30 : Int32) ≤ nI 30) c86
          · have ks : KX x g (s.2, Z) := OKX.kx ⟨hI.1, by rw [hI.2]; exact hpo⟩
            have hl : s.2.1.length = σ.1.1.length := by rw [hI.2]
            obtain ⟨u, hu, eu⟩ := drawS_ok (seedS s.1) hN0 h6
            obtain ⟨v, hv, ev⟩ := drawS_ok (seedS (seedS s.1)) hN0 h6
            unfold lotD at nx
            refine r_iload_8 (q := 84) dX0_lots_82 rfl ?_
            refine r_bipush 30 (by decide) (q := 86) dX0_lots_84 rfl ?_
            refine r_icmp_ge (q := 89) (tgt := 146) dX0_lots_86 rfl rfl (fun c86 => ?_) (fun c86 => ?_)
            · exact absurd c86 (nI_ge (b := 30) hd (by omega))
            refine r_aload_0 (q := 90) dX0_lots_89 rfl ?_
            refine r_aload_0 (q := 91) dX0_lots_90 rfl ?_
            refine r_get gf_X0_20_0 xh_x rfl (q := 94) dX0_lots_91 rfl ?_
            refine r_callV_0 cv_X0_74 (xe_o 1 (by decide) rfl) rfl (by decide) (Nat.le_of_ble_eq_true rfl) ⟨Nat.le_refl _, Nat.le_refl _⟩ (x_many (w := sdW w s.1 (s.2, Z)) 1 (by decide) ks rfl) (q := 97) dX0_lots_94 rfl ?_
            rw [hl]
            refine r_callV_1 cv_X0_337 xh_x rfl (by decide) (Nat.le_of_ble_eq_true rfl) ⟨Nat.le_refl _, Nat.le_refl _⟩ (k_X0_drawn hN0 h6) (q := 100) dX0_lots_97 rfl ?_
            rw [sdW_f, sdW_s]
            generalize hs1 : seedS s.1 = s1 at eu ev nx
            refine r_istore_9 (by decide) rfl (q := 102) dX0_lots_100 rfl ?_
            refine r_aload_0 (q := 103) dX0_lots_102 rfl ?_
            refine r_aload_0 (q := 104) dX0_lots_103 rfl ?_
            refine r_get gf_X0_20_0 xh_x rfl (q := 107) dX0_lots_104 rfl ?_
            refine r_callV_0 cv_X0_74 (xe_o 1 (by decide) rfl) rfl (by decide) (Nat.le_of_ble_eq_true rfl) ⟨Nat.le_refl _, Nat.le_refl _⟩ (x_many (w := sdW w s1 (s.2, Z)) 1 (by decide) ks rfl) (q := 110) dX0_lots_107 rfl ?_
            rw [hl]
            refine r_callV_1 cv_X0_337 xh_x rfl (by decide) (Nat.le_of_ble_eq_true rfl) ⟨Nat.le_refl _, Nat.le_refl _⟩ (k_X0_drawn hN0 h6) (q := 113) dX0_lots_110 rfl ?_
            rw [sdW_f, sdW_s]
            generalize hs2 : seedS s1 = s2 at ev nx
            generalize drawS s1 σ.1.1.length = dx at eu nx
            generalize drawS s2 σ.1.1.length = dy at ev nx
            subst eu; subst ev
            have tail : ∀ S' : SQ, KX x g (S', Z) → S' = lotJ s.2 (nI u) (nI v) → J G z cX0_lots 11 RX0 9 0 0 0 0 133 [some (.ref x), some (.int (nI k9)), some (.int zz), some (.int what), some (.int no), some (.int st.2.1), some (.int st.2.2), some (.int (nI k)), some (.int (nI d)), some (.int (nI u)), some (.int (nI v))] [] n (xh x (sdW w s2 (S', Z)) g) := by
              intro S' hS hS'
              rw [← hS'] at nx
              refine r_aload_0 (q := 134) dX0_lots_133 rfl ?_
              refine r_get gf_X0_20_0 xh_x rfl (q := 137) dX0_lots_134 rfl ?_
              refine r_callVv_0 cv_X0_196 (xe_o 1 (by decide) rfl) rfl (by decide) (Nat.le_of_ble_eq_true rfl) ⟨Nat.le_refl _, Nat.le_refl _⟩ (m_goes (w := setf w 16 s2) 1 (by decide) hS) (q := 140) dX0_lots_137 rfl ?_
              refine r_inc_8 (by decide) rfl (q := 143) dX0_lots_140 rfl ?_
              refine r_goto (q := 82) dX0_lots_143 rfl ?_
              exact nx _ _
            refine r_istore_10 (by decide) rfl (q := 115) dX0_lots_113 rfl ?_
            refine r_iload_9 (q := 117) dX0_lots_115 rfl ?_
            refine r_iload_10 (q := 119) dX0_lots_117 rfl ?_
            refine r_icmp_eq (q := 122) (tgt := 133) dX0_lots_119 rfl rfl (fun c119 => ?_) (fun c119 => ?_)
            · exact tail s.2 ks (by unfold lotJ; rw [if_pos c119])
            · have hne : ¬ nI u = nI v := c119
              refine r_aload_0 (q := 123) dX0_lots_122 rfl ?_
              refine r_get gf_X0_20_0 xh_x rfl (q := 126) dX0_lots_123 rfl ?_
              refine r_iload_9 (q := 128) dX0_lots_126 rfl ?_
              refine r_iload_10 (q := 130) dX0_lots_128 rfl ?_
              refine r_callVv_2 cv_X0_100 (xe_o 1 (by decide) rfl) rfl (by decide) (Nat.le_of_ble_eq_true rfl) ⟨Nat.le_refl _, Nat.le_refl _⟩ (m_joins (w := setf w 16 s2) 1 (by decide) ks (by omega) (by omega)) (q := 133) dX0_lots_130 rfl ?_
              exact tail _ (ks.join (by show u < s.2.1.length; omega) (by show v < s.2.1.length; omega)) (by unfold lotJ; rw [if_neg hne, cl_nI (by omega), cl_nI (by omega)])
    · have hc : isC no := by rw [hno] at c28 ⊢; exact noLot_c.resolve_left c28
      have e0 : lotsS σ a zz what = (noLot a what, rfS σ (noLot a what)) := if_neg (hno ▸ c28)
      rw [e0, ← hno] at hz
      refine r_aload_0 (q := 32) dX0_lots_31 rfl ?_
      refine r_iload_4 (q := 34) dX0_lots_32 rfl ?_
      refine r_callV_1 cv_X0_48 xh_x rfl (by decide) (Nat.le_of_ble_eq_true rfl) ⟨Nat.le_refl _, Nat.le_refl _⟩ (k_X0_refuse hc h.ra) (q := 37) dX0_lots_34 rfl ?_
      exact r_iret hz dX0_lots_37 (Nat.le_refl _) (Nat.le_refl _) (.of rfl (h.refuse _))
  refine r_iload_1 (q := 1) dX0_lots_0 rfl ?_
  refine r_iconst 1 (by decide) (q := 2) dX0_lots_1 rfl ?_
  refine r_bipush 20 (by decide) (q := 4) dX0_lots_2 rfl ?_
  refine r_callS_3 cs_X0_86 (by decide) (Nat.le_of_ble_eq_true rfl) ⟨Nat.le_refl _, Nat.le_refl _⟩ (k_X0_within) (q := 7) dX0_lots_4 rfl ?_
  refine r_istore_4 (by decide) rfl (q := 9) dX0_lots_7 rfl ?_
  refine r_iload_4 (q := 11) dX0_lots_9 rfl ?_
  refine r_if_ne (q := 14) (tgt := 26) dX0_lots_11 rfl rfl (fun c11 => ?_) (fun c11 => ?_)
  · exact fin _ (by unfold noLot; rw [if_neg (fun q => c11 q.1)])
  · have c : wi a 1 20 = 0 := c11
    refine r_iload_3 (q := 15) dX0_lots_14 rfl ?_
    refine r_iconst 2 (by decide) (q := 16) dX0_lots_15 rfl ?_
    refine r_callS_2 cs_X0_78 (by decide) (Nat.le_of_ble_eq_true rfl) ⟨Nat.le_refl _, Nat.le_refl _⟩ (k_X0_isIn) (q := 19) dX0_lots_16 rfl ?_
    refine r_if_ne (q := 22) (tgt := 26) dX0_lots_19 rfl rfl (fun c19 => ?_) (fun c19 => ?_)
    · have hp : inI what 2 = true := bI_n0.mp c19
      exact fin _ (by unfold noLot; rw [if_neg (fun q => by rw [hp] at q; cases q.2)])
    · have hp : inI what 2 = false := bI_0.mp c19
      refine r_bipush (-2) (by decide) (q := 24) dX0_lots_22 rfl ?_
      refine r_istore_4 (by decide) rfl (q := 26) dX0_lots_24 rfl ?_
      exact fin _ (by unfold noLot; rw [if_pos ⟨c, hp⟩])
end XL2


/-! ===== the best hours; personOf, count ===== -/
def hfF (S : SQ) (p m : Nat) (h : Nat) (s : Int32 × Int32) : Int32 × Int32 :=
  if zin p m 100 0 (setH S p h) = 100 ∨ s.2 < zin p m 100 0 (setH S p h) ∨ (zin p m 100 0 (setH S p h) = s.2 ∧ pop (cl s.1) ≤ pop h) then s else (nI h, zin p m 100 0 (setH S p h))
def hfS (S : SQ) (p m : Nat) : Int32 × Int32 := forR (hfF S p m) 0 32 (-9, 100)
def hoursForS (σ : SG) (p what : Int32) : Int32 × SG :=
  if noPw σ.1 p what 2 = 0 then (match mt σ.1 (cl p) with
    | none => -9
    | some m => if what = 0 then (hfS σ.1 (cl p) m).1 else toldI (hfS σ.1 (cl p) m).2, σ) else (noPw σ.1 p what 2, rfS σ (noPw σ.1 p what 2))
def HI (s : Int32 × Int32) : Prop := s = (-9, 100) ∨ ∃ b, b < 32 ∧ s.1 = nI b
section XO5
variable {G : GD} {n x : Nat} {w w' : XW} {g : RH} {σ : SG} {X Y : QX}
theorem k_X0_hoursFor {p what : Int32} (h : XR x w g σ) : Ct G yX0_hoursFor cX0_hoursFor 9 (some .int) 9 0 0 [.ref x, .int p, .int what] n (xh x w g) (XPo x n g (hoursForS σ p what)) := by
  refine Ct.intro (k := 6) [some (.ref x), some (.int p), some (.int what), none, none, none, none, none, none] (by decide) (Nat.le_of_ble_eq_true rfl) rfl fun z hz hin => ?_
  have fin : ∀ no : Int32, no = noPw σ.1 p what 2 → J G z cX0_hoursFor 9 RX0 9 0 0 0 0 26 [some (.ref x), some (.int p), some (.int what), none, none, none, none, none, none] [.int no] n (xh x w g) := by
    intro no h1
    refine r_istore_3 (by decide) rfl (q := 27) dX0_hoursFor_26 rfl ?_
    refine r_iload_3 (q := 28) dX0_hoursFor_27 rfl ?_
    refine r_if_eq (q := 31) (tgt := 37) dX0_hoursFor_28 rfl rfl (fun c28 => ?_) (fun c28 => ?_)
    · rw [c28] at h1
      have h2 := noPw_0 h1.symm
      obtain ⟨i, hi, rfl⟩ := isPer_t h.oks.1 h2.1
      have h6 := h.oks.1.1
      unfold hoursForS at hz
      rw [if_pos h1.symm, cl_nI (by omega), ← h.s] at hz
      rw [← h.s] at hi h6
      have kx := h.kx
      refine r_aload_0 (q := 38) dX0_hoursFor_37 rfl ?_
      refine r_get gf_X0_16_0 xh_x rfl (q := 41) dX0_hoursFor_38 rfl ?_
      refine r_getN gn_X0_94_1 (xe_o 0 (by decide) rfl) rfl (q := 44) dX0_hoursFor_41 rfl ?_
      refine r_iload_1 (q := 45) dX0_hoursFor_44 rfl ?_
      refine r_ialdM i 6 (xe_m 0 (by decide) rfl) kx.1.2.2.1 rfl (by omega) (by decide) (q := 46) dX0_hoursFor_45 rfl ?_
      refine J.topi (show _ = mI (mt (w.1 0).1 i) from rfl) ?_
      refine r_istore_4 (by decide) rfl (q := 48) dX0_hoursFor_46 rfl ?_
      refine r_iload_4 (q := 50) dX0_hoursFor_48 rfl ?_
      cases em : mt (w.1 0).1 i with
      | none =>
        rw [em] at hz
        refine r_if_ge (q := 53) (tgt := 56) dX0_hoursFor_50 rfl rfl (fun c50 => ?_) (fun c50 => ?_)
        · exact absurd c50 (by decide)
        refine r_bipush (-9) (by decide) (q := 55) dX0_hoursFor_53 rfl ?_
        exact r_iret hz dX0_hoursFor_55 (Nat.le_refl _) (Nat.le_refl _) (.of rfl h)
      | some m =>
        have hm6 := kx.mt6 em
        rw [em] at hz
        refine J.lo (l2 := [some (.ref x), some (.int (nI i)), some (.int what), some (.int no), some (.int (nI m)), none, none, none, none]) rfl ?_
        refine J.stk (s2 := [.int (nI m)]) rfl ?_
        refine r_if_ge (q := 53) (tgt := 56) dX0_hoursFor_50 rfl rfl (fun c50 => ?_) (fun c50 => ?_)
        · refine J.qs 1 ?_
          refine r_bipush (-9) (by decide) (q := 58) dX0_hoursFor_56 rfl ?_
          refine r_istore_5 (by decide) rfl (q := 60) dX0_hoursFor_58 rfl ?_
          refine r_bipush 100 (by decide) (q := 62) dX0_hoursFor_60 rfl ?_
          refine r_istore_6 (by decide) rfl (q := 64) dX0_hoursFor_62 rfl ?_
          refine r_iconst 0 (by decide) (q := 65) dX0_hoursFor_64 rfl ?_
          refine r_istore_7 (by decide) rfl (q := 67) dX0_hoursFor_65 rfl ?_
          refine forJ (f := hfF (w.1 0).1 i m) (σ := Int32 × Int32) 32 HI (fun a s => ∀ X o8, LX X → J G z cX0_hoursFor 9 RX0 9 0 0 0 0 67 [some (.ref x), some (.int (nI i)), some (.int what), some (.int no), some (.int (nI m)), some (.int s.1), some (.int s.2), some (.int (nI a)), o8] [] n (xh x (setq w 1 X) g)) (a0 := 0) (s0 := (-9, 100)) (by decide) (Or.inl rfl) (fun s hI hs X o8 hX => ?_) (fun a s _ ha hI => ⟨?_, fun next X o8 hX => ?_⟩) _ none (h.lx 1 (by decide))
          · refine r_iload_7 (q := 69) dX0_hoursFor_67 rfl ?_
            refine r_bipush 31 (by decide) (q := 71) dX0_hoursFor_69 rfl ?_
            refine r_icmp_gt (q := 74) (tgt := 156) dX0_hoursFor_71 rfl rfl (fun c71 => ?_) (fun c71 => ?_)
            · have hs : s = hfS (w.1 0).1 i m := hs
              refine r_iload_2 (q := 157) dX0_hoursFor_156 rfl ?_
              refine r_if_ne (q := 160) (tgt := 165) dX0_hoursFor_157 rfl rfl (fun c157 => ?_) (fun c157 => ?_)
              · refine r_iload_6 (q := 167) dX0_hoursFor_165 rfl ?_
                refine r_callS_1 cs_X0_202 (by decide) (Nat.le_of_ble_eq_true rfl) ⟨Nat.le_refl _, Nat.le_refl _⟩ (k_X0_told) (q := 170) dX0_hoursFor_167 rfl ?_
                exact r_iret hz dX0_hoursFor_170 (Nat.le_refl _) (Nat.le_refl _) (.of (by show (if what = 0 then (hfS (w.1 0).1 i m).1 else toldI (hfS (w.1 0).1 i m).2, σ) = _; rw [if_neg c157, hs]) (h.mind hX))
              · refine r_iload_5 (q := 162) dX0_hoursFor_160 rfl ?_
                refine r_goto (q := 170) dX0_hoursFor_162 rfl ?_
                exact r_iret hz dX0_hoursFor_170 (Nat.le_refl _) (Nat.le_refl _) (.of (by show (if what = 0 then (hfS (w.1 0).1 i m).1 else toldI (hfS (w.1 0).1 i m).2, σ) = _; rw [if_pos c157, hs]) (h.mind hX))
            · exact absurd (by decide) c71
          · unfold hfF
            split
            · exact hI
            · exact Or.inr ⟨a, ha, rfl⟩
          · refine r_iload_7 (q := 69) dX0_hoursFor_67 rfl ?_
            refine r_bipush 31 (by decide) (q := 71) dX0_hoursFor_69 rfl ?_
            refine r_icmp_gt (q := 74) (tgt := 156) dX0_hoursFor_71 rfl rfl (fun c71 => ?_) (fun c71 => ?_)
            · exact absurd c71 (nI_nlt (a := 31) (b := a) (by omega) (by omega))
            refine r_aload_0 (q := 75) dX0_hoursFor_74 rfl ?_
            refine r_get gf_X0_20_0 xh_x rfl (q := 78) dX0_hoursFor_75 rfl ?_
            refine r_aload_0 (q := 79) dX0_hoursFor_78 rfl ?_
            refine r_get gf_X0_16_0 xh_x rfl (q := 82) dX0_hoursFor_79 rfl ?_
            refine r_callVv_1 cv_X0_103 (xe_o 1 (by decide) rfl) rfl (by decide) (Nat.le_of_ble_eq_true rfl) ⟨Nat.le_refl _, Nat.le_refl _⟩ (m_takes 1 0 (by decide) (by decide) (by decide) hX kx rfl) (q := 85) dX0_hoursFor_82 rfl ?_
            have g1 : KX x g (tkX (w.1 0) X) := kx
            refine r_aload_0 (q := 86) dX0_hoursFor_85 rfl ?_
            refine r_get gf_X0_20_0 xh_x rfl (q := 89) dX0_hoursFor_86 rfl ?_
            refine r_getN gn_X0_134_1 (xe_o 1 (by decide) rfl) rfl (q := 92) dX0_hoursFor_89 rfl ?_
            refine r_iload_1 (q := 93) dX0_hoursFor_92 rfl ?_
            refine r_iload_7 (q := 95) dX0_hoursFor_93 rfl ?_
            refine r_iastN i 6 a (xe_h 1 (by decide) rfl) g1.1.2.1 rfl rfl (by omega) (by decide) (q := 96) dX0_hoursFor_95 rfl ?_
            refine J.heap (xs_h (X := tkX (w.1 0) X) 1 (by decide)) ?_
            have g2 := g1.setH (a := i) (v := a) (by omega)
            refine r_aload_0 (q := 97) dX0_hoursFor_96 rfl ?_
            refine r_iload_1 (q := 98) dX0_hoursFor_97 rfl ?_
            refine r_iload_4 (q := 100) dX0_hoursFor_98 rfl ?_
            refine r_callVp_2 cv_X0_199 xh_x rfl (by decide) (Nat.le_of_ble_eq_true rfl) ⟨Nat.le_refl _, Nat.le_refl _⟩ (k_X0_whenMended g2 (by omega) hm6) (q := 103) dX0_hoursFor_100 rfl ?_
            intro r n' h' hq
            obtain ⟨rfl, rfl, X', hX', rfl⟩ := hq
            have unf : hfF (w.1 0).1 i m a s = if zin i m 100 0 (setH (w.1 0).1 i a) = 100 ∨ s.2 < zin i m 100 0 (setH (w.1 0).1 i a) ∨ (zin i m 100 0 (setH (w.1 0).1 i a) = s.2 ∧ pop (cl s.1) ≤ pop a) then s else (nI a, zin i m 100 0 (setH (w.1 0).1 i a)) := rfl
            refine J.topi (show _ = zin i m 100 0 (setH (w.1 0).1 i a) from rfl) ?_
            generalize zin i m 100 0 (setH (w.1 0).1 i a) = v at unf
            have skip : hfF (w.1 0).1 i m a s = s → J G z cX0_hoursFor 9 RX0 9 0 0 0 0 150 [some (.ref x), some (.int (nI i)), some (.int what), some (.int no), some (.int (nI m)), some (.int s.1), some (.int s.2), some (.int (nI a)), some (.int v)] [] n' (xh x (setq w 1 X') g) := by
              intro e
              rw [e] at next
              refine r_inc_7 (by decide) rfl (q := 153) dX0_hoursFor_150 rfl ?_
              refine r_goto (q := 67) dX0_hoursFor_153 rfl ?_
              exact next _ _ hX'
            have take : hfF (w.1 0).1 i m a s = (nI a, v) → J G z cX0_hoursFor 9 RX0 9 0 0 0 0 142 [some (.ref x), some (.int (nI i)), some (.int what), some (.int no), some (.int (nI m)), some (.int s.1), some (.int s.2), some (.int (nI a)), some (.int v)] [] n' (xh x (setq w 1 X') g) := by
              intro e
              rw [e] at next
              refine r_iload_7 (q := 144) dX0_hoursFor_142 rfl ?_
              refine r_istore_5 (by decide) rfl (q := 146) dX0_hoursFor_144 rfl ?_
              refine r_iload_8 (q := 148) dX0_hoursFor_146 rfl ?_
              refine r_istore_6 (by decide) rfl (q := 150) dX0_hoursFor_148 rfl ?_
              refine r_inc_7 (by decide) rfl (q := 153) dX0_hoursFor_150 rfl ?_
              refine r_goto (q := 67) dX0_hoursFor_153 rfl ?_
              exact next _ _ hX'
            refine r_istore_8 (by decide) rfl (q := 105) dX0_hoursFor_103 rfl ?_
            refine r_iload_8 (q := 107) dX0_hoursFor_105 rfl ?_
            refine r_bipush 100 (by decide) (q := 109) dX0_hoursFor_107 rfl ?_
            refine r_icmp_eq (q := 112) (tgt := 150) dX0_hoursFor_109 rfl rfl (fun c109 => ?_) (fun c109 => ?_)
            · exact skip (unf.trans (if_pos (Or.inl c109)))
            refine r_iload_8 (q := 114) dX0_hoursFor_112 rfl ?_
            refine r_iload_6 (q := 116) dX0_hoursFor_114 rfl ?_
            refine r_icmp_gt (q := 119) (tgt := 150) dX0_hoursFor_116 rfl rfl (fun c116 => ?_) (fun c116 => ?_)
            · exact skip (unf.trans (if_pos (Or.inr (Or.inl c116))))
            refine r_iload_8 (q := 121) dX0_hoursFor_119 rfl ?_
            refine r_iload_6 (q := 123) dX0_hoursFor_121 rfl ?_
            refine r_icmp_ne (q := 126) (tgt := 142) dX0_hoursFor_123 rfl rfl (fun c123 => ?_) (fun c123 => ?_)
            · exact take (unf.trans (if_neg (fun q => by rcases q with q | q | q; exact c109 q; exact c116 q; exact c123 q.1)))
            · rcases hI with hI | ⟨b, hb, hsb⟩
              · rw [hI] at c123
                exact absurd c123 c109
              · refine r_iload_7 (q := 128) dX0_hoursFor_126 rfl ?_
                refine r_callS_1 cs_X0_256 (by decide) (Nat.le_of_ble_eq_true rfl) ⟨Nat.le_refl _, Nat.le_refl _⟩ (k_X0_bits (by omega)) (q := 131) dX0_hoursFor_128 rfl ?_
                refine J.lo (l2 := [some (.ref x), some (.int (nI i)), some (.int what), some (.int no), some (.int (nI m)), some (.int s.1), some (.int s.2), some (.int (nI a)), some (.int v)]) rfl ?_
                refine r_iload_5 (q := 133) dX0_hoursFor_131 rfl ?_
                refine J.topi (show s.1 = nI b from hsb) ?_
                refine r_callS_1 cs_X0_256 (by decide) (Nat.le_of_ble_eq_true rfl) ⟨Nat.le_refl _, Nat.le_refl _⟩ (k_X0_bits (k := b) (by omega)) (q := 136) dX0_hoursFor_133 rfl ?_
                have p1 := pop_le a (by omega)
                have p2 := pop_le b (by omega)
                have ecl : cl s.1 = b := by rw [hsb]; exact cl_nI (by omega)
                refine r_icmp_lt (q := 139) (tgt := 142) dX0_hoursFor_136 rfl rfl (fun c136 => ?_) (fun c136 => ?_)
                · exact take (unf.trans (if_neg (fun q => by
                    rcases q with q | q | q
                    · exact c109 q
                    · exact c116 q
                    · rw [ecl] at q
                      exact absurd c136 (nI_nlt q.2 (by omega)))))
                · have hge : pop b ≤ pop a := by
                    rcases Nat.lt_or_ge (pop a) (pop b) with q | q
                    · exact absurd (nI_lt q (by omega)) c136
                    · exact q
                  refine r_goto (q := 150) dX0_hoursFor_139 rfl ?_
                  exact skip (unf.trans (if_pos (Or.inr (Or.inr ⟨c123, by rw [ecl]; exact hge⟩))))
        · exact absurd (nI_pos' (by omega)) c50
    · have hc : isC no := by rw [h1] at c28 ⊢; exact noPw_c.resolve_left c28
      refine r_aload_0 (q := 32) dX0_hoursFor_31 rfl ?_
      refine r_iload_3 (q := 33) dX0_hoursFor_32 rfl ?_
      refine r_callV_1 cv_X0_48 xh_x rfl (by decide) (Nat.le_of_ble_eq_true rfl) ⟨Nat.le_refl _, Nat.le_refl _⟩ (k_X0_refuse hc h.ra) (q := 36) dX0_hoursFor_33 rfl ?_
      exact r_iret hz dX0_hoursFor_36 (Nat.le_refl _) (Nat.le_refl _) (.of (by unfold hoursForS; rw [← h1, if_neg c28]) (h.refuse _))
  refine r_aload_0 (q := 1) dX0_hoursFor_0 rfl ?_
  refine r_iload_1 (q := 2) dX0_hoursFor_1 rfl ?_
  refine r_callV_1 cv_X0_82 xh_x rfl (by decide) (Nat.le_of_ble_eq_true rfl) ⟨Nat.le_refl _, Nat.le_refl _⟩ (k_X0_isPerson h.kx) (q := 5) dX0_hoursFor_2 rfl ?_
  rw [h.s]
  refine r_if_ne (q := 8) (tgt := 12) dX0_hoursFor_5 rfl rfl (fun c5 => ?_) (fun c5 => ?_)
  · refine r_iload_2 (q := 13) dX0_hoursFor_12 rfl ?_
    refine r_iconst 2 (by decide) (q := 14) dX0_hoursFor_13 rfl ?_
    refine r_callS_2 cs_X0_78 (by decide) (Nat.le_of_ble_eq_true rfl) ⟨Nat.le_refl _, Nat.le_refl _⟩ (k_X0_isIn) (q := 17) dX0_hoursFor_14 rfl ?_
    refine r_if_eq (q := 20) (tgt := 24) dX0_hoursFor_17 rfl rfl (fun c17 => ?_) (fun c17 => ?_)
    · refine r_bipush (-2) (by decide) (q := 26) dX0_hoursFor_24 rfl ?_
      exact fin _ (by unfold noPw inI; rw [if_pos (bI_n0.mp c5), bI_0.mp c17]; rfl)
    · refine r_iconst 0 (by decide) (q := 21) dX0_hoursFor_20 rfl ?_
      refine r_goto (q := 26) dX0_hoursFor_21 rfl ?_
      exact fin _ (by unfold noPw inI; rw [if_pos (bI_n0.mp c5), bI_n0.mp c17]; rfl)
  · refine r_iconst (-1) (by decide) (q := 9) dX0_hoursFor_8 rfl ?_
    refine r_goto (q := 26) dX0_hoursFor_9 rfl ?_
    exact fin _ (by unfold noPw; rw [bI_0.mp c5]; rfl)
end XO5


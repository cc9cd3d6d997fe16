/-! ===== PrayerMatsFaceModel: the pairings by codes, walked ===== -/
theorem laI_ge (k u : Nat) : ∀ (f d q : Nat), q ≤ laI k u f d q
  | 0, _, _ => Nat.le_refl _
  | f + 1, d, q => by
    unfold laI
    split
    · have := laI_ge k u f (d - (if q + 1 < k ∧ hbt u (q + 1) = false then 1 else 0)) (q + 1)
      omega
    · exact Nat.le_refl _
theorem laI_le (k u : Nat) : ∀ (f d q : Nat), q ≤ k → laI k u f d q ≤ k
  | 0, _, _, h => h
  | f + 1, d, q, h => by
    unfold laI
    split
    · exact laI_le k u f _ (q + 1) (by omega)
    · exact h
theorem laI_free (k u : Nat) : ∀ (f d q Q : Nat), k ≤ q + f → laI k u f d q = Q → Q < k → (Q = q ∧ d = 0) ∨ (q < Q ∧ hbt u Q = false)
  | 0, d, q, Q, h1, h2, h3 => by
    have h2 : q = Q := h2
    omega
  | f + 1, d, q, Q, h1, h2, h3 => by
    unfold laI at h2
    by_cases hc : 0 < d ∧ q < k
    · rw [if_pos hc] at h2
      rcases laI_free k u f _ (q + 1) Q (by omega) h2 h3 with ⟨e1, e2⟩ | ⟨e1, e2⟩
      · by_cases hd : q + 1 < k ∧ hbt u (q + 1) = false
        · exact Or.inr ⟨by omega, by rw [e1]; exact hd.2⟩
        · rw [if_neg hd] at e2
          omega
      · exact Or.inr ⟨by omega, e2⟩
    · rw [if_neg hc] at h2
      subst h2
      exact Or.inl ⟨rfl, by omega⟩
theorem pw6 {e : Nat} (h : e ≤ 6) : 1 ≤ 6 ^ e ∧ 6 ^ e ≤ 46656 := ⟨Nat.pow_pos (by decide), Nat.pow_le_pow_right (n := 6) (by decide) h⟩
theorem us_add : ∀ u, u < 64 → ∀ p, p < 6 → hbt u p = false → u + 2 ^ p < 64 ∧ nI u ||| (1 : Int32) <<< (nI p &&& 31) = nI (u + 2 ^ p) ∧ ∀ j, j < 6 → hbt (u + 2 ^ p) j = (hbt u j || j == p) := by decide +kernel
def LtP (N : Nat) (o : Option (List (Option Nat))) (l : List Int32) (r : Option Value) : Prop := match o with
  | some tr => r = some (.int 1) ∧ ∀ p, p < N → l.getD p 0 = mI (tr.getD p none)
  | none => r = some (.int 0)
section MO8
variable {G : GD} {n m : Nat} {w : MW} {g : RH} {σ : SG} {T T0 : SQ} {j j0 : List PP} {h : RH}
theorem k_X2_layTrial {code : Nat} (K : OKM T j) (e : w.1 = mS T j) (hl : (ma16 w).length = 6) (hc : code < 46656) : Ct G yX2_layTrial cX2_layTrial 9 (some .boolean) 2 0 0 [.ref m, .int (nI code), .int (nI (lpW T.1.length))] n (mh m w g) (fun r n' h' => n' = n ∧ ∃ l, l.length = 6 ∧ h' = mh m (sa16 w l) g ∧ LtP T.1.length (lpO T.1.length code) l r) := by
  refine Ct.intro (k := 6) [some (.ref m), some (.int (nI code)), some (.int (nI (lpW T.1.length))), none, none, none, none, none, none] (by decide) (Nat.le_of_ble_eq_true rfl) rfl fun z hz hin => ?_
  have h6 := K.l6
  generalize hN : T.1.length = N at h6 hz
  unfold lpO at hz
  generalize hw0 : lpW N = w0 at hz ⊢
  generalize hF : laP N N 0 0 w0 code (List.replicate 6 none) = F at hz
  have loop : ∀ (c p u wt r : Nat) (tr : List (Option Nat)) (l : List Int32) (o7 o8 : Option Value), p + c = N → u < 64 → (∃ ex, ex ≤ 6 ∧ wt = 6 ^ ex) → r < 46656 → l.length = 6 → tr.length = 6 → (∀ i, i < N → hbt u i = true → l.getD i 0 = mI (tr.getD i none)) → (∀ i, i < p → hbt u i = true) → laP N c p u wt r tr = F → lc2 o7 = false → J G z cX2_layTrial 9 RX2 2 0 0 0 0 11 [some (.ref m), some (.int (nI code)), some (.int (nI w0)), some (.int (nI u)), some (.int (nI wt)), some (.int (nI r)), some (.int (nI p)), o7, o8] [] n (mh m (sa16 w l) g) := by
    intro c
    induction c with
    | zero =>
      intro p u wt r tr l o7 o8 h1 h2 hex h5 h7 h8 h9 h10 h11 l7
      have h1 : p = N := h1
      have h11 : some (r, tr) = _ := h11
      rw [← h11] at hz
      refine r_iload_6 (q := 13) dX2_layTrial_11 rfl ?_
      refine r_aload_0 (q := 14) dX2_layTrial_13 rfl ?_
      refine m_getp gf_X2_68_2 K e (q := 17) dX2_layTrial_14 rfl ?_
      rw [hN]
      refine r_icmp_ge (q := 20) (tgt := 180) dX2_layTrial_17 rfl rfl (fun c17 => ?_) (fun c17 => ?_)
      · refine r_iload_5 (q := 182) dX2_layTrial_180 rfl ?_
        refine r_if_ne (q := 185) (tgt := 189) dX2_layTrial_182 rfl rfl (fun c182 => ?_) (fun c182 => ?_)
        · have hr : r ≠ 0 := fun q => c182 (by rw [q]; rfl)
          have : laR (some (r, tr)) = none := by
            match r, hr with
            | r + 1, _ => rfl
          rw [this] at hz
          refine r_iconst 0 (by decide) (q := 190) dX2_layTrial_189 rfl ?_
          exact r_zret hz (by first | exact bI_z _ | rfl) dX2_layTrial_190 (Nat.le_refl _) (Nat.le_refl _) ⟨rfl, l, h7, rfl, rfl⟩
        · have hr : r = 0 := nI_inj (b := 0) (by omega) (by omega) c182
          subst hr
          refine r_iconst 1 (by decide) (q := 186) dX2_layTrial_185 rfl ?_
          refine r_goto (q := 190) dX2_layTrial_186 rfl ?_
          exact r_zret hz (by first | exact bI_z _ | rfl) dX2_layTrial_190 (Nat.le_refl _) (Nat.le_refl _) ⟨rfl, l, h7, rfl, rfl, fun i hi => h9 i hi (h10 i (by omega))⟩
      · exact absurd (by rw [h1]; exact Int32.le_refl _) c17
    | succ c ih =>
      intro p u wt r tr l o7 o8 h1 h2 hex h5 h7 h8 h9 h10 h11 l7
      have ⟨h3, h4⟩ : 1 ≤ wt ∧ wt ≤ 46656 := by obtain ⟨ex, x1, x2⟩ := hex; rw [x2]; exact pw6 x1
      rw [laP] at h11
      refine r_iload_6 (q := 13) dX2_layTrial_11 rfl ?_
      refine r_aload_0 (q := 14) dX2_layTrial_13 rfl ?_
      refine m_getp gf_X2_68_2 K e (q := 17) dX2_layTrial_14 rfl ?_
      rw [hN]
      refine r_icmp_ge (q := 20) (tgt := 180) dX2_layTrial_17 rfl rfl (fun c17 => ?_) (fun c17 => ?_)
      · exact absurd c17 (nI_not_lt (by omega) (by omega))
      refine r_iload_3 (q := 21) dX2_layTrial_20 rfl ?_
      refine r_iload_6 (q := 23) dX2_layTrial_21 rfl ?_
      refine r_callS_2 cs_X2_93 (by decide) (Nat.le_of_ble_eq_true rfl) ⟨Nat.le_refl _, Nat.le_refl _⟩ (k_X2_hasBit (k := u) (i := p) (by omega) (by omega)) (q := 26) dX2_layTrial_23 rfl ?_
      refine r_if_eq (q := 29) (tgt := 32) dX2_layTrial_26 rfl rfl (fun c26 => ?_) (fun c26 => ?_)
      · have hb := bI_0.mp c26
        rw [if_neg (by rw [hb]; decide)] at h11
        obtain ⟨u1, u2, u3⟩ := us_add u h2 p (by omega) hb
        generalize hQ : laI N (u + 2 ^ p) 7 (r / wt) p = Q at h11
        have hrw : r / wt ≤ r := Nat.div_le_self _ _
        have hrm : r % wt ≤ r := Nat.mod_le _ _
        have hge : p ≤ Q := by rw [← hQ]; exact laI_ge _ _ _ _ _
        have hle : Q ≤ N := by rw [← hQ]; exact laI_le _ _ _ _ _ (by omega)
        have tail : ∀ (wt' : Nat), wt' = (if 1 < wt then wt / 6 else 1) → J G z cX2_layTrial 9 RX2 2 0 0 0 0 61 [some (.ref m), some (.int (nI code)), some (.int (nI w0)), some (.int (nI u)), some (.int (nI wt)), some (.int (nI (r % wt))), some (.int (nI p)), some (.int (nI (r / wt))), o8] [.int (nI wt')] n (mh m (sa16 w l) g) := by
          intro wt' hwt'
          rw [← hwt'] at h11
          have hex' : ∃ ex, ex ≤ 6 ∧ wt' = 6 ^ ex := by
            obtain ⟨ex, x1, x2⟩ := hex
            exact ⟨ex - 1, by omega, by rw [hwt', x2]; exact la_w (ex + 1)⟩
          refine r_istore_4 (by decide) rfl (q := 63) dX2_layTrial_61 rfl ?_
          refine r_iload_3 (q := 64) dX2_layTrial_63 rfl ?_
          refine r_iconst 1 (by decide) (q := 65) dX2_layTrial_64 rfl ?_
          refine r_iload_6 (q := 67) dX2_layTrial_65 rfl ?_
          refine r_ishl (q := 68) dX2_layTrial_67 rfl ?_
          refine r_ior (q := 69) dX2_layTrial_68 rfl ?_
          refine J.topi u2 ?_
          refine r_istore_3 (by decide) rfl (q := 70) dX2_layTrial_69 rfl ?_
          refine r_aload_0 (q := 71) dX2_layTrial_70 rfl ?_
          refine r_get gf_X2_59_2 mh_o rfl (q := 74) dX2_layTrial_71 rfl ?_
          refine r_iload_6 (q := 76) dX2_layTrial_74 rfl ?_
          refine r_bipush (-9) (by decide) (q := 78) dX2_layTrial_76 rfl ?_
          refine r_iast p 6 mh_16 h7 rfl (by omega) (by decide) (q := 79) dX2_layTrial_78 rfl ?_
          rw [mset_16]
          refine J.heap (h2 := mh m (sa16 w (l.set p (-9))) g) rfl ?_
          refine r_iload_6 (q := 81) dX2_layTrial_79 rfl ?_
          refine r_istore_8 (by decide) rfl (q := 83) dX2_layTrial_81 rfl ?_
          have l7' : (l.set p (-9)).length = 6 := by rw [List.length_set]; exact h7
          have at131 : ∀ d : Nat, J G z cX2_layTrial 9 RX2 2 0 0 0 0 131 [some (.ref m), some (.int (nI code)), some (.int (nI w0)), some (.int (nI (u + 2 ^ p))), some (.int (nI wt')), some (.int (nI (r % wt))), some (.int (nI p)), some (.int (nI d)), some (.int (nI Q))] [] n (mh m (sa16 w (l.set p (-9))) g) := by
            intro d
            refine r_iload_8 (q := 133) dX2_layTrial_131 rfl ?_
            refine r_aload_0 (q := 134) dX2_layTrial_133 rfl ?_
            refine m_getp gf_X2_68_2 K e (q := 137) dX2_layTrial_134 rfl ?_
            rw [hN]
            refine r_icmp_lt (q := 140) (tgt := 142) dX2_layTrial_137 rfl rfl (fun c137 => ?_) (fun c137 => ?_)
            · have hQN : Q < N := (nI_ltI (by omega) (by omega)).mp c137
              rw [if_neg (by omega)] at h11
              have ne1 : ∀ i, i < p + 1 → hbt (u + 2 ^ p) i = true := fun i hi => by
                rw [u3 i (by omega)]
                rcases Nat.lt_succ_iff_lt_or_eq.mp hi with z | z
                · rw [h10 i z]; rfl
                · rw [z]; simp
              refine r_iload_8 (q := 144) dX2_layTrial_142 rfl ?_
              refine r_iload_6 (q := 146) dX2_layTrial_144 rfl ?_
              refine r_icmp_le (q := 149) (tgt := 174) dX2_layTrial_146 rfl rfl (fun c146 => ?_) (fun c146 => ?_)
              · have hQp : ¬ p < Q := fun z => absurd c146 (Int32.not_le.mpr (nI_lt z (by omega)))
                rw [if_neg hQp] at h11
                refine r_inc_6 (by decide) rfl (q := 177) dX2_layTrial_174 rfl ?_
                refine r_goto (q := 11) dX2_layTrial_177 rfl ?_
                refine ih (p + 1) (u + 2 ^ p) wt' (r % wt) (tr.set p none) (l.set p (-9)) _ _ (by omega) u1 hex' (by omega) l7' (by rw [List.length_set]; exact h8) (fun i hi hbi => ?_) ne1 h11 rfl
                rw [u3 i (by omega)] at hbi
                rw [getD_set, getD_set, h7, h8]
                by_cases z : i = p
                · rw [if_pos ⟨z, by omega⟩, if_pos ⟨z, by omega⟩]; rfl
                · rw [if_neg (fun q => z q.1), if_neg (fun q => z q.1)]
                  refine h9 i hi ?_
                  simpa [z] using hbi
              · have hQp : p < Q := by
                  rcases Nat.lt_or_ge p Q with z | z
                  · exact z
                  · exact absurd (nI_le z (by omega)) c146
                rw [if_pos hQp] at h11
                have hbQ : hbt (u + 2 ^ p) Q = false := by
                  rcases laI_free N (u + 2 ^ p) 7 (r / wt) p Q (by omega) hQ hQN with z | z
                  · omega
                  · exact z.2
                obtain ⟨v1, v2, v3⟩ := us_add (u + 2 ^ p) u1 Q (by omega) hbQ
                refine r_aload_0 (q := 150) dX2_layTrial_149 rfl ?_
                refine r_get gf_X2_59_2 mh_o rfl (q := 153) dX2_layTrial_150 rfl ?_
                refine r_iload_6 (q := 155) dX2_layTrial_153 rfl ?_
                refine r_iload_8 (q := 157) dX2_layTrial_155 rfl ?_
                refine r_iast p 6 mh_16 l7' rfl (by omega) (by decide) (q := 158) dX2_layTrial_157 rfl ?_
                rw [mset_16]
                refine J.heap (h2 := mh m (sa16 w ((l.set p (-9)).set p (nI Q))) g) rfl ?_
                refine r_aload_0 (q := 159) dX2_layTrial_158 rfl ?_
                refine r_get gf_X2_59_2 mh_o rfl (q := 162) dX2_layTrial_159 rfl ?_
                refine r_iload_8 (q := 164) dX2_layTrial_162 rfl ?_
                refine r_iload_6 (q := 166) dX2_layTrial_164 rfl ?_
                refine r_iast Q 6 mh_16 (by show ((l.set p (-9)).set p (nI Q)).length = 6; rw [List.length_set]; exact l7') rfl (by omega) (by decide) (q := 167) dX2_layTrial_166 rfl ?_
                rw [mset_16]
                refine J.heap (h2 := mh m (sa16 w (((l.set p (-9)).set p (nI Q)).set Q (nI p))) g) rfl ?_
                refine r_iload_3 (q := 168) dX2_layTrial_167 rfl ?_
                refine r_iconst 1 (by decide) (q := 169) dX2_layTrial_168 rfl ?_
                refine r_iload_8 (q := 171) dX2_layTrial_169 rfl ?_
                refine r_ishl (q := 172) dX2_layTrial_171 rfl ?_
                refine r_ior (q := 173) dX2_layTrial_172 rfl ?_
                refine J.topi v2 ?_
                refine r_istore_3 (by decide) rfl (q := 174) dX2_layTrial_173 rfl ?_
                refine r_inc_6 (by decide) rfl (q := 177) dX2_layTrial_174 rfl ?_
                refine r_goto (q := 11) dX2_layTrial_177 rfl ?_
                refine ih (p + 1) (u + 2 ^ p + 2 ^ Q) wt' (r % wt) ((tr.set p (some Q)).set Q (some p)) _ _ _ (by omega) v1 hex' (by omega) (by rw [List.length_set, List.length_set]; exact l7') (by rw [List.length_set, List.length_set]; exact h8) (fun i hi hbi => ?_) (fun i hi => by rw [v3 i (by omega), ne1 i hi]; rfl) h11 rfl
                rw [v3 i (by omega), u3 i (by omega)] at hbi
                simp only [getD_set, List.length_set, h7, h8]
                by_cases z : i = Q
                · have a1 : i = Q ∧ Q < 6 := ⟨z, by omega⟩
                  rw [if_pos a1, if_pos a1]; rfl
                · have a1 : ¬ (i = Q ∧ Q < 6) := fun q => z q.1
                  rw [if_neg a1, if_neg a1]
                  by_cases z2 : i = p
                  · have a2 : i = p ∧ p < 6 := ⟨z2, by omega⟩
                    rw [if_pos a2, if_pos a2]; rfl
                  · have a2 : ¬ (i = p ∧ p < 6) := fun q => z2 q.1
                    rw [if_neg a2, if_neg a2, if_neg a2]
                    refine h9 i hi ?_
                    simpa [z, z2] using hbi
            · have hQN : N ≤ Q := by
                rcases Nat.lt_or_ge Q N with z | z
                · exact absurd (nI_lt z (by omega)) c137
                · exact z
              rw [if_pos hQN] at h11
              rw [← h11] at hz
              refine r_iconst 0 (by decide) (q := 141) dX2_layTrial_140 rfl ?_
              exact r_zret hz (by first | exact bI_z _ | rfl) dX2_layTrial_141 (Nat.le_refl _) (Nat.le_refl _) ⟨rfl, _, l7', rfl, rfl⟩
          have inner : ∀ (f d q : Nat), N ≤ q + f → q ≤ N → d < 46656 → laI N (u + 2 ^ p) f d q = Q → J G z cX2_layTrial 9 RX2 2 0 0 0 0 83 [some (.ref m), some (.int (nI code)), some (.int (nI w0)), some (.int (nI (u + 2 ^ p))), some (.int (nI wt')), some (.int (nI (r % wt))), some (.int (nI p)), some (.int (nI d)), some (.int (nI q))] [] n (mh m (sa16 w (l.set p (-9))) g) := by
            intro f
            induction f with
            | zero =>
              intro d q g1 g2 g3 g4
              have g4 : q = Q := g4
              subst g4
              refine r_iload_7 (q := 85) dX2_layTrial_83 rfl ?_
              refine r_if_le (q := 88) (tgt := 131) dX2_layTrial_85 rfl rfl (fun c85 => ?_) (fun c85 => ?_)
              · exact at131 d
              · refine r_iload_8 (q := 90) dX2_layTrial_88 rfl ?_
                refine r_aload_0 (q := 91) dX2_layTrial_90 rfl ?_
                refine m_getp gf_X2_68_2 K e (q := 94) dX2_layTrial_91 rfl ?_
                rw [hN]
                refine r_icmp_ge (q := 97) (tgt := 131) dX2_layTrial_94 rfl rfl (fun c94 => ?_) (fun c94 => ?_)
                · exact at131 d
                · exact absurd (nI_le (by omega) (by omega)) c94
            | succ f ih2 =>
              intro d q g1 g2 g3 g4
              unfold laI at g4
              refine r_iload_7 (q := 85) dX2_layTrial_83 rfl ?_
              refine r_if_le (q := 88) (tgt := 131) dX2_layTrial_85 rfl rfl (fun c85 => ?_) (fun c85 => ?_)
              · have hd : d = 0 := Nat.le_zero.mp ((nI_leI (b := 0) (by omega) (by decide)).mp c85)
                rw [if_neg (fun q => by omega)] at g4
                subst g4
                exact at131 d
              · have hd : 0 < d := by
                  rcases Nat.eq_zero_or_pos d with z | z
                  · exact absurd (by rw [z]; decide) c85
                  · exact z
                refine r_iload_8 (q := 90) dX2_layTrial_88 rfl ?_
                refine r_aload_0 (q := 91) dX2_layTrial_90 rfl ?_
                refine m_getp gf_X2_68_2 K e (q := 94) dX2_layTrial_91 rfl ?_
                rw [hN]
                refine r_icmp_ge (q := 97) (tgt := 131) dX2_layTrial_94 rfl rfl (fun c94 => ?_) (fun c94 => ?_)
                · have hq : N ≤ q := (nI_leI (by omega) (by omega)).mp c94
                  rw [if_neg (fun z => by omega)] at g4
                  subst g4
                  exact at131 d
                · have hq : q < N := by
                    rcases Nat.lt_or_ge q N with z | z
                    · exact z
                    · exact absurd (nI_le z (by omega)) c94
                  rw [if_pos ⟨hd, hq⟩] at g4
                  have sub : ∀ v : Nat, v ≤ 1 → v = (if q + 1 < N ∧ hbt (u + 2 ^ p) (q + 1) = false then 1 else 0) → J G z cX2_layTrial 9 RX2 2 0 0 0 0 125 [some (.ref m), some (.int (nI code)), some (.int (nI w0)), some (.int (nI (u + 2 ^ p))), some (.int (nI wt')), some (.int (nI (r % wt))), some (.int (nI p)), some (.int (nI d)), some (.int (nI (q + 1)))] [.int (nI v), .int (nI d)] n (mh m (sa16 w (l.set p (-9))) g) := by
                    intro v hv1 hv
                    rw [← hv] at g4
                    refine r_isub (q := 126) dX2_layTrial_125 rfl ?_
                    refine J.topi (y := nI (d - v)) (nI_sub (by omega)) ?_
                    refine r_istore_7 (by decide) rfl (q := 128) dX2_layTrial_126 rfl ?_
                    refine r_goto (q := 83) dX2_layTrial_128 rfl ?_
                    exact ih2 (d - v) (q + 1) (by omega) (by omega) (by omega) g4
                  refine r_inc_8 (by decide) rfl (q := 100) dX2_layTrial_97 rfl ?_
                  refine r_iload_7 (q := 102) dX2_layTrial_100 rfl ?_
                  refine r_iload_8 (q := 104) dX2_layTrial_102 rfl ?_
                  refine r_aload_0 (q := 105) dX2_layTrial_104 rfl ?_
                  refine m_getp gf_X2_68_2 K e (q := 108) dX2_layTrial_105 rfl ?_
                  rw [hN]
                  refine r_icmp_ge (q := 111) (tgt := 124) dX2_layTrial_108 rfl rfl (fun c108 => ?_) (fun c108 => ?_)
                  · have hq2 : N ≤ q + 1 := (nI_leI (by omega) (by omega)).mp c108
                    refine r_iconst 0 (by decide) (q := 125) dX2_layTrial_124 rfl ?_
                    exact sub 0 (by omega) (by rw [if_neg (fun z => by omega)])
                  · have hq2 : q + 1 < N := by
                      rcases Nat.lt_or_ge (q + 1) N with z | z
                      · exact z
                      · exact absurd (nI_le z (by omega)) c108
                    refine r_iload_3 (q := 112) dX2_layTrial_111 rfl ?_
                    refine r_iload_8 (q := 114) dX2_layTrial_112 rfl ?_
                    refine r_callS_2 cs_X2_93 (by decide) (Nat.le_of_ble_eq_true rfl) ⟨Nat.le_refl _, Nat.le_refl _⟩ (k_X2_hasBit (k := u + 2 ^ p) (i := q + 1) (by omega) (by omega)) (q := 117) dX2_layTrial_114 rfl ?_
                    refine r_if_ne (q := 120) (tgt := 124) dX2_layTrial_117 rfl rfl (fun c117 => ?_) (fun c117 => ?_)
                    · have hb2 := bI_n0.mp c117
                      refine r_iconst 0 (by decide) (q := 125) dX2_layTrial_124 rfl ?_
                      exact sub 0 (by omega) (by rw [if_neg (fun z => by rw [hb2] at z; cases z.2)])
                    · have hb2 := bI_0.mp c117
                      refine r_iconst 1 (by decide) (q := 121) dX2_layTrial_120 rfl ?_
                      refine r_goto (q := 125) dX2_layTrial_121 rfl ?_
                      exact sub 1 (by omega) (by rw [if_pos ⟨hq2, hb2⟩])
          exact inner 7 (r / wt) p (by omega) (by omega) (by omega) hQ
        refine r_iload_5 (q := 34) dX2_layTrial_32 rfl ?_
        refine r_iload_4 (q := 36) dX2_layTrial_34 rfl ?_
        refine r_idiv (nI_ne0 h3 (by omega)) (q := 37) dX2_layTrial_36 rfl ?_
        refine J.topi (pk_div (by omega) h3 (by omega)) ?_
        refine r_istore_7 (by decide) rfl (q := 39) dX2_layTrial_37 rfl ?_
        refine r_iload_5 (q := 41) dX2_layTrial_39 rfl ?_
        refine r_iload_4 (q := 43) dX2_layTrial_41 rfl ?_
        refine r_irem (nI_ne0 h3 (by omega)) (q := 44) dX2_layTrial_43 rfl ?_
        refine J.topi (pk_rem (by omega) h3 (by omega)) ?_
        refine r_istore_5 (by decide) rfl (q := 46) dX2_layTrial_44 rfl ?_
        refine r_iload_4 (q := 48) dX2_layTrial_46 rfl ?_
        refine r_iconst 1 (by decide) (q := 49) dX2_layTrial_48 rfl ?_
        refine r_icmp_le (q := 52) (tgt := 60) dX2_layTrial_49 rfl rfl (fun c49 => ?_) (fun c49 => ?_)
        · have : wt = 1 := by
            have := (nI_leI (b := 1) (by omega) (by decide)).mp c49
            omega
          refine r_iconst 1 (by decide) (q := 61) dX2_layTrial_60 rfl ?_
          exact tail 1 (by rw [if_neg (by omega)])
        · have : 1 < wt := by
            rcases Nat.lt_or_ge 1 wt with z | z
            · exact z
            · exact absurd (nI_le z (by omega)) c49
          refine r_iload_4 (q := 54) dX2_layTrial_52 rfl ?_
          refine r_bipush 6 (by decide) (q := 56) dX2_layTrial_54 rfl ?_
          refine r_idiv (by decide) (q := 57) dX2_layTrial_56 rfl ?_
          refine J.topi (y := nI (wt / 6)) (pk_div (by omega) (by decide) (by decide)) ?_
          refine r_goto (q := 61) dX2_layTrial_57 rfl ?_
          exact tail (wt / 6) (by rw [if_pos this])
      · have hb := bI_n0.mp c26
        rw [if_pos hb] at h11
        refine r_goto (q := 174) dX2_layTrial_29 rfl ?_
        refine r_inc_6 (by decide) rfl (q := 177) dX2_layTrial_174 rfl ?_
        refine r_goto (q := 11) dX2_layTrial_177 rfl ?_
        exact ih (p + 1) u wt r tr l o7 o8 (by omega) h2 hex h5 h7 h8 h9 (fun i hi => by
          rcases Nat.lt_succ_iff_lt_or_eq.mp hi with z | z
          · exact h10 i z
          · rw [z]; exact hb) h11 l7
  have hw1 : ∃ ex, ex ≤ 6 ∧ w0 = 6 ^ ex := ⟨N - 1, by omega, by rw [← hw0]; exact la_w (N + 1)⟩
  refine r_iconst 0 (by decide) (q := 1) dX2_layTrial_0 rfl ?_
  refine r_istore_3 (by decide) rfl (q := 2) dX2_layTrial_1 rfl ?_
  refine r_iload_2 (q := 3) dX2_layTrial_2 rfl ?_
  refine r_istore_4 (by decide) rfl (q := 5) dX2_layTrial_3 rfl ?_
  refine r_iload_1 (q := 6) dX2_layTrial_5 rfl ?_
  refine r_istore_5 (by decide) rfl (q := 8) dX2_layTrial_6 rfl ?_
  refine r_iconst 0 (by decide) (q := 9) dX2_layTrial_8 rfl ?_
  refine r_istore_6 (by decide) rfl (q := 11) dX2_layTrial_9 rfl ?_
  refine J.heap (h2 := mh m (sa16 w (ma16 w)) g) rfl ?_
  refine J.lo (l2 := [some (.ref m), some (.int (nI code)), some (.int (nI w0)), some (.int (nI 0)), some (.int (nI w0)), some (.int (nI code)), some (.int (nI 0)), none, none]) rfl ?_
  exact loop N 0 0 w0 code (List.replicate 6 none) (ma16 w) none none (Nat.zero_add _) (by decide) hw1 hc hl rfl (fun i _ h => absurd h (by unfold hbt; simp)) (fun i hi => absurd hi (Nat.not_lt_zero _)) hF rfl
end MO8


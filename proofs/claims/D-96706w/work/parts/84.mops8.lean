/-! ===== PrayerMatsFaceModel: days away, lots ===== -/
def noA0 (S : SQ) (a b v n t : Int32) : Int32 := if areTw S a b = true then (if v < 0 ∨ n < 0 ∨ t < 2 then -4 else if 99 < v ∨ 8 < n ∨ 20 < t then -6 else 0) else -1
theorem noA0_wb {S : SQ} {a b v n t part : Int32} : wbI (noA0 S a b v n t) part 1 = noAwy S a b v n t part := by
  have e := wbI_eq (wr := noA0 S a b v n t) (v := part) (k := 1) (by decide)
  rw [show wbI (noA0 S a b v n t) part 1 = wbI (noA0 S a b v n t) part (nI 1) from rfl, e]
  unfold noA0 noAwy
  by_cases h1 : areTw S a b = true
  · rw [if_pos h1, if_pos h1]
    by_cases h2 : v < 0 ∨ n < 0 ∨ t < 2
    · rw [if_pos h2, if_pos h2, if_neg (fun q => absurd q.1 (by decide))]
    · rw [if_neg h2, if_neg h2]
      by_cases h3 : 99 < v ∨ 8 < n ∨ 20 < t
      · rw [if_pos h3, if_pos h3, if_neg (fun q => absurd q.1 (by decide))]
      · rw [if_neg h3, if_neg h3]
        show (if (0 : Int32) = 0 ∧ inI part 2 = false then -2 else 0) = _
        cases h4 : inI part 2
        · rw [if_pos ⟨rfl, rfl⟩]; rfl
        · rw [if_neg (fun q => absurd q.2 (by decide))]; rfl
  · rw [if_neg h1, if_neg h1, if_neg (fun q => absurd q.1 (by decide))]
theorem shl_ok : ∀ n, n < 9 → (1 : Int32) <<< (nI n &&& 31) = nI (2 ^ n) := by decide +kernel
section MO8
variable {G : GD} {n m : Nat} {w : MW} {g : RH} {σ : SG} {T T0 : SQ} {j j0 : List PP} {h : RH}
theorem k_X2_away {a b v nn t part : Int32} (h : MR w σ) : Ct G yX2_away cX2_away 16 (some .long) 5 0 0 [.ref m, .int a, .int b, .int v, .int nn, .int t, .int part] n (mh m w g) (MPl m n g (awayS σ a b v nn t part)) := by
  refine Ct.intro (k := 9) [some (.ref m), some (.int a), some (.int b), some (.int v), some (.int nn), some (.int t), some (.int part), none, none, none, none, none, none, none, none, none] (by decide) (Nat.le_of_ble_eq_true rfl) rfl fun z hz hin => ?_
  obtain ⟨j, e, K⟩ := h.1
  have h6 := K.l6
  have fin : ∀ x : Int32, x = noA0 σ.1 a b v nn t → J G z cX2_away 16 RX2 5 0 0 0 0 69 [some (.ref m), some (.int a), some (.int b), some (.int v), some (.int nn), some (.int t), some (.int part), some (.int x), none, none, none, none, none, none, none, none] [] n (mh m (sf7 w 0) g) := by
    intro x hx
    subst hx
    obtain ⟨q1, q2⟩ := no_ge (noAwy_c (S := σ.1) (a := a) (b := b) (v := v) (n := nn) (t := t) (part := part))
    refine r_iload_7 (q := 71) dX2_away_69 rfl ?_
    refine r_iload_6 (q := 73) dX2_away_71 rfl ?_
    refine r_iconst 1 (by decide) (q := 74) dX2_away_73 rfl ?_
    refine r_callS_3 cs_X2_211 (by decide) (Nat.le_of_ble_eq_true rfl) ⟨Nat.le_refl _, Nat.le_refl _⟩ (k_X2_wrongBit) (q := 77) dX2_away_74 rfl ?_
    refine J.topi noA0_wb ?_
    refine r_istore_7 (by decide) rfl (q := 79) dX2_away_77 rfl ?_
    refine r_iload_7 (q := 81) dX2_away_79 rfl ?_
    refine r_if_ge (q := 84) (tgt := 96) dX2_away_81 rfl rfl (fun c81 => ?_) (fun c81 => ?_)
    · have h0 := q1 c81
      have h0' := h0
      unfold noAwy at h0'
      split at h0'
      · rename_i t1
        split at h0'
        · exact absurd h0' (by decide)
        rename_i hb1
        split at h0'
        · exact absurd h0' (by decide)
        rename_i hb2
        obtain ⟨p, b', ha, hb, -, rfl, rfl⟩ := areTw_t K.lens t1
        obtain ⟨vv, hvv, rfl⟩ := nI_of (x := v) (fun q => hb1 (Or.inl q))
        obtain ⟨k9, hk9, rfl⟩ := nI_of (x := nn) (fun q => hb1 (Or.inr (Or.inl q)))
        have t2 : (2 : Int32) ≤ t := Int32.not_lt.mp (fun q => hb1 (Or.inr (Or.inr q)))
        obtain ⟨tt, htt, rfl⟩ := nI_of (x := t) (Int32.not_lt.mpr (Int32.le_trans (by decide) t2))
        have u1 : vv ≤ 99 := (nI_leI (b := 99) hvv (by decide)).mp (Int32.not_lt.mp (fun q => hb2 (Or.inl q)))
        have u2 : k9 ≤ 8 := (nI_leI (b := 8) hk9 (by decide)).mp (Int32.not_lt.mp (fun q => hb2 (Or.inr (Or.inl q))))
        have u3 : tt ≤ 20 := (nI_leI (b := 20) htt (by decide)).mp (Int32.not_lt.mp (fun q => hb2 (Or.inr (Or.inr q))))
        have u4 : 2 ≤ tt := (nI_leI (a := 2) (by decide) htt).mp t2
        have e0 : awayS σ (nI p) (nI b') (nI vv) (nI k9) (nI tt) part = (leastL (awyN σ.1 p b' vv k9 tt) (tt ^ k9) part, σ) := by
          unfold awayS
          rw [if_pos h0, cl_nI (by omega), cl_nI (by omega), cl_nI (by omega), cl_nI (by omega), cl_nI (by omega)]
        rw [e0] at hz
        generalize hno : noAwy σ.1 (nI p) (nI b') (nI vv) (nI k9) (nI tt) part = no9
        have b256 : 2 ^ k9 ≤ 256 := Nat.pow_le_pow_right (n := 2) (by decide) u2
        have h31 := K.hr31 p
        have ep : awy_pow (n := k9) (t := tt) u2 u3 = awy_pow u2 u3 := rfl
        have pw := awy_pow (n := k9) (t := tt) u2 u3
        have p20 : 20 ^ 8 < 2 ^ 62 := by decide
        refine r_lconst 0 (by decide) (q := 97) dX2_away_96 rfl ?_
        refine r_lstore_8 (by decide) rfl (q := 99) dX2_away_97 rfl ?_
        refine r_lconst 1 (by decide) (q := 100) dX2_away_99 rfl ?_
        refine r_lstore_10 (by decide) rfl (q := 102) dX2_away_100 rfl ?_
        refine r_iconst 0 (by decide) (q := 103) dX2_away_102 rfl ?_
        refine r_istore_12 (by decide) rfl (q := 105) dX2_away_103 rfl ?_
        refine upto (P := fun k => ∀ x : Int64, x = lN (tt ^ k) → J G z cX2_away 16 RX2 5 0 0 0 0 105 [some (.ref m), some (.int (nI p)), some (.int (nI b')), some (.int (nI vv)), some (.int (nI k9)), some (.int (nI tt)), some (.int part), some (.int no9), some (.long 0), none, some (.long x), none, some (.int (nI k)), none, none, none] [] n (mh m (sf7 w 0) g)) k9 (fun x hx => ?_) (fun k hk next x hx => ?_) 0 (Nat.zero_le _) 1 rfl
        · refine r_iload_12 (q := 107) dX2_away_105 rfl ?_
          refine r_iload_4 (q := 109) dX2_away_107 rfl ?_
          refine r_icmp_ge (q := 112) (tgt := 126) dX2_away_109 rfl rfl (fun c109 => ?_) (fun c109 => ?_)
          · refine r_aload_0 (q := 127) dX2_away_126 rfl ?_
            refine r_callVv_0 cv_X2_178 mh_o rfl (by decide) (Nat.le_of_ble_eq_true rfl) ⟨Nat.le_refl _, Nat.le_refl _⟩ (k_X2_think K e h.l11) (q := 130) dX2_away_127 rfl ?_
            refine r_iconst 0 (by decide) (q := 131) dX2_away_130 rfl ?_
            refine r_istore_12 (by decide) rfl (q := 133) dX2_away_131 rfl ?_
            subst hx
            refine J.lo (l2 := [some (.ref m), some (.int (nI p)), some (.int (nI b')), some (.int (nI vv)), some (.int (nI k9)), some (.int (nI tt)), some (.int part), some (.int no9), some (.long (lN 0)), none, some (.long (lN (tt ^ k9))), none, some (.int (nI 0)), none, none, none]) rfl ?_
            refine forJ (f := awyF σ.1 p b' vv k9 tt) (σ := Nat) (2 ^ k9) (fun _ => True) (fun gn acc => ∀ (tk : Int32) (o13 o14 o15 : Option Value), J G z cX2_away 16 RX2 5 0 0 0 0 133 [some (.ref m), some (.int (nI p)), some (.int (nI b')), some (.int (nI vv)), some (.int (nI k9)), some (.int (nI tt)), some (.int part), some (.int no9), some (.long (lN acc)), none, some (.long (lN (tt ^ k9))), none, some (.int (nI gn)), o13, o14, o15] [] n (mh m (cw11 m (sf7 w 0) tk (mS σ.1 j) (encS (mS σ.1 j)) 62) g)) (a0 := 0) (s0 := 0) (Nat.zero_le _) trivial (fun acc _ hs tk o13 o14 o15 => ?_) (fun gn acc _ hgn _ => ⟨trivial, fun next tk o13 o14 o15 => ?_⟩) 1 none none none
            · have hs : acc = awyN σ.1 p b' vv k9 tt := hs
              have hl := awyN_le (S := σ.1) (a := p) (b := b') (v := vv) u2 u3
              refine r_iload_12 (q := 135) dX2_away_133 rfl ?_
              refine r_iconst 1 (by decide) (q := 136) dX2_away_135 rfl ?_
              refine r_iload_4 (q := 138) dX2_away_136 rfl ?_
              refine r_ishl (q := 139) dX2_away_138 rfl ?_
              refine J.topi (shl_ok k9 (by omega)) ?_
              refine r_icmp_ge (q := 142) (tgt := 238) dX2_away_139 rfl rfl (fun c139 => ?_) (fun c139 => ?_)
              · refine r_lload_8 (q := 240) dX2_away_238 rfl ?_
                refine r_lload_10 (q := 242) dX2_away_240 rfl ?_
                refine r_iload_6 (q := 244) dX2_away_242 rfl ?_
                refine r_callS_3 cs_X2_288 (by decide) (Nat.le_of_ble_eq_true rfl) ⟨Nat.le_refl _, Nat.le_refl _⟩ (k_X2_partOf (a := acc) (b := tt ^ k9) (by omega) (by omega)) (q := 247) dX2_away_244 rfl ?_
                rw [hs]
                exact r_lret hz dX2_away_247 (Nat.le_refl _) (Nat.le_refl _) (.of rfl ((h.th 0).cn e tk))
              · exact absurd (Int32.le_refl _) c139
            · refine r_iload_12 (q := 135) dX2_away_133 rfl ?_
              refine r_iconst 1 (by decide) (q := 136) dX2_away_135 rfl ?_
              refine r_iload_4 (q := 138) dX2_away_136 rfl ?_
              refine r_ishl (q := 139) dX2_away_138 rfl ?_
              refine J.topi (shl_ok k9 (by omega)) ?_
              refine r_icmp_ge (q := 142) (tgt := 238) dX2_away_139 rfl rfl (fun c139 => ?_) (fun c139 => ?_)
              · exact absurd c139 (nI_ge hgn (by omega))
              refine r_lconst 1 (by decide) (q := 143) dX2_away_142 rfl ?_
              refine r_lstore_13 (by decide) rfl (q := 145) dX2_away_143 rfl ?_
              refine r_iconst 0 (by decide) (q := 146) dX2_away_145 rfl ?_
              refine r_istore_15 (by decide) rfl (q := 148) dX2_away_146 rfl ?_
              refine J.heap (h2 := mh m (sS (cw11 m (sf7 w 0) tk (mS σ.1 j) (encS (mS σ.1 j)) 62) (mS (setH σ.1 p (hr σ.1 p)) j)) g) (by rw [setH_self rfl]; rfl) ?_
              have loop : ∀ (c k o : Nat) (S : SQ), k + c = k9 → OKS S → S.1 = σ.1.1 → forR (oddF tt gn) k c o = (tt - 1) ^ (k9 - pop gn) → awyS p (hr σ.1 p) gn c k S = awyS p (hr σ.1 p) gn k9 0 σ.1 → J G z cX2_away 16 RX2 5 0 0 0 0 148 [some (.ref m), some (.int (nI p)), some (.int (nI b')), some (.int (nI vv)), some (.int (nI k9)), some (.int (nI tt)), some (.int part), some (.int no9), some (.long (lN acc)), none, some (.long (lN (tt ^ k9))), none, some (.int (nI gn)), some (.long (lN o)), none, some (.int (nI k))] [] n (mh m (sS (cw11 m (sf7 w 0) tk (mS σ.1 j) (encS (mS σ.1 j)) 62) (mS (setH S p (hr σ.1 p)) j)) g) := by
                intro c
                induction c with
                | zero =>
                  intro k o S h1 h2 h3 h4 h5
                  have h1 : k = k9 := h1
                  have h4 : o = _ := h4
                  have h5 : S = _ := h5
                  have K' : OKM (setH S p (hr σ.1 p)) j := K.of h3 (h2.stH h31)
                  subst h1
                  refine r_iload_15 (q := 150) dX2_away_148 rfl ?_
                  refine r_iload_4 (q := 152) dX2_away_150 rfl ?_
                  refine r_icmp_ge (q := 155) (tgt := 207) dX2_away_152 rfl rfl (fun c152 => ?_) (fun c152 => ?_)
                  · have add : ∀ x : Nat, x = (if qr (awyS p (hr σ.1 p) gn k 0 σ.1) p b' ≤ vv then (tt - 1) ^ (k - pop gn) else 0) → J G z cX2_away 16 RX2 5 0 0 0 0 225 [some (.ref m), some (.int (nI p)), some (.int (nI b')), some (.int (nI vv)), some (.int (nI k)), some (.int (nI tt)), some (.int part), some (.int no9), some (.long (lN acc)), none, some (.long (lN (tt ^ k))), none, some (.int (nI gn)), some (.long (lN o)), none, some (.int (nI k))] [.long (lN x), .long (lN acc)] n (mh m (sS (cw11 m (sf7 w 0) tk (mS σ.1 j) (encS (mS σ.1 j)) 62) (mS (setH S p (hr σ.1 p)) j)) g) := by
                      intro x hx
                      refine r_ladd (q := 226) dX2_away_225 rfl ?_
                      refine J.topl (lN_add _ _) ?_
                      refine r_lstore_8 (by decide) rfl (q := 228) dX2_away_226 rfl ?_
                      refine r_aload_0 (q := 229) dX2_away_228 rfl ?_
                      refine r_callVv_0 cv_X2_184 mh_o rfl (by decide) (Nat.le_of_ble_eq_true rfl) ⟨Nat.le_refl _, Nat.le_refl _⟩ (k_X2_again K rfl K' rfl) (q := 232) dX2_away_229 rfl ?_
                      rw [cw11_sS, cw11_cw11]
                      unfold awyF at next
                      rw [← hx] at next
                      refine r_inc_12 (by decide) rfl (q := 235) dX2_away_232 rfl ?_
                      refine r_goto (q := 133) dX2_away_235 rfl ?_
                      exact next _ _ _ _
                    have q99 := K'.qr99 p b'
                    have eq : qr (setH S p (hr σ.1 p)) p b' = qr (awyS p (hr σ.1 p) gn k 0 σ.1) p b' := by rw [← h5]; rfl
                    refine r_lload_8 (q := 209) dX2_away_207 rfl ?_
                    refine r_aload_0 (q := 210) dX2_away_209 rfl ?_
                    refine r_iload_1 (q := 211) dX2_away_210 rfl ?_
                    refine r_iload_2 (q := 212) dX2_away_211 rfl ?_
                    refine r_callV_2 cv_X2_79 mh_o rfl (by decide) (Nat.le_of_ble_eq_true rfl) ⟨Nat.le_refl _, Nat.le_refl _⟩ (k_X2_quarrelOf K' rfl (by omega) (by omega)) (q := 215) dX2_away_212 rfl ?_
                    refine r_iload_3 (q := 216) dX2_away_215 rfl ?_
                    refine r_icmp_gt (q := 219) (tgt := 224) dX2_away_216 rfl rfl (fun c216 => ?_) (fun c216 => ?_)
                    · have : ¬ qr (awyS p (hr σ.1 p) gn k 0 σ.1) p b' ≤ vv := fun z => by
                        rw [← eq] at z
                        exact absurd c216 (Int32.not_lt.mpr (nI_le z (by omega)))
                      refine r_lconst 0 (by decide) (q := 225) dX2_away_224 rfl ?_
                      exact add 0 (by rw [if_neg this])
                    · have : qr (awyS p (hr σ.1 p) gn k 0 σ.1) p b' ≤ vv := by
                        rw [← eq]
                        exact (nI_leI (by omega) (by omega)).mp (Int32.not_lt.mp c216)
                      refine r_lload_13 (q := 221) dX2_away_219 rfl ?_
                      refine r_goto (q := 225) dX2_away_221 rfl ?_
                      exact add o (by rw [if_pos this]; exact h4)
                  · exact absurd (Int32.le_refl _) c152
                | succ c ih =>
                  intro k o S h1 h2 h3 h4 h5
                  have K' : OKM (setH S p (hr σ.1 p)) j := K.of h3 (h2.stH h31)
                  have hpS : p < S.1.length := by rw [h3]; exact ha
                  have nx : ∀ gone : Bool, gone = hbt gn k → ∀ o' : Nat, o' = oddF tt gn k o → J G z cX2_away 16 RX2 5 0 0 0 0 201 [some (.ref m), some (.int (nI p)), some (.int (nI b')), some (.int (nI vv)), some (.int (nI k9)), some (.int (nI tt)), some (.int part), some (.int no9), some (.long (lN acc)), none, some (.long (lN (tt ^ k9))), none, some (.int (nI gn)), some (.long (lN o')), none, some (.int (nI k))] [] n (mh m (sS (cw11 m (sf7 w 0) tk (mS σ.1 j) (encS (mS σ.1 j)) 62) (mS (setH (goesS (setH S p (if gone = true then 0 else hr σ.1 p))) p (hr σ.1 p)) j)) g) := by
                    intro gone hg o' ho
                    rw [hg]
                    refine r_inc_15 (by decide) rfl (q := 204) dX2_away_201 rfl ?_
                    refine r_goto (q := 148) dX2_away_204 rfl ?_
                    refine ih (k + 1) o' _ (by omega) (h2.stH (by split <;> omega)).goes ((goesS_fr _).1.trans h3) (by rw [ho]; exact h4) h5
                  have day : ∀ o' : Nat, o' = oddF tt gn k o → J G z cX2_away 16 RX2 5 0 0 0 0 179 [some (.ref m), some (.int (nI p)), some (.int (nI b')), some (.int (nI vv)), some (.int (nI k9)), some (.int (nI tt)), some (.int part), some (.int no9), some (.long (lN acc)), none, some (.long (lN (tt ^ k9))), none, some (.int (nI gn)), some (.long (lN o')), none, some (.int (nI k))] [] n (mh m (sS (cw11 m (sf7 w 0) tk (mS σ.1 j) (encS (mS σ.1 j)) 62) (mS (setH S p (hr σ.1 p)) j)) g) := by
                    intro o' ho
                    refine r_aload_0 (q := 180) dX2_away_179 rfl ?_
                    refine r_iload_12 (q := 182) dX2_away_180 rfl ?_
                    refine r_iload_15 (q := 184) dX2_away_182 rfl ?_
                    refine r_callS_2 cs_X2_93 (by decide) (Nat.le_of_ble_eq_true rfl) ⟨Nat.le_refl _, Nat.le_refl _⟩ (k_X2_hasBit (k := gn) (i := k) (by omega) (by omega)) (q := 187) dX2_away_184 rfl ?_
                    refine r_if_eq (q := 190) (tgt := 194) dX2_away_187 rfl rfl (fun c187 => ?_) (fun c187 => ?_)
                    · have hf := bI_0.mp c187
                      refine r_bipush (-9) (by decide) (q := 196) dX2_away_194 rfl ?_
                      refine r_bipush (-9) (by decide) (q := 198) dX2_away_196 rfl ?_
                      refine r_callVv_2 cv_X2_117 mh_o rfl (by decide) (Nat.le_of_ble_eq_true rfl) ⟨Nat.le_refl _, Nat.le_refl _⟩ (k_X2_dayBy (ab := none) (tw := none) K' rfl (fun _ q => by cases q) (fun _ q => by cases q)) (q := 201) dX2_away_198 rfl ?_
                      rw [sS_sS, show dayM none none (setH S p (hr σ.1 p)) = _ from awy_day h2 hpS h31 false]
                      exact nx false hf.symm o' ho
                    · have hf := bI_n0.mp c187
                      refine r_iload_1 (q := 191) dX2_away_190 rfl ?_
                      refine r_goto (q := 196) dX2_away_191 rfl ?_
                      refine r_bipush (-9) (by decide) (q := 198) dX2_away_196 rfl ?_
                      refine r_callVv_2 cv_X2_117 mh_o rfl (by decide) (Nat.le_of_ble_eq_true rfl) ⟨Nat.le_refl _, Nat.le_refl _⟩ (k_X2_dayBy (ab := some p) (tw := none) K' rfl (fun _ q => by cases q; omega) (fun _ q => by cases q)) (q := 201) dX2_away_198 rfl ?_
                      rw [sS_sS, show dayM (some p) none (setH S p (hr σ.1 p)) = _ from awy_day h2 hpS h31 true]
                      exact nx true hf.symm o' ho
                  refine r_iload_15 (q := 150) dX2_away_148 rfl ?_
                  refine r_iload_4 (q := 152) dX2_away_150 rfl ?_
                  refine r_icmp_ge (q := 155) (tgt := 207) dX2_away_152 rfl rfl (fun c152 => ?_) (fun c152 => ?_)
                  · exact absurd c152 (nI_not_lt (by omega) (by omega))
                  refine r_lload_13 (q := 157) dX2_away_155 rfl ?_
                  refine r_iload_12 (q := 159) dX2_away_157 rfl ?_
                  refine r_iload_15 (q := 161) dX2_away_159 rfl ?_
                  refine r_callS_2 cs_X2_93 (by decide) (Nat.le_of_ble_eq_true rfl) ⟨Nat.le_refl _, Nat.le_refl _⟩ (k_X2_hasBit (k := gn) (i := k) (by omega) (by omega)) (q := 164) dX2_away_161 rfl ?_
                  refine r_if_eq (q := 167) (tgt := 171) dX2_away_164 rfl rfl (fun c164 => ?_) (fun c164 => ?_)
                  · have hf := bI_0.mp c164
                    refine r_iload_5 (q := 173) dX2_away_171 rfl ?_
                    refine r_iconst 1 (by decide) (q := 174) dX2_away_173 rfl ?_
                    refine r_isub (q := 175) dX2_away_174 rfl ?_
                    refine J.topi (y := nI (tt - 1)) (by
                      obtain ⟨q, rfl⟩ : ∃ q, tt = q + 1 := ⟨tt - 1, by omega⟩
                      exact nI_pred q) ?_
                    refine r_i2l (q := 176) dX2_away_175 rfl ?_
                    refine J.topl (nI_l (by omega)) ?_
                    refine r_lmul (q := 177) dX2_away_176 rfl ?_
                    refine J.topl (lN_mul _ _) ?_
                    refine r_lstore_13 (by decide) rfl (q := 179) dX2_away_177 rfl ?_
                    exact day _ (by unfold oddF; rw [hf]; rfl)
                  · have hf := bI_n0.mp c164
                    refine r_lconst 1 (by decide) (q := 168) dX2_away_167 rfl ?_
                    refine r_goto (q := 176) dX2_away_168 rfl ?_
                    refine J.topl (y := lN 1) rfl ?_
                    refine r_lmul (q := 177) dX2_away_176 rfl ?_
                    refine J.topl (lN_mul _ _) ?_
                    refine r_lstore_13 (by decide) rfl (q := 179) dX2_away_177 rfl ?_
                    exact day _ (by unfold oddF; rw [hf]; rfl)
              exact loop k9 0 1 σ.1 (Nat.zero_add _) K.1 rfl (by rw [odd_pow, zc_pop k9 (by omega) gn (by omega) hgn]) rfl
          · exact absurd (Int32.le_refl _) c109
        · refine r_iload_12 (q := 107) dX2_away_105 rfl ?_
          refine r_iload_4 (q := 109) dX2_away_107 rfl ?_
          refine r_icmp_ge (q := 112) (tgt := 126) dX2_away_109 rfl rfl (fun c109 => ?_) (fun c109 => ?_)
          · exact absurd c109 (nI_not_lt hk (by omega))
          refine r_lload_10 (q := 114) dX2_away_112 rfl ?_
          refine r_iload_5 (q := 116) dX2_away_114 rfl ?_
          refine r_i2l (q := 117) dX2_away_116 rfl ?_
          refine J.topl (nI_l (by omega)) ?_
          refine r_lmul (q := 118) dX2_away_117 rfl ?_
          refine r_lstore_10 (by decide) rfl (q := 120) dX2_away_118 rfl ?_
          refine r_inc_12 (by decide) rfl (q := 123) dX2_away_120 rfl ?_
          refine r_goto (q := 105) dX2_away_123 rfl ?_
          exact next _ (by rw [hx, lN_mul, Nat.pow_succ])
      · exact absurd h0' (by decide)
    · have hc := q2 c81
      have e0 : awayS σ a b v nn t part = (4000000000000000000 - (noAwy σ.1 a b v nn t part).toInt64, rfS σ (noAwy σ.1 a b v nn t part)) := if_neg (isC_ne hc)
      rw [e0] at hz
      refine r_ldc2 q1417 (q := 87) dX2_away_84 rfl ?_
      refine r_aload_0 (q := 88) dX2_away_87 rfl ?_
      refine r_iload_7 (q := 90) dX2_away_88 rfl ?_
      refine r_callV_1 cv_X2_128 mh_o rfl (by decide) (Nat.le_of_ble_eq_true rfl) ⟨Nat.le_refl _, Nat.le_refl _⟩ (k_X2_refuse hc (h.th 0).l6) (q := 93) dX2_away_90 rfl ?_
      refine r_i2l (q := 94) dX2_away_93 rfl ?_
      refine r_lsub (q := 95) dX2_away_94 rfl ?_
      exact r_lret hz dX2_away_95 (Nat.le_refl _) (Nat.le_refl _) (.of rfl ((h.th 0).refuse _))
  refine r_aload_0 (q := 1) dX2_away_0 rfl ?_
  refine r_iconst 0 (by decide) (q := 2) dX2_away_1 rfl ?_
  refine r_put gf_X2_65_2 cl_ok_2 ft_2_7 mh_o (Nat.le_of_ble_eq_true rfl) rfl rfl (q := 5) dX2_away_2 rfl ?_
  refine J.heap mset_f7 ?_
  refine r_iconst 0 (by decide) (q := 6) dX2_away_5 rfl ?_
  refine r_istore_7 (by decide) rfl (q := 8) dX2_away_6 rfl ?_
  refine r_aload_0 (q := 9) dX2_away_8 rfl ?_
  refine r_iload_1 (q := 10) dX2_away_9 rfl ?_
  refine r_iload_2 (q := 11) dX2_away_10 rfl ?_
  refine r_callV_2 cv_X2_164 mh_o rfl (by decide) (Nat.le_of_ble_eq_true rfl) ⟨Nat.le_refl _, Nat.le_refl _⟩ (k_X2_areTwo K e) (q := 14) dX2_away_11 rfl ?_
  refine r_if_ne (q := 17) (tgt := 23) dX2_away_14 rfl rfl (fun c14 => ?_) (fun c14 => ?_)
  · have t1 := bI_n0.mp c14
    have no4 : (v < 0 ∨ nn < 0 ∨ t < 2) → J G z cX2_away 16 RX2 5 0 0 0 0 38 [some (.ref m), some (.int a), some (.int b), some (.int v), some (.int nn), some (.int t), some (.int part), some (.int 0), none, none, none, none, none, none, none, none] [] n (mh m (sf7 w 0) g) := by
      intro q
      refine r_bipush (-4) (by decide) (q := 40) dX2_away_38 rfl ?_
      refine r_istore_7 (by decide) rfl (q := 42) dX2_away_40 rfl ?_
      refine r_goto (q := 69) dX2_away_42 rfl ?_
      exact fin _ (by unfold noA0; rw [if_pos t1, if_pos q])
    refine r_iload_3 (q := 24) dX2_away_23 rfl ?_
    refine r_if_lt (q := 27) (tgt := 38) dX2_away_24 rfl rfl (fun c24 => ?_) (fun c24 => ?_)
    · exact no4 (Or.inl c24)
    refine r_iload_4 (q := 29) dX2_away_27 rfl ?_
    refine r_if_lt (q := 32) (tgt := 38) dX2_away_29 rfl rfl (fun c29 => ?_) (fun c29 => ?_)
    · exact no4 (Or.inr (Or.inl c29))
    refine r_iload_5 (q := 34) dX2_away_32 rfl ?_
    refine r_iconst 2 (by decide) (q := 35) dX2_away_34 rfl ?_
    refine r_icmp_ge (q := 38) (tgt := 45) dX2_away_35 rfl rfl (fun c35 => ?_) (fun c35 => ?_)
    · have hb : ¬(v < 0 ∨ nn < 0 ∨ t < 2) := fun q => by rcases q with q | q | q; exact c24 q; exact c29 q; exact absurd q (Int32.not_lt.mpr c35)
      have no6 : (99 < v ∨ 8 < nn ∨ 20 < t) → J G z cX2_away 16 RX2 5 0 0 0 0 65 [some (.ref m), some (.int a), some (.int b), some (.int v), some (.int nn), some (.int t), some (.int part), some (.int 0), none, none, none, none, none, none, none, none] [] n (mh m (sf7 w 0) g) := by
        intro q
        refine r_bipush (-6) (by decide) (q := 67) dX2_away_65 rfl ?_
        refine r_istore_7 (by decide) rfl (q := 69) dX2_away_67 rfl ?_
        exact fin _ (by unfold noA0; rw [if_pos t1, if_neg hb, if_pos q])
      refine r_iload_3 (q := 46) dX2_away_45 rfl ?_
      refine r_bipush 99 (by decide) (q := 48) dX2_away_46 rfl ?_
      refine r_icmp_gt (q := 51) (tgt := 65) dX2_away_48 rfl rfl (fun c48 => ?_) (fun c48 => ?_)
      · exact no6 (Or.inl c48)
      refine r_iload_4 (q := 53) dX2_away_51 rfl ?_
      refine r_bipush 8 (by decide) (q := 55) dX2_away_53 rfl ?_
      refine r_icmp_gt (q := 58) (tgt := 65) dX2_away_55 rfl rfl (fun c55 => ?_) (fun c55 => ?_)
      · exact no6 (Or.inr (Or.inl c55))
      refine r_iload_5 (q := 60) dX2_away_58 rfl ?_
      refine r_bipush 20 (by decide) (q := 62) dX2_away_60 rfl ?_
      refine r_icmp_le (q := 65) (tgt := 69) dX2_away_62 rfl rfl (fun c62 => ?_) (fun c62 => ?_)
      · exact fin _ (by unfold noA0; rw [if_pos t1, if_neg hb, if_neg (fun q => by rcases q with q | q | q; exact c48 q; exact c55 q; exact absurd q (Int32.not_lt.mpr c62))])
      · exact no6 (Or.inr (Or.inr (Int32.not_le.mp c62)))
    · exact no4 (Or.inr (Or.inr (Int32.not_le.mp c35)))
  · refine r_iconst (-1) (by decide) (q := 18) dX2_away_17 rfl ?_
    refine r_istore_7 (by decide) rfl (q := 20) dX2_away_18 rfl ?_
    refine r_goto (q := 69) dX2_away_20 rfl ?_
    exact fin _ (by unfold noA0; rw [if_neg (by rw [bI_0.mp c14]; decide)])
/-- the model in thought, with a seed -/
def LWd (m : Nat) (w : MW) (tk : Int32) (T : SQ) (j : List PP) (S : SQ) (s : Int32) : MW := sS (sf32 (cw11 m w tk (mS T j) (encS (mS T j)) 62) s) (mS S j)
theorem LWd_s (tk : Int32) (S : SQ) (s s' : Int32) : sf32 (LWd m w tk T j S s) s' = LWd m w tk T j S s' := rfl
theorem LWd_m (tk : Int32) (S S' : SQ) (s : Int32) : sS (LWd m w tk T j S s) (mS S' j) = LWd m w tk T j S' s := rfl
theorem LWd_f (tk : Int32) (S : SQ) (s : Int32) : mf32 (LWd m w tk T j S s) = s := rfl
theorem LWd_c (tk : Int32) (S : SQ) (s : Int32) : cw11 m (LWd m w tk T j S s) 0 (mS T j) (encS (mS T j)) 62 = LWd m w 0 T j T s := rfl
theorem LWd_1 (tk : Int32) (S : SQ) (s : Int32) : (LWd m w tk T j S s).1 = mS S j := rfl
theorem LWd_k (tk : Int32) (S : SQ) (s : Int32) : ma11 (LWd m w tk T j S s) = encS (mS T j) := rfl
theorem MR.lwd {w : MW} (h : MR w σ) (e : w.1 = mS σ.1 j) (tk s : Int32) : MR (LWd m w tk σ.1 j σ.1 s) σ := h.scr e.symm rfl ⟨h.ln.1, h.ln.2.1, h.ln.2.2.1, encS_len _, h.ln.2.2.2.2.1, h.ln.2.2.2.2.2⟩
theorem k_X2_lots {a zz what : Int32} (h : MR w σ) : Ct G yX2_lots cX2_lots 10 (some .int) 5 0 0 [.ref m, .int a, .int zz, .int what] n (mh m w g) (MPo m n g (lotsS σ a zz what)) := by
  refine Ct.intro (k := 6) [some (.ref m), some (.int a), some (.int zz), some (.int what), none, none, none, none, none, none] (by decide) (Nat.le_of_ble_eq_true rfl) rfl fun z hz hin => ?_
  obtain ⟨j, e, K⟩ := h.1
  have h6 := K.l6
  obtain ⟨q1, q2⟩ := no_ge (noLot_c (v := a) (what := what))
  refine r_aload_0 (q := 1) dX2_lots_0 rfl ?_
  refine r_iconst 0 (by decide) (q := 2) dX2_lots_1 rfl ?_
  refine r_put gf_X2_65_2 cl_ok_2 ft_2_7 mh_o (Nat.le_of_ble_eq_true rfl) rfl rfl (q := 5) dX2_lots_2 rfl ?_
  refine J.heap mset_f7 ?_
  refine r_iload_1 (q := 6) dX2_lots_5 rfl ?_
  refine r_iconst 1 (by decide) (q := 7) dX2_lots_6 rfl ?_
  refine r_bipush 20 (by decide) (q := 9) dX2_lots_7 rfl ?_
  refine r_callS_3 cs_X2_217 (by decide) (Nat.le_of_ble_eq_true rfl) ⟨Nat.le_refl _, Nat.le_refl _⟩ (k_X2_wrongNumber) (q := 12) dX2_lots_9 rfl ?_
  refine r_iload_3 (q := 13) dX2_lots_12 rfl ?_
  refine r_iconst 1 (by decide) (q := 14) dX2_lots_13 rfl ?_
  refine r_callS_3 cs_X2_211 (by decide) (Nat.le_of_ble_eq_true rfl) ⟨Nat.le_refl _, Nat.le_refl _⟩ (k_X2_wrongBit) (q := 17) dX2_lots_14 rfl ?_
  refine J.topi (x := wbI (wi a 1 20) what 1) (y := noLot a what) (wbI_eq (k := 1) (by decide)) ?_
  refine r_istore_4 (by decide) rfl (q := 19) dX2_lots_17 rfl ?_
  refine r_iload_4 (q := 21) dX2_lots_19 rfl ?_
  refine r_if_ge (q := 24) (tgt := 31) dX2_lots_21 rfl rfl (fun c21 => ?_) (fun c21 => ?_)
  · have h0 := q1 c21
    have hv : wi a 1 20 = 0 := by
      unfold noLot at h0
      split at h0
      · exact absurd h0 (by decide)
      · exact h0
    obtain ⟨l1, l2⟩ := wi_0 hv
    obtain ⟨k9, hk9, rfl⟩ := nI_of (x := a) (Int32.not_lt.mpr (Int32.le_trans (by decide) l1))
    have u2 : k9 ≤ 20 := (nI_leI (b := 20) hk9 (by decide)).mp l2
    have u1 : 1 ≤ k9 := (nI_leI (a := 1) (by decide) hk9).mp l1
    have e0 : lotsS σ (nI k9) zz what = (if what = 0 then (lotR σ.1 k9 zz).2.1 else (lotR σ.1 k9 zz).2.2, σ) := by
      unfold lotsS
      rw [if_pos h0, cl_nI (by omega)]
    rw [e0] at hz
    generalize noLot (nI k9) what = no9
    refine r_aload_0 (q := 32) dX2_lots_31 rfl ?_
    refine r_iload_2 (q := 33) dX2_lots_32 rfl ?_
    refine r_put gf_X2_301_2 cl_ok_2 ft_2_32 mh_o (Nat.le_of_ble_eq_true rfl) rfl rfl (q := 36) dX2_lots_33 rfl ?_
    refine J.heap mset_f32 ?_
    refine r_iconst 0 (by decide) (q := 37) dX2_lots_36 rfl ?_
    refine r_istore_5 (by decide) rfl (q := 39) dX2_lots_37 rfl ?_
    refine r_aload_0 (q := 40) dX2_lots_39 rfl ?_
    refine r_callVv_0 cv_X2_178 mh_o rfl (by decide) (Nat.le_of_ble_eq_true rfl) ⟨Nat.le_refl _, Nat.le_refl _⟩ (k_X2_think (w := sf32 (sf7 w 0) zz) K e h.l11) (q := 43) dX2_lots_40 rfl ?_
    refine J.heap (h2 := mh m (LWd m (sf7 w 0) 1 σ.1 j σ.1 zz) g) rfl ?_
    refine r_iconst 0 (by decide) (q := 44) dX2_lots_43 rfl ?_
    refine r_istore_6 (by decide) rfl (q := 46) dX2_lots_44 rfl ?_
    have out : ∀ (tk s sm : Int32) (o6 o7 o8 o9 : Option Value), sm = (if what = 0 then (lotR σ.1 k9 zz).2.1 else (lotR σ.1 k9 zz).2.2) → J G z cX2_lots 10 RX2 5 0 0 0 0 160 [some (.ref m), some (.int (nI k9)), some (.int zz), some (.int what), some (.int no9), some (.int sm), o6, o7, o8, o9] [] n (mh m (LWd m (sf7 w 0) tk σ.1 j σ.1 s) g) := by
      intro tk s sm o6 o7 o8 o9 hsm
      rw [← hsm] at hz
      refine r_iload_5 (q := 162) dX2_lots_160 rfl ?_
      exact r_iret hz dX2_lots_162 (Nat.le_refl _) (Nat.le_refl _) (.of rfl ((h.th 0).lwd e tk s))
    by_cases hN : σ.1.1.length = 0
    · have el : lotR σ.1 k9 zz = (zz, 0, 0) := if_pos hN
      refine r_iload_6 (q := 48) dX2_lots_46 rfl ?_
      refine r_iload_1 (q := 49) dX2_lots_48 rfl ?_
      refine r_icmp_ge (q := 52) (tgt := 160) dX2_lots_49 rfl rfl (fun c49 => ?_) (fun c49 => ?_)
      · exact absurd c49 (nI_ge (a := 0) (by omega) (by omega))
      refine r_aload_0 (q := 53) dX2_lots_52 rfl ?_
      refine m_getp gf_X2_68_2 K (LWd_1 1 σ.1 zz) (q := 56) dX2_lots_53 rfl ?_
      rw [hN]
      refine r_if_le (q := 59) (tgt := 160) dX2_lots_56 rfl rfl (fun c56 => ?_) (fun c56 => ?_)
      · exact out 1 zz 0 _ _ _ _ (by rw [el]; exact (ite_self _).symm)
      · exact absurd (by decide : nI 0 ≤ 0) c56
    · have hN0 : 0 < σ.1.1.length := Nat.pos_of_ne_zero hN
      have el : lotR σ.1 k9 zz = forR (lotF σ.1) 0 k9 (zz, 0, 0) := if_neg hN
      rw [el] at out
      refine J.lo (l2 := [some (.ref m), some (.int (nI k9)), some (.int zz), some (.int what), some (.int no9), some (.int (if what = 0 then (0 : Int32) else 0)), some (.int (nI 0)), none, none, none]) (by rw [ite_self]; rfl) ?_
      refine forJ (f := lotF σ.1) (σ := Int32 × Int32 × Int32) k9 (fun _ => True) (fun k st => ∀ (tk : Int32) (o7 o8 o9 : Option Value), lc2 o7 = false → lc2 o8 = false → J G z cX2_lots 10 RX2 5 0 0 0 0 46 [some (.ref m), some (.int (nI k9)), some (.int zz), some (.int what), some (.int no9), some (.int (if what = 0 then st.2.1 else st.2.2)), some (.int (nI k)), o7, o8, o9] [] n (mh m (LWd m (sf7 w 0) tk σ.1 j σ.1 st.1) g)) (a0 := 0) (s0 := (zz, 0, 0)) (Nat.zero_le _) trivial (fun st _ hs tk o7 o8 o9 _ _ => ?_) (fun k st _ hk _ => ⟨trivial, fun next tk o7 o8 o9 l7 l8 => ?_⟩) 1 none none none rfl rfl
      · have hs : st = forR (lotF σ.1) 0 k9 (zz, 0, 0) := hs
        refine r_iload_6 (q := 48) dX2_lots_46 rfl ?_
        refine r_iload_1 (q := 49) dX2_lots_48 rfl ?_
        refine r_icmp_ge (q := 52) (tgt := 160) dX2_lots_49 rfl rfl (fun c49 => ?_) (fun c49 => ?_)
        · exact out tk st.1 _ _ _ _ _ (by rw [← hs])
        · exact absurd (Int32.le_refl _) c49
      · refine r_iload_6 (q := 48) dX2_lots_46 rfl ?_
        refine r_iload_1 (q := 49) dX2_lots_48 rfl ?_
        refine r_icmp_ge (q := 52) (tgt := 160) dX2_lots_49 rfl rfl (fun c49 => ?_) (fun c49 => ?_)
        · exact absurd c49 (nI_not_lt hk (by omega))
        refine r_aload_0 (q := 53) dX2_lots_52 rfl ?_
        refine m_getp gf_X2_68_2 K (LWd_1 tk σ.1 st.1) (q := 56) dX2_lots_53 rfl ?_
        refine r_if_le (q := 59) (tgt := 160) dX2_lots_56 rfl rfl (fun c56 => ?_) (fun c56 => ?_)
        · exact absurd c56 (Int32.not_le.mpr (nI_lt (a := 0) hN0 (by omega)))
        refine r_iconst 0 (by decide) (q := 60) dX2_lots_59 rfl ?_
        refine r_istore_7 (by decide) rfl (q := 62) dX2_lots_60 rfl ?_
        refine forJ (f := fun _ s => lotD σ.1.1.length s) (σ := Int32 × SQ) 30 (fun s => OKS s.2 ∧ s.2.1 = σ.1.1) (fun d s => ∀ (o8 o9 : Option Value), lc2 o8 = false → J G z cX2_lots 10 RX2 5 0 0 0 0 62 [some (.ref m), some (.int (nI k9)), some (.int zz), some (.int what), some (.int no9), some (.int (if what = 0 then st.2.1 else st.2.2)), some (.int (nI k)), some (.int (nI d)), o8, o9] [] n (mh m (LWd m (sf7 w 0) tk σ.1 j s.2 s.1) g)) (a0 := 0) (s0 := (st.1, σ.1)) (by decide) ⟨K.1, rfl⟩ (fun s hI hs o8 o9 _ => ?_) (fun d s _ hd hI => ⟨lotD_ok hN0 hI, fun nx o8 o9 l8 => ?_⟩) o8 o9 l8
        · have hs : s = lotY σ.1.1.length 30 (st.1, σ.1) := hs
          have Ks : OKM s.2 j := K.of hI.2 hI.1
          have nx9 : J G z cX2_lots 10 RX2 5 0 0 0 0 46 [some (.ref m), some (.int (nI k9)), some (.int zz), some (.int what), some (.int no9), some (.int (if what = 0 then st.2.1 + allS s.2 else st.2.2 + zerosS s.2)), some (.int (nI (k + 1))), some (.int (nI 30)), o8, o9] [] n (mh m (LWd m (sf7 w 0) 0 σ.1 j σ.1 s.1) g) := by
            unfold lotF at next
            rw [← hs] at next
            exact next 0 _ _ _ rfl (by assumption)
          refine r_iload_7 (q := 64) dX2_lots_62 rfl ?_
          refine r_bipush 30 (by decide) (q := 66) dX2_lots_64 rfl ?_
          refine r_icmp_ge (q := 69) (tgt := 130) dX2_lots_66 rfl rfl (fun c66 => ?_) (fun c66 => ?_)
          · refine r_iload_5 (q := 132) dX2_lots_130 rfl ?_
            refine r_iload_3 (q := 133) dX2_lots_132 rfl ?_
            have last : ∀ v : Int32, (if what = 0 then st.2.1 else st.2.2) + v = (if what = 0 then st.2.1 + allS s.2 else st.2.2 + zerosS s.2) → J G z cX2_lots 10 RX2 5 0 0 0 0 147 [some (.ref m), some (.int (nI k9)), some (.int zz), some (.int what), some (.int no9), some (.int (if what = 0 then st.2.1 else st.2.2)), some (.int (nI k)), some (.int (nI 30)), o8, o9] [.int v, .int (if what = 0 then st.2.1 else st.2.2)] n (mh m (LWd m (sf7 w 0) tk σ.1 j s.2 s.1) g) := by
              intro v hv
              refine r_iadd (q := 148) dX2_lots_147 rfl ?_
              rw [hv]
              refine r_istore_5 (by decide) rfl (q := 150) dX2_lots_148 rfl ?_
              refine r_aload_0 (q := 151) dX2_lots_150 rfl ?_
              refine r_callVv_0 cv_X2_184 mh_o rfl (by decide) (Nat.le_of_ble_eq_true rfl) ⟨Nat.le_refl _, Nat.le_refl _⟩ (k_X2_again K (LWd_1 tk s.2 s.1) Ks (LWd_k tk s.2 s.1)) (q := 154) dX2_lots_151 rfl ?_
              rw [LWd_c]
              refine r_inc_6 (by decide) rfl (q := 157) dX2_lots_154 rfl ?_
              refine r_goto (q := 46) dX2_lots_157 rfl ?_
              exact nx9
            refine r_if_ne (q := 136) (tgt := 143) dX2_lots_133 rfl rfl (fun c133 => ?_) (fun c133 => ?_)
            · refine r_aload_0 (q := 144) dX2_lots_143 rfl ?_
              refine r_callV_0 cv_X2_229 mh_o rfl (by decide) (Nat.le_of_ble_eq_true rfl) ⟨Nat.le_refl _, Nat.le_refl _⟩ (k_X2_zerosOf Ks (LWd_1 tk s.2 s.1)) (q := 147) dX2_lots_144 rfl ?_
              exact last _ (by rw [if_neg c133, if_neg c133])
            · refine r_aload_0 (q := 137) dX2_lots_136 rfl ?_
              refine r_callV_0 cv_X2_226 mh_o rfl (by decide) (Nat.le_of_ble_eq_true rfl) ⟨Nat.le_refl _, Nat.le_refl _⟩ (k_X2_allOf Ks (LWd_1 tk s.2 s.1)) (q := 140) dX2_lots_137 rfl ?_
              refine r_goto (q := 147) dX2_lots_140 rfl ?_
              exact last _ (by rw [if_pos c133, if_pos c133])
          · exact absurd (by decide : (30 : Int32) ≤ nI 30) c66
        · have Ks : OKM s.2 j := K.of hI.2 hI.1
          have hl : s.2.1.length = σ.1.1.length := by rw [hI.2]
          obtain ⟨x, hx, ex⟩ := drawS_ok (seedS s.1) hN0 h6
          obtain ⟨y, hy, ey⟩ := drawS_ok (seedS (seedS s.1)) hN0 h6
          unfold lotD at nx
          refine r_iload_7 (q := 64) dX2_lots_62 rfl ?_
          refine r_bipush 30 (by decide) (q := 66) dX2_lots_64 rfl ?_
          refine r_icmp_ge (q := 69) (tgt := 130) dX2_lots_66 rfl rfl (fun c66 => ?_) (fun c66 => ?_)
          · exact absurd c66 (nI_ge (b := 30) hd (by omega))
          refine r_aload_0 (q := 70) dX2_lots_69 rfl ?_
          refine r_aload_0 (q := 71) dX2_lots_70 rfl ?_
          refine m_getp gf_X2_68_2 Ks (LWd_1 tk s.2 s.1) (q := 74) dX2_lots_71 rfl ?_
          rw [hl]
          refine r_callV_1 cv_X2_307 mh_o rfl (by decide) (Nat.le_of_ble_eq_true rfl) ⟨Nat.le_refl _, Nat.le_refl _⟩ (k_X2_drawBelow hN0 h6) (q := 77) dX2_lots_74 rfl ?_
          rw [LWd_f, LWd_s]
          generalize hs1 : seedS s.1 = s1 at ex ey nx
          refine r_istore_8 (by decide) rfl (q := 79) dX2_lots_77 rfl ?_
          refine r_aload_0 (q := 80) dX2_lots_79 rfl ?_
          refine r_aload_0 (q := 81) dX2_lots_80 rfl ?_
          refine m_getp gf_X2_68_2 Ks (LWd_1 tk s.2 s1) (q := 84) dX2_lots_81 rfl ?_
          rw [hl]
          refine r_callV_1 cv_X2_307 mh_o rfl (by decide) (Nat.le_of_ble_eq_true rfl) ⟨Nat.le_refl _, Nat.le_refl _⟩ (k_X2_drawBelow hN0 h6) (q := 87) dX2_lots_84 rfl ?_
          rw [LWd_f, LWd_s]
          generalize hs2 : seedS s1 = s2 at ey nx
          generalize drawS s1 σ.1.1.length = dx at ex nx
          generalize drawS s2 σ.1.1.length = dy at ey nx
          subst ex; subst ey
          have em := mI_eq (o := mt s.2 x) (a := y) (by omega) (fun c hc => Nat.lt_trans (Ks.mt6 hc) (by decide))
          have tail : ∀ S' : SQ, OKM S' j → S' = lotJ s.2 (nI x) (nI y) → J G z cX2_lots 10 RX2 5 0 0 0 0 116 [some (.ref m), some (.int (nI k9)), some (.int zz), some (.int what), some (.int no9), some (.int (if what = 0 then st.2.1 else st.2.2)), some (.int (nI k)), some (.int (nI d)), some (.int (nI x)), some (.int (nI y))] [] n (mh m (LWd m (sf7 w 0) tk σ.1 j S' s2) g) := by
            intro S' hS hS'
            rw [← hS'] at nx
            refine r_aload_0 (q := 117) dX2_lots_116 rfl ?_
            refine r_bipush (-9) (by decide) (q := 119) dX2_lots_117 rfl ?_
            refine r_bipush (-9) (by decide) (q := 121) dX2_lots_119 rfl ?_
            refine r_callVv_2 cv_X2_117 mh_o rfl (by decide) (Nat.le_of_ble_eq_true rfl) ⟨Nat.le_refl _, Nat.le_refl _⟩ (k_X2_day hS (LWd_1 tk S' s2)) (q := 124) dX2_lots_121 rfl ?_
            rw [LWd_m]
            refine r_inc_7 (by decide) rfl (q := 127) dX2_lots_124 rfl ?_
            refine r_goto (q := 62) dX2_lots_127 rfl ?_
            exact nx _ _ rfl
          refine r_istore_9 (by decide) rfl (q := 89) dX2_lots_87 rfl ?_
          refine r_iload_8 (q := 91) dX2_lots_89 rfl ?_
          refine r_iload_9 (q := 93) dX2_lots_91 rfl ?_
          refine r_icmp_eq (q := 96) (tgt := 116) dX2_lots_93 rfl rfl (fun c93 => ?_) (fun c93 => ?_)
          · exact tail s.2 Ks (by unfold lotJ; rw [if_pos c93])
          have hne : x ≠ y := fun q => c93 (by rw [q])
          have ej : lotJ s.2 (nI x) (nI y) = joinS s.2 x y := by
            unfold lotJ
            rw [if_neg c93, cl_nI (by omega), cl_nI (by omega)]
          refine r_aload_0 (q := 97) dX2_lots_96 rfl ?_
          refine r_get gf_X2_19_2 mh_o rfl (q := 100) dX2_lots_97 rfl ?_
          refine r_iload_8 (q := 102) dX2_lots_100 rfl ?_
          refine m_ald4 Ks (LWd_1 tk s.2 s2) (by omega) (q := 103) dX2_lots_102 rfl ?_
          refine r_iload_9 (q := 105) dX2_lots_103 rfl ?_
          refine r_icmp_eq (q := 108) (tgt := 116) dX2_lots_105 rfl rfl (fun c105 => ?_) (fun c105 => ?_)
          · exact tail s.2 Ks (by rw [ej, joinS_self Ks.lens Ks.mats (by omega) (em.mp c105)])
          · refine r_aload_0 (q := 109) dX2_lots_108 rfl ?_
            refine r_iload_8 (q := 111) dX2_lots_109 rfl ?_
            refine r_iload_9 (q := 113) dX2_lots_111 rfl ?_
            refine r_callVv_2 cv_X2_125 mh_o rfl (by decide) (Nat.le_of_ble_eq_true rfl) ⟨Nat.le_refl _, Nat.le_refl _⟩ (k_X2_join Ks (LWd_1 tk s.2 s2) (by omega) (by omega)) (q := 116) dX2_lots_113 rfl ?_
            rw [LWd_m]
            exact tail _ (Ks.join (by omega) (by omega) hne) ej.symm
  · have hc := q2 c21
    have e0 : lotsS σ a zz what = (noLot a what, rfS σ (noLot a what)) := if_neg (isC_ne hc)
    rw [e0] at hz
    refine r_aload_0 (q := 25) dX2_lots_24 rfl ?_
    refine r_iload_4 (q := 27) dX2_lots_25 rfl ?_
    refine r_callV_1 cv_X2_128 mh_o rfl (by decide) (Nat.le_of_ble_eq_true rfl) ⟨Nat.le_refl _, Nat.le_refl _⟩ (k_X2_refuse hc (h.th 0).l6) (q := 30) dX2_lots_27 rfl ?_
    exact r_iret hz dX2_lots_30 (Nat.le_refl _) (Nat.le_refl _) (.of rfl ((h.th 0).refuse _))
end MO8


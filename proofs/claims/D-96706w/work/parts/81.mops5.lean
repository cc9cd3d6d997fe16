/-! ===== PrayerMatsFaceModel: who it was, ways, hours, charm, chains, lonely ones, peace ===== -/
theorem in_le' {v : Int32} {k : Nat} {hi ub : Int32} (hk : k < 2 ^ 30) (h1 : hi = nI k) (h2 : ub = nI (k + 1)) : decide ((0 : Int32) ≤ v ∧ v ≤ hi) = inI v ub := by
  subst h1; subst h2
  have := inI_le (v := v) (k := k) hk
  cases hh : inI v (nI (k + 1))
  · exact decide_eq_false (fun q => by rw [this.mp q] at hh; cases hh)
  · exact decide_eq_true (this.mpr hh)
section MO5
variable {G : GD} {n m : Nat} {w : MW} {g : RH} {σ : SG} {T T0 : SQ} {j j0 : List PP}
theorem whoN_lt {what : Int32} {k : Nat} (h : k < whoN what) : (what = 0 → k < 6) ∧ (what = 1 → k < 10) ∧ k ≤ 31 := by
  unfold whoN at h
  split at h
  · rename_i h0
    exact ⟨fun _ => h, fun q => by rw [q] at h0; exact absurd h0 (by decide), by omega⟩
  · rename_i h0
    split at h
    · exact ⟨fun q => absurd q h0, fun _ => h, by omega⟩
    · rename_i h1
      exact ⟨fun q => absurd q h0, fun q => absurd q h1, by omega⟩
theorem k_X2_who {a b what : Int32} (h : MR w σ) : Ct G yX2_who cX2_who 10 (some .int) 6 0 0 [.ref m, .int a, .int b, .int what] n (mh m w g) (MPo m n g (whoS σ a b what)) := by
  refine Ct.intro (k := 6) [some (.ref m), some (.int a), some (.int b), some (.int what), none, none, none, none, none, none] (by decide) (Nat.le_of_ble_eq_true rfl) rfl fun z hz hin => ?_
  obtain ⟨j, e, K⟩ := h.1
  have h6 := K.l6
  have hrw := h.row17
  have fin : ∀ v : Int32, v = (if areTw σ.1 a b = true then 0 else -1) → J G z cX2_who 10 RX2 6 0 0 0 0 19 [some (.ref m), some (.int a), some (.int b), some (.int what), none, none, none, none, none, none] [.int v] n (mh m (sf7 w 0) g) := by
    intro v hv
    obtain ⟨q1, q2⟩ := no_ge (noTw_c (S := σ.1) (a := a) (b := b) (what := what) (k := 4))
    refine r_iload_3 (q := 20) dX2_who_19 rfl ?_
    refine r_iconst 3 (by decide) (q := 21) dX2_who_20 rfl ?_
    refine r_callS_3 cs_X2_211 (by decide) (Nat.le_of_ble_eq_true rfl) ⟨Nat.le_refl _, Nat.le_refl _⟩ (k_X2_wrongBit) (q := 24) dX2_who_21 rfl ?_
    refine J.topi (x := wbI v what 3) (y := noTw σ.1 a b what 4) (by rw [hv]; exact wbI_tw (k := 3) (by decide)) ?_
    refine r_istore_4 (by decide) rfl (q := 26) dX2_who_24 rfl ?_
    refine r_iload_4 (q := 28) dX2_who_26 rfl ?_
    refine r_if_ge (q := 31) (tgt := 38) dX2_who_28 rfl rfl (fun c28 => ?_) (fun c28 => ?_)
    · have h0 := q1 c28
      obtain ⟨t1, t2⟩ := noTw_0 h0
      have hw0 : 0 ≤ what := (of_decide_eq_true t2).1
      obtain ⟨p, b', ha, hb, -, rfl, rfl⟩ := areTw_t K.lens t1
      have e0 : whoS σ (nI p) (nI b') what = (if what < 2 then (whoR (whoQ σ p b' what) what).1 else if what = 2 then (whoR (whoQ σ p b' what) what).2.1 else (whoR (whoQ σ p b' what) what).2.2, σ) := by
        unfold whoS
        rw [if_pos h0, cl_nI (by omega), cl_nI (by omega)]
      rw [e0, whoR_up] at hz
      refine r_iconst 0 (by decide) (q := 39) dX2_who_38 rfl ?_
      refine r_istore_5 (by decide) rfl (q := 41) dX2_who_39 rfl ?_
      refine r_iconst 0 (by decide) (q := 42) dX2_who_41 rfl ?_
      refine r_istore_6 (by decide) rfl (q := 44) dX2_who_42 rfl ?_
      refine r_bipush (-9) (by decide) (q := 46) dX2_who_44 rfl ?_
      refine r_istore_7 (by decide) rfl (q := 48) dX2_who_46 rfl ?_
      refine r_aload_0 (q := 49) dX2_who_48 rfl ?_
      refine r_callVv_0 cv_X2_178 mh_o rfl (by decide) (Nat.le_of_ble_eq_true rfl) ⟨Nat.le_refl _, Nat.le_refl _⟩ (k_X2_think K e h.l11) (q := 52) dX2_who_49 rfl ?_
      refine r_iconst 0 (by decide) (q := 53) dX2_who_52 rfl ?_
      refine r_istore_8 (by decide) rfl (q := 55) dX2_who_53 rfl ?_
      have h32 : whoN what ≤ 32 := by unfold whoN; (repeat' split) <;> decide
      refine forJ (f := whoG (whoQ σ p b' what) what) (σ := Int32 × Int32 × Int32) (whoN what) (fun _ => True) (fun k s => ∀ (tk : Int32) (o9 : Option Value), J G z cX2_who 10 RX2 6 0 0 0 0 55 [some (.ref m), some (.int (nI p)), some (.int (nI b')), some (.int what), some (.int (noTw σ.1 (nI p) (nI b') what 4)), some (.int s.1), some (.int s.2.1), some (.int s.2.2), some (.int (nI k)), o9] [] n (mh m (cw11 m (sf7 w 0) tk (mS σ.1 j) (encS (mS σ.1 j)) 62) g)) (a0 := 0) (s0 := (0, 0, -9)) (Nat.zero_le _) trivial (fun s _ hs tk o9 => ?_) (fun k s _ hk _ => ⟨trivial, fun next tk o9 => ?_⟩) 1 none
      · have hs : s = forR (whoG (whoQ σ p b' what) what) 0 (whoN what) (0, 0, -9) := hs
        rw [← hs] at hz
        have out : J G z cX2_who 10 RX2 6 0 0 0 0 78 [some (.ref m), some (.int (nI p)), some (.int (nI b')), some (.int what), some (.int (noTw σ.1 (nI p) (nI b') what 4)), some (.int s.1), some (.int s.2.1), some (.int s.2.2), some (.int (nI (whoN what))), o9] [.int (nI (whoN what)), .int (nI (whoN what))] n (mh m (cw11 m (sf7 w 0) tk (mS σ.1 j) (encS (mS σ.1 j)) 62) g) := by
          refine r_icmp_ge (q := 81) (tgt := 217) dX2_who_78 rfl rfl (fun c78 => ?_) (fun c78 => ?_)
          · refine r_iload_3 (q := 218) dX2_who_217 rfl ?_
            refine r_iconst 2 (by decide) (q := 219) dX2_who_218 rfl ?_
            refine r_icmp_ge (q := 222) (tgt := 227) dX2_who_219 rfl rfl (fun c219 => ?_) (fun c219 => ?_)
            · rw [if_neg (Int32.not_lt.mpr c219)] at hz
              refine r_iload_3 (q := 228) dX2_who_227 rfl ?_
              refine r_iconst 2 (by decide) (q := 229) dX2_who_228 rfl ?_
              refine r_icmp_ne (q := 232) (tgt := 237) dX2_who_229 rfl rfl (fun c229 => ?_) (fun c229 => ?_)
              · rw [if_neg c229] at hz
                refine r_iload_7 (q := 239) dX2_who_237 rfl ?_
                exact r_iret hz dX2_who_239 (Nat.le_refl _) (Nat.le_refl _) (.of rfl ((h.th 0).cn e tk))
              · rw [if_pos c229] at hz
                refine r_iload_6 (q := 234) dX2_who_232 rfl ?_
                refine r_goto (q := 239) dX2_who_234 rfl ?_
                exact r_iret hz dX2_who_239 (Nat.le_refl _) (Nat.le_refl _) (.of rfl ((h.th 0).cn e tk))
            · rw [if_pos (Int32.not_le.mp c219)] at hz
              refine r_iload_5 (q := 224) dX2_who_222 rfl ?_
              refine r_goto (q := 239) dX2_who_224 rfl ?_
              exact r_iret hz dX2_who_239 (Nat.le_refl _) (Nat.le_refl _) (.of rfl ((h.th 0).cn e tk))
          · exact absurd (Int32.le_refl _) c78
        refine r_iload_8 (q := 57) dX2_who_55 rfl ?_
        refine r_iload_3 (q := 58) dX2_who_57 rfl ?_
        refine r_if_ne (q := 61) (tgt := 66) dX2_who_58 rfl rfl (fun c58 => ?_) (fun c58 => ?_)
        · refine r_iload_3 (q := 67) dX2_who_66 rfl ?_
          refine r_iconst 1 (by decide) (q := 68) dX2_who_67 rfl ?_
          refine r_icmp_ne (q := 71) (tgt := 76) dX2_who_68 rfl rfl (fun c68 => ?_) (fun c68 => ?_)
          · refine r_bipush 32 (by decide) (q := 78) dX2_who_76 rfl ?_
            rw [show whoN what = 32 from (if_neg c58).trans (if_neg c68)] at out ⊢
            exact out
          · refine r_bipush 10 (by decide) (q := 73) dX2_who_71 rfl ?_
            refine r_goto (q := 78) dX2_who_73 rfl ?_
            rw [show whoN what = 10 from (if_neg c58).trans (if_pos c68)] at out ⊢
            exact out
        · refine r_bipush 6 (by decide) (q := 63) dX2_who_61 rfl ?_
          refine r_goto (q := 78) dX2_who_63 rfl ?_
          rw [show whoN what = 6 from if_pos c58] at out ⊢
          exact out
      · obtain ⟨w1, w2, w3⟩ := whoN_lt hk
        have vp := vs_pr K.vals ha
        have h31 := K.hr31 p
        have body : J G z cX2_who 10 RX2 6 0 0 0 0 81 [some (.ref m), some (.int (nI p)), some (.int (nI b')), some (.int what), some (.int (noTw σ.1 (nI p) (nI b') what 4)), some (.int s.1), some (.int s.2.1), some (.int s.2.2), some (.int (nI k)), o9] [] n (mh m (cw11 m (sf7 w 0) tk (mS σ.1 j) (encS (mS σ.1 j)) 62) g) := by
          have lt6 : (if what = 0 then k else (pr σ.1 p).1) < 6 := by
            by_cases q : what = 0
            · rw [if_pos q]; exact w1 q
            · rw [if_neg q]; exact vp.1
          have lt10 : (if what = 1 then k else (pr σ.1 p).2) < 10 := by
            by_cases q : what = 1
            · rw [if_pos q]; exact w2 q
            · rw [if_neg q]; exact vp.2
          have se := sup_eq (T := σ.1) (k := k) ha hw0
          have K1 : OKM (setPr σ.1 p (if what = 0 then k else (pr σ.1 p).1, (pr σ.1 p).2)) j := ⟨setPr_oks K.1 ⟨lt6, vp.2⟩, by show (σ.1.1.set _ _ ++ j).length = 6; rw [List.length_append, List.length_set, ← List.length_append]; exact K.2⟩
          have l1 : p < (setPr σ.1 p (if what = 0 then k else (pr σ.1 p).1, (pr σ.1 p).2)).1.length := by show p < (σ.1.1.set _ _).length; rw [List.length_set]; exact ha
          have p1 : pr (setPr σ.1 p (if what = 0 then k else (pr σ.1 p).1, (pr σ.1 p).2)) p = (if what = 0 then k else (pr σ.1 p).1, (pr σ.1 p).2) := pr_setPr ha
          have K2 : OKM (setPr (setPr σ.1 p (if what = 0 then k else (pr σ.1 p).1, (pr σ.1 p).2)) p (if what = 0 then k else (pr σ.1 p).1, if what = 1 then k else (pr σ.1 p).2)) j := ⟨setPr_oks K1.1 ⟨lt6, lt10⟩, by show ((σ.1.1.set _ _).set _ _ ++ j).length = 6; rw [List.length_append, List.length_set, List.length_set, ← List.length_append]; exact K.2⟩
          have K3 : OKM (supS σ.1 p what k) j := by
            rw [← se]
            exact ⟨K2.1.stH (by split <;> omega), K2.2⟩
          generalize hk1 : (if what = 0 then k else (pr σ.1 p).1) = k1 at K1 l1 p1 K2 se
          have st1 : J G z cX2_who 10 RX2 6 0 0 0 0 101 [some (.ref m), some (.int (nI p)), some (.int (nI b')), some (.int what), some (.int (noTw σ.1 (nI p) (nI b') what 4)), some (.int s.1), some (.int s.2.1), some (.int s.2.2), some (.int (nI k)), o9] [.int (nI k1), .int (nI p), .ref (m + 1)] n (mh m (cw11 m (sf7 w 0) tk (mS σ.1 j) (encS (mS σ.1 j)) 62) g) := by
            generalize hk2 : (if what = 1 then k else (pr σ.1 p).2) = k2 at K2 se
            refine r_iast p 6 mh_1 (by rw [List.length_map]; exact K.2) rfl (by omega) (by decide) (q := 102) dX2_who_101 rfl ?_
            refine J.heap mset_1 ?_
            refine J.heap (h2 := mh m (sS (cw11 m (sf7 w 0) tk (mS σ.1 j) (encS (mS σ.1 j)) 62) (mS (setPr σ.1 p (k1, (pr σ.1 p).2)) j)) g) (by rw [← setK1_mS K ha]; rfl) ?_
            have st2 : J G z cX2_who 10 RX2 6 0 0 0 0 123 [some (.ref m), some (.int (nI p)), some (.int (nI b')), some (.int what), some (.int (noTw σ.1 (nI p) (nI b') what 4)), some (.int s.1), some (.int s.2.1), some (.int s.2.2), some (.int (nI k)), o9] [.int (nI k2), .int (nI p), .ref (m + 2)] n (mh m (sS (cw11 m (sf7 w 0) tk (mS σ.1 j) (encS (mS σ.1 j)) 62) (mS (setPr σ.1 p (k1, (pr σ.1 p).2)) j)) g) := by
              refine r_iast p 6 mh_2 (by rw [List.length_map]; exact K1.2) rfl (by omega) (by decide) (q := 124) dX2_who_123 rfl ?_
              refine J.heap mset_2 ?_
              refine J.heap (h2 := mh m (sS (cw11 m (sf7 w 0) tk (mS σ.1 j) (encS (mS σ.1 j)) 62) (mS (setPr (setPr σ.1 p (k1, (pr σ.1 p).2)) p (k1, k2)) j)) g) (by
                have e2 := setK2_mS (k := k2) K1 l1
                rw [p1] at e2
                rw [← e2]; rfl) ?_
              have st3 : ∀ k3 : Nat, k3 = (if 1 < what then k else hr σ.1 p) → J G z cX2_who 10 RX2 6 0 0 0 0 145 [some (.ref m), some (.int (nI p)), some (.int (nI b')), some (.int what), some (.int (noTw σ.1 (nI p) (nI b') what 4)), some (.int s.1), some (.int s.2.1), some (.int s.2.2), some (.int (nI k)), o9] [.int (nI k3), .int (nI p), .ref (m + 3)] n (mh m (sS (cw11 m (sf7 w 0) tk (mS σ.1 j) (encS (mS σ.1 j)) 62) (mS (setPr (setPr σ.1 p (k1, (pr σ.1 p).2)) p (k1, k2)) j)) g) := by
                intro k3 hk3
                rw [← hk3] at se
                refine m_ast3 K2 rfl (by omega) (q := 146) dX2_who_145 rfl ?_
                rw [se, sS_sS]
                refine r_aload_0 (q := 147) dX2_who_146 rfl ?_
                refine r_iload_1 (q := 148) dX2_who_147 rfl ?_
                refine r_iload_2 (q := 149) dX2_who_148 rfl ?_
                refine r_callV_2 cv_X2_276 mh_o rfl (by decide) (Nat.le_of_ble_eq_true rfl) ⟨Nat.le_refl _, Nat.le_refl _⟩ (k_X2_isRow (r := σ.2.1.2.2.2) K3 rfl K rfl (by omega) (by omega) hrw.2.2.1 hrw.2.2.2 (by show (ma17 w).length = 12; rw [hrw.1]; exact hrw.2.1)) (q := 152) dX2_who_149 rfl ?_
                rw [cw11_sS, cw11_cw11]
                refine J.topi (y := bI (whoQ σ p b' what k)) (by unfold whoQ; rw [← hrw.1]; rfl) ?_
                generalize hq : whoQ σ p b' what k = q
                have gq : ∀ x y : Int32, x = (if q = true ∧ what < 2 then b1 k else 0) → True := fun _ _ _ => trivial
                clear gq
                unfold whoG at next
                rw [hq] at next
                refine r_istore_9 (by decide) rfl (q := 154) dX2_who_152 rfl ?_
                refine r_iload_5 (q := 156) dX2_who_154 rfl ?_
                refine r_iload_9 (q := 158) dX2_who_156 rfl ?_
                have p3 : ∀ x : Int32, x = (if q = true ∧ s.2.2 < 0 then nI k else s.2.2) → ∀ y1 y2 : Int32, y1 = (s.1 ||| (if q = true ∧ what < 2 then b1 k else 0)) → y2 = s.2.1 + (if q = true then 1 else 0) → J G z cX2_who 10 RX2 6 0 0 0 0 209 [some (.ref m), some (.int (nI p)), some (.int (nI b')), some (.int what), some (.int (noTw σ.1 (nI p) (nI b') what 4)), some (.int y1), some (.int y2), some (.int s.2.2), some (.int (nI k)), some (.int (bI q))] [.int x] n (mh m (cw11 m (sf7 w 0) 0 (mS σ.1 j) (encS (mS σ.1 j)) 62) g) := by
                  intro x hx y1 y2 h1 h2
                  subst hx; subst h1; subst h2
                  refine r_istore_7 (by decide) rfl (q := 211) dX2_who_209 rfl ?_
                  refine r_inc_8 (by decide) rfl (q := 214) dX2_who_211 rfl ?_
                  refine r_goto (q := 55) dX2_who_214 rfl ?_
                  exact next _ _
                have p2 : ∀ y1 : Int32, y1 = (s.1 ||| (if q = true ∧ what < 2 then b1 k else 0)) → J G z cX2_who 10 RX2 6 0 0 0 0 177 [some (.ref m), some (.int (nI p)), some (.int (nI b')), some (.int what), some (.int (noTw σ.1 (nI p) (nI b') what 4)), some (.int y1), some (.int s.2.1), some (.int s.2.2), some (.int (nI k)), some (.int (bI q))] [] n (mh m (cw11 m (sf7 w 0) 0 (mS σ.1 j) (encS (mS σ.1 j)) 62) g) := by
                  intro y1 h1
                  have p4 : ∀ y2 : Int32, y2 = s.2.1 + (if q = true then 1 else 0) → J G z cX2_who 10 RX2 6 0 0 0 0 192 [some (.ref m), some (.int (nI p)), some (.int (nI b')), some (.int what), some (.int (noTw σ.1 (nI p) (nI b') what 4)), some (.int y1), some (.int y2), some (.int s.2.2), some (.int (nI k)), some (.int (bI q))] [] n (mh m (cw11 m (sf7 w 0) 0 (mS σ.1 j) (encS (mS σ.1 j)) 62) g) := by
                    intro y2 h2
                    refine r_iload_9 (q := 194) dX2_who_192 rfl ?_
                    refine r_if_eq (q := 197) (tgt := 207) dX2_who_194 rfl rfl (fun c194 => ?_) (fun c194 => ?_)
                    · have hf := bI_0.mp c194
                      refine r_iload_7 (q := 209) dX2_who_207 rfl ?_
                      exact p3 _ (by rw [hf, if_neg (fun z => absurd z.1 (by decide))]) _ _ h1 h2
                    · have ht := bI_n0.mp c194
                      refine r_iload_7 (q := 199) dX2_who_197 rfl ?_
                      refine r_if_ge (q := 202) (tgt := 207) dX2_who_199 rfl rfl (fun c199 => ?_) (fun c199 => ?_)
                      · refine r_iload_7 (q := 209) dX2_who_207 rfl ?_
                        exact p3 _ (by rw [if_neg (fun z => absurd z.2 (Int32.not_lt.mpr c199))]) _ _ h1 h2
                      · refine r_iload_8 (q := 204) dX2_who_202 rfl ?_
                        refine r_goto (q := 209) dX2_who_204 rfl ?_
                        exact p3 _ (by rw [if_pos ⟨ht, Int32.not_le.mp c199⟩]) _ _ h1 h2
                  refine r_iload_6 (q := 179) dX2_who_177 rfl ?_
                  refine r_iload_9 (q := 181) dX2_who_179 rfl ?_
                  refine r_if_eq (q := 184) (tgt := 188) dX2_who_181 rfl rfl (fun c181 => ?_) (fun c181 => ?_)
                  · refine r_iconst 0 (by decide) (q := 189) dX2_who_188 rfl ?_
                    refine r_iadd (q := 190) dX2_who_189 rfl ?_
                    refine r_istore_6 (by decide) rfl (q := 192) dX2_who_190 rfl ?_
                    exact p4 _ (by rw [if_neg (by rw [bI_0.mp c181]; decide)])
                  · refine r_iconst 1 (by decide) (q := 185) dX2_who_184 rfl ?_
                    refine r_goto (q := 189) dX2_who_185 rfl ?_
                    refine r_iadd (q := 190) dX2_who_189 rfl ?_
                    refine r_istore_6 (by decide) rfl (q := 192) dX2_who_190 rfl ?_
                    exact p4 _ (by rw [if_pos (bI_n0.mp c181)])
                refine r_if_eq (q := 161) (tgt := 173) dX2_who_158 rfl rfl (fun c158 => ?_) (fun c158 => ?_)
                · refine r_iconst 0 (by decide) (q := 174) dX2_who_173 rfl ?_
                  refine r_ior (q := 175) dX2_who_174 rfl ?_
                  refine r_istore_5 (by decide) rfl (q := 177) dX2_who_175 rfl ?_
                  exact p2 _ (by rw [if_neg (fun z => by rw [bI_0.mp c158] at z; exact absurd z.1 (by decide))])
                · refine r_iload_3 (q := 162) dX2_who_161 rfl ?_
                  refine r_iconst 2 (by decide) (q := 163) dX2_who_162 rfl ?_
                  refine r_icmp_ge (q := 166) (tgt := 173) dX2_who_163 rfl rfl (fun c163 => ?_) (fun c163 => ?_)
                  · refine r_iconst 0 (by decide) (q := 174) dX2_who_173 rfl ?_
                    refine r_ior (q := 175) dX2_who_174 rfl ?_
                    refine r_istore_5 (by decide) rfl (q := 177) dX2_who_175 rfl ?_
                    exact p2 _ (by rw [if_neg (fun z => absurd z.2 (Int32.not_lt.mpr c163))])
                  · refine r_iconst 1 (by decide) (q := 167) dX2_who_166 rfl ?_
                    refine r_iload_8 (q := 169) dX2_who_167 rfl ?_
                    refine r_ishl (q := 170) dX2_who_169 rfl ?_
                    refine r_goto (q := 174) dX2_who_170 rfl ?_
                    refine r_ior (q := 175) dX2_who_174 rfl ?_
                    refine r_istore_5 (by decide) rfl (q := 177) dX2_who_175 rfl ?_
                    exact p2 _ (by rw [if_pos ⟨bI_n0.mp c158, Int32.not_le.mp c163⟩]; rfl)
              refine r_aload_0 (q := 125) dX2_who_124 rfl ?_
              refine r_get gf_X2_16_2 mh_o rfl (q := 128) dX2_who_125 rfl ?_
              refine r_iload_1 (q := 129) dX2_who_128 rfl ?_
              refine r_iload_3 (q := 130) dX2_who_129 rfl ?_
              refine r_iconst 1 (by decide) (q := 131) dX2_who_130 rfl ?_
              refine r_icmp_le (q := 134) (tgt := 139) dX2_who_131 rfl rfl (fun c131 => ?_) (fun c131 => ?_)
              · refine r_aload_0 (q := 140) dX2_who_139 rfl ?_
                refine r_get gf_X2_16_2 mh_o rfl (q := 143) dX2_who_140 rfl ?_
                refine r_iload_1 (q := 144) dX2_who_143 rfl ?_
                refine m_ald3 K2 rfl (by omega) (q := 145) dX2_who_144 rfl ?_
                exact st3 _ (by rw [if_neg (Int32.not_lt.mpr c131)]; rfl)
              · refine r_iload_8 (q := 136) dX2_who_134 rfl ?_
                refine r_goto (q := 145) dX2_who_136 rfl ?_
                exact st3 k (by rw [if_pos (Int32.not_le.mp c131)])
            refine r_aload_0 (q := 103) dX2_who_102 rfl ?_
            refine r_get gf_X2_13_2 mh_o rfl (q := 106) dX2_who_103 rfl ?_
            refine r_iload_1 (q := 107) dX2_who_106 rfl ?_
            refine r_iload_3 (q := 108) dX2_who_107 rfl ?_
            refine r_iconst 1 (by decide) (q := 109) dX2_who_108 rfl ?_
            refine r_icmp_ne (q := 112) (tgt := 117) dX2_who_109 rfl rfl (fun c109 => ?_) (fun c109 => ?_)
            · rw [if_neg c109] at hk2
              refine r_aload_0 (q := 118) dX2_who_117 rfl ?_
              refine r_get gf_X2_13_2 mh_o rfl (q := 121) dX2_who_118 rfl ?_
              refine r_iload_1 (q := 122) dX2_who_121 rfl ?_
              refine m_ald2 K1 rfl l1 (q := 123) dX2_who_122 rfl ?_
              rw [p1]
              subst hk2
              exact st2
            · rw [if_pos c109] at hk2
              subst hk2
              refine r_iload_8 (q := 114) dX2_who_112 rfl ?_
              refine r_goto (q := 123) dX2_who_114 rfl ?_
              exact st2
          refine r_aload_0 (q := 82) dX2_who_81 rfl ?_
          refine r_get gf_X2_7_2 mh_o rfl (q := 85) dX2_who_82 rfl ?_
          refine r_iload_1 (q := 86) dX2_who_85 rfl ?_
          refine r_iload_3 (q := 87) dX2_who_86 rfl ?_
          refine r_if_ne (q := 90) (tgt := 95) dX2_who_87 rfl rfl (fun c87 => ?_) (fun c87 => ?_)
          · rw [if_neg c87] at hk1
            refine r_aload_0 (q := 96) dX2_who_95 rfl ?_
            refine r_get gf_X2_7_2 mh_o rfl (q := 99) dX2_who_96 rfl ?_
            refine r_iload_1 (q := 100) dX2_who_99 rfl ?_
            refine m_ald1 K rfl ha (q := 101) dX2_who_100 rfl ?_
            subst hk1
            exact st1
          · rw [if_pos c87] at hk1
            subst hk1
            refine r_iload_8 (q := 92) dX2_who_90 rfl ?_
            refine r_goto (q := 101) dX2_who_92 rfl ?_
            exact st1
        refine r_iload_8 (q := 57) dX2_who_55 rfl ?_
        refine r_iload_3 (q := 58) dX2_who_57 rfl ?_
        refine r_if_ne (q := 61) (tgt := 66) dX2_who_58 rfl rfl (fun c58 => ?_) (fun c58 => ?_)
        · refine r_iload_3 (q := 67) dX2_who_66 rfl ?_
          refine r_iconst 1 (by decide) (q := 68) dX2_who_67 rfl ?_
          refine r_icmp_ne (q := 71) (tgt := 76) dX2_who_68 rfl rfl (fun c68 => ?_) (fun c68 => ?_)
          · have : whoN what = 32 := (if_neg c58).trans (if_neg c68)
            refine r_bipush 32 (by decide) (q := 78) dX2_who_76 rfl ?_
            refine r_icmp_ge (q := 81) (tgt := 217) dX2_who_78 rfl rfl (fun c78 => ?_) (fun c78 => ?_)
            · exact absurd c78 (nI_ge (b := 32) (by omega) (by omega))
            · exact body
          · have : whoN what = 10 := (if_neg c58).trans (if_pos c68)
            refine r_bipush 10 (by decide) (q := 73) dX2_who_71 rfl ?_
            refine r_goto (q := 78) dX2_who_73 rfl ?_
            refine r_icmp_ge (q := 81) (tgt := 217) dX2_who_78 rfl rfl (fun c78 => ?_) (fun c78 => ?_)
            · exact absurd c78 (nI_ge (b := 10) (by omega) (by omega))
            · exact body
        · have : whoN what = 6 := if_pos c58
          refine r_bipush 6 (by decide) (q := 63) dX2_who_61 rfl ?_
          refine r_goto (q := 78) dX2_who_63 rfl ?_
          refine r_icmp_ge (q := 81) (tgt := 217) dX2_who_78 rfl rfl (fun c78 => ?_) (fun c78 => ?_)
          · exact absurd c78 (nI_ge (b := 6) (by omega) (by omega))
          · exact body
    · have hc := q2 c28
      have e0 : whoS σ a b what = (noTw σ.1 a b what 4, rfS σ (noTw σ.1 a b what 4)) := if_neg (isC_ne hc)
      rw [e0] at hz
      refine r_aload_0 (q := 32) dX2_who_31 rfl ?_
      refine r_iload_4 (q := 34) dX2_who_32 rfl ?_
      refine r_callV_1 cv_X2_128 mh_o rfl (by decide) (Nat.le_of_ble_eq_true rfl) ⟨Nat.le_refl _, Nat.le_refl _⟩ (k_X2_refuse hc (h.th 0).l6) (q := 37) dX2_who_34 rfl ?_
      exact r_iret hz dX2_who_37 (Nat.le_refl _) (Nat.le_refl _) (.of rfl ((h.th 0).refuse _))
  refine r_aload_0 (q := 1) dX2_who_0 rfl ?_
  refine r_iconst 0 (by decide) (q := 2) dX2_who_1 rfl ?_
  refine r_put gf_X2_65_2 cl_ok_2 ft_2_7 mh_o (Nat.le_of_ble_eq_true rfl) rfl rfl (q := 5) dX2_who_2 rfl ?_
  refine J.heap mset_f7 ?_
  refine r_aload_0 (q := 6) dX2_who_5 rfl ?_
  refine r_iload_1 (q := 7) dX2_who_6 rfl ?_
  refine r_iload_2 (q := 8) dX2_who_7 rfl ?_
  refine r_callV_2 cv_X2_164 mh_o rfl (by decide) (Nat.le_of_ble_eq_true rfl) ⟨Nat.le_refl _, Nat.le_refl _⟩ (k_X2_areTwo K e) (q := 11) dX2_who_8 rfl ?_
  refine r_if_eq (q := 14) (tgt := 18) dX2_who_11 rfl rfl (fun c11 => ?_) (fun c11 => ?_)
  · refine r_iconst (-1) (by decide) (q := 19) dX2_who_18 rfl ?_
    exact fin (-1) (by rw [if_neg (by rw [bI_0.mp c11]; decide)])
  · refine r_iconst 0 (by decide) (q := 15) dX2_who_14 rfl ?_
    refine r_goto (q := 19) dX2_who_15 rfl ?_
    exact fin 0 (by rw [if_pos (bI_n0.mp c11)])
theorem has_ok : ∀ q, q < 100 → ∀ a, a < 2 → ∀ b, b < 2 → 20 - heldI (nI q - 10 * (nI a + nI b)) 99 + (if nI a < nI b then 8 else 0) - (if nI b < nI a then 5 else 0) = gaiS q a b := by decide +kernel
theorem k_X2_hasBy {q a b : Nat} {h : RH} (hq : q < 100) (ha : a < 2) (hb : b < 2) : CtE G yX2_hasBy cX2_hasBy 4 (some FieldType.int) 2 [.int (nI q), .int (nI a), .int (nI b)] n h (some (.int (gaiS q a b))) h := by
  refine Ct.intro (k := 1) [some (.int (nI q)), some (.int (nI a)), some (.int (nI b)), none] (by decide) (Nat.le_of_ble_eq_true rfl) rfl fun z hz hin => ?_
  rw [← has_ok q hq a ha b hb] at hz
  refine r_iload_0 (q := 1) dX2_hasBy_0 rfl ?_
  refine r_bipush 10 (by decide) (q := 3) dX2_hasBy_1 rfl ?_
  refine r_iload_1 (q := 4) dX2_hasBy_3 rfl ?_
  refine r_iload_2 (q := 5) dX2_hasBy_4 rfl ?_
  refine r_iadd (q := 6) dX2_hasBy_5 rfl ?_
  refine r_imul (q := 7) dX2_hasBy_6 rfl ?_
  refine r_isub (q := 8) dX2_hasBy_7 rfl ?_
  refine r_bipush 99 (by decide) (q := 10) dX2_hasBy_8 rfl ?_
  refine r_callS_2 cs_X2_103 (by decide) (Nat.le_of_ble_eq_true rfl) ⟨Nat.le_refl _, Nat.le_refl _⟩ (k_X2_held) (q := 13) dX2_hasBy_10 rfl ?_
  refine r_istore_3 (by decide) rfl (q := 14) dX2_hasBy_13 rfl ?_
  refine r_bipush 20 (by decide) (q := 16) dX2_hasBy_14 rfl ?_
  refine r_iload_3 (q := 17) dX2_hasBy_16 rfl ?_
  refine r_isub (q := 18) dX2_hasBy_17 rfl ?_
  refine r_iload_1 (q := 19) dX2_hasBy_18 rfl ?_
  refine r_iload_2 (q := 20) dX2_hasBy_19 rfl ?_
  refine r_icmp_ge (q := 23) (tgt := 28) dX2_hasBy_20 rfl rfl (fun c20 => ?_) (fun c20 => ?_)
  · rw [if_neg (Int32.not_lt.mpr c20)] at hz
    refine r_iconst 0 (by decide) (q := 29) dX2_hasBy_28 rfl ?_
    refine r_iadd (q := 30) dX2_hasBy_29 rfl ?_
    refine r_iload_1 (q := 31) dX2_hasBy_30 rfl ?_
    refine r_iload_2 (q := 32) dX2_hasBy_31 rfl ?_
    refine r_icmp_le (q := 35) (tgt := 39) dX2_hasBy_32 rfl rfl (fun c32 => ?_) (fun c32 => ?_)
    · rw [if_neg (Int32.not_lt.mpr c32)] at hz
      refine r_iconst 0 (by decide) (q := 40) dX2_hasBy_39 rfl ?_
      refine r_isub (q := 41) dX2_hasBy_40 rfl ?_
      exact r_iret hz dX2_hasBy_41 (Nat.le_refl _) (Nat.le_refl _) ⟨rfl, rfl, rfl⟩
    · rw [if_pos (Int32.not_le.mp c32)] at hz
      refine r_iconst 5 (by decide) (q := 36) dX2_hasBy_35 rfl ?_
      refine r_goto (q := 40) dX2_hasBy_36 rfl ?_
      refine r_isub (q := 41) dX2_hasBy_40 rfl ?_
      exact r_iret hz dX2_hasBy_41 (Nat.le_refl _) (Nat.le_refl _) ⟨rfl, rfl, rfl⟩
  · rw [if_pos (Int32.not_le.mp c20)] at hz
    refine r_bipush 8 (by decide) (q := 25) dX2_hasBy_23 rfl ?_
    refine r_goto (q := 29) dX2_hasBy_25 rfl ?_
    refine r_iadd (q := 30) dX2_hasBy_29 rfl ?_
    refine r_iload_1 (q := 31) dX2_hasBy_30 rfl ?_
    refine r_iload_2 (q := 32) dX2_hasBy_31 rfl ?_
    refine r_icmp_le (q := 35) (tgt := 39) dX2_hasBy_32 rfl rfl (fun c32 => ?_) (fun c32 => ?_)
    · rw [if_neg (Int32.not_lt.mpr c32)] at hz
      refine r_iconst 0 (by decide) (q := 40) dX2_hasBy_39 rfl ?_
      refine r_isub (q := 41) dX2_hasBy_40 rfl ?_
      exact r_iret hz dX2_hasBy_41 (Nat.le_refl _) (Nat.le_refl _) ⟨rfl, rfl, rfl⟩
    · rw [if_pos (Int32.not_le.mp c32)] at hz
      refine r_iconst 5 (by decide) (q := 36) dX2_hasBy_35 rfl ?_
      refine r_goto (q := 40) dX2_hasBy_36 rfl ?_
      refine r_isub (q := 41) dX2_hasBy_40 rfl ?_
      exact r_iret hz dX2_hasBy_41 (Nat.le_refl _) (Nat.le_refl _) ⟨rfl, rfl, rfl⟩
theorem way_ok : ∀ k, k < 4 → nI k / 2 = nI (k / 2) ∧ nI k - nI k / 2 * 2 = nI (k % 2) ∧ 1 - nI (k / 2) = nI (1 - k / 2) ∧ 1 - nI (k % 2) = nI (1 - k % 2) := by decide +kernel
theorem k_X2_ways {a b : Int32} (h : MR w σ) : Ct G yX2_ways cX2_ways 7 (some .int) 4 0 0 [.ref m, .int a, .int b] n (mh m w g) (MPo m n g (waysS σ a b)) := by
  refine Ct.intro (k := 4) [some (.ref m), some (.int a), some (.int b), none, none, none, none] (by decide) (Nat.le_of_ble_eq_true rfl) rfl fun z hz hin => ?_
  obtain ⟨j, e, K⟩ := h.1
  have h6 := K.l6
  unfold waysS at hz
  refine r_aload_0 (q := 1) dX2_ways_0 rfl ?_
  refine r_iconst 0 (by decide) (q := 2) dX2_ways_1 rfl ?_
  refine r_put gf_X2_65_2 cl_ok_2 ft_2_7 mh_o (Nat.le_of_ble_eq_true rfl) rfl rfl (q := 5) dX2_ways_2 rfl ?_
  refine J.heap mset_f7 ?_
  refine r_aload_0 (q := 6) dX2_ways_5 rfl ?_
  refine r_iload_1 (q := 7) dX2_ways_6 rfl ?_
  refine r_iload_2 (q := 8) dX2_ways_7 rfl ?_
  refine r_callV_2 cv_X2_164 mh_o rfl (by decide) (Nat.le_of_ble_eq_true rfl) ⟨Nat.le_refl _, Nat.le_refl _⟩ (k_X2_areTwo K e) (q := 11) dX2_ways_8 rfl ?_
  refine r_if_ne (q := 14) (tgt := 20) dX2_ways_11 rfl rfl (fun c11 => ?_) (fun c11 => ?_)
  · have t1 := bI_n0.mp c11
    rw [if_pos t1] at hz
    obtain ⟨a', b', ha, hb, hab, rfl, rfl⟩ := areTw_t K.lens t1
    rw [cl_nI (by omega), cl_nI (by omega)] at hz
    have q99 := K.qr99 a' b'
    refine r_aload_0 (q := 21) dX2_ways_20 rfl ?_
    refine r_iload_1 (q := 22) dX2_ways_21 rfl ?_
    refine r_iload_2 (q := 23) dX2_ways_22 rfl ?_
    refine r_callV_2 cv_X2_79 mh_o rfl (by decide) (Nat.le_of_ble_eq_true rfl) ⟨Nat.le_refl _, Nat.le_refl _⟩ (k_X2_quarrelOf K e (by omega) (by omega)) (q := 26) dX2_ways_23 rfl ?_
    refine r_istore_3 (by decide) rfl (q := 27) dX2_ways_26 rfl ?_
    refine r_iconst 0 (by decide) (q := 28) dX2_ways_27 rfl ?_
    refine r_istore_4 (by decide) rfl (q := 30) dX2_ways_28 rfl ?_
    generalize qr σ.1 a' b' = q at q99 hz ⊢
    have loop : ∀ (c k : Nat) (o5 o6 : Option Value), k + c = 4 → lc2 o5 = false → wayF q c k = wayF q 4 0 → J G z cX2_ways 7 RX2 4 0 0 0 0 30 [some (.ref m), some (.int (nI a')), some (.int (nI b')), some (.int (nI q)), some (.int (nI k)), o5, o6] [] n (mh m (sf7 w 0) g) := by
      intro c
      induction c with
      | zero =>
        intro k o5 o6 h1 _ h2
        have h1 : k = 4 := h1
        subst h1
        rw [← h2] at hz
        refine r_iload_4 (q := 32) dX2_ways_30 rfl ?_
        refine r_iconst 4 (by decide) (q := 33) dX2_ways_32 rfl ?_
        refine r_icmp_ge (q := 36) (tgt := 105) dX2_ways_33 rfl rfl (fun c33 => ?_) (fun c33 => ?_)
        · refine r_bipush (-9) (by decide) (q := 107) dX2_ways_105 rfl ?_
          exact r_iret hz dX2_ways_107 (Nat.le_refl _) (Nat.le_refl _) (.of rfl (h.th 0))
        · exact absurd (by decide : (4 : Int32) ≤ nI 4) c33
      | succ c ih =>
        intro k o5 o6 h1 _ h2
        obtain ⟨y1, y2, y3, y4⟩ := way_ok k (by omega)
        have h2 : (if gaiS q (1 - k / 2) (k % 2) ≤ gaiS q (k / 2) (k % 2) ∧ gaiS q (1 - k % 2) (k / 2) ≤ gaiS q (k % 2) (k / 2) then 10 * nI (k / 2) + nI (k % 2) else wayF q c (k + 1)) = wayF q 4 0 := h2
        have next : ¬(gaiS q (1 - k / 2) (k % 2) ≤ gaiS q (k / 2) (k % 2) ∧ gaiS q (1 - k % 2) (k / 2) ≤ gaiS q (k % 2) (k / 2)) → J G z cX2_ways 7 RX2 4 0 0 0 0 99 [some (.ref m), some (.int (nI a')), some (.int (nI b')), some (.int (nI q)), some (.int (nI k)), some (.int (nI (k / 2))), some (.int (nI (k % 2)))] [] n (mh m (sf7 w 0) g) := by
          intro hn
          rw [if_neg hn] at h2
          refine r_inc_4 (by decide) rfl (q := 102) dX2_ways_99 rfl ?_
          refine r_goto (q := 30) dX2_ways_102 rfl ?_
          exact ih (k + 1) _ _ (by omega) rfl h2
        refine r_iload_4 (q := 32) dX2_ways_30 rfl ?_
        refine r_iconst 4 (by decide) (q := 33) dX2_ways_32 rfl ?_
        refine r_icmp_ge (q := 36) (tgt := 105) dX2_ways_33 rfl rfl (fun c33 => ?_) (fun c33 => ?_)
        · exact absurd c33 (nI_ge (b := 4) (by omega) (by omega))
        refine r_iload_4 (q := 38) dX2_ways_36 rfl ?_
        refine r_iconst 2 (by decide) (q := 39) dX2_ways_38 rfl ?_
        refine r_idiv (by decide) (q := 40) dX2_ways_39 rfl ?_
        refine J.topi y1 ?_
        refine r_istore_5 (by decide) rfl (q := 42) dX2_ways_40 rfl ?_
        refine r_iload_4 (q := 44) dX2_ways_42 rfl ?_
        refine r_iconst 2 (by decide) (q := 45) dX2_ways_44 rfl ?_
        refine r_irem (by decide) (q := 46) dX2_ways_45 rfl ?_
        refine J.topi y2 ?_
        refine r_istore_6 (by decide) rfl (q := 48) dX2_ways_46 rfl ?_
        refine r_iload_3 (q := 49) dX2_ways_48 rfl ?_
        refine r_iconst 1 (by decide) (q := 50) dX2_ways_49 rfl ?_
        refine r_iload_5 (q := 52) dX2_ways_50 rfl ?_
        refine r_isub (q := 53) dX2_ways_52 rfl ?_
        refine J.stk (s2 := [.int (nI (1 - k / 2)), .int (nI q)]) (by rw [y3]) ?_
        refine r_iload_6 (q := 55) dX2_ways_53 rfl ?_
        refine r_callS_3 cs_X2_279 (by decide) (Nat.le_of_ble_eq_true rfl) ⟨Nat.le_refl _, Nat.le_refl _⟩ (k_X2_hasBy (q := q) (a := 1 - k / 2) (b := k % 2) (by omega) (by omega) (by omega)) (q := 58) dX2_ways_55 rfl ?_
        refine r_iload_3 (q := 59) dX2_ways_58 rfl ?_
        refine r_iload_5 (q := 61) dX2_ways_59 rfl ?_
        refine r_iload_6 (q := 63) dX2_ways_61 rfl ?_
        refine r_callS_3 cs_X2_279 (by decide) (Nat.le_of_ble_eq_true rfl) ⟨Nat.le_refl _, Nat.le_refl _⟩ (k_X2_hasBy (q := q) (a := k / 2) (b := k % 2) (by omega) (by omega) (by omega)) (q := 66) dX2_ways_63 rfl ?_
        refine r_icmp_gt (q := 69) (tgt := 99) dX2_ways_66 rfl rfl (fun c66 => ?_) (fun c66 => ?_)
        · exact next (fun z => absurd z.1 (Int32.not_le.mpr c66))
        refine r_iload_3 (q := 70) dX2_ways_69 rfl ?_
        refine r_iconst 1 (by decide) (q := 71) dX2_ways_70 rfl ?_
        refine r_iload_6 (q := 73) dX2_ways_71 rfl ?_
        refine r_isub (q := 74) dX2_ways_73 rfl ?_
        refine J.topi y4 ?_
        refine r_iload_5 (q := 76) dX2_ways_74 rfl ?_
        refine r_callS_3 cs_X2_279 (by decide) (Nat.le_of_ble_eq_true rfl) ⟨Nat.le_refl _, Nat.le_refl _⟩ (k_X2_hasBy (q := q) (a := 1 - k % 2) (b := k / 2) (by omega) (by omega) (by omega)) (q := 79) dX2_ways_76 rfl ?_
        refine r_iload_3 (q := 80) dX2_ways_79 rfl ?_
        refine r_iload_6 (q := 82) dX2_ways_80 rfl ?_
        refine r_iload_5 (q := 84) dX2_ways_82 rfl ?_
        refine r_callS_3 cs_X2_279 (by decide) (Nat.le_of_ble_eq_true rfl) ⟨Nat.le_refl _, Nat.le_refl _⟩ (k_X2_hasBy (q := q) (a := k % 2) (b := k / 2) (by omega) (by omega) (by omega)) (q := 87) dX2_ways_84 rfl ?_
        refine r_icmp_gt (q := 90) (tgt := 99) dX2_ways_87 rfl rfl (fun c87 => ?_) (fun c87 => ?_)
        · exact next (fun z => absurd z.2 (Int32.not_le.mpr c87))
        · rw [if_pos ⟨Int32.not_lt.mp c66, Int32.not_lt.mp c87⟩] at h2
          rw [← h2] at hz
          refine r_bipush 10 (by decide) (q := 92) dX2_ways_90 rfl ?_
          refine r_iload_5 (q := 94) dX2_ways_92 rfl ?_
          refine r_imul (q := 95) dX2_ways_94 rfl ?_
          refine r_iload_6 (q := 97) dX2_ways_95 rfl ?_
          refine r_iadd (q := 98) dX2_ways_97 rfl ?_
          exact r_iret hz dX2_ways_98 (Nat.le_refl _) (Nat.le_refl _) (.of rfl (h.th 0))
    exact loop 4 0 _ _ rfl rfl rfl
  · rw [if_neg (by rw [bI_0.mp c11]; decide)] at hz
    refine r_aload_0 (q := 15) dX2_ways_14 rfl ?_
    refine r_iconst (-1) (by decide) (q := 16) dX2_ways_15 rfl ?_
    refine r_callV_1 cv_X2_128 mh_o rfl (by decide) (Nat.le_of_ble_eq_true rfl) ⟨Nat.le_refl _, Nat.le_refl _⟩ (k_X2_refuse isC_1 (h.th 0).l6) (q := 19) dX2_ways_16 rfl ?_
    exact r_iret hz dX2_ways_19 (Nat.le_refl _) (Nat.le_refl _) (.of rfl ((h.th 0).refuse _))
theorem k_X2_comingAt {hh : Nat} (K : OKM T j) (e : w.1 = mS T j) (hb : hh < 8) : CtE G yX2_comingAt cX2_comingAt 4 (some FieldType.int) 2 [.ref m, .int (nI hh)] n (mh m w g) (some (.int (comS T hh))) (mh m w g) := by
  refine Ct.intro (k := 2) [some (.ref m), some (.int (nI hh)), none, none] (by decide) (Nat.le_of_ble_eq_true rfl) rfl fun z hz hin => ?_
  have h6 := K.l6
  refine r_iconst 0 (by decide) (q := 1) dX2_comingAt_0 rfl ?_
  refine r_istore_2 (by decide) rfl (q := 2) dX2_comingAt_1 rfl ?_
  refine r_iconst 0 (by decide) (q := 3) dX2_comingAt_2 rfl ?_
  refine r_istore_3 (by decide) rfl (q := 4) dX2_comingAt_3 rfl ?_
  refine forJ (f := fun a acc => acc + (if hbt (hr T a) hh then 1 else 0)) (σ := Int32) T.1.length (fun _ => True) (fun a s => J G z cX2_comingAt 4 RX2 2 0 0 0 0 4 [some (.ref m), some (.int (nI hh)), some (.int s), some (.int (nI a))] [] n (mh m w g)) (a0 := 0) (s0 := 0) (Nat.zero_le _) trivial (fun s _ hs => ?_) (fun a s _ ha _ => ⟨trivial, fun next => ?_⟩)
  · refine r_iload_3 (q := 5) dX2_comingAt_4 rfl ?_
    refine r_aload_0 (q := 6) dX2_comingAt_5 rfl ?_
    refine m_getp gf_X2_68_2 K e (q := 9) dX2_comingAt_6 rfl ?_
    refine r_icmp_ge (q := 12) (tgt := 39) dX2_comingAt_9 rfl rfl (fun c9 => ?_) (fun c9 => ?_)
    · rw [← show s = comS T hh from hs] at hz
      refine r_iload_2 (q := 40) dX2_comingAt_39 rfl ?_
      exact r_iret hz dX2_comingAt_40 (Nat.le_refl _) (Nat.le_refl _) ⟨rfl, rfl, rfl⟩
    · exact absurd (Int32.le_refl _) c9
  · refine r_iload_3 (q := 5) dX2_comingAt_4 rfl ?_
    refine r_aload_0 (q := 6) dX2_comingAt_5 rfl ?_
    refine m_getp gf_X2_68_2 K e (q := 9) dX2_comingAt_6 rfl ?_
    refine r_icmp_ge (q := 12) (tgt := 39) dX2_comingAt_9 rfl rfl (fun c9 => ?_) (fun c9 => ?_)
    · exact absurd c9 (nI_not_lt ha (by omega))
    have h31 := K.hr31 a
    refine r_iload_2 (q := 13) dX2_comingAt_12 rfl ?_
    refine r_aload_0 (q := 14) dX2_comingAt_13 rfl ?_
    refine r_get gf_X2_16_2 mh_o rfl (q := 17) dX2_comingAt_14 rfl ?_
    refine r_iload_3 (q := 18) dX2_comingAt_17 rfl ?_
    refine m_ald3 K e (by omega) (q := 19) dX2_comingAt_18 rfl ?_
    refine r_iload_1 (q := 20) dX2_comingAt_19 rfl ?_
    refine r_callS_2 cs_X2_93 (by decide) (Nat.le_of_ble_eq_true rfl) ⟨Nat.le_refl _, Nat.le_refl _⟩ (k_X2_hasBit (k := hr T a) (by omega) hb) (q := 23) dX2_comingAt_20 rfl ?_
    refine r_if_eq (q := 26) (tgt := 30) dX2_comingAt_23 rfl rfl (fun c23 => ?_) (fun c23 => ?_)
    · rw [bI_0.mp c23] at next
      refine r_iconst 0 (by decide) (q := 31) dX2_comingAt_30 rfl ?_
      refine r_iadd (q := 32) dX2_comingAt_31 rfl ?_
      refine r_istore_2 (by decide) rfl (q := 33) dX2_comingAt_32 rfl ?_
      refine r_inc_3 (by decide) rfl (q := 36) dX2_comingAt_33 rfl ?_
      refine r_goto (q := 4) dX2_comingAt_36 rfl ?_
      exact next
    · rw [bI_n0.mp c23] at next
      refine r_iconst 1 (by decide) (q := 27) dX2_comingAt_26 rfl ?_
      refine r_goto (q := 31) dX2_comingAt_27 rfl ?_
      refine r_iadd (q := 32) dX2_comingAt_31 rfl ?_
      refine r_istore_2 (by decide) rfl (q := 33) dX2_comingAt_32 rfl ?_
      refine r_inc_3 (by decide) rfl (q := 36) dX2_comingAt_33 rfl ?_
      refine r_goto (q := 4) dX2_comingAt_36 rfl ?_
      exact next
theorem k_X2_fullest {what : Int32} (h : MR w σ) : Ct G yX2_fullest cX2_fullest 4 (some .int) 4 0 0 [.ref m, .int what] n (mh m w g) (MPo m n g (fullS σ what)) := by
  refine Ct.intro (k := 2) [some (.ref m), some (.int what), none, none] (by decide) (Nat.le_of_ble_eq_true rfl) rfl fun z hz hin => ?_
  obtain ⟨j, e, K⟩ := h.1
  have h6 := K.l6
  unfold fullS at hz
  refine r_aload_0 (q := 1) dX2_fullest_0 rfl ?_
  refine r_iconst 0 (by decide) (q := 2) dX2_fullest_1 rfl ?_
  refine r_put gf_X2_65_2 cl_ok_2 ft_2_7 mh_o (Nat.le_of_ble_eq_true rfl) rfl rfl (q := 5) dX2_fullest_2 rfl ?_
  refine J.heap mset_f7 ?_
  refine r_iload_1 (q := 6) dX2_fullest_5 rfl ?_
  refine r_i2l (q := 7) dX2_fullest_6 rfl ?_
  refine r_lconst 0 (by decide) (q := 8) dX2_fullest_7 rfl ?_
  refine r_lconst 1 (by decide) (q := 9) dX2_fullest_8 rfl ?_
  refine r_callS_3 cs_X2_71 (by decide) (Nat.le_of_ble_eq_true rfl) ⟨Nat.le_refl _, Nat.le_refl _⟩ (k_X2_in32 (lo := 0) (hi := 1) (by decide) (by decide)) (q := 12) dX2_fullest_9 rfl ?_
  rw [in_le' (hi := 1) (k := 1) (ub := 2) (by decide) rfl rfl]
  refine r_if_ne (q := 15) (tgt := 22) dX2_fullest_12 rfl rfl (fun c12 => ?_) (fun c12 => ?_)
  · rw [if_pos (bI_n0.mp c12)] at hz
    refine r_iconst 0 (by decide) (q := 23) dX2_fullest_22 rfl ?_
    refine r_istore_2 (by decide) rfl (q := 24) dX2_fullest_23 rfl ?_
    refine r_iconst 1 (by decide) (q := 25) dX2_fullest_24 rfl ?_
    refine r_istore_3 (by decide) rfl (q := 26) dX2_fullest_25 rfl ?_
    refine forJ (f := fulF σ.1) (σ := Nat) 5 (fun b => b < 5) (fun a b => J G z cX2_fullest 4 RX2 4 0 0 0 0 26 [some (.ref m), some (.int what), some (.int (nI b)), some (.int (nI a))] [] n (mh m (sf7 w 0) g)) (a0 := 1) (s0 := 0) (by decide) (by decide) (fun b hb hs => ?_) (fun a b _ ha hb => ⟨by unfold fulF; split <;> omega, fun next => ?_⟩)
    · have hs : b = fulS σ.1 := hs
      rw [← hs] at hz
      refine r_iload_3 (q := 27) dX2_fullest_26 rfl ?_
      refine r_iconst 5 (by decide) (q := 28) dX2_fullest_27 rfl ?_
      refine r_icmp_ge (q := 31) (tgt := 56) dX2_fullest_28 rfl rfl (fun c28 => ?_) (fun c28 => ?_)
      · refine r_iload_1 (q := 57) dX2_fullest_56 rfl ?_
        refine r_if_ne (q := 60) (tgt := 64) dX2_fullest_57 rfl rfl (fun c57 => ?_) (fun c57 => ?_)
        · rw [if_neg c57] at hz
          refine r_aload_0 (q := 65) dX2_fullest_64 rfl ?_
          refine r_iload_2 (q := 66) dX2_fullest_65 rfl ?_
          refine r_callV_1 cv_X2_292 mh_o rfl (by decide) (Nat.le_of_ble_eq_true rfl) ⟨Nat.le_refl _, Nat.le_refl _⟩ (k_X2_comingAt K e (by omega)) (q := 69) dX2_fullest_66 rfl ?_
          exact r_iret hz dX2_fullest_69 (Nat.le_refl _) (Nat.le_refl _) (.of rfl (h.th 0))
        · rw [if_pos c57] at hz
          refine r_iload_2 (q := 61) dX2_fullest_60 rfl ?_
          refine r_goto (q := 69) dX2_fullest_61 rfl ?_
          exact r_iret hz dX2_fullest_69 (Nat.le_refl _) (Nat.le_refl _) (.of rfl (h.th 0))
      · exact absurd (by decide : (5 : Int32) ≤ nI 5) c28
    · unfold fulF at next
      refine r_iload_3 (q := 27) dX2_fullest_26 rfl ?_
      refine r_iconst 5 (by decide) (q := 28) dX2_fullest_27 rfl ?_
      refine r_icmp_ge (q := 31) (tgt := 56) dX2_fullest_28 rfl rfl (fun c28 => ?_) (fun c28 => ?_)
      · exact absurd c28 (nI_ge (b := 5) ha (by omega))
      refine r_aload_0 (q := 32) dX2_fullest_31 rfl ?_
      refine r_iload_3 (q := 33) dX2_fullest_32 rfl ?_
      refine r_callV_1 cv_X2_292 mh_o rfl (by decide) (Nat.le_of_ble_eq_true rfl) ⟨Nat.le_refl _, Nat.le_refl _⟩ (k_X2_comingAt K e (by omega)) (q := 36) dX2_fullest_33 rfl ?_
      refine r_aload_0 (q := 37) dX2_fullest_36 rfl ?_
      refine r_iload_2 (q := 38) dX2_fullest_37 rfl ?_
      refine r_callV_1 cv_X2_292 mh_o rfl (by decide) (Nat.le_of_ble_eq_true rfl) ⟨Nat.le_refl _, Nat.le_refl _⟩ (k_X2_comingAt K e (by omega)) (q := 41) dX2_fullest_38 rfl ?_
      refine r_icmp_le (q := 44) (tgt := 48) dX2_fullest_41 rfl rfl (fun c41 => ?_) (fun c41 => ?_)
      · rw [if_neg (Int32.not_lt.mpr c41)] at next
        refine r_iload_2 (q := 49) dX2_fullest_48 rfl ?_
        refine r_istore_2 (by decide) rfl (q := 50) dX2_fullest_49 rfl ?_
        refine r_inc_3 (by decide) rfl (q := 53) dX2_fullest_50 rfl ?_
        refine r_goto (q := 26) dX2_fullest_53 rfl ?_
        exact next
      · rw [if_pos (Int32.not_le.mp c41)] at next
        refine r_iload_3 (q := 45) dX2_fullest_44 rfl ?_
        refine r_goto (q := 49) dX2_fullest_45 rfl ?_
        refine r_istore_2 (by decide) rfl (q := 50) dX2_fullest_49 rfl ?_
        refine r_inc_3 (by decide) rfl (q := 53) dX2_fullest_50 rfl ?_
        refine r_goto (q := 26) dX2_fullest_53 rfl ?_
        exact next
  · rw [if_neg (by rw [bI_0.mp c12]; decide)] at hz
    refine r_aload_0 (q := 16) dX2_fullest_15 rfl ?_
    refine r_bipush (-2) (by decide) (q := 18) dX2_fullest_16 rfl ?_
    refine r_callV_1 cv_X2_128 mh_o rfl (by decide) (Nat.le_of_ble_eq_true rfl) ⟨Nat.le_refl _, Nat.le_refl _⟩ (k_X2_refuse isC_2 (h.th 0).l6) (q := 21) dX2_fullest_18 rfl ?_
    exact r_iret hz dX2_fullest_21 (Nat.le_refl _) (Nat.le_refl _) (.of rfl ((h.th 0).refuse _))
theorem k_X2_charmer (h : MR w σ) : Ct G yX2_charmer cX2_charmer 3 (some .int) 4 0 0 [.ref m] n (mh m w g) (MPo m n g (charmerS σ)) := by
  refine Ct.intro (k := 2) [some (.ref m), none, none] (by decide) (Nat.le_of_ble_eq_true rfl) rfl fun z hz hin => ?_
  obtain ⟨j, e, K⟩ := h.1
  have h6 := K.l6
  unfold charmerS at hz
  refine r_aload_0 (q := 1) dX2_charmer_0 rfl ?_
  refine r_iconst 0 (by decide) (q := 2) dX2_charmer_1 rfl ?_
  refine r_put gf_X2_65_2 cl_ok_2 ft_2_7 mh_o (Nat.le_of_ble_eq_true rfl) rfl rfl (q := 5) dX2_charmer_2 rfl ?_
  refine J.heap mset_f7 ?_
  refine r_bipush (-9) (by decide) (q := 7) dX2_charmer_5 rfl ?_
  refine r_istore_1 (by decide) rfl (q := 8) dX2_charmer_7 rfl ?_
  refine r_iconst 0 (by decide) (q := 9) dX2_charmer_8 rfl ?_
  refine r_istore_2 (by decide) rfl (q := 10) dX2_charmer_9 rfl ?_
  refine forJ (f := chaF σ.1) (σ := Option Nat) σ.1.1.length (fun s => ∀ k, s = some k → k < σ.1.1.length) (fun a s => J G z cX2_charmer 3 RX2 4 0 0 0 0 10 [some (.ref m), some (.int (mI s)), some (.int (nI a))] [] n (mh m (sf7 w 0) g)) (a0 := 0) (s0 := none) (Nat.zero_le _) (fun k e => by cases e) (fun s hk hs => ?_) (fun a s _ ha hk => ⟨?_, fun next => ?_⟩)
  · have hs : s = forR (chaF σ.1) 0 σ.1.1.length none := hs
    rw [← hs] at hz
    refine r_iload_2 (q := 11) dX2_charmer_10 rfl ?_
    refine r_aload_0 (q := 12) dX2_charmer_11 rfl ?_
    refine m_getp gf_X2_68_2 K e (q := 15) dX2_charmer_12 rfl ?_
    refine r_icmp_ge (q := 18) (tgt := 47) dX2_charmer_15 rfl rfl (fun c15 => ?_) (fun c15 => ?_)
    · refine r_iload_1 (q := 48) dX2_charmer_47 rfl ?_
      exact r_iret hz dX2_charmer_48 (Nat.le_refl _) (Nat.le_refl _) (.of rfl (h.th 0))
    · exact absurd (Int32.le_refl _) c15
  · intro k e
    unfold chaF at e
    split at e
    · cases e; exact ha
    · split at e
      · cases e; exact ha
      · exact hk k e
  · refine r_iload_2 (q := 11) dX2_charmer_10 rfl ?_
    refine r_aload_0 (q := 12) dX2_charmer_11 rfl ?_
    refine m_getp gf_X2_68_2 K e (q := 15) dX2_charmer_12 rfl ?_
    refine r_icmp_ge (q := 18) (tgt := 47) dX2_charmer_15 rfl rfl (fun c15 => ?_) (fun c15 => ?_)
    · exact absurd c15 (nI_not_lt ha (by omega))
    refine r_iload_1 (q := 19) dX2_charmer_18 rfl ?_
    cases s with
    | none =>
      have next : J G z cX2_charmer 3 RX2 4 0 0 0 0 10 [some (.ref m), some (.int (nI a)), some (.int (nI (a + 1)))] [] n (mh m (sf7 w 0) g) := next
      refine r_if_lt (q := 22) (tgt := 35) dX2_charmer_19 rfl rfl (fun c19 => ?_) (fun c19 => ?_)
      · refine r_iload_2 (q := 36) dX2_charmer_35 rfl ?_
        refine r_goto (q := 40) dX2_charmer_36 rfl ?_
        refine r_istore_1 (by decide) rfl (q := 41) dX2_charmer_40 rfl ?_
        refine r_inc_2 (by decide) rfl (q := 44) dX2_charmer_41 rfl ?_
        refine r_goto (q := 10) dX2_charmer_44 rfl ?_
        exact next
      · exact absurd mI_neg c19
    | some k =>
      have hk' := hk k rfl
      have va := vs_pr K.vals ha
      have vk := vs_pr K.vals hk'
      have b1 := charm_le _ va.1 _ va.2
      have b2 := charm_le _ vk.1 _ vk.2
      have es : chaF σ.1 a (some k) = if charmN (pr σ.1 k).1 (pr σ.1 k).2 < charmN (pr σ.1 a).1 (pr σ.1 a).2 then some a else some k := rfl
      rw [es] at next
      refine r_if_lt (q := 22) (tgt := 35) dX2_charmer_19 rfl rfl (fun c19 => ?_) (fun c19 => ?_)
      · exact absurd c19 (nI_pos (by omega))
      refine r_aload_0 (q := 23) dX2_charmer_22 rfl ?_
      refine r_iload_2 (q := 24) dX2_charmer_23 rfl ?_
      refine r_callV_1 cv_X2_87 mh_o rfl (by decide) (Nat.le_of_ble_eq_true rfl) ⟨Nat.le_refl _, Nat.le_refl _⟩ (k_X2_charmOf K e ha) (q := 27) dX2_charmer_24 rfl ?_
      refine r_aload_0 (q := 28) dX2_charmer_27 rfl ?_
      refine r_iload_1 (q := 29) dX2_charmer_28 rfl ?_
      refine J.topi (show mI (some k) = nI k from rfl) ?_
      refine r_callV_1 cv_X2_87 mh_o rfl (by decide) (Nat.le_of_ble_eq_true rfl) ⟨Nat.le_refl _, Nat.le_refl _⟩ (k_X2_charmOf K e hk') (q := 32) dX2_charmer_29 rfl ?_
      refine r_icmp_le (q := 35) (tgt := 39) dX2_charmer_32 rfl rfl (fun c32 => ?_) (fun c32 => ?_)
      · have := (nI_leI (by omega) (by omega)).mp c32
        rw [if_neg (by omega)] at next
        refine r_iload_1 (q := 40) dX2_charmer_39 rfl ?_
        refine r_istore_1 (by decide) rfl (q := 41) dX2_charmer_40 rfl ?_
        refine r_inc_2 (by decide) rfl (q := 44) dX2_charmer_41 rfl ?_
        refine r_goto (q := 10) dX2_charmer_44 rfl ?_
        exact next
      · have : charmN (pr σ.1 k).1 (pr σ.1 k).2 < charmN (pr σ.1 a).1 (pr σ.1 a).2 := by
          rcases Nat.lt_or_ge (charmN (pr σ.1 k).1 (pr σ.1 k).2) (charmN (pr σ.1 a).1 (pr σ.1 a).2) with z | z
          · exact z
          · exact absurd (nI_le z (by omega)) c32
        rw [if_pos this] at next
        refine r_iload_2 (q := 36) dX2_charmer_35 rfl ?_
        refine r_goto (q := 40) dX2_charmer_36 rfl ?_
        refine r_istore_1 (by decide) rfl (q := 41) dX2_charmer_40 rfl ?_
        refine r_inc_2 (by decide) rfl (q := 44) dX2_charmer_41 rfl ?_
        refine r_goto (q := 10) dX2_charmer_44 rfl ?_
        exact next
theorem k_X2_friends (h : MR w σ) : Ct G yX2_friends cX2_friends 4 (some .int) 4 0 0 [.ref m] n (mh m w g) (MPo m n g (friendsS σ)) := by
  refine Ct.intro (k := 3) [some (.ref m), none, none, none] (by decide) (Nat.le_of_ble_eq_true rfl) rfl fun z hz hin => ?_
  obtain ⟨j, e, K⟩ := h.1
  have h6 := K.l6
  unfold friendsS at hz
  refine r_aload_0 (q := 1) dX2_friends_0 rfl ?_
  refine r_iconst 0 (by decide) (q := 2) dX2_friends_1 rfl ?_
  refine r_put gf_X2_65_2 cl_ok_2 ft_2_7 mh_o (Nat.le_of_ble_eq_true rfl) rfl rfl (q := 5) dX2_friends_2 rfl ?_
  refine J.heap mset_f7 ?_
  refine r_iconst 0 (by decide) (q := 6) dX2_friends_5 rfl ?_
  refine r_istore_1 (by decide) rfl (q := 7) dX2_friends_6 rfl ?_
  refine r_iconst 0 (by decide) (q := 8) dX2_friends_7 rfl ?_
  refine r_istore_2 (by decide) rfl (q := 9) dX2_friends_8 rfl ?_
  refine forJ (f := friI σ.1) (σ := Int32) σ.1.1.length (fun _ => True) (fun a s => ∀ o3 : Option Value, J G z cX2_friends 4 RX2 4 0 0 0 0 9 [some (.ref m), some (.int s), some (.int (nI a)), o3] [] n (mh m (sf7 w 0) g)) (a0 := 0) (s0 := 0) (Nat.zero_le _) trivial (fun s _ hs o3 => ?_) (fun a s _ ha _ => ⟨trivial, fun next o3 => ?_⟩) none
  · have hs : s = forR (friI σ.1) 0 σ.1.1.length 0 := hs
    rw [← hs] at hz
    refine r_iload_2 (q := 10) dX2_friends_9 rfl ?_
    refine r_aload_0 (q := 11) dX2_friends_10 rfl ?_
    refine m_getp gf_X2_68_2 K e (q := 14) dX2_friends_11 rfl ?_
    refine r_icmp_ge (q := 17) (tgt := 71) dX2_friends_14 rfl rfl (fun c14 => ?_) (fun c14 => ?_)
    · refine r_iload_1 (q := 72) dX2_friends_71 rfl ?_
      exact r_iret hz dX2_friends_72 (Nat.le_refl _) (Nat.le_refl _) (.of rfl (h.th 0))
    · exact absurd (Int32.le_refl _) c14
  · refine r_iload_2 (q := 10) dX2_friends_9 rfl ?_
    refine r_aload_0 (q := 11) dX2_friends_10 rfl ?_
    refine m_getp gf_X2_68_2 K e (q := 14) dX2_friends_11 rfl ?_
    refine r_icmp_ge (q := 17) (tgt := 71) dX2_friends_14 rfl rfl (fun c14 => ?_) (fun c14 => ?_)
    · exact absurd c14 (nI_not_lt ha (by omega))
    refine r_iload_2 (q := 18) dX2_friends_17 rfl ?_
    refine r_iconst 1 (by decide) (q := 19) dX2_friends_18 rfl ?_
    refine r_iadd (q := 20) dX2_friends_19 rfl ?_
    refine J.topi (nI_1 _) ?_
    refine r_istore_3 (by decide) rfl (q := 21) dX2_friends_20 rfl ?_
    refine forJ (f := friF σ.1 a) (σ := Int32) σ.1.1.length (fun _ => True) (fun b s => J G z cX2_friends 4 RX2 4 0 0 0 0 21 [some (.ref m), some (.int s), some (.int (nI a)), some (.int (nI b))] [] n (mh m (sf7 w 0) g)) (a0 := a + 1) (s0 := s) ha trivial (fun s' _ hs => ?_) (fun b s' _ hb _ => ⟨trivial, fun next' => ?_⟩)
    · refine r_iload_3 (q := 22) dX2_friends_21 rfl ?_
      refine r_aload_0 (q := 23) dX2_friends_22 rfl ?_
      refine m_getp gf_X2_68_2 K e (q := 26) dX2_friends_23 rfl ?_
      refine r_icmp_ge (q := 29) (tgt := 65) dX2_friends_26 rfl rfl (fun c26 => ?_) (fun c26 => ?_)
      · refine r_inc_2 (by decide) rfl (q := 68) dX2_friends_65 rfl ?_
        refine r_goto (q := 9) dX2_friends_68 rfl ?_
        subst hs
        exact next _
      · exact absurd (Int32.le_refl _) c26
    · unfold friF at next'
      have no : ¬(60 ≤ likS σ.1 a b ∧ 60 ≤ likS σ.1 b a) → J G z cX2_friends 4 RX2 4 0 0 0 0 56 [some (.ref m), some (.int s'), some (.int (nI a)), some (.int (nI b))] [.int s'] n (mh m (sf7 w 0) g) := by
        intro hn
        rw [if_neg hn] at next'
        refine r_iconst 0 (by decide) (q := 57) dX2_friends_56 rfl ?_
        refine r_iadd (q := 58) dX2_friends_57 rfl ?_
        refine r_istore_1 (by decide) rfl (q := 59) dX2_friends_58 rfl ?_
        refine r_inc_3 (by decide) rfl (q := 62) dX2_friends_59 rfl ?_
        refine r_goto (q := 21) dX2_friends_62 rfl ?_
        exact next'
      refine r_iload_3 (q := 22) dX2_friends_21 rfl ?_
      refine r_aload_0 (q := 23) dX2_friends_22 rfl ?_
      refine m_getp gf_X2_68_2 K e (q := 26) dX2_friends_23 rfl ?_
      refine r_icmp_ge (q := 29) (tgt := 65) dX2_friends_26 rfl rfl (fun c26 => ?_) (fun c26 => ?_)
      · exact absurd c26 (nI_not_lt hb (by omega))
      refine r_iload_1 (q := 30) dX2_friends_29 rfl ?_
      refine r_aload_0 (q := 31) dX2_friends_30 rfl ?_
      refine r_iload_2 (q := 32) dX2_friends_31 rfl ?_
      refine r_iload_3 (q := 33) dX2_friends_32 rfl ?_
      refine r_callV_2 cv_X2_90 mh_o rfl (by decide) (Nat.le_of_ble_eq_true rfl) ⟨Nat.le_refl _, Nat.le_refl _⟩ (k_X2_likesOf K e (by omega) (by omega)) (q := 36) dX2_friends_33 rfl ?_
      refine r_bipush 60 (by decide) (q := 38) dX2_friends_36 rfl ?_
      refine r_icmp_lt (q := 41) (tgt := 56) dX2_friends_38 rfl rfl (fun c38 => ?_) (fun c38 => ?_)
      · exact no (fun q => absurd q.1 (Int32.not_le.mpr c38))
      refine r_aload_0 (q := 42) dX2_friends_41 rfl ?_
      refine r_iload_3 (q := 43) dX2_friends_42 rfl ?_
      refine r_iload_2 (q := 44) dX2_friends_43 rfl ?_
      refine r_callV_2 cv_X2_90 mh_o rfl (by decide) (Nat.le_of_ble_eq_true rfl) ⟨Nat.le_refl _, Nat.le_refl _⟩ (k_X2_likesOf K e (by omega) (by omega)) (q := 47) dX2_friends_44 rfl ?_
      refine r_bipush 60 (by decide) (q := 49) dX2_friends_47 rfl ?_
      refine r_icmp_lt (q := 52) (tgt := 56) dX2_friends_49 rfl rfl (fun c49 => ?_) (fun c49 => ?_)
      · exact no (fun q => absurd q.2 (Int32.not_le.mpr c49))
      · rw [if_pos ⟨Int32.not_lt.mp c38, Int32.not_lt.mp c49⟩] at next'
        refine r_iconst 1 (by decide) (q := 53) dX2_friends_52 rfl ?_
        refine r_goto (q := 57) dX2_friends_53 rfl ?_
        refine r_iadd (q := 58) dX2_friends_57 rfl ?_
        refine r_istore_1 (by decide) rfl (q := 59) dX2_friends_58 rfl ?_
        refine r_inc_3 (by decide) rfl (q := 62) dX2_friends_59 rfl ?_
        refine r_goto (q := 21) dX2_friends_62 rfl ?_
        exact next'
theorem k_X2_enemy {p : Int32} (h : MR w σ) : Ct G yX2_enemy cX2_enemy 4 (some .int) 4 0 0 [.ref m, .int p] n (mh m w g) (MPo m n g (enemyS σ p)) := by
  refine Ct.intro (k := 2) [some (.ref m), some (.int p), none, none] (by decide) (Nat.le_of_ble_eq_true rfl) rfl fun z hz hin => ?_
  obtain ⟨j, e, K⟩ := h.1
  have h6 := K.l6
  unfold enemyS at hz
  refine r_aload_0 (q := 1) dX2_enemy_0 rfl ?_
  refine r_iconst 0 (by decide) (q := 2) dX2_enemy_1 rfl ?_
  refine r_put gf_X2_65_2 cl_ok_2 ft_2_7 mh_o (Nat.le_of_ble_eq_true rfl) rfl rfl (q := 5) dX2_enemy_2 rfl ?_
  refine J.heap mset_f7 ?_
  refine r_aload_0 (q := 6) dX2_enemy_5 rfl ?_
  refine r_iload_1 (q := 7) dX2_enemy_6 rfl ?_
  refine r_callV_1 cv_X2_75 mh_o rfl (by decide) (Nat.le_of_ble_eq_true rfl) ⟨Nat.le_refl _, Nat.le_refl _⟩ (k_X2_isOne K e) (q := 10) dX2_enemy_7 rfl ?_
  refine r_if_ne (q := 13) (tgt := 19) dX2_enemy_10 rfl rfl (fun c10 => ?_) (fun c10 => ?_)
  · have hp := bI_n0.mp c10
    rw [if_pos hp] at hz
    obtain ⟨i, hi, rfl⟩ := isPer_t K.lens hp
    rw [cl_nI (by omega)] at hz
    refine r_bipush (-9) (by decide) (q := 21) dX2_enemy_19 rfl ?_
    refine r_istore_2 (by decide) rfl (q := 22) dX2_enemy_21 rfl ?_
    refine r_iconst 0 (by decide) (q := 23) dX2_enemy_22 rfl ?_
    refine r_istore_3 (by decide) rfl (q := 24) dX2_enemy_23 rfl ?_
    refine forJ (f := eneF σ.1 i) (σ := Option Nat) σ.1.1.length (fun s => ∀ k, s = some k → k < σ.1.1.length) (fun a s => J G z cX2_enemy 4 RX2 4 0 0 0 0 24 [some (.ref m), some (.int (nI i)), some (.int (mI s)), some (.int (nI a))] [] n (mh m (sf7 w 0) g)) (a0 := 0) (s0 := none) (Nat.zero_le _) (fun k e => by cases e) (fun s hk hs => ?_) (fun a s _ ha hk => ⟨?_, fun next => ?_⟩)
    · have hs : s = eneS σ.1 i := hs
      rw [← hs] at hz
      refine r_iload_3 (q := 25) dX2_enemy_24 rfl ?_
      refine r_aload_0 (q := 26) dX2_enemy_25 rfl ?_
      refine m_getp gf_X2_68_2 K e (q := 29) dX2_enemy_26 rfl ?_
      refine r_icmp_ge (q := 32) (tgt := 68) dX2_enemy_29 rfl rfl (fun c29 => ?_) (fun c29 => ?_)
      · refine r_iload_2 (q := 69) dX2_enemy_68 rfl ?_
        exact r_iret hz dX2_enemy_69 (Nat.le_refl _) (Nat.le_refl _) (.of rfl (h.th 0))
      · exact absurd (Int32.le_refl _) c29
    · intro k e
      unfold eneF at e
      split at e
      · exact hk k e
      · split at e
        · cases e; exact ha
        · split at e
          · cases e; exact ha
          · exact hk k e
    · have take : eneF σ.1 i a s = some a → ∀ s0 : Option Nat, J G z cX2_enemy 4 RX2 4 0 0 0 0 56 [some (.ref m), some (.int (nI i)), some (.int (mI s0)), some (.int (nI a))] [] n (mh m (sf7 w 0) g) := by
        intro e s0
        rw [e] at next
        refine r_iload_3 (q := 57) dX2_enemy_56 rfl ?_
        refine r_goto (q := 61) dX2_enemy_57 rfl ?_
        refine r_istore_2 (by decide) rfl (q := 62) dX2_enemy_61 rfl ?_
        refine r_inc_3 (by decide) rfl (q := 65) dX2_enemy_62 rfl ?_
        refine r_goto (q := 24) dX2_enemy_65 rfl ?_
        exact next
      have keep : eneF σ.1 i a s = s → J G z cX2_enemy 4 RX2 4 0 0 0 0 60 [some (.ref m), some (.int (nI i)), some (.int (mI s)), some (.int (nI a))] [] n (mh m (sf7 w 0) g) := by
        intro e
        rw [e] at next
        refine r_iload_2 (q := 61) dX2_enemy_60 rfl ?_
        refine r_istore_2 (by decide) rfl (q := 62) dX2_enemy_61 rfl ?_
        refine r_inc_3 (by decide) rfl (q := 65) dX2_enemy_62 rfl ?_
        refine r_goto (q := 24) dX2_enemy_65 rfl ?_
        exact next
      refine r_iload_3 (q := 25) dX2_enemy_24 rfl ?_
      refine r_aload_0 (q := 26) dX2_enemy_25 rfl ?_
      refine m_getp gf_X2_68_2 K e (q := 29) dX2_enemy_26 rfl ?_
      refine r_icmp_ge (q := 32) (tgt := 68) dX2_enemy_29 rfl rfl (fun c29 => ?_) (fun c29 => ?_)
      · exact absurd c29 (nI_not_lt ha (by omega))
      refine r_iload_3 (q := 33) dX2_enemy_32 rfl ?_
      refine r_iload_1 (q := 34) dX2_enemy_33 rfl ?_
      refine r_icmp_eq (q := 37) (tgt := 60) dX2_enemy_34 rfl rfl (fun c34 => ?_) (fun c34 => ?_)
      · exact keep (if_pos (nI_inj (by omega) (by omega) c34))
      have hap : a ≠ i := fun e => c34 (by rw [e])
      refine r_iload_2 (q := 38) dX2_enemy_37 rfl ?_
      cases s with
      | none =>
        refine r_if_lt (q := 41) (tgt := 56) dX2_enemy_38 rfl rfl (fun c38 => ?_) (fun c38 => ?_)
        · exact take (if_neg hap) _
        · exact absurd mI_neg c38
      | some k =>
        have hk' := hk k rfl
        have u1 := K.qr99 i a
        have u2 := K.qr99 i k
        refine r_if_lt (q := 41) (tgt := 56) dX2_enemy_38 rfl rfl (fun c38 => ?_) (fun c38 => ?_)
        · exact absurd c38 (nI_pos (by omega))
        refine r_aload_0 (q := 42) dX2_enemy_41 rfl ?_
        refine r_iload_1 (q := 43) dX2_enemy_42 rfl ?_
        refine r_iload_3 (q := 44) dX2_enemy_43 rfl ?_
        refine r_callV_2 cv_X2_79 mh_o rfl (by decide) (Nat.le_of_ble_eq_true rfl) ⟨Nat.le_refl _, Nat.le_refl _⟩ (k_X2_quarrelOf K e (by omega) (by omega)) (q := 47) dX2_enemy_44 rfl ?_
        refine r_aload_0 (q := 48) dX2_enemy_47 rfl ?_
        refine r_iload_1 (q := 49) dX2_enemy_48 rfl ?_
        refine r_iload_2 (q := 50) dX2_enemy_49 rfl ?_
        refine J.topi (show mI (some k) = nI k from rfl) ?_
        refine r_callV_2 cv_X2_79 mh_o rfl (by decide) (Nat.le_of_ble_eq_true rfl) ⟨Nat.le_refl _, Nat.le_refl _⟩ (k_X2_quarrelOf K e (by omega) (by omega)) (q := 53) dX2_enemy_50 rfl ?_
        refine r_icmp_le (q := 56) (tgt := 60) dX2_enemy_53 rfl rfl (fun c53 => ?_) (fun c53 => ?_)
        · have := (nI_leI (by omega) (by omega)).mp c53
          exact keep ((if_neg hap).trans (if_neg (by omega)))
        · have : qr σ.1 i k < qr σ.1 i a := by
            rcases Nat.lt_or_ge (qr σ.1 i k) (qr σ.1 i a) with z | z
            · exact z
            · exact absurd (nI_le z (by omega)) c53
          exact take ((if_neg hap).trans (if_pos this)) _
  · rw [if_neg (by rw [bI_0.mp c10]; decide)] at hz
    refine r_aload_0 (q := 14) dX2_enemy_13 rfl ?_
    refine r_iconst (-1) (by decide) (q := 15) dX2_enemy_14 rfl ?_
    refine r_callV_1 cv_X2_128 mh_o rfl (by decide) (Nat.le_of_ble_eq_true rfl) ⟨Nat.le_refl _, Nat.le_refl _⟩ (k_X2_refuse isC_1 (h.th 0).l6) (q := 18) dX2_enemy_15 rfl ?_
    exact r_iret hz dX2_enemy_18 (Nat.le_refl _) (Nat.le_refl _) (.of rfl ((h.th 0).refuse _))
end MO5


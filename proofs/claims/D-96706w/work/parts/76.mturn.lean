/-! ===== what is taken back, the image ===== -/
theorem ix62 (a b : Nat) : (62 : Int32) * nI a + nI b = nI (62 * a + b) := by
  rw [show (62 : Int32) = nI 62 from rfl, pk_mul, nI_add]
theorem cp_get {E : List Int32} {t idx : Nat} : ∀ (c i : Nat) (l : List Int32), 62 * t + i + c ≤ l.length → (forR (fun k l => l.set (62 * t + k) (E.getD k 0)) i c l).getD idx 0 = if 62 * t + i ≤ idx ∧ idx < 62 * t + i + c then E.getD (idx - 62 * t) 0 else l.getD idx 0
  | 0, i, l, _ => by rw [forR_0, if_neg (by omega)]
  | c + 1, i, l, h => by
    rw [forR_s, cp_get c (i + 1) _ (by rw [List.length_set]; omega), getD_set]
    by_cases h1 : idx = 62 * t + i
    · rw [if_neg (by omega), if_pos ⟨h1, by omega⟩, if_pos (by omega)]
      congr 1
      omega
    · by_cases h2 : 62 * t + i ≤ idx ∧ idx < 62 * t + i + (c + 1)
      · rw [if_pos (by omega), if_pos h2]
      · rw [if_neg (by omega), if_neg (fun q => h1 q.1), if_neg h2]
theorem bk_get {L : List Int32} {t idx : Nat} : ∀ (c i : Nat) (l : List Int32), i + c ≤ l.length → (forR (fun k l => l.set k (L.getD (62 * t + k) 0)) i c l).getD idx 0 = if i ≤ idx ∧ idx < i + c then L.getD (62 * t + idx) 0 else l.getD idx 0
  | 0, i, l, _ => by rw [forR_0, if_neg (by omega)]
  | c + 1, i, l, h => by
    rw [forR_s, bk_get c (i + 1) _ (by rw [List.length_set]; omega), getD_set]
    by_cases h1 : idx = i
    · subst h1
      rw [if_neg (by omega), if_pos ⟨rfl, by omega⟩, if_pos (by omega)]
    · by_cases h2 : i ≤ idx ∧ idx < i + (c + 1)
      · rw [if_pos (by omega), if_pos h2]
      · rw [if_neg (by omega), if_neg (fun q => h1 q.1), if_neg h2]
theorem eq_enc {l : List Int32} {D : SM} (hl : l.length = 62) (h : ∀ i, i < 62 → l.getD i 0 = encF D i) : l = encS D := by
  apply List.ext_getElem?
  intro i
  rcases Nat.lt_or_ge i 62 with hi | hi
  · have e1 := h i hi
    rw [← encS_get D hi, List.getD_eq_getElem?_getD, List.getD_eq_getElem?_getD, List.getElem?_eq_getElem (by omega), List.getElem?_eq_getElem (by rw [encS_len]; exact hi)] at e1
    rw [List.getElem?_eq_getElem (by omega), List.getElem?_eq_getElem (by rw [encS_len]; exact hi)]
    exact congrArg some e1
  · rw [List.getElem?_eq_none (by omega), List.getElem?_eq_none (by rw [encS_len]; exact hi)]
theorem sub62 (i : Nat) : nI (62 + i) - 62 = nI i := by
  rw [Nat.add_comm, ← nI_add]
  exact Int32.add_sub_cancel (nI i) (nI 62)
section MT
variable {G : GD} {n m : Nat} {w : MW} {g : RH} {σ : SG} {j : List PP}
theorem MR.push {st : List SQ} {l : List Int32} {v : Int32} {tk : Int32} {i : Nat} (h : MR w (σ.1, σ.2.1, st, σ.2.2.2)) (e : w.1 = mS σ.1 j) (K : OKM σ.1 j) (h8 : st.length < 8) (hl : l.length = 496) (hv : v = nI (st.length + 1)) (hg : ∀ idx, l.getD idx 0 = if 62 * st.length ≤ idx ∧ idx < 62 * st.length + 62 then (encS (mS σ.1 j)).getD (idx - 62 * st.length) 0 else (ma13 w).getD idx 0) : MR (sf25 (sa13 (cw14 m w tk (mS σ.1 j) (encS (mS σ.1 j)) i) l) v) (σ.1, σ.2.1, st ++ [σ.1], σ.2.2.2) := by
  obtain ⟨a1, a2, ⟨b1, b2, b3, b4, b5, b6⟩, a4⟩ := h
  refine ⟨⟨j, rfl, K⟩, a2, ⟨b1, b2, b3, ⟨hl, by rw [List.length_append]; exact hv, by rw [List.length_append]; show st.length + 1 ≤ 8; omega, fun k hk => ?_⟩, b5, b6⟩, ⟨a4.1, a4.2.1, a4.2.2.1, a4.2.2.2.1, encS_len _, a4.2.2.2.2.2⟩⟩
  show ∃ j, OKM ((st ++ [σ.1]).getD k S0) j ∧ _ ∧ _
  have hk' : k < st.length + 1 := by rw [List.length_append] at hk; exact hk
  rcases Nat.lt_succ_iff_lt_or_eq.mp hk' with z | z
  · have e2 : (st ++ [σ.1]).getD k S0 = st.getD k S0 := by
      simp only [List.getD_eq_getElem?_getD]
      rw [List.getElem?_append_left z]
    rw [e2]
    obtain ⟨j', c1, c2, c3⟩ := b4.2.2.2 k z
    refine ⟨j', c1, c2, fun i hi => ?_⟩
    show l.getD (62 * k + i) 0 = _
    rw [hg, if_neg (by omega)]
    exact c3 i hi
  · subst z
    have e2 : (st ++ [σ.1]).getD st.length S0 = σ.1 := by simp
    rw [e2]
    refine ⟨j, K, a2, fun i hi => ?_⟩
    show l.getD (62 * st.length + i) 0 = _
    rw [hg, if_pos (by omega), show 62 * st.length + i - 62 * st.length = i by omega, encS_get _ hi]
theorem k_X2_keepTurn (h : MR w σ) : Ct G yX2_keepTurn cX2_keepTurn 2 none 3 0 0 [.ref m] n (mh m w g) (fun r n' h' => r = none ∧ n' = n ∧ ∃ w', h' = mh m w' g ∧ MR w' (remS σ)) := by
  refine Ct.intro (k := 1) [some (.ref m), none] (by decide) (Nat.le_of_ble_eq_true rfl) rfl fun z hz hin => ?_
  obtain ⟨j, e, K⟩ := h.1
  have last : ∀ (w1 : MW) (st : List SQ) (o1 : Option Value), lc2 o1 = false → MR w1 (σ.1, σ.2.1, st, σ.2.2.2) → w1.1 = mS σ.1 j → st.length < 8 → st ++ [σ.1] = (remS σ).2.2.1 → J G z cX2_keepTurn 2 RX2 3 0 0 0 0 50 [some (.ref m), o1] [] n (mh m w1 g) := by
    intro w1 st o1 ho h1 e1 h2 h3
    obtain ⟨b1, b2, b3, b4⟩ := h1.st
    have b2 : mf25 w1 = nI st.length := b2
    have eD := encS_len (mS σ.1 j)
    refine r_aload_0 (q := 51) dX2_keepTurn_50 rfl ?_
    refine r_aload_0 (q := 52) dX2_keepTurn_51 rfl ?_
    refine r_get gf_X2_49_2 mh_o rfl (q := 55) dX2_keepTurn_52 rfl ?_
    refine r_iconst 1 (by decide) (q := 56) dX2_keepTurn_55 rfl ?_
    refine r_callVv_2 cv_X2_202 mh_o rfl (by decide) (Nat.le_of_ble_eq_true rfl) ⟨Nat.le_refl _, Nat.le_refl _⟩ (k_X2_carryAll_14 (D := mS σ.1 j) (by rw [e1]; exact K.lm) K.lm h1.ln.2.2.2.2.1 (Or.inl ⟨rfl, e1.symm⟩)) (q := 59) dX2_keepTurn_56 rfl ?_
    refine r_iconst 0 (by decide) (q := 60) dX2_keepTurn_59 rfl ?_
    refine r_istore_1 (by decide) rfl (q := 61) dX2_keepTurn_60 rfl ?_
    refine J.heap (h2 := mh m (sa13 (cw14 m w1 1 (mS σ.1 j) (encS (mS σ.1 j)) 62) (ma13 w1)) g) rfl ?_
    refine forJ (f := fun k l => l.set (62 * st.length + k) ((encS (mS σ.1 j)).getD k 0)) (σ := List Int32) 62 (fun l => l.length = 496) (fun k l => J G z cX2_keepTurn 2 RX2 3 0 0 0 0 61 [some (.ref m), some (.int (nI k))] [] n (mh m (sa13 (cw14 m w1 1 (mS σ.1 j) (encS (mS σ.1 j)) 62) l) g)) (a0 := 0) (s0 := ma13 w1) (by decide) b1 (fun l hl hs => ?_) (fun k l _ hk hl => ⟨(List.length_set ..).trans hl, fun next => ?_⟩)
    · refine r_iload_1 (q := 62) dX2_keepTurn_61 rfl ?_
      refine r_bipush 62 (by decide) (q := 64) dX2_keepTurn_62 rfl ?_
      refine r_icmp_ge (q := 67) (tgt := 93) dX2_keepTurn_64 rfl rfl (fun c64 => ?_) (fun c64 => ?_)
      · refine r_aload_0 (q := 94) dX2_keepTurn_93 rfl ?_
        refine r_dup rfl (q := 95) dX2_keepTurn_94 rfl ?_
        refine r_get gf_X2_187_2 mh_o rfl (q := 98) dX2_keepTurn_95 rfl ?_
        refine r_iconst 1 (by decide) (q := 99) dX2_keepTurn_98 rfl ?_
        refine r_iadd (q := 100) dX2_keepTurn_99 rfl ?_
        refine r_put gf_X2_187_2 cl_ok_2 ft_2_25 mh_o (Nat.le_of_ble_eq_true rfl) rfl rfl (q := 103) dX2_keepTurn_100 rfl ?_
        refine J.heap mset_f25 ?_
        refine r_vret hz dX2_keepTurn_103 (Nat.le_refl _) (Nat.le_refl _) ⟨rfl, rfl, _, rfl, ?_⟩
        have hp := MR.push (m := m) (tk := 1) (i := 62) h1 e1 K h2 hl (v := mf25 w1 + 1) (by rw [b2, nI_1]) (fun idx => by rw [hs]; exact cp_get 62 0 (ma13 w1) (by rw [b1]; omega))
        have e9 : remS σ = (σ.1, σ.2.1, st ++ [σ.1], σ.2.2.2) := by
          rw [h3]
          rfl
        rw [e9]
        exact hp
      · exact absurd (nI_le (a := 62) (b := 62) (by omega) (by omega)) c64
    · refine r_iload_1 (q := 62) dX2_keepTurn_61 rfl ?_
      refine r_bipush 62 (by decide) (q := 64) dX2_keepTurn_62 rfl ?_
      refine r_icmp_ge (q := 67) (tgt := 93) dX2_keepTurn_64 rfl rfl (fun c64 => ?_) (fun c64 => ?_)
      · exact absurd c64 (nI_ge (b := 62) hk (by omega))
      refine r_aload_0 (q := 68) dX2_keepTurn_67 rfl ?_
      refine r_get gf_X2_46_2 mh_o rfl (q := 71) dX2_keepTurn_68 rfl ?_
      refine r_bipush 62 (by decide) (q := 73) dX2_keepTurn_71 rfl ?_
      refine r_aload_0 (q := 74) dX2_keepTurn_73 rfl ?_
      refine r_get gf_X2_187_2 mh_o rfl (q := 77) dX2_keepTurn_74 rfl ?_
      refine r_imul (q := 78) dX2_keepTurn_77 rfl ?_
      refine r_iload_1 (q := 79) dX2_keepTurn_78 rfl ?_
      refine r_iadd (q := 80) dX2_keepTurn_79 rfl ?_
      refine r_aload_0 (q := 81) dX2_keepTurn_80 rfl ?_
      refine r_get gf_X2_49_2 mh_o rfl (q := 84) dX2_keepTurn_81 rfl ?_
      refine r_iload_1 (q := 85) dX2_keepTurn_84 rfl ?_
      refine r_iald k 62 mh_14 eD rfl hk (by decide) (q := 86) dX2_keepTurn_85 rfl ?_
      refine r_iast (62 * st.length + k) 496 mh_13 hl (show 62 * mf25 w1 + nI k = _ by rw [b2]; exact ix62 _ _) (by omega) (by decide) (q := 87) dX2_keepTurn_86 rfl ?_
      refine J.heap mset_13 ?_
      refine r_inc_1 (by decide) rfl (q := 90) dX2_keepTurn_87 rfl ?_
      refine r_goto (q := 61) dX2_keepTurn_90 rfl ?_
      exact next
  obtain ⟨b1, b2, b3, b4⟩ := h.st
  have b2 : mf25 w = nI σ.2.2.1.length := b2
  refine r_aload_0 (q := 1) dX2_keepTurn_0 rfl ?_
  refine r_get gf_X2_187_2 mh_o rfl (q := 4) dX2_keepTurn_1 rfl ?_
  refine r_bipush 8 (by decide) (q := 6) dX2_keepTurn_4 rfl ?_
  refine J.stk (s2 := [.int 8, .int (nI σ.2.2.1.length)]) (by show [Value.int 8, .int (mf25 w)] = _; rw [b2]) ?_
  refine r_icmp_ne (q := 9) (tgt := 50) dX2_keepTurn_6 rfl rfl (fun c6 => ?_) (fun c6 => ?_)
  · have hne : σ.2.2.1.length ≠ 8 := fun q => c6 (by rw [q]; rfl)
    exact last w σ.2.2.1 _ rfl h e (by omega) (by unfold remS; rw [if_neg hne])
  · have he : σ.2.2.1.length = 8 := nI_inj (b := 8) (by omega) (by omega) c6
    have hE : ((ma13 w).drop 62 ++ (ma13 w).drop 434).length = (ma13 w).length := by
      rw [List.length_append, List.length_drop, List.length_drop, b1]
    have hEg : ∀ i, i < 434 → ((ma13 w).drop 62 ++ (ma13 w).drop 434).getD i 0 = (ma13 w).getD (62 + i) 0 := by
      intro i hi
      simp only [List.getD_eq_getElem?_getD]
      rw [List.getElem?_append_left (by rw [List.length_drop, b1]; omega), List.getElem?_drop]
    refine r_bipush 62 (by decide) (q := 11) dX2_keepTurn_9 rfl ?_
    refine r_istore_1 (by decide) rfl (q := 12) dX2_keepTurn_11 rfl ?_
    refine J.heap (h2 := mh m (sa13 w (mixL 0 ((ma13 w).drop 62 ++ (ma13 w).drop 434) (ma13 w))) g) (by rw [mixL_0]; rfl) ?_
    refine upto (P := fun i => J G z cX2_keepTurn 2 RX2 3 0 0 0 0 12 [some (.ref m), some (.int (nI (62 + i)))] [] n (mh m (sa13 w (mixL i ((ma13 w).drop 62 ++ (ma13 w).drop 434) (ma13 w))) g)) 434 ?_ (fun i hi next => ?_) 0 (by decide)
    · refine r_iload_1 (q := 13) dX2_keepTurn_12 rfl ?_
      refine r_sipush 496 (by decide) (q := 16) dX2_keepTurn_13 rfl ?_
      refine r_icmp_ge (q := 19) (tgt := 40) dX2_keepTurn_16 rfl rfl (fun c16 => ?_) (fun c16 => ?_)
      · refine r_aload_0 (q := 41) dX2_keepTurn_40 rfl ?_
        refine r_dup rfl (q := 42) dX2_keepTurn_41 rfl ?_
        refine r_get gf_X2_187_2 mh_o rfl (q := 45) dX2_keepTurn_42 rfl ?_
        refine r_iconst 1 (by decide) (q := 46) dX2_keepTurn_45 rfl ?_
        refine r_isub (q := 47) dX2_keepTurn_46 rfl ?_
        refine r_put gf_X2_187_2 cl_ok_2 ft_2_25 mh_o (Nat.le_of_ble_eq_true rfl) rfl rfl (q := 50) dX2_keepTurn_47 rfl ?_
        refine J.heap mset_f25 ?_
        have e7 : mf25 w - 1 = nI 7 := by rw [b2, he]; rfl
        refine last (sf25 (sa13 w (mixL 434 ((ma13 w).drop 62 ++ (ma13 w).drop 434) (ma13 w))) (mf25 w - 1)) (σ.2.2.1.drop 1) _ rfl ?_ e (by rw [List.length_drop, he]; decide) (by unfold remS; rw [if_pos he])
        obtain ⟨a1, a2, ⟨c1, c2, c3, c4, c5, c6⟩, a4⟩ := h
        refine ⟨a1, a2, ⟨c1, c2, c3, ⟨(mixL_len hE (by rw [b1]; decide)).trans b1, by rw [List.length_drop, he]; exact e7, by rw [List.length_drop, he]; decide, fun k hk => ?_⟩, c5, c6⟩, a4⟩
        have hk' : k < 7 := by
          have : k < (σ.2.2.1.drop 1).length := hk
          rw [List.length_drop, he] at this
          exact this
        have e2 : (σ.2.2.1.drop 1).getD k S0 = σ.2.2.1.getD (k + 1) S0 := by
          simp only [List.getD_eq_getElem?_getD, List.getElem?_drop, Nat.add_comm]
        show ∃ j, OKM ((σ.2.2.1.drop 1).getD k S0) j ∧ _ ∧ _
        rw [e2]
        obtain ⟨j', d1, d2, d3⟩ := b4 (k + 1) (by omega)
        refine ⟨j', d1, d2, fun i hi => ?_⟩
        show (mixL 434 ((ma13 w).drop 62 ++ (ma13 w).drop 434) (ma13 w)).getD (62 * k + i) 0 = _
        rw [mixL_low hE (by omega) (by rw [b1]; decide), hEg _ (by omega), ← d3 i hi]
        congr 1
        omega
      · exact absurd (nI_le (a := 496) (b := 62 + 434) (by omega) (by omega)) c16
    · have hlen := mixL_len (k := i) hE (by rw [b1]; omega)
      refine r_iload_1 (q := 13) dX2_keepTurn_12 rfl ?_
      refine r_sipush 496 (by decide) (q := 16) dX2_keepTurn_13 rfl ?_
      refine r_icmp_ge (q := 19) (tgt := 40) dX2_keepTurn_16 rfl rfl (fun c16 => ?_) (fun c16 => ?_)
      · exact absurd c16 (nI_ge (a := 62 + i) (b := 496) (by omega) (by omega))
      refine r_aload_0 (q := 20) dX2_keepTurn_19 rfl ?_
      refine r_get gf_X2_46_2 mh_o rfl (q := 23) dX2_keepTurn_20 rfl ?_
      refine r_iload_1 (q := 24) dX2_keepTurn_23 rfl ?_
      refine r_bipush 62 (by decide) (q := 26) dX2_keepTurn_24 rfl ?_
      refine r_isub (q := 27) dX2_keepTurn_26 rfl ?_
      refine J.topi (sub62 i) ?_
      refine r_aload_0 (q := 28) dX2_keepTurn_27 rfl ?_
      refine r_get gf_X2_46_2 mh_o rfl (q := 31) dX2_keepTurn_28 rfl ?_
      refine r_iload_1 (q := 32) dX2_keepTurn_31 rfl ?_
      refine r_iald (62 + i) 496 mh_13 (hlen.trans b1) rfl (by omega) (by decide) (q := 33) dX2_keepTurn_32 rfl ?_
      refine r_iast i 496 mh_13 (hlen.trans b1) rfl (by omega) (by decide) (q := 34) dX2_keepTurn_33 rfl ?_
      refine J.heap mset_13 ?_
      refine J.heap (h2 := mh m (sa13 w (mixL (i + 1) ((ma13 w).drop 62 ++ (ma13 w).drop 434) (ma13 w))) g) ?_ ?_
      · have e1 : (mixL i ((ma13 w).drop 62 ++ (ma13 w).drop 434) (ma13 w)).getD (62 + i) 0 = ((ma13 w).drop 62 ++ (ma13 w).drop 434).getD i 0 := by
          rw [mixL_get hE (by omega) (by rw [b1]; omega), hEg i hi]
        show mh m (sa13 w ((mixL i _ (ma13 w)).set i ((mixL i ((ma13 w).drop 62 ++ (ma13 w).drop 434) (ma13 w)).getD (62 + i) 0))) g = _
        rw [e1, mixL_set hE (by rw [b1]; omega)]
      refine r_inc_1 (by decide) rfl (q := 37) dX2_keepTurn_34 rfl ?_
      refine r_goto (q := 12) dX2_keepTurn_37 rfl ?_
      exact next
theorem MRs.last {l : List Int32} {t : Int32} {st : List SQ} (h : MRs l t st) {v : Int32} (hs : 0 < st.length) (hv : v = nI (st.length - 1)) : MRs l v st.dropLast := by
  obtain ⟨b1, b2, b3, b4⟩ := h
  refine ⟨b1, by rw [List.length_dropLast]; exact hv, by rw [List.length_dropLast]; omega, fun k hk => ?_⟩
  rw [List.length_dropLast] at hk
  have e2 : st.dropLast.getD k S0 = st.getD k S0 := by
    simp only [List.getD_eq_getElem?_getD, List.getElem?_dropLast]
    rw [if_pos hk]
  rw [e2]
  exact b4 k (by omega)
theorem k_X2_back (h : MR w σ) : Ct G yX2_back cX2_back 2 (some .int) 3 0 0 [.ref m] n (mh m w g) (MPo m n g (backS σ)) := by
  refine Ct.intro (k := 1) [some (.ref m), none] (by decide) (Nat.le_of_ble_eq_true rfl) rfl fun z hz hin => ?_
  obtain ⟨j, e, K⟩ := h.1
  obtain ⟨b1, b2, b3, b4⟩ := h.st
  have b2 : mf25 w = nI σ.2.2.1.length := b2
  refine r_aload_0 (q := 1) dX2_back_0 rfl ?_
  refine r_iconst 0 (by decide) (q := 2) dX2_back_1 rfl ?_
  refine r_put gf_X2_65_2 cl_ok_2 ft_2_7 mh_o (Nat.le_of_ble_eq_true rfl) rfl rfl (q := 5) dX2_back_2 rfl ?_
  refine J.heap mset_f7 ?_
  refine r_aload_0 (q := 6) dX2_back_5 rfl ?_
  refine r_get gf_X2_187_2 mh_o rfl (q := 9) dX2_back_6 rfl ?_
  refine J.topi (x := mf25 w) b2 ?_
  refine r_if_ne (q := 12) (tgt := 19) dX2_back_9 rfl rfl (fun c9 => ?_) (fun c9 => ?_)
  · have hs : 0 < σ.2.2.1.length := Nat.pos_of_ne_zero (fun q => c9 (by rw [q]; rfl))
    have e9 : mf25 w - 1 = nI (σ.2.2.1.length - 1) := by
      rw [b2]
      obtain ⟨k, hk⟩ : ∃ k, σ.2.2.1.length = k + 1 := ⟨σ.2.2.1.length - 1, by omega⟩
      rw [hk]
      exact nI_pred k
    obtain ⟨j', d1, d2, d3⟩ := b4 (σ.2.2.1.length - 1) (by omega)
    have e0 : backS σ = (nI (σ.2.2.1.length - 1), (σ.2.2.1.getD (σ.2.2.1.length - 1) S0, σ.2.1, σ.2.2.1.dropLast, σ.2.2.2)) := if_neg (by omega)
    rw [e0] at hz
    refine r_aload_0 (q := 20) dX2_back_19 rfl ?_
    refine r_dup rfl (q := 21) dX2_back_20 rfl ?_
    refine r_get gf_X2_187_2 mh_o rfl (q := 24) dX2_back_21 rfl ?_
    refine r_iconst 1 (by decide) (q := 25) dX2_back_24 rfl ?_
    refine r_isub (q := 26) dX2_back_25 rfl ?_
    refine r_put gf_X2_187_2 cl_ok_2 ft_2_25 mh_o (Nat.le_of_ble_eq_true rfl) rfl rfl (q := 29) dX2_back_26 rfl ?_
    refine J.heap mset_f25 ?_
    refine r_iconst 0 (by decide) (q := 30) dX2_back_29 rfl ?_
    refine r_istore_1 (by decide) rfl (q := 31) dX2_back_30 rfl ?_
    refine J.heap (h2 := mh m (sa14 (sf25 (sf7 w 0) (mf25 w - 1)) (ma14 w)) g) rfl ?_
    refine forJ (f := fun k l => l.set k ((ma13 w).getD (62 * (σ.2.2.1.length - 1) + k) 0)) (σ := List Int32) 62 (fun l => l.length = 62) (fun k l => J G z cX2_back 2 RX2 3 0 0 0 0 31 [some (.ref m), some (.int (nI k))] [] n (mh m (sa14 (sf25 (sf7 w 0) (mf25 w - 1)) l) g)) (a0 := 0) (s0 := ma14 w) (by decide) h.ln.2.2.2.2.1 (fun l hl hs9 => ?_) (fun k l _ hk hl => ⟨(List.length_set ..).trans hl, fun next => ?_⟩)
    · have el : l = encS (mS (σ.2.2.1.getD (σ.2.2.1.length - 1) S0) j') := eq_enc hl (fun i hi => by rw [hs9, bk_get 62 0 (ma14 w) (by rw [h.ln.2.2.2.2.1]; omega), if_pos (by omega)]; exact d3 i hi)
      refine r_iload_1 (q := 32) dX2_back_31 rfl ?_
      refine r_bipush 62 (by decide) (q := 34) dX2_back_32 rfl ?_
      refine r_icmp_ge (q := 37) (tgt := 63) dX2_back_34 rfl rfl (fun c34 => ?_) (fun c34 => ?_)
      · refine r_aload_0 (q := 64) dX2_back_63 rfl ?_
        refine r_aload_0 (q := 65) dX2_back_64 rfl ?_
        refine r_get gf_X2_49_2 mh_o rfl (q := 68) dX2_back_65 rfl ?_
        refine r_iconst 0 (by decide) (q := 69) dX2_back_68 rfl ?_
        refine r_callVv_2 cv_X2_202 mh_o rfl (by decide) (Nat.le_of_ble_eq_true rfl) ⟨Nat.le_refl _, Nat.le_refl _⟩ (k_X2_carryAll_14 (w := sa14 (sf25 (sf7 w 0) (mf25 w - 1)) l) (D := mS (σ.2.2.1.getD (σ.2.2.1.length - 1) S0) j') (show LM w.1 by rw [e]; exact K.lm) d1.lm hl (Or.inr ⟨rfl, el⟩)) (q := 72) dX2_back_69 rfl ?_
        refine r_aload_0 (q := 73) dX2_back_72 rfl ?_
        refine r_get gf_X2_187_2 mh_o rfl (q := 76) dX2_back_73 rfl ?_
        refine J.topi (x := mf25 w - 1) e9 ?_
        refine r_iret hz dX2_back_76 (Nat.le_refl _) (Nat.le_refl _) (.of rfl ?_)
        obtain ⟨a1, a2, ⟨c1, c2, c3, c4, c5, c6⟩, a4⟩ := h
        exact ⟨⟨j', rfl, d1⟩, d2, ⟨c1, c2, c3, MRs.last c4 hs e9, c5, c6⟩, ⟨a4.1, a4.2.1, a4.2.2.1, a4.2.2.2.1, encS_len _, a4.2.2.2.2.2⟩⟩
      · exact absurd (nI_le (a := 62) (b := 62) (by omega) (by omega)) c34
    · refine r_iload_1 (q := 32) dX2_back_31 rfl ?_
      refine r_bipush 62 (by decide) (q := 34) dX2_back_32 rfl ?_
      refine r_icmp_ge (q := 37) (tgt := 63) dX2_back_34 rfl rfl (fun c34 => ?_) (fun c34 => ?_)
      · exact absurd c34 (nI_ge (b := 62) hk (by omega))
      refine r_aload_0 (q := 38) dX2_back_37 rfl ?_
      refine r_get gf_X2_49_2 mh_o rfl (q := 41) dX2_back_38 rfl ?_
      refine r_iload_1 (q := 42) dX2_back_41 rfl ?_
      refine r_aload_0 (q := 43) dX2_back_42 rfl ?_
      refine r_get gf_X2_46_2 mh_o rfl (q := 46) dX2_back_43 rfl ?_
      refine r_bipush 62 (by decide) (q := 48) dX2_back_46 rfl ?_
      refine r_aload_0 (q := 49) dX2_back_48 rfl ?_
      refine r_get gf_X2_187_2 mh_o rfl (q := 52) dX2_back_49 rfl ?_
      refine r_imul (q := 53) dX2_back_52 rfl ?_
      refine r_iload_1 (q := 54) dX2_back_53 rfl ?_
      refine r_iadd (q := 55) dX2_back_54 rfl ?_
      refine r_iald (62 * (σ.2.2.1.length - 1) + k) 496 mh_13 b1 (show 62 * (mf25 w - 1) + nI k = _ by rw [e9]; exact ix62 _ _) (by omega) (by decide) (q := 56) dX2_back_55 rfl ?_
      refine r_iast k 62 mh_14 hl rfl hk (by decide) (q := 57) dX2_back_56 rfl ?_
      refine J.heap mset_14 ?_
      refine r_inc_1 (by decide) rfl (q := 60) dX2_back_57 rfl ?_
      refine r_goto (q := 31) dX2_back_60 rfl ?_
      exact next
  · have he : σ.2.2.1.length = 0 := nI_inj (b := 0) (by omega) (by omega) c9
    have e0 : backS σ = (-3, rfS σ (-3)) := if_pos he
    rw [e0] at hz
    refine r_aload_0 (q := 13) dX2_back_12 rfl ?_
    refine r_bipush (-3) (by decide) (q := 15) dX2_back_13 rfl ?_
    refine r_callV_1 cv_X2_128 mh_o rfl (by decide) (Nat.le_of_ble_eq_true rfl) ⟨Nat.le_refl _, Nat.le_refl _⟩ (k_X2_refuse isC_3 (h.th 0).l6) (q := 18) dX2_back_15 rfl ?_
    exact r_iret hz dX2_back_18 (Nat.le_refl _) (Nat.le_refl _) (.of rfl ((h.th 0).refuse _))
theorem MRi.len {l : List Int32} {t : Int32} {o : Option SQ} (h : MRi l t o) : l.length = 62 := by
  cases o with
  | none => exact h.2
  | some S =>
    obtain ⟨-, j, -, -, e⟩ := h
    rw [e]
    exact encS_len _
theorem k_X2_image (h : MR w σ) : Ct G yX2_image cX2_image 1 (some .int) 3 0 0 [.ref m] n (mh m w g) (MPo m n g (imageS σ)) := by
  refine Ct.intro (k := 0) [some (.ref m)] (by decide) (Nat.le_of_ble_eq_true rfl) rfl fun z hz hin => ?_
  obtain ⟨j, e, K⟩ := h.1
  refine r_aload_0 (q := 1) dX2_image_0 rfl ?_
  refine r_iconst 0 (by decide) (q := 2) dX2_image_1 rfl ?_
  refine r_put gf_X2_65_2 cl_ok_2 ft_2_7 mh_o (Nat.le_of_ble_eq_true rfl) rfl rfl (q := 5) dX2_image_2 rfl ?_
  refine J.heap mset_f7 ?_
  refine r_aload_0 (q := 6) dX2_image_5 rfl ?_
  refine r_iconst 1 (by decide) (q := 7) dX2_image_6 rfl ?_
  refine r_put gf_X2_206_2 cl_ok_2 ft_2_19 mh_o (Nat.le_of_ble_eq_true rfl) rfl rfl (q := 10) dX2_image_7 rfl ?_
  refine J.heap mset_f19 ?_
  refine r_aload_0 (q := 11) dX2_image_10 rfl ?_
  refine r_aload_0 (q := 12) dX2_image_11 rfl ?_
  refine r_get gf_X2_43_2 mh_o rfl (q := 15) dX2_image_12 rfl ?_
  refine r_iconst 1 (by decide) (q := 16) dX2_image_15 rfl ?_
  refine r_callVv_2 cv_X2_202 mh_o rfl (by decide) (Nat.le_of_ble_eq_true rfl) ⟨Nat.le_refl _, Nat.le_refl _⟩ (k_X2_carryAll_12 (w := sf19 (sf7 w 0) 1) (D := mS σ.1 j) (show LM w.1 by rw [e]; exact K.lm) K.lm h.im.len (Or.inl ⟨rfl, e.symm⟩)) (q := 19) dX2_image_16 rfl ?_
  refine r_aload_0 (q := 20) dX2_image_19 rfl ?_
  refine m_getd gf_X2_106_2 K rfl (q := 23) dX2_image_20 rfl ?_
  refine r_iret hz dX2_image_23 (Nat.le_refl _) (Nat.le_refl _) (.of rfl ?_)
  obtain ⟨a1, a2, ⟨c1, c2, c3, c4, c5, c6⟩, a4⟩ := h
  exact ⟨⟨j, rfl, K⟩, a2, ⟨c1, c2, c3, c4, ⟨rfl, j, K, a2, rfl⟩, c6⟩, a4⟩
theorem k_X2_restore (h : MR w σ) : Ct G yX2_restore cX2_restore 1 (some .int) 3 0 0 [.ref m] n (mh m w g) (MPo m n g (restS σ)) := by
  refine Ct.intro (k := 0) [some (.ref m)] (by decide) (Nat.le_of_ble_eq_true rfl) rfl fun z hz hin => ?_
  obtain ⟨j, e, K⟩ := h.1
  have hi := h.im
  refine r_aload_0 (q := 1) dX2_restore_0 rfl ?_
  refine r_iconst 0 (by decide) (q := 2) dX2_restore_1 rfl ?_
  refine r_put gf_X2_65_2 cl_ok_2 ft_2_7 mh_o (Nat.le_of_ble_eq_true rfl) rfl rfl (q := 5) dX2_restore_2 rfl ?_
  refine J.heap mset_f7 ?_
  refine r_aload_0 (q := 6) dX2_restore_5 rfl ?_
  refine r_get gf_X2_206_2 mh_o rfl (q := 9) dX2_restore_6 rfl ?_
  unfold restS at hz
  cases eo : σ.2.2.2 with
  | none =>
    rw [eo] at hi hz
    refine J.topi (x := mf19 w) (y := 0) hi.1 ?_
    refine r_if_ne (q := 12) (tgt := 19) dX2_restore_9 rfl rfl (fun c9 => ?_) (fun c9 => ?_)
    · exact absurd rfl c9
    refine r_aload_0 (q := 13) dX2_restore_12 rfl ?_
    refine r_bipush (-3) (by decide) (q := 15) dX2_restore_13 rfl ?_
    refine r_callV_1 cv_X2_128 mh_o rfl (by decide) (Nat.le_of_ble_eq_true rfl) ⟨Nat.le_refl _, Nat.le_refl _⟩ (k_X2_refuse isC_3 (h.th 0).l6) (q := 18) dX2_restore_15 rfl ?_
    exact r_iret hz dX2_restore_18 (Nat.le_refl _) (Nat.le_refl _) (.of rfl ((h.th 0).refuse _))
  | some S =>
    rw [eo] at hi hz
    obtain ⟨i1, j', d1, d2, d3⟩ := hi
    refine J.topi (x := mf19 w) (y := 1) i1 ?_
    refine r_if_ne (q := 12) (tgt := 19) dX2_restore_9 rfl rfl (fun c9 => ?_) (fun c9 => ?_)
    · refine r_aload_0 (q := 20) dX2_restore_19 rfl ?_
      refine r_aload_0 (q := 21) dX2_restore_20 rfl ?_
      refine r_get gf_X2_43_2 mh_o rfl (q := 24) dX2_restore_21 rfl ?_
      refine r_iconst 0 (by decide) (q := 25) dX2_restore_24 rfl ?_
      refine r_callVv_2 cv_X2_202 mh_o rfl (by decide) (Nat.le_of_ble_eq_true rfl) ⟨Nat.le_refl _, Nat.le_refl _⟩ (k_X2_carryAll_12 (w := sf7 w 0) (D := mS S j') (show LM w.1 by rw [e]; exact K.lm) d1.lm h.im.len (Or.inr ⟨rfl, d3⟩)) (q := 28) dX2_restore_25 rfl ?_
      refine r_aload_0 (q := 29) dX2_restore_28 rfl ?_
      refine r_iconst 0 (by decide) (q := 30) dX2_restore_29 rfl ?_
      refine r_put gf_X2_187_2 cl_ok_2 ft_2_25 mh_o (Nat.le_of_ble_eq_true rfl) rfl rfl (q := 33) dX2_restore_30 rfl ?_
      refine J.heap mset_f25 ?_
      refine r_aload_0 (q := 34) dX2_restore_33 rfl ?_
      refine m_getd gf_X2_106_2 d1 rfl (q := 37) dX2_restore_34 rfl ?_
      refine r_iret hz dX2_restore_37 (Nat.le_refl _) (Nat.le_refl _) (.of (σ' := (S, σ.2.1, [], some S)) rfl ?_)
      obtain ⟨a1, a2, ⟨c1, c2, c3, c4, c5, c6⟩, a4⟩ := h
      exact ⟨⟨j', rfl, d1⟩, d2, ⟨c1, c2, c3, ⟨c4.1, rfl, Nat.zero_le _, fun k hk => absurd hk (Nat.not_lt_zero _)⟩, ⟨i1, j', d1, d2, rfl⟩, c6⟩, a4⟩
    · exact absurd c9 (by decide)
end MT


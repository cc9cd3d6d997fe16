/-! ===== PrayerMatsFaceModel: pairings, bestPairing, walked ===== -/
/-! stable or not, by counts -/
theorem fcS_0 (T : SQ) (a : Nat) : ∀ (c q : Nat), fcS T a c q ≤ c ∧ (fcS T a c q = 0 ↔ ∀ b, q ≤ b → b < q + c → leavS T a b = false)
  | 0, q => ⟨Nat.le_refl _, fun _ b h1 h2 => by omega, fun _ => rfl⟩
  | c + 1, q => by
    obtain ⟨i1, i2⟩ := fcS_0 T a c (q + 1)
    have e : fcS T a (c + 1) q = (if leavS T a q = true then 1 else 0) + fcS T a c (q + 1) := rfl
    rw [e]
    cases hl : leavS T a q with
    | true =>
      rw [if_pos rfl]
      refine ⟨by omega, fun h => by omega, fun h => ?_⟩
      have := h q (Nat.le_refl _) (by omega)
      rw [hl] at this
      cases this
    | false =>
      rw [if_neg (by decide), Nat.zero_add]
      refine ⟨by omega, fun h b h1 h2 => ?_, fun h => i2.mpr fun b h1 h2 => h b (by omega) (by omega)⟩
      rcases Nat.lt_or_ge q b with z | z
      · exact i2.mp h b z (by omega)
      · rw [show b = q by omega]; exact hl
theorem gcS_0 (T : SQ) : ∀ (c p : Nat), p + c = T.1.length → gcS T c p ≤ c * T.1.length ∧ (gcS T c p = 0 ↔ ∀ a, p ≤ a → a < T.1.length → ∀ b, a < b → b < T.1.length → leavS T a b = false)
  | 0, p, hp => ⟨Nat.zero_le _, fun _ a h1 h2 => by omega, fun _ => rfl⟩
  | c + 1, p, hp => by
    obtain ⟨i1, i2⟩ := gcS_0 T c (p + 1) (by omega)
    obtain ⟨f1, f2⟩ := fcS_0 T p (T.1.length - (p + 1)) (p + 1)
    have e : gcS T (c + 1) p = fcS T p (T.1.length - (p + 1)) (p + 1) + gcS T c (p + 1) := rfl
    rw [e, Nat.succ_mul]
    refine ⟨by omega, fun h a h1 h2 b h3 h4 => ?_, fun h => ?_⟩
    · rcases Nat.lt_or_ge p a with z | z
      · exact i2.mp (by omega) a z h2 b h3 h4
      · rw [show a = p by omega]
        exact f2.mp (by omega) b (by omega) (by omega)
    · have g1 := i2.mpr fun a h1 h2 b h3 h4 => h a (by omega) h2 b h3 h4
      have g2 := f2.mpr fun b h1 h2 => h p (Nat.le_refl _) (by omega) b (by omega) (by omega)
      omega
theorem b1_ne : ∀ a, a < 6 → ¬ b1 a = 0 := by decide +kernel
theorem or_0 (x y : Int32) : x ||| y = 0 ↔ x = 0 ∧ y = 0 := by
  constructor
  · intro h
    have h' : x.toBitVec ||| y.toBitVec = 0#32 := by
      have := congrArg Int32.toBitVec h
      simpa using this
    have h2 := BitVec.or_eq_zero_iff.mp h'
    exact ⟨Int32.toBitVec_inj.mp h2.1, Int32.toBitVec_inj.mp h2.2⟩
  · rintro ⟨rfl, rfl⟩
    rfl
theorem rbS_0 (T : SQ) (h6 : T.1.length ≤ 6) : ∀ (c p : Nat) (s : Int32), p + c = T.1.length → (forR (rbF T) p c s = 0 ↔ s = 0 ∧ ∀ a, p ≤ a → a < T.1.length → ridS T a = false)
  | 0, p, s, hp => ⟨fun h => ⟨h, fun a h1 h2 => by omega⟩, fun h => h.1⟩
  | c + 1, p, s, hp => by
    rw [forR_s, rbS_0 T h6 c (p + 1) _ (by omega)]
    unfold rbF
    rw [or_0]
    have hb := b1_ne p (by omega)
    cases hr : ridS T p with
    | true =>
      rw [if_pos rfl]
      refine ⟨fun h => absurd h.1.2 hb, fun h => ?_⟩
      have := h.2 p (Nat.le_refl _) (by omega)
      rw [hr] at this
      cases this
    | false =>
      rw [if_neg (by decide)]
      refine ⟨fun h => ⟨h.1.1, fun a h1 h2 => ?_⟩, fun h => ⟨⟨h.1, rfl⟩, fun a h1 h2 => h.2 a (by omega) h2⟩⟩
      rcases Nat.lt_or_ge p a with z | z
      · exact h.2 a z h2
      · rw [show a = p by omega]; exact hr
theorem stab_cnt {T : SQ} (h6 : T.1.length ≤ 6) : stabS T = true ↔ ltS T = 0 ∧ rbS T = 0 := by
  obtain ⟨g1, g2⟩ := gcS_0 T T.1.length 0 (Nat.zero_add _)
  have hm : T.1.length * T.1.length ≤ 6 * 6 := Nat.mul_le_mul h6 h6
  have e1 : ltS T = nI (gcS T T.1.length 0) := by
    unfold ltS
    rw [show (0 : Int32) = nI 0 from rfl, ltI_run, Nat.zero_add]
  have e2 : ltS T = 0 ↔ gcS T T.1.length 0 = 0 := by
    rw [e1]
    exact ⟨fun h => nI_inj (b := 0) (by omega) (by omega) h, fun h => by rw [h]; rfl⟩
  have e3 : rbS T = 0 ↔ _ := rbS_0 T h6 T.1.length 0 0 (Nat.zero_add _)
  rw [e2, e3, g2]
  unfold stabS
  rw [decide_eq_true_iff]
  exact ⟨fun h => ⟨fun a _ ha b hab hb => (h a ha).2 b hb hab, rfl, fun a _ ha => (h a ha).1⟩, fun h a ha => ⟨h.2.2 a (Nat.zero_le _) ha, fun b hb hab => h.1 a (Nat.zero_le _) ha b hab hb⟩⟩
section MO9
variable {G : GD} {n m : Nat} {w : MW} {g : RH} {σ : SG} {T T0 : SQ} {j j0 : List PP} {h : RH}
theorem k_X2_takePairing {k : Nat} {L : List (List (Option Nat))} (hL : LenS T) (e : w.1 = mS T j) (h15 : (ma15 w).length = 456) (hp : PrP T.1.length L (ma15 w)) (hk : k < L.length) (h76 : L.length ≤ 76) : CtE G yX2_takePairing cX2_takePairing 3 none 1 [.ref m, .int (nI k)] n (mh m w g) none (mh m (sS w (mS (prS T (L.getD k [])) j)) g) := by
  refine Ct.intro (k := 1) [some (.ref m), some (.int (nI k)), none] (by decide) (Nat.le_of_ble_eq_true rfl) rfl fun z hz hin => ?_
  have h6 := hL.1
  refine r_iconst 0 (by decide) (q := 1) dX2_takePairing_0 rfl ?_
  refine r_istore_2 (by decide) rfl (q := 2) dX2_takePairing_1 rfl ?_
  refine J.heap (h2 := mh m (sS w (mS T j)) g) (by rw [← e]; rfl) ?_
  refine forJ (f := fun p S => setM S p ((L.getD k []).getD p none)) (σ := SQ) T.1.length (fun S => S.1 = T.1 ∧ S.2.2.1.length = 6) (fun p S => J G z cX2_takePairing 3 RX2 1 0 0 0 0 2 [some (.ref m), some (.int (nI k)), some (.int (nI p))] [] n (mh m (sS w (mS S j)) g)) (a0 := 0) (s0 := T) (Nat.zero_le _) ⟨rfl, hL.2.2.1⟩ (fun S hS hs => ?_) (fun p S _ hpN hS => ⟨⟨hS.1, (List.length_set ..).trans hS.2⟩, fun next => ?_⟩)
  · have hs : S = prS T (L.getD k []) := hs
    refine r_iload_2 (q := 3) dX2_takePairing_2 rfl ?_
    refine r_aload_0 (q := 4) dX2_takePairing_3 rfl ?_
    refine r_get gf_X2_68_2 mh_o rfl (q := 7) dX2_takePairing_4 rfl ?_
    refine J.topi (y := nI T.1.length) (by show nI S.1.length = _; rw [hS.1]) ?_
    refine r_icmp_ge (q := 10) (tgt := 33) dX2_takePairing_7 rfl rfl (fun c7 => ?_) (fun c7 => ?_)
    · rw [hs]
      exact r_vret hz dX2_takePairing_33 (Nat.le_refl _) (Nat.le_refl _) ⟨rfl, rfl, rfl⟩
    · exact absurd (Int32.le_refl _) c7
  · refine r_iload_2 (q := 3) dX2_takePairing_2 rfl ?_
    refine r_aload_0 (q := 4) dX2_takePairing_3 rfl ?_
    refine r_get gf_X2_68_2 mh_o rfl (q := 7) dX2_takePairing_4 rfl ?_
    refine J.topi (y := nI T.1.length) (by show nI S.1.length = _; rw [hS.1]) ?_
    refine r_icmp_ge (q := 10) (tgt := 33) dX2_takePairing_7 rfl rfl (fun c7 => ?_) (fun c7 => ?_)
    · exact absurd c7 (nI_not_lt hpN (by omega))
    refine r_aload_0 (q := 11) dX2_takePairing_10 rfl ?_
    refine r_get gf_X2_19_2 mh_o rfl (q := 14) dX2_takePairing_11 rfl ?_
    refine r_iload_2 (q := 15) dX2_takePairing_14 rfl ?_
    refine r_aload_0 (q := 16) dX2_takePairing_15 rfl ?_
    refine r_get gf_X2_52_2 mh_o rfl (q := 19) dX2_takePairing_16 rfl ?_
    refine r_bipush 6 (by decide) (q := 21) dX2_takePairing_19 rfl ?_
    refine r_iload_1 (q := 22) dX2_takePairing_21 rfl ?_
    refine r_imul (q := 23) dX2_takePairing_22 rfl ?_
    refine J.topi (y := nI (6 * k)) (pk_mul 6 k) ?_
    refine r_iload_2 (q := 24) dX2_takePairing_23 rfl ?_
    refine r_iadd (q := 25) dX2_takePairing_24 rfl ?_
    refine J.topi (y := nI (6 * k + p)) (nI_add _ _) ?_
    refine r_iald (6 * k + p) 456 mh_15 h15 rfl (by omega) (by decide) (q := 26) dX2_takePairing_25 rfl ?_
    refine r_iastM p 6 ((L.getD k []).getD p none) mh_4 hS.2 rfl (hp k hk p hpN) (by omega) (by decide) (q := 27) dX2_takePairing_26 rfl ?_
    rw [mset_4]
    refine r_inc_2 (by decide) rfl (q := 30) dX2_takePairing_27 rfl ?_
    refine r_goto (q := 2) dX2_takePairing_30 rfl ?_
    exact next
theorem in_pai {S : SQ} {p : Int32} (h6 : S.1.length ≤ 6) : decide (-1 ≤ p ∧ p ≤ nI S.1.length - 1) = decide (p = -1 ∨ isPer S p = true) := by
  refine decide_eq_decide.mpr ?_
  unfold isPer
  rw [decide_eq_true_iff]
  rcases Int32.lt_or_le p 0 with z | z
  · constructor
    · intro q
      left
      have h1 : p.toInt < 0 := Int32.lt_iff_toInt_lt.mp z
      have h2 : (-1 : Int) ≤ p.toInt := Int32.le_iff_toInt_le.mp q.1
      exact Int32.toInt_inj.mp (by rw [show (-1 : Int32).toInt = -1 from rfl]; omega)
    · rintro (q | q)
      · subst q
        refine ⟨by decide, ?_⟩
        match S.1.length, h6 with
        | 0, _ => decide
        | k + 1, _ => rw [nI_pred]; exact Int32.le_trans (by decide) (nI_pos' (by omega))
      · exact absurd z (Int32.not_lt.mpr q.1)
  · obtain ⟨a, ha, rfl⟩ := nI_of (x := p) (Int32.not_lt.mpr z)
    have hm : ¬ nI a = -1 := fun q => by rw [q] at z; exact absurd z (by decide)
    match hN : S.1.length, h6 with
    | 0, _ =>
      constructor
      · intro q
        exact absurd (Int32.le_trans z q.2) (by decide)
      · rintro (q | q)
        · exact absurd q hm
        · exact absurd q.2 (nI_pos (by omega))
    | k + 1, _ =>
      rw [nI_pred]
      constructor
      · intro q
        have := (nI_leI (by omega) (by omega)).mp q.2
        exact Or.inr ⟨z, nI_lt (by omega) (by omega)⟩
      · rintro (q | q)
        · exact absurd q hm
        · have := (nI_ltI (by omega) (by omega)).mp q.2
          exact ⟨Int32.le_trans (by decide) z, (nI_leI (by omega) (by omega)).mpr (by omega)⟩
theorem MR.lp {l15 l16 : List Int32} (h : MR w σ) (h1 : l15.length = 456) (h2 : l16.length = 6) (h3 : PrP σ.1.1.length (pairsL σ.1.1.length) l15) : MR (lpD w l15 l16 (nI (pairsL σ.1.1.length).length) (nI σ.1.1.length)) σ := by
  obtain ⟨⟨j, a1, a2⟩, a3, ⟨b1, b2, b3, b4, b5, b6⟩, c1, c2, c3, c4, c5, c6⟩ := h
  exact ⟨⟨j, a1, a2⟩, a3, ⟨b1, b2, b3, b4, b5, h1, Or.inr ⟨_, a2.l6, rfl, rfl, h3⟩⟩, c1, c2, c3, c4, c5, h2⟩
theorem k_X2_pairings {p : Int32} (h : MR w σ) : Ct G yX2_pairings cX2_pairings 6 (some .int) 6 0 0 [.ref m, .int p] n (mh m w g) (MPo m n g (pairingsS σ p)) := by
  refine Ct.intro (k := 4) [some (.ref m), some (.int p), none, none, none, none] (by decide) (Nat.le_of_ble_eq_true rfl) rfl fun z hz hin => ?_
  obtain ⟨j, e, K⟩ := h.1
  have h6 := K.l6
  refine r_aload_0 (q := 1) dX2_pairings_0 rfl ?_
  refine r_iconst 0 (by decide) (q := 2) dX2_pairings_1 rfl ?_
  refine r_put gf_X2_65_2 cl_ok_2 ft_2_7 mh_o (Nat.le_of_ble_eq_true rfl) rfl rfl (q := 5) dX2_pairings_2 rfl ?_
  refine J.heap mset_f7 ?_
  refine r_iload_1 (q := 6) dX2_pairings_5 rfl ?_
  refine r_i2l (q := 7) dX2_pairings_6 rfl ?_
  refine r_ldc2 q1353 (q := 10) dX2_pairings_7 rfl ?_
  refine r_aload_0 (q := 11) dX2_pairings_10 rfl ?_
  refine m_getp gf_X2_68_2 K e (q := 14) dX2_pairings_11 rfl ?_
  refine r_iconst 1 (by decide) (q := 15) dX2_pairings_14 rfl ?_
  refine r_isub (q := 16) dX2_pairings_15 rfl ?_
  refine r_i2l (q := 17) dX2_pairings_16 rfl ?_
  refine r_callS_3 cs_X2_71 (by decide) (Nat.le_of_ble_eq_true rfl) ⟨Nat.le_refl _, Nat.le_refl _⟩ (k_X2_in32 (lo := -1) (hi := nI σ.1.1.length - 1) (by decide) rfl) (q := 20) dX2_pairings_17 rfl ?_
  rw [in_pai h6]
  refine r_if_ne (q := 23) (tgt := 29) dX2_pairings_20 rfl rfl (fun c20 => ?_) (fun c20 => ?_)
  · have t1 : p = -1 ∨ isPer σ.1 p = true := of_decide_eq_true (bI_n0.mp c20)
    have e0 : pairingsS σ p = (if p < 0 then nI ((pairsL σ.1.1.length).filter (stQ σ.1)).length else mFst ((pairsL σ.1.1.length).find? (stQ σ.1)) (cl p), σ) := if_pos (if_pos t1)
    rw [e0] at hz
    refine r_aload_0 (q := 30) dX2_pairings_29 rfl ?_
    refine r_callVp_0 cv_X2_261 mh_o rfl (by decide) (Nat.le_of_ble_eq_true rfl) ⟨Nat.le_refl _, Nat.le_refl _⟩ (k_X2_layPairings (w := sf7 w 0) K e h.2.2.1.2.2.2.2.2 h.ln.2.2.2.2.2) (q := 33) dX2_pairings_30 rfl ?_
    intro r n' h' hq
    obtain ⟨rfl, rfl, l15, l16, d1, d2, rfl, d3⟩ := hq
    have h1 := (h.th 0).lp d1 d2 d3
    have e1 : (lpD (sf7 w 0) l15 l16 (nI (pairsL σ.1.1.length).length) (nI σ.1.1.length)).1 = mS σ.1 j := e
    have f27 : mf27 (lpD (sf7 w 0) l15 l16 (nI (pairsL σ.1.1.length).length) (nI σ.1.1.length)) = nI (pairsL σ.1.1.length).length := rfl
    have f15 : ma15 (lpD (sf7 w 0) l15 l16 (nI (pairsL σ.1.1.length).length) (nI σ.1.1.length)) = l15 := rfl
    generalize lpD (sf7 w 0) l15 l16 (nI (pairsL σ.1.1.length).length) (nI σ.1.1.length) = w1 at h1 e1 f27 f15 ⊢
    have hL76 := pairs_len σ.1.1.length (by omega)
    have hmem : ∀ c, c < (pairsL σ.1.1.length).length → (pairsL σ.1.1.length).getD c [] ∈ pairsL σ.1.1.length := fun c hc => by
      rw [List.getD_eq_getElem?_getD, List.getElem?_eq_getElem hc]
      exact List.getElem_mem hc
    generalize hL : pairsL σ.1.1.length = L at hz f27 d3 hL76 hmem
    refine r_iconst 0 (by decide) (q := 34) dX2_pairings_33 rfl ?_
    refine r_istore_2 (by decide) rfl (q := 35) dX2_pairings_34 rfl ?_
    refine r_bipush (-9) (by decide) (q := 37) dX2_pairings_35 rfl ?_
    refine r_istore_3 (by decide) rfl (q := 38) dX2_pairings_37 rfl ?_
    refine r_aload_0 (q := 39) dX2_pairings_38 rfl ?_
    refine r_callVv_0 cv_X2_178 mh_o rfl (by decide) (Nat.le_of_ble_eq_true rfl) ⟨Nat.le_refl _, Nat.le_refl _⟩ (k_X2_think K e1 h1.l11) (q := 42) dX2_pairings_39 rfl ?_
    refine r_aload_0 (q := 43) dX2_pairings_42 rfl ?_
    refine r_get gf_X2_253_2 mh_o rfl (q := 46) dX2_pairings_43 rfl ?_
    refine r_iconst 1 (by decide) (q := 47) dX2_pairings_46 rfl ?_
    refine r_isub (q := 48) dX2_pairings_47 rfl ?_
    refine J.topi (y := nI L.length - 1) (by show mf27 w1 - 1 = _; rw [f27]) ?_
    refine r_istore_4 (by decide) rfl (q := 50) dX2_pairings_48 rfl ?_
    refine J.heap (h2 := mh m (sS (cw11 m w1 1 (mS σ.1 j) (encS (mS σ.1 j)) 62) (mS σ.1 j)) g) rfl ?_
    have loop : ∀ (c : Nat) (Fi : Int32) (Sx : SQ) (o5 : Option Value), c ≤ L.length → ((Fi = -9 ∧ (L.drop c).find? (stQ σ.1) = none) ∨ ∃ i, i < L.length ∧ Fi = nI i ∧ (L.drop c).find? (stQ σ.1) = some (L.getD i [])) → OKM Sx j → Sx.1 = σ.1.1 → (∀ r, prS Sx r = prS σ.1 r) → J G z cX2_pairings 6 RX2 6 0 0 0 0 50 [some (.ref m), some (.int p), some (.int (nI ((L.drop c).filter (stQ σ.1)).length)), some (.int Fi), some (.int (nI c - 1)), o5] [] n' (mh m (sS (cw11 m w1 1 (mS σ.1 j) (encS (mS σ.1 j)) 62) (mS Sx j)) g) := by
      intro c
      induction c with
      | zero =>
        intro Fi Sx o5 _ hF hS _ _
        rw [List.drop_zero] at hF ⊢
        refine r_iload_4 (q := 52) dX2_pairings_50 rfl ?_
        refine r_if_lt (q := 55) (tgt := 113) dX2_pairings_52 rfl rfl (fun c52 => ?_) (fun c52 => ?_)
        · refine r_aload_0 (q := 114) dX2_pairings_113 rfl ?_
          refine r_callVv_0 cv_X2_184 mh_o rfl (by decide) (Nat.le_of_ble_eq_true rfl) ⟨Nat.le_refl _, Nat.le_refl _⟩ (k_X2_againT K hS) (q := 117) dX2_pairings_114 rfl ?_
          have hfin : MR (cw11 m w1 0 (mS σ.1 j) (encS (mS σ.1 j)) 62) σ := h1.fin e1
          refine r_iload_1 (q := 118) dX2_pairings_117 rfl ?_
          refine r_if_ge (q := 121) (tgt := 125) dX2_pairings_118 rfl rfl (fun c118 => ?_) (fun c118 => ?_)
          · rw [if_neg (Int32.not_lt.mpr c118)] at hz
            refine r_iload_3 (q := 126) dX2_pairings_125 rfl ?_
            refine r_if_ge (q := 129) (tgt := 134) dX2_pairings_126 rfl rfl (fun c126 => ?_) (fun c126 => ?_)
            · rcases hF with ⟨rfl, _⟩ | ⟨i, hi, rfl, hf⟩
              · exact absurd c126 (by decide)
              · rw [hf] at hz
                rcases t1 with rfl | t1
                · exact absurd c118 (by decide)
                obtain ⟨a, ha, rfl⟩ := isPer_t K.1.1 t1
                rw [cl_nI (by omega)] at hz
                refine r_aload_0 (q := 135) dX2_pairings_134 rfl ?_
                refine r_get gf_X2_52_2 mh_o rfl (q := 138) dX2_pairings_135 rfl ?_
                refine r_bipush 6 (by decide) (q := 140) dX2_pairings_138 rfl ?_
                refine r_iload_3 (q := 141) dX2_pairings_140 rfl ?_
                refine r_imul (q := 142) dX2_pairings_141 rfl ?_
                refine J.topi (y := nI (6 * i)) (pk_mul 6 i) ?_
                refine r_iload_1 (q := 143) dX2_pairings_142 rfl ?_
                refine r_iadd (q := 144) dX2_pairings_143 rfl ?_
                refine J.topi (y := nI (6 * i + a)) (nI_add _ _) ?_
                refine r_iald (6 * i + a) 456 mh_15 (by show (ma15 w1).length = 456; rw [f15]; exact d1) rfl (by omega) (by decide) (q := 145) dX2_pairings_144 rfl ?_
                refine J.topi (y := mI ((L.getD i []).getD a none)) (by show (ma15 w1).getD _ 0 = _; rw [f15]; exact d3 i hi a ha) ?_
                exact r_iret hz dX2_pairings_145 (Nat.le_refl _) (Nat.le_refl _) (.of rfl hfin)
            · rcases hF with ⟨rfl, hf⟩ | ⟨i, hi, rfl, hf⟩
              · rw [hf] at hz
                refine r_bipush (-9) (by decide) (q := 131) dX2_pairings_129 rfl ?_
                refine r_goto (q := 145) dX2_pairings_131 rfl ?_
                exact r_iret hz dX2_pairings_145 (Nat.le_refl _) (Nat.le_refl _) (.of rfl hfin)
              · exact absurd (nI_pos' (by omega)) c126
          · rw [if_pos (Int32.not_le.mp c118)] at hz
            refine r_iload_2 (q := 122) dX2_pairings_121 rfl ?_
            refine r_goto (q := 145) dX2_pairings_122 rfl ?_
            exact r_iret hz dX2_pairings_145 (Nat.le_refl _) (Nat.le_refl _) (.of rfl hfin)
        · exact absurd (by decide) c52
      | succ c ih =>
        intro Fi Sx o5 hc hF hS hS1 hSx
        have hcL : c < L.length := hc
        have ed : L.drop c = L.getD c [] :: L.drop (c + 1) := by
          rw [List.drop_eq_getElem_cons hcL, List.getD_eq_getElem?_getD, List.getElem?_eq_getElem hcL]
          rfl
        have hlt : ((L.drop (c + 1)).filter (stQ σ.1)).length ≤ L.length := Nat.le_trans (List.length_filter_le _ _) (by rw [List.length_drop]; omega)
        have hx : OKS Sx := hS.1
        generalize hr9 : L.getD c [] = r9 at ed
        have hm9 : r9 ∈ L := hr9 ▸ hmem c hcL
        have K2 : OKM (prS σ.1 r9) j := K.of (prC_fr r9 _ 0 σ.1).1 (prS_ok K.1 (by rw [hL]; exact hm9))
        have K2l : (prS σ.1 r9).1.length ≤ 6 := K2.l6
        rw [nI_pred]
        refine r_iload_4 (q := 52) dX2_pairings_50 rfl ?_
        refine r_if_lt (q := 55) (tgt := 113) dX2_pairings_52 rfl rfl (fun c52 => ?_) (fun c52 => ?_)
        · exact absurd c52 (nI_pos (by omega))
        refine r_aload_0 (q := 56) dX2_pairings_55 rfl ?_
        refine r_iload_4 (q := 58) dX2_pairings_56 rfl ?_
        refine r_callVv_1 cv_X2_264 mh_o rfl (by decide) (Nat.le_of_ble_eq_true rfl) ⟨Nat.le_refl _, Nat.le_refl _⟩ (k_X2_takePairing (T := Sx) (j := j) (L := L) hx.1 rfl (by show (ma15 w1).length = 456; rw [f15]; exact d1) (by rw [hS1]; show PrP _ L (ma15 w1); rw [f15]; exact d3) hcL hL76.2) (q := 61) dX2_pairings_58 rfl ?_
        rw [sS_sS, hr9, hSx r9]
        have tail : ∀ b : Bool, b = stQ σ.1 r9 → J G z cX2_pairings 6 RX2 6 0 0 0 0 80 [some (.ref m), some (.int p), some (.int (nI ((L.drop (c + 1)).filter (stQ σ.1)).length)), some (.int Fi), some (.int (nI c)), o5] [.int (bI b)] n' (mh m (sS (cw11 m w1 1 (mS σ.1 j) (encS (mS σ.1 j)) 62) (mS (prS σ.1 r9) j)) g) := by
          intro b hb
          have ih2 := fun Fi o5 hF => ih Fi (prS σ.1 r9) o5 (by omega) hF K2 (prC_fr r9 _ 0 σ.1).1 (fun r => prS_prS K.1.1 K2.1.1)
          rw [ed] at ih2
          cases b with
          | true =>
            rw [List.filter_cons_of_pos hb.symm, List.find?_cons_of_pos hb.symm] at ih2
            refine r_istore_5 (by decide) rfl (q := 82) dX2_pairings_80 rfl ?_
            refine r_iload_2 (q := 83) dX2_pairings_82 rfl ?_
            refine r_iload_5 (q := 85) dX2_pairings_83 rfl ?_
            refine r_if_eq (q := 88) (tgt := 92) dX2_pairings_85 rfl rfl (fun c85 => ?_) (fun c85 => ?_)
            · exact absurd c85 (by decide)
            refine r_iconst 1 (by decide) (q := 89) dX2_pairings_88 rfl ?_
            refine r_goto (q := 93) dX2_pairings_89 rfl ?_
            refine r_iadd (q := 94) dX2_pairings_93 rfl ?_
            refine J.topi (y := nI (((L.drop (c + 1)).filter (stQ σ.1)).length + 1)) (nI_1 _) ?_
            refine r_istore_2 (by decide) rfl (q := 95) dX2_pairings_94 rfl ?_
            refine r_iload_5 (q := 97) dX2_pairings_95 rfl ?_
            refine r_if_eq (q := 100) (tgt := 105) dX2_pairings_97 rfl rfl (fun c97 => ?_) (fun c97 => ?_)
            · exact absurd c97 (by decide)
            refine r_iload_4 (q := 102) dX2_pairings_100 rfl ?_
            refine r_goto (q := 106) dX2_pairings_102 rfl ?_
            refine r_istore_3 (by decide) rfl (q := 107) dX2_pairings_106 rfl ?_
            refine r_iinc_4 (nI c - 1) (iinc_m1 _) (by decide) rfl (q := 110) dX2_pairings_107 rfl ?_
            refine r_goto (q := 50) dX2_pairings_110 rfl ?_
            exact ih2 (nI c) _ (Or.inr ⟨c, hcL, rfl, by rw [hr9]⟩)
          | false =>
            rw [List.filter_cons_of_neg (by rw [← hb]; decide), List.find?_cons_of_neg (by rw [← hb]; decide)] at ih2
            refine r_istore_5 (by decide) rfl (q := 82) dX2_pairings_80 rfl ?_
            refine r_iload_2 (q := 83) dX2_pairings_82 rfl ?_
            refine r_iload_5 (q := 85) dX2_pairings_83 rfl ?_
            refine r_if_eq (q := 88) (tgt := 92) dX2_pairings_85 rfl rfl (fun c85 => ?_) (fun c85 => ?_)
            · refine r_iconst 0 (by decide) (q := 93) dX2_pairings_92 rfl ?_
              refine r_iadd (q := 94) dX2_pairings_93 rfl ?_
              refine J.topi (y := nI ((L.drop (c + 1)).filter (stQ σ.1)).length) (nI_add _ 0) ?_
              refine r_istore_2 (by decide) rfl (q := 95) dX2_pairings_94 rfl ?_
              refine r_iload_5 (q := 97) dX2_pairings_95 rfl ?_
              refine r_if_eq (q := 100) (tgt := 105) dX2_pairings_97 rfl rfl (fun c97 => ?_) (fun c97 => ?_)
              · refine r_iload_3 (q := 106) dX2_pairings_105 rfl ?_
                refine r_istore_3 (by decide) rfl (q := 107) dX2_pairings_106 rfl ?_
                refine r_iinc_4 (nI c - 1) (iinc_m1 _) (by decide) rfl (q := 110) dX2_pairings_107 rfl ?_
                refine r_goto (q := 50) dX2_pairings_110 rfl ?_
                exact ih2 Fi _ hF
              · exact absurd rfl c97
            · exact absurd rfl c85
        have sc := stab_cnt K2l
        refine r_aload_0 (q := 62) dX2_pairings_61 rfl ?_
        refine r_callV_0 cv_X2_247 mh_o rfl (by decide) (Nat.le_of_ble_eq_true rfl) ⟨Nat.le_refl _, Nat.le_refl _⟩ (k_X2_leavingTwos K2 rfl) (q := 65) dX2_pairings_62 rfl ?_
        refine r_if_ne (q := 68) (tgt := 79) dX2_pairings_65 rfl rfl (fun c65 => ?_) (fun c65 => ?_)
        · refine r_iconst 0 (by decide) (q := 80) dX2_pairings_79 rfl ?_
          exact tail false (by
            unfold stQ
            cases hst : stabS (prS σ.1 r9) with
            | false => rfl
            | true => exact absurd (sc.mp hst).1 c65)
        · refine r_aload_0 (q := 69) dX2_pairings_68 rfl ?_
          refine r_callV_0 cv_X2_250 mh_o rfl (by decide) (Nat.le_of_ble_eq_true rfl) ⟨Nat.le_refl _, Nat.le_refl _⟩ (k_X2_ridBits K2 rfl) (q := 72) dX2_pairings_69 rfl ?_
          refine r_if_ne (q := 75) (tgt := 79) dX2_pairings_72 rfl rfl (fun c72 => ?_) (fun c72 => ?_)
          · refine r_iconst 0 (by decide) (q := 80) dX2_pairings_79 rfl ?_
            exact tail false (by
              unfold stQ
              cases hst : stabS (prS σ.1 r9) with
              | false => rfl
              | true => exact absurd (sc.mp hst).2 c72)
          · refine r_iconst 1 (by decide) (q := 76) dX2_pairings_75 rfl ?_
            refine r_goto (q := 80) dX2_pairings_76 rfl ?_
            exact tail true (sc.mpr ⟨c65, c72⟩).symm
    refine J.lo (l2 := [some (.ref m), some (.int p), some (.int (nI ((L.drop L.length).filter (stQ σ.1)).length)), some (.int (-9)), some (.int (nI L.length - 1)), none]) (by rw [List.drop_length]; rfl) ?_
    exact loop L.length (-9) σ.1 none (Nat.le_refl _) (Or.inl ⟨rfl, by rw [List.drop_length]; rfl⟩) K rfl (fun _ => rfl)
  · have t1 : ¬ (p = -1 ∨ isPer σ.1 p = true) := of_decide_eq_false (bI_0.mp c20)
    have e1 : noPai σ.1 p = -1 := if_neg t1
    have e0 : pairingsS σ p = (-1, rfS σ (-1)) := by
      unfold pairingsS
      rw [e1]
      rfl
    rw [e0] at hz
    refine r_aload_0 (q := 24) dX2_pairings_23 rfl ?_
    refine r_iconst (-1) (by decide) (q := 25) dX2_pairings_24 rfl ?_
    refine r_callV_1 cv_X2_128 mh_o rfl (by decide) (Nat.le_of_ble_eq_true rfl) ⟨Nat.le_refl _, Nat.le_refl _⟩ (k_X2_refuse isC_1 (h.th 0).l6) (q := 28) dX2_pairings_25 rfl ?_
    exact r_iret hz dX2_pairings_28 (Nat.le_refl _) (Nat.le_refl _) (.of rfl ((h.th 0).refuse _))
theorem noBst_c {S : SQ} {nn p : Int32} : noBst S nn p = 0 ∨ isC (noBst S nn p) := by
  unfold noBst
  split
  · exact wi_c _ _ _
  · exact Or.inr isC_1
def BstI (L : List (List (Option Nat))) (acc : Option (Nat × List (Option Nat))) (Li Bi : Int32) : Prop :=
  (acc = none ∧ Li = -1 ∧ Bi = 0) ∨ ∃ v i, acc = some (v, L.getD i []) ∧ i < L.length ∧ v < 2 ^ 20 ∧ Li = nI v ∧ Bi = nI i
theorem k_X2_bestPairing {a p : Int32} (h : MR w σ) : Ct G yX2_bestPairing cX2_bestPairing 8 (some .int) 5 0 0 [.ref m, .int a, .int p] n (mh m w g) (MPo m n g (bestPS σ a p)) := by
  refine Ct.intro (k := 5) [some (.ref m), some (.int a), some (.int p), none, none, none, none, none] (by decide) (Nat.le_of_ble_eq_true rfl) rfl fun z hz hin => ?_
  obtain ⟨j, e, K⟩ := h.1
  have h6 := K.l6
  have fin : ∀ v : Int32, v = noBst σ.1 a p → J G z cX2_bestPairing 8 RX2 5 0 0 0 0 34 [some (.ref m), some (.int a), some (.int p), none, none, none, none, none] [.int v] n (mh m (sf7 w 0) g) := by
    intro v hv
    obtain ⟨q1, q2⟩ := no_ge (noBst_c (S := σ.1) (nn := a) (p := p))
    rw [← hv] at q1 q2
    refine r_istore_3 (by decide) rfl (q := 35) dX2_bestPairing_34 rfl ?_
    refine r_iload_3 (q := 36) dX2_bestPairing_35 rfl ?_
    refine r_if_ge (q := 39) (tgt := 45) dX2_bestPairing_36 rfl rfl (fun c36 => ?_) (fun c36 => ?_)
    · have h0 : noBst σ.1 a p = 0 := hv ▸ q1 c36
      have t1 : p = -1 ∨ isPer σ.1 p = true := by
        unfold noBst at h0
        split at h0
        · assumption
        · exact absurd h0 (by decide)
      have hwi : wi a 0 99 = 0 := by
        unfold noBst at h0
        rw [if_pos t1] at h0
        exact h0
      obtain ⟨l1, l2⟩ := wi_0 hwi
      obtain ⟨nn, hnn, rfl⟩ := nI_of (x := a) (Int32.not_lt.mpr l1)
      have u2 : nn ≤ 99 := (nI_leI (b := 99) hnn (by decide)).mp l2
      have e0 : bestPS σ (nI nn) p = (bstO ((pairsL σ.1.1.length).foldl (bstF σ.1 nn) none) p, σ) := by
        unfold bestPS
        rw [if_pos h0, cl_nI (by omega)]
      rw [e0] at hz
      refine r_aload_0 (q := 46) dX2_bestPairing_45 rfl ?_
      refine r_callVp_0 cv_X2_261 mh_o rfl (by decide) (Nat.le_of_ble_eq_true rfl) ⟨Nat.le_refl _, Nat.le_refl _⟩ (k_X2_layPairings (w := sf7 w 0) K e h.2.2.1.2.2.2.2.2 h.ln.2.2.2.2.2) (q := 49) dX2_bestPairing_46 rfl ?_
      intro r n' h' hq
      obtain ⟨rfl, rfl, l15, l16, d1, d2, rfl, d3⟩ := hq
      have h1 := (h.th 0).lp d1 d2 d3
      have e1 : (lpD (sf7 w 0) l15 l16 (nI (pairsL σ.1.1.length).length) (nI σ.1.1.length)).1 = mS σ.1 j := e
      have f27 : mf27 (lpD (sf7 w 0) l15 l16 (nI (pairsL σ.1.1.length).length) (nI σ.1.1.length)) = nI (pairsL σ.1.1.length).length := rfl
      have f15 : ma15 (lpD (sf7 w 0) l15 l16 (nI (pairsL σ.1.1.length).length) (nI σ.1.1.length)) = l15 := rfl
      generalize lpD (sf7 w 0) l15 l16 (nI (pairsL σ.1.1.length).length) (nI σ.1.1.length) = w1 at h1 e1 f27 f15 ⊢
      have hL76 := pairs_len σ.1.1.length (by omega)
      have hmem : ∀ c, c < (pairsL σ.1.1.length).length → (pairsL σ.1.1.length).getD c [] ∈ pairsL σ.1.1.length := fun c hc => by
        rw [List.getD_eq_getElem?_getD, List.getElem?_eq_getElem hc]
        exact List.getElem_mem hc
      generalize hL : pairsL σ.1.1.length = L at hz f27 d3 hL76 hmem
      refine r_iconst 0 (by decide) (q := 50) dX2_bestPairing_49 rfl ?_
      refine r_istore_4 (by decide) rfl (q := 52) dX2_bestPairing_50 rfl ?_
      refine r_iconst (-1) (by decide) (q := 53) dX2_bestPairing_52 rfl ?_
      refine r_istore_5 (by decide) rfl (q := 55) dX2_bestPairing_53 rfl ?_
      refine r_aload_0 (q := 56) dX2_bestPairing_55 rfl ?_
      refine r_callVv_0 cv_X2_178 mh_o rfl (by decide) (Nat.le_of_ble_eq_true rfl) ⟨Nat.le_refl _, Nat.le_refl _⟩ (k_X2_think K e1 h1.l11) (q := 59) dX2_bestPairing_56 rfl ?_
      refine r_iconst 0 (by decide) (q := 60) dX2_bestPairing_59 rfl ?_
      refine r_istore_6 (by decide) rfl (q := 62) dX2_bestPairing_60 rfl ?_
      refine upto (P := fun c => ∀ (tk Li Bi : Int32) (o7 : Option Value), BstI L ((L.take c).foldl (bstF σ.1 nn) none) Li Bi → J G z cX2_bestPairing 8 RX2 5 0 0 0 0 62 [some (.ref m), some (.int (nI nn)), some (.int p), some (.int v), some (.int Bi), some (.int Li), some (.int (nI c)), o7] [] n' (mh m (cw11 m w1 tk (mS σ.1 j) (encS (mS σ.1 j)) 62) g)) L.length (fun tk Li Bi o7 hI => ?_) (fun c hc next tk Li Bi o7 hI => ?_) 0 (Nat.zero_le _) 1 (-1) 0 none (Or.inl ⟨rfl, rfl, rfl⟩)
      · have hfin : MR (cw11 m w1 tk (mS σ.1 j) (encS (mS σ.1 j)) 62) σ := h1.cn e1 tk
        rw [List.take_length] at hI
        refine r_iload_6 (q := 64) dX2_bestPairing_62 rfl ?_
        refine r_aload_0 (q := 65) dX2_bestPairing_64 rfl ?_
        refine r_get gf_X2_253_2 mh_o rfl (q := 68) dX2_bestPairing_65 rfl ?_
        refine J.topi (y := nI L.length) f27 ?_
        refine r_icmp_ge (q := 71) (tgt := 140) dX2_bestPairing_68 rfl rfl (fun c68 => ?_) (fun c68 => ?_)
        · rcases hI with ⟨q, _, _⟩ | ⟨v9, i, q, hi, hv9, rfl, rfl⟩
          · exfalso
            have : ∀ (l : List (List (Option Nat))) (x : Option (Nat × List (Option Nat))), x ≠ none → l.foldl (bstF σ.1 nn) x ≠ none := by
              intro l
              induction l with
              | nil => intro x hx; exact hx
              | cons r l ih =>
                intro x hx
                refine ih _ ?_
                unfold bstF
                cases x with
                | none => exact absurd rfl hx
                | some y =>
                  show (if _ then _ else _) ≠ _
                  split <;> exact Option.some_ne_none _
            cases hLc : L with
            | nil => rw [hLc] at hL76; exact absurd hL76.1 (by decide)
            | cons r l =>
              rw [hLc] at q
              exact this l _ (Option.some_ne_none _) q
          · rw [q] at hz
            refine r_iload_2 (q := 141) dX2_bestPairing_140 rfl ?_
            refine r_if_ge (q := 144) (tgt := 149) dX2_bestPairing_141 rfl rfl (fun c141 => ?_) (fun c141 => ?_)
            · have hz : ZQ G z _ _ _ _ := hz
              rcases t1 with rfl | t1
              · exact absurd c141 (by decide)
              obtain ⟨b, hb, rfl⟩ := isPer_t K.1.1 t1
              have eb : bstO (some (v9, L.getD i [])) (nI b) = mI ((L.getD i []).getD b none) := by
                unfold bstO
                show (if nI b < 0 then _ else _) = _
                rw [if_neg (Int32.not_lt.mpr c141), cl_nI (by omega)]
              rw [eb] at hz
              refine r_aload_0 (q := 150) dX2_bestPairing_149 rfl ?_
              refine r_get gf_X2_52_2 mh_o rfl (q := 153) dX2_bestPairing_150 rfl ?_
              refine r_bipush 6 (by decide) (q := 155) dX2_bestPairing_153 rfl ?_
              refine r_iload_4 (q := 157) dX2_bestPairing_155 rfl ?_
              refine r_imul (q := 158) dX2_bestPairing_157 rfl ?_
              refine J.topi (y := nI (6 * i)) (pk_mul 6 i) ?_
              refine r_iload_2 (q := 159) dX2_bestPairing_158 rfl ?_
              refine r_iadd (q := 160) dX2_bestPairing_159 rfl ?_
              refine J.topi (y := nI (6 * i + b)) (nI_add _ _) ?_
              refine r_iald (6 * i + b) 456 mh_15 (by show (ma15 w1).length = 456; rw [f15]; exact d1) rfl (by omega) (by decide) (q := 161) dX2_bestPairing_160 rfl ?_
              refine J.topi (y := mI ((L.getD i []).getD b none)) (by show (ma15 w1).getD _ 0 = _; rw [f15]; exact d3 i hi b hb) ?_
              exact r_iret hz dX2_bestPairing_161 (Nat.le_refl _) (Nat.le_refl _) (.of rfl hfin)
            · have eb : bstO (some (v9, L.getD i [])) p = nI v9 := if_pos (Int32.not_le.mp c141)
              rw [eb] at hz
              refine r_iload_5 (q := 146) dX2_bestPairing_144 rfl ?_
              refine r_goto (q := 161) dX2_bestPairing_146 rfl ?_
              exact r_iret hz dX2_bestPairing_161 (Nat.le_refl _) (Nat.le_refl _) (.of rfl hfin)
        · exact absurd (Int32.le_refl _) c68
      · have et : L.take (c + 1) = L.take c ++ [L.getD c []] := by
          rw [List.take_succ, List.getD_eq_getElem?_getD, List.getElem?_eq_getElem hc]
          rfl
        rw [et, List.foldl_append] at next
        generalize hr9 : L.getD c [] = r9 at next
        have hm9 : r9 ∈ L := hr9 ▸ hmem c hc
        have K2 : OKM (prS σ.1 r9) j := K.of (prC_fr r9 _ 0 σ.1).1 (prS_ok K.1 (by rw [hL]; exact hm9))
        have K3 : OKM (daysS nn (prS σ.1 r9)) j := K2.of (daysS_fr _ _).1 (K2.1.days nn)
        have hall := allN_le K3.1.1 K3.1.2.1
        refine r_iload_6 (q := 64) dX2_bestPairing_62 rfl ?_
        refine r_aload_0 (q := 65) dX2_bestPairing_64 rfl ?_
        refine r_get gf_X2_253_2 mh_o rfl (q := 68) dX2_bestPairing_65 rfl ?_
        refine J.topi (y := nI L.length) f27 ?_
        refine r_icmp_ge (q := 71) (tgt := 140) dX2_bestPairing_68 rfl rfl (fun c68 => ?_) (fun c68 => ?_)
        · exact absurd c68 (nI_not_lt hc (by omega))
        refine r_aload_0 (q := 72) dX2_bestPairing_71 rfl ?_
        refine r_iload_6 (q := 74) dX2_bestPairing_72 rfl ?_
        refine r_callVv_1 cv_X2_264 mh_o rfl (by decide) (Nat.le_of_ble_eq_true rfl) ⟨Nat.le_refl _, Nat.le_refl _⟩ (k_X2_takePairing (T := σ.1) (j := j) (L := L) K.1.1 rfl (by show (ma15 w1).length = 456; rw [f15]; exact d1) (by show PrP _ L (ma15 w1); rw [f15]; exact d3) hc hL76.2) (q := 77) dX2_bestPairing_74 rfl ?_
        rw [hr9]
        refine r_aload_0 (q := 78) dX2_bestPairing_77 rfl ?_
        refine r_iload_1 (q := 79) dX2_bestPairing_78 rfl ?_
        refine r_callVv_1 cv_X2_172 mh_o rfl (by decide) (Nat.le_of_ble_eq_true rfl) ⟨Nat.le_refl _, Nat.le_refl _⟩ (k_X2_goDays (c := nn) K2 rfl (by omega)) (q := 82) dX2_bestPairing_79 rfl ?_
        rw [sS_sS]
        refine r_aload_0 (q := 83) dX2_bestPairing_82 rfl ?_
        refine r_callV_0 cv_X2_226 mh_o rfl (by decide) (Nat.le_of_ble_eq_true rfl) ⟨Nat.le_refl _, Nat.le_refl _⟩ (k_X2_allOf K3 rfl) (q := 86) dX2_bestPairing_83 rfl ?_
        rw [allS_N]
        have eF : ∀ acc : Option (Nat × List (Option Nat)), [r9].foldl (bstF σ.1 nn) acc = bstF σ.1 nn acc r9 := fun _ => rfl
        rw [eF] at next
        generalize (L.take c).foldl (bstF σ.1 nn) none = acc at hI next
        unfold bstF at next
        refine r_istore_7 (by decide) rfl (q := 88) dX2_bestPairing_86 rfl ?_
        refine r_aload_0 (q := 89) dX2_bestPairing_88 rfl ?_
        refine r_callVv_0 cv_X2_184 mh_o rfl (by decide) (Nat.le_of_ble_eq_true rfl) ⟨Nat.le_refl _, Nat.le_refl _⟩ (k_X2_again K rfl K3 rfl) (q := 92) dX2_bestPairing_89 rfl ?_
        rw [cw11_sS, cw11_cw11]
        generalize allN (daysS nn (prS σ.1 r9)) = by9 at hall next ⊢
        rcases hI with ⟨rfl, rfl, rfl⟩ | ⟨v, i, rfl, hi, hv9, rfl, rfl⟩
        · refine r_iload_5 (q := 94) dX2_bestPairing_92 rfl ?_
          refine r_if_lt (q := 97) (tgt := 104) dX2_bestPairing_94 rfl rfl (fun c94 => ?_) (fun c94 => ?_)
          · refine r_iload_6 (q := 106) dX2_bestPairing_104 rfl ?_
            refine r_goto (q := 111) dX2_bestPairing_106 rfl ?_
            refine r_istore_4 (by decide) rfl (q := 113) dX2_bestPairing_111 rfl ?_
            refine r_iload_5 (q := 115) dX2_bestPairing_113 rfl ?_
            refine r_if_lt (q := 118) (tgt := 125) dX2_bestPairing_115 rfl rfl (fun c115 => ?_) (fun c115 => ?_)
            · refine r_iload_7 (q := 127) dX2_bestPairing_125 rfl ?_
              refine r_goto (q := 132) dX2_bestPairing_127 rfl ?_
              refine r_istore_5 (by decide) rfl (q := 134) dX2_bestPairing_132 rfl ?_
              refine r_inc_6 (by decide) rfl (q := 137) dX2_bestPairing_134 rfl ?_
              refine r_goto (q := 62) dX2_bestPairing_137 rfl ?_
              exact next _ _ _ _ (Or.inr ⟨by9, c, by rw [hr9], hc, by omega, rfl, rfl⟩)
            · exact absurd (by decide) c115
          · exact absurd (by decide) c94
        · have next : ∀ (tk Li Bi : Int32) (o7 : Option Value), BstI L (if by9 < v then some (by9, r9) else some (v, L.getD i [])) Li Bi → _ := next
          refine r_iload_5 (q := 94) dX2_bestPairing_92 rfl ?_
          refine r_if_lt (q := 97) (tgt := 104) dX2_bestPairing_94 rfl rfl (fun c94 => ?_) (fun c94 => ?_)
          · exact absurd c94 (nI_pos (by omega))
          refine r_iload_7 (q := 99) dX2_bestPairing_97 rfl ?_
          refine r_iload_5 (q := 101) dX2_bestPairing_99 rfl ?_
          refine r_icmp_ge (q := 104) (tgt := 109) dX2_bestPairing_101 rfl rfl (fun c101 => ?_) (fun c101 => ?_)
          · have hq : ¬ by9 < v := fun q => absurd (nI_lt q (by omega)) (Int32.not_lt.mpr c101)
            rw [if_neg hq] at next
            refine r_iload_4 (q := 111) dX2_bestPairing_109 rfl ?_
            refine r_istore_4 (by decide) rfl (q := 113) dX2_bestPairing_111 rfl ?_
            refine r_iload_5 (q := 115) dX2_bestPairing_113 rfl ?_
            refine r_if_lt (q := 118) (tgt := 125) dX2_bestPairing_115 rfl rfl (fun c115 => ?_) (fun c115 => ?_)
            · exact absurd c115 (nI_pos (by omega))
            refine r_iload_7 (q := 120) dX2_bestPairing_118 rfl ?_
            refine r_iload_5 (q := 122) dX2_bestPairing_120 rfl ?_
            refine r_icmp_ge (q := 125) (tgt := 130) dX2_bestPairing_122 rfl rfl (fun c122 => ?_) (fun c122 => ?_)
            · refine r_iload_5 (q := 132) dX2_bestPairing_130 rfl ?_
              refine r_istore_5 (by decide) rfl (q := 134) dX2_bestPairing_132 rfl ?_
              refine r_inc_6 (by decide) rfl (q := 137) dX2_bestPairing_134 rfl ?_
              refine r_goto (q := 62) dX2_bestPairing_137 rfl ?_
              exact next _ _ _ _ (Or.inr ⟨v, i, rfl, hi, hv9, rfl, rfl⟩)
            · exact absurd c101 c122
          · have hq : by9 < v := (nI_ltI (by omega) (by omega)).mp (Int32.not_le.mp c101)
            rw [if_pos hq] at next
            refine r_iload_6 (q := 106) dX2_bestPairing_104 rfl ?_
            refine r_goto (q := 111) dX2_bestPairing_106 rfl ?_
            refine r_istore_4 (by decide) rfl (q := 113) dX2_bestPairing_111 rfl ?_
            refine r_iload_5 (q := 115) dX2_bestPairing_113 rfl ?_
            refine r_if_lt (q := 118) (tgt := 125) dX2_bestPairing_115 rfl rfl (fun c115 => ?_) (fun c115 => ?_)
            · exact absurd c115 (nI_pos (by omega))
            refine r_iload_7 (q := 120) dX2_bestPairing_118 rfl ?_
            refine r_iload_5 (q := 122) dX2_bestPairing_120 rfl ?_
            refine r_icmp_ge (q := 125) (tgt := 130) dX2_bestPairing_122 rfl rfl (fun c122 => ?_) (fun c122 => ?_)
            · exact absurd c122 c101
            · refine r_iload_7 (q := 127) dX2_bestPairing_125 rfl ?_
              refine r_goto (q := 132) dX2_bestPairing_127 rfl ?_
              refine r_istore_5 (by decide) rfl (q := 134) dX2_bestPairing_132 rfl ?_
              refine r_inc_6 (by decide) rfl (q := 137) dX2_bestPairing_134 rfl ?_
              refine r_goto (q := 62) dX2_bestPairing_137 rfl ?_
              exact next _ _ _ _ (Or.inr ⟨by9, c, by rw [hr9], hc, by omega, rfl, rfl⟩)
    · have hc := q2 c36
      have e0 : bestPS σ a p = (noBst σ.1 a p, rfS σ (noBst σ.1 a p)) := if_neg (isC_ne (hv ▸ hc))
      rw [e0, ← hv] at hz
      refine r_aload_0 (q := 40) dX2_bestPairing_39 rfl ?_
      refine r_iload_3 (q := 41) dX2_bestPairing_40 rfl ?_
      refine r_callV_1 cv_X2_128 mh_o rfl (by decide) (Nat.le_of_ble_eq_true rfl) ⟨Nat.le_refl _, Nat.le_refl _⟩ (k_X2_refuse hc (h.th 0).l6) (q := 44) dX2_bestPairing_41 rfl ?_
      exact r_iret hz dX2_bestPairing_44 (Nat.le_refl _) (Nat.le_refl _) (.of rfl ((h.th 0).refuse _))
  refine r_aload_0 (q := 1) dX2_bestPairing_0 rfl ?_
  refine r_iconst 0 (by decide) (q := 2) dX2_bestPairing_1 rfl ?_
  refine r_put gf_X2_65_2 cl_ok_2 ft_2_7 mh_o (Nat.le_of_ble_eq_true rfl) rfl rfl (q := 5) dX2_bestPairing_2 rfl ?_
  refine J.heap mset_f7 ?_
  refine r_iload_2 (q := 6) dX2_bestPairing_5 rfl ?_
  refine r_i2l (q := 7) dX2_bestPairing_6 rfl ?_
  refine r_ldc2 q1353 (q := 10) dX2_bestPairing_7 rfl ?_
  refine r_aload_0 (q := 11) dX2_bestPairing_10 rfl ?_
  refine m_getp gf_X2_68_2 K e (q := 14) dX2_bestPairing_11 rfl ?_
  refine r_iconst 1 (by decide) (q := 15) dX2_bestPairing_14 rfl ?_
  refine r_isub (q := 16) dX2_bestPairing_15 rfl ?_
  refine r_i2l (q := 17) dX2_bestPairing_16 rfl ?_
  refine r_callS_3 cs_X2_71 (by decide) (Nat.le_of_ble_eq_true rfl) ⟨Nat.le_refl _, Nat.le_refl _⟩ (k_X2_in32 (lo := -1) (hi := nI σ.1.1.length - 1) (by decide) rfl) (q := 20) dX2_bestPairing_17 rfl ?_
  rw [in_pai h6]
  refine r_if_eq (q := 23) (tgt := 33) dX2_bestPairing_20 rfl rfl (fun c20 => ?_) (fun c20 => ?_)
  · have t1 : ¬ (p = -1 ∨ isPer σ.1 p = true) := of_decide_eq_false (bI_0.mp c20)
    refine r_iconst (-1) (by decide) (q := 34) dX2_bestPairing_33 rfl ?_
    exact fin _ (if_neg t1).symm
  · have t1 : p = -1 ∨ isPer σ.1 p = true := of_decide_eq_true (bI_n0.mp c20)
    refine r_iload_1 (q := 24) dX2_bestPairing_23 rfl ?_
    refine r_iconst 0 (by decide) (q := 25) dX2_bestPairing_24 rfl ?_
    refine r_bipush 99 (by decide) (q := 27) dX2_bestPairing_25 rfl ?_
    refine r_callS_3 cs_X2_217 (by decide) (Nat.le_of_ble_eq_true rfl) ⟨Nat.le_refl _, Nat.le_refl _⟩ (k_X2_wrongNumber) (q := 30) dX2_bestPairing_27 rfl ?_
    refine r_goto (q := 34) dX2_bestPairing_30 rfl ?_
    exact fin _ (if_pos t1).symm
end MO9


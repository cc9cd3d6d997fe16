/-! ===== PrayerMatsFace: who it was ===== -/
section XW2
variable {G : GD} {n x : Nat} {w w' w2 : XW} {g g' : RH} {σ : SG} {X Y : QX}
theorem xe_l (i : Nat) (hi : i < 12) (e : w.1 i = Y) : xh x w g (x + qo i + 1) = some (.inr (.inr (11, [.int Y.2.2, .ref (x + qo i + 2), .int (nI Y.2.1.length)]))) := by subst e; exact xh_ql i hi
theorem xe_e (i : Nat) (hi : i < 12) (e : w.1 i = Y) : xh x w g (x + qo i + 2) = some (.inr (.inl (0, elems Y.2.1))) := by subst e; exact xh_qe i hi
theorem KX.grow (h : KX x g X) (hf : ∀ a c, xh x w2 g a = some c → a < n) (hg : ∀ a, a < n → g' a = g a) : KX x g' X := ⟨h.1, h.2.1, h.2.2.1, h.2.2.2.grow hf hg⟩
theorem PO.setp {pp : List Nat} {P : List PP} {a o : Nat} {p : PP} (h : PO x g pp P) (ho : x + 78 ≤ o) (e : g o = some (pcell p)) : PO x g (pp.set a o) (P.set a p) := by
  refine ⟨by rw [List.length_set, List.length_set]; exact h.1, fun i hi => ?_⟩
  rw [List.length_set] at hi
  have hi' : i < pp.length := by rw [h.1]; exact hi
  simp only [List.getD_eq_getElem?_getD, List.getElem?_set]
  by_cases ha : a = i
  · subst ha
    rw [if_pos rfl, if_pos hi', if_pos rfl, if_pos hi]
    exact ⟨ho, e⟩
  · rw [if_neg ha, if_neg ha]
    have := h.2 i hi
    simp only [List.getD_eq_getElem?_getD] at this
    exact this
theorem k_X0_supposes {a v wh : Nat} (hn : x + 78 ≤ n) (hk : OKX x g (w.1 0)) (hX : LX X) (ha : a < (w.1 0).1.1.length) (hw : wh < 4) (hv0 : wh = 0 → v < 6) (hv1 : wh = 1 → v < 10) (hv : v ≤ 31) : Ct G yX0_supposes cX0_supposes 5 none 6 1 2 [.ref x, .int (nI a), .int (nI wh), .int (nI v)] n (xh x (setq w 1 X) g) (fun r n' h' => r = none ∧ n ≤ n' ∧ ∃ Z g', h' = xh x (setq w 1 (supS (w.1 0).1 a (nI wh) v, Z)) g' ∧ OKX x g' (supS (w.1 0).1 a (nI wh) v, Z) ∧ ∀ b, b < n → g' b = g b) := by
  refine Ct.intro (k := 1) [some (.ref x), some (.int (nI a)), some (.int (nI wh)), some (.int (nI v)), none] (by decide) (Nat.le_of_ble_eq_true rfl) rfl fun z hz hin => ?_
  have h6 := hk.kx.l6
  have pa := vs_pr hk.1.2.1 ha
  refine J.fresh fun hfr => ?_
  refine r_aload_0 (q := 1) dX0_supposes_0 rfl ?_
  refine r_get gf_X0_20_0 xh_x rfl (q := 4) dX0_supposes_1 rfl ?_
  refine r_aload_0 (q := 5) dX0_supposes_4 rfl ?_
  refine r_get gf_X0_16_0 xh_x rfl (q := 8) dX0_supposes_5 rfl ?_
  refine r_callVv_1 cv_X0_103 (xe_o 1 (by decide) rfl) rfl (by decide) (Nat.le_of_ble_eq_true rfl) ⟨by decide, by decide⟩ (m_takes 1 0 (by decide) (by decide) (by decide) hX hk.kx rfl) (q := 11) dX0_supposes_8 rfl ?_
  refine r_aload_0 (q := 12) dX0_supposes_11 rfl ?_
  refine r_get gf_X0_16_0 xh_x rfl (q := 15) dX0_supposes_12 rfl ?_
  refine r_iload_1 (q := 16) dX0_supposes_15 rfl ?_
  refine r_callV_1 cv_X0_124 (xe_o 0 (by decide) rfl) rfl (by decide) (Nat.le_of_ble_eq_true rfl) ⟨by decide, by decide⟩ (x_person (w := setq w 1 (tkX (w.1 0) X)) 0 (by decide) hk.kx rfl ha) (q := 19) dX0_supposes_16 rfl ?_
  have hc := hk.kx.pers (w := setq w 1 (tkX (w.1 0) X)) ha
  have hpl := hk.kx.pl
  generalize ho : (w.1 0).2.1.getD a 0 = o at hc ⊢
  refine r_astore_4 (by decide) rfl (q := 21) dX0_supposes_19 rfl ?_
  refine r_iload_2 (q := 22) dX0_supposes_21 rfl ?_
  refine r_iconst 1 (by decide) (q := 23) dX0_supposes_22 rfl ?_
  refine r_icmp_le (q := 26) (tgt := 39) dX0_supposes_23 rfl rfl (fun c23 => ?_) (fun c23 => ?_)
  · have q1 : wh ≤ 1 := (nI_leI (b := 1) (by omega) (by decide)).mp c23
    have put : ∀ p : PP, p.1 < 6 → p.2 < 10 → supS (w.1 0).1 a (nI wh) v = setPr (w.1 0).1 a p → J G z cX0_supposes 5 RX0 6 1 2 0 0 74 [some (.ref x), some (.int (nI a)), some (.int (nI wh)), some (.int (nI v)), some (.ref o)] [.int (nI p.2), .int (nI p.1), .int (nI a), .ref (x + qo 1 + 1)] n (xh x (setq w 1 (tkX (w.1 0) X)) g) := by
      intro p p6 p10 hs
      refine r_callSp_2 cs_X0_156 (by decide) (Nat.le_of_ble_eq_true rfl) ⟨by decide, by decide⟩ (k_X0_personWith p6) (q := 77) dX0_supposes_74 rfl ?_
      intro r n' h' hq
      obtain ⟨rfl, rfl, rfl⟩ := hq
      have hg : ∀ a, a < n → hset g n (pcell p) a = g a := fun a ha => hset_ne _ _ (by omega)
      refine J.heap (h2 := xh x (setq w 1 (tkX (w.1 0) X)) (hset g n (pcell p))) (xh_hset hn) ?_
      obtain ⟨C, T, N, g1, g2⟩ := castO p6
      have hpc : xh x (setq w 1 (tkX (w.1 0) X)) (hset g n (pcell p)) n = some (pcell p) := by rw [xh_out (Or.inr hn)]; exact hset_eq _ _ _
      refine r_callV_2 cv_X0_269 (xe_l (Y := tkX (w.1 0) X) 1 (by decide) rfl) rfl (by decide) (Nat.le_of_ble_eq_true rfl) ⟨Nat.le_refl _, Nat.le_refl _⟩ (k_J2_set (o0 := o) (pp := (w.1 0).2.1) g1 g2 (xe_l (Y := tkX (w.1 0) X) 1 (by decide) rfl) (xe_e (Y := tkX (w.1 0) X) 1 (by decide) rfl) hpc (by omega) (by omega) ho) (q := 80) dX0_supposes_77 rfl ?_
      refine J.heap (h2 := xh x (setq w 1 (setPr (w.1 0).1 a p, (w.1 0).2.1.set a n, (tkX (w.1 0) X).2.2)) (hset g n (pcell p))) (xs_p (X := tkX (w.1 0) X) 1 (by decide)) ?_
      refine r_pop rfl (q := 81) dX0_supposes_80 rfl ?_
      have h' : OKX x (hset g n (pcell p)) (w.1 0) := ⟨hk.1, hk.2.grow hfr hg⟩
      exact r_vret hz dX0_supposes_81 (by decide) (by decide) ⟨rfl, Nat.le_succ _, _, _, by rw [hs], by rw [hs]; exact ⟨setPr_oks hk.1 ⟨p6, p10⟩, h'.2.setp hn (hset_eq _ _ _)⟩, hg⟩
    refine r_aload_0 (q := 40) dX0_supposes_39 rfl ?_
    refine r_get gf_X0_20_0 xh_x rfl (q := 43) dX0_supposes_40 rfl ?_
    refine r_getN gn_X0_265_1 (xe_o 1 (by decide) rfl) rfl (q := 46) dX0_supposes_43 rfl ?_
    refine r_iload_1 (q := 47) dX0_supposes_46 rfl ?_
    refine r_iload_2 (q := 48) dX0_supposes_47 rfl ?_
    match wh, q1 with
    | 0, _ =>
      refine r_if_ne (q := 51) (tgt := 55) dX0_supposes_48 rfl rfl (fun c48 => ?_) (fun c48 => ?_)
      · exact absurd rfl c48
      refine r_iload_3 (q := 52) dX0_supposes_51 rfl ?_
      refine r_goto (q := 60) dX0_supposes_52 rfl ?_
      refine r_iload_2 (q := 61) dX0_supposes_60 rfl ?_
      refine r_iconst 1 (by decide) (q := 62) dX0_supposes_61 rfl ?_
      refine r_icmp_ne (q := 65) (tgt := 69) dX0_supposes_62 rfl rfl (fun c62 => ?_) (fun c62 => ?_)
      · refine r_aload_4 (q := 71) dX0_supposes_69 rfl ?_
        refine r_get (gff _ pa.1) hc rfl (q := 74) dX0_supposes_71 rfl ?_
        exact put (v, (pr (w.1 0).1 a).2) (hv0 rfl) pa.2 (by unfold supS; rw [if_pos (by rfl)])
      · exact absurd c62 (by decide)
    | 1, _ =>
      refine r_if_ne (q := 51) (tgt := 55) dX0_supposes_48 rfl rfl (fun c48 => ?_) (fun c48 => ?_)
      · refine r_aload_4 (q := 57) dX0_supposes_55 rfl ?_
        refine r_get (gfk _ pa.1) hc rfl (q := 60) dX0_supposes_57 rfl ?_
        refine r_iload_2 (q := 61) dX0_supposes_60 rfl ?_
        refine r_iconst 1 (by decide) (q := 62) dX0_supposes_61 rfl ?_
        refine r_icmp_ne (q := 65) (tgt := 69) dX0_supposes_62 rfl rfl (fun c62 => ?_) (fun c62 => ?_)
        · exact absurd rfl c62
        refine r_iload_3 (q := 66) dX0_supposes_65 rfl ?_
        refine r_goto (q := 74) dX0_supposes_66 rfl ?_
        exact put ((pr (w.1 0).1 a).1, v) pa.1 (hv1 rfl) (by unfold supS; rw [if_neg (by decide), if_pos (by rfl)])
      · exact absurd c48 (by decide)
  · have hs : supS (w.1 0).1 a (nI wh) v = setH (w.1 0).1 a v := by
      have q1 : ¬ wh ≤ 1 := fun q => c23 (nI_le q (by decide))
      unfold supS
      rw [if_neg (fun q => by have := nI_inj (b := 0) (by omega) (by omega) q; omega), if_neg (fun q => by have := nI_inj (b := 1) (by omega) (by omega) q; omega)]
    refine r_aload_0 (q := 27) dX0_supposes_26 rfl ?_
    refine r_get gf_X0_20_0 xh_x rfl (q := 30) dX0_supposes_27 rfl ?_
    refine r_getN gn_X0_134_1 (xe_o 1 (by decide) rfl) rfl (q := 33) dX0_supposes_30 rfl ?_
    refine r_iload_1 (q := 34) dX0_supposes_33 rfl ?_
    refine r_iload_3 (q := 35) dX0_supposes_34 rfl ?_
    refine r_iastN a 6 v (xe_h (Y := tkX (w.1 0) X) 1 (by decide) rfl) hk.1.1.2.1 rfl rfl (by omega) (by decide) (q := 36) dX0_supposes_35 rfl ?_
    refine J.heap (xs_h (X := tkX (w.1 0) X) 1 (by decide)) ?_
    refine r_goto (q := 81) dX0_supposes_36 rfl ?_
    exact r_vret hz dX0_supposes_81 (by decide) (by decide) ⟨rfl, Nat.le_refl _, _, _, by rw [hs]; rfl, by rw [hs]; exact ⟨hk.1.stH hv, hk.2⟩, fun _ _ => rfl⟩
theorem k_X0_who {a b what : Int32} (hn : x + 78 ≤ n) (h : XR x w g σ) : Ct G yX0_who cX0_who 9 (some .int) 9 32 64 [.ref x, .int a, .int b, .int what] n (xh x w g) (XPo x n g (whoS σ a b what)) := by
  refine Ct.intro (k := 5) [some (.ref x), some (.int a), some (.int b), some (.int what), none, none, none, none, none] (by decide) (Nat.le_of_ble_eq_true rfl) rfl fun z hz hin => ?_
  have hk := h.kx
  have h6 := h.oks.1.1
  have fin : ∀ no : Int32, no = noTw σ.1 a b what 4 → J G z cX0_who 9 RX0 9 32 64 0 0 27 [some (.ref x), some (.int a), some (.int b), some (.int what), none, none, none, none, none] [.int no] n (xh x w g) := by
    intro no hno
    refine r_istore_4 (by decide) rfl (q := 29) dX0_who_27 rfl ?_
    refine r_iload_4 (q := 31) dX0_who_29 rfl ?_
    refine r_if_eq (q := 34) (tgt := 41) dX0_who_31 rfl rfl (fun c31 => ?_) (fun c31 => ?_)
    · have h0 : noTw σ.1 a b what 4 = 0 := by rw [← hno]; exact c31
      obtain ⟨t1, t2⟩ := noTw_0 h0
      have hw0 : 0 ≤ what := (of_decide_eq_true t2).1
      obtain ⟨wh, hwh, rfl⟩ := inI_n (k := 4) (by decide) t2
      obtain ⟨p, b', ha, hb, -, rfl, rfl⟩ := areTw_t h.oks.1 t1
      have e0 : whoS σ (nI p) (nI b') (nI wh) = (if nI wh < 2 then (whoR (whoQ σ p b' (nI wh)) (nI wh)).1 else if nI wh = 2 then (whoR (whoQ σ p b' (nI wh)) (nI wh)).2.1 else (whoR (whoQ σ p b' (nI wh)) (nI wh)).2.2, σ) := by
        unfold whoS
        rw [if_pos h0, cl_nI (by omega), cl_nI (by omega)]
      rw [e0] at hz
      have loop : ∀ (c : Nat) (s : Int32 × Int32 × Int32) (cs sl n' : Nat) (g' : RH) (X : QX), c ≤ whoN (nI wh) → cs + c ≤ 32 → sl + 2 * c ≤ 64 → n ≤ n' → (∀ b, b < n → g' b = g b) → XR x w g' σ → LX X → downR (whoF (whoQ σ p b' (nI wh)) (nI wh)) c s = whoR (whoQ σ p b' (nI wh)) (nI wh) → J G z cX0_who 9 RX0 9 32 64 cs sl 73 [some (.ref x), some (.int (nI p)), some (.int (nI b')), some (.int (nI wh)), some (.int no), some (.int s.1), some (.int s.2.1), some (.int s.2.2), some (.int (nI c - 1))] [] n' (xh x (setq w 1 X) g') := by
        intro c
        induction c with
        | zero =>
          intro s cs sl n' g' X hc h1 h2 h3 h4 h5 h7 h8
          have h8 : s = _ := h8
          rw [← h8] at hz
          refine r_iload_8 (q := 75) dX0_who_73 rfl ?_
          refine r_if_lt (q := 78) (tgt := 125) dX0_who_75 rfl rfl (fun c75 => ?_) (fun c75 => ?_)
          · refine r_iload_3 (q := 126) dX0_who_125 rfl ?_
            refine r_iconst 2 (by decide) (q := 127) dX0_who_126 rfl ?_
            refine r_icmp_ge (q := 130) (tgt := 135) dX0_who_127 rfl rfl (fun c127 => ?_) (fun c127 => ?_)
            · rw [if_neg (Int32.not_lt.mpr c127)] at hz
              refine r_iload_3 (q := 136) dX0_who_135 rfl ?_
              refine r_iconst 2 (by decide) (q := 137) dX0_who_136 rfl ?_
              refine r_icmp_ne (q := 140) (tgt := 145) dX0_who_137 rfl rfl (fun c137 => ?_) (fun c137 => ?_)
              · rw [if_neg c137] at hz
                refine r_iload_7 (q := 147) dX0_who_145 rfl ?_
                exact r_iret hz dX0_who_147 (by omega) (by omega) (XPo.gen rfl h3 (h5.mind h7) h4)
              · rw [if_pos c137] at hz
                refine r_iload_6 (q := 142) dX0_who_140 rfl ?_
                refine r_goto (q := 147) dX0_who_142 rfl ?_
                exact r_iret hz dX0_who_147 (by omega) (by omega) (XPo.gen rfl h3 (h5.mind h7) h4)
            · rw [if_pos (Int32.not_le.mp c127)] at hz
              refine r_iload_5 (q := 132) dX0_who_130 rfl ?_
              refine r_goto (q := 147) dX0_who_132 rfl ?_
              exact r_iret hz dX0_who_147 (by omega) (by omega) (XPo.gen rfl h3 (h5.mind h7) h4)
          · exact absurd c75 (by decide)
        | succ c ih =>
          intro s cs sl n' g' X hc h1 h2 h3 h4 h5 h7 h8
          obtain ⟨w1, w2, w3⟩ := whoN_lt (what := nI wh) (k := c) hc
          have nx : ∀ (n2 : Nat) (g2 : RH) (X2 : QX), n ≤ n2 → (∀ b, b < n → g2 b = g b) → XR x w g2 σ → LX X2 → ∀ s', s' = whoF (whoQ σ p b' (nI wh)) (nI wh) c s → J G z cX0_who 9 RX0 9 32 64 (cs + 1) (sl + 2) 119 [some (.ref x), some (.int (nI p)), some (.int (nI b')), some (.int (nI wh)), some (.int no), some (.int s'.1), some (.int s'.2.1), some (.int s'.2.2), some (.int (nI c))] [] n2 (xh x (setq w 1 X2) g2) := by
            intro n2 g2 X2 u1 u2 u3 u4 s' hs'
            have h8 : downR (whoF (whoQ σ p b' (nI wh)) (nI wh)) c (whoF (whoQ σ p b' (nI wh)) (nI wh) c s) = _ := h8
            rw [← hs'] at h8
            refine r_iinc_8 _ rfl (by decide) rfl (q := 122) dX0_who_119 rfl ?_
            rw [iinc_m1]
            refine r_goto (q := 73) dX0_who_122 rfl ?_
            exact ih s' _ _ _ _ _ (by omega) (by omega) (by omega) u1 u2 u3 u4 h8
          rw [nI_pred]
          refine r_iload_8 (q := 75) dX0_who_73 rfl ?_
          refine r_if_lt (q := 78) (tgt := 125) dX0_who_75 rfl rfl (fun c75 => ?_) (fun c75 => ?_)
          · exact absurd c75 (Int32.not_lt.mpr (nI_pos' (by omega)))
          refine J.fresh fun hfr => ?_
          refine r_aload_0 (q := 79) dX0_who_78 rfl ?_
          refine r_iload_1 (q := 80) dX0_who_79 rfl ?_
          refine r_iload_3 (q := 81) dX0_who_80 rfl ?_
          refine r_iload_8 (q := 83) dX0_who_81 rfl ?_
          refine r_callVp_3 cv_X0_275 xh_x rfl (by decide) (Nat.le_of_ble_eq_true rfl) ⟨by omega, by omega⟩ (k_X0_supposes (wh := wh) (by omega) h5.ok h7 (by rw [h.s]; exact ha) hwh (fun q => w1 (by rw [q]; rfl)) (fun q => w2 (by rw [q]; rfl)) w3) (q := 86) dX0_who_83 rfl ?_
          intro r n2 h2 hq
          obtain ⟨rfl, hn2, Z, g2, rfl, hok, hg2⟩ := hq
          have hR := h5.grow hfr hg2
          have ok' := h.2.2.2.2.1
          have hp6 : p < 6 := by omega
          have hb6 : b' < 6 := by omega
          refine r_aload_0 (q := 87) dX0_who_86 rfl ?_
          refine r_iload_1 (q := 88) dX0_who_87 rfl ?_
          refine r_iload_2 (q := 89) dX0_who_88 rfl ?_
          refine r_callVp_2 cv_X0_278 xh_x rfl (by decide) (Nat.le_of_ble_eq_true rfl) ⟨by omega, by omega⟩ (k_X0_isQuarrelSo (a := p) (b := b') hok.kx hp6 hb6 ok'.2.2.1 ok'.2.2.2 (by rw [ok'.1]; exact ok'.2.1)) (q := 92) dX0_who_89 rfl ?_
          intro r n3 h3' hq
          obtain ⟨rfl, rfl, X', hX', rfl⟩ := hq
          rw [show isqS p b' w.2.2.1.2.2.2 σ.2.1.2.2.2 0 (supS (w.1 0).1 p (nI wh) c, Z).1 = whoQ σ p b' (nI wh) c from by unfold whoQ; rw [ok'.1, h.s]]
          have hb' : ∀ b, b < n → g2 b = g b := fun b hb => (hg2 b (by omega)).trans (h4 b hb)
          refine r_if_ne (q := 95) (tgt := 98) dX0_who_92 rfl rfl (fun c92 => ?_) (fun c92 => ?_)
          · have hq := bI_n0.mp c92
            have fin2 : ∀ s1 : Int32, s1 = (if nI wh < 2 then s.1 ||| b1 c else s.1) → J G z cX0_who 9 RX0 9 32 64 (cs + 1) (sl + 2) 112 [some (.ref x), some (.int (nI p)), some (.int (nI b')), some (.int (nI wh)), some (.int no), some (.int s1), some (.int s.2.1), some (.int s.2.2), some (.int (nI c))] [] n3 (xh x (setq w 1 X') g2) := by
              intro s1 hs1
              refine r_iinc_6 (s.2.1 + 1) rfl (by decide) rfl (q := 115) dX0_who_112 rfl ?_
              refine r_iload_8 (q := 117) dX0_who_115 rfl ?_
              refine r_istore_7 (by decide) rfl (q := 119) dX0_who_117 rfl ?_
              exact nx _ _ _ (by omega) hb' hR hX' (s1, s.2.1 + 1, nI c) (by unfold whoF; rw [if_pos hq, hs1])
            refine r_iload_3 (q := 99) dX0_who_98 rfl ?_
            refine r_iconst 2 (by decide) (q := 100) dX0_who_99 rfl ?_
            refine r_icmp_ge (q := 103) (tgt := 112) dX0_who_100 rfl rfl (fun c100 => ?_) (fun c100 => ?_)
            · exact fin2 _ (by rw [if_neg (Int32.not_lt.mpr c100)])
            · refine r_iload_5 (q := 105) dX0_who_103 rfl ?_
              refine r_iconst 1 (by decide) (q := 106) dX0_who_105 rfl ?_
              refine r_iload_8 (q := 108) dX0_who_106 rfl ?_
              refine r_ishl (q := 109) dX0_who_108 rfl ?_
              refine r_ior (q := 110) dX0_who_109 rfl ?_
              refine r_istore_5 (by decide) rfl (q := 112) dX0_who_110 rfl ?_
              exact fin2 _ (by rw [if_pos (Int32.not_le.mp c100)]; rfl)
          · have hq := bI_0.mp c92
            refine r_goto (q := 119) dX0_who_95 rfl ?_
            exact nx _ _ _ (by omega) hb' hR hX' s (by unfold whoF; rw [if_neg (by rw [hq]; decide)])
      have go : ∀ c : Nat, c = whoN (nI wh) → J G z cX0_who 9 RX0 9 32 64 0 0 71 [some (.ref x), some (.int (nI p)), some (.int (nI b')), some (.int (nI wh)), some (.int no), some (.int 0), some (.int 0), some (.int (-9)), none] [.int (nI c - 1)] n (xh x w g) := by
        intro c hc
        refine r_istore_8 (by decide) rfl (q := 73) dX0_who_71 rfl ?_
        refine J.heap (h2 := xh x (setq w 1 (w.1 1)) g) (by rw [setq_self]) ?_
        have : whoN (nI wh) ≤ 32 := by unfold whoN; (repeat' split) <;> decide
        exact loop c (0, 0, -9) 0 0 n g (w.1 1) (by omega) (by omega) (by omega) (Nat.le_refl _) (fun _ _ => rfl) h (h.lx 1 (by decide)) (by rw [hc]; rfl)
      refine r_iconst 0 (by decide) (q := 42) dX0_who_41 rfl ?_
      refine r_istore_5 (by decide) rfl (q := 44) dX0_who_42 rfl ?_
      refine r_iconst 0 (by decide) (q := 45) dX0_who_44 rfl ?_
      refine r_istore_6 (by decide) rfl (q := 47) dX0_who_45 rfl ?_
      refine r_bipush (-9) (by decide) (q := 49) dX0_who_47 rfl ?_
      refine r_istore_7 (by decide) rfl (q := 51) dX0_who_49 rfl ?_
      refine r_iload_3 (q := 52) dX0_who_51 rfl ?_
      refine r_if_ne (q := 55) (tgt := 59) dX0_who_52 rfl rfl (fun c52 => ?_) (fun c52 => ?_)
      · refine r_iload_3 (q := 60) dX0_who_59 rfl ?_
        refine r_iconst 1 (by decide) (q := 61) dX0_who_60 rfl ?_
        refine r_icmp_ne (q := 64) (tgt := 69) dX0_who_61 rfl rfl (fun c61 => ?_) (fun c61 => ?_)
        · refine r_bipush 31 (by decide) (q := 71) dX0_who_69 rfl ?_
          exact go 32 ((if_neg c52).trans (if_neg c61)).symm
        · refine r_bipush 9 (by decide) (q := 66) dX0_who_64 rfl ?_
          refine r_goto (q := 71) dX0_who_66 rfl ?_
          exact go 10 ((if_neg c52).trans (if_pos c61)).symm
      · refine r_iconst 5 (by decide) (q := 56) dX0_who_55 rfl ?_
        refine r_goto (q := 71) dX0_who_56 rfl ?_
        exact go 6 (if_pos c52).symm
    · have hc : isC no := by rw [hno] at c31 ⊢; exact noTw_c.resolve_left c31
      have e0 : whoS σ a b what = (noTw σ.1 a b what 4, rfS σ (noTw σ.1 a b what 4)) := if_neg (hno ▸ c31)
      rw [e0, ← hno] at hz
      refine r_aload_0 (q := 35) dX0_who_34 rfl ?_
      refine r_iload_4 (q := 37) dX0_who_35 rfl ?_
      refine r_callV_1 cv_X0_48 xh_x rfl (by decide) (Nat.le_of_ble_eq_true rfl) ⟨by omega, by omega⟩ (k_X0_refuse hc h.ra) (q := 40) dX0_who_37 rfl ?_
      exact r_iret hz dX0_who_40 (by omega) (by omega) (.of rfl (h.refuse _))
  refine r_aload_0 (q := 1) dX0_who_0 rfl ?_
  refine r_iload_1 (q := 2) dX0_who_1 rfl ?_
  refine r_iload_2 (q := 3) dX0_who_2 rfl ?_
  refine r_callV_2 cv_X0_146 xh_x rfl (by decide) (Nat.le_of_ble_eq_true rfl) ⟨by omega, by omega⟩ (k_X0_areTwo hk) (q := 6) dX0_who_3 rfl ?_
  rw [h.s]
  refine r_if_ne (q := 9) (tgt := 13) dX0_who_6 rfl rfl (fun c6 => ?_) (fun c6 => ?_)
  · have t1 := bI_n0.mp c6
    refine r_iload_3 (q := 14) dX0_who_13 rfl ?_
    refine r_iconst 4 (by decide) (q := 15) dX0_who_14 rfl ?_
    refine r_callS_2 cs_X0_78 (by decide) (Nat.le_of_ble_eq_true rfl) ⟨by omega, by omega⟩ (k_X0_isIn) (q := 18) dX0_who_15 rfl ?_
    refine r_if_eq (q := 21) (tgt := 25) dX0_who_18 rfl rfl (fun c18 => ?_) (fun c18 => ?_)
    · have hp : inI what 4 = false := bI_0.mp c18
      refine r_bipush (-2) (by decide) (q := 27) dX0_who_25 rfl ?_
      exact fin _ (by unfold noTw; rw [if_pos t1, hp]; rfl)
    · have hp : inI what 4 = true := bI_n0.mp c18
      refine r_iconst 0 (by decide) (q := 22) dX0_who_21 rfl ?_
      refine r_goto (q := 27) dX0_who_22 rfl ?_
      exact fin _ (by unfold noTw; rw [if_pos t1, if_pos hp])
  · have t1 : ¬ areTw σ.1 a b = true := fun q => by rw [bI_0.mp c6] at q; cases q
    refine r_iconst (-1) (by decide) (q := 10) dX0_who_9 rfl ?_
    refine r_goto (q := 27) dX0_who_10 rfl ?_
    exact fin _ (by unfold noTw; rw [if_neg t1])
end XW2


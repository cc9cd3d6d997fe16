/-! ===== PrayerMatsFaceModel: swaps, hours, who it was, ways ===== -/
theorem zin_cases (a b : Nat) : ∀ (c k : Nat) (S : SQ), k + c ≤ 100 → zin a b c k S = 100 ∨ ∃ i, i < 100 ∧ zin a b c k S = nI i
  | 0, _, _, _ => Or.inl rfl
  | c + 1, k, S, h => by
    show (if qr S a b = 0 then nI k else zin a b c (k + 1) (goesS S)) = 100 ∨ ∃ i, i < 100 ∧ (if qr S a b = 0 then nI k else zin a b c (k + 1) (goesS S)) = nI i
    split
    · exact Or.inr ⟨k, by omega, rfl⟩
    · exact zin_cases a b c (k + 1) (goesS S) (by omega)
def hfV (S : SQ) (i : Nat) (what : Int32) : Int32 := match mt S i with
  | none => -9
  | some m => if what = 0 then (hfS S i m).1 else toldI (hfS S i m).2
theorem hf_eq {σ : SG} {i : Nat} {what : Int32} (hi : i < 2 ^ 30) (h0 : noPw σ.1 (nI i) what 2 = 0) : hoursForS σ (nI i) what = (hfV σ.1 i what, σ) := by
  unfold hoursForS
  rw [if_pos h0, cl_nI hi]
  rfl
/-- the best hours: plain -/
def HJ (s : Int32 × Int32) : Prop := s = (-9, 100) ∨ ∃ b k, b < 32 ∧ k < 100 ∧ s = (nI b, nI k)
def isHf (s : Int32 × Int32) (z : Int32) (h : Nat) : Prop := 0 ≤ toldI z ∧ (s.1 < 0 ∨ toldI z < toldI s.2 ∨ (toldI z = toldI s.2 ∧ nI (pop h) < nI (pop (cl s.1))))
theorem hf_is {S : SQ} {p m h : Nat} {s : Int32 × Int32} (hs : HJ s) (h32 : h < 32) : (isHf s (zin p m 100 0 (setH S p h)) h → hfF S p m h s = (nI h, zin p m 100 0 (setH S p h))) ∧ (¬ isHf s (zin p m 100 0 (setH S p h)) h → hfF S p m h s = s) := by
  have hz := zin_cases p m 100 0 (setH S p h) (by omega)
  have hp := pop_le h (by omega)
  unfold hfF isHf
  generalize zin p m 100 0 (setH S p h) = z at hz ⊢
  rcases hz with rfl | ⟨i, hi, rfl⟩
  · refine ⟨fun q => absurd q.1 (by decide), fun _ => if_pos (Or.inl rfl)⟩
  · have n100 : ¬ nI i = 100 := fun q => by have := nI_inj (b := 100) (by omega) (by omega) q; omega
    rw [told_nI hi]
    rcases hs with rfl | ⟨b, k, hb, hk, rfl⟩
    · refine ⟨fun _ => if_neg (fun q => ?_), fun q => absurd ⟨nI_pos' (by omega), Or.inl (by decide)⟩ q⟩
      rcases q with q | q | q
      · exact n100 q
      · exact absurd q (nI_nlt (b := i) (a := 100) (by omega) (by omega))
      · exact n100 q.1
    · have hb2 := pop_le b (by omega)
      have a1 : nI i < nI k ↔ i < k := nI_ltI (by omega) (by omega)
      have a2 : nI k < nI i ↔ k < i := nI_ltI (by omega) (by omega)
      have a3 : nI (pop h) < nI (pop b) ↔ pop h < pop b := nI_ltI (by omega) (by omega)
      have a4 : nI i = nI k ↔ i = k := nI_eq (by omega) (by omega)
      show ((0 ≤ nI i ∧ (nI b < 0 ∨ nI i < toldI (nI k) ∨ (nI i = toldI (nI k) ∧ nI (pop h) < nI (pop (cl (nI b)))))) → (if nI i = 100 ∨ nI k < nI i ∨ (nI i = nI k ∧ pop (cl (nI b)) ≤ pop h) then (nI b, nI k) else (nI h, nI i)) = (nI h, nI i)) ∧ (¬(0 ≤ nI i ∧ (nI b < 0 ∨ nI i < toldI (nI k) ∨ (nI i = toldI (nI k) ∧ nI (pop h) < nI (pop (cl (nI b)))))) → (if nI i = 100 ∨ nI k < nI i ∨ (nI i = nI k ∧ pop (cl (nI b)) ≤ pop h) then (nI b, nI k) else (nI h, nI i)) = (nI b, nI k))
      rw [told_nI hk, cl_nI (by omega)]
      refine ⟨fun q => if_neg (fun q' => ?_), fun q => if_pos ?_⟩
      · rcases q with ⟨-, q⟩
        rcases q with q | q | q
        · exact nI_pos (by omega) q
        · have q := a1.mp q
          rcases q' with z | z | z
          · exact n100 z
          · have := a2.mp z; omega
          · have := a4.mp z.1; omega
        · have q1 := a4.mp q.1
          have q2 := a3.mp q.2
          rcases q' with z | z | z
          · exact n100 z
          · have := a2.mp z; omega
          · have := z.2; omega
      · rcases Nat.lt_or_ge k i with z | z
        · exact Or.inr (Or.inl (a2.mpr z))
        · rcases Nat.lt_or_ge i k with y | y
          · exact absurd ⟨nI_pos' (by omega), Or.inr (Or.inl (a1.mpr y))⟩ q
          · refine Or.inr (Or.inr ⟨a4.mpr (by omega), ?_⟩)
            rcases Nat.lt_or_ge (pop h) (pop b) with x | x
            · exact absurd ⟨nI_pos' (by omega), Or.inr (Or.inr ⟨a4.mpr (by omega), a3.mpr x⟩)⟩ q
            · exact x
theorem hf_HJ {S : SQ} {p m h : Nat} {s : Int32 × Int32} (hs : HJ s) (h32 : h < 32) : HJ (hfF S p m h s) := by
  have hz := zin_cases p m 100 0 (setH S p h) (by omega)
  unfold hfF
  split
  · exact hs
  · rename_i hn
    rcases hz with z | ⟨i, hi, z⟩
    · exact absurd (Or.inl z) hn
    · exact Or.inr ⟨h, i, h32, hi, by rw [z]⟩
theorem setPr_oks {S : SQ} {a : Nat} {p : PP} (h : OKS S) (hp : p.1 < 6 ∧ p.2 < 10) : OKS (setPr S a p) := by
  have hl : (setPr S a p).1.length = S.1.length := List.length_set ..
  refine ⟨⟨by rw [hl]; exact h.1.1, h.1.2⟩, ⟨fun q hq => ?_, h.2.1.2⟩, fun c hc b e => ?_, h.2.2.2⟩
  · rcases List.mem_or_eq_of_mem_set (show q ∈ S.1.set a p from hq) with z | z
    · exact h.2.1.1 q z
    · rw [z]; exact hp
  · rw [hl] at hc ⊢
    exact h.2.2.1 c hc b e
theorem pr_setPr {S : SQ} {a : Nat} {p : PP} (ha : a < S.1.length) : pr (setPr S a p) a = p := by
  unfold pr setPr
  show (S.1.set a p).getD a (0, 0) = p
  rw [getD_set, if_pos ⟨rfl, ha⟩]
theorem setK1_mS {T : SQ} {j : List PP} {a k : Nat} (K : OKM T j) (ha : a < T.1.length) : setK1 (mS T j) a k = mS (setPr T a (k, (pr T a).2)) j := by
  unfold setK1
  show (T.1.length, (T.1 ++ j).set a (k, ((T.1 ++ j).getD a (0, 0)).2), T.2) = ((T.1.set a (k, (pr T a).2)).length, T.1.set a (k, (pr T a).2) ++ j, T.2)
  rw [K.prd ha, List.set_append_left _ _ ha, List.length_set]
theorem setK2_mS {T : SQ} {j : List PP} {a k : Nat} (K : OKM T j) (ha : a < T.1.length) : setK2 (mS T j) a k = mS (setPr T a ((pr T a).1, k)) j := by
  unfold setK2
  show (T.1.length, (T.1 ++ j).set a (((T.1 ++ j).getD a (0, 0)).1, k), T.2) = ((T.1.set a ((pr T a).1, k)).length, T.1.set a ((pr T a).1, k) ++ j, T.2)
  rw [K.prd ha, List.set_append_left _ _ ha, List.length_set]
theorem set_self {α : Type} (l : List α) (a : Nat) (d : α) : l.set a (l.getD a d) = l := by
  apply List.ext_getElem?
  intro i
  rw [List.getElem?_set]
  by_cases h : a = i
  · subst h
    rw [if_pos rfl]
    by_cases hl : a < l.length
    · rw [if_pos hl, List.getD_eq_getElem?_getD, List.getElem?_eq_getElem hl]
      rfl
    · rw [if_neg hl, List.getElem?_eq_none (by omega)]
  · rw [if_neg h]
theorem sup_eq {T : SQ} {a k : Nat} {what : Int32} (ha : a < T.1.length) (hw : 0 ≤ what) : setH (setPr (setPr T a (if what = 0 then k else (pr T a).1, (pr T a).2)) a (if what = 0 then k else (pr T a).1, if what = 1 then k else (pr T a).2)) a (if 1 < what then k else hr T a) = supS T a what k := by
  have eH : ∀ S : SQ, S.2 = T.2 → setH S a (hr T a) = S := by
    intro S h
    unfold setH hr
    rw [h, set_self]
    show (S.1, T.2) = S
    rw [← h]
  have eP : ∀ x y : PP, setPr (setPr T a x) a y = setPr T a y := by
    intro x y
    unfold setPr
    show ((T.1.set a x).set a y, T.2) = _
    rw [List.set_set]
  rw [eP]
  unfold supS
  by_cases h0 : what = 0
  · subst h0
    rw [if_pos rfl, if_neg (by decide), if_neg (by decide), if_pos rfl]
    exact eH _ rfl
  · rw [if_neg h0, if_neg h0]
    by_cases h1 : what = 1
    · subst h1
      rw [if_pos rfl, if_neg (by decide), if_pos rfl]
      exact eH _ rfl
    · rw [if_neg h1, if_neg h1]
      have : (1 : Int32) < what := by
        obtain ⟨v, hv, rfl⟩ := nI_of (x := what) (Int32.not_lt.mpr hw)
        have n0 : v ≠ 0 := fun q => h0 (by rw [q]; rfl)
        have n1 : v ≠ 1 := fun q => h1 (by rw [q]; rfl)
        exact nI_lt (a := 1) (by omega) (by omega)
      rw [if_pos this]
      have : setPr T a ((pr T a).1, (pr T a).2) = T := by
        unfold setPr pr
        show (T.1.set a (T.1.getD a (0, 0)), T.2) = T
        rw [set_self]
      rw [this]
section MO4
variable {G : GD} {n m : Nat} {w : MW} {g : RH} {σ : SG} {T T0 : SQ} {j j0 : List PP}
/-- whatever was thought, the quarter as it is -/
theorem MR.cn (h : MR w σ) (e : w.1 = mS σ.1 j) (tk : Int32) : MR (cw11 m w tk (mS σ.1 j) (encS (mS σ.1 j)) 62) σ := h.scr e.symm rfl h.ln.k11
theorem k_X2_hoursFor {p what : Int32} (h : MR w σ) : Ct G yX2_hoursFor cX2_hoursFor 9 (some .int) 6 0 0 [.ref m, .int p, .int what] n (mh m w g) (MPo m n g (hoursForS σ p what)) := by
  refine Ct.intro (k := 6) [some (.ref m), some (.int p), some (.int what), none, none, none, none, none, none] (by decide) (Nat.le_of_ble_eq_true rfl) rfl fun z hz hin => ?_
  obtain ⟨j, e, K⟩ := h.1
  have h6 := K.l6
  have fin : ∀ v : Int32, v = (if isPer σ.1 p = true then 0 else -1) → J G z cX2_hoursFor 9 RX2 6 0 0 0 0 18 [some (.ref m), some (.int p), some (.int what), none, none, none, none, none, none] [.int v] n (mh m (sf7 w 0) g) := by
    intro v hv
    obtain ⟨q1, q2⟩ := no_ge (noPw_c (S := σ.1) (p := p) (what := what) (k := 2))
    refine r_iload_2 (q := 19) dX2_hoursFor_18 rfl ?_
    refine r_iconst 1 (by decide) (q := 20) dX2_hoursFor_19 rfl ?_
    refine r_callS_3 cs_X2_211 (by decide) (Nat.le_of_ble_eq_true rfl) ⟨Nat.le_refl _, Nat.le_refl _⟩ (k_X2_wrongBit) (q := 23) dX2_hoursFor_20 rfl ?_
    refine J.topi (x := wbI v what 1) (y := noPw σ.1 p what 2) (by rw [hv]; exact wbI_pw (k := 1) (by decide)) ?_
    refine r_istore_3 (by decide) rfl (q := 24) dX2_hoursFor_23 rfl ?_
    refine r_iload_3 (q := 25) dX2_hoursFor_24 rfl ?_
    refine r_if_ge (q := 28) (tgt := 34) dX2_hoursFor_25 rfl rfl (fun c25 => ?_) (fun c25 => ?_)
    · have h0 := q1 c25
      obtain ⟨t1, t2⟩ := noPw_0 h0
      obtain ⟨i, hi, rfl⟩ := isPer_t K.lens t1
      rw [hf_eq (by omega) h0] at hz
      refine r_bipush (-9) (by decide) (q := 36) dX2_hoursFor_34 rfl ?_
      refine r_istore_4 (by decide) rfl (q := 38) dX2_hoursFor_36 rfl ?_
      refine r_bipush (-9) (by decide) (q := 40) dX2_hoursFor_38 rfl ?_
      refine r_istore_5 (by decide) rfl (q := 42) dX2_hoursFor_40 rfl ?_
      refine r_aload_0 (q := 43) dX2_hoursFor_42 rfl ?_
      refine r_callVv_0 cv_X2_178 mh_o rfl (by decide) (Nat.le_of_ble_eq_true rfl) ⟨Nat.le_refl _, Nat.le_refl _⟩ (k_X2_think K e h.l11) (q := 46) dX2_hoursFor_43 rfl ?_
      refine r_iconst 0 (by decide) (q := 47) dX2_hoursFor_46 rfl ?_
      refine r_istore_6 (by decide) rfl (q := 49) dX2_hoursFor_47 rfl ?_
      have last : ∀ (tk r1 r2 : Int32) (o6 o7 o8 : Option Value), (if what = 0 then r1 else r2) = hfV σ.1 i what → J G z cX2_hoursFor 9 RX2 6 0 0 0 0 164 [some (.ref m), some (.int (nI i)), some (.int what), some (.int (noPw σ.1 (nI i) what 2)), some (.int r1), some (.int r2), o6, o7, o8] [] n (mh m (cw11 m (sf7 w 0) tk (mS σ.1 j) (encS (mS σ.1 j)) 62) g) := by
        intro tk r1 r2 o6 o7 o8 hr
        rw [← hr] at hz
        refine r_aload_0 (q := 165) dX2_hoursFor_164 rfl ?_
        refine r_callVv_0 cv_X2_184 mh_o rfl (by decide) (Nat.le_of_ble_eq_true rfl) ⟨Nat.le_refl _, Nat.le_refl _⟩ (k_X2_again K rfl K rfl) (q := 168) dX2_hoursFor_165 rfl ?_
        rw [cw11_cw11]
        refine r_iload_2 (q := 169) dX2_hoursFor_168 rfl ?_
        refine r_if_ne (q := 172) (tgt := 177) dX2_hoursFor_169 rfl rfl (fun c169 => ?_) (fun c169 => ?_)
        · rw [if_neg c169] at hz
          refine r_iload_5 (q := 179) dX2_hoursFor_177 rfl ?_
          exact r_iret hz dX2_hoursFor_179 (Nat.le_refl _) (Nat.le_refl _) (.of rfl ((h.th 0).fin e))
        · rw [if_pos c169] at hz
          refine r_iload_4 (q := 174) dX2_hoursFor_172 rfl ?_
          refine r_goto (q := 179) dX2_hoursFor_174 rfl ?_
          exact r_iret hz dX2_hoursFor_179 (Nat.le_refl _) (Nat.le_refl _) (.of rfl ((h.th 0).fin e))
      cases em : mt σ.1 i with
      | none =>
        refine r_iload_6 (q := 51) dX2_hoursFor_49 rfl ?_
        refine r_bipush 32 (by decide) (q := 53) dX2_hoursFor_51 rfl ?_
        refine r_icmp_ge (q := 56) (tgt := 164) dX2_hoursFor_53 rfl rfl (fun c53 => ?_) (fun c53 => ?_)
        · exact absurd c53 (by decide)
        refine r_aload_0 (q := 57) dX2_hoursFor_56 rfl ?_
        refine r_get gf_X2_19_2 mh_o rfl (q := 60) dX2_hoursFor_57 rfl ?_
        refine r_iload_1 (q := 61) dX2_hoursFor_60 rfl ?_
        refine m_ald4 K rfl (by omega) (q := 62) dX2_hoursFor_61 rfl ?_
        refine J.topi (show mI (mt σ.1 i) = -9 by rw [em]; rfl) ?_
        refine r_if_lt (q := 65) (tgt := 164) dX2_hoursFor_62 rfl rfl (fun c62 => ?_) (fun c62 => ?_)
        · exact last 1 (-9) (-9) _ _ _ (by unfold hfV; rw [em]; exact ite_self _)
        · exact absurd (by decide) c62
      | some b =>
        have hb := K.mtl hi em
        refine forJ (f := hfF σ.1 i b) (σ := Int32 × Int32) 32 HJ (fun a s => ∀ (tk : Int32) (o7 o8 : Option Value), lc2 o7 = false → J G z cX2_hoursFor 9 RX2 6 0 0 0 0 49 [some (.ref m), some (.int (nI i)), some (.int what), some (.int (noPw σ.1 (nI i) what 2)), some (.int s.1), some (.int (toldI s.2)), some (.int (nI a)), o7, o8] [] n (mh m (cw11 m (sf7 w 0) tk (mS σ.1 j) (encS (mS σ.1 j)) 62) g)) (a0 := 0) (s0 := (-9, 100)) (by decide) (Or.inl rfl) (fun s _ hs tk o7 o8 _ => ?_) (fun a s _ ha hI => ⟨hf_HJ hI ha, fun next tk o7 o8 l7 => ?_⟩) 1 none none rfl
        · refine r_iload_6 (q := 51) dX2_hoursFor_49 rfl ?_
          refine r_bipush 32 (by decide) (q := 53) dX2_hoursFor_51 rfl ?_
          refine r_icmp_ge (q := 56) (tgt := 164) dX2_hoursFor_53 rfl rfl (fun c53 => ?_) (fun c53 => ?_)
          · have hs : s = hfS σ.1 i b := hs
            exact last tk s.1 (toldI s.2) _ _ _ (by unfold hfV; rw [em]; show _ = if what = 0 then (hfS σ.1 i b).1 else toldI (hfS σ.1 i b).2; rw [← hs])
          · exact absurd (nI_le (a := 32) (b := 32) (by omega) (by omega)) c53
        · have K1 : OKM (setH σ.1 i a) j := K.of rfl (K.1.stH (by omega))
          obtain ⟨f1, f2⟩ := hf_is (S := σ.1) (p := i) (m := b) hI ha
          refine r_iload_6 (q := 51) dX2_hoursFor_49 rfl ?_
          refine r_bipush 32 (by decide) (q := 53) dX2_hoursFor_51 rfl ?_
          refine r_icmp_ge (q := 56) (tgt := 164) dX2_hoursFor_53 rfl rfl (fun c53 => ?_) (fun c53 => ?_)
          · exact absurd c53 (nI_ge (b := 32) ha (by omega))
          refine r_aload_0 (q := 57) dX2_hoursFor_56 rfl ?_
          refine r_get gf_X2_19_2 mh_o rfl (q := 60) dX2_hoursFor_57 rfl ?_
          refine r_iload_1 (q := 61) dX2_hoursFor_60 rfl ?_
          refine m_ald4 K rfl (by omega) (q := 62) dX2_hoursFor_61 rfl ?_
          refine J.topi (show mI (mt σ.1 i) = nI b by rw [em]; rfl) ?_
          refine r_if_lt (q := 65) (tgt := 164) dX2_hoursFor_62 rfl rfl (fun c62 => ?_) (fun c62 => ?_)
          · exact absurd c62 (nI_pos (by omega))
          refine r_aload_0 (q := 66) dX2_hoursFor_65 rfl ?_
          refine r_get gf_X2_16_2 mh_o rfl (q := 69) dX2_hoursFor_66 rfl ?_
          refine r_iload_1 (q := 70) dX2_hoursFor_69 rfl ?_
          refine r_iload_6 (q := 72) dX2_hoursFor_70 rfl ?_
          refine m_ast3 K rfl (by omega) (q := 73) dX2_hoursFor_72 rfl ?_
          refine r_aload_0 (q := 74) dX2_hoursFor_73 rfl ?_
          refine r_iload_1 (q := 75) dX2_hoursFor_74 rfl ?_
          refine r_aload_0 (q := 76) dX2_hoursFor_75 rfl ?_
          refine r_get gf_X2_19_2 mh_o rfl (q := 79) dX2_hoursFor_76 rfl ?_
          refine r_iload_1 (q := 80) dX2_hoursFor_79 rfl ?_
          refine m_ald4 K1 rfl (by omega) (q := 81) dX2_hoursFor_80 rfl ?_
          refine J.topi (show mI (mt (setH σ.1 i a) i) = nI b from (congrArg mI em : _)) ?_
          refine r_callV_2 cv_X2_235 mh_o rfl (by decide) (Nat.le_of_ble_eq_true rfl) ⟨Nat.le_refl _, Nat.le_refl _⟩ (k_X2_zeroIn K1 rfl K rfl (by omega) (by omega)) (q := 84) dX2_hoursFor_81 rfl ?_
          rw [cw11_sS, cw11_cw11]
          generalize hzz : zin i b 100 0 (setH σ.1 i a) = zz at f1 f2
          have no : ¬ isHf s zz a → J G z cX2_hoursFor 9 RX2 6 0 0 0 0 127 [some (.ref m), some (.int (nI i)), some (.int what), some (.int (noPw σ.1 (nI i) what 2)), some (.int s.1), some (.int (toldI s.2)), some (.int (nI a)), some (.int (toldI zz)), o8] [] n (mh m (cw11 m (sf7 w 0) 0 (mS σ.1 j) (encS (mS σ.1 j)) 62) g) := by
            intro hn
            rw [f2 hn] at next
            refine r_iconst 0 (by decide) (q := 128) dX2_hoursFor_127 rfl ?_
            refine r_istore_8 (by decide) rfl (q := 130) dX2_hoursFor_128 rfl ?_
            refine r_iload_8 (q := 132) dX2_hoursFor_130 rfl ?_
            refine r_if_eq (q := 135) (tgt := 140) dX2_hoursFor_132 rfl rfl (fun c132 => ?_) (fun c132 => ?_)
            · refine r_iload_4 (q := 142) dX2_hoursFor_140 rfl ?_
              refine r_istore_4 (by decide) rfl (q := 144) dX2_hoursFor_142 rfl ?_
              refine r_iload_8 (q := 146) dX2_hoursFor_144 rfl ?_
              refine r_if_eq (q := 149) (tgt := 154) dX2_hoursFor_146 rfl rfl (fun c146 => ?_) (fun c146 => ?_)
              · refine r_iload_5 (q := 156) dX2_hoursFor_154 rfl ?_
                refine r_istore_5 (by decide) rfl (q := 158) dX2_hoursFor_156 rfl ?_
                refine r_inc_6 (by decide) rfl (q := 161) dX2_hoursFor_158 rfl ?_
                refine r_goto (q := 49) dX2_hoursFor_161 rfl ?_
                exact next _ _ _ rfl
              · exact absurd rfl c146
            · exact absurd rfl c132
          have yes : isHf s zz a → J G z cX2_hoursFor 9 RX2 6 0 0 0 0 123 [some (.ref m), some (.int (nI i)), some (.int what), some (.int (noPw σ.1 (nI i) what 2)), some (.int s.1), some (.int (toldI s.2)), some (.int (nI a)), some (.int (toldI zz)), o8] [] n (mh m (cw11 m (sf7 w 0) 0 (mS σ.1 j) (encS (mS σ.1 j)) 62) g) := by
            intro hy
            rw [f1 hy] at next
            refine r_iconst 1 (by decide) (q := 124) dX2_hoursFor_123 rfl ?_
            refine r_goto (q := 128) dX2_hoursFor_124 rfl ?_
            refine r_istore_8 (by decide) rfl (q := 130) dX2_hoursFor_128 rfl ?_
            refine r_iload_8 (q := 132) dX2_hoursFor_130 rfl ?_
            refine r_if_eq (q := 135) (tgt := 140) dX2_hoursFor_132 rfl rfl (fun c132 => ?_) (fun c132 => ?_)
            · exact absurd c132 (by decide)
            · refine r_iload_6 (q := 137) dX2_hoursFor_135 rfl ?_
              refine r_goto (q := 142) dX2_hoursFor_137 rfl ?_
              refine r_istore_4 (by decide) rfl (q := 144) dX2_hoursFor_142 rfl ?_
              refine r_iload_8 (q := 146) dX2_hoursFor_144 rfl ?_
              refine r_if_eq (q := 149) (tgt := 154) dX2_hoursFor_146 rfl rfl (fun c146 => ?_) (fun c146 => ?_)
              · exact absurd c146 (by decide)
              · refine r_iload_7 (q := 151) dX2_hoursFor_149 rfl ?_
                refine r_goto (q := 156) dX2_hoursFor_151 rfl ?_
                refine r_istore_5 (by decide) rfl (q := 158) dX2_hoursFor_156 rfl ?_
                refine r_inc_6 (by decide) rfl (q := 161) dX2_hoursFor_158 rfl ?_
                refine r_goto (q := 49) dX2_hoursFor_161 rfl ?_
                exact next _ _ _ rfl
          refine r_istore_7 (by decide) rfl (q := 86) dX2_hoursFor_84 rfl ?_
          refine r_iload_7 (q := 88) dX2_hoursFor_86 rfl ?_
          refine r_if_lt (q := 91) (tgt := 127) dX2_hoursFor_88 rfl rfl (fun c88 => ?_) (fun c88 => ?_)
          · exact no (fun q => absurd q.1 (Int32.not_le.mpr c88))
          have h0 : 0 ≤ toldI zz := Int32.not_lt.mp c88
          refine r_iload_4 (q := 93) dX2_hoursFor_91 rfl ?_
          refine r_if_lt (q := 96) (tgt := 123) dX2_hoursFor_93 rfl rfl (fun c93 => ?_) (fun c93 => ?_)
          · exact yes ⟨h0, Or.inl c93⟩
          refine r_iload_7 (q := 98) dX2_hoursFor_96 rfl ?_
          refine r_iload_5 (q := 100) dX2_hoursFor_98 rfl ?_
          refine r_icmp_lt (q := 103) (tgt := 123) dX2_hoursFor_100 rfl rfl (fun c100 => ?_) (fun c100 => ?_)
          · exact yes ⟨h0, Or.inr (Or.inl c100)⟩
          refine r_iload_7 (q := 105) dX2_hoursFor_103 rfl ?_
          refine r_iload_5 (q := 107) dX2_hoursFor_105 rfl ?_
          refine r_icmp_ne (q := 110) (tgt := 127) dX2_hoursFor_107 rfl rfl (fun c107 => ?_) (fun c107 => ?_)
          · exact no (fun q => by
              rcases q.2 with z | z | z
              · exact c93 z
              · exact c100 z
              · exact c107 z.1)
          have hj : ∃ b', b' < 32 ∧ s.1 = nI b' := by
            rcases hI with z | ⟨b', k', z1, z2, z⟩
            · exact absurd (by rw [z]; decide) c93
            · exact ⟨b', z1, by rw [z]⟩
          obtain ⟨b', hb', es⟩ := hj
          refine r_iload_6 (q := 112) dX2_hoursFor_110 rfl ?_
          refine r_callS_1 cs_X2_83 (by decide) (Nat.le_of_ble_eq_true rfl) ⟨Nat.le_refl _, Nat.le_refl _⟩ (k_X2_onesOf (k := a) (by omega)) (q := 115) dX2_hoursFor_112 rfl ?_
          refine r_iload_4 (q := 117) dX2_hoursFor_115 rfl ?_
          refine J.topi es ?_
          refine r_callS_1 cs_X2_83 (by decide) (Nat.le_of_ble_eq_true rfl) ⟨Nat.le_refl _, Nat.le_refl _⟩ (k_X2_onesOf (k := b') (by omega)) (q := 120) dX2_hoursFor_117 rfl ?_
          have ec : cl s.1 = b' := by rw [es, cl_nI (by omega)]
          refine r_icmp_ge (q := 123) (tgt := 127) dX2_hoursFor_120 rfl rfl (fun c120 => ?_) (fun c120 => ?_)
          · exact no (fun q => by
              rcases q.2 with z | z | z
              · exact c93 z
              · exact c100 z
              · rw [ec] at z
                exact absurd z.2 (Int32.not_lt.mpr c120))
          · exact yes ⟨h0, Or.inr (Or.inr ⟨c107, by rw [ec]; exact Int32.not_le.mp c120⟩)⟩
    · have hc := q2 c25
      have e0 : hoursForS σ p what = (noPw σ.1 p what 2, rfS σ (noPw σ.1 p what 2)) := if_neg (isC_ne hc)
      rw [e0] at hz
      refine r_aload_0 (q := 29) dX2_hoursFor_28 rfl ?_
      refine r_iload_3 (q := 30) dX2_hoursFor_29 rfl ?_
      refine r_callV_1 cv_X2_128 mh_o rfl (by decide) (Nat.le_of_ble_eq_true rfl) ⟨Nat.le_refl _, Nat.le_refl _⟩ (k_X2_refuse hc (h.th 0).l6) (q := 33) dX2_hoursFor_30 rfl ?_
      exact r_iret hz dX2_hoursFor_33 (Nat.le_refl _) (Nat.le_refl _) (.of rfl ((h.th 0).refuse _))
  refine r_aload_0 (q := 1) dX2_hoursFor_0 rfl ?_
  refine r_iconst 0 (by decide) (q := 2) dX2_hoursFor_1 rfl ?_
  refine r_put gf_X2_65_2 cl_ok_2 ft_2_7 mh_o (Nat.le_of_ble_eq_true rfl) rfl rfl (q := 5) dX2_hoursFor_2 rfl ?_
  refine J.heap mset_f7 ?_
  refine r_aload_0 (q := 6) dX2_hoursFor_5 rfl ?_
  refine r_iload_1 (q := 7) dX2_hoursFor_6 rfl ?_
  refine r_callV_1 cv_X2_75 mh_o rfl (by decide) (Nat.le_of_ble_eq_true rfl) ⟨Nat.le_refl _, Nat.le_refl _⟩ (k_X2_isOne K e) (q := 10) dX2_hoursFor_7 rfl ?_
  refine r_if_eq (q := 13) (tgt := 17) dX2_hoursFor_10 rfl rfl (fun c10 => ?_) (fun c10 => ?_)
  · refine r_iconst (-1) (by decide) (q := 18) dX2_hoursFor_17 rfl ?_
    exact fin (-1) (by rw [if_neg (by rw [bI_0.mp c10]; decide)])
  · refine r_iconst 0 (by decide) (q := 14) dX2_hoursFor_13 rfl ?_
    refine r_goto (q := 18) dX2_hoursFor_14 rfl ?_
    exact fin 0 (by rw [if_pos (bI_n0.mp c10)])
theorem k_X2_swap (h : MR w σ) : Ct G yX2_swap cX2_swap 8 (some .int) 5 0 0 [.ref m] n (mh m w g) (MPo m n g (swapS σ)) := by
  refine Ct.intro (k := 7) [some (.ref m), none, none, none, none, none, none, none] (by decide) (Nat.le_of_ble_eq_true rfl) rfl fun z hz hin => ?_
  obtain ⟨j, e, K⟩ := h.1
  have h6 := K.l6
  unfold swapS at hz
  refine r_aload_0 (q := 1) dX2_swap_0 rfl ?_
  refine r_iconst 0 (by decide) (q := 2) dX2_swap_1 rfl ?_
  refine r_put gf_X2_65_2 cl_ok_2 ft_2_7 mh_o (Nat.le_of_ble_eq_true rfl) rfl rfl (q := 5) dX2_swap_2 rfl ?_
  refine J.heap mset_f7 ?_
  refine r_bipush (-9) (by decide) (q := 7) dX2_swap_5 rfl ?_
  refine r_istore_1 (by decide) rfl (q := 8) dX2_swap_7 rfl ?_
  refine r_aload_0 (q := 9) dX2_swap_8 rfl ?_
  refine r_callV_0 cv_X2_270 mh_o rfl (by decide) (Nat.le_of_ble_eq_true rfl) ⟨Nat.le_refl _, Nat.le_refl _⟩ (k_X2_allLikes K e) (q := 12) dX2_swap_9 rfl ?_
  refine r_istore_2 (by decide) rfl (q := 13) dX2_swap_12 rfl ?_
  refine r_aload_0 (q := 14) dX2_swap_13 rfl ?_
  refine r_callVv_0 cv_X2_178 mh_o rfl (by decide) (Nat.le_of_ble_eq_true rfl) ⟨Nat.le_refl _, Nat.le_refl _⟩ (k_X2_think K e h.l11) (q := 17) dX2_swap_14 rfl ?_
  refine r_iconst 0 (by decide) (q := 18) dX2_swap_17 rfl ?_
  refine r_istore_3 (by decide) rfl (q := 19) dX2_swap_18 rfl ?_
  refine forJ (f := swaI σ.1) (σ := Int32 × Int32) σ.1.1.length (fun _ => True) (fun a s => ∀ (tk : Int32) (o4 o5 o6 o7 : Option Value), lc2 o4 = false → lc2 o5 = false → lc2 o6 = false → lc2 o7 = false → J G z cX2_swap 8 RX2 5 0 0 0 0 19 [some (.ref m), some (.int s.1), some (.int s.2), some (.int (nI a)), o4, o5, o6, o7] [] n (mh m (cw11 m (sf7 w 0) tk (mS σ.1 j) (encS (mS σ.1 j)) 62) g)) (a0 := 0) (s0 := (-9, alikS σ.1)) (Nat.zero_le _) trivial (fun s _ hs tk o4 o5 o6 o7 l4 l5 l6 l7 => ?_) (fun a s _ ha _ => ⟨trivial, fun next tk o4 o5 o6 o7 l4 l5 l6 l7 => ?_⟩) 1 none none none none rfl rfl rfl rfl
  · refine r_iload_3 (q := 20) dX2_swap_19 rfl ?_
    refine r_aload_0 (q := 21) dX2_swap_20 rfl ?_
    refine m_getp gf_X2_68_2 K rfl (q := 24) dX2_swap_21 rfl ?_
    refine r_icmp_ge (q := 27) (tgt := 139) dX2_swap_24 rfl rfl (fun c24 => ?_) (fun c24 => ?_)
    · have hs : s = forR (swaI σ.1) 0 σ.1.1.length (-9, alikS σ.1) := hs
      rw [← hs] at hz
      refine r_iload_1 (q := 140) dX2_swap_139 rfl ?_
      exact r_iret hz dX2_swap_140 (Nat.le_refl _) (Nat.le_refl _) (.of rfl ((h.th 0).cn e tk))
    · exact absurd (Int32.le_refl _) c24
  · refine r_iload_3 (q := 20) dX2_swap_19 rfl ?_
    refine r_aload_0 (q := 21) dX2_swap_20 rfl ?_
    refine m_getp gf_X2_68_2 K rfl (q := 24) dX2_swap_21 rfl ?_
    refine r_icmp_ge (q := 27) (tgt := 139) dX2_swap_24 rfl rfl (fun c24 => ?_) (fun c24 => ?_)
    · exact absurd c24 (nI_not_lt ha (by omega))
    refine r_iload_3 (q := 28) dX2_swap_27 rfl ?_
    refine r_iconst 1 (by decide) (q := 29) dX2_swap_28 rfl ?_
    refine r_iadd (q := 30) dX2_swap_29 rfl ?_
    refine J.topi (nI_1 _) ?_
    refine r_istore_4 (by decide) rfl (q := 32) dX2_swap_30 rfl ?_
    refine forJ (f := swaF σ.1 a) (σ := Int32 × Int32) σ.1.1.length (fun _ => True) (fun b s => ∀ (tk : Int32) (o5 o6 o7 : Option Value), lc2 o5 = false → lc2 o6 = false → lc2 o7 = false → J G z cX2_swap 8 RX2 5 0 0 0 0 32 [some (.ref m), some (.int s.1), some (.int s.2), some (.int (nI a)), some (.int (nI b)), o5, o6, o7] [] n (mh m (cw11 m (sf7 w 0) tk (mS σ.1 j) (encS (mS σ.1 j)) 62) g)) (a0 := a + 1) (s0 := s) ha trivial (fun s' _ hs tk o5 o6 o7 l5 l6 l7 => ?_) (fun b s' hab hb _ => ⟨trivial, fun next' tk o5 o6 o7 l5 l6 l7 => ?_⟩) tk o5 o6 o7 l5 l6 l7
    · refine r_iload_4 (q := 34) dX2_swap_32 rfl ?_
      refine r_aload_0 (q := 35) dX2_swap_34 rfl ?_
      refine m_getp gf_X2_68_2 K rfl (q := 38) dX2_swap_35 rfl ?_
      refine r_icmp_ge (q := 41) (tgt := 133) dX2_swap_38 rfl rfl (fun c38 => ?_) (fun c38 => ?_)
      · refine r_inc_3 (by decide) rfl (q := 136) dX2_swap_133 rfl ?_
        refine r_goto (q := 19) dX2_swap_136 rfl ?_
        subst hs
        exact next _ _ _ _ _ rfl l5 l6 l7
      · exact absurd (Int32.le_refl _) c38
    · have skip : swaF σ.1 a b s' = s' → ∀ (o5 o6 o7 : Option Value), lc2 o5 = false → lc2 o6 = false → lc2 o7 = false → J G z cX2_swap 8 RX2 5 0 0 0 0 127 [some (.ref m), some (.int s'.1), some (.int s'.2), some (.int (nI a)), some (.int (nI b)), o5, o6, o7] [] n (mh m (cw11 m (sf7 w 0) tk (mS σ.1 j) (encS (mS σ.1 j)) 62) g) := by
        intro he o5 o6 o7 l5 l6 l7
        rw [he] at next'
        refine r_inc_4 (by decide) rfl (q := 130) dX2_swap_127 rfl ?_
        refine r_goto (q := 32) dX2_swap_130 rfl ?_
        exact next' _ _ _ _ l5 l6 l7
      refine r_iload_4 (q := 34) dX2_swap_32 rfl ?_
      refine r_aload_0 (q := 35) dX2_swap_34 rfl ?_
      refine m_getp gf_X2_68_2 K rfl (q := 38) dX2_swap_35 rfl ?_
      refine r_icmp_ge (q := 41) (tgt := 133) dX2_swap_38 rfl rfl (fun c38 => ?_) (fun c38 => ?_)
      · exact absurd c38 (nI_not_lt hb (by omega))
      refine r_aload_0 (q := 42) dX2_swap_41 rfl ?_
      refine r_get gf_X2_19_2 mh_o rfl (q := 45) dX2_swap_42 rfl ?_
      refine r_iload_3 (q := 46) dX2_swap_45 rfl ?_
      refine m_ald4 K rfl (by omega) (q := 47) dX2_swap_46 rfl ?_
      refine r_istore_5 (by decide) rfl (q := 49) dX2_swap_47 rfl ?_
      refine r_aload_0 (q := 50) dX2_swap_49 rfl ?_
      refine r_get gf_X2_19_2 mh_o rfl (q := 53) dX2_swap_50 rfl ?_
      refine r_iload_4 (q := 55) dX2_swap_53 rfl ?_
      refine m_ald4 K rfl (by omega) (q := 56) dX2_swap_55 rfl ?_
      refine r_istore_6 (by decide) rfl (q := 58) dX2_swap_56 rfl ?_
      refine r_iload_5 (q := 60) dX2_swap_58 rfl ?_
      refine r_iload_3 (q := 61) dX2_swap_60 rfl ?_
      have ha1 := mI_le (o := mt σ.1 a) (a := a) (by omega) (fun c hc => Nat.lt_trans (K.mt6 hc) (by decide))
      have hb1 := mI_le (o := mt σ.1 b) (a := b) (by omega) (fun c hc => Nat.lt_trans (K.mt6 hc) (by decide))
      refine r_icmp_le (q := 64) (tgt := 127) dX2_swap_61 rfl rfl (fun c61 => ?_) (fun c61 => ?_)
      · refine skip ?_ _ _ _ rfl rfl l7
        unfold swaF
        split
        · rename_i x y e1 e2
          obtain ⟨-, m2, -⟩ := K.mats a ha x e1
          have := ha1.mp c61 x e1
          exact if_neg (fun q => m2 (by omega))
        · rfl
      refine r_iload_6 (q := 66) dX2_swap_64 rfl ?_
      refine r_iload_4 (q := 68) dX2_swap_66 rfl ?_
      refine r_icmp_le (q := 71) (tgt := 127) dX2_swap_68 rfl rfl (fun c68 => ?_) (fun c68 => ?_)
      · refine skip ?_ _ _ _ rfl rfl l7
        unfold swaF
        split
        · rename_i x y e1 e2
          obtain ⟨-, m2, -⟩ := K.mats b hb y e2
          have := hb1.mp c68 y e2
          exact if_neg (fun q => m2 (by omega))
        · rfl
      cases e1 : mt σ.1 a with
      | none => exact absurd (ha1.mpr (fun c q => by rw [e1] at q; cases q)) c61
      | some x =>
        cases e2 : mt σ.1 b with
        | none => exact absurd (hb1.mpr (fun c q => by rw [e2] at q; cases q)) c68
        | some y =>
          obtain ⟨x1, x2, x3⟩ := K.mats a ha x e1
          obtain ⟨y1, y2, y3⟩ := K.mats b hb y e2
          have hax : a < x := by
            rcases Nat.lt_or_ge a x with z | z
            · exact z
            · exact absurd (ha1.mpr (fun c q => by rw [e1] at q; cases q; exact z)) c61
          have hby : b < y := by
            rcases Nat.lt_or_ge b y with z | z
            · exact z
            · exact absurd (hb1.mpr (fun c q => by rw [e2] at q; cases q; exact z)) c68
          have hbx : b ≠ x := fun q => by
            subst q
            rw [x3] at e2
            cases e2
            omega
          have K1 := K.join ha y1 (show a ≠ y by omega)
          have f1 := (joinS_fr σ.1 a y).1
          have K2 := K1.join (p := b) (q := x) (by rw [f1]; exact hb) (by rw [f1]; exact x1) hbx
          have es : swaF σ.1 a b s' = if alikS (joinS (joinS σ.1 a y) b x) ≤ s'.2 then s' else (10 * nI a + nI b, alikS (joinS (joinS σ.1 a y) b x)) := by
            unfold swaF
            rw [e1, e2]
            exact if_pos ⟨by omega, by omega⟩
          rw [es] at next'
          refine J.lo (l2 := [some (.ref m), some (.int s'.1), some (.int s'.2), some (.int (nI a)), some (.int (nI b)), some (.int (nI x)), some (.int (nI y)), o7]) rfl ?_
          refine r_aload_0 (q := 72) dX2_swap_71 rfl ?_
          refine r_iload_3 (q := 73) dX2_swap_72 rfl ?_
          refine r_iload_6 (q := 75) dX2_swap_73 rfl ?_
          refine r_callVv_2 cv_X2_125 mh_o rfl (by decide) (Nat.le_of_ble_eq_true rfl) ⟨Nat.le_refl _, Nat.le_refl _⟩ (k_X2_join K rfl ha y1) (q := 78) dX2_swap_75 rfl ?_
          refine r_aload_0 (q := 79) dX2_swap_78 rfl ?_
          refine r_iload_4 (q := 81) dX2_swap_79 rfl ?_
          refine r_iload_5 (q := 83) dX2_swap_81 rfl ?_
          refine r_callVv_2 cv_X2_125 mh_o rfl (by decide) (Nat.le_of_ble_eq_true rfl) ⟨Nat.le_refl _, Nat.le_refl _⟩ (k_X2_join K1 rfl (by rw [f1]; exact hb) (by rw [f1]; exact x1)) (q := 86) dX2_swap_83 rfl ?_
          rw [sS_sS]
          refine r_aload_0 (q := 87) dX2_swap_86 rfl ?_
          refine r_callV_0 cv_X2_270 mh_o rfl (by decide) (Nat.le_of_ble_eq_true rfl) ⟨Nat.le_refl _, Nat.le_refl _⟩ (k_X2_allLikes K2 rfl) (q := 90) dX2_swap_87 rfl ?_
          refine r_istore_7 (by decide) rfl (q := 92) dX2_swap_90 rfl ?_
          refine r_aload_0 (q := 93) dX2_swap_92 rfl ?_
          refine r_callVv_0 cv_X2_184 mh_o rfl (by decide) (Nat.le_of_ble_eq_true rfl) ⟨Nat.le_refl _, Nat.le_refl _⟩ (k_X2_again K rfl K2 rfl) (q := 96) dX2_swap_93 rfl ?_
          rw [cw11_sS, cw11_cw11]
          refine r_iload_7 (q := 98) dX2_swap_96 rfl ?_
          refine r_iload_2 (q := 99) dX2_swap_98 rfl ?_
          refine r_icmp_le (q := 102) (tgt := 112) dX2_swap_99 rfl rfl (fun c99 => ?_) (fun c99 => ?_)
          · rw [if_pos c99] at next'
            refine r_iload_1 (q := 113) dX2_swap_112 rfl ?_
            refine r_istore_1 (by decide) rfl (q := 114) dX2_swap_113 rfl ?_
            refine r_iload_7 (q := 116) dX2_swap_114 rfl ?_
            refine r_iload_2 (q := 117) dX2_swap_116 rfl ?_
            refine r_icmp_le (q := 120) (tgt := 125) dX2_swap_117 rfl rfl (fun c117 => ?_) (fun c117 => ?_)
            · refine r_iload_2 (q := 126) dX2_swap_125 rfl ?_
              refine r_istore_2 (by decide) rfl (q := 127) dX2_swap_126 rfl ?_
              refine r_inc_4 (by decide) rfl (q := 130) dX2_swap_127 rfl ?_
              refine r_goto (q := 32) dX2_swap_130 rfl ?_
              exact next' _ _ _ _ rfl rfl rfl
            · exact absurd c99 c117
          · rw [if_neg c99] at next'
            refine r_bipush 10 (by decide) (q := 104) dX2_swap_102 rfl ?_
            refine r_iload_3 (q := 105) dX2_swap_104 rfl ?_
            refine r_imul (q := 106) dX2_swap_105 rfl ?_
            refine r_iload_4 (q := 108) dX2_swap_106 rfl ?_
            refine r_iadd (q := 109) dX2_swap_108 rfl ?_
            refine r_goto (q := 113) dX2_swap_109 rfl ?_
            refine r_istore_1 (by decide) rfl (q := 114) dX2_swap_113 rfl ?_
            refine r_iload_7 (q := 116) dX2_swap_114 rfl ?_
            refine r_iload_2 (q := 117) dX2_swap_116 rfl ?_
            refine r_icmp_le (q := 120) (tgt := 125) dX2_swap_117 rfl rfl (fun c117 => ?_) (fun c117 => ?_)
            · exact absurd c117 c99
            · refine r_iload_7 (q := 122) dX2_swap_120 rfl ?_
              refine r_goto (q := 126) dX2_swap_122 rfl ?_
              refine r_istore_2 (by decide) rfl (q := 127) dX2_swap_126 rfl ?_
              refine r_inc_4 (by decide) rfl (q := 130) dX2_swap_127 rfl ?_
              refine r_goto (q := 32) dX2_swap_130 rfl ?_
              exact next' _ _ _ _ rfl rfl rfl
theorem k_X2_isRow {a b r : Nat} (K : OKM T j) (e : w.1 = mS T j) (K0 : OKM T0 j0) (hk : ma11 w = encS (mS T0 j0)) (ha : a < 6) (hb : b < 6) (hr : mf31 w = nI r) (hr12 : r ≤ 12) (hl : (ma17 w).length = 12) : CtE G yX2_isRow cX2_isRow 5 (some FieldType.boolean) 4 [.ref m, .int (nI a), .int (nI b)] n (mh m w g) (some (.int (bI (isqS a b (ma17 w) r 0 T)))) (mh m (cw11 m w 0 (mS T0 j0) (encS (mS T0 j0)) 62) g) := by
  obtain ⟨s0, w2⟩ := w
  have e : s0 = mS T j := e
  subst e
  have e17 : ∀ s : SM, ma17 (s, w2) = ma17 (mS T j, w2) := fun _ => rfl
  generalize hrow : ma17 (mS T j, w2) = row at hl e17
  refine Ct.intro (k := 2) [some (.ref m), some (.int (nI a)), some (.int (nI b)), none, none] (by decide) (Nat.le_of_ble_eq_true rfl) rfl fun z hz hin => ?_
  have stop : ∀ (t : Bool) (S : SQ) (k : Nat), OKM S j → t = isqS a b row r 0 T → J G z cX2_isRow 5 RX2 4 0 0 0 0 59 [some (.ref m), some (.int (nI a)), some (.int (nI b)), some (.int (bI t)), some (.int (nI k))] [] n (mh m (mS S j, w2) g) := by
    intro t S k hS ht
    subst ht
    refine r_aload_0 (q := 60) dX2_isRow_59 rfl ?_
    refine r_callVv_0 cv_X2_184 mh_o rfl (by decide) (Nat.le_of_ble_eq_true rfl) ⟨Nat.le_refl _, Nat.le_refl _⟩ (k_X2_again K0 rfl hS hk) (q := 63) dX2_isRow_60 rfl ?_
    refine r_iload_3 (q := 64) dX2_isRow_63 rfl ?_
    exact r_zret hz (by first | exact bI_z _ | rfl) dX2_isRow_64 (Nat.le_refl _) (Nat.le_refl _) ⟨rfl, rfl, rfl⟩
  have cmp : ∀ (c k : Nat) (S : SQ), k + (c + 1) = r → OKM S j → isqS a b row (c + 1) k S = isqS a b row r 0 T → (∀ S', S' = S → isqS a b row c (k + 1) (goesS S') = isqS a b row r 0 T → J G z cX2_isRow 5 RX2 4 0 0 0 0 5 [some (.ref m), some (.int (nI a)), some (.int (nI b)), some (.int 1), some (.int (nI (k + 1)))] [] n (mh m (mS S' j, w2) g)) → J G z cX2_isRow 5 RX2 4 0 0 0 0 31 [some (.ref m), some (.int (nI a)), some (.int (nI b)), some (.int 1), some (.int (nI k))] [] n (mh m (mS S j, w2) g) := by
    intro c k S h1 h2 h3 next
    have h3 : (if nI (qr S a b) = row.getD k 0 then isqS a b row c (k + 1) (goesS S) else false) = isqS a b row r 0 T := h3
    refine r_aload_0 (q := 32) dX2_isRow_31 rfl ?_
    refine r_iload_1 (q := 33) dX2_isRow_32 rfl ?_
    refine r_iload_2 (q := 34) dX2_isRow_33 rfl ?_
    refine r_callV_2 cv_X2_79 mh_o rfl (by decide) (Nat.le_of_ble_eq_true rfl) ⟨Nat.le_refl _, Nat.le_refl _⟩ (k_X2_quarrelOf h2 rfl (by omega) (by omega)) (q := 37) dX2_isRow_34 rfl ?_
    refine r_aload_0 (q := 38) dX2_isRow_37 rfl ?_
    refine r_get gf_X2_62_2 mh_o rfl (q := 41) dX2_isRow_38 rfl ?_
    refine r_iload_4 (q := 43) dX2_isRow_41 rfl ?_
    refine r_iald k 12 mh_17 (by rw [e17]; exact hl) rfl (by omega) (by decide) (q := 44) dX2_isRow_43 rfl ?_
    rw [e17]
    refine r_icmp_ne (q := 47) (tgt := 51) dX2_isRow_44 rfl rfl (fun c44 => ?_) (fun c44 => ?_)
    · rw [if_neg c44] at h3
      refine r_iconst 0 (by decide) (q := 52) dX2_isRow_51 rfl ?_
      refine r_istore_3 (by decide) rfl (q := 53) dX2_isRow_52 rfl ?_
      refine r_inc_4 (by decide) rfl (q := 56) dX2_isRow_53 rfl ?_
      refine r_goto (q := 5) dX2_isRow_56 rfl ?_
      refine r_iload_4 (q := 7) dX2_isRow_5 rfl ?_
      refine r_aload_0 (q := 8) dX2_isRow_7 rfl ?_
      refine r_get gf_X2_273_2 mh_o rfl (q := 11) dX2_isRow_8 rfl ?_
      refine J.topi (y := nI r) hr ?_
      refine r_icmp_ge (q := 14) (tgt := 59) dX2_isRow_11 rfl rfl (fun c11 => ?_) (fun c11 => ?_)
      · exact stop false S (k + 1) h2 h3
      refine r_iload_3 (q := 15) dX2_isRow_14 rfl ?_
      refine r_if_eq (q := 18) (tgt := 59) dX2_isRow_15 rfl rfl (fun c15 => ?_) (fun c15 => ?_)
      · exact stop false S (k + 1) h2 h3
      · exact absurd rfl c15
    · rw [if_pos c44] at h3
      refine r_iconst 1 (by decide) (q := 48) dX2_isRow_47 rfl ?_
      refine r_goto (q := 52) dX2_isRow_48 rfl ?_
      refine r_istore_3 (by decide) rfl (q := 53) dX2_isRow_52 rfl ?_
      refine r_inc_4 (by decide) rfl (q := 56) dX2_isRow_53 rfl ?_
      refine r_goto (q := 5) dX2_isRow_56 rfl ?_
      exact next S rfl h3
  have loop : ∀ (c k : Nat) (S : SQ), k + 1 + c = r → OKM S j → isqS a b row c (k + 1) (goesS S) = isqS a b row r 0 T → J G z cX2_isRow 5 RX2 4 0 0 0 0 5 [some (.ref m), some (.int (nI a)), some (.int (nI b)), some (.int 1), some (.int (nI (k + 1)))] [] n (mh m (mS S j, w2) g) := by
    intro c
    induction c with
    | zero =>
      intro k S h1 h2 h3
      refine r_iload_4 (q := 7) dX2_isRow_5 rfl ?_
      refine r_aload_0 (q := 8) dX2_isRow_7 rfl ?_
      refine r_get gf_X2_273_2 mh_o rfl (q := 11) dX2_isRow_8 rfl ?_
      refine J.topi (y := nI r) hr ?_
      refine r_icmp_ge (q := 14) (tgt := 59) dX2_isRow_11 rfl rfl (fun c11 => ?_) (fun c11 => ?_)
      · exact stop true S (k + 1) h2 h3
      · exact absurd (nI_le (by omega) (by omega)) c11
    | succ c ih =>
      intro k S h1 h2 h3
      refine r_iload_4 (q := 7) dX2_isRow_5 rfl ?_
      refine r_aload_0 (q := 8) dX2_isRow_7 rfl ?_
      refine r_get gf_X2_273_2 mh_o rfl (q := 11) dX2_isRow_8 rfl ?_
      refine J.topi (y := nI r) hr ?_
      refine r_icmp_ge (q := 14) (tgt := 59) dX2_isRow_11 rfl rfl (fun c11 => ?_) (fun c11 => ?_)
      · exact absurd c11 (nI_not_lt (by omega) (by omega))
      refine r_iload_3 (q := 15) dX2_isRow_14 rfl ?_
      refine r_if_eq (q := 18) (tgt := 59) dX2_isRow_15 rfl rfl (fun c15 => ?_) (fun c15 => ?_)
      · exact absurd c15 (by decide)
      refine r_iload_4 (q := 20) dX2_isRow_18 rfl ?_
      refine r_if_le (q := 23) (tgt := 31) dX2_isRow_20 rfl rfl (fun c20 => ?_) (fun c20 => ?_)
      · exact absurd c20 (Int32.not_le.mpr (nI_lt (a := 0) (by omega) (by omega)))
      refine r_aload_0 (q := 24) dX2_isRow_23 rfl ?_
      refine r_bipush (-9) (by decide) (q := 26) dX2_isRow_24 rfl ?_
      refine r_bipush (-9) (by decide) (q := 28) dX2_isRow_26 rfl ?_
      refine r_callVv_2 cv_X2_117 mh_o rfl (by decide) (Nat.le_of_ble_eq_true rfl) ⟨Nat.le_refl _, Nat.le_refl _⟩ (k_X2_day h2 rfl) (q := 31) dX2_isRow_28 rfl ?_
      exact cmp c (k + 1) (goesS S) (by omega) h2.goes h3 (fun S' hS' h4 => by subst hS'; exact ih (k + 1) _ (by omega) h2.goes h4)
  refine r_iconst 1 (by decide) (q := 1) dX2_isRow_0 rfl ?_
  refine r_istore_3 (by decide) rfl (q := 2) dX2_isRow_1 rfl ?_
  refine r_iconst 0 (by decide) (q := 3) dX2_isRow_2 rfl ?_
  refine r_istore_4 (by decide) rfl (q := 5) dX2_isRow_3 rfl ?_
  have start : J G z cX2_isRow 5 RX2 4 0 0 0 0 5 [some (.ref m), some (.int (nI a)), some (.int (nI b)), some (.int 1), some (.int (nI 0))] [] n (mh m (mS T j, w2) g) := by
    refine r_iload_4 (q := 7) dX2_isRow_5 rfl ?_
    refine r_aload_0 (q := 8) dX2_isRow_7 rfl ?_
    refine r_get gf_X2_273_2 mh_o rfl (q := 11) dX2_isRow_8 rfl ?_
    refine J.topi (y := nI r) hr ?_
    cases r with
    | zero =>
      refine r_icmp_ge (q := 14) (tgt := 59) dX2_isRow_11 rfl rfl (fun c11 => ?_) (fun c11 => ?_)
      · exact stop true T 0 K rfl
      · exact absurd (Int32.le_refl _) c11
    | succ c =>
      refine r_icmp_ge (q := 14) (tgt := 59) dX2_isRow_11 rfl rfl (fun c11 => ?_) (fun c11 => ?_)
      · exact absurd c11 (nI_not_lt (by omega) (by omega))
      refine r_iload_3 (q := 15) dX2_isRow_14 rfl ?_
      refine r_if_eq (q := 18) (tgt := 59) dX2_isRow_15 rfl rfl (fun c15 => ?_) (fun c15 => ?_)
      · exact absurd c15 (by decide)
      refine r_iload_4 (q := 20) dX2_isRow_18 rfl ?_
      refine r_if_le (q := 23) (tgt := 31) dX2_isRow_20 rfl rfl (fun c20 => ?_) (fun c20 => ?_)
      · exact cmp c 0 T (by omega) K rfl (fun S' hS' h4 => by subst hS'; exact loop c 0 _ (by omega) K h4)
      · exact absurd (by decide : nI 0 ≤ 0) c20
  exact start
end MO4


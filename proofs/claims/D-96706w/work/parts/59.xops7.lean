/-! ===== person; numbers of days away; spread ===== -/
def noPer (S : SQ) (k f h : Int32) : Int32 :=
  if inI k 6 = true then (if f < 0 ∨ h < 0 then -4 else if 9 < f ∨ 31 < h ∨ S.1.length = 6 then -6 else 0) else -2
def personS (σ : SG) (k f h : Int32) : Int32 × SG :=
  if noPer σ.1 k f h = 0 then (nI σ.1.1.length, (comeS σ.1 (cl k, cl f) (cl h), σ.2.1, [], σ.2.2.2)) else (noPer σ.1 k f h, rfS σ (noPer σ.1 k f h))
theorem noPer_c {S : SQ} {k f h : Int32} : noPer S k f h = 0 ∨ isC (noPer S k f h) := by
  unfold noPer
  split
  · split
    · exact Or.inr isC_4
    · split
      · exact Or.inr isC_6
      · exact Or.inl rfl
  · exact Or.inr isC_2
section XO7
variable {G : GD} {n x : Nat} {w w' : XW} {g : RH} {σ : SG} {X Y : QX}
theorem m_comes {o v : Nat} {p : PP} (i : Nat) (hi : i < 12) (h : KX x g X) (h5 : X.1.1.length < 6) (hk : p.1 < 6) (ho : xh x (setq w i X) g o = some (pcell p)) : CtE G yX1_comes cX1_comes 5 none 3 [.ref (x + qo i), .ref o, .int (nI v)] n (xh x (setq w i X) g) none (xh x (setq w i (comeS X.1 p v, X.2.1 ++ [o], X.2.2 + 1)) g) := by
  refine m_set (X := X) (Y := (comeS X.1 p v, X.2.1 ++ [o], X.2.2 + 1)) i hi (k_X1_comes h.1 h.pl h5 hk ?_)
  have e := xq_self (x := x) (w := setq w i X) (g := g) hi
  rw [setq_at] at e
  show qh (x + qo i) X (xh x (setq w i X) g) o = _
  rw [e]
  exact ho
theorem XR.steps0 (h : XR x w g σ) : XR x (setf w 9 0) g (σ.1, σ.2.1, [], σ.2.2.2) := by
  obtain ⟨h1, h2, h3, h4, h5, h6, h7, h8⟩ := h
  refine ⟨h1, h2, h3, h4, h5, h6, ⟨h7.1, h7.2.1, h7.2.2.1, Nat.zero_le _, rfl, fun k hk => absurd hk (Nat.not_lt_zero _)⟩, ?_⟩
  show XRi x _ g σ.2.2.2
  unfold XRi at h8 ⊢
  exact h8
theorem PO.snoc {pp : List Nat} {P : List PP} {o : Nat} {p : PP} (h : PO x g pp P) (ho : x + 78 ≤ o) (e : g o = some (pcell p)) : PO x g (pp ++ [o]) (P ++ [p]) := by
  refine ⟨by rw [List.length_append, List.length_append, h.1]; rfl, fun i hi => ?_⟩
  rw [List.length_append] at hi
  rcases Nat.lt_succ_iff_lt_or_eq.mp hi with z | z
  · have e1 : (pp ++ [o]).getD i 0 = pp.getD i 0 := by
      simp only [List.getD_eq_getElem?_getD]
      rw [List.getElem?_append_left (by rw [h.1]; exact z)]
    have e2 : (P ++ [p]).getD i (0, 0) = P.getD i (0, 0) := by
      simp only [List.getD_eq_getElem?_getD]
      rw [List.getElem?_append_left z]
    rw [e1, e2]
    exact h.2 i z
  · subst z
    have e1 : (pp ++ [o]).getD P.length 0 = o := by rw [← h.1]; simp
    have e2 : (P ++ [p]).getD P.length (0, 0) = p := by simp
    rw [e1, e2]
    exact ⟨ho, e⟩
theorem k_X0_person {k f v : Int32} (hn : x + 78 ≤ n) (h : XR x w g σ) : Ct G yX0_person cX0_person 5 (some .int) 6 1 2 [.ref x, .int k, .int f, .int v] n (xh x w g) (XPo x n g (personS σ k f v)) := by
  refine Ct.intro (k := 1) [some (.ref x), some (.int k), some (.int f), some (.int v), none] (by decide) (Nat.le_of_ble_eq_true rfl) rfl fun z hz hin => ?_
  refine J.fresh fun hfr => ?_
  have fin : ∀ no : Int32, no = noPer σ.1 k f v → J G z cX0_person 5 RX0 6 1 2 0 0 57 [some (.ref x), some (.int k), some (.int f), some (.int v), none] [.int no] n (xh x w g) := by
    intro no h1
    refine r_istore_4 (by decide) rfl (q := 59) dX0_person_57 rfl ?_
    refine r_iload_4 (q := 61) dX0_person_59 rfl ?_
    refine r_if_eq (q := 64) (tgt := 71) dX0_person_61 rfl rfl (fun c61 => ?_) (fun c61 => ?_)
    · rw [c61] at h1
      have h1' := h1.symm
      unfold noPer at h1'
      split at h1'
      · rename_i hk
        split at h1'
        · exact absurd h1' (by decide)
        rename_i hb
        split at h1'
        · exact absurd h1' (by decide)
        rename_i hr
        have hb1 : ¬ f < 0 := fun q => hb (Or.inl q)
        have hb2 : ¬ v < 0 := fun q => hb (Or.inr q)
        have hr1 : ¬ 9 < f := fun q => hr (Or.inl q)
        have hr2 : ¬ 31 < v := fun q => hr (Or.inr (Or.inl q))
        have hr3 : ¬ σ.1.1.length = 6 := fun q => hr (Or.inr (Or.inr q))
        obtain ⟨kk, hkk, rfl⟩ := inI_n (k := 6) (by decide) hk
        obtain ⟨ff, hff, rfl⟩ := nI_of hb1
        obtain ⟨vv, hvv, rfl⟩ := nI_of hb2
        have f9 : ff ≤ 9 := by
          rcases Nat.lt_or_ge 9 ff with q | q
          · exact absurd (nI_lt (a := 9) q (by omega)) hr1
          · exact q
        have v31 : vv ≤ 31 := by
          rcases Nat.lt_or_ge 31 vv with q | q
          · exact absurd (nI_lt (a := 31) q (by omega)) hr2
          · exact q
        have h6 := h.oks.1.1
        have e0 : personS σ (nI kk) (nI ff) (nI vv) = (nI σ.1.1.length, (comeS σ.1 (kk, ff) vv, σ.2.1, [], σ.2.2.2)) := by
          unfold personS
          rw [if_pos h1.symm, cl_nI (by omega), cl_nI (by omega), cl_nI (by omega)]
        rw [e0] at hz
        refine r_aload_0 (q := 72) dX0_person_71 rfl ?_
        refine r_get gf_X0_16_0 xh_x rfl (q := 75) dX0_person_72 rfl ?_
        refine r_iload_1 (q := 76) dX0_person_75 rfl ?_
        refine r_iload_2 (q := 77) dX0_person_76 rfl ?_
        refine r_callSp_2 cs_X0_156 (by decide) (Nat.le_of_ble_eq_true rfl) ⟨by decide, by decide⟩ (k_X0_personWith hkk) (q := 80) dX0_person_77 rfl ?_
        intro r n' h' hq
        obtain ⟨rfl, rfl, rfl⟩ := hq
        have hg : ∀ a, a < n → hset g n (pcell (kk, ff)) a = g a := fun a ha => hset_ne _ _ (by omega)
        refine J.heap (h2 := xh x (setq w 0 (w.1 0)) (hset g n (pcell (kk, ff)))) (by rw [setq_self]; exact xh_hset hn) ?_
        have h' := h.grow (w2 := w) hfr hg
        refine r_iload_3 (q := 81) dX0_person_80 rfl ?_
        refine r_callVv_2 cv_X0_160 (xe_o 0 (by decide) rfl) rfl (by decide) (Nat.le_of_ble_eq_true rfl) ⟨by decide, by decide⟩ (m_comes (p := (kk, ff)) 0 (by decide) h'.kx (by show (w.1 0).1.1.length < 6; rw [h.s]; omega) hkk (by rw [xh_out (Or.inr hn)]; exact hset_eq _ _ _)) (q := 84) dX0_person_81 rfl ?_
        have hY : OKX x (hset g n (pcell (kk, ff))) (comeS (w.1 0).1 (kk, ff) vv, (w.1 0).2.1 ++ [n], (w.1 0).2.2 + 1) := ⟨h'.ok.1.come (by rw [h.s]; omega) ⟨hkk, by show ff < 10; omega⟩ v31, h'.ok.2.snoc hn (hset_eq _ _ _)⟩
        have hR := (h'.q0 hY (by rw [comeS_day, h.s]; exact h.day)).steps0
        refine r_aload_0 (q := 85) dX0_person_84 rfl ?_
        refine r_iconst 0 (by decide) (q := 86) dX0_person_85 rfl ?_
        refine r_put gf_X0_118_0 cl_ok_0 ft_0_9 xh_x (Nat.le_of_ble_eq_true rfl) rfl rfl (q := 89) dX0_person_86 rfl ?_
        refine J.heap (xset_f rfl) ?_
        refine r_aload_0 (q := 90) dX0_person_89 rfl ?_
        refine r_get gf_X0_16_0 xh_x rfl (q := 93) dX0_person_90 rfl ?_
        refine r_callV_0 cv_X0_74 (xe_o 0 (by decide) rfl) rfl (by decide) (Nat.le_of_ble_eq_true rfl) ⟨by decide, by decide⟩ (x_many (Y := (comeS (w.1 0).1 (kk, ff) vv, (w.1 0).2.1 ++ [n], (w.1 0).2.2 + 1)) 0 (by decide) hY.kx rfl) (q := 96) dX0_person_93 rfl ?_
        refine r_iconst 1 (by decide) (q := 97) dX0_person_96 rfl ?_
        refine r_isub (q := 98) dX0_person_97 rfl ?_
        have el : nI (comeS (w.1 0).1 (kk, ff) vv).1.length - 1 = nI σ.1.1.length := by
          show nI ((w.1 0).1.1 ++ [(kk, ff)]).length - 1 = _
          rw [List.length_append, h.s]
          exact nI_pred _
        refine J.topi el ?_
        refine r_iret hz dX0_person_98 (by decide) (by decide) (XPo.gen ?_ (by omega) hR hg)
        rw [h.s]
      · exact absurd h1' (by decide)
    · have hc : isC no := by rw [h1] at c61 ⊢; exact noPer_c.resolve_left c61
      refine r_aload_0 (q := 65) dX0_person_64 rfl ?_
      refine r_iload_4 (q := 67) dX0_person_65 rfl ?_
      refine r_callV_1 cv_X0_48 xh_x rfl (by decide) (Nat.le_of_ble_eq_true rfl) ⟨by decide, by decide⟩ (k_X0_refuse hc h.ra) (q := 70) dX0_person_67 rfl ?_
      exact r_iret hz dX0_person_70 (by decide) (by decide) (.of (by unfold personS; rw [← h1, if_neg c61]) (h.refuse _))
  have no2 : inI k 6 = true → ¬(f < 0 ∨ v < 0) → (9 < f ∨ 31 < v ∨ σ.1.1.length = 6) → J G z cX0_person 5 RX0 6 1 2 0 0 51 [some (.ref x), some (.int k), some (.int f), some (.int v), none] [] n (xh x w g) := by
    intro a1 a2 a3
    refine r_bipush (-6) (by decide) (q := 53) dX0_person_51 rfl ?_
    refine r_goto (q := 57) dX0_person_53 rfl ?_
    exact fin _ (by unfold noPer; rw [if_pos a1, if_neg a2, if_pos a3])
  have no4 : inI k 6 = true → (f < 0 ∨ v < 0) → J G z cX0_person 5 RX0 6 1 2 0 0 22 [some (.ref x), some (.int k), some (.int f), some (.int v), none] [] n (xh x w g) := by
    intro a1 a2
    refine r_bipush (-4) (by decide) (q := 24) dX0_person_22 rfl ?_
    refine r_goto (q := 57) dX0_person_24 rfl ?_
    exact fin _ (by unfold noPer; rw [if_pos a1, if_pos a2])
  refine r_iload_1 (q := 1) dX0_person_0 rfl ?_
  refine r_bipush 6 (by decide) (q := 3) dX0_person_1 rfl ?_
  refine r_callS_2 cs_X0_78 (by decide) (Nat.le_of_ble_eq_true rfl) ⟨by decide, by decide⟩ (k_X0_isIn) (q := 6) dX0_person_3 rfl ?_
  refine r_if_ne (q := 9) (tgt := 14) dX0_person_6 rfl rfl (fun c6 => ?_) (fun c6 => ?_)
  · have hk : inI k 6 = true := bI_n0.mp c6
    refine r_iload_2 (q := 15) dX0_person_14 rfl ?_
    refine r_if_lt (q := 18) (tgt := 22) dX0_person_15 rfl rfl (fun c15 => ?_) (fun c15 => ?_)
    · exact no4 hk (Or.inl c15)
    refine r_iload_3 (q := 19) dX0_person_18 rfl ?_
    refine r_if_ge (q := 22) (tgt := 27) dX0_person_19 rfl rfl (fun c19 => ?_) (fun c19 => ?_)
    · refine r_iload_2 (q := 28) dX0_person_27 rfl ?_
      refine r_bipush 9 (by decide) (q := 30) dX0_person_28 rfl ?_
      have hb : ¬(f < 0 ∨ v < 0) := fun q => by rcases q with q | q; exact c15 q; exact absurd q (Int32.not_lt.mpr c19)
      refine r_icmp_gt (q := 33) (tgt := 51) dX0_person_30 rfl rfl (fun c30 => ?_) (fun c30 => ?_)
      · exact no2 hk hb (Or.inl c30)
      refine r_iload_3 (q := 34) dX0_person_33 rfl ?_
      refine r_bipush 31 (by decide) (q := 36) dX0_person_34 rfl ?_
      refine r_icmp_gt (q := 39) (tgt := 51) dX0_person_36 rfl rfl (fun c36 => ?_) (fun c36 => ?_)
      · exact no2 hk hb (Or.inr (Or.inl c36))
      refine r_aload_0 (q := 40) dX0_person_39 rfl ?_
      refine r_get gf_X0_16_0 xh_x rfl (q := 43) dX0_person_40 rfl ?_
      refine r_callV_0 cv_X0_74 (xe_o 0 (by decide) rfl) rfl (by decide) (Nat.le_of_ble_eq_true rfl) ⟨by decide, by decide⟩ (x_many 0 (by decide) h.kx rfl) (q := 46) dX0_person_43 rfl ?_
      rw [h.s]
      have h6 := h.oks.1.1
      refine r_bipush 6 (by decide) (q := 48) dX0_person_46 rfl ?_
      refine r_icmp_ne (q := 51) (tgt := 56) dX0_person_48 rfl rfl (fun c48 => ?_) (fun c48 => ?_)
      · have hne : ¬ σ.1.1.length = 6 := fun q => c48 (by rw [q]; rfl)
        refine r_iconst 0 (by decide) (q := 57) dX0_person_56 rfl ?_
        exact fin _ (by unfold noPer; rw [if_pos hk, if_neg hb, if_neg (fun q => by rcases q with q | q | q; exact c30 q; exact c36 q; exact hne q)])
      · exact no2 hk hb (Or.inr (Or.inr (nI_inj (b := 6) (by omega) (by omega) c48)))
    · exact no4 hk (Or.inr (Int32.not_le.mp c19))
  · refine r_bipush (-2) (by decide) (q := 11) dX0_person_9 rfl ?_
    refine r_goto (q := 57) dX0_person_11 rfl ?_
    have hk : inI k 6 = false := bI_0.mp c6
    exact fin _ (by unfold noPer; rw [hk]; rfl)
end XO7


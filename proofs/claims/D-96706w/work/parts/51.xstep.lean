/-! ===== what is taken back ===== -/
def rotL (l : List Nat) : List Nat := (forR (fun k l => l.set (k - 1) (l.getD k 0)) 1 7 l).set 7 (l.getD 0 0)
theorem len8 {l : List Nat} (h : l.length = 8) : ∃ a b c d e f i j, l = [a, b, c, d, e, f, i, j] := by
  match l, h with
  | [a, b, c, d, e, f, i, j], _ => exact ⟨a, b, c, d, e, f, i, j, rfl⟩
theorem rotL_eq {l : List Nat} (h : l.length = 8) : rotL l = l.drop 1 ++ [l.getD 0 0] := by
  obtain ⟨a, b, c, d, e, f, i, j, rfl⟩ := len8 h
  rfl
theorem rotL_perm {l : List Nat} (h : l.length = 8) : (rotL l).Perm l := by
  obtain ⟨a, b, c, d, e, f, i, j, rfl⟩ := len8 h
  rw [rotL_eq rfl]
  exact (List.perm_append_comm (l₁ := [b, c, d, e, f, i, j]) (l₂ := [a]))
theorem rotL_getD {l : List Nat} (h : l.length = 8) {k : Nat} (hk : k < 7) : (rotL l).getD k 0 = l.getD (k + 1) 0 := by
  obtain ⟨a, b, c, d, e, f, i, j, rfl⟩ := len8 h
  match k, hk with
  | 0, _ => rfl
  | 1, _ => rfl
  | 2, _ => rfl
  | 3, _ => rfl
  | 4, _ => rfl
  | 5, _ => rfl
  | 6, _ => rfl
theorem nodup_ne {l : List Nat} (h : l.Nodup) {i j : Nat} (hi : i < l.length) (hj : j < l.length) (hij : i ≠ j) : l.getD i 0 ≠ l.getD j 0 := by
  rw [List.getD_eq_getElem?_getD, List.getD_eq_getElem?_getD, List.getElem?_eq_getElem hi, List.getElem?_eq_getElem hj, Option.getD_some, Option.getD_some]
  intro e
  rcases Nat.lt_or_gt_of_ne hij with z | z
  · exact (List.pairwise_iff_getElem.mp h) i j hi hj z e
  · exact (List.pairwise_iff_getElem.mp h) j i hj hi z e.symm
theorem getD_in {l : List Nat} {i : Nat} (hi : i < l.length) : l.getD i 0 ∈ l := by
  rw [List.getD_eq_getElem?_getD, List.getElem?_eq_getElem hi, Option.getD_some]
  exact List.getElem_mem hi
def remS (σ : SG) : SG := (σ.1, σ.2.1, (if σ.2.2.1.length = 8 then σ.2.2.1.drop 1 else σ.2.2.1) ++ [σ.1], σ.2.2.2)
section XT
variable {G : GD} {n x : Nat} {w : XW} {g : RH} {σ : SG} {st : List SQ}
theorem xset_st1 (i v : Nat) : hset (xh x w g) (x + 27) (.inr (.inl (1, (w.2.1.map (fun i => some (x + qo i))).set i (some (x + qo v))))) = xh x (setst w (w.2.1.set i v)) g := by
  rw [← xset_st, List.map_set]
theorem stD {l : List Nat} {k : Nat} (hk : k < l.length) : (l.map (fun i => some (x + qo i))).getD k none = some (x + qo (l.getD k 0)) := by
  simp [List.getD_eq_getElem?_getD, hk]
theorem XRs.rot (h : XRs x w g st) (h8 : st.length = 8) (v : Int32) (hv : v = nI 7) : XRs x (setf (setst w (rotL w.2.1)) 9 v) g (st.drop 1) := by
  obtain ⟨a1, a2, a3, a4, a5, a6⟩ := h
  have hp := rotL_perm a1
  refine ⟨hp.length_eq.trans a1, hp.nodup_iff.mpr a2, fun i hi => a3 i (hp.mem_iff.mp hi), by rw [List.length_drop]; omega, by rw [List.length_drop, h8]; exact hv, fun k hk => ?_⟩
  rw [List.length_drop, h8] at hk
  show OKX x g (w.1 ((rotL w.2.1).getD k 0)) ∧ (w.1 ((rotL w.2.1).getD k 0)).1 = _ ∧ _
  have e : (st.drop 1).getD k S0 = st.getD (k + 1) S0 := by
    simp only [List.getD_eq_getElem?_getD, List.getElem?_drop, Nat.add_comm]
  rw [rotL_getD a1 (by omega), e]
  exact a6 (k + 1) (by omega)
theorem XRs.push (h : XRs x w g st) (h8 : st.length < 8) {Y : QX} (hY : OKX x g Y) (hd : Y.1.2.2.2.2 ≤ 999) (v : Int32) (hv : v = nI (st.length + 1)) : XRs x (setf (setq w (w.2.1.getD st.length 0) Y) 9 v) g (st ++ [Y.1]) := by
  obtain ⟨a1, a2, a3, a4, a5, a6⟩ := h
  refine ⟨a1, a2, a3, by rw [List.length_append]; show st.length + 1 ≤ 8; omega, by rw [List.length_append]; exact hv, fun k hk => ?_⟩
  rw [List.length_append] at hk
  show OKX x g ((setq w (w.2.1.getD st.length 0) Y).1 (w.2.1.getD k 0)) ∧ ((setq w (w.2.1.getD st.length 0) Y).1 (w.2.1.getD k 0)).1 = _ ∧ _
  rcases Nat.lt_succ_iff_lt_or_eq.mp hk with z | z
  · rw [setq_ne _ (nodup_ne a2 (by omega) (by omega) (by omega))]
    have e : (st ++ [Y.1]).getD k S0 = st.getD k S0 := by
      simp only [List.getD_eq_getElem?_getD]
      rw [List.getElem?_append_left z]
    rw [e]
    exact a6 k z
  · subst z
    rw [setq_at]
    have e : (st ++ [Y.1]).getD st.length S0 = Y.1 := by simp
    rw [e]
    exact ⟨hY, rfl, hd⟩
theorem XRs.pop (h : XRs x w g st) (hs : 0 < st.length) (v : Int32) (hv : v = nI (st.length - 1)) {Y : QX} : XRs x (setq (setf w 9 v) 0 Y) g st.dropLast := by
  obtain ⟨a1, a2, a3, a4, a5, a6⟩ := h
  refine ⟨a1, a2, a3, by rw [List.length_dropLast]; omega, by rw [List.length_dropLast]; exact hv, fun k hk => ?_⟩
  rw [List.length_dropLast] at hk
  have hm := (a3 _ (getD_in (l := w.2.1) (i := k) (by omega))).1
  show OKX x g ((setq (setf w 9 v) 0 Y).1 (w.2.1.getD k 0)) ∧ ((setq (setf w 9 v) 0 Y).1 (w.2.1.getD k 0)).1 = _ ∧ _
  rw [setq_ne _ (by omega)]
  have e : st.dropLast.getD k S0 = st.getD k S0 := by
    simp only [List.getD_eq_getElem?_getD, List.getElem?_dropLast]
    rw [if_pos hk]
  rw [e]
  exact a6 k (by omega)
theorem k_X0_remembers (h : XR x w g σ) : Ct G yX0_remembers cX0_remembers 3 none 6 0 0 [.ref x] n (xh x w g) (fun r n' h' => r = none ∧ n' = n ∧ ∃ w', h' = xh x w' g ∧ XR x w' g (remS σ)) := by
  refine Ct.intro (k := 2) [some (.ref x), none, none] (by decide) (Nat.le_of_ble_eq_true rfl) rfl fun z hz hin => ?_
  have last : ∀ (w1 : XW) (st : List SQ) (o1 o2 : Option Value), XR x w1 g (σ.1, σ.2.1, st, σ.2.2.2) → st.length < 8 → st ++ [σ.1] = (remS σ).2.2.1 → J G z cX0_remembers 3 RX0 6 0 0 0 0 64 [some (.ref x), o1, o2] [] n (xh x w1 g) := by
    intro w1 st o1 o2 h1 h2 h3
    have hs : XRs x w1 g st := h1.2.2.2.2.2.2.1
    obtain ⟨a1, a2, a3, a4, a5, a6⟩ := hs
    have hm := a3 _ (getD_in (l := w1.2.1) (i := st.length) (by omega))
    refine r_aload_0 (q := 65) dX0_remembers_64 rfl ?_
    refine r_get gf_X0_32_0 xh_x rfl (q := 68) dX0_remembers_65 rfl ?_
    refine r_aload_0 (q := 69) dX0_remembers_68 rfl ?_
    refine r_get gf_X0_118_0 xh_x rfl (q := 72) dX0_remembers_69 rfl ?_
    refine r_aald 1 st.length 8 xh_st (by rw [List.length_map]; exact a1) a5 h2 (by decide) (stD (by omega)) (q := 73) dX0_remembers_72 rfl ?_
    refine r_aload_0 (q := 74) dX0_remembers_73 rfl ?_
    refine r_get gf_X0_16_0 xh_x rfl (q := 77) dX0_remembers_74 rfl ?_
    refine J.heap (h2 := xh x (setq w1 (w1.2.1.getD st.length 0) (w1.1 (w1.2.1.getD st.length 0))) g) (by rw [setq_self]) ?_
    refine r_callVv_1 cv_X0_103 (xe_o _ hm.2 (setq_at _ _)) rfl (by decide) (Nat.le_of_ble_eq_true rfl) ⟨Nat.le_refl _, Nat.le_refl _⟩ (m_takes (w1.2.1.getD st.length 0) 0 hm.2 (by decide) (by omega) (h1.lq _ hm.2) h1.kx rfl) (q := 80) dX0_remembers_77 rfl ?_
    refine r_aload_0 (q := 81) dX0_remembers_80 rfl ?_
    refine r_dup rfl (q := 82) dX0_remembers_81 rfl ?_
    refine r_get gf_X0_118_0 xh_x rfl (q := 85) dX0_remembers_82 rfl ?_
    refine r_iconst 1 (by decide) (q := 86) dX0_remembers_85 rfl ?_
    refine r_iadd (q := 87) dX0_remembers_86 rfl ?_
    refine r_put gf_X0_118_0 cl_ok_0 ft_0_9 xh_x (Nat.le_of_ble_eq_true rfl) rfl rfl (q := 90) dX0_remembers_87 rfl ?_
    refine J.heap (xset_f rfl) ?_
    have hp := XRs.push ⟨a1, a2, a3, a4, a5, a6⟩ h2 (Y := tkX (w1.1 0) (w1.1 (w1.2.1.getD st.length 0))) h1.ok (by show (w1.1 0).1.2.2.2.2 ≤ 999; rw [h1.s]; exact h1.day) (w1.2.2.2 9 + 1) (by rw [a5, nI_1])
    have e2 : (tkX (w1.1 0) (w1.1 (w1.2.1.getD st.length 0))).1 = σ.1 := h1.s
    rw [e2, h3] at hp
    refine r_vret hz dX0_remembers_90 (Nat.le_refl _) (Nat.le_refl _) ⟨rfl, rfl, _, rfl, ?_⟩
    have e0 : ∀ v, (setf (setq w1 (w1.2.1.getD st.length 0) (tkX (w1.1 0) (w1.1 (w1.2.1.getD st.length 0)))) 9 v).1 0 = w1.1 0 := fun v => setq_ne _ (by omega)
    have e3 : ∀ v, (setf (setq w1 (w1.2.1.getD st.length 0) (tkX (w1.1 0) (w1.1 (w1.2.1.getD st.length 0)))) 9 v).1 3 = w1.1 3 := fun v => setq_ne _ (by omega)
    obtain ⟨b1, b2, b3, b4, b5, b6, b7, b8⟩ := h1
    refine ⟨by rw [e0]; exact b1, b2.setq b1.1.1.1 b1.1.kx.pl6, b3, b4, b5, b6, hp, ?_⟩
    show XRi x _ g σ.2.2.2
    have b8 : XRi x w1 g σ.2.2.2 := b8
    unfold XRi at b8 ⊢
    rw [e3]
    exact b8
  have h7 := h.2.2.2.2.2.2.1
  refine r_aload_0 (q := 1) dX0_remembers_0 rfl ?_
  refine r_get gf_X0_118_0 xh_x rfl (q := 4) dX0_remembers_1 rfl ?_
  refine r_bipush 8 (by decide) (q := 6) dX0_remembers_4 rfl ?_
  refine r_icmp_ne (q := 9) (tgt := 64) dX0_remembers_6 rfl rfl (fun c6 => ?_) (fun c6 => ?_)
  · have hne : σ.2.2.1.length ≠ 8 := fun e => c6 (by show w.2.2.2 9 = 8; rw [h7.2.2.2.2.1, e]; rfl)
    have := h7.2.2.2.1
    exact last w σ.2.2.1 _ _ h (by omega) (by unfold remS; rw [if_neg hne])
  · have he : σ.2.2.1.length = 8 := by
      have c6 : w.2.2.2 9 = 8 := c6
      rw [h7.2.2.2.2.1] at c6
      have := h7.2.2.2.1
      exact nI_inj (b := 8) (by omega) (by omega) c6
    have hl := h7.1
    refine r_aload_0 (q := 10) dX0_remembers_9 rfl ?_
    refine r_get gf_X0_32_0 xh_x rfl (q := 13) dX0_remembers_10 rfl ?_
    refine r_iconst 0 (by decide) (q := 14) dX0_remembers_13 rfl ?_
    refine r_aald 1 0 8 xh_st (by rw [List.length_map]; exact hl) rfl (by decide) (by decide) (stD (by omega)) (q := 15) dX0_remembers_14 rfl ?_
    refine r_astore_1 (by decide) rfl (q := 16) dX0_remembers_15 rfl ?_
    refine r_iconst 1 (by decide) (q := 17) dX0_remembers_16 rfl ?_
    refine r_istore_2 (by decide) rfl (q := 18) dX0_remembers_17 rfl ?_
    refine J.heap (h2 := xh x (setst w w.2.1) g) rfl ?_
    refine forJ (f := fun k l => l.set (k - 1) (l.getD k 0)) (σ := List Nat) 8 (fun l => l.length = 8 ∧ ∀ i ∈ l, i < 12) (fun k l => J G z cX0_remembers 3 RX0 6 0 0 0 0 18 [some (.ref x), some (.ref (x + qo (w.2.1.getD 0 0))), some (.int (nI k))] [] n (xh x (setst w l) g)) (a0 := 1) (s0 := w.2.1) (by decide) ⟨hl, fun i hi => (h7.2.2.1 i hi).2⟩ (fun l hI hs => ?_) (fun k l hk1 hk hI => ⟨?_, fun next => ?_⟩)
    · refine r_iload_2 (q := 19) dX0_remembers_18 rfl ?_
      refine r_bipush 8 (by decide) (q := 21) dX0_remembers_19 rfl ?_
      refine r_icmp_ge (q := 24) (tgt := 44) dX0_remembers_21 rfl rfl (fun c21 => ?_) (fun c21 => ?_)
      · refine r_aload_0 (q := 45) dX0_remembers_44 rfl ?_
        refine r_dup rfl (q := 46) dX0_remembers_45 rfl ?_
        refine r_get gf_X0_118_0 xh_x rfl (q := 49) dX0_remembers_46 rfl ?_
        refine r_iconst 1 (by decide) (q := 50) dX0_remembers_49 rfl ?_
        refine r_isub (q := 51) dX0_remembers_50 rfl ?_
        refine r_put gf_X0_118_0 cl_ok_0 ft_0_9 xh_x (Nat.le_of_ble_eq_true rfl) rfl rfl (q := 54) dX0_remembers_51 rfl ?_
        refine J.heap (xset_f rfl) ?_
        refine r_aload_0 (q := 55) dX0_remembers_54 rfl ?_
        refine r_get gf_X0_32_0 xh_x rfl (q := 58) dX0_remembers_55 rfl ?_
        refine r_aload_0 (q := 59) dX0_remembers_58 rfl ?_
        refine r_get gf_X0_118_0 xh_x rfl (q := 62) dX0_remembers_59 rfl ?_
        have e7 : w.2.2.2 9 - 1 = nI 7 := by rw [h7.2.2.2.2.1, he]; rfl
        refine J.stk (s2 := [.int (nI 7), .ref (x + 27)]) (by show [Value.int (w.2.2.2 9 - 1), _] = _; rw [e7]) ?_
        refine r_aload_1 (q := 63) dX0_remembers_62 rfl ?_
        have h00 : w.2.1.getD 0 0 < 12 := (h7.2.2.1 _ (getD_in (by omega))).2
        refine r_aastQ 7 8 xh_st (xh_qo _ h00) (by rw [List.length_map]; exact hI.1) rfl (by decide) (by decide) (q := 64) dX0_remembers_63 rfl ?_
        refine J.heap (xset_st1 _ _) ?_
        have hr := XRs.rot h7 he (w.2.2.2 9 - 1) e7
        have e9 : rotL w.2.1 = l.set 7 (w.2.1.getD 0 0) := by rw [hs]; rfl
        rw [e9] at hr
        refine last _ (σ.2.2.1.drop 1) _ _ ?_ (by rw [List.length_drop, he]; decide) (by unfold remS; rw [if_pos he])
        obtain ⟨b1, b2, b3, b4, b5, b6, b7, b8⟩ := h
        refine ⟨b1, b2, b3, b4, b5, b6, hr, ?_⟩
        unfold XRi at b8 ⊢
        exact b8
      · exact absurd (Int32.le_refl (8 : Int32)) c21
    · refine ⟨(List.length_set ..).trans hI.1, fun i hi => ?_⟩
      rcases List.mem_or_eq_of_mem_set hi with z | z
      · exact hI.2 i z
      · rw [z]; exact hI.2 _ (getD_in (by omega))
    · refine r_iload_2 (q := 19) dX0_remembers_18 rfl ?_
      refine r_bipush 8 (by decide) (q := 21) dX0_remembers_19 rfl ?_
      refine r_icmp_ge (q := 24) (tgt := 44) dX0_remembers_21 rfl rfl (fun c21 => ?_) (fun c21 => ?_)
      · exact absurd c21 (nI_not_lt (b := 8) hk (by decide))
      have ek : nI k - 1 = nI (k - 1) := by
        obtain ⟨j, rfl⟩ : ∃ j, k = j + 1 := ⟨k - 1, by omega⟩
        exact nI_pred j
      refine r_aload_0 (q := 25) dX0_remembers_24 rfl ?_
      refine r_get gf_X0_32_0 xh_x rfl (q := 28) dX0_remembers_25 rfl ?_
      refine r_iload_2 (q := 29) dX0_remembers_28 rfl ?_
      refine r_iconst 1 (by decide) (q := 30) dX0_remembers_29 rfl ?_
      refine r_isub (q := 31) dX0_remembers_30 rfl ?_
      refine J.topi ek ?_
      refine r_aload_0 (q := 32) dX0_remembers_31 rfl ?_
      refine r_get gf_X0_32_0 xh_x rfl (q := 35) dX0_remembers_32 rfl ?_
      refine r_iload_2 (q := 36) dX0_remembers_35 rfl ?_
      refine r_aald 1 k 8 xh_st (by rw [List.length_map]; exact hI.1) rfl hk (by decide) (stD (by show k < l.length; omega)) (q := 37) dX0_remembers_36 rfl ?_
      refine r_aastQ (k - 1) 8 xh_st (xh_qo _ (hI.2 _ (getD_in (by omega)))) (by rw [List.length_map]; exact hI.1) rfl (by omega) (by decide) (q := 38) dX0_remembers_37 rfl ?_
      refine J.heap (xset_st1 _ _) ?_
      refine r_inc_2 (by decide) rfl (q := 41) dX0_remembers_38 rfl ?_
      refine r_goto (q := 18) dX0_remembers_41 rfl ?_
      exact next
end XT


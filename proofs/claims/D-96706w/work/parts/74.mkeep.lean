/-! ===== all that there is, kept and put back ===== -/
/-- E up to k, L from there -/
def mixL {α : Type} (k : Nat) (E L : List α) : List α := E.take k ++ L.drop k
section MIX
variable {α : Type} {E L : List α} {k i : Nat} {d : α}
theorem mixL_len (h : E.length = L.length) (hk : k ≤ L.length) : (mixL k E L).length = L.length := by
  unfold mixL
  rw [List.length_append, List.length_take, List.length_drop]
  omega
theorem mixL_get (h : E.length = L.length) (hk : k ≤ i) (hi : i < L.length) : (mixL k E L).getD i d = L.getD i d := by
  unfold mixL
  rw [List.getD_eq_getElem?_getD, List.getElem?_append_right (by rw [List.length_take]; omega), List.length_take, List.getElem?_drop, List.getD_eq_getElem?_getD]
  congr 2
  omega
theorem mixL_low (h : E.length = L.length) (hk : i < k) (hi : k ≤ L.length) : (mixL k E L).getD i d = E.getD i d := by
  unfold mixL
  rw [List.getD_eq_getElem?_getD, List.getElem?_append_left (by rw [List.length_take]; omega), List.getElem?_take, if_pos hk, List.getD_eq_getElem?_getD]
theorem mixL_set (h : E.length = L.length) (hk : k < L.length) : (mixL k E L).set k (E.getD k d) = mixL (k + 1) E L := by
  apply List.ext_getElem?
  intro j
  have e1 := mixL_len (k := k) h (Nat.le_of_lt hk)
  have e2 := mixL_len (k := k + 1) h hk
  rcases Nat.lt_or_ge j L.length with hj | hj
  · have g : ∀ (l : List α), l.length = L.length → l[j]? = some (l.getD j d) := fun l hl => by
      rw [List.getD_eq_getElem?_getD, List.getElem?_eq_getElem (by omega)]
      rfl
    rw [g _ ((List.length_set ..).trans e1), g _ e2, getD_set, e1]
    congr 1
    by_cases hjk : j = k
    · subst hjk
      rw [if_pos ⟨rfl, hk⟩, mixL_low h (by omega) (by omega)]
    · rw [if_neg (fun q => hjk q.1)]
      rcases Nat.lt_or_ge j k with z | z
      · rw [mixL_low h z (by omega), mixL_low h (by omega) (by omega)]
      · rw [mixL_get h z hj, mixL_get h (by omega) hj]
  · rw [List.getElem?_eq_none (by rw [List.length_set, e1]; exact hj), List.getElem?_eq_none (by rw [e2]; exact hj)]
theorem mixL_0 : mixL 0 E L = L := by
  unfold mixL
  rw [List.take_zero, List.drop_zero, List.nil_append]
theorem mixL_all (h : E.length = L.length) (hk : k = L.length) : mixL k E L = E := by
  unfold mixL
  rw [hk, List.drop_length, List.append_nil, ← h, List.take_length]
end MIX
/-- the 62 numbers of a quarter -/
def encF (D : SM) (k : Nat) : Int32 :=
  if k = 0 then nI D.1 else if k = 1 then nI D.2.2.2.2.2 else if k < 26 then
    (if (k - 2) % 4 = 0 then nI (D.2.1.getD ((k - 2) / 4) (0, 0)).1 else if (k - 2) % 4 = 1 then nI (D.2.1.getD ((k - 2) / 4) (0, 0)).2 else if (k - 2) % 4 = 2 then nI (D.2.2.1.getD ((k - 2) / 4) 0) else mI (D.2.2.2.1.getD ((k - 2) / 4) none))
  else nI (D.2.2.2.2.1.getD (k - 26) 0)
def encS (D : SM) : List Int32 := (List.range 62).map (encF D)
theorem encS_len (D : SM) : (encS D).length = 62 := by
  unfold encS
  rw [List.length_map, List.length_range]
theorem encS_get (D : SM) {k : Nat} (hk : k < 62) : (encS D).getD k 0 = encF D k := by
  unfold encS
  rw [List.getD_eq_getElem?_getD, List.getElem?_map, List.getElem?_range hk]
  rfl
theorem encF_k (D : SM) {p : Nat} (hp : p < 6) : encF D (2 + 4 * p) = nI (D.2.1.getD p (0, 0)).1 := by
  unfold encF
  rw [if_neg (by omega), if_neg (by omega), if_pos (by omega), if_pos (by omega)]
  congr 3
  omega
theorem encF_f (D : SM) {p : Nat} (hp : p < 6) : encF D (2 + 4 * p + 1) = nI (D.2.1.getD p (0, 0)).2 := by
  unfold encF
  rw [if_neg (by omega), if_neg (by omega), if_pos (by omega), if_neg (by omega), if_pos (by omega)]
  congr 3
  omega
theorem encF_h (D : SM) {p : Nat} (hp : p < 6) : encF D (2 + 4 * p + 1 + 1) = nI (D.2.2.1.getD p 0) := by
  unfold encF
  rw [if_neg (by omega), if_neg (by omega), if_pos (by omega), if_neg (by omega), if_neg (by omega), if_pos (by omega)]
  congr 2
  omega
theorem encF_m (D : SM) {p : Nat} (hp : p < 6) : encF D (2 + 4 * p + 1 + 1 + 1) = mI (D.2.2.2.1.getD p none) := by
  unfold encF
  rw [if_neg (by omega), if_neg (by omega), if_pos (by omega), if_neg (by omega), if_neg (by omega), if_neg (by omega)]
  congr 2
  omega
theorem encF_q (D : SM) {k : Nat} : encF D (26 + k) = nI (D.2.2.2.2.1.getD k 0) := by
  unfold encF
  rw [if_neg (by omega), if_neg (by omega), if_neg (by omega)]
  congr 2
  omega
/-- sizes -/
def LM (s : SM) : Prop := s.2.1.length = 6 ∧ s.2.2.1.length = 6 ∧ s.2.2.2.1.length = 6 ∧ s.2.2.2.2.1.length = 36
theorem OKM.lm {T : SQ} {j : List PP} (K : OKM T j) : LM (mS T j) := ⟨K.2, K.lens.2.1, K.lens.2.2.1, K.lens.2.2.2.1⟩
/-- between C and D: persons up to p -/
def midP (C D : SM) (p : Nat) : SM := (D.1, mixL p D.2.1 C.2.1, mixL p D.2.2.1 C.2.2.1, mixL p D.2.2.2.1 C.2.2.2.1, C.2.2.2.2.1, D.2.2.2.2.2)
def midQ (C D : SM) (k : Nat) : SM := (D.1, D.2.1, D.2.2.1, D.2.2.2.1, mixL k D.2.2.2.2.1 C.2.2.2.2.1, D.2.2.2.2.2)
theorem midP_step {C D : SM} {p : Nat} (hC : LM C) (hD : LM D) (hp : p < 6) : (setK2 (setK1 (midP C D p) p (D.2.1.getD p (0, 0)).1) p (D.2.1.getD p (0, 0)).2) = (D.1, mixL (p + 1) D.2.1 C.2.1, mixL p D.2.2.1 C.2.2.1, mixL p D.2.2.2.1 C.2.2.2.1, C.2.2.2.2.1, D.2.2.2.2.2) := by
  have hl := mixL_len (E := D.2.1) (L := C.2.1) (k := p) (hD.1.trans hC.1.symm) (by rw [hC.1]; omega)
  unfold setK2 setK1 midP
  show (D.1, ((mixL p D.2.1 C.2.1).set p _).set p (((mixL p D.2.1 C.2.1).set p ((D.2.1.getD p (0, 0)).1, _)).getD p (0, 0) |>.1, (D.2.1.getD p (0, 0)).2), _) = _
  rw [getD_set, if_pos ⟨rfl, by rw [hl, hC.1]; exact hp⟩, List.set_set]
  show (D.1, (mixL p D.2.1 C.2.1).set p (D.2.1.getD p (0, 0)), _) = _
  rw [mixL_set (hD.1.trans hC.1.symm) (by rw [hC.1]; exact hp)]
section CARRY
variable {G : GD} {n m : Nat} {w : MW} {g : RH} {tk : Int32} {C D : SM}
def cw11 (m : Nat) (w : MW) (tk : Int32) (S : SM) (l : List Int32) (i : Nat) : MW := sk22 (sf21 (sf20 (sa11 (sS w S) l) (nI i)) tk) (.ref (m + 11))
def cw12 (m : Nat) (w : MW) (tk : Int32) (S : SM) (l : List Int32) (i : Nat) : MW := sk22 (sf21 (sf20 (sa12 (sS w S) l) (nI i)) tk) (.ref (m + 12))
def cw14 (m : Nat) (w : MW) (tk : Int32) (S : SM) (l : List Int32) (i : Nat) : MW := sk22 (sf21 (sf20 (sa14 (sS w S) l) (nI i)) tk) (.ref (m + 14))
theorem k_X2_cry_11 {S : SM} {l : List Int32} {i : Nat} {v x : Int32} (hi : i < 62) (hl : l.length = 62) (hx : (if tk = 0 then l.getD i 0 else v) = x) : CtE G yX2_carry cX2_carry 2 (some FieldType.int) 1 [.ref m, .int v] n (mh m (cw11 m w tk S l i) g) (some (.int x)) (mh m (cw11 m w tk S (l.set i x) (i + 1)) g) := by
  refine Ct.intro (k := 0) [some (.ref m), some (.int v)] (by decide) (Nat.le_of_ble_eq_true rfl) rfl fun z hz hin => ?_
  have rest : J G z cX2_carry 2 RX2 1 0 0 0 0 17 [some (.ref m), some (.int v)] [] n (mh m (cw11 m w tk S (l.set i x) i) g) := by
    refine r_aload_0 (q := 18) dX2_carry_17 rfl ?_
    refine r_dup rfl (q := 19) dX2_carry_18 rfl ?_
    refine r_get gf_X2_196_2 mh_o rfl (q := 22) dX2_carry_19 rfl ?_
    refine r_iconst 1 (by decide) (q := 23) dX2_carry_22 rfl ?_
    refine r_iadd (q := 24) dX2_carry_23 rfl ?_
    refine J.topi (nI_1 i) ?_
    refine r_put gf_X2_196_2 cl_ok_2 ft_2_20 mh_o (Nat.le_of_ble_eq_true rfl) rfl rfl (q := 27) dX2_carry_24 rfl ?_
    refine J.heap mset_f20 ?_
    refine r_aload_0 (q := 28) dX2_carry_27 rfl ?_
    refine r_get gf_X2_193_2 mh_o rfl (q := 31) dX2_carry_28 rfl ?_
    refine r_aload_0 (q := 32) dX2_carry_31 rfl ?_
    refine r_get gf_X2_196_2 mh_o rfl (q := 35) dX2_carry_32 rfl ?_
    refine r_iconst 1 (by decide) (q := 36) dX2_carry_35 rfl ?_
    refine r_isub (q := 37) dX2_carry_36 rfl ?_
    refine J.topi (nI_pred i) ?_
    refine r_iald i 62 mh_11 ((List.length_set ..).trans hl) rfl hi (by decide) (q := 38) dX2_carry_37 rfl ?_
    refine J.topi (y := x) (by show (l.set i x).getD i 0 = x; rw [getD_set, if_pos ⟨rfl, by rw [hl]; exact hi⟩]) ?_
    exact r_iret hz dX2_carry_38 (Nat.le_refl _) (Nat.le_refl _) ⟨rfl, rfl, rfl⟩
  refine r_aload_0 (q := 1) dX2_carry_0 rfl ?_
  refine r_get gf_X2_190_2 mh_o rfl (q := 4) dX2_carry_1 rfl ?_
  refine r_if_eq (q := 7) (tgt := 17) dX2_carry_4 rfl rfl (fun c4 => ?_) (fun c4 => ?_)
  · have c4 : tk = 0 := c4
    rw [if_pos c4] at hx
    refine J.heap (h2 := mh m (cw11 m w tk S (l.set i x) i) g) ?_ rest
    have e : l.set i x = l := by
      rw [← hx]
      apply List.ext_getElem?
      intro k
      rw [List.getElem?_set]
      by_cases hk : i = k
      · subst hk
        rw [if_pos rfl, if_pos (by rw [hl]; exact hi), List.getD_eq_getElem?_getD, List.getElem?_eq_getElem (by rw [hl]; exact hi)]
        rfl
      · rw [if_neg hk]
    rw [e]
  · have c4 : ¬ tk = 0 := c4
    rw [if_neg c4] at hx
    subst hx
    refine r_aload_0 (q := 8) dX2_carry_7 rfl ?_
    refine r_get gf_X2_193_2 mh_o rfl (q := 11) dX2_carry_8 rfl ?_
    refine r_aload_0 (q := 12) dX2_carry_11 rfl ?_
    refine r_get gf_X2_196_2 mh_o rfl (q := 15) dX2_carry_12 rfl ?_
    refine r_iload_1 (q := 16) dX2_carry_15 rfl ?_
    refine r_iast i 62 mh_11 hl rfl hi (by decide) (q := 17) dX2_carry_16 rfl ?_
    exact J.heap mset_11 rest
theorem k_X2_cry_12 {S : SM} {l : List Int32} {i : Nat} {v x : Int32} (hi : i < 62) (hl : l.length = 62) (hx : (if tk = 0 then l.getD i 0 else v) = x) : CtE G yX2_carry cX2_carry 2 (some FieldType.int) 1 [.ref m, .int v] n (mh m (cw12 m w tk S l i) g) (some (.int x)) (mh m (cw12 m w tk S (l.set i x) (i + 1)) g) := by
  refine Ct.intro (k := 0) [some (.ref m), some (.int v)] (by decide) (Nat.le_of_ble_eq_true rfl) rfl fun z hz hin => ?_
  have rest : J G z cX2_carry 2 RX2 1 0 0 0 0 17 [some (.ref m), some (.int v)] [] n (mh m (cw12 m w tk S (l.set i x) i) g) := by
    refine r_aload_0 (q := 18) dX2_carry_17 rfl ?_
    refine r_dup rfl (q := 19) dX2_carry_18 rfl ?_
    refine r_get gf_X2_196_2 mh_o rfl (q := 22) dX2_carry_19 rfl ?_
    refine r_iconst 1 (by decide) (q := 23) dX2_carry_22 rfl ?_
    refine r_iadd (q := 24) dX2_carry_23 rfl ?_
    refine J.topi (nI_1 i) ?_
    refine r_put gf_X2_196_2 cl_ok_2 ft_2_20 mh_o (Nat.le_of_ble_eq_true rfl) rfl rfl (q := 27) dX2_carry_24 rfl ?_
    refine J.heap mset_f20 ?_
    refine r_aload_0 (q := 28) dX2_carry_27 rfl ?_
    refine r_get gf_X2_193_2 mh_o rfl (q := 31) dX2_carry_28 rfl ?_
    refine r_aload_0 (q := 32) dX2_carry_31 rfl ?_
    refine r_get gf_X2_196_2 mh_o rfl (q := 35) dX2_carry_32 rfl ?_
    refine r_iconst 1 (by decide) (q := 36) dX2_carry_35 rfl ?_
    refine r_isub (q := 37) dX2_carry_36 rfl ?_
    refine J.topi (nI_pred i) ?_
    refine r_iald i 62 mh_12 ((List.length_set ..).trans hl) rfl hi (by decide) (q := 38) dX2_carry_37 rfl ?_
    refine J.topi (y := x) (by show (l.set i x).getD i 0 = x; rw [getD_set, if_pos ⟨rfl, by rw [hl]; exact hi⟩]) ?_
    exact r_iret hz dX2_carry_38 (Nat.le_refl _) (Nat.le_refl _) ⟨rfl, rfl, rfl⟩
  refine r_aload_0 (q := 1) dX2_carry_0 rfl ?_
  refine r_get gf_X2_190_2 mh_o rfl (q := 4) dX2_carry_1 rfl ?_
  refine r_if_eq (q := 7) (tgt := 17) dX2_carry_4 rfl rfl (fun c4 => ?_) (fun c4 => ?_)
  · have c4 : tk = 0 := c4
    rw [if_pos c4] at hx
    refine J.heap (h2 := mh m (cw12 m w tk S (l.set i x) i) g) ?_ rest
    have e : l.set i x = l := by
      rw [← hx]
      apply List.ext_getElem?
      intro k
      rw [List.getElem?_set]
      by_cases hk : i = k
      · subst hk
        rw [if_pos rfl, if_pos (by rw [hl]; exact hi), List.getD_eq_getElem?_getD, List.getElem?_eq_getElem (by rw [hl]; exact hi)]
        rfl
      · rw [if_neg hk]
    rw [e]
  · have c4 : ¬ tk = 0 := c4
    rw [if_neg c4] at hx
    subst hx
    refine r_aload_0 (q := 8) dX2_carry_7 rfl ?_
    refine r_get gf_X2_193_2 mh_o rfl (q := 11) dX2_carry_8 rfl ?_
    refine r_aload_0 (q := 12) dX2_carry_11 rfl ?_
    refine r_get gf_X2_196_2 mh_o rfl (q := 15) dX2_carry_12 rfl ?_
    refine r_iload_1 (q := 16) dX2_carry_15 rfl ?_
    refine r_iast i 62 mh_12 hl rfl hi (by decide) (q := 17) dX2_carry_16 rfl ?_
    exact J.heap mset_12 rest
theorem k_X2_cry_14 {S : SM} {l : List Int32} {i : Nat} {v x : Int32} (hi : i < 62) (hl : l.length = 62) (hx : (if tk = 0 then l.getD i 0 else v) = x) : CtE G yX2_carry cX2_carry 2 (some FieldType.int) 1 [.ref m, .int v] n (mh m (cw14 m w tk S l i) g) (some (.int x)) (mh m (cw14 m w tk S (l.set i x) (i + 1)) g) := by
  refine Ct.intro (k := 0) [some (.ref m), some (.int v)] (by decide) (Nat.le_of_ble_eq_true rfl) rfl fun z hz hin => ?_
  have rest : J G z cX2_carry 2 RX2 1 0 0 0 0 17 [some (.ref m), some (.int v)] [] n (mh m (cw14 m w tk S (l.set i x) i) g) := by
    refine r_aload_0 (q := 18) dX2_carry_17 rfl ?_
    refine r_dup rfl (q := 19) dX2_carry_18 rfl ?_
    refine r_get gf_X2_196_2 mh_o rfl (q := 22) dX2_carry_19 rfl ?_
    refine r_iconst 1 (by decide) (q := 23) dX2_carry_22 rfl ?_
    refine r_iadd (q := 24) dX2_carry_23 rfl ?_
    refine J.topi (nI_1 i) ?_
    refine r_put gf_X2_196_2 cl_ok_2 ft_2_20 mh_o (Nat.le_of_ble_eq_true rfl) rfl rfl (q := 27) dX2_carry_24 rfl ?_
    refine J.heap mset_f20 ?_
    refine r_aload_0 (q := 28) dX2_carry_27 rfl ?_
    refine r_get gf_X2_193_2 mh_o rfl (q := 31) dX2_carry_28 rfl ?_
    refine r_aload_0 (q := 32) dX2_carry_31 rfl ?_
    refine r_get gf_X2_196_2 mh_o rfl (q := 35) dX2_carry_32 rfl ?_
    refine r_iconst 1 (by decide) (q := 36) dX2_carry_35 rfl ?_
    refine r_isub (q := 37) dX2_carry_36 rfl ?_
    refine J.topi (nI_pred i) ?_
    refine r_iald i 62 mh_14 ((List.length_set ..).trans hl) rfl hi (by decide) (q := 38) dX2_carry_37 rfl ?_
    refine J.topi (y := x) (by show (l.set i x).getD i 0 = x; rw [getD_set, if_pos ⟨rfl, by rw [hl]; exact hi⟩]) ?_
    exact r_iret hz dX2_carry_38 (Nat.le_refl _) (Nat.le_refl _) ⟨rfl, rfl, rfl⟩
  refine r_aload_0 (q := 1) dX2_carry_0 rfl ?_
  refine r_get gf_X2_190_2 mh_o rfl (q := 4) dX2_carry_1 rfl ?_
  refine r_if_eq (q := 7) (tgt := 17) dX2_carry_4 rfl rfl (fun c4 => ?_) (fun c4 => ?_)
  · have c4 : tk = 0 := c4
    rw [if_pos c4] at hx
    refine J.heap (h2 := mh m (cw14 m w tk S (l.set i x) i) g) ?_ rest
    have e : l.set i x = l := by
      rw [← hx]
      apply List.ext_getElem?
      intro k
      rw [List.getElem?_set]
      by_cases hk : i = k
      · subst hk
        rw [if_pos rfl, if_pos (by rw [hl]; exact hi), List.getD_eq_getElem?_getD, List.getElem?_eq_getElem (by rw [hl]; exact hi)]
        rfl
      · rw [if_neg hk]
    rw [e]
  · have c4 : ¬ tk = 0 := c4
    rw [if_neg c4] at hx
    subst hx
    refine r_aload_0 (q := 8) dX2_carry_7 rfl ?_
    refine r_get gf_X2_193_2 mh_o rfl (q := 11) dX2_carry_8 rfl ?_
    refine r_aload_0 (q := 12) dX2_carry_11 rfl ?_
    refine r_get gf_X2_196_2 mh_o rfl (q := 15) dX2_carry_12 rfl ?_
    refine r_iload_1 (q := 16) dX2_carry_15 rfl ?_
    refine r_iast i 62 mh_14 hl rfl hi (by decide) (q := 17) dX2_carry_16 rfl ?_
    exact J.heap mset_14 rest
theorem setK1_ok {m : Nat} {w : MW} {g : RH} {a k : Nat} {x : Int32} (hx : x = nI k) : hset (mh m w g) (m + 1) (.inl ((w.1.2.1.map (fun p => nI p.1)).set a x)) = mh m (sS w (setK1 w.1 a k)) g := by
  subst hx
  exact mset_1
theorem setK2_ok {m : Nat} {w : MW} {g : RH} {a k : Nat} {x : Int32} (hx : x = nI k) : hset (mh m w g) (m + 2) (.inl ((w.1.2.1.map (fun p => nI p.2)).set a x)) = mh m (sS w (setK2 w.1 a k)) g := by
  subst hx
  exact mset_2
theorem k_X2_carryAll_11 (hC : LM w.1) (hD : LM D) (hl : (ma11 w).length = 62) (h : (tk = 1 ∧ D = w.1) ∨ (tk = 0 ∧ ma11 w = encS D)) : CtE G yX2_carryAll cX2_carryAll 4 none 2 [.ref m, .ref (m + 11), .int tk] n (mh m w g) none (mh m (cw11 m w tk D (encS D) 62) g) := by
  refine Ct.intro (k := 1) [some (.ref m), some (.ref (m + 11)), some (.int tk), none] (by decide) (Nat.le_of_ble_eq_true rfl) rfl fun z hz hin => ?_
  have htk : narrow .boolean (.int tk) = .int tk := by rcases h with ⟨rfl, -⟩ | ⟨rfl, -⟩ <;> rfl
  have htf : fits .boolean (.int tk) = true := by rcases h with ⟨rfl, -⟩ | ⟨rfl, -⟩ <;> rfl
  have hE : (encS D).length = (ma11 w).length := by rw [encS_len, hl]
  have hv : ∀ (i : Nat) (l : List Int32) (v x : Int32), i < 62 → l.getD i 0 = (ma11 w).getD i 0 → encF D i = x → (D = w.1 → v = x) → (if tk = 0 then l.getD i 0 else v) = x := by
    intro i l v x hi h1 h2 h3
    rcases h with ⟨rfl, h5⟩ | ⟨rfl, h5⟩
    · rw [if_neg (by decide)]
      exact h3 h5
    · rw [if_pos rfl, h1, h5, encS_get D hi]
      exact h2
  have hm : ∀ k x, k < 62 → encF D k = x → (mixL k (encS D) (ma11 w)).set k x = mixL (k + 1) (encS D) (ma11 w) := by
    intro k x hk hx
    rw [← hx, ← encS_get D hk]
    exact mixL_set hE (by rw [hl]; exact hk)
  have hlen : ∀ k, k ≤ 62 → (mixL k (encS D) (ma11 w)).length = 62 := fun k hk => by rw [mixL_len hE (by rw [hl]; exact hk), hl]
  have hget : ∀ k, k < 62 → (mixL k (encS D) (ma11 w)).getD k 0 = (ma11 w).getD k 0 := fun k hk => mixL_get hE (Nat.le_refl _) (by rw [hl]; exact hk)
  refine r_aload_0 (q := 1) dX2_carryAll_0 rfl ?_
  refine r_aload_1 (q := 2) dX2_carryAll_1 rfl ?_
  refine r_put gf_X2_193_2 cl_ok_2 ft_2_22 mh_o (Nat.le_of_ble_eq_true rfl) rfl rfl (q := 5) dX2_carryAll_2 rfl ?_
  refine J.heap mset_k22 ?_
  refine r_aload_0 (q := 6) dX2_carryAll_5 rfl ?_
  refine r_iload_2 (q := 7) dX2_carryAll_6 rfl ?_
  refine r_put gf_X2_190_2 cl_ok_2 ft_2_21 mh_o (Nat.le_of_ble_eq_true rfl) htk htf (q := 10) dX2_carryAll_7 rfl ?_
  refine J.heap mset_f21 ?_
  refine r_aload_0 (q := 11) dX2_carryAll_10 rfl ?_
  refine r_iconst 0 (by decide) (q := 12) dX2_carryAll_11 rfl ?_
  refine r_put gf_X2_196_2 cl_ok_2 ft_2_20 mh_o (Nat.le_of_ble_eq_true rfl) rfl rfl (q := 15) dX2_carryAll_12 rfl ?_
  refine J.heap mset_f20 ?_
  refine J.heap (h2 := mh m (cw11 m w tk w.1 (mixL 0 (encS D) (ma11 w)) 0) g) (by rw [mixL_0]; rfl) ?_
  refine r_aload_0 (q := 16) dX2_carryAll_15 rfl ?_
  refine r_aload_0 (q := 17) dX2_carryAll_16 rfl ?_
  refine r_aload_0 (q := 18) dX2_carryAll_17 rfl ?_
  refine r_get gf_X2_68_2 mh_o rfl (q := 21) dX2_carryAll_18 rfl ?_
  refine r_callV_1 cv_X2_199 mh_o rfl (by decide) (Nat.le_of_ble_eq_true rfl) ⟨Nat.le_refl _, Nat.le_refl _⟩ (k_X2_cry_11 (by decide) (hlen 0 (by decide)) (hv 0 _ _ (nI D.1) (by decide) (hget 0 (by decide)) rfl (fun e => by rw [e]; rfl))) (q := 24) dX2_carryAll_21 rfl ?_
  rw [hm 0 (nI D.1) (by decide) rfl]
  refine r_put gf_X2_68_2 cl_ok_2 ft_2_0 mh_o (Nat.le_of_ble_eq_true rfl) rfl rfl (q := 27) dX2_carryAll_24 rfl ?_
  refine J.heap mset_p ?_
  refine r_aload_0 (q := 28) dX2_carryAll_27 rfl ?_
  refine r_aload_0 (q := 29) dX2_carryAll_28 rfl ?_
  refine r_aload_0 (q := 30) dX2_carryAll_29 rfl ?_
  refine r_get gf_X2_106_2 mh_o rfl (q := 33) dX2_carryAll_30 rfl ?_
  refine r_callV_1 cv_X2_199 mh_o rfl (by decide) (Nat.le_of_ble_eq_true rfl) ⟨Nat.le_refl _, Nat.le_refl _⟩ (k_X2_cry_11 (by decide) (hlen 1 (by decide)) (hv 1 _ _ (nI D.2.2.2.2.2) (by decide) (hget 1 (by decide)) rfl (fun e => by rw [e]; rfl))) (q := 36) dX2_carryAll_33 rfl ?_
  rw [hm (0 + 1) (nI D.2.2.2.2.2) (by decide) rfl]
  refine r_put gf_X2_106_2 cl_ok_2 ft_2_6 mh_o (Nat.le_of_ble_eq_true rfl) rfl rfl (q := 39) dX2_carryAll_36 rfl ?_
  refine J.heap mset_d ?_
  refine r_iconst 0 (by decide) (q := 40) dX2_carryAll_39 rfl ?_
  refine r_istore_3 (by decide) rfl (q := 41) dX2_carryAll_40 rfl ?_
  refine J.heap (h2 := mh m (cw11 m w tk (midP w.1 D 0) (mixL (2 + 4 * 0) (encS D) (ma11 w)) (2 + 4 * 0)) g) (by unfold midP; rw [mixL_0, mixL_0, mixL_0]; rfl) ?_
  refine upto (P := fun p => J G z cX2_carryAll 4 RX2 2 0 0 0 0 41 [some (.ref m), some (.ref (m + 11)), some (.int tk), some (.int (nI p))] [] n (mh m (cw11 m w tk (midP w.1 D p) (mixL (2 + 4 * p) (encS D) (ma11 w)) (2 + 4 * p)) g)) 6 ?_ (fun p hp next => ?_) 0 (by decide)
  · refine r_iload_3 (q := 42) dX2_carryAll_41 rfl ?_
    refine r_bipush 6 (by decide) (q := 44) dX2_carryAll_42 rfl ?_
    refine r_icmp_ge (q := 47) (tgt := 117) dX2_carryAll_44 rfl rfl (fun c44 => ?_) (fun c44 => ?_)
    · refine r_iconst 0 (by decide) (q := 118) dX2_carryAll_117 rfl ?_
      refine r_istore_3 (by decide) rfl (q := 119) dX2_carryAll_118 rfl ?_
      refine J.heap (h2 := mh m (cw11 m w tk (midQ w.1 D 0) (mixL (26 + 0) (encS D) (ma11 w)) (26 + 0)) g) (by unfold midP midQ; rw [mixL_all (hD.1.trans hC.1.symm) hC.1.symm, mixL_all (hD.2.1.trans hC.2.1.symm) hC.2.1.symm, mixL_all (hD.2.2.1.trans hC.2.2.1.symm) hC.2.2.1.symm, mixL_0]) ?_
      refine upto (P := fun k => J G z cX2_carryAll 4 RX2 2 0 0 0 0 119 [some (.ref m), some (.ref (m + 11)), some (.int tk), some (.int (nI k))] [] n (mh m (cw11 m w tk (midQ w.1 D k) (mixL (26 + k) (encS D) (ma11 w)) (26 + k)) g)) 36 ?_ (fun k hk next => ?_) 0 (by decide)
      · refine r_iload_3 (q := 120) dX2_carryAll_119 rfl ?_
        refine r_bipush 36 (by decide) (q := 122) dX2_carryAll_120 rfl ?_
        refine r_icmp_ge (q := 125) (tgt := 147) dX2_carryAll_122 rfl rfl (fun c122 => ?_) (fun c122 => ?_)
        · refine r_vret hz dX2_carryAll_147 (Nat.le_refl _) (Nat.le_refl _) ⟨rfl, rfl, ?_⟩
          unfold midQ
          rw [mixL_all (hD.2.2.2.trans hC.2.2.2.symm) hC.2.2.2.symm, mixL_all hE (by rw [hl])]
        · exact absurd (nI_le (a := 36) (by omega) (by omega)) c122
      · have hq := mixL_len (E := D.2.2.2.2.1) (L := w.1.2.2.2.2.1) (k := k) (hD.2.2.2.trans hC.2.2.2.symm) (by rw [hC.2.2.2]; omega)
        refine r_iload_3 (q := 120) dX2_carryAll_119 rfl ?_
        refine r_bipush 36 (by decide) (q := 122) dX2_carryAll_120 rfl ?_
        refine r_icmp_ge (q := 125) (tgt := 147) dX2_carryAll_122 rfl rfl (fun c122 => ?_) (fun c122 => ?_)
        · exact absurd c122 (nI_ge (b := 36) (by omega) (by omega))
        refine r_aload_0 (q := 126) dX2_carryAll_125 rfl ?_
        refine r_get gf_X2_22_2 mh_o rfl (q := 129) dX2_carryAll_126 rfl ?_
        refine r_iload_3 (q := 130) dX2_carryAll_129 rfl ?_
        refine r_aload_0 (q := 131) dX2_carryAll_130 rfl ?_
        refine r_aload_0 (q := 132) dX2_carryAll_131 rfl ?_
        refine r_get gf_X2_22_2 mh_o rfl (q := 135) dX2_carryAll_132 rfl ?_
        refine r_iload_3 (q := 136) dX2_carryAll_135 rfl ?_
        refine r_ialdN k 36 mh_5 (hq.trans hC.2.2.2) rfl hk (by decide) (q := 137) dX2_carryAll_136 rfl ?_
        refine r_callV_1 cv_X2_199 mh_o rfl (by decide) (Nat.le_of_ble_eq_true rfl) ⟨Nat.le_refl _, Nat.le_refl _⟩ (k_X2_cry_11 (by omega) (hlen (26 + k) (by omega)) (hv (26 + k) _ _ (nI (D.2.2.2.2.1.getD k 0)) (by omega) (hget (26 + k) (by omega)) (encF_q D) (fun e => by show nI ((mixL k D.2.2.2.2.1 w.1.2.2.2.2.1).getD k 0) = _; rw [mixL_get (hD.2.2.2.trans hC.2.2.2.symm) (Nat.le_refl _) (by rw [hC.2.2.2]; exact hk), e]))) (q := 140) dX2_carryAll_137 rfl ?_
        rw [hm (26 + k) _ (by omega) (encF_q D)]
        refine r_iastN k 36 (D.2.2.2.2.1.getD k 0) mh_5 (hq.trans hC.2.2.2) rfl rfl hk (by decide) (q := 141) dX2_carryAll_140 rfl ?_
        refine J.heap (h2 := mh m (cw11 m w tk (midQ w.1 D (k + 1)) (mixL (26 + (k + 1)) (encS D) (ma11 w)) (26 + (k + 1))) g) ?_ ?_
        · refine mset_5.trans ?_
          show mh m (cw11 m w tk (D.1, D.2.1, D.2.2.1, D.2.2.2.1, (mixL k D.2.2.2.2.1 w.1.2.2.2.2.1).set k (D.2.2.2.2.1.getD k 0), D.2.2.2.2.2) _ _) g = _
          rw [mixL_set (hD.2.2.2.trans hC.2.2.2.symm) (by rw [hC.2.2.2]; exact hk)]
          rfl
        refine r_inc_3 (by decide) rfl (q := 144) dX2_carryAll_141 rfl ?_
        refine r_goto (q := 119) dX2_carryAll_144 rfl ?_
        exact next
    · exact absurd (nI_le (a := 6) (by omega) (by omega)) c44
  · have h1 := mixL_len (E := D.2.1) (L := w.1.2.1) (k := p) (hD.1.trans hC.1.symm) (by rw [hC.1]; omega)
    have h2 := mixL_len (E := D.2.2.1) (L := w.1.2.2.1) (k := p) (hD.2.1.trans hC.2.1.symm) (by rw [hC.2.1]; omega)
    have h3 := mixL_len (E := D.2.2.2.1) (L := w.1.2.2.2.1) (k := p) (hD.2.2.1.trans hC.2.2.1.symm) (by rw [hC.2.2.1]; omega)
    have g1 : (mixL p D.2.1 w.1.2.1).getD p (0, 0) = w.1.2.1.getD p (0, 0) := mixL_get (hD.1.trans hC.1.symm) (Nat.le_refl _) (by rw [hC.1]; exact hp)
    have g2 : (mixL p D.2.2.1 w.1.2.2.1).getD p 0 = w.1.2.2.1.getD p 0 := mixL_get (hD.2.1.trans hC.2.1.symm) (Nat.le_refl _) (by rw [hC.2.1]; exact hp)
    have g3 : (mixL p D.2.2.2.1 w.1.2.2.2.1).getD p none = w.1.2.2.2.1.getD p none := mixL_get (hD.2.2.1.trans hC.2.2.1.symm) (Nat.le_refl _) (by rw [hC.2.2.1]; exact hp)
    refine r_iload_3 (q := 42) dX2_carryAll_41 rfl ?_
    refine r_bipush 6 (by decide) (q := 44) dX2_carryAll_42 rfl ?_
    refine r_icmp_ge (q := 47) (tgt := 117) dX2_carryAll_44 rfl rfl (fun c44 => ?_) (fun c44 => ?_)
    · exact absurd c44 (nI_ge (b := 6) (by omega) (by omega))
    refine r_aload_0 (q := 48) dX2_carryAll_47 rfl ?_
    refine r_get gf_X2_7_2 mh_o rfl (q := 51) dX2_carryAll_48 rfl ?_
    refine r_iload_3 (q := 52) dX2_carryAll_51 rfl ?_
    refine r_aload_0 (q := 53) dX2_carryAll_52 rfl ?_
    refine r_aload_0 (q := 54) dX2_carryAll_53 rfl ?_
    refine r_get gf_X2_7_2 mh_o rfl (q := 57) dX2_carryAll_54 rfl ?_
    refine r_iload_3 (q := 58) dX2_carryAll_57 rfl ?_
    refine r_iald p 6 mh_1 (by rw [List.length_map]; exact h1.trans hC.1) rfl hp (by decide) (q := 59) dX2_carryAll_58 rfl ?_
    refine r_callV_1 cv_X2_199 mh_o rfl (by decide) (Nat.le_of_ble_eq_true rfl) ⟨Nat.le_refl _, Nat.le_refl _⟩ (k_X2_cry_11 (by omega) (hlen (2 + 4 * p) (by omega)) (hv (2 + 4 * p) _ _ (nI (D.2.1.getD p (0, 0)).1) (by omega) (hget (2 + 4 * p) (by omega)) (encF_k D hp) (fun e => by show ((mixL p D.2.1 w.1.2.1).map (fun p => nI p.1)).getD p 0 = _; rw [getD_mapP _ _ (by rw [h1, hC.1]; exact hp), g1, e]))) (q := 62) dX2_carryAll_59 rfl ?_
    rw [hm (2 + 4 * p) _ (by omega) (encF_k D hp)]
    refine r_iast p 6 mh_1 (by rw [List.length_map]; exact h1.trans hC.1) rfl hp (by decide) (q := 63) dX2_carryAll_62 rfl ?_
    refine J.heap mset_1 ?_
    refine r_aload_0 (q := 64) dX2_carryAll_63 rfl ?_
    refine r_get gf_X2_13_2 mh_o rfl (q := 67) dX2_carryAll_64 rfl ?_
    refine r_iload_3 (q := 68) dX2_carryAll_67 rfl ?_
    refine r_aload_0 (q := 69) dX2_carryAll_68 rfl ?_
    refine r_aload_0 (q := 70) dX2_carryAll_69 rfl ?_
    refine r_get gf_X2_13_2 mh_o rfl (q := 73) dX2_carryAll_70 rfl ?_
    refine r_iload_3 (q := 74) dX2_carryAll_73 rfl ?_
    refine r_iald p 6 mh_2 (by rw [List.length_map]; show ((mixL p D.2.1 w.1.2.1).set p _).length = 6; rw [List.length_set]; exact h1.trans hC.1) rfl hp (by decide) (q := 75) dX2_carryAll_74 rfl ?_
    refine r_callV_1 cv_X2_199 mh_o rfl (by decide) (Nat.le_of_ble_eq_true rfl) ⟨Nat.le_refl _, Nat.le_refl _⟩ (k_X2_cry_11 (w := w) (S := setK1 (midP w.1 D p) p (D.2.1.getD p (0, 0)).1) (i := 2 + 4 * p + 1) (by omega) (hlen (2 + 4 * p + 1) (by omega)) (hv (2 + 4 * p + 1) _ _ (nI (D.2.1.getD p (0, 0)).2) (by omega) (hget (2 + 4 * p + 1) (by omega)) (encF_f D hp) (fun e => by show (((mixL p D.2.1 w.1.2.1).set p (_, ((mixL p D.2.1 w.1.2.1).getD p (0, 0)).2)).map (fun p => nI p.2)).getD p 0 = _; rw [getD_mapP _ _ (by rw [List.length_set, h1, hC.1]; exact hp), getD_set, if_pos ⟨rfl, by rw [h1, hC.1]; exact hp⟩]; show nI ((mixL p D.2.1 w.1.2.1).getD p (0, 0)).2 = _; rw [g1, e]))) (q := 78) dX2_carryAll_75 rfl ?_
    rw [hm (2 + 4 * p + 1) _ (by omega) (encF_f D hp)]
    refine r_iast p 6 mh_2 (by rw [List.length_map]; show ((mixL p D.2.1 w.1.2.1).set p _).length = 6; rw [List.length_set]; exact h1.trans hC.1) rfl hp (by decide) (q := 79) dX2_carryAll_78 rfl ?_
    refine J.heap mset_2 ?_
    refine J.heap (h2 := mh m (cw11 m w tk (D.1, mixL (p + 1) D.2.1 w.1.2.1, mixL p D.2.2.1 w.1.2.2.1, mixL p D.2.2.2.1 w.1.2.2.2.1, w.1.2.2.2.2.1, D.2.2.2.2.2) (mixL (2 + 4 * p + 1 + 1) (encS D) (ma11 w)) (2 + 4 * p + 1 + 1)) g) (by rw [← midP_step hC hD hp]; rfl) ?_
    refine r_aload_0 (q := 80) dX2_carryAll_79 rfl ?_
    refine r_get gf_X2_16_2 mh_o rfl (q := 83) dX2_carryAll_80 rfl ?_
    refine r_iload_3 (q := 84) dX2_carryAll_83 rfl ?_
    refine r_aload_0 (q := 85) dX2_carryAll_84 rfl ?_
    refine r_aload_0 (q := 86) dX2_carryAll_85 rfl ?_
    refine r_get gf_X2_16_2 mh_o rfl (q := 89) dX2_carryAll_86 rfl ?_
    refine r_iload_3 (q := 90) dX2_carryAll_89 rfl ?_
    refine r_ialdN p 6 mh_3 (h2.trans hC.2.1) rfl hp (by decide) (q := 91) dX2_carryAll_90 rfl ?_
    refine r_callV_1 cv_X2_199 mh_o rfl (by decide) (Nat.le_of_ble_eq_true rfl) ⟨Nat.le_refl _, Nat.le_refl _⟩ (k_X2_cry_11 (by omega) (hlen (2 + 4 * p + 1 + 1) (by omega)) (hv (2 + 4 * p + 1 + 1) _ _ (nI (D.2.2.1.getD p 0)) (by omega) (hget (2 + 4 * p + 1 + 1) (by omega)) (encF_h D hp) (fun e => by show nI ((mixL p D.2.2.1 w.1.2.2.1).getD p 0) = _; rw [g2, e]))) (q := 94) dX2_carryAll_91 rfl ?_
    rw [hm (2 + 4 * p + 1 + 1) _ (by omega) (encF_h D hp)]
    refine r_iastN p 6 (D.2.2.1.getD p 0) mh_3 (h2.trans hC.2.1) rfl rfl hp (by decide) (q := 95) dX2_carryAll_94 rfl ?_
    refine J.heap mset_3 ?_
    refine J.heap (h2 := mh m (cw11 m w tk (D.1, mixL (p + 1) D.2.1 w.1.2.1, mixL (p + 1) D.2.2.1 w.1.2.2.1, mixL p D.2.2.2.1 w.1.2.2.2.1, w.1.2.2.2.2.1, D.2.2.2.2.2) (mixL (2 + 4 * p + 1 + 1 + 1) (encS D) (ma11 w)) (2 + 4 * p + 1 + 1 + 1)) g) (by rw [← mixL_set (d := 0) (hD.2.1.trans hC.2.1.symm) (by rw [hC.2.1]; exact hp)]; rfl) ?_
    refine r_aload_0 (q := 96) dX2_carryAll_95 rfl ?_
    refine r_get gf_X2_19_2 mh_o rfl (q := 99) dX2_carryAll_96 rfl ?_
    refine r_iload_3 (q := 100) dX2_carryAll_99 rfl ?_
    refine r_aload_0 (q := 101) dX2_carryAll_100 rfl ?_
    refine r_aload_0 (q := 102) dX2_carryAll_101 rfl ?_
    refine r_get gf_X2_19_2 mh_o rfl (q := 105) dX2_carryAll_102 rfl ?_
    refine r_iload_3 (q := 106) dX2_carryAll_105 rfl ?_
    refine r_ialdM p 6 mh_4 (h3.trans hC.2.2.1) rfl hp (by decide) (q := 107) dX2_carryAll_106 rfl ?_
    refine r_callV_1 cv_X2_199 mh_o rfl (by decide) (Nat.le_of_ble_eq_true rfl) ⟨Nat.le_refl _, Nat.le_refl _⟩ (k_X2_cry_11 (by omega) (hlen (2 + 4 * p + 1 + 1 + 1) (by omega)) (hv (2 + 4 * p + 1 + 1 + 1) _ _ (mI (D.2.2.2.1.getD p none)) (by omega) (hget (2 + 4 * p + 1 + 1 + 1) (by omega)) (encF_m D hp) (fun e => by show mI ((mixL p D.2.2.2.1 w.1.2.2.2.1).getD p none) = _; rw [g3, e]))) (q := 110) dX2_carryAll_107 rfl ?_
    rw [hm (2 + 4 * p + 1 + 1 + 1) _ (by omega) (encF_m D hp)]
    refine r_iastM p 6 (D.2.2.2.1.getD p none) mh_4 (h3.trans hC.2.2.1) rfl rfl hp (by decide) (q := 111) dX2_carryAll_110 rfl ?_
    refine J.heap mset_4 ?_
    refine J.heap (h2 := mh m (cw11 m w tk (midP w.1 D (p + 1)) (mixL (2 + 4 * (p + 1)) (encS D) (ma11 w)) (2 + 4 * (p + 1))) g) (by unfold midP; rw [← mixL_set (d := none) (E := D.2.2.2.1) (hD.2.2.1.trans hC.2.2.1.symm) (by rw [hC.2.2.1]; exact hp)]; rfl) ?_
    refine r_inc_3 (by decide) rfl (q := 114) dX2_carryAll_111 rfl ?_
    refine r_goto (q := 41) dX2_carryAll_114 rfl ?_
    exact next
theorem k_X2_carryAll_12 (hC : LM w.1) (hD : LM D) (hl : (ma12 w).length = 62) (h : (tk = 1 ∧ D = w.1) ∨ (tk = 0 ∧ ma12 w = encS D)) : CtE G yX2_carryAll cX2_carryAll 4 none 2 [.ref m, .ref (m + 12), .int tk] n (mh m w g) none (mh m (cw12 m w tk D (encS D) 62) g) := by
  refine Ct.intro (k := 1) [some (.ref m), some (.ref (m + 12)), some (.int tk), none] (by decide) (Nat.le_of_ble_eq_true rfl) rfl fun z hz hin => ?_
  have htk : narrow .boolean (.int tk) = .int tk := by rcases h with ⟨rfl, -⟩ | ⟨rfl, -⟩ <;> rfl
  have htf : fits .boolean (.int tk) = true := by rcases h with ⟨rfl, -⟩ | ⟨rfl, -⟩ <;> rfl
  have hE : (encS D).length = (ma12 w).length := by rw [encS_len, hl]
  have hv : ∀ (i : Nat) (l : List Int32) (v x : Int32), i < 62 → l.getD i 0 = (ma12 w).getD i 0 → encF D i = x → (D = w.1 → v = x) → (if tk = 0 then l.getD i 0 else v) = x := by
    intro i l v x hi h1 h2 h3
    rcases h with ⟨rfl, h5⟩ | ⟨rfl, h5⟩
    · rw [if_neg (by decide)]
      exact h3 h5
    · rw [if_pos rfl, h1, h5, encS_get D hi]
      exact h2
  have hm : ∀ k x, k < 62 → encF D k = x → (mixL k (encS D) (ma12 w)).set k x = mixL (k + 1) (encS D) (ma12 w) := by
    intro k x hk hx
    rw [← hx, ← encS_get D hk]
    exact mixL_set hE (by rw [hl]; exact hk)
  have hlen : ∀ k, k ≤ 62 → (mixL k (encS D) (ma12 w)).length = 62 := fun k hk => by rw [mixL_len hE (by rw [hl]; exact hk), hl]
  have hget : ∀ k, k < 62 → (mixL k (encS D) (ma12 w)).getD k 0 = (ma12 w).getD k 0 := fun k hk => mixL_get hE (Nat.le_refl _) (by rw [hl]; exact hk)
  refine r_aload_0 (q := 1) dX2_carryAll_0 rfl ?_
  refine r_aload_1 (q := 2) dX2_carryAll_1 rfl ?_
  refine r_put gf_X2_193_2 cl_ok_2 ft_2_22 mh_o (Nat.le_of_ble_eq_true rfl) rfl rfl (q := 5) dX2_carryAll_2 rfl ?_
  refine J.heap mset_k22 ?_
  refine r_aload_0 (q := 6) dX2_carryAll_5 rfl ?_
  refine r_iload_2 (q := 7) dX2_carryAll_6 rfl ?_
  refine r_put gf_X2_190_2 cl_ok_2 ft_2_21 mh_o (Nat.le_of_ble_eq_true rfl) htk htf (q := 10) dX2_carryAll_7 rfl ?_
  refine J.heap mset_f21 ?_
  refine r_aload_0 (q := 11) dX2_carryAll_10 rfl ?_
  refine r_iconst 0 (by decide) (q := 12) dX2_carryAll_11 rfl ?_
  refine r_put gf_X2_196_2 cl_ok_2 ft_2_20 mh_o (Nat.le_of_ble_eq_true rfl) rfl rfl (q := 15) dX2_carryAll_12 rfl ?_
  refine J.heap mset_f20 ?_
  refine J.heap (h2 := mh m (cw12 m w tk w.1 (mixL 0 (encS D) (ma12 w)) 0) g) (by rw [mixL_0]; rfl) ?_
  refine r_aload_0 (q := 16) dX2_carryAll_15 rfl ?_
  refine r_aload_0 (q := 17) dX2_carryAll_16 rfl ?_
  refine r_aload_0 (q := 18) dX2_carryAll_17 rfl ?_
  refine r_get gf_X2_68_2 mh_o rfl (q := 21) dX2_carryAll_18 rfl ?_
  refine r_callV_1 cv_X2_199 mh_o rfl (by decide) (Nat.le_of_ble_eq_true rfl) ⟨Nat.le_refl _, Nat.le_refl _⟩ (k_X2_cry_12 (by decide) (hlen 0 (by decide)) (hv 0 _ _ (nI D.1) (by decide) (hget 0 (by decide)) rfl (fun e => by rw [e]; rfl))) (q := 24) dX2_carryAll_21 rfl ?_
  rw [hm 0 (nI D.1) (by decide) rfl]
  refine r_put gf_X2_68_2 cl_ok_2 ft_2_0 mh_o (Nat.le_of_ble_eq_true rfl) rfl rfl (q := 27) dX2_carryAll_24 rfl ?_
  refine J.heap mset_p ?_
  refine r_aload_0 (q := 28) dX2_carryAll_27 rfl ?_
  refine r_aload_0 (q := 29) dX2_carryAll_28 rfl ?_
  refine r_aload_0 (q := 30) dX2_carryAll_29 rfl ?_
  refine r_get gf_X2_106_2 mh_o rfl (q := 33) dX2_carryAll_30 rfl ?_
  refine r_callV_1 cv_X2_199 mh_o rfl (by decide) (Nat.le_of_ble_eq_true rfl) ⟨Nat.le_refl _, Nat.le_refl _⟩ (k_X2_cry_12 (by decide) (hlen 1 (by decide)) (hv 1 _ _ (nI D.2.2.2.2.2) (by decide) (hget 1 (by decide)) rfl (fun e => by rw [e]; rfl))) (q := 36) dX2_carryAll_33 rfl ?_
  rw [hm (0 + 1) (nI D.2.2.2.2.2) (by decide) rfl]
  refine r_put gf_X2_106_2 cl_ok_2 ft_2_6 mh_o (Nat.le_of_ble_eq_true rfl) rfl rfl (q := 39) dX2_carryAll_36 rfl ?_
  refine J.heap mset_d ?_
  refine r_iconst 0 (by decide) (q := 40) dX2_carryAll_39 rfl ?_
  refine r_istore_3 (by decide) rfl (q := 41) dX2_carryAll_40 rfl ?_
  refine J.heap (h2 := mh m (cw12 m w tk (midP w.1 D 0) (mixL (2 + 4 * 0) (encS D) (ma12 w)) (2 + 4 * 0)) g) (by unfold midP; rw [mixL_0, mixL_0, mixL_0]; rfl) ?_
  refine upto (P := fun p => J G z cX2_carryAll 4 RX2 2 0 0 0 0 41 [some (.ref m), some (.ref (m + 12)), some (.int tk), some (.int (nI p))] [] n (mh m (cw12 m w tk (midP w.1 D p) (mixL (2 + 4 * p) (encS D) (ma12 w)) (2 + 4 * p)) g)) 6 ?_ (fun p hp next => ?_) 0 (by decide)
  · refine r_iload_3 (q := 42) dX2_carryAll_41 rfl ?_
    refine r_bipush 6 (by decide) (q := 44) dX2_carryAll_42 rfl ?_
    refine r_icmp_ge (q := 47) (tgt := 117) dX2_carryAll_44 rfl rfl (fun c44 => ?_) (fun c44 => ?_)
    · refine r_iconst 0 (by decide) (q := 118) dX2_carryAll_117 rfl ?_
      refine r_istore_3 (by decide) rfl (q := 119) dX2_carryAll_118 rfl ?_
      refine J.heap (h2 := mh m (cw12 m w tk (midQ w.1 D 0) (mixL (26 + 0) (encS D) (ma12 w)) (26 + 0)) g) (by unfold midP midQ; rw [mixL_all (hD.1.trans hC.1.symm) hC.1.symm, mixL_all (hD.2.1.trans hC.2.1.symm) hC.2.1.symm, mixL_all (hD.2.2.1.trans hC.2.2.1.symm) hC.2.2.1.symm, mixL_0]) ?_
      refine upto (P := fun k => J G z cX2_carryAll 4 RX2 2 0 0 0 0 119 [some (.ref m), some (.ref (m + 12)), some (.int tk), some (.int (nI k))] [] n (mh m (cw12 m w tk (midQ w.1 D k) (mixL (26 + k) (encS D) (ma12 w)) (26 + k)) g)) 36 ?_ (fun k hk next => ?_) 0 (by decide)
      · refine r_iload_3 (q := 120) dX2_carryAll_119 rfl ?_
        refine r_bipush 36 (by decide) (q := 122) dX2_carryAll_120 rfl ?_
        refine r_icmp_ge (q := 125) (tgt := 147) dX2_carryAll_122 rfl rfl (fun c122 => ?_) (fun c122 => ?_)
        · refine r_vret hz dX2_carryAll_147 (Nat.le_refl _) (Nat.le_refl _) ⟨rfl, rfl, ?_⟩
          unfold midQ
          rw [mixL_all (hD.2.2.2.trans hC.2.2.2.symm) hC.2.2.2.symm, mixL_all hE (by rw [hl])]
        · exact absurd (nI_le (a := 36) (by omega) (by omega)) c122
      · have hq := mixL_len (E := D.2.2.2.2.1) (L := w.1.2.2.2.2.1) (k := k) (hD.2.2.2.trans hC.2.2.2.symm) (by rw [hC.2.2.2]; omega)
        refine r_iload_3 (q := 120) dX2_carryAll_119 rfl ?_
        refine r_bipush 36 (by decide) (q := 122) dX2_carryAll_120 rfl ?_
        refine r_icmp_ge (q := 125) (tgt := 147) dX2_carryAll_122 rfl rfl (fun c122 => ?_) (fun c122 => ?_)
        · exact absurd c122 (nI_ge (b := 36) (by omega) (by omega))
        refine r_aload_0 (q := 126) dX2_carryAll_125 rfl ?_
        refine r_get gf_X2_22_2 mh_o rfl (q := 129) dX2_carryAll_126 rfl ?_
        refine r_iload_3 (q := 130) dX2_carryAll_129 rfl ?_
        refine r_aload_0 (q := 131) dX2_carryAll_130 rfl ?_
        refine r_aload_0 (q := 132) dX2_carryAll_131 rfl ?_
        refine r_get gf_X2_22_2 mh_o rfl (q := 135) dX2_carryAll_132 rfl ?_
        refine r_iload_3 (q := 136) dX2_carryAll_135 rfl ?_
        refine r_ialdN k 36 mh_5 (hq.trans hC.2.2.2) rfl hk (by decide) (q := 137) dX2_carryAll_136 rfl ?_
        refine r_callV_1 cv_X2_199 mh_o rfl (by decide) (Nat.le_of_ble_eq_true rfl) ⟨Nat.le_refl _, Nat.le_refl _⟩ (k_X2_cry_12 (by omega) (hlen (26 + k) (by omega)) (hv (26 + k) _ _ (nI (D.2.2.2.2.1.getD k 0)) (by omega) (hget (26 + k) (by omega)) (encF_q D) (fun e => by show nI ((mixL k D.2.2.2.2.1 w.1.2.2.2.2.1).getD k 0) = _; rw [mixL_get (hD.2.2.2.trans hC.2.2.2.symm) (Nat.le_refl _) (by rw [hC.2.2.2]; exact hk), e]))) (q := 140) dX2_carryAll_137 rfl ?_
        rw [hm (26 + k) _ (by omega) (encF_q D)]
        refine r_iastN k 36 (D.2.2.2.2.1.getD k 0) mh_5 (hq.trans hC.2.2.2) rfl rfl hk (by decide) (q := 141) dX2_carryAll_140 rfl ?_
        refine J.heap (h2 := mh m (cw12 m w tk (midQ w.1 D (k + 1)) (mixL (26 + (k + 1)) (encS D) (ma12 w)) (26 + (k + 1))) g) ?_ ?_
        · refine mset_5.trans ?_
          show mh m (cw12 m w tk (D.1, D.2.1, D.2.2.1, D.2.2.2.1, (mixL k D.2.2.2.2.1 w.1.2.2.2.2.1).set k (D.2.2.2.2.1.getD k 0), D.2.2.2.2.2) _ _) g = _
          rw [mixL_set (hD.2.2.2.trans hC.2.2.2.symm) (by rw [hC.2.2.2]; exact hk)]
          rfl
        refine r_inc_3 (by decide) rfl (q := 144) dX2_carryAll_141 rfl ?_
        refine r_goto (q := 119) dX2_carryAll_144 rfl ?_
        exact next
    · exact absurd (nI_le (a := 6) (by omega) (by omega)) c44
  · have h1 := mixL_len (E := D.2.1) (L := w.1.2.1) (k := p) (hD.1.trans hC.1.symm) (by rw [hC.1]; omega)
    have h2 := mixL_len (E := D.2.2.1) (L := w.1.2.2.1) (k := p) (hD.2.1.trans hC.2.1.symm) (by rw [hC.2.1]; omega)
    have h3 := mixL_len (E := D.2.2.2.1) (L := w.1.2.2.2.1) (k := p) (hD.2.2.1.trans hC.2.2.1.symm) (by rw [hC.2.2.1]; omega)
    have g1 : (mixL p D.2.1 w.1.2.1).getD p (0, 0) = w.1.2.1.getD p (0, 0) := mixL_get (hD.1.trans hC.1.symm) (Nat.le_refl _) (by rw [hC.1]; exact hp)
    have g2 : (mixL p D.2.2.1 w.1.2.2.1).getD p 0 = w.1.2.2.1.getD p 0 := mixL_get (hD.2.1.trans hC.2.1.symm) (Nat.le_refl _) (by rw [hC.2.1]; exact hp)
    have g3 : (mixL p D.2.2.2.1 w.1.2.2.2.1).getD p none = w.1.2.2.2.1.getD p none := mixL_get (hD.2.2.1.trans hC.2.2.1.symm) (Nat.le_refl _) (by rw [hC.2.2.1]; exact hp)
    refine r_iload_3 (q := 42) dX2_carryAll_41 rfl ?_
    refine r_bipush 6 (by decide) (q := 44) dX2_carryAll_42 rfl ?_
    refine r_icmp_ge (q := 47) (tgt := 117) dX2_carryAll_44 rfl rfl (fun c44 => ?_) (fun c44 => ?_)
    · exact absurd c44 (nI_ge (b := 6) (by omega) (by omega))
    refine r_aload_0 (q := 48) dX2_carryAll_47 rfl ?_
    refine r_get gf_X2_7_2 mh_o rfl (q := 51) dX2_carryAll_48 rfl ?_
    refine r_iload_3 (q := 52) dX2_carryAll_51 rfl ?_
    refine r_aload_0 (q := 53) dX2_carryAll_52 rfl ?_
    refine r_aload_0 (q := 54) dX2_carryAll_53 rfl ?_
    refine r_get gf_X2_7_2 mh_o rfl (q := 57) dX2_carryAll_54 rfl ?_
    refine r_iload_3 (q := 58) dX2_carryAll_57 rfl ?_
    refine r_iald p 6 mh_1 (by rw [List.length_map]; exact h1.trans hC.1) rfl hp (by decide) (q := 59) dX2_carryAll_58 rfl ?_
    refine r_callV_1 cv_X2_199 mh_o rfl (by decide) (Nat.le_of_ble_eq_true rfl) ⟨Nat.le_refl _, Nat.le_refl _⟩ (k_X2_cry_12 (by omega) (hlen (2 + 4 * p) (by omega)) (hv (2 + 4 * p) _ _ (nI (D.2.1.getD p (0, 0)).1) (by omega) (hget (2 + 4 * p) (by omega)) (encF_k D hp) (fun e => by show ((mixL p D.2.1 w.1.2.1).map (fun p => nI p.1)).getD p 0 = _; rw [getD_mapP _ _ (by rw [h1, hC.1]; exact hp), g1, e]))) (q := 62) dX2_carryAll_59 rfl ?_
    rw [hm (2 + 4 * p) _ (by omega) (encF_k D hp)]
    refine r_iast p 6 mh_1 (by rw [List.length_map]; exact h1.trans hC.1) rfl hp (by decide) (q := 63) dX2_carryAll_62 rfl ?_
    refine J.heap mset_1 ?_
    refine r_aload_0 (q := 64) dX2_carryAll_63 rfl ?_
    refine r_get gf_X2_13_2 mh_o rfl (q := 67) dX2_carryAll_64 rfl ?_
    refine r_iload_3 (q := 68) dX2_carryAll_67 rfl ?_
    refine r_aload_0 (q := 69) dX2_carryAll_68 rfl ?_
    refine r_aload_0 (q := 70) dX2_carryAll_69 rfl ?_
    refine r_get gf_X2_13_2 mh_o rfl (q := 73) dX2_carryAll_70 rfl ?_
    refine r_iload_3 (q := 74) dX2_carryAll_73 rfl ?_
    refine r_iald p 6 mh_2 (by rw [List.length_map]; show ((mixL p D.2.1 w.1.2.1).set p _).length = 6; rw [List.length_set]; exact h1.trans hC.1) rfl hp (by decide) (q := 75) dX2_carryAll_74 rfl ?_
    refine r_callV_1 cv_X2_199 mh_o rfl (by decide) (Nat.le_of_ble_eq_true rfl) ⟨Nat.le_refl _, Nat.le_refl _⟩ (k_X2_cry_12 (w := w) (S := setK1 (midP w.1 D p) p (D.2.1.getD p (0, 0)).1) (i := 2 + 4 * p + 1) (by omega) (hlen (2 + 4 * p + 1) (by omega)) (hv (2 + 4 * p + 1) _ _ (nI (D.2.1.getD p (0, 0)).2) (by omega) (hget (2 + 4 * p + 1) (by omega)) (encF_f D hp) (fun e => by show (((mixL p D.2.1 w.1.2.1).set p (_, ((mixL p D.2.1 w.1.2.1).getD p (0, 0)).2)).map (fun p => nI p.2)).getD p 0 = _; rw [getD_mapP _ _ (by rw [List.length_set, h1, hC.1]; exact hp), getD_set, if_pos ⟨rfl, by rw [h1, hC.1]; exact hp⟩]; show nI ((mixL p D.2.1 w.1.2.1).getD p (0, 0)).2 = _; rw [g1, e]))) (q := 78) dX2_carryAll_75 rfl ?_
    rw [hm (2 + 4 * p + 1) _ (by omega) (encF_f D hp)]
    refine r_iast p 6 mh_2 (by rw [List.length_map]; show ((mixL p D.2.1 w.1.2.1).set p _).length = 6; rw [List.length_set]; exact h1.trans hC.1) rfl hp (by decide) (q := 79) dX2_carryAll_78 rfl ?_
    refine J.heap mset_2 ?_
    refine J.heap (h2 := mh m (cw12 m w tk (D.1, mixL (p + 1) D.2.1 w.1.2.1, mixL p D.2.2.1 w.1.2.2.1, mixL p D.2.2.2.1 w.1.2.2.2.1, w.1.2.2.2.2.1, D.2.2.2.2.2) (mixL (2 + 4 * p + 1 + 1) (encS D) (ma12 w)) (2 + 4 * p + 1 + 1)) g) (by rw [← midP_step hC hD hp]; rfl) ?_
    refine r_aload_0 (q := 80) dX2_carryAll_79 rfl ?_
    refine r_get gf_X2_16_2 mh_o rfl (q := 83) dX2_carryAll_80 rfl ?_
    refine r_iload_3 (q := 84) dX2_carryAll_83 rfl ?_
    refine r_aload_0 (q := 85) dX2_carryAll_84 rfl ?_
    refine r_aload_0 (q := 86) dX2_carryAll_85 rfl ?_
    refine r_get gf_X2_16_2 mh_o rfl (q := 89) dX2_carryAll_86 rfl ?_
    refine r_iload_3 (q := 90) dX2_carryAll_89 rfl ?_
    refine r_ialdN p 6 mh_3 (h2.trans hC.2.1) rfl hp (by decide) (q := 91) dX2_carryAll_90 rfl ?_
    refine r_callV_1 cv_X2_199 mh_o rfl (by decide) (Nat.le_of_ble_eq_true rfl) ⟨Nat.le_refl _, Nat.le_refl _⟩ (k_X2_cry_12 (by omega) (hlen (2 + 4 * p + 1 + 1) (by omega)) (hv (2 + 4 * p + 1 + 1) _ _ (nI (D.2.2.1.getD p 0)) (by omega) (hget (2 + 4 * p + 1 + 1) (by omega)) (encF_h D hp) (fun e => by show nI ((mixL p D.2.2.1 w.1.2.2.1).getD p 0) = _; rw [g2, e]))) (q := 94) dX2_carryAll_91 rfl ?_
    rw [hm (2 + 4 * p + 1 + 1) _ (by omega) (encF_h D hp)]
    refine r_iastN p 6 (D.2.2.1.getD p 0) mh_3 (h2.trans hC.2.1) rfl rfl hp (by decide) (q := 95) dX2_carryAll_94 rfl ?_
    refine J.heap mset_3 ?_
    refine J.heap (h2 := mh m (cw12 m w tk (D.1, mixL (p + 1) D.2.1 w.1.2.1, mixL (p + 1) D.2.2.1 w.1.2.2.1, mixL p D.2.2.2.1 w.1.2.2.2.1, w.1.2.2.2.2.1, D.2.2.2.2.2) (mixL (2 + 4 * p + 1 + 1 + 1) (encS D) (ma12 w)) (2 + 4 * p + 1 + 1 + 1)) g) (by rw [← mixL_set (d := 0) (hD.2.1.trans hC.2.1.symm) (by rw [hC.2.1]; exact hp)]; rfl) ?_
    refine r_aload_0 (q := 96) dX2_carryAll_95 rfl ?_
    refine r_get gf_X2_19_2 mh_o rfl (q := 99) dX2_carryAll_96 rfl ?_
    refine r_iload_3 (q := 100) dX2_carryAll_99 rfl ?_
    refine r_aload_0 (q := 101) dX2_carryAll_100 rfl ?_
    refine r_aload_0 (q := 102) dX2_carryAll_101 rfl ?_
    refine r_get gf_X2_19_2 mh_o rfl (q := 105) dX2_carryAll_102 rfl ?_
    refine r_iload_3 (q := 106) dX2_carryAll_105 rfl ?_
    refine r_ialdM p 6 mh_4 (h3.trans hC.2.2.1) rfl hp (by decide) (q := 107) dX2_carryAll_106 rfl ?_
    refine r_callV_1 cv_X2_199 mh_o rfl (by decide) (Nat.le_of_ble_eq_true rfl) ⟨Nat.le_refl _, Nat.le_refl _⟩ (k_X2_cry_12 (by omega) (hlen (2 + 4 * p + 1 + 1 + 1) (by omega)) (hv (2 + 4 * p + 1 + 1 + 1) _ _ (mI (D.2.2.2.1.getD p none)) (by omega) (hget (2 + 4 * p + 1 + 1 + 1) (by omega)) (encF_m D hp) (fun e => by show mI ((mixL p D.2.2.2.1 w.1.2.2.2.1).getD p none) = _; rw [g3, e]))) (q := 110) dX2_carryAll_107 rfl ?_
    rw [hm (2 + 4 * p + 1 + 1 + 1) _ (by omega) (encF_m D hp)]
    refine r_iastM p 6 (D.2.2.2.1.getD p none) mh_4 (h3.trans hC.2.2.1) rfl rfl hp (by decide) (q := 111) dX2_carryAll_110 rfl ?_
    refine J.heap mset_4 ?_
    refine J.heap (h2 := mh m (cw12 m w tk (midP w.1 D (p + 1)) (mixL (2 + 4 * (p + 1)) (encS D) (ma12 w)) (2 + 4 * (p + 1))) g) (by unfold midP; rw [← mixL_set (d := none) (E := D.2.2.2.1) (hD.2.2.1.trans hC.2.2.1.symm) (by rw [hC.2.2.1]; exact hp)]; rfl) ?_
    refine r_inc_3 (by decide) rfl (q := 114) dX2_carryAll_111 rfl ?_
    refine r_goto (q := 41) dX2_carryAll_114 rfl ?_
    exact next
theorem k_X2_carryAll_14 (hC : LM w.1) (hD : LM D) (hl : (ma14 w).length = 62) (h : (tk = 1 ∧ D = w.1) ∨ (tk = 0 ∧ ma14 w = encS D)) : CtE G yX2_carryAll cX2_carryAll 4 none 2 [.ref m, .ref (m + 14), .int tk] n (mh m w g) none (mh m (cw14 m w tk D (encS D) 62) g) := by
  refine Ct.intro (k := 1) [some (.ref m), some (.ref (m + 14)), some (.int tk), none] (by decide) (Nat.le_of_ble_eq_true rfl) rfl fun z hz hin => ?_
  have htk : narrow .boolean (.int tk) = .int tk := by rcases h with ⟨rfl, -⟩ | ⟨rfl, -⟩ <;> rfl
  have htf : fits .boolean (.int tk) = true := by rcases h with ⟨rfl, -⟩ | ⟨rfl, -⟩ <;> rfl
  have hE : (encS D).length = (ma14 w).length := by rw [encS_len, hl]
  have hv : ∀ (i : Nat) (l : List Int32) (v x : Int32), i < 62 → l.getD i 0 = (ma14 w).getD i 0 → encF D i = x → (D = w.1 → v = x) → (if tk = 0 then l.getD i 0 else v) = x := by
    intro i l v x hi h1 h2 h3
    rcases h with ⟨rfl, h5⟩ | ⟨rfl, h5⟩
    · rw [if_neg (by decide)]
      exact h3 h5
    · rw [if_pos rfl, h1, h5, encS_get D hi]
      exact h2
  have hm : ∀ k x, k < 62 → encF D k = x → (mixL k (encS D) (ma14 w)).set k x = mixL (k + 1) (encS D) (ma14 w) := by
    intro k x hk hx
    rw [← hx, ← encS_get D hk]
    exact mixL_set hE (by rw [hl]; exact hk)
  have hlen : ∀ k, k ≤ 62 → (mixL k (encS D) (ma14 w)).length = 62 := fun k hk => by rw [mixL_len hE (by rw [hl]; exact hk), hl]
  have hget : ∀ k, k < 62 → (mixL k (encS D) (ma14 w)).getD k 0 = (ma14 w).getD k 0 := fun k hk => mixL_get hE (Nat.le_refl _) (by rw [hl]; exact hk)
  refine r_aload_0 (q := 1) dX2_carryAll_0 rfl ?_
  refine r_aload_1 (q := 2) dX2_carryAll_1 rfl ?_
  refine r_put gf_X2_193_2 cl_ok_2 ft_2_22 mh_o (Nat.le_of_ble_eq_true rfl) rfl rfl (q := 5) dX2_carryAll_2 rfl ?_
  refine J.heap mset_k22 ?_
  refine r_aload_0 (q := 6) dX2_carryAll_5 rfl ?_
  refine r_iload_2 (q := 7) dX2_carryAll_6 rfl ?_
  refine r_put gf_X2_190_2 cl_ok_2 ft_2_21 mh_o (Nat.le_of_ble_eq_true rfl) htk htf (q := 10) dX2_carryAll_7 rfl ?_
  refine J.heap mset_f21 ?_
  refine r_aload_0 (q := 11) dX2_carryAll_10 rfl ?_
  refine r_iconst 0 (by decide) (q := 12) dX2_carryAll_11 rfl ?_
  refine r_put gf_X2_196_2 cl_ok_2 ft_2_20 mh_o (Nat.le_of_ble_eq_true rfl) rfl rfl (q := 15) dX2_carryAll_12 rfl ?_
  refine J.heap mset_f20 ?_
  refine J.heap (h2 := mh m (cw14 m w tk w.1 (mixL 0 (encS D) (ma14 w)) 0) g) (by rw [mixL_0]; rfl) ?_
  refine r_aload_0 (q := 16) dX2_carryAll_15 rfl ?_
  refine r_aload_0 (q := 17) dX2_carryAll_16 rfl ?_
  refine r_aload_0 (q := 18) dX2_carryAll_17 rfl ?_
  refine r_get gf_X2_68_2 mh_o rfl (q := 21) dX2_carryAll_18 rfl ?_
  refine r_callV_1 cv_X2_199 mh_o rfl (by decide) (Nat.le_of_ble_eq_true rfl) ⟨Nat.le_refl _, Nat.le_refl _⟩ (k_X2_cry_14 (by decide) (hlen 0 (by decide)) (hv 0 _ _ (nI D.1) (by decide) (hget 0 (by decide)) rfl (fun e => by rw [e]; rfl))) (q := 24) dX2_carryAll_21 rfl ?_
  rw [hm 0 (nI D.1) (by decide) rfl]
  refine r_put gf_X2_68_2 cl_ok_2 ft_2_0 mh_o (Nat.le_of_ble_eq_true rfl) rfl rfl (q := 27) dX2_carryAll_24 rfl ?_
  refine J.heap mset_p ?_
  refine r_aload_0 (q := 28) dX2_carryAll_27 rfl ?_
  refine r_aload_0 (q := 29) dX2_carryAll_28 rfl ?_
  refine r_aload_0 (q := 30) dX2_carryAll_29 rfl ?_
  refine r_get gf_X2_106_2 mh_o rfl (q := 33) dX2_carryAll_30 rfl ?_
  refine r_callV_1 cv_X2_199 mh_o rfl (by decide) (Nat.le_of_ble_eq_true rfl) ⟨Nat.le_refl _, Nat.le_refl _⟩ (k_X2_cry_14 (by decide) (hlen 1 (by decide)) (hv 1 _ _ (nI D.2.2.2.2.2) (by decide) (hget 1 (by decide)) rfl (fun e => by rw [e]; rfl))) (q := 36) dX2_carryAll_33 rfl ?_
  rw [hm (0 + 1) (nI D.2.2.2.2.2) (by decide) rfl]
  refine r_put gf_X2_106_2 cl_ok_2 ft_2_6 mh_o (Nat.le_of_ble_eq_true rfl) rfl rfl (q := 39) dX2_carryAll_36 rfl ?_
  refine J.heap mset_d ?_
  refine r_iconst 0 (by decide) (q := 40) dX2_carryAll_39 rfl ?_
  refine r_istore_3 (by decide) rfl (q := 41) dX2_carryAll_40 rfl ?_
  refine J.heap (h2 := mh m (cw14 m w tk (midP w.1 D 0) (mixL (2 + 4 * 0) (encS D) (ma14 w)) (2 + 4 * 0)) g) (by unfold midP; rw [mixL_0, mixL_0, mixL_0]; rfl) ?_
  refine upto (P := fun p => J G z cX2_carryAll 4 RX2 2 0 0 0 0 41 [some (.ref m), some (.ref (m + 14)), some (.int tk), some (.int (nI p))] [] n (mh m (cw14 m w tk (midP w.1 D p) (mixL (2 + 4 * p) (encS D) (ma14 w)) (2 + 4 * p)) g)) 6 ?_ (fun p hp next => ?_) 0 (by decide)
  · refine r_iload_3 (q := 42) dX2_carryAll_41 rfl ?_
    refine r_bipush 6 (by decide) (q := 44) dX2_carryAll_42 rfl ?_
    refine r_icmp_ge (q := 47) (tgt := 117) dX2_carryAll_44 rfl rfl (fun c44 => ?_) (fun c44 => ?_)
    · refine r_iconst 0 (by decide) (q := 118) dX2_carryAll_117 rfl ?_
      refine r_istore_3 (by decide) rfl (q := 119) dX2_carryAll_118 rfl ?_
      refine J.heap (h2 := mh m (cw14 m w tk (midQ w.1 D 0) (mixL (26 + 0) (encS D) (ma14 w)) (26 + 0)) g) (by unfold midP midQ; rw [mixL_all (hD.1.trans hC.1.symm) hC.1.symm, mixL_all (hD.2.1.trans hC.2.1.symm) hC.2.1.symm, mixL_all (hD.2.2.1.trans hC.2.2.1.symm) hC.2.2.1.symm, mixL_0]) ?_
      refine upto (P := fun k => J G z cX2_carryAll 4 RX2 2 0 0 0 0 119 [some (.ref m), some (.ref (m + 14)), some (.int tk), some (.int (nI k))] [] n (mh m (cw14 m w tk (midQ w.1 D k) (mixL (26 + k) (encS D) (ma14 w)) (26 + k)) g)) 36 ?_ (fun k hk next => ?_) 0 (by decide)
      · refine r_iload_3 (q := 120) dX2_carryAll_119 rfl ?_
        refine r_bipush 36 (by decide) (q := 122) dX2_carryAll_120 rfl ?_
        refine r_icmp_ge (q := 125) (tgt := 147) dX2_carryAll_122 rfl rfl (fun c122 => ?_) (fun c122 => ?_)
        · refine r_vret hz dX2_carryAll_147 (Nat.le_refl _) (Nat.le_refl _) ⟨rfl, rfl, ?_⟩
          unfold midQ
          rw [mixL_all (hD.2.2.2.trans hC.2.2.2.symm) hC.2.2.2.symm, mixL_all hE (by rw [hl])]
        · exact absurd (nI_le (a := 36) (by omega) (by omega)) c122
      · have hq := mixL_len (E := D.2.2.2.2.1) (L := w.1.2.2.2.2.1) (k := k) (hD.2.2.2.trans hC.2.2.2.symm) (by rw [hC.2.2.2]; omega)
        refine r_iload_3 (q := 120) dX2_carryAll_119 rfl ?_
        refine r_bipush 36 (by decide) (q := 122) dX2_carryAll_120 rfl ?_
        refine r_icmp_ge (q := 125) (tgt := 147) dX2_carryAll_122 rfl rfl (fun c122 => ?_) (fun c122 => ?_)
        · exact absurd c122 (nI_ge (b := 36) (by omega) (by omega))
        refine r_aload_0 (q := 126) dX2_carryAll_125 rfl ?_
        refine r_get gf_X2_22_2 mh_o rfl (q := 129) dX2_carryAll_126 rfl ?_
        refine r_iload_3 (q := 130) dX2_carryAll_129 rfl ?_
        refine r_aload_0 (q := 131) dX2_carryAll_130 rfl ?_
        refine r_aload_0 (q := 132) dX2_carryAll_131 rfl ?_
        refine r_get gf_X2_22_2 mh_o rfl (q := 135) dX2_carryAll_132 rfl ?_
        refine r_iload_3 (q := 136) dX2_carryAll_135 rfl ?_
        refine r_ialdN k 36 mh_5 (hq.trans hC.2.2.2) rfl hk (by decide) (q := 137) dX2_carryAll_136 rfl ?_
        refine r_callV_1 cv_X2_199 mh_o rfl (by decide) (Nat.le_of_ble_eq_true rfl) ⟨Nat.le_refl _, Nat.le_refl _⟩ (k_X2_cry_14 (by omega) (hlen (26 + k) (by omega)) (hv (26 + k) _ _ (nI (D.2.2.2.2.1.getD k 0)) (by omega) (hget (26 + k) (by omega)) (encF_q D) (fun e => by show nI ((mixL k D.2.2.2.2.1 w.1.2.2.2.2.1).getD k 0) = _; rw [mixL_get (hD.2.2.2.trans hC.2.2.2.symm) (Nat.le_refl _) (by rw [hC.2.2.2]; exact hk), e]))) (q := 140) dX2_carryAll_137 rfl ?_
        rw [hm (26 + k) _ (by omega) (encF_q D)]
        refine r_iastN k 36 (D.2.2.2.2.1.getD k 0) mh_5 (hq.trans hC.2.2.2) rfl rfl hk (by decide) (q := 141) dX2_carryAll_140 rfl ?_
        refine J.heap (h2 := mh m (cw14 m w tk (midQ w.1 D (k + 1)) (mixL (26 + (k + 1)) (encS D) (ma14 w)) (26 + (k + 1))) g) ?_ ?_
        · refine mset_5.trans ?_
          show mh m (cw14 m w tk (D.1, D.2.1, D.2.2.1, D.2.2.2.1, (mixL k D.2.2.2.2.1 w.1.2.2.2.2.1).set k (D.2.2.2.2.1.getD k 0), D.2.2.2.2.2) _ _) g = _
          rw [mixL_set (hD.2.2.2.trans hC.2.2.2.symm) (by rw [hC.2.2.2]; exact hk)]
          rfl
        refine r_inc_3 (by decide) rfl (q := 144) dX2_carryAll_141 rfl ?_
        refine r_goto (q := 119) dX2_carryAll_144 rfl ?_
        exact next
    · exact absurd (nI_le (a := 6) (by omega) (by omega)) c44
  · have h1 := mixL_len (E := D.2.1) (L := w.1.2.1) (k := p) (hD.1.trans hC.1.symm) (by rw [hC.1]; omega)
    have h2 := mixL_len (E := D.2.2.1) (L := w.1.2.2.1) (k := p) (hD.2.1.trans hC.2.1.symm) (by rw [hC.2.1]; omega)
    have h3 := mixL_len (E := D.2.2.2.1) (L := w.1.2.2.2.1) (k := p) (hD.2.2.1.trans hC.2.2.1.symm) (by rw [hC.2.2.1]; omega)
    have g1 : (mixL p D.2.1 w.1.2.1).getD p (0, 0) = w.1.2.1.getD p (0, 0) := mixL_get (hD.1.trans hC.1.symm) (Nat.le_refl _) (by rw [hC.1]; exact hp)
    have g2 : (mixL p D.2.2.1 w.1.2.2.1).getD p 0 = w.1.2.2.1.getD p 0 := mixL_get (hD.2.1.trans hC.2.1.symm) (Nat.le_refl _) (by rw [hC.2.1]; exact hp)
    have g3 : (mixL p D.2.2.2.1 w.1.2.2.2.1).getD p none = w.1.2.2.2.1.getD p none := mixL_get (hD.2.2.1.trans hC.2.2.1.symm) (Nat.le_refl _) (by rw [hC.2.2.1]; exact hp)
    refine r_iload_3 (q := 42) dX2_carryAll_41 rfl ?_
    refine r_bipush 6 (by decide) (q := 44) dX2_carryAll_42 rfl ?_
    refine r_icmp_ge (q := 47) (tgt := 117) dX2_carryAll_44 rfl rfl (fun c44 => ?_) (fun c44 => ?_)
    · exact absurd c44 (nI_ge (b := 6) (by omega) (by omega))
    refine r_aload_0 (q := 48) dX2_carryAll_47 rfl ?_
    refine r_get gf_X2_7_2 mh_o rfl (q := 51) dX2_carryAll_48 rfl ?_
    refine r_iload_3 (q := 52) dX2_carryAll_51 rfl ?_
    refine r_aload_0 (q := 53) dX2_carryAll_52 rfl ?_
    refine r_aload_0 (q := 54) dX2_carryAll_53 rfl ?_
    refine r_get gf_X2_7_2 mh_o rfl (q := 57) dX2_carryAll_54 rfl ?_
    refine r_iload_3 (q := 58) dX2_carryAll_57 rfl ?_
    refine r_iald p 6 mh_1 (by rw [List.length_map]; exact h1.trans hC.1) rfl hp (by decide) (q := 59) dX2_carryAll_58 rfl ?_
    refine r_callV_1 cv_X2_199 mh_o rfl (by decide) (Nat.le_of_ble_eq_true rfl) ⟨Nat.le_refl _, Nat.le_refl _⟩ (k_X2_cry_14 (by omega) (hlen (2 + 4 * p) (by omega)) (hv (2 + 4 * p) _ _ (nI (D.2.1.getD p (0, 0)).1) (by omega) (hget (2 + 4 * p) (by omega)) (encF_k D hp) (fun e => by show ((mixL p D.2.1 w.1.2.1).map (fun p => nI p.1)).getD p 0 = _; rw [getD_mapP _ _ (by rw [h1, hC.1]; exact hp), g1, e]))) (q := 62) dX2_carryAll_59 rfl ?_
    rw [hm (2 + 4 * p) _ (by omega) (encF_k D hp)]
    refine r_iast p 6 mh_1 (by rw [List.length_map]; exact h1.trans hC.1) rfl hp (by decide) (q := 63) dX2_carryAll_62 rfl ?_
    refine J.heap mset_1 ?_
    refine r_aload_0 (q := 64) dX2_carryAll_63 rfl ?_
    refine r_get gf_X2_13_2 mh_o rfl (q := 67) dX2_carryAll_64 rfl ?_
    refine r_iload_3 (q := 68) dX2_carryAll_67 rfl ?_
    refine r_aload_0 (q := 69) dX2_carryAll_68 rfl ?_
    refine r_aload_0 (q := 70) dX2_carryAll_69 rfl ?_
    refine r_get gf_X2_13_2 mh_o rfl (q := 73) dX2_carryAll_70 rfl ?_
    refine r_iload_3 (q := 74) dX2_carryAll_73 rfl ?_
    refine r_iald p 6 mh_2 (by rw [List.length_map]; show ((mixL p D.2.1 w.1.2.1).set p _).length = 6; rw [List.length_set]; exact h1.trans hC.1) rfl hp (by decide) (q := 75) dX2_carryAll_74 rfl ?_
    refine r_callV_1 cv_X2_199 mh_o rfl (by decide) (Nat.le_of_ble_eq_true rfl) ⟨Nat.le_refl _, Nat.le_refl _⟩ (k_X2_cry_14 (w := w) (S := setK1 (midP w.1 D p) p (D.2.1.getD p (0, 0)).1) (i := 2 + 4 * p + 1) (by omega) (hlen (2 + 4 * p + 1) (by omega)) (hv (2 + 4 * p + 1) _ _ (nI (D.2.1.getD p (0, 0)).2) (by omega) (hget (2 + 4 * p + 1) (by omega)) (encF_f D hp) (fun e => by show (((mixL p D.2.1 w.1.2.1).set p (_, ((mixL p D.2.1 w.1.2.1).getD p (0, 0)).2)).map (fun p => nI p.2)).getD p 0 = _; rw [getD_mapP _ _ (by rw [List.length_set, h1, hC.1]; exact hp), getD_set, if_pos ⟨rfl, by rw [h1, hC.1]; exact hp⟩]; show nI ((mixL p D.2.1 w.1.2.1).getD p (0, 0)).2 = _; rw [g1, e]))) (q := 78) dX2_carryAll_75 rfl ?_
    rw [hm (2 + 4 * p + 1) _ (by omega) (encF_f D hp)]
    refine r_iast p 6 mh_2 (by rw [List.length_map]; show ((mixL p D.2.1 w.1.2.1).set p _).length = 6; rw [List.length_set]; exact h1.trans hC.1) rfl hp (by decide) (q := 79) dX2_carryAll_78 rfl ?_
    refine J.heap mset_2 ?_
    refine J.heap (h2 := mh m (cw14 m w tk (D.1, mixL (p + 1) D.2.1 w.1.2.1, mixL p D.2.2.1 w.1.2.2.1, mixL p D.2.2.2.1 w.1.2.2.2.1, w.1.2.2.2.2.1, D.2.2.2.2.2) (mixL (2 + 4 * p + 1 + 1) (encS D) (ma14 w)) (2 + 4 * p + 1 + 1)) g) (by rw [← midP_step hC hD hp]; rfl) ?_
    refine r_aload_0 (q := 80) dX2_carryAll_79 rfl ?_
    refine r_get gf_X2_16_2 mh_o rfl (q := 83) dX2_carryAll_80 rfl ?_
    refine r_iload_3 (q := 84) dX2_carryAll_83 rfl ?_
    refine r_aload_0 (q := 85) dX2_carryAll_84 rfl ?_
    refine r_aload_0 (q := 86) dX2_carryAll_85 rfl ?_
    refine r_get gf_X2_16_2 mh_o rfl (q := 89) dX2_carryAll_86 rfl ?_
    refine r_iload_3 (q := 90) dX2_carryAll_89 rfl ?_
    refine r_ialdN p 6 mh_3 (h2.trans hC.2.1) rfl hp (by decide) (q := 91) dX2_carryAll_90 rfl ?_
    refine r_callV_1 cv_X2_199 mh_o rfl (by decide) (Nat.le_of_ble_eq_true rfl) ⟨Nat.le_refl _, Nat.le_refl _⟩ (k_X2_cry_14 (by omega) (hlen (2 + 4 * p + 1 + 1) (by omega)) (hv (2 + 4 * p + 1 + 1) _ _ (nI (D.2.2.1.getD p 0)) (by omega) (hget (2 + 4 * p + 1 + 1) (by omega)) (encF_h D hp) (fun e => by show nI ((mixL p D.2.2.1 w.1.2.2.1).getD p 0) = _; rw [g2, e]))) (q := 94) dX2_carryAll_91 rfl ?_
    rw [hm (2 + 4 * p + 1 + 1) _ (by omega) (encF_h D hp)]
    refine r_iastN p 6 (D.2.2.1.getD p 0) mh_3 (h2.trans hC.2.1) rfl rfl hp (by decide) (q := 95) dX2_carryAll_94 rfl ?_
    refine J.heap mset_3 ?_
    refine J.heap (h2 := mh m (cw14 m w tk (D.1, mixL (p + 1) D.2.1 w.1.2.1, mixL (p + 1) D.2.2.1 w.1.2.2.1, mixL p D.2.2.2.1 w.1.2.2.2.1, w.1.2.2.2.2.1, D.2.2.2.2.2) (mixL (2 + 4 * p + 1 + 1 + 1) (encS D) (ma14 w)) (2 + 4 * p + 1 + 1 + 1)) g) (by rw [← mixL_set (d := 0) (hD.2.1.trans hC.2.1.symm) (by rw [hC.2.1]; exact hp)]; rfl) ?_
    refine r_aload_0 (q := 96) dX2_carryAll_95 rfl ?_
    refine r_get gf_X2_19_2 mh_o rfl (q := 99) dX2_carryAll_96 rfl ?_
    refine r_iload_3 (q := 100) dX2_carryAll_99 rfl ?_
    refine r_aload_0 (q := 101) dX2_carryAll_100 rfl ?_
    refine r_aload_0 (q := 102) dX2_carryAll_101 rfl ?_
    refine r_get gf_X2_19_2 mh_o rfl (q := 105) dX2_carryAll_102 rfl ?_
    refine r_iload_3 (q := 106) dX2_carryAll_105 rfl ?_
    refine r_ialdM p 6 mh_4 (h3.trans hC.2.2.1) rfl hp (by decide) (q := 107) dX2_carryAll_106 rfl ?_
    refine r_callV_1 cv_X2_199 mh_o rfl (by decide) (Nat.le_of_ble_eq_true rfl) ⟨Nat.le_refl _, Nat.le_refl _⟩ (k_X2_cry_14 (by omega) (hlen (2 + 4 * p + 1 + 1 + 1) (by omega)) (hv (2 + 4 * p + 1 + 1 + 1) _ _ (mI (D.2.2.2.1.getD p none)) (by omega) (hget (2 + 4 * p + 1 + 1 + 1) (by omega)) (encF_m D hp) (fun e => by show mI ((mixL p D.2.2.2.1 w.1.2.2.2.1).getD p none) = _; rw [g3, e]))) (q := 110) dX2_carryAll_107 rfl ?_
    rw [hm (2 + 4 * p + 1 + 1 + 1) _ (by omega) (encF_m D hp)]
    refine r_iastM p 6 (D.2.2.2.1.getD p none) mh_4 (h3.trans hC.2.2.1) rfl rfl hp (by decide) (q := 111) dX2_carryAll_110 rfl ?_
    refine J.heap mset_4 ?_
    refine J.heap (h2 := mh m (cw14 m w tk (midP w.1 D (p + 1)) (mixL (2 + 4 * (p + 1)) (encS D) (ma14 w)) (2 + 4 * (p + 1))) g) (by unfold midP; rw [← mixL_set (d := none) (E := D.2.2.2.1) (hD.2.2.1.trans hC.2.2.1.symm) (by rw [hC.2.2.1]; exact hp)]; rfl) ?_
    refine r_inc_3 (by decide) rfl (q := 114) dX2_carryAll_111 rfl ?_
    refine r_goto (q := 41) dX2_carryAll_114 rfl ?_
    exact next
/-! think, again -/
theorem k_X2_think {T : SQ} {j : List PP} (K : OKM T j) (e : w.1 = mS T j) (hl : (ma11 w).length = 62) : CtE G yX2_think cX2_think 1 none 3 [.ref m] n (mh m w g) none (mh m (cw11 m w 1 (mS T j) (encS (mS T j)) 62) g) := by
  refine Ct.intro (k := 0) [some (.ref m)] (by decide) (Nat.le_of_ble_eq_true rfl) rfl fun z hz hin => ?_
  refine r_aload_0 (q := 1) dX2_think_0 rfl ?_
  refine r_aload_0 (q := 2) dX2_think_1 rfl ?_
  refine r_get gf_X2_40_2 mh_o rfl (q := 5) dX2_think_2 rfl ?_
  refine r_iconst 1 (by decide) (q := 6) dX2_think_5 rfl ?_
  refine r_callVv_2 cv_X2_202 mh_o rfl (by decide) (Nat.le_of_ble_eq_true rfl) ⟨Nat.le_refl _, Nat.le_refl _⟩ (k_X2_carryAll_11 (D := mS T j) (by rw [e]; exact K.lm) K.lm hl (Or.inl ⟨rfl, e.symm⟩)) (q := 9) dX2_think_6 rfl ?_
  exact r_vret hz dX2_think_9 (Nat.le_refl _) (Nat.le_refl _) ⟨rfl, rfl, rfl⟩
theorem k_X2_again {T T' : SQ} {j j' : List PP} (K : OKM T j) (e : w.1 = mS T' j') (K' : OKM T' j') (hk : ma11 w = encS (mS T j)) : CtE G yX2_again cX2_again 1 none 3 [.ref m] n (mh m w g) none (mh m (cw11 m w 0 (mS T j) (encS (mS T j)) 62) g) := by
  refine Ct.intro (k := 0) [some (.ref m)] (by decide) (Nat.le_of_ble_eq_true rfl) rfl fun z hz hin => ?_
  refine r_aload_0 (q := 1) dX2_again_0 rfl ?_
  refine r_aload_0 (q := 2) dX2_again_1 rfl ?_
  refine r_get gf_X2_40_2 mh_o rfl (q := 5) dX2_again_2 rfl ?_
  refine r_iconst 0 (by decide) (q := 6) dX2_again_5 rfl ?_
  refine r_callVv_2 cv_X2_202 mh_o rfl (by decide) (Nat.le_of_ble_eq_true rfl) ⟨Nat.le_refl _, Nat.le_refl _⟩ (k_X2_carryAll_11 (D := mS T j) (by rw [e]; exact K'.lm) K.lm (by rw [hk]; exact encS_len _) (Or.inr ⟨rfl, hk⟩)) (q := 9) dX2_again_6 rfl ?_
  exact r_vret hz dX2_again_9 (Nat.le_refl _) (Nat.le_refl _) ⟨rfl, rfl, rfl⟩
theorem sS_sS (s s' : SM) : sS (sS w s) s' = sS w s' := rfl
theorem cw11_sS (s S : SM) (l : List Int32) (i : Nat) : cw11 m (sS w s) tk S l i = cw11 m w tk S l i := rfl
theorem cw11_cw11 (S S' : SM) (l l' : List Int32) (i i' : Nat) (tk' : Int32) : cw11 m (cw11 m w tk' S' l' i') tk S l i = cw11 m w tk S l i := rfl
/-- put back all that changed since think -/
theorem k_X2_againT {T T' : SQ} {j j' : List PP} (K : OKM T j) (K' : OKM T' j') : CtE G yX2_again cX2_again 1 none 3 [.ref m] n (mh m (sS (cw11 m w 1 (mS T j) (encS (mS T j)) 62) (mS T' j')) g) none (mh m (cw11 m w 0 (mS T j) (encS (mS T j)) 62) g) := by
  have k := k_X2_again (G := G) (n := n) (m := m) (g := g) (w := sS (cw11 m w 1 (mS T j) (encS (mS T j)) 62) (mS T' j')) K rfl K' rfl
  rw [cw11_sS, cw11_cw11] at k
  exact k
end CARRY


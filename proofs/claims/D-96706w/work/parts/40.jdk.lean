/-! ===== the JDK's methods of a list ===== -/
section JDK
variable {G : GD} {n : Nat} {h : RH}
theorem k_J4_checkIndex {x y : Int32} (h0 : ¬ x < 0) (h1 : x < y) : CtE G yJ4_checkIndex cJ4_checkIndex 3 (some .int) 1 [.int x, .int y, .null] n h (some (.int x)) h := by
  refine Ct.intro (k := 0) [some (.int x), some (.int y), some .null] (by decide) (Nat.le_of_ble_eq_true rfl) rfl fun z hz hin => ?_
  refine r_iload_0 (q := 1) dJ4_checkIndex_0 rfl ?_
  refine r_if_lt (q := 4) (tgt := 9) dJ4_checkIndex_1 rfl rfl (fun c1 => ?_) (fun c1 => ?_)
  · exact absurd c1 h0
  refine r_iload_0 (q := 5) dJ4_checkIndex_4 rfl ?_
  refine r_iload_1 (q := 6) dJ4_checkIndex_5 rfl ?_
  refine r_icmp_lt (q := 9) (tgt := 16) dJ4_checkIndex_6 rfl rfl (fun c6 => ?_) (fun c6 => ?_)
  · refine r_iload_0 (q := 17) dJ4_checkIndex_16 rfl ?_
    exact r_iret hz dJ4_checkIndex_17 (Nat.le_refl _) (Nat.le_refl _) ⟨rfl, rfl, rfl⟩
  · exact absurd h1 c6
theorem k_J3_checkIndex {x y : Int32} (h0 : ¬ x < 0) (h1 : x < y) : CtE G yJ3_checkIndex cJ3_checkIndex 2 (some .int) 2 [.int x, .int y] n h (some (.int x)) h := by
  refine Ct.intro (k := 0) [some (.int x), some (.int y)] (by decide) (Nat.le_of_ble_eq_true rfl) rfl fun z hz hin => ?_
  refine r_iload_0 (q := 1) dJ3_checkIndex_0 rfl ?_
  refine r_iload_1 (q := 2) dJ3_checkIndex_1 rfl ?_
  refine r_null (q := 3) dJ3_checkIndex_2 rfl ?_
  refine r_callS_3 cs_J3_105 (by decide) (Nat.le_of_ble_eq_true rfl) ⟨Nat.le_refl _, Nat.le_refl _⟩ (k_J4_checkIndex h0 h1) (q := 6) dJ3_checkIndex_3 rfl ?_
  exact r_iret hz dJ3_checkIndex_6 (Nat.le_refl _) (Nat.le_refl _) ⟨rfl, rfl, rfl⟩
theorem k_J2_size {a e k : Nat} {mc : Int32} (ho : h a = some (.inr (.inr (11, [.int mc, .ref e, .int (nI k)])))) : CtE G yJ2_size cJ2_size 1 (some .int) 1 [.ref a] n h (some (.int (nI k))) h := by
  refine Ct.intro (k := 0) [some (.ref a)] (by decide) (Nat.le_of_ble_eq_true rfl) rfl fun z hz hin => ?_
  refine r_aload_0 (q := 1) dJ2_size_0 rfl ?_
  refine r_get gf_J2_48_11 ho rfl (q := 4) dJ2_size_1 rfl ?_
  exact r_iret hz dJ2_size_4 (Nat.le_refl _) (Nat.le_refl _) ⟨rfl, rfl, rfl⟩
theorem k_J2_elementData {a e k i o : Nat} {mc : Int32} {l : List (Option Nat)} (ho : h a = some (.inr (.inr (11, [.int mc, .ref e, .int (nI k)])))) (he : h e = some (.inr (.inl (0, l)))) (hl : l.length = 6) (hi : i < 6) (hv : l.getD i none = some o) : CtE G yJ2_elementData cJ2_elementData 2 (some (.object "java/lang/Object")) 1 [.ref a, .int (nI i)] n h (some (.ref o)) h := by
  refine Ct.intro (k := 0) [some (.ref a), some (.int (nI i))] (by decide) (Nat.le_of_ble_eq_true rfl) rfl fun z hz hin => ?_
  refine r_aload_0 (q := 1) dJ2_elementData_0 rfl ?_
  refine r_get gf_J2_9_11 ho rfl (q := 4) dJ2_elementData_1 rfl ?_
  refine r_iload_1 (q := 5) dJ2_elementData_4 rfl ?_
  refine r_aald 0 i 6 he hl rfl hi (by decide) hv (q := 6) dJ2_elementData_5 rfl ?_
  exact r_aret hz (Or.inr ⟨_, rfl⟩) dJ2_elementData_6 (Nat.le_refl _) (Nat.le_refl _) ⟨rfl, rfl, rfl⟩
theorem k_J2_get {a e k i o : Nat} {mc : Int32} {l : List (Option Nat)} (ho : h a = some (.inr (.inr (11, [.int mc, .ref e, .int (nI k)])))) (he : h e = some (.inr (.inl (0, l)))) (hl : l.length = 6) (hk : k ≤ 6) (hi : i < k) (hv : l.getD i none = some o) : CtE G yJ2_get cJ2_get 2 (some (.object "java/lang/Object")) 3 [.ref a, .int (nI i)] n h (some (.ref o)) h := by
  refine Ct.intro (k := 0) [some (.ref a), some (.int (nI i))] (by decide) (Nat.le_of_ble_eq_true rfl) rfl fun z hz hin => ?_
  refine r_iload_1 (q := 1) dJ2_get_0 rfl ?_
  refine r_aload_0 (q := 2) dJ2_get_1 rfl ?_
  refine r_get gf_J2_48_11 ho rfl (q := 5) dJ2_get_2 rfl ?_
  refine r_callS_2 cs_J2_118 (by decide) (Nat.le_of_ble_eq_true rfl) ⟨Nat.le_refl _, Nat.le_refl _⟩ (k_J3_checkIndex (nI_pos (by omega)) (nI_lt hi (by omega))) (q := 8) dJ2_get_5 rfl ?_
  refine r_pop rfl (q := 9) dJ2_get_8 rfl ?_
  refine r_aload_0 (q := 10) dJ2_get_9 rfl ?_
  refine r_iload_1 (q := 11) dJ2_get_10 rfl ?_
  refine r_callV_1 cv_J2_123 ho rfl (by decide) (Nat.le_of_ble_eq_true rfl) ⟨Nat.le_refl _, Nat.le_refl _⟩ (k_J2_elementData ho he hl (by omega) hv) (q := 14) dJ2_get_11 rfl ?_
  exact r_aret hz (Or.inr ⟨_, rfl⟩) dJ2_get_14 (Nat.le_refl _) (Nat.le_refl _) ⟨rfl, rfl, rfl⟩
theorem k_J2_add_2 {a e k o ci : Nat} {mc : Int32} {fs : List Value} {l : List (Option Nat)} {C : String} {T : u_T} {N : Nat} (hae : e ≠ a) (hcl : dcl[ci]? = some (C, T, N)) (hca : Cond.castable C "java/lang/Object" ∈ lw_tbl) (ho : h a = some (.inr (.inr (11, [.int mc, .ref e, .int (nI k)])))) (he : h e = some (.inr (.inl (0, l)))) (hp : h o = some (.inr (.inr (ci, fs)))) (hl : l.length = 6) (hk : k < 6) :
    CtE G yJ2_add_2 cJ2_add_2 4 none 1 [.ref a, .ref o, .ref e, .int (nI k)] n h none (hset (hset h e (.inr (.inl (0, l.set k (some o))))) a (.inr (.inr (11, [.int mc, .ref e, .int (nI (k + 1))])))) := by
  refine Ct.intro (k := 0) [some (.ref a), some (.ref o), some (.ref e), some (.int (nI k))] (by decide) (Nat.le_of_ble_eq_true rfl) rfl fun z hz hin => ?_
  refine r_iload_3 (q := 1) dJ2_add_2_0 rfl ?_
  refine r_aload_2 (q := 2) dJ2_add_2_1 rfl ?_
  refine r_alenO he hl (q := 3) dJ2_add_2_2 rfl ?_
  refine r_icmp_ne (q := 6) (tgt := 11) dJ2_add_2_3 rfl rfl (fun c3 => ?_) (fun c3 => ?_)
  · refine r_aload_2 (q := 12) dJ2_add_2_11 rfl ?_
    refine r_iload_3 (q := 13) dJ2_add_2_12 rfl ?_
    refine r_aload_1 (q := 14) dJ2_add_2_13 rfl ?_
    refine r_aastO k 6 hcl hca he hp hl rfl hk (by decide) (q := 15) dJ2_add_2_14 rfl ?_
    have ho : (hset h e (.inr (.inl (0, l.set k (some o))))) a = some (.inr (.inr (11, [.int mc, .ref e, .int (nI k)]))) := by rw [hset_ne _ _ (Ne.symm hae)]; exact ho
    refine r_aload_0 (q := 16) dJ2_add_2_15 rfl ?_
    refine r_iload_3 (q := 17) dJ2_add_2_16 rfl ?_
    refine r_iconst 1 (by decide) (q := 18) dJ2_add_2_17 rfl ?_
    refine r_iadd (q := 19) dJ2_add_2_18 rfl ?_
    refine J.topi (nI_1 k) ?_
    refine r_put gf_J2_48_11 cl_ok_11 ft_11_2 ho (Nat.le_of_ble_eq_true rfl) rfl rfl (q := 22) dJ2_add_2_19 rfl ?_
    exact r_vret hz dJ2_add_2_22 (Nat.le_refl _) (Nat.le_refl _) ⟨rfl, rfl, rfl⟩
  · exact absurd (nI_inj (by omega) (by omega) c3) (by omega)
/-- add: the list's count of changes, its end -/
theorem k_J2_add {a e k o ci : Nat} {mc : Int32} {fs : List Value} {l : List (Option Nat)} {C : String} {T : u_T} {N : Nat} (hae : e ≠ a) (hoa : o ≠ a) (hcl : dcl[ci]? = some (C, T, N)) (hca : Cond.castable C "java/lang/Object" ∈ lw_tbl) (ho : h a = some (.inr (.inr (11, [.int mc, .ref e, .int (nI k)])))) (he : h e = some (.inr (.inl (0, l)))) (hp : h o = some (.inr (.inr (ci, fs)))) (hl : l.length = 6) (hk : k < 6) :
    CtE G yJ2_add cJ2_add 2 (some .boolean) 2 [.ref a, .ref o] n h (some (.int 1)) (hset (hset h e (.inr (.inl (0, l.set k (some o))))) a (.inr (.inr (11, [.int (mc + 1), .ref e, .int (nI (k + 1))])))) := by
  refine Ct.intro (k := 0) [some (.ref a), some (.ref o)] (by decide) (Nat.le_of_ble_eq_true rfl) rfl fun z hz hin => ?_
  refine r_aload_0 (q := 1) dJ2_add_0 rfl ?_
  refine r_dup rfl (q := 2) dJ2_add_1 rfl ?_
  refine r_get gf_J2_63_11 ho rfl (q := 5) dJ2_add_2 rfl ?_
  refine r_iconst 1 (by decide) (q := 6) dJ2_add_5 rfl ?_
  refine r_iadd (q := 7) dJ2_add_6 rfl ?_
  refine r_put gf_J2_63_11 cl_ok_11 ft_11_0 ho (Nat.le_of_ble_eq_true rfl) rfl rfl (q := 10) dJ2_add_7 rfl ?_
  have ho : (hset h a (.inr (.inr (11, [.int (mc + 1), .ref e, .int (nI k)])))) a = some (.inr (.inr (11, [.int (mc + 1), .ref e, .int (nI k)]))) := hset_eq _ _ _
  refine r_aload_0 (q := 11) dJ2_add_10 rfl ?_
  refine r_aload_1 (q := 12) dJ2_add_11 rfl ?_
  refine r_aload_0 (q := 13) dJ2_add_12 rfl ?_
  refine r_get gf_J2_9_11 ho rfl (q := 16) dJ2_add_13 rfl ?_
  refine r_aload_0 (q := 17) dJ2_add_16 rfl ?_
  refine r_get gf_J2_48_11 ho rfl (q := 20) dJ2_add_17 rfl ?_
  refine r_callVv_3 cv_J2_131 ho rfl (by decide) (Nat.le_of_ble_eq_true rfl) ⟨Nat.le_refl _, Nat.le_refl _⟩ (k_J2_add_2 hae hcl hca ho ((hset_ne _ _ hae).trans he) ((hset_ne _ _ hoa).trans hp) hl hk) (q := 23) dJ2_add_20 rfl ?_
  refine J.heap (h2 := hset (hset h e (.inr (.inl (0, l.set k (some o))))) a (.inr (.inr (11, [.int (mc + 1), .ref e, .int (nI (k + 1))])))) (by rw [hset_comm _ _ _ (Ne.symm hae), hset_hset]) ?_
  refine r_iconst 1 (by decide) (q := 24) dJ2_add_23 rfl ?_
  exact r_zret hz rfl dJ2_add_24 (Nat.le_refl _) (Nat.le_refl _) ⟨rfl, rfl, rfl⟩
/-- the places of a list of k things: nothing behind them -/
def elems (pp : List Nat) : List (Option Nat) := pp.map some ++ List.replicate (6 - pp.length) none
theorem elems_len {pp : List Nat} (h : pp.length ≤ 6) : (elems pp).length = 6 := by
  simp [elems]; omega
theorem elems_get {pp : List Nat} {i : Nat} (h : i < pp.length) : (elems pp).getD i none = some (pp.getD i 0) := by
  rw [List.getD_eq_getElem?_getD, elems, List.getElem?_append_left (by simpa using h)]
  simp [List.getD_eq_getElem?_getD, h]
theorem elems_add {pp : List Nat} (h : pp.length < 6) (o : Nat) : (elems pp).set pp.length (some o) = elems (pp ++ [o]) := by
  unfold elems
  rw [List.set_append_right _ _ (by simp)]
  simp only [List.length_map, Nat.sub_self, List.map_append, List.append_assoc, List.length_append, List.length_singleton]
  congr 1
  rw [show 6 - pp.length = (6 - (pp.length + 1)) + 1 by omega, List.replicate_succ]
  rfl
theorem elems_set {pp : List Nat} {i : Nat} (h : i < pp.length) (o : Nat) : (elems pp).set i (some o) = elems (pp.set i o) := by
  unfold elems
  rw [List.set_append_left _ _ (by simpa using h), List.map_set, List.length_set]
/-- after i steps of clear -/
def elemsN (pp : List Nat) (i : Nat) : List (Option Nat) := List.replicate i none ++ (pp.drop i).map some ++ List.replicate (6 - pp.length) none
theorem elemsN_len {pp : List Nat} {i : Nat} (h : pp.length ≤ 6) (hi : i ≤ pp.length) : (elemsN pp i).length = 6 := by
  simp [elemsN]; omega
theorem elemsN_set {pp : List Nat} {i : Nat} (hi : i < pp.length) : (elemsN pp i).set i none = elemsN pp (i + 1) := by
  unfold elemsN
  rw [List.append_assoc, List.set_append_right _ _ (by simp)]
  simp only [List.length_replicate, Nat.sub_self]
  rw [List.drop_eq_getElem_cons hi, List.replicate_succ', List.append_assoc, List.append_assoc]
  rfl
theorem elemsN_all {pp : List Nat} (h : pp.length ≤ 6) : elemsN pp pp.length = elems [] := by
  unfold elemsN elems
  simp only [List.drop_length, List.map_nil, List.append_nil, List.nil_append, List.length_nil, List.replicate_append_replicate]
  congr 1
  omega
theorem k_J2_clear {a e : Nat} {mc : Int32} {pp : List Nat} (hae : e ≠ a) (ho : h a = some (.inr (.inr (11, [.int mc, .ref e, .int (nI pp.length)])))) (he : h e = some (.inr (.inl (0, elems pp)))) (hl : pp.length ≤ 6) :
    CtE G yJ2_clear cJ2_clear 4 none 1 [.ref a] n h none (hset (hset h a (.inr (.inr (11, [.int (mc + 1), .ref e, .int 0])))) e (.inr (.inl (0, elems [])))) := by
  refine Ct.intro (k := 3) [some (.ref a), none, none, none] (by decide) (Nat.le_of_ble_eq_true rfl) rfl fun z hz hin => ?_
  refine r_aload_0 (q := 1) dJ2_clear_0 rfl ?_
  refine r_dup rfl (q := 2) dJ2_clear_1 rfl ?_
  refine r_get gf_J2_63_11 ho rfl (q := 5) dJ2_clear_2 rfl ?_
  refine r_iconst 1 (by decide) (q := 6) dJ2_clear_5 rfl ?_
  refine r_iadd (q := 7) dJ2_clear_6 rfl ?_
  refine r_put gf_J2_63_11 cl_ok_11 ft_11_0 ho (Nat.le_of_ble_eq_true rfl) rfl rfl (q := 10) dJ2_clear_7 rfl ?_
  have ho : (hset h a (.inr (.inr (11, [.int (mc + 1), .ref e, .int (nI pp.length)])))) a = some (.inr (.inr (11, [.int (mc + 1), .ref e, .int (nI pp.length)]))) := hset_eq _ _ _
  refine r_aload_0 (q := 11) dJ2_clear_10 rfl ?_
  refine r_get gf_J2_9_11 ho rfl (q := 14) dJ2_clear_11 rfl ?_
  refine r_astore_1 (by decide) rfl (q := 15) dJ2_clear_14 rfl ?_
  refine r_aload_0 (q := 16) dJ2_clear_15 rfl ?_
  refine r_get gf_J2_48_11 ho rfl (q := 19) dJ2_clear_16 rfl ?_
  refine r_istore_2 (by decide) rfl (q := 20) dJ2_clear_19 rfl ?_
  refine r_aload_0 (q := 21) dJ2_clear_20 rfl ?_
  refine r_iconst 0 (by decide) (q := 22) dJ2_clear_21 rfl ?_
  refine r_dup_x1 rfl rfl (q := 23) dJ2_clear_22 rfl ?_
  refine r_put gf_J2_48_11 cl_ok_11 ft_11_2 ho (Nat.le_of_ble_eq_true rfl) rfl rfl (q := 26) dJ2_clear_23 rfl ?_
  have loop : ∀ (c i : Nat), i + c = pp.length → J G z cJ2_clear 4 RJ2 1 0 0 0 0 27 [some (.ref a), some (.ref e), some (.int (nI pp.length)), some (.int (nI i))] [] n (hset (hset h a (.inr (.inr (11, [.int (mc + 1), .ref e, .int 0])))) e (.inr (.inl (0, elemsN pp i)))) := by
    intro c
    induction c with
    | zero =>
      intro i hi
      have : i = pp.length := by omega
      subst this
      refine r_iload_3 (q := 28) dJ2_clear_27 rfl ?_
      refine r_iload_2 (q := 29) dJ2_clear_28 rfl ?_
      refine r_icmp_ge (q := 32) (tgt := 42) dJ2_clear_29 rfl rfl (fun c29 => ?_) (fun c29 => ?_)
      · refine J.heap (h2 := hset (hset h a (.inr (.inr (11, [.int (mc + 1), .ref e, .int 0])))) e (.inr (.inl (0, elems [])))) (by rw [elemsN_all hl]) ?_
        exact r_vret hz dJ2_clear_42 (Nat.le_refl _) (Nat.le_refl _) ⟨rfl, rfl, rfl⟩
      · exact absurd (Int32.le_refl _) c29
    | succ c ih =>
      intro i hi
      refine r_iload_3 (q := 28) dJ2_clear_27 rfl ?_
      refine r_iload_2 (q := 29) dJ2_clear_28 rfl ?_
      refine r_icmp_ge (q := 32) (tgt := 42) dJ2_clear_29 rfl rfl (fun c29 => ?_) (fun c29 => ?_)
      · exact absurd c29 (nI_ge (by omega) (by omega))
      · refine r_aload_1 (q := 33) dJ2_clear_32 rfl ?_
        refine r_iload_3 (q := 34) dJ2_clear_33 rfl ?_
        refine r_null (q := 35) dJ2_clear_34 rfl ?_
        refine r_aastN i 6 (hset_eq _ _ _) (elemsN_len hl (by omega)) rfl (by omega) (by decide) (q := 36) dJ2_clear_35 rfl ?_
        refine r_inc_3 (by decide) rfl (q := 39) dJ2_clear_36 rfl ?_
        refine r_goto (q := 27) dJ2_clear_39 rfl ?_
        rw [hset_hset, elemsN_set (by omega)]
        exact ih (i + 1) (by omega)
  have l0 := loop pp.length 0 (by omega)
  refine J.heap (h2 := (hset (hset h a (.inr (.inr (11, [.int (mc + 1), .ref e, .int 0])))) e (.inr (.inl (0, elemsN pp 0))))) ?_ ?_
  · rw [hset_hset]
    refine (hset_self ?_).symm
    rw [hset_ne _ _ hae, he]
    rfl
  refine r_istore_3 (by decide) rfl (q := 27) dJ2_clear_26 rfl ?_
  exact l0
theorem k_J2_set {a e i o o0 ci : Nat} {mc : Int32} {fs : List Value} {pp : List Nat} {C : String} {T : u_T} {N : Nat} (hcl : dcl[ci]? = some (C, T, N)) (hca : Cond.castable C "java/lang/Object" ∈ lw_tbl) (ho : h a = some (.inr (.inr (11, [.int mc, .ref e, .int (nI pp.length)])))) (he : h e = some (.inr (.inl (0, elems pp)))) (hp : h o = some (.inr (.inr (ci, fs)))) (hl : pp.length ≤ 6) (hi : i < pp.length) (hv : pp.getD i 0 = o0) :
    CtE G yJ2_set cJ2_set 4 (some (.object "java/lang/Object")) 3 [.ref a, .int (nI i), .ref o] n h (some (.ref o0)) (hset h e (.inr (.inl (0, elems (pp.set i o))))) := by
  subst hv
  refine Ct.intro (k := 1) [some (.ref a), some (.int (nI i)), some (.ref o), none] (by decide) (Nat.le_of_ble_eq_true rfl) rfl fun z hz hin => ?_
  refine r_iload_1 (q := 1) dJ2_set_0 rfl ?_
  refine r_aload_0 (q := 2) dJ2_set_1 rfl ?_
  refine r_get gf_J2_48_11 ho rfl (q := 5) dJ2_set_2 rfl ?_
  refine r_callS_2 cs_J2_118 (by decide) (Nat.le_of_ble_eq_true rfl) ⟨Nat.le_refl _, Nat.le_refl _⟩ (k_J3_checkIndex (nI_pos (by omega)) (nI_lt hi (by omega))) (q := 8) dJ2_set_5 rfl ?_
  refine r_pop rfl (q := 9) dJ2_set_8 rfl ?_
  refine r_aload_0 (q := 10) dJ2_set_9 rfl ?_
  refine r_iload_1 (q := 11) dJ2_set_10 rfl ?_
  refine r_callV_1 cv_J2_123 ho rfl (by decide) (Nat.le_of_ble_eq_true rfl) ⟨Nat.le_refl _, Nat.le_refl _⟩ (k_J2_elementData ho he (elems_len hl) (by omega) (elems_get hi)) (q := 14) dJ2_set_11 rfl ?_
  refine r_astore_3 (by decide) rfl (q := 15) dJ2_set_14 rfl ?_
  refine r_aload_0 (q := 16) dJ2_set_15 rfl ?_
  refine r_get gf_J2_9_11 ho rfl (q := 19) dJ2_set_16 rfl ?_
  refine r_iload_1 (q := 20) dJ2_set_19 rfl ?_
  refine r_aload_2 (q := 21) dJ2_set_20 rfl ?_
  refine r_aastO i 6 hcl hca he hp (elems_len hl) rfl (by omega) (by decide) (q := 22) dJ2_set_21 rfl ?_
  rw [elems_set hi]
  refine r_aload_3 (q := 23) dJ2_set_22 rfl ?_
  exact r_aret hz (Or.inr ⟨_, rfl⟩) dJ2_set_23 (Nat.le_refl _) (Nat.le_refl _) ⟨rfl, rfl, rfl⟩
/-- constructors of a list: no cells but the places -/
theorem k_J0_init {a : Nat} : CtE G yJ0_init cJ0_init 1 none 1 [.ref a] n h none h := by
  refine Ct.intro (k := 0) [some (.ref a)] (by decide) (Nat.le_of_ble_eq_true rfl) rfl fun z hz hin => ?_
  refine r_aload_0 (q := 1) dJ0_init_0 rfl ?_
  refine r_objInit q130 (by decide) (Nat.le_of_ble_eq_true rfl) (q := 4) dJ0_init_1 rfl ?_
  exact r_vret hz dJ0_init_4 (Nat.le_refl _) (Nat.le_refl _) ⟨rfl, rfl, rfl⟩
theorem k_J1_init {a : Nat} {fs : List Value} {x : Value} (ho : h a = some (.inr (.inr (11, x :: fs)))) : CtE G yJ1_init cJ1_init 1 none 2 [.ref a] n h none (hset h a (.inr (.inr (11, .int 0 :: fs)))) := by
  refine Ct.intro (k := 0) [some (.ref a)] (by decide) (Nat.le_of_ble_eq_true rfl) rfl fun z hz hin => ?_
  refine r_aload_0 (q := 1) dJ1_init_0 rfl ?_
  refine r_callIv_0 ci_J1_1 (by decide) (Nat.le_of_ble_eq_true rfl) ⟨Nat.le_refl _, Nat.le_refl _⟩ k_J0_init (q := 4) dJ1_init_1 rfl ?_
  refine r_aload_0 (q := 5) dJ1_init_4 rfl ?_
  refine r_iconst 0 (by decide) (q := 6) dJ1_init_5 rfl ?_
  refine r_put gf_J1_7_11 cl_ok_11 ft_11_0 ho (Nat.succ_pos _) rfl rfl (q := 9) dJ1_init_6 rfl ?_
  exact r_vret hz dJ1_init_9 (Nat.le_refl _) (Nat.le_refl _) ⟨rfl, rfl, rfl⟩
theorem k_J2_init {a : Nat} (ha : a < n) (ho : h a = some (.inr (.inr (11, [.int 0, .null, .int 0])))) : Ct G yJ2_init cJ2_init 2 none 3 1 6 [.ref a, .int 6] n h (fun r n' h' => r = none ∧ n' = n + 1 ∧ h' = hset (hset h n (.inr (.inl (0, elems [])))) a (.inr (.inr (11, [.int 0, .ref n, .int 0])))) := by
  refine Ct.intro (k := 0) [some (.ref a), some (.int 6)] (by decide) (Nat.le_of_ble_eq_true rfl) rfl fun z hz hin => ?_
  refine r_aload_0 (q := 1) dJ2_init_0 rfl ?_
  refine r_callIv_0 ci_J2_1 (by decide) (Nat.le_of_ble_eq_true rfl) ⟨Nat.zero_le _, Nat.zero_le _⟩ (k_J1_init ho) (q := 4) dJ2_init_1 rfl ?_
  refine r_iload_1 (q := 5) dJ2_init_4 rfl ?_
  refine J.heap (hset_self ho) ?_
  refine r_if_le (q := 8) (tgt := 19) dJ2_init_5 rfl rfl (fun c5 => ?_) (fun c5 => ?_)
  · exact absurd c5 (by decide)
  refine r_aload_0 (q := 9) dJ2_init_8 rfl ?_
  refine r_iload_1 (q := 10) dJ2_init_9 rfl ?_
  refine r_newqO 6 rfl (by decide) (Nat.le_refl _) (Nat.le_refl _) q131 (q := 13) dJ2_init_10 rfl ?_
  have ho : (hset h n (.inr (.inl (0, List.replicate 6 none)))) a = some (.inr (.inr (11, [.int 0, .null, .int 0]))) := by rw [hset_ne _ _ (Nat.ne_of_lt ha)]; exact ho
  refine r_put gf_J2_9_11 cl_ok_11 ft_11_1 ho (Nat.le_of_ble_eq_true rfl) rfl rfl (q := 16) dJ2_init_13 rfl ?_
  refine r_goto (q := 60) dJ2_init_16 rfl ?_
  exact r_vret hz dJ2_init_60 (Nat.le_refl _) (Nat.le_refl _) ⟨rfl, rfl, rfl⟩
end JDK


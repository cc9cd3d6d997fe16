/-! ===== one comes; a quarter takes another's state; a new quarter ===== -/
theorem castO {k : Nat} (hk : k < 6) : ∃ (C : String) (T : u_T) (N : Nat), dcl[5 + k]? = some (C, T, N) ∧ Cond.castable C "java/lang/Object" ∈ lw_tbl := by
  match k, hk with
  | 0, _ => exact ⟨RX5, _, _, rfl, q1528⟩
  | 1, _ => exact ⟨RX6, _, _, rfl, q1523⟩
  | 2, _ => exact ⟨RX7, _, _, rfl, q1524⟩
  | 3, _ => exact ⟨RX8, _, _, rfl, q1525⟩
  | 4, _ => exact ⟨RX9, _, _, rfl, q1526⟩
  | 5, _ => exact ⟨RX10, _, _, rfl, q1527⟩
/-- two cells of the block at once -/
theorem qh_set2 {q : Nat} {X X' : QX} {g : RH} {c d : RC} (i k : Nat) (hi : i < 6) (hk : k < 6) (hik : i ≠ k) (h1 : qcell q X' i = c) (h2 : qcell q X' k = d) (h3 : ∀ j, j < 6 → j ≠ i → j ≠ k → qcell q X' j = qcell q X j) : hset (hset (qh q X g) (q + i) c) (q + k) d = qh q X' g := by
  unfold qh
  rw [blk_set (f' := fun j => if j = i then c else qcell q X j) i hi (if_pos rfl) (fun j _ h => if_neg h)]
  refine blk_set k hk h2 (fun j h4 h5 => ?_)
  by_cases e : j = i
  · subst e
    rw [if_pos rfl]; exact h1
  · rw [if_neg e]; exact h3 j h4 e h5
theorem qh_add {q : Nat} {S : SQ} {pp : List Nat} {mc : Int32} {g : RH} (o : Nat) (p : PP) : hset (hset (qh q (S, pp, mc) g) (q + 2) (.inr (.inl (0, elems (pp ++ [o]))))) (q + 1) (.inr (.inr (11, [.int (mc + 1), .ref (q + 2), .int (nI (pp.length + 1))]))) = qh q ((S.1 ++ [p], S.2), pp ++ [o], mc + 1) g :=
  qh_set2 2 1 (by decide) (by decide) (by decide) rfl (by simp [qcell]) (fun j h1 h2 h3 => by match j, h1, h2, h3 with | 0, _, _, _ => rfl | 1, _, _, h => exact absurd rfl h | 2, _, h, _ => exact absurd rfl h | 3, _, _, _ => rfl | 4, _, _, _ => rfl | 5, _, _, _ => rfl)
/-- one more of the people -/
def comeS (S : SQ) (p : PP) (v : Nat) : SQ := (S.1 ++ [p], (forR (fun k s => setQr s S.1.length k 0) 0 6 (setM (setH S S.1.length v) S.1.length none)).2)
theorem setQr_fr (S : SQ) (a b v : Nat) : fr4 S (setQr S a b v) := ⟨rfl, rfl, rfl⟩
section TK
variable {G : GD} {n : Nat} {q : Nat} {S : SQ} {pp : List Nat} {mc : Int32} {g : RH}
theorem k_X1_comes {o v : Nat} {p : PP} (hL : LenS S) (hp : pp.length = S.1.length) (h5 : S.1.length < 6) (hk : p.1 < 6) (ho : qh q (S, pp, mc) g o = some (pcell p)) : CtE G yX1_comes cX1_comes 5 none 3 [.ref q, .ref o, .int (nI v)] n (qh q (S, pp, mc) g) none (qh q (comeS S p v, pp ++ [o], mc + 1) g) := by
  refine Ct.intro (k := 2) [some (.ref q), some (.ref o), some (.int (nI v)), none, none] (by decide) (Nat.le_of_ble_eq_true rfl) rfl fun z hz hin => ?_
  refine r_aload_0 (q := 1) dX1_comes_0 rfl ?_
  refine r_callV_0 cv_X1_61 qh_o rfl (by decide) (Nat.le_of_ble_eq_true rfl) ⟨Nat.le_refl _, Nat.le_refl _⟩ (k_X1_many hp) (q := 4) dX1_comes_1 rfl ?_
  refine r_istore_3 (by decide) rfl (q := 5) dX1_comes_4 rfl ?_
  refine r_aload_0 (q := 6) dX1_comes_5 rfl ?_
  refine r_get gf_X1_20_1 qh_o rfl (q := 9) dX1_comes_6 rfl ?_
  refine r_iload_3 (q := 10) dX1_comes_9 rfl ?_
  refine r_iload_2 (q := 11) dX1_comes_10 rfl ?_
  refine r_iastN S.1.length 6 v qh_h hL.2.1 rfl rfl h5 (by decide) (q := 12) dX1_comes_11 rfl ?_
  rw [qh_setH]
  refine r_aload_0 (q := 13) dX1_comes_12 rfl ?_
  refine r_get gf_X1_24_1 qh_o rfl (q := 16) dX1_comes_13 rfl ?_
  refine r_iload_3 (q := 17) dX1_comes_16 rfl ?_
  refine r_bipush (-9) (by decide) (q := 19) dX1_comes_17 rfl ?_
  refine r_iastM S.1.length 6 none qh_m hL.2.2.1 rfl rfl h5 (by decide) (q := 20) dX1_comes_19 rfl ?_
  rw [qh_setM]
  have loop : ∀ (c i : Nat) (S' : SQ), i + c = 6 → LenS S' → S'.1 = S.1 → forR (fun k s => setQr s S.1.length k 0) i c S' = forR (fun k s => setQr s S.1.length k 0) 0 6 (setM (setH S S.1.length v) S.1.length none) → J G z cX1_comes 5 RX1 3 0 0 0 0 23 [some (.ref q), some (.ref o), some (.int (nI v)), some (.int (nI S.1.length)), some (.int (nI i))] [] n (qh q (S', pp, mc) g) := by
    intro c
    induction c with
    | zero =>
      intro i S' h1 h2 h3 h4
      have h4 : S' = _ := h4
      refine r_iload_4 (q := 25) dX1_comes_23 rfl ?_
      refine r_bipush 6 (by decide) (q := 27) dX1_comes_25 rfl ?_
      refine r_icmp_ge (q := 30) (tgt := 44) dX1_comes_27 rfl rfl (fun c27 => ?_) (fun c27 => ?_)
      · refine r_aload_0 (q := 45) dX1_comes_44 rfl ?_
        refine r_get gf_X1_14_1 qh_o rfl (q := 48) dX1_comes_45 rfl ?_
        refine r_aload_1 (q := 49) dX1_comes_48 rfl ?_
        obtain ⟨C, T, N, g1, g2⟩ := castO hk
        have ho' : qh q (S', pp, mc) g o = some (pcell p) := qh_pers hk ho
        have hlt : pp.length < 6 := by omega
        have hc := qh_l (q := q) (X := (S', pp, mc)) (g := g)
        have e1 : o ≠ q + 1 := fun z => by
          rw [z, hc] at ho'
          exact pcell_q p hk q (S', pp, mc) 1 (by decide) (Option.some.inj ho')
        refine r_callV_1 cv_X1_41 qh_l rfl (by decide) (Nat.le_of_ble_eq_true rfl) ⟨Nat.le_refl _, Nat.le_refl _⟩ (k_J2_add (by omega) e1 g1 g2 qh_l qh_e ho' (elems_len (by show pp.length ≤ 6; omega)) hlt) (q := 52) dX1_comes_49 rfl ?_
        refine J.heap (h2 := qh q (comeS S p v, pp ++ [o], mc + 1) g) ?_ ?_
        · show hset (hset _ (q + 2) (.inr (.inl (0, (elems pp).set pp.length (some o))))) _ _ = _
          rw [elems_add hlt]
          refine (qh_add o p).trans ?_
          unfold comeS
          rw [← h4, h3]
        refine r_pop rfl (q := 53) dX1_comes_52 rfl ?_
        exact r_vret hz dX1_comes_53 (Nat.le_refl _) (Nat.le_refl _) ⟨rfl, rfl, rfl⟩
      · exact absurd (nI_le (a := 6) (by omega) (by omega)) c27
    | succ c ih =>
      intro i S' h1 h2 h3 h4
      refine r_iload_4 (q := 25) dX1_comes_23 rfl ?_
      refine r_bipush 6 (by decide) (q := 27) dX1_comes_25 rfl ?_
      refine r_icmp_ge (q := 30) (tgt := 44) dX1_comes_27 rfl rfl (fun c27 => ?_) (fun c27 => ?_)
      · exact absurd c27 (nI_ge (b := 6) (by omega) (by omega))
      refine r_aload_0 (q := 31) dX1_comes_30 rfl ?_
      refine r_iload_3 (q := 32) dX1_comes_31 rfl ?_
      refine r_iload_4 (q := 34) dX1_comes_32 rfl ?_
      refine r_iconst 0 (by decide) (q := 35) dX1_comes_34 rfl ?_
      refine r_callVv_3 cv_X1_64 qh_o rfl (by decide) (Nat.le_of_ble_eq_true rfl) ⟨Nat.le_refl _, Nat.le_refl _⟩ (k_X1_quarrels (v := 0) h2 h5 (by omega)) (q := 38) dX1_comes_35 rfl ?_
      refine r_inc_4 (by decide) rfl (q := 41) dX1_comes_38 rfl ?_
      refine r_goto (q := 23) dX1_comes_41 rfl ?_
      exact ih (i + 1) _ (by omega) (lens_setQr h2) h3 h4
  refine r_iconst 0 (by decide) (q := 21) dX1_comes_20 rfl ?_
  refine r_istore_4 (by decide) rfl (q := 23) dX1_comes_21 rfl ?_
  exact loop 6 0 _ rfl (lens_setM (lens_setH hL) (fun _ e => by cases e)) rfl rfl
/-! takes -/
theorem qh_of6 {q : Nat} {X : QX} {h g : RH} (h1 : ∀ j, j < 6 → h (q + j) = some (qcell q X j)) (h2 : ∀ a, (a < q ∨ q + 6 ≤ a) → h a = g a) : h = qh q X g := by
  funext a
  unfold qh blk
  by_cases e : q ≤ a ∧ a < q + 6
  · rw [if_pos e, ← h1 (a - q) (by omega)]
    congr 1
    omega
  · rw [if_neg e]
    exact h2 a (by omega)
theorem qh_far {q r j : Nat} {X : QX} {h : RH} (d : q + 6 ≤ r ∨ r + 6 ≤ q) (hj : j < 6) : qh q X h (r + j) = h (r + j) := blk_out (by omega)
theorem qh_comm {q r : Nat} {X Y : QX} {g : RH} (d : q + 6 ≤ r ∨ r + 6 ≤ q) : qh q X (qh r Y g) = qh r Y (qh q X g) := blk_comm (by omega)
theorem nI_acc (mc : Int32) (i : Nat) : mc + nI i + 1 = mc + nI (i + 1) := by rw [Int32.add_assoc, nI_1]
theorem k_X1_takes {r : Nat} {S' : SQ} {pp' : List Nat} {mc' : Int32} (d : q + 6 ≤ r ∨ r + 6 ≤ q) (hL : LenS S) (hp : pp.length ≤ 6) (hL' : LenS S') (hV' : ValS S') (hP' : PG (qh q (S, pp, mc) (qh r (S', pp', mc') g)) pp' S'.1) :
    CtE G yX1_takes cX1_takes 3 none 5 [.ref q, .ref r] n (qh q (S, pp, mc) (qh r (S', pp', mc') g)) none (qh q (S', pp', mc + nI (1 + S'.1.length)) (qh r (S', pp', mc') g)) := by
  refine Ct.intro (k := 1) [some (.ref q), some (.ref r), none] (by decide) (Nat.le_of_ble_eq_true rfl) rfl fun z hz hin => ?_
  have hl6 : S'.1.length ≤ 6 := hL'.1
  refine r_aload_0 (q := 1) dX1_takes_0 rfl ?_
  refine r_get gf_X1_14_1 qh_o rfl (q := 4) dX1_takes_1 rfl ?_
  refine r_callVv_0 cv_X1_30 qh_l rfl (by decide) (Nat.le_of_ble_eq_true rfl) ⟨Nat.le_refl _, Nat.le_refl _⟩ (k_J2_clear (by omega) qh_l qh_e hp) (q := 7) dX1_takes_4 rfl ?_
  refine J.heap (h2 := qh q ((S : SQ), ([] : List Nat), mc + nI 1) (qh r (S', pp', mc') g)) ?_ ?_
  · exact qh_set2 1 2 (by decide) (by decide) (by decide) rfl rfl (fun j h1 h2 h3 => by match j, h1, h2, h3 with | 0, _, _, _ => rfl | 1, _, h, _ => exact absurd rfl h | 2, _, _, h => exact absurd rfl h | 3, _, _, _ => rfl | 4, _, _, _ => rfl | 5, _, _, _ => rfl)
  have ro : ∀ {X : QX} {X' : QX} {g : RH}, qh q X (qh r X' g) r = some (.inr (.inr (1, [.ref (r + 1), .ref (r + 3), .ref (r + 4), .ref (r + 5), .int (nI X'.1.2.2.2.2)]))) := fun {X X' g} => by rw [qh_comm d]; exact qh_o
  have rl : ∀ {X : QX} {X' : QX} {g : RH}, qh q X (qh r X' g) (r + 1) = some (.inr (.inr (11, [.int X'.2.2, .ref (r + 2), .int (nI X'.2.1.length)]))) := fun {X X' g} => by rw [qh_comm d]; exact qh_l
  have rh : ∀ {X : QX} {X' : QX} {g : RH}, qh q X (qh r X' g) (r + 3) = some (.inl (X'.1.2.1.map nI)) := fun {X X' g} => by rw [qh_comm d]; exact qh_h
  have rm : ∀ {X : QX} {X' : QX} {g : RH}, qh q X (qh r X' g) (r + 4) = some (.inl (X'.1.2.2.1.map mI)) := fun {X X' g} => by rw [qh_comm d]; exact qh_m
  have rq : ∀ {X : QX} {X' : QX} {g : RH}, qh q X (qh r X' g) (r + 5) = some (.inl (X'.1.2.2.2.1.map nI)) := fun {X X' g} => by rw [qh_comm d]; exact qh_q
  have last : J G z cX1_takes 3 RX1 5 0 0 0 0 39 [some (.ref q), some (.ref r), some (.int (nI S'.1.length))] [] n (qh q (S, pp', mc + nI (1 + S'.1.length)) (qh r (S', pp', mc') g)) := by
    refine r_aload_1 (q := 40) dX1_takes_39 rfl ?_
    refine r_get gf_X1_20_1 ro rfl (q := 43) dX1_takes_40 rfl ?_
    refine r_iconst 0 (by decide) (q := 44) dX1_takes_43 rfl ?_
    refine r_aload_0 (q := 45) dX1_takes_44 rfl ?_
    refine r_get gf_X1_20_1 qh_o rfl (q := 48) dX1_takes_45 rfl ?_
    refine r_iconst 0 (by decide) (q := 49) dX1_takes_48 rfl ?_
    refine r_bipush 6 (by decide) (q := 51) dX1_takes_49 rfl ?_
    refine r_copy 6 rh qh_h (by rw [List.length_map]; exact hL'.2.1) (by rw [List.length_map]; exact hL.2.1) rfl rfl rfl (by decide) (by decide) (Nat.le_of_ble_eq_true rfl) q332 (q := 54) dX1_takes_51 rfl ?_
    refine J.heap (h2 := qh q ((S.1, S'.2.1, S.2.2), pp', mc + nI (1 + S'.1.length)) (qh r (S', pp', mc') g)) ?_ ?_
    · exact qh_set 3 (by decide) rfl (fun j h1 h2 => by match j, h1, h2 with | 0, _, _ => rfl | 1, _, _ => rfl | 2, _, _ => rfl | 3, _, h => exact absurd rfl h | 4, _, _ => rfl | 5, _, _ => rfl)
    refine r_aload_1 (q := 55) dX1_takes_54 rfl ?_
    refine r_get gf_X1_24_1 ro rfl (q := 58) dX1_takes_55 rfl ?_
    refine r_iconst 0 (by decide) (q := 59) dX1_takes_58 rfl ?_
    refine r_aload_0 (q := 60) dX1_takes_59 rfl ?_
    refine r_get gf_X1_24_1 qh_o rfl (q := 63) dX1_takes_60 rfl ?_
    refine r_iconst 0 (by decide) (q := 64) dX1_takes_63 rfl ?_
    refine r_bipush 6 (by decide) (q := 66) dX1_takes_64 rfl ?_
    refine r_copy 6 rm qh_m (by rw [List.length_map]; exact hL'.2.2.1) (by rw [List.length_map]; exact hL.2.2.1) rfl rfl rfl (by decide) (by decide) (Nat.le_of_ble_eq_true rfl) q332 (q := 69) dX1_takes_66 rfl ?_
    refine J.heap (h2 := qh q ((S.1, S'.2.1, S'.2.2.1, S.2.2.2), pp', mc + nI (1 + S'.1.length)) (qh r (S', pp', mc') g)) ?_ ?_
    · exact qh_set 4 (by decide) rfl (fun j h1 h2 => by match j, h1, h2 with | 0, _, _ => rfl | 1, _, _ => rfl | 2, _, _ => rfl | 3, _, _ => rfl | 4, _, h => exact absurd rfl h | 5, _, _ => rfl)
    refine r_aload_1 (q := 70) dX1_takes_69 rfl ?_
    refine r_get gf_X1_27_1 ro rfl (q := 73) dX1_takes_70 rfl ?_
    refine r_iconst 0 (by decide) (q := 74) dX1_takes_73 rfl ?_
    refine r_aload_0 (q := 75) dX1_takes_74 rfl ?_
    refine r_get gf_X1_27_1 qh_o rfl (q := 78) dX1_takes_75 rfl ?_
    refine r_iconst 0 (by decide) (q := 79) dX1_takes_78 rfl ?_
    refine r_bipush 36 (by decide) (q := 81) dX1_takes_79 rfl ?_
    refine r_copy 36 rq qh_q (by rw [List.length_map]; exact hL'.2.2.2.1) (by rw [List.length_map]; exact hL.2.2.2.1) rfl rfl rfl (by decide) (by decide) (Nat.le_of_ble_eq_true rfl) q332 (q := 84) dX1_takes_81 rfl ?_
    refine J.heap (h2 := qh q ((S.1, S'.2.1, S'.2.2.1, S'.2.2.2.1, S.2.2.2.2), pp', mc + nI (1 + S'.1.length)) (qh r (S', pp', mc') g)) ?_ ?_
    · exact qh_set 5 (by decide) rfl (fun j h1 h2 => by match j, h1, h2 with | 0, _, _ => rfl | 1, _, _ => rfl | 2, _, _ => rfl | 3, _, _ => rfl | 4, _, _ => rfl | 5, _, h => exact absurd rfl h)
    refine r_aload_0 (q := 85) dX1_takes_84 rfl ?_
    refine r_aload_1 (q := 86) dX1_takes_85 rfl ?_
    refine r_get gf_X1_51_1 ro rfl (q := 89) dX1_takes_86 rfl ?_
    refine r_put gf_X1_51_1 cl_ok_1 ft_1_4 qh_o (Nat.le_of_ble_eq_true rfl) rfl rfl (q := 92) dX1_takes_89 rfl ?_
    refine J.heap (h2 := qh q (S', pp', mc + nI (1 + S'.1.length)) (qh r (S', pp', mc') g)) ?_ ?_
    · exact qh_set 0 (by decide) rfl (fun j h1 h2 => by match j, h1, h2 with | 0, _, h => exact absurd rfl h | 1, _, _ => rfl | 2, _, _ => rfl | 3, _, _ => rfl | 4, _, _ => rfl | 5, _, _ => rfl)
    exact r_vret hz dX1_takes_92 (Nat.le_refl _) (Nat.le_refl _) ⟨rfl, rfl, rfl⟩
  have loop : ∀ (c i : Nat), i + c = S'.1.length → J G z cX1_takes 3 RX1 5 0 0 0 0 9 [some (.ref q), some (.ref r), some (.int (nI i))] [] n (qh q (S, pp'.take i, mc + nI (1 + i)) (qh r (S', pp', mc') g)) := by
    intro c
    induction c with
    | zero =>
      intro i hi
      have e : i = S'.1.length := by omega
      subst e
      refine r_iload_2 (q := 10) dX1_takes_9 rfl ?_
      refine r_aload_1 (q := 11) dX1_takes_10 rfl ?_
      refine r_get gf_X1_14_1 ro rfl (q := 14) dX1_takes_11 rfl ?_
      refine r_callV_0 cv_X1_33 rl rfl (by decide) (Nat.le_of_ble_eq_true rfl) ⟨Nat.le_refl _, Nat.le_refl _⟩ (k_J2_size rl) (q := 17) dX1_takes_14 rfl ?_
      refine J.topi (show nI pp'.length = nI S'.1.length by rw [hP'.1]) ?_
      refine r_icmp_ge (q := 20) (tgt := 39) dX1_takes_17 rfl rfl (fun c17 => ?_) (fun c17 => ?_)
      · refine J.heap (h2 := qh q (S, pp', mc + nI (1 + S'.1.length)) (qh r (S', pp', mc') g)) (by rw [← hP'.1, List.take_length]) ?_
        exact last
      · exact absurd (Int32.le_refl _) c17
    | succ c ih =>
      intro i hi
      have hi' : i < S'.1.length := by omega
      refine r_iload_2 (q := 10) dX1_takes_9 rfl ?_
      refine r_aload_1 (q := 11) dX1_takes_10 rfl ?_
      refine r_get gf_X1_14_1 ro rfl (q := 14) dX1_takes_11 rfl ?_
      refine r_callV_0 cv_X1_33 rl rfl (by decide) (Nat.le_of_ble_eq_true rfl) ⟨Nat.le_refl _, Nat.le_refl _⟩ (k_J2_size rl) (q := 17) dX1_takes_14 rfl ?_
      refine J.topi (show nI pp'.length = nI S'.1.length by rw [hP'.1]) ?_
      refine r_icmp_ge (q := 20) (tgt := 39) dX1_takes_17 rfl rfl (fun c17 => ?_) (fun c17 => ?_)
      · exact absurd c17 (nI_ge (by omega) (by omega))
      refine r_aload_0 (q := 21) dX1_takes_20 rfl ?_
      refine r_get gf_X1_14_1 qh_o rfl (q := 24) dX1_takes_21 rfl ?_
      refine r_aload_1 (q := 25) dX1_takes_24 rfl ?_
      refine r_iload_2 (q := 26) dX1_takes_25 rfl ?_
      refine J.heap (h2 := qh r (S', pp', mc') (qh q (S, pp'.take i, mc + nI (1 + i)) g)) (qh_comm d) ?_
      have hPi : PG (qh r (S', pp', mc') (qh q (S, pp'.take i, mc + nI (1 + i)) g)) pp' S'.1 := by
        rw [← qh_comm d]
        exact hP'.moved hV'.1
      refine r_callV_1 cv_X1_37 qh_o rfl (by decide) (Nat.le_of_ble_eq_true rfl) ⟨Nat.le_refl _, Nat.le_refl _⟩ (k_X1_person hL' hV' hPi hi') (q := 29) dX1_takes_26 rfl ?_
      refine J.heap (qh_comm d).symm ?_
      rw [← qh_comm d] at hPi
      have hpi := hPi.2 i hi'
      have hk := (vs_pr hV' hi').1
      obtain ⟨C, T, N, g1, g2⟩ := castO hk
      have hlen : (pp'.take i).length = i := by rw [List.length_take, hP'.1]; omega
      have e1 : pp'.getD i 0 ≠ q + 1 := fun z => by
        have hc := qh_l (q := q) (X := (S, pp'.take i, mc + nI (1 + i))) (g := qh r (S', pp', mc') g)
        rw [z, hc] at hpi
        exact pcell_q _ hk q (S, pp'.take i, mc + nI (1 + i)) 1 (by decide) (Option.some.inj hpi)
      refine r_callV_1 cv_X1_41 qh_l rfl (by decide) (Nat.le_of_ble_eq_true rfl) ⟨Nat.le_refl _, Nat.le_refl _⟩ (k_J2_add (by omega) e1 g1 g2 qh_l qh_e hpi (elems_len (by show (pp'.take i).length ≤ 6; omega)) (by show (pp'.take i).length < 6; omega)) (q := 32) dX1_takes_29 rfl ?_
      refine J.heap (h2 := qh q (S, pp'.take (i + 1), mc + nI (1 + (i + 1))) (qh r (S', pp', mc') g)) ?_ ?_
      · show hset (hset _ (q + 2) (.inr (.inl (0, (elems (pp'.take i)).set (pp'.take i).length (some (pp'.getD i 0)))))) _ _ = _
        rw [elems_add (by omega)]
        refine (qh_add (S := S) (pp'.getD i 0) (0, 0)).trans ?_
        have e2 : pp'.take i ++ [pp'.getD i 0] = pp'.take (i + 1) := by
          rw [List.getD_eq_getElem?_getD, List.getElem?_eq_getElem (by rw [hP'.1]; exact hi'), Option.getD_some, List.take_append_getElem]
        show qh q ((S.1 ++ [(0, 0)], S.2), pp'.take i ++ [pp'.getD i 0], mc + nI (1 + i) + 1) _ = _
        rw [e2, nI_acc]
        rfl
      refine r_pop rfl (q := 33) dX1_takes_32 rfl ?_
      refine r_inc_2 (by decide) rfl (q := 36) dX1_takes_33 rfl ?_
      refine r_goto (q := 9) dX1_takes_36 rfl ?_
      exact ih (i + 1) (by omega)
  refine r_iconst 0 (by decide) (q := 8) dX1_takes_7 rfl ?_
  refine r_istore_2 (by decide) rfl (q := 9) dX1_takes_8 rfl ?_
  exact loop S'.1.length 0 (Nat.zero_add _)
/-- nobody is here -/
def S0 : SQ := ([], List.replicate 6 0, List.replicate 6 (some 0), List.replicate 36 0, 0)
theorem k_X1_init {h : RH} (hn : n = q + 1) (ho : h q = some (.inr (.inr (1, [.null, .null, .null, .null, .int 0])))) : Ct G yX1_init cX1_init 4 none 4 5 57 [.ref q] n h (fun r n' h' => r = none ∧ n' = q + 6 ∧ h' = qh q (S0, [], 0) h) := by
  subst hn
  refine Ct.intro (k := 0) [some (.ref q)] (by decide) (Nat.le_of_ble_eq_true rfl) rfl fun z hz hin => ?_
  refine r_aload_0 (q := 1) dX1_init_0 rfl ?_
  refine r_objInit q118 (by decide) (Nat.le_of_ble_eq_true rfl) (q := 4) dX1_init_1 rfl ?_
  refine r_aload_0 (q := 5) dX1_init_4 rfl ?_
  refine r_new nw_X1_9 (by decide) (by decide) (q := 8) dX1_init_5 rfl ?_
  refine r_dup rfl (q := 9) dX1_init_8 rfl ?_
  refine r_bipush 6 (by decide) (q := 11) dX1_init_9 rfl ?_
  refine r_callIp_1 ci_X1_11 (by decide) (Nat.le_of_ble_eq_true rfl) ⟨by decide, by decide⟩ (k_J2_init (Nat.lt_succ_self _) (hset_eq _ _ _)) (q := 14) dX1_init_11 rfl ?_
  intro r n' h' hp
  obtain ⟨rfl, rfl, rfl⟩ := hp
  have eo : ∀ (c : RC) (d : RC) (e : RC), hset (hset (hset h (q + 1) c) (q + 1 + 1) d) (q + 1) e q = some (.inr (.inr (1, [.null, .null, .null, .null, .int 0]))) := fun c d e => by
    rw [hset_ne _ _ (by omega), hset_ne _ _ (by omega), hset_ne _ _ (by omega)]; exact ho
  refine r_putF hin gf_X1_14_1 cl_ok_1 ft_1_0 dc_1_0 (eo _ _ _) (Nat.le_of_ble_eq_true rfl) rfl rfl (q := 17) dX1_init_14 rfl ?_
  refine r_aload_0 (q := 18) dX1_init_17 rfl ?_
  refine r_bipush 6 (by decide) (q := 20) dX1_init_18 rfl ?_
  refine r_newa 6 rfl (by decide) (by decide) (by decide) q147 (q := 22) dX1_init_20 rfl ?_
  refine r_putF hin gf_X1_20_1 cl_ok_1 ft_1_1 dc_1_1 ((hset_ne _ _ (by omega)).trans (hset_eq _ _ _)) (Nat.le_of_ble_eq_true rfl) rfl rfl (q := 25) dX1_init_22 rfl ?_
  refine r_aload_0 (q := 26) dX1_init_25 rfl ?_
  refine r_bipush 6 (by decide) (q := 28) dX1_init_26 rfl ?_
  refine r_newa 6 rfl (by decide) (by decide) (by decide) q147 (q := 30) dX1_init_28 rfl ?_
  refine r_putF hin gf_X1_24_1 cl_ok_1 ft_1_2 dc_1_2 ((hset_ne _ _ (by omega)).trans (hset_eq _ _ _)) (Nat.le_of_ble_eq_true rfl) rfl rfl (q := 33) dX1_init_30 rfl ?_
  refine r_aload_0 (q := 34) dX1_init_33 rfl ?_
  refine r_bipush 36 (by decide) (q := 36) dX1_init_34 rfl ?_
  refine r_newa 36 rfl (by decide) (by decide) (by decide) q147 (q := 38) dX1_init_36 rfl ?_
  refine r_putF hin gf_X1_27_1 cl_ok_1 ft_1_3 dc_1_3 ((hset_ne _ _ (by omega)).trans (hset_eq _ _ _)) (Nat.le_of_ble_eq_true rfl) rfl rfl (q := 41) dX1_init_38 rfl ?_
  refine r_vret hz dX1_init_41 (by decide) (by decide) ⟨rfl, by omega, ?_⟩
  refine qh_of6 (fun j hj => ?_) (fun a ha => ?_)
  · match j, hj with
    | 0, _ => simp [hset, qcell, S0]; rfl
    | 1, _ => simp [hset, qcell, S0]; rfl
    | 2, _ => simp [hset, qcell, S0]
    | 3, _ => simp [hset, qcell, S0]; rfl
    | 4, _ => simp [hset, qcell, S0]; rfl
    | 5, _ => simp [hset, qcell, S0]; rfl
  · simp only [hset]
    repeat rw [if_neg (by omega)]
end TK


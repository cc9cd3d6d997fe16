/-! ===== PrayerMatsFaceModel: rules for its arrays, small methods ===== -/
/-- the quarter T, and those behind its people -/
def OKM (T : SQ) (j : List PP) : Prop := OKS T ∧ (T.1 ++ j).length = 6
section OM
variable {T : SQ} {j : List PP}
theorem OKM.l6 (K : OKM T j) : T.1.length ≤ 6 := K.1.1.1
theorem OKM.lens (K : OKM T j) : LenS T := K.1.1
theorem OKM.vals (K : OKM T j) : ValS T := K.1.2.1
theorem OKM.mats (K : OKM T j) : MatS T := K.1.2.2.1
theorem OKM.syms (K : OKM T j) : SymS T := K.1.2.2.2
theorem OKM.hr31 (K : OKM T j) (a : Nat) : hr T a ≤ 31 := vs_hr K.vals a
theorem OKM.qr99 (K : OKM T j) (a b : Nat) : qr T a b ≤ 99 := vs_qr K.vals a b
theorem OKM.mtl (K : OKM T j) {a b : Nat} (ha : a < T.1.length) (h : mt T a = some b) : b < T.1.length := (K.mats a ha b h).1
theorem OKM.mt6 (K : OKM T j) {a b : Nat} (h : mt T a = some b) : b < 6 := K.lens.2.2.2.2 a b h
theorem OKM.prd (K : OKM T j) {a : Nat} (ha : a < T.1.length) : (T.1 ++ j).getD a (0, 0) = pr T a := by
  unfold pr
  simp only [List.getD_eq_getElem?_getD]
  rw [List.getElem?_append_left ha]
theorem OKM.of {T' : SQ} (K : OKM T j) (h1 : T'.1 = T.1) (h : OKS T') : OKM T' j := ⟨h, by rw [h1]; exact K.2⟩
end OM
theorem getD_mapP (f : PP → Int32) (l : List PP) {a : Nat} (h : a < l.length) : (l.map f).getD a 0 = f (l.getD a (0, 0)) := by
  simp [List.getD_eq_getElem?_getD, h]
section MR9
variable {G : GD} {z : MZ} {cc : ByteArray} {nL : Nat} {own : String} {lvl mcT msT cells slots pc q n : Nat} {lo : List (Option Value)} {stk : List Value} {m : Nat} {w : MW} {g : RH} {T : SQ} {j : List PP}
theorem m_ald1 {a : Nat} (K : OKM T j) (e : w.1 = mS T j) (ha : a < T.1.length) (d : decode cc pc = .ok (.iaload, 1)) (hq : pc + 1 = q) (kk : J G z cc nL own lvl mcT msT cells slots q lo (.int (nI (pr T a).1) :: stk) n (mh m w g)) : J G z cc nL own lvl mcT msT cells slots pc lo (.int (nI a) :: .ref (m + 1) :: stk) n (mh m w g) := by
  have h6 := K.l6
  refine r_iald a 6 mh_1 (by rw [List.length_map, e]; exact K.2) rfl (by omega) (by decide) d hq ?_
  rw [e]
  show J G z cc nL own lvl mcT msT cells slots q lo (.int (((T.1 ++ j).map (fun p => nI p.1)).getD a 0) :: stk) n (mh m w g)
  rw [getD_mapP _ _ (by rw [K.2]; omega), K.prd ha]
  exact kk
theorem m_ald2 {a : Nat} (K : OKM T j) (e : w.1 = mS T j) (ha : a < T.1.length) (d : decode cc pc = .ok (.iaload, 1)) (hq : pc + 1 = q) (kk : J G z cc nL own lvl mcT msT cells slots q lo (.int (nI (pr T a).2) :: stk) n (mh m w g)) : J G z cc nL own lvl mcT msT cells slots pc lo (.int (nI a) :: .ref (m + 2) :: stk) n (mh m w g) := by
  have h6 := K.l6
  refine r_iald a 6 mh_2 (by rw [List.length_map, e]; exact K.2) rfl (by omega) (by decide) d hq ?_
  rw [e]
  show J G z cc nL own lvl mcT msT cells slots q lo (.int (((T.1 ++ j).map (fun p => nI p.2)).getD a 0) :: stk) n (mh m w g)
  rw [getD_mapP _ _ (by rw [K.2]; omega), K.prd ha]
  exact kk
theorem m_ald3 {a : Nat} (K : OKM T j) (e : w.1 = mS T j) (ha : a < 6) (d : decode cc pc = .ok (.iaload, 1)) (hq : pc + 1 = q) (kk : J G z cc nL own lvl mcT msT cells slots q lo (.int (nI (hr T a)) :: stk) n (mh m w g)) : J G z cc nL own lvl mcT msT cells slots pc lo (.int (nI a) :: .ref (m + 3) :: stk) n (mh m w g) := by
  refine r_ialdN a 6 mh_3 (by rw [e]; exact K.lens.2.1) rfl ha (by decide) d hq ?_
  rw [e]
  exact kk
theorem m_ald4 {a : Nat} (K : OKM T j) (e : w.1 = mS T j) (ha : a < 6) (d : decode cc pc = .ok (.iaload, 1)) (hq : pc + 1 = q) (kk : J G z cc nL own lvl mcT msT cells slots q lo (.int (mI (mt T a)) :: stk) n (mh m w g)) : J G z cc nL own lvl mcT msT cells slots pc lo (.int (nI a) :: .ref (m + 4) :: stk) n (mh m w g) := by
  refine r_ialdM a 6 mh_4 (by rw [e]; exact K.lens.2.2.1) rfl ha (by decide) d hq ?_
  rw [e]
  exact kk
theorem m_ast3 {a v : Nat} (K : OKM T j) (e : w.1 = mS T j) (ha : a < 6) (d : decode cc pc = .ok (.iastore, 1)) (hq : pc + 1 = q) (kk : J G z cc nL own lvl mcT msT cells slots q lo stk n (mh m (sS w (mS (setH T a v) j)) g)) : J G z cc nL own lvl mcT msT cells slots pc lo (.int (nI v) :: .int (nI a) :: .ref (m + 3) :: stk) n (mh m w g) := by
  refine r_iastN a 6 v mh_3 (by rw [e]; exact K.lens.2.1) rfl rfl ha (by decide) d hq ?_
  rw [mset_3, e]
  exact kk
theorem m_ast4 {a : Nat} {y : Int32} (v : Option Nat) (K : OKM T j) (e : w.1 = mS T j) (hy : y = mI v) (ha : a < 6) (d : decode cc pc = .ok (.iastore, 1)) (hq : pc + 1 = q) (kk : J G z cc nL own lvl mcT msT cells slots q lo stk n (mh m (sS w (mS (setM T a v) j)) g)) : J G z cc nL own lvl mcT msT cells slots pc lo (.int y :: .int (nI a) :: .ref (m + 4) :: stk) n (mh m w g) := by
  refine r_iastM a 6 v mh_4 (by rw [e]; exact K.lens.2.2.1) rfl hy ha (by decide) d hq ?_
  rw [mset_4, e]
  exact kk
theorem m_getp {idx : Nat} (hg : GFok own idx 2 0) (K : OKM T j) (e : w.1 = mS T j) (d : decode cc pc = .ok (.getfield idx, 3)) (hq : pc + 3 = q) (kk : J G z cc nL own lvl mcT msT cells slots q lo (.int (nI T.1.length) :: stk) n (mh m w g)) : J G z cc nL own lvl mcT msT cells slots pc lo (.ref m :: stk) n (mh m w g) :=
  r_get hg mh_o (show (mobj m w)[0]? = some (.int (nI T.1.length)) by show some (Value.int (nI w.1.1)) = _; rw [e]; rfl) d hq kk
theorem m_getd {idx : Nat} (hg : GFok own idx 2 6) (K : OKM T j) (e : w.1 = mS T j) (d : decode cc pc = .ok (.getfield idx, 3)) (hq : pc + 3 = q) (kk : J G z cc nL own lvl mcT msT cells slots q lo (.int (nI T.2.2.2.2) :: stk) n (mh m w g)) : J G z cc nL own lvl mcT msT cells slots pc lo (.ref m :: stk) n (mh m w g) :=
  r_get hg mh_o (show (mobj m w)[6]? = some (.int (nI T.2.2.2.2)) by show some (Value.int (nI w.1.2.2.2.2.2)) = _; rw [e]; rfl) d hq kk
end MR9
/-! longs out of ints -/
theorem i64_le (x y : Int32) : x.toInt64 ≤ y.toInt64 ↔ x ≤ y := by
  rw [Int64.le_iff_toInt_le, Int32.le_iff_toInt_le, Int32.toInt_toInt64, Int32.toInt_toInt64]
theorem lg_lt {x y : Int64} : lg_cmp x y < 0 ↔ x < y := by
  unfold lg_cmp
  by_cases h : x > y
  · rw [if_pos h]
    exact ⟨fun q => absurd q (by decide), fun q => (Int64.lt_irrefl (Int64.lt_trans h q)).elim⟩
  · rw [if_neg h]
    by_cases h2 : x = y
    · rw [if_pos h2]
      exact ⟨fun q => absurd q (by decide), fun q => (Int64.lt_irrefl (h2 ▸ q)).elim⟩
    · rw [if_neg h2]
      refine ⟨fun _ => ?_, fun _ => by decide⟩
      rcases Int64.lt_or_eq_of_le (Int64.not_lt.mp h) with z | z
      · exact z
      · exact absurd z h2
theorem lg_gt {x y : Int64} : 0 < lg_cmp x y ↔ y < x := by
  unfold lg_cmp
  by_cases h : x > y
  · rw [if_pos h]
    exact ⟨fun _ => h, fun _ => by decide⟩
  · rw [if_neg h]
    by_cases h2 : x = y
    · rw [if_pos h2]
      exact ⟨fun q => absurd q (by decide), fun q => absurd q h⟩
    · rw [if_neg h2]
      exact ⟨fun q => absurd q (by decide), fun q => absurd q h⟩
section MST
variable {G : GD} {n m : Nat} {w : MW} {g : RH} {T : SQ} {j : List PP} {h : RH}
theorem k_X2_in {x lo hi : Int64} : CtE G yX2_in cX2_in 6 (some FieldType.boolean) 1 [.long x, .long lo, .long hi] n h (some (.int (bI (decide (lo ≤ x ∧ x ≤ hi))))) h := by
  refine Ct.intro (k := 0) [some (.long x), none, some (.long lo), none, some (.long hi), none] (by decide) (Nat.le_of_ble_eq_true rfl) rfl fun z hz hin => ?_
  refine r_lload_0 (q := 1) dX2_in_0 rfl ?_
  refine r_lload_2 (q := 2) dX2_in_1 rfl ?_
  refine r_lcmp (q := 3) dX2_in_2 rfl ?_
  refine r_if_lt (q := 6) (tgt := 17) dX2_in_3 rfl rfl (fun c3 => ?_) (fun c3 => ?_)
  · rw [decide_eq_false (p := lo ≤ x ∧ x ≤ hi) (fun q => absurd (lg_lt.mp c3) (Int64.not_lt.mpr q.1))] at hz
    refine r_iconst 0 (by decide) (q := 18) dX2_in_17 rfl ?_
    exact r_zret hz rfl dX2_in_18 (Nat.le_refl _) (Nat.le_refl _) ⟨rfl, rfl, rfl⟩
  have h1 : lo ≤ x := Int64.not_lt.mp (fun q => c3 (lg_lt.mpr q))
  refine r_lload_0 (q := 7) dX2_in_6 rfl ?_
  refine r_lload_4 (q := 9) dX2_in_7 rfl ?_
  refine r_lcmp (q := 10) dX2_in_9 rfl ?_
  refine r_if_gt (q := 13) (tgt := 17) dX2_in_10 rfl rfl (fun c10 => ?_) (fun c10 => ?_)
  · rw [decide_eq_false (p := lo ≤ x ∧ x ≤ hi) (fun q => absurd (lg_gt.mp c10) (Int64.not_lt.mpr q.2))] at hz
    refine r_iconst 0 (by decide) (q := 18) dX2_in_17 rfl ?_
    exact r_zret hz rfl dX2_in_18 (Nat.le_refl _) (Nat.le_refl _) ⟨rfl, rfl, rfl⟩
  · rw [decide_eq_true (p := lo ≤ x ∧ x ≤ hi) ⟨h1, Int64.not_lt.mp (fun q => c10 (lg_gt.mpr q))⟩] at hz
    refine r_iconst 1 (by decide) (q := 14) dX2_in_13 rfl ?_
    refine r_goto (q := 18) dX2_in_14 rfl ?_
    exact r_zret hz rfl dX2_in_18 (Nat.le_refl _) (Nat.le_refl _) ⟨rfl, rfl, rfl⟩
/-- of ints -/
theorem k_X2_in32 {x lo hi : Int32} {a b : Int64} (ha : a = lo.toInt64) (hb : b = hi.toInt64) : CtE G yX2_in cX2_in 6 (some FieldType.boolean) 1 [.long x.toInt64, .long a, .long b] n h (some (.int (bI (decide (lo ≤ x ∧ x ≤ hi))))) h := by
  subst ha; subst hb
  have k := k_X2_in (G := G) (n := n) (h := h) (x := x.toInt64) (lo := lo.toInt64) (hi := hi.toInt64)
  have e : decide (lo.toInt64 ≤ x.toInt64 ∧ x.toInt64 ≤ hi.toInt64) = decide (lo ≤ x ∧ x ≤ hi) := by
    exact decide_eq_decide.mpr (by rw [i64_le, i64_le])
  rw [e] at k
  exact k
theorem k_X2_hasBit {k i : Nat} (hk : k < 256) (hi : i < 8) : CtE G yX2_hasBit cX2_hasBit 2 (some FieldType.boolean) 1 [.int (nI k), .int (nI i)] n h (some (.int (bI (hbt k i)))) h := by
  refine Ct.intro (k := 0) [some (.int (nI k)), some (.int (nI i))] (by decide) (Nat.le_of_ble_eq_true rfl) rfl fun z hz hin => ?_
  refine r_iload_0 (q := 1) dX2_hasBit_0 rfl ?_
  refine r_iload_1 (q := 2) dX2_hasBit_1 rfl ?_
  refine r_ishr (q := 3) dX2_hasBit_2 rfl ?_
  refine r_iconst 1 (by decide) (q := 4) dX2_hasBit_3 rfl ?_
  refine r_iand (q := 5) dX2_hasBit_4 rfl ?_
  refine r_iconst 1 (by decide) (q := 6) dX2_hasBit_5 rfl ?_
  refine r_icmp_ne (q := 9) (tgt := 13) dX2_hasBit_6 rfl rfl (fun c6 => ?_) (fun c6 => ?_)
  · have e : hbt k i = false := by
      cases e : hbt k i
      · rfl
      · exact absurd ((hb_ok k hk i hi).mpr e) c6
    refine r_iconst 0 (by decide) (q := 14) dX2_hasBit_13 rfl ?_
    rw [e] at hz
    exact r_zret hz rfl dX2_hasBit_14 (Nat.le_refl _) (Nat.le_refl _) ⟨rfl, rfl, rfl⟩
  · have e := (hb_ok k hk i hi).mp c6
    refine r_iconst 1 (by decide) (q := 10) dX2_hasBit_9 rfl ?_
    refine r_goto (q := 14) dX2_hasBit_10 rfl ?_
    rw [e] at hz
    exact r_zret hz rfl dX2_hasBit_14 (Nat.le_refl _) (Nat.le_refl _) ⟨rfl, rfl, rfl⟩
theorem k_X2_onesOf {k : Nat} (hk : k < 256) : CtE G yX2_onesOf cX2_onesOf 3 (some FieldType.int) 1 [.int (nI k)] n h (some (.int (nI (pop k)))) h := by
  refine Ct.intro (k := 2) [some (.int (nI k)), none, none] (by decide) (Nat.le_of_ble_eq_true rfl) rfl fun z hz hin => ?_
  have loop : ∀ (c a b : Nat), b ≤ c → b < 256 → a + pop b = pop k → J G z cX2_onesOf 3 RX2 1 0 0 0 0 4 [some (.int (nI k)), some (.int (nI a)), some (.int (nI b))] [] n h := by
    intro c
    induction c with
    | zero =>
      intro a b h1 h2 h3
      have hb0 : b = 0 := by omega
      subst hb0
      rw [pop_0] at h3
      refine r_iload_2 (q := 5) dX2_onesOf_4 rfl ?_
      refine r_if_eq (q := 8) (tgt := 20) dX2_onesOf_5 rfl rfl (fun c5 => ?_) (fun c5 => ?_)
      · refine r_iload_1 (q := 21) dX2_onesOf_20 rfl ?_
        rw [show a = pop k by omega]
        exact r_iret hz dX2_onesOf_21 (Nat.le_refl _) (Nat.le_refl _) ⟨rfl, rfl, rfl⟩
      · exact absurd rfl c5
    | succ c ih =>
      intro a b h1 h2 h3
      refine r_iload_2 (q := 5) dX2_onesOf_4 rfl ?_
      refine r_if_eq (q := 8) (tgt := 20) dX2_onesOf_5 rfl rfl (fun c5 => ?_) (fun c5 => ?_)
      · have hb0 : b = 0 := nI_inj (by omega) (by omega) c5
        subst hb0
        rw [pop_0] at h3
        refine r_iload_1 (q := 21) dX2_onesOf_20 rfl ?_
        rw [show a = pop k by omega]
        exact r_iret hz dX2_onesOf_21 (Nat.le_refl _) (Nat.le_refl _) ⟨rfl, rfl, rfl⟩
      · have hb0 : b ≠ 0 := fun e => c5 (by rw [e]; rfl)
        obtain ⟨p1, p2, p3⟩ := pop_s b h2 hb0
        refine r_inc_1 (by decide) rfl (q := 11) dX2_onesOf_8 rfl ?_
        refine r_iload_2 (q := 12) dX2_onesOf_11 rfl ?_
        refine r_iload_2 (q := 13) dX2_onesOf_12 rfl ?_
        refine r_iconst 1 (by decide) (q := 14) dX2_onesOf_13 rfl ?_
        refine r_isub (q := 15) dX2_onesOf_14 rfl ?_
        refine r_iand (q := 16) dX2_onesOf_15 rfl ?_
        rw [p3]
        refine r_istore_2 (by decide) rfl (q := 17) dX2_onesOf_16 rfl ?_
        refine r_goto (q := 4) dX2_onesOf_17 rfl ?_
        exact ih (a + 1) _ (by omega) (by omega) (by omega)
  refine r_iconst 0 (by decide) (q := 1) dX2_onesOf_0 rfl ?_
  refine r_istore_1 (by decide) rfl (q := 2) dX2_onesOf_1 rfl ?_
  refine r_iload_0 (q := 3) dX2_onesOf_2 rfl ?_
  refine r_istore_2 (by decide) rfl (q := 4) dX2_onesOf_3 rfl ?_
  exact loop k 0 k (Nat.le_refl _) hk (Nat.zero_add _)
def heldI (v k : Int32) : Int32 := if v < 0 then 0 else if k < v then k else v
theorem k_X2_held {v k : Int32} : CtE G yX2_held cX2_held 2 (some FieldType.int) 1 [.int v, .int k] n h (some (.int (heldI v k))) h := by
  refine Ct.intro (k := 0) [some (.int v), some (.int k)] (by decide) (Nat.le_of_ble_eq_true rfl) rfl fun z hz hin => ?_
  unfold heldI at hz
  refine r_iload_0 (q := 1) dX2_held_0 rfl ?_
  refine r_if_ge (q := 4) (tgt := 8) dX2_held_1 rfl rfl (fun c1 => ?_) (fun c1 => ?_)
  · rw [if_neg (Int32.not_lt.mpr c1)] at hz
    refine r_iload_0 (q := 9) dX2_held_8 rfl ?_
    refine r_iload_1 (q := 10) dX2_held_9 rfl ?_
    refine r_icmp_le (q := 13) (tgt := 17) dX2_held_10 rfl rfl (fun c10 => ?_) (fun c10 => ?_)
    · rw [if_neg (Int32.not_lt.mpr c10)] at hz
      refine r_iload_0 (q := 18) dX2_held_17 rfl ?_
      exact r_iret hz dX2_held_18 (Nat.le_refl _) (Nat.le_refl _) ⟨rfl, rfl, rfl⟩
    · rw [if_pos (Int32.not_le.mp c10)] at hz
      refine r_iload_1 (q := 14) dX2_held_13 rfl ?_
      refine r_goto (q := 18) dX2_held_14 rfl ?_
      exact r_iret hz dX2_held_18 (Nat.le_refl _) (Nat.le_refl _) ⟨rfl, rfl, rfl⟩
  · rw [if_pos (Int32.not_le.mp c1)] at hz
    refine r_iconst 0 (by decide) (q := 5) dX2_held_4 rfl ?_
    refine r_goto (q := 18) dX2_held_5 rfl ?_
    exact r_iret hz dX2_held_18 (Nat.le_refl _) (Nat.le_refl _) ⟨rfl, rfl, rfl⟩
theorem k_X2_wrongNumber {v lo hi : Int32} : CtE G yX2_wrongNumber cX2_wrongNumber 3 (some FieldType.int) 1 [.int v, .int lo, .int hi] n h (some (.int (wi v lo hi))) h := by
  refine Ct.intro (k := 0) [some (.int v), some (.int lo), some (.int hi)] (by decide) (Nat.le_of_ble_eq_true rfl) rfl fun z hz hin => ?_
  unfold wi at hz
  refine r_iload_0 (q := 1) dX2_wrongNumber_0 rfl ?_
  refine r_iload_1 (q := 2) dX2_wrongNumber_1 rfl ?_
  refine r_icmp_ge (q := 5) (tgt := 10) dX2_wrongNumber_2 rfl rfl (fun c2 => ?_) (fun c2 => ?_)
  · rw [if_neg (Int32.not_lt.mpr c2)] at hz
    refine r_iload_0 (q := 11) dX2_wrongNumber_10 rfl ?_
    refine r_iload_2 (q := 12) dX2_wrongNumber_11 rfl ?_
    refine r_icmp_le (q := 15) (tgt := 20) dX2_wrongNumber_12 rfl rfl (fun c12 => ?_) (fun c12 => ?_)
    · rw [if_neg (Int32.not_lt.mpr c12)] at hz
      refine r_iconst 0 (by decide) (q := 21) dX2_wrongNumber_20 rfl ?_
      exact r_iret hz dX2_wrongNumber_21 (Nat.le_refl _) (Nat.le_refl _) ⟨rfl, rfl, rfl⟩
    · rw [if_pos (Int32.not_le.mp c12)] at hz
      refine r_bipush (-6) (by decide) (q := 17) dX2_wrongNumber_15 rfl ?_
      refine r_goto (q := 21) dX2_wrongNumber_17 rfl ?_
      exact r_iret hz dX2_wrongNumber_21 (Nat.le_refl _) (Nat.le_refl _) ⟨rfl, rfl, rfl⟩
  · rw [if_pos (Int32.not_le.mp c2)] at hz
    refine r_bipush (-4) (by decide) (q := 7) dX2_wrongNumber_5 rfl ?_
    refine r_goto (q := 21) dX2_wrongNumber_7 rfl ?_
    exact r_iret hz dX2_wrongNumber_21 (Nat.le_refl _) (Nat.le_refl _) ⟨rfl, rfl, rfl⟩
/-- a refusal by a number that should lie in 0..k -/
def wbI (wr v k : Int32) : Int32 := if wr = 0 ∧ ¬(0 ≤ v ∧ v ≤ k) then -2 else wr
theorem k_X2_wrongBit {wr v k : Int32} : CtE G yX2_wrongBit cX2_wrongBit 3 (some FieldType.int) 2 [.int wr, .int v, .int k] n h (some (.int (wbI wr v k))) h := by
  refine Ct.intro (k := 0) [some (.int wr), some (.int v), some (.int k)] (by decide) (Nat.le_of_ble_eq_true rfl) rfl fun z hz hin => ?_
  unfold wbI at hz
  refine r_iload_0 (q := 1) dX2_wrongBit_0 rfl ?_
  refine r_if_ne (q := 4) (tgt := 20) dX2_wrongBit_1 rfl rfl (fun c1 => ?_) (fun c1 => ?_)
  · rw [if_neg (fun q => c1 q.1)] at hz
    refine r_iload_0 (q := 21) dX2_wrongBit_20 rfl ?_
    exact r_iret hz dX2_wrongBit_21 (Nat.le_refl _) (Nat.le_refl _) ⟨rfl, rfl, rfl⟩
  refine r_iload_1 (q := 5) dX2_wrongBit_4 rfl ?_
  refine r_i2l (q := 6) dX2_wrongBit_5 rfl ?_
  refine r_lconst 0 (by decide) (q := 7) dX2_wrongBit_6 rfl ?_
  refine r_iload_2 (q := 8) dX2_wrongBit_7 rfl ?_
  refine r_i2l (q := 9) dX2_wrongBit_8 rfl ?_
  refine r_callS_3 cs_X2_71 (by decide) (Nat.le_of_ble_eq_true rfl) ⟨Nat.le_refl _, Nat.le_refl _⟩ (k_X2_in32 (lo := 0) (hi := k) (by decide) rfl) (q := 12) dX2_wrongBit_9 rfl ?_
  refine r_if_ne (q := 15) (tgt := 20) dX2_wrongBit_12 rfl rfl (fun c12 => ?_) (fun c12 => ?_)
  · have h2 := of_decide_eq_true (bI_n0.mp c12)
    rw [if_neg (fun q => q.2 h2)] at hz
    refine r_iload_0 (q := 21) dX2_wrongBit_20 rfl ?_
    exact r_iret hz dX2_wrongBit_21 (Nat.le_refl _) (Nat.le_refl _) ⟨rfl, rfl, rfl⟩
  · have h2 := of_decide_eq_false (bI_0.mp c12)
    rw [if_pos ⟨c1, h2⟩] at hz
    refine r_bipush (-2) (by decide) (q := 17) dX2_wrongBit_15 rfl ?_
    refine r_goto (q := 21) dX2_wrongBit_17 rfl ?_
    exact r_iret hz dX2_wrongBit_21 (Nat.le_refl _) (Nat.le_refl _) ⟨rfl, rfl, rfl⟩
/-! who is asked -/
theorem k_X2_isOne {i : Int32} (K : OKM T j) (e : w.1 = mS T j) : CtE G yX2_isOne cX2_isOne 2 (some FieldType.boolean) 2 [.ref m, .int i] n (mh m w g) (some (.int (bI (isPer T i)))) (mh m w g) := by
  refine Ct.intro (k := 0) [some (.ref m), some (.int i)] (by decide) (Nat.le_of_ble_eq_true rfl) rfl fun z hz hin => ?_
  refine r_iload_1 (q := 1) dX2_isOne_0 rfl ?_
  refine r_i2l (q := 2) dX2_isOne_1 rfl ?_
  refine r_lconst 0 (by decide) (q := 3) dX2_isOne_2 rfl ?_
  refine r_aload_0 (q := 4) dX2_isOne_3 rfl ?_
  refine m_getp gf_X2_68_2 K e (q := 7) dX2_isOne_4 rfl ?_
  refine r_iconst 1 (by decide) (q := 8) dX2_isOne_7 rfl ?_
  refine r_isub (q := 9) dX2_isOne_8 rfl ?_
  refine r_i2l (q := 10) dX2_isOne_9 rfl ?_
  have h6 := K.l6
  have e1 : decide (0 ≤ i ∧ i ≤ nI T.1.length - 1) = isPer T i := by
    unfold isPer
    refine decide_eq_decide.mpr (and_congr_right fun h0 => ?_)
    obtain ⟨a, ha, rfl⟩ := nI_of (x := i) (Int32.not_lt.mpr h0)
    have e0 : nI T.1.length - 1 < 0 ∨ (1 ≤ T.1.length ∧ nI T.1.length - 1 = nI (T.1.length - 1)) := by
      rcases Nat.eq_zero_or_pos T.1.length with z | z
      · left; rw [z]; decide
      · right
        refine ⟨z, ?_⟩
        obtain ⟨k, hk⟩ : ∃ k, T.1.length = k + 1 := ⟨T.1.length - 1, by omega⟩
        rw [hk]
        exact nI_pred k
    rcases e0 with z | ⟨z1, z2⟩
    · have : T.1.length = 0 := by
        rcases Nat.eq_zero_or_pos T.1.length with q | q
        · exact q
        · obtain ⟨k, hk⟩ : ∃ k, T.1.length = k + 1 := ⟨T.1.length - 1, by omega⟩
          rw [hk, nI_pred k] at z
          exact absurd z (nI_pos (by omega))
      rw [this]
      constructor
      · intro q
        exact absurd (Int32.le_trans h0 q) (by decide)
      · intro q
        exact absurd q (nI_pos (by omega))
    · rw [z2, nI_leI (by omega) (by omega), nI_ltI (by omega) (by omega)]
      omega
  refine r_callS_3 cs_X2_71 (by decide) (Nat.le_of_ble_eq_true rfl) ⟨Nat.le_refl _, Nat.le_refl _⟩ (k_X2_in32 (lo := 0) (hi := nI T.1.length - 1) (by decide) rfl) (q := 13) dX2_isOne_10 rfl ?_
  rw [e1]
  exact r_zret hz (by first | exact bI_z _ | rfl) dX2_isOne_13 (Nat.le_refl _) (Nat.le_refl _) ⟨rfl, rfl, rfl⟩
theorem k_X2_areTwo {i k : Int32} (K : OKM T j) (e : w.1 = mS T j) : CtE G yX2_areTwo cX2_areTwo 3 (some FieldType.boolean) 3 [.ref m, .int i, .int k] n (mh m w g) (some (.int (bI (areTw T i k)))) (mh m w g) := by
  refine Ct.intro (k := 0) [some (.ref m), some (.int i), some (.int k)] (by decide) (Nat.le_of_ble_eq_true rfl) rfl fun z hz hin => ?_
  have fin : ∀ t : Bool, t = areTw T i k → J G z cX2_areTwo 3 RX2 3 0 0 0 0 26 [some (.ref m), some (.int i), some (.int k)] [.int (bI t)] n (mh m w g) := by
    intro t ht
    exact r_zret hz (by first | exact bI_z _ | rfl) dX2_areTwo_26 (Nat.le_refl _) (Nat.le_refl _) ⟨by rw [ht], rfl, rfl⟩
  have no : false = areTw T i k → J G z cX2_areTwo 3 RX2 3 0 0 0 0 25 [some (.ref m), some (.int i), some (.int k)] [] n (mh m w g) := by
    intro ht
    refine r_iconst 0 (by decide) (q := 26) dX2_areTwo_25 rfl ?_
    exact fin false ht
  refine r_aload_0 (q := 1) dX2_areTwo_0 rfl ?_
  refine r_iload_1 (q := 2) dX2_areTwo_1 rfl ?_
  refine r_callV_1 cv_X2_75 mh_o rfl (by decide) (Nat.le_of_ble_eq_true rfl) ⟨Nat.le_refl _, Nat.le_refl _⟩ (k_X2_isOne K e) (q := 5) dX2_areTwo_2 rfl ?_
  refine r_if_eq (q := 8) (tgt := 25) dX2_areTwo_5 rfl rfl (fun c5 => ?_) (fun c5 => ?_)
  · exact no (by unfold areTw; rw [bI_0.mp c5]; rfl)
  refine r_aload_0 (q := 9) dX2_areTwo_8 rfl ?_
  refine r_iload_2 (q := 10) dX2_areTwo_9 rfl ?_
  refine r_callV_1 cv_X2_75 mh_o rfl (by decide) (Nat.le_of_ble_eq_true rfl) ⟨Nat.le_refl _, Nat.le_refl _⟩ (k_X2_isOne K e) (q := 13) dX2_areTwo_10 rfl ?_
  refine r_if_eq (q := 16) (tgt := 25) dX2_areTwo_13 rfl rfl (fun c13 => ?_) (fun c13 => ?_)
  · exact no (by unfold areTw; rw [bI_0.mp c13, Bool.false_and, Bool.and_false])
  refine r_iload_1 (q := 17) dX2_areTwo_16 rfl ?_
  refine r_iload_2 (q := 18) dX2_areTwo_17 rfl ?_
  refine r_icmp_eq (q := 21) (tgt := 25) dX2_areTwo_18 rfl rfl (fun c18 => ?_) (fun c18 => ?_)
  · exact no (by unfold areTw; rw [decide_eq_false (fun z => z c18), Bool.and_false, Bool.and_false])
  refine r_iconst 1 (by decide) (q := 22) dX2_areTwo_21 rfl ?_
  refine r_goto (q := 26) dX2_areTwo_22 rfl ?_
  exact fin true (by unfold areTw; rw [bI_n0.mp c5, bI_n0.mp c13, decide_eq_true c18]; rfl)
theorem k_X2_refuse {c : Int32} (hc : isC c) (hl : (ma6 w).length = 7) : CtE G yX2_refuse cX2_refuse 2 (some FieldType.int) 1 [.ref m, .int c] n (mh m w g) (some (.int c)) (mh m (sa6 w (bump (ma6 w) c)) g) := by
  refine Ct.intro (k := 0) [some (.ref m), some (.int c)] (by decide) (Nat.le_of_ble_eq_true rfl) rfl fun z hz hin => ?_
  refine r_aload_0 (q := 1) dX2_refuse_0 rfl ?_
  refine r_get gf_X2_25_2 mh_o rfl (q := 4) dX2_refuse_1 rfl ?_
  refine r_iload_1 (q := 5) dX2_refuse_4 rfl ?_
  refine r_ineg (q := 6) dX2_refuse_5 rfl ?_
  refine r_dup2 rfl rfl (q := 7) dX2_refuse_6 rfl ?_
  refine r_iald (rfn c) 7 mh_6 hl (rfn_ok hc).1 (rfn_ok hc).2 (by decide) (q := 8) dX2_refuse_7 rfl ?_
  refine r_iconst 1 (by decide) (q := 9) dX2_refuse_8 rfl ?_
  refine r_iadd (q := 10) dX2_refuse_9 rfl ?_
  refine r_iast (rfn c) 7 mh_6 hl (rfn_ok hc).1 (rfn_ok hc).2 (by decide) (q := 11) dX2_refuse_10 rfl ?_
  refine J.heap mset_6 ?_
  refine r_iload_1 (q := 12) dX2_refuse_11 rfl ?_
  exact r_iret hz dX2_refuse_12 (Nat.le_refl _) (Nat.le_refl _) ⟨rfl, rfl, rfl⟩
/-! people, quarrels -/
theorem nd5 : ∀ f, f < 10 → nI f / 5 = nI (f / 5) ∧ nI f / 3 = nI (f / 3) ∧ nI f / 2 = nI (f / 2) ∧ nI f / 5 + 1 = nI (f / 5 + 1) ∧ nI f + 3 = nI (f + 3) ∧ nI f / 2 + 4 = nI (f / 2 + 4) := by decide +kernel
theorem k_X2_softOf {a : Nat} (K : OKM T j) (e : w.1 = mS T j) (ha : a < T.1.length) : CtE G yX2_softOf cX2_softOf 2 (some FieldType.int) 1 [.ref m, .int (nI a)] n (mh m w g) (some (.int (nI (softN (pr T a).1 (pr T a).2)))) (mh m w g) := by
  refine Ct.intro (k := 0) [some (.ref m), some (.int (nI a))] (by decide) (Nat.le_of_ble_eq_true rfl) rfl fun z hz hin => ?_
  obtain ⟨hk, hf⟩ := vs_pr K.vals ha
  refine r_aload_0 (q := 1) dX2_softOf_0 rfl ?_
  refine r_get gf_X2_7_2 mh_o rfl (q := 4) dX2_softOf_1 rfl ?_
  refine r_iload_1 (q := 5) dX2_softOf_4 rfl ?_
  refine m_ald1 K e ha (q := 6) dX2_softOf_5 rfl ?_
  generalize hp : pr T a = p at hk hf hz ⊢
  obtain ⟨k, f⟩ := p
  obtain ⟨n1, n2, n3, n4, n5, n6⟩ := nd5 f hf
  have hp2 : (pr T a).2 = f := by rw [hp]
  match k, hk with
  | 0, _ =>
    refine J.topi (y := nI 0) rfl ?_
    refine r_tableOut dX2_softOf_6 (Or.inl (by decide)) (q := 66) rfl ?_
    refine r_iconst 1 (by decide) (q := 67) dX2_softOf_66 rfl ?_
    exact r_iret hz dX2_softOf_67 (Nat.le_refl _) (Nat.le_refl _) ⟨rfl, rfl, rfl⟩
  | 1, _ =>
    refine J.topi (y := nI 1) rfl ?_
    refine r_tableIn dX2_softOf_6 (by decide) (by decide) (off := 34) (by decide) (q := 40) rfl ?_
    refine r_aload_0 (q := 41) dX2_softOf_40 rfl ?_
    refine r_get gf_X2_13_2 mh_o rfl (q := 44) dX2_softOf_41 rfl ?_
    refine r_iload_1 (q := 45) dX2_softOf_44 rfl ?_
    refine m_ald2 K e ha (q := 46) dX2_softOf_45 rfl ?_
    rw [hp2]
    refine r_iconst 5 (by decide) (q := 47) dX2_softOf_46 rfl ?_
    refine r_idiv (by decide) (q := 48) dX2_softOf_47 rfl ?_
    rw [n1]
    exact r_iret hz dX2_softOf_48 (Nat.le_refl _) (Nat.le_refl _) ⟨rfl, rfl, rfl⟩
  | 2, _ =>
    refine J.topi (y := nI 2) rfl ?_
    refine r_tableIn dX2_softOf_6 (by decide) (by decide) (off := 43) (by decide) (q := 49) rfl ?_
    refine r_iconst 3 (by decide) (q := 50) dX2_softOf_49 rfl ?_
    exact r_iret hz dX2_softOf_50 (Nat.le_refl _) (Nat.le_refl _) ⟨rfl, rfl, rfl⟩
  | 3, _ =>
    refine J.topi (y := nI 3) rfl ?_
    refine r_tableIn dX2_softOf_6 (by decide) (by decide) (off := 45) (by decide) (q := 51) rfl ?_
    refine r_iconst 2 (by decide) (q := 52) dX2_softOf_51 rfl ?_
    exact r_iret hz dX2_softOf_52 (Nat.le_refl _) (Nat.le_refl _) ⟨rfl, rfl, rfl⟩
  | 4, _ =>
    refine J.topi (y := nI 4) rfl ?_
    refine r_tableIn dX2_softOf_6 (by decide) (by decide) (off := 47) (by decide) (q := 53) rfl ?_
    refine r_aload_0 (q := 54) dX2_softOf_53 rfl ?_
    refine r_get gf_X2_13_2 mh_o rfl (q := 57) dX2_softOf_54 rfl ?_
    refine r_iload_1 (q := 58) dX2_softOf_57 rfl ?_
    refine m_ald2 K e ha (q := 59) dX2_softOf_58 rfl ?_
    rw [hp2]
    refine r_iconst 5 (by decide) (q := 60) dX2_softOf_59 rfl ?_
    refine r_idiv (by decide) (q := 61) dX2_softOf_60 rfl ?_
    refine r_iconst 1 (by decide) (q := 62) dX2_softOf_61 rfl ?_
    refine r_iadd (q := 63) dX2_softOf_62 rfl ?_
    rw [n4]
    exact r_iret hz dX2_softOf_63 (Nat.le_refl _) (Nat.le_refl _) ⟨rfl, rfl, rfl⟩
  | 5, _ =>
    refine J.topi (y := nI 5) rfl ?_
    refine r_tableIn dX2_softOf_6 (by decide) (by decide) (off := 58) (by decide) (q := 64) rfl ?_
    refine r_iconst 4 (by decide) (q := 65) dX2_softOf_64 rfl ?_
    exact r_iret hz dX2_softOf_65 (Nat.le_refl _) (Nat.le_refl _) ⟨rfl, rfl, rfl⟩
theorem k_X2_soreOf {a : Nat} (K : OKM T j) (e : w.1 = mS T j) (ha : a < T.1.length) : CtE G yX2_soreOf cX2_soreOf 2 (some FieldType.int) 1 [.ref m, .int (nI a)] n (mh m w g) (some (.int (nI (soreN (pr T a).1 (pr T a).2)))) (mh m w g) := by
  refine Ct.intro (k := 0) [some (.ref m), some (.int (nI a))] (by decide) (Nat.le_of_ble_eq_true rfl) rfl fun z hz hin => ?_
  obtain ⟨hk, hf⟩ := vs_pr K.vals ha
  refine r_aload_0 (q := 1) dX2_soreOf_0 rfl ?_
  refine r_get gf_X2_7_2 mh_o rfl (q := 4) dX2_soreOf_1 rfl ?_
  refine r_iload_1 (q := 5) dX2_soreOf_4 rfl ?_
  refine m_ald1 K e ha (q := 6) dX2_soreOf_5 rfl ?_
  generalize hp : pr T a = p at hk hf hz ⊢
  obtain ⟨k, f⟩ := p
  obtain ⟨n1, n2, n3, n4, n5, n6⟩ := nd5 f hf
  have hp2 : (pr T a).2 = f := by rw [hp]
  match k, hk with
  | 0, _ =>
    refine J.topi (y := nI 0) rfl ?_
    refine r_tableOut dX2_soreOf_6 (Or.inl (by decide)) (q := 53) rfl ?_
    refine r_iconst 1 (by decide) (q := 54) dX2_soreOf_53 rfl ?_
    exact r_iret hz dX2_soreOf_54 (Nat.le_refl _) (Nat.le_refl _) ⟨rfl, rfl, rfl⟩
  | 1, _ =>
    refine J.topi (y := nI 1) rfl ?_
    refine r_tableIn dX2_soreOf_6 (by decide) (by decide) (off := 34) (by decide) (q := 40) rfl ?_
    refine r_iconst 3 (by decide) (q := 41) dX2_soreOf_40 rfl ?_
    exact r_iret hz dX2_soreOf_41 (Nat.le_refl _) (Nat.le_refl _) ⟨rfl, rfl, rfl⟩
  | 2, _ =>
    refine J.topi (y := nI 2) rfl ?_
    refine r_tableIn dX2_soreOf_6 (by decide) (by decide) (off := 36) (by decide) (q := 42) rfl ?_
    refine r_iconst 0 (by decide) (q := 43) dX2_soreOf_42 rfl ?_
    exact r_iret hz dX2_soreOf_43 (Nat.le_refl _) (Nat.le_refl _) ⟨rfl, rfl, rfl⟩
  | 3, _ =>
    refine J.topi (y := nI 3) rfl ?_
    refine r_tableIn dX2_soreOf_6 (by decide) (by decide) (off := 38) (by decide) (q := 44) rfl ?_
    refine r_aload_0 (q := 45) dX2_soreOf_44 rfl ?_
    refine r_get gf_X2_13_2 mh_o rfl (q := 48) dX2_soreOf_45 rfl ?_
    refine r_iload_1 (q := 49) dX2_soreOf_48 rfl ?_
    refine m_ald2 K e ha (q := 50) dX2_soreOf_49 rfl ?_
    rw [hp2]
    refine r_iconst 3 (by decide) (q := 51) dX2_soreOf_50 rfl ?_
    refine r_idiv (by decide) (q := 52) dX2_soreOf_51 rfl ?_
    rw [n2]
    exact r_iret hz dX2_soreOf_52 (Nat.le_refl _) (Nat.le_refl _) ⟨rfl, rfl, rfl⟩
  | 4, _ =>
    refine J.topi (y := nI 4) rfl ?_
    refine r_tableIn dX2_soreOf_6 (by decide) (by decide) (off := 47) (by decide) (q := 53) rfl ?_
    refine r_iconst 1 (by decide) (q := 54) dX2_soreOf_53 rfl ?_
    exact r_iret hz dX2_soreOf_54 (Nat.le_refl _) (Nat.le_refl _) ⟨rfl, rfl, rfl⟩
  | 5, _ =>
    refine J.topi (y := nI 5) rfl ?_
    refine r_tableIn dX2_soreOf_6 (by decide) (by decide) (off := 38) (by decide) (q := 44) rfl ?_
    refine r_aload_0 (q := 45) dX2_soreOf_44 rfl ?_
    refine r_get gf_X2_13_2 mh_o rfl (q := 48) dX2_soreOf_45 rfl ?_
    refine r_iload_1 (q := 49) dX2_soreOf_48 rfl ?_
    refine m_ald2 K e ha (q := 50) dX2_soreOf_49 rfl ?_
    rw [hp2]
    refine r_iconst 3 (by decide) (q := 51) dX2_soreOf_50 rfl ?_
    refine r_idiv (by decide) (q := 52) dX2_soreOf_51 rfl ?_
    rw [n2]
    exact r_iret hz dX2_soreOf_52 (Nat.le_refl _) (Nat.le_refl _) ⟨rfl, rfl, rfl⟩
theorem k_X2_charmOf {a : Nat} (K : OKM T j) (e : w.1 = mS T j) (ha : a < T.1.length) : CtE G yX2_charmOf cX2_charmOf 2 (some FieldType.int) 1 [.ref m, .int (nI a)] n (mh m w g) (some (.int (nI (charmN (pr T a).1 (pr T a).2)))) (mh m w g) := by
  refine Ct.intro (k := 0) [some (.ref m), some (.int (nI a))] (by decide) (Nat.le_of_ble_eq_true rfl) rfl fun z hz hin => ?_
  obtain ⟨hk, hf⟩ := vs_pr K.vals ha
  refine r_aload_0 (q := 1) dX2_charmOf_0 rfl ?_
  refine r_get gf_X2_7_2 mh_o rfl (q := 4) dX2_charmOf_1 rfl ?_
  refine r_iload_1 (q := 5) dX2_charmOf_4 rfl ?_
  refine m_ald1 K e ha (q := 6) dX2_charmOf_5 rfl ?_
  generalize hp : pr T a = p at hk hf hz ⊢
  obtain ⟨k, f⟩ := p
  obtain ⟨n1, n2, n3, n4, n5, n6⟩ := nd5 f hf
  have hp2 : (pr T a).2 = f := by rw [hp]
  match k, hk with
  | 0, _ =>
    refine J.topi (y := nI 0) rfl ?_
    refine r_tableOut dX2_charmOf_6 (Or.inl (by decide)) (q := 74) rfl ?_
    refine r_aload_0 (q := 75) dX2_charmOf_74 rfl ?_
    refine r_get gf_X2_13_2 mh_o rfl (q := 78) dX2_charmOf_75 rfl ?_
    refine r_iload_1 (q := 79) dX2_charmOf_78 rfl ?_
    refine m_ald2 K e ha (q := 80) dX2_charmOf_79 rfl ?_
    rw [hp2]
    exact r_iret hz dX2_charmOf_80 (Nat.le_refl _) (Nat.le_refl _) ⟨rfl, rfl, rfl⟩
  | 1, _ =>
    refine J.topi (y := nI 1) rfl ?_
    refine r_tableIn dX2_charmOf_6 (by decide) (by decide) (off := 34) (by decide) (q := 40) rfl ?_
    refine r_aload_0 (q := 41) dX2_charmOf_40 rfl ?_
    refine r_get gf_X2_13_2 mh_o rfl (q := 44) dX2_charmOf_41 rfl ?_
    refine r_iload_1 (q := 45) dX2_charmOf_44 rfl ?_
    refine m_ald2 K e ha (q := 46) dX2_charmOf_45 rfl ?_
    rw [hp2]
    refine r_iconst 2 (by decide) (q := 47) dX2_charmOf_46 rfl ?_
    refine r_idiv (by decide) (q := 48) dX2_charmOf_47 rfl ?_
    rw [n3]
    exact r_iret hz dX2_charmOf_48 (Nat.le_refl _) (Nat.le_refl _) ⟨rfl, rfl, rfl⟩
  | 2, _ =>
    refine J.topi (y := nI 2) rfl ?_
    refine r_tableIn dX2_charmOf_6 (by decide) (by decide) (off := 43) (by decide) (q := 49) rfl ?_
    refine r_aload_0 (q := 50) dX2_charmOf_49 rfl ?_
    refine r_get gf_X2_13_2 mh_o rfl (q := 53) dX2_charmOf_50 rfl ?_
    refine r_iload_1 (q := 54) dX2_charmOf_53 rfl ?_
    refine m_ald2 K e ha (q := 55) dX2_charmOf_54 rfl ?_
    rw [hp2]
    refine r_iconst 3 (by decide) (q := 56) dX2_charmOf_55 rfl ?_
    refine r_iadd (q := 57) dX2_charmOf_56 rfl ?_
    rw [n5]
    exact r_iret hz dX2_charmOf_57 (Nat.le_refl _) (Nat.le_refl _) ⟨rfl, rfl, rfl⟩
  | 3, _ =>
    refine J.topi (y := nI 3) rfl ?_
    refine r_tableIn dX2_charmOf_6 (by decide) (by decide) (off := 52) (by decide) (q := 58) rfl ?_
    refine r_iconst 0 (by decide) (q := 59) dX2_charmOf_58 rfl ?_
    exact r_iret hz dX2_charmOf_59 (Nat.le_refl _) (Nat.le_refl _) ⟨rfl, rfl, rfl⟩
  | 4, _ =>
    refine J.topi (y := nI 4) rfl ?_
    refine r_tableIn dX2_charmOf_6 (by decide) (by decide) (off := 54) (by decide) (q := 60) rfl ?_
    refine r_aload_0 (q := 61) dX2_charmOf_60 rfl ?_
    refine r_get gf_X2_13_2 mh_o rfl (q := 64) dX2_charmOf_61 rfl ?_
    refine r_iload_1 (q := 65) dX2_charmOf_64 rfl ?_
    refine m_ald2 K e ha (q := 66) dX2_charmOf_65 rfl ?_
    rw [hp2]
    refine r_iconst 2 (by decide) (q := 67) dX2_charmOf_66 rfl ?_
    refine r_idiv (by decide) (q := 68) dX2_charmOf_67 rfl ?_
    refine r_iconst 4 (by decide) (q := 69) dX2_charmOf_68 rfl ?_
    refine r_iadd (q := 70) dX2_charmOf_69 rfl ?_
    rw [n6]
    exact r_iret hz dX2_charmOf_70 (Nat.le_refl _) (Nat.le_refl _) ⟨rfl, rfl, rfl⟩
  | 5, _ =>
    refine J.topi (y := nI 5) rfl ?_
    refine r_tableIn dX2_charmOf_6 (by decide) (by decide) (off := 65) (by decide) (q := 71) rfl ?_
    refine r_bipush 9 (by decide) (q := 73) dX2_charmOf_71 rfl ?_
    exact r_iret hz dX2_charmOf_73 (Nat.le_refl _) (Nat.le_refl _) ⟨rfl, rfl, rfl⟩
theorem k_X2_quarrelOf {a b : Nat} (K : OKM T j) (e : w.1 = mS T j) (ha : a < 6) (hb : b < 6) : CtE G yX2_quarrelOf cX2_quarrelOf 3 (some FieldType.int) 1 [.ref m, .int (nI a), .int (nI b)] n (mh m w g) (some (.int (nI (qr T a b)))) (mh m w g) := by
  refine Ct.intro (k := 0) [some (.ref m), some (.int (nI a)), some (.int (nI b))] (by decide) (Nat.le_of_ble_eq_true rfl) rfl fun z hz hin => ?_
  refine r_aload_0 (q := 1) dX2_quarrelOf_0 rfl ?_
  refine r_get gf_X2_22_2 mh_o rfl (q := 4) dX2_quarrelOf_1 rfl ?_
  refine r_bipush 6 (by decide) (q := 6) dX2_quarrelOf_4 rfl ?_
  refine r_iload_1 (q := 7) dX2_quarrelOf_6 rfl ?_
  refine r_imul (q := 8) dX2_quarrelOf_7 rfl ?_
  refine r_iload_2 (q := 9) dX2_quarrelOf_8 rfl ?_
  refine r_iadd (q := 10) dX2_quarrelOf_9 rfl ?_
  refine r_ialdN (6 * a + b) 36 mh_5 (by rw [e]; exact K.lens.2.2.2.1) (ix6 a b) (by omega) (by decide) (q := 11) dX2_quarrelOf_10 rfl ?_
  rw [e]
  exact r_iret hz dX2_quarrelOf_11 (Nat.le_refl _) (Nat.le_refl _) ⟨rfl, rfl, rfl⟩
theorem k_X2_setQuarrel {a b v : Nat} (K : OKM T j) (e : w.1 = mS T j) (ha : a < 6) (hb : b < 6) : CtE G yX2_setQuarrel cX2_setQuarrel 4 none 1 [.ref m, .int (nI a), .int (nI b), .int (nI v)] n (mh m w g) none (mh m (sS w (mS (setQr T a b v) j)) g) := by
  refine Ct.intro (k := 0) [some (.ref m), some (.int (nI a)), some (.int (nI b)), some (.int (nI v))] (by decide) (Nat.le_of_ble_eq_true rfl) rfl fun z hz hin => ?_
  refine r_aload_0 (q := 1) dX2_setQuarrel_0 rfl ?_
  refine r_get gf_X2_22_2 mh_o rfl (q := 4) dX2_setQuarrel_1 rfl ?_
  refine r_bipush 6 (by decide) (q := 6) dX2_setQuarrel_4 rfl ?_
  refine r_iload_1 (q := 7) dX2_setQuarrel_6 rfl ?_
  refine r_imul (q := 8) dX2_setQuarrel_7 rfl ?_
  refine r_iload_2 (q := 9) dX2_setQuarrel_8 rfl ?_
  refine r_iadd (q := 10) dX2_setQuarrel_9 rfl ?_
  refine r_iload_3 (q := 11) dX2_setQuarrel_10 rfl ?_
  refine r_iastN (6 * a + b) 36 v mh_5 (by rw [e]; exact K.lens.2.2.2.1) (ix6 a b) rfl (by omega) (by decide) (q := 12) dX2_setQuarrel_11 rfl ?_
  rw [mset_5, e]
  refine r_aload_0 (q := 13) dX2_setQuarrel_12 rfl ?_
  refine r_get gf_X2_22_2 mh_o rfl (q := 16) dX2_setQuarrel_13 rfl ?_
  refine r_bipush 6 (by decide) (q := 18) dX2_setQuarrel_16 rfl ?_
  refine r_iload_2 (q := 19) dX2_setQuarrel_18 rfl ?_
  refine r_imul (q := 20) dX2_setQuarrel_19 rfl ?_
  refine r_iload_1 (q := 21) dX2_setQuarrel_20 rfl ?_
  refine r_iadd (q := 22) dX2_setQuarrel_21 rfl ?_
  refine r_iload_3 (q := 23) dX2_setQuarrel_22 rfl ?_
  refine r_iastN (6 * b + a) 36 v mh_5 (lens_setQ1 (a := 6 * a + b) (v := v) K.lens).2.2.2.1 (ix6 b a) rfl (by omega) (by decide) (q := 24) dX2_setQuarrel_23 rfl ?_
  rw [mset_5]
  exact r_vret hz dX2_setQuarrel_24 (Nat.le_refl _) (Nat.le_refl _) ⟨rfl, rfl, rfl⟩
theorem k_X2_likesOf {a b : Nat} (K : OKM T j) (e : w.1 = mS T j) (ha : a < T.1.length) (hb : b < T.1.length) : CtE G yX2_likesOf cX2_likesOf 3 (some FieldType.int) 2 [.ref m, .int (nI a), .int (nI b)] n (mh m w g) (some (.int (likS T a b))) (mh m w g) := by
  refine Ct.intro (k := 0) [some (.ref m), some (.int (nI a)), some (.int (nI b))] (by decide) (Nat.le_of_ble_eq_true rfl) rfl fun z hz hin => ?_
  have h6 := K.l6
  obtain ⟨e1, e2⟩ := and32 (hr T a) (Nat.lt_succ_of_le (K.hr31 a)) (hr T b) (Nat.lt_succ_of_le (K.hr31 b))
  refine r_bipush 60 (by decide) (q := 2) dX2_likesOf_0 rfl ?_
  refine r_aload_0 (q := 3) dX2_likesOf_2 rfl ?_
  refine r_iload_1 (q := 4) dX2_likesOf_3 rfl ?_
  refine r_iload_2 (q := 5) dX2_likesOf_4 rfl ?_
  refine r_callV_2 cv_X2_79 mh_o rfl (by decide) (Nat.le_of_ble_eq_true rfl) ⟨Nat.le_refl _, Nat.le_refl _⟩ (k_X2_quarrelOf K e (by omega) (by omega)) (q := 8) dX2_likesOf_5 rfl ?_
  refine r_isub (q := 9) dX2_likesOf_8 rfl ?_
  refine r_aload_0 (q := 10) dX2_likesOf_9 rfl ?_
  refine r_get gf_X2_16_2 mh_o rfl (q := 13) dX2_likesOf_10 rfl ?_
  refine r_iload_1 (q := 14) dX2_likesOf_13 rfl ?_
  refine m_ald3 K e (by omega) (q := 15) dX2_likesOf_14 rfl ?_
  refine r_aload_0 (q := 16) dX2_likesOf_15 rfl ?_
  refine r_get gf_X2_16_2 mh_o rfl (q := 19) dX2_likesOf_16 rfl ?_
  refine r_iload_2 (q := 20) dX2_likesOf_19 rfl ?_
  refine m_ald3 K e (by omega) (q := 21) dX2_likesOf_20 rfl ?_
  refine r_iand (q := 22) dX2_likesOf_21 rfl ?_
  refine J.topi e1 ?_
  refine r_callS_1 cs_X2_83 (by decide) (Nat.le_of_ble_eq_true rfl) ⟨Nat.le_refl _, Nat.le_refl _⟩ (k_X2_onesOf (by omega)) (q := 25) dX2_likesOf_22 rfl ?_
  refine r_iadd (q := 26) dX2_likesOf_25 rfl ?_
  refine r_aload_0 (q := 27) dX2_likesOf_26 rfl ?_
  refine r_iload_2 (q := 28) dX2_likesOf_27 rfl ?_
  refine r_callV_1 cv_X2_87 mh_o rfl (by decide) (Nat.le_of_ble_eq_true rfl) ⟨Nat.le_refl _, Nat.le_refl _⟩ (k_X2_charmOf K e hb) (q := 31) dX2_likesOf_28 rfl ?_
  refine r_iadd (q := 32) dX2_likesOf_31 rfl ?_
  exact r_iret hz dX2_likesOf_32 (Nat.le_refl _) (Nat.le_refl _) ⟨rfl, rfl, rfl⟩
theorem k_X2_ratherThanMate {a b : Nat} (K : OKM T j) (e : w.1 = mS T j) (ha : a < T.1.length) (hb : b < T.1.length) : CtE G yX2_ratherThanMate cX2_ratherThanMate 3 (some FieldType.boolean) 3 [.ref m, .int (nI a), .int (nI b)] n (mh m w g) (some (.int (bI (rathS T a b)))) (mh m w g) := by
  refine Ct.intro (k := 0) [some (.ref m), some (.int (nI a)), some (.int (nI b))] (by decide) (Nat.le_of_ble_eq_true rfl) rfl fun z hz hin => ?_
  have h6 := K.l6
  have fin : ∀ t : Bool, t = rathS T a b → J G z cX2_ratherThanMate 3 RX2 3 0 0 0 0 53 [some (.ref m), some (.int (nI a)), some (.int (nI b))] [.int (bI t)] n (mh m w g) := by
    intro t ht
    exact r_zret hz (by first | exact bI_z _ | rfl) dX2_ratherThanMate_53 (Nat.le_refl _) (Nat.le_refl _) ⟨by rw [ht], rfl, rfl⟩
  refine r_aload_0 (q := 1) dX2_ratherThanMate_0 rfl ?_
  refine r_get gf_X2_19_2 mh_o rfl (q := 4) dX2_ratherThanMate_1 rfl ?_
  refine r_iload_1 (q := 5) dX2_ratherThanMate_4 rfl ?_
  refine m_ald4 K e (by omega) (q := 6) dX2_ratherThanMate_5 rfl ?_
  cases em : mt T a with
  | none =>
    refine r_if_ge (q := 9) (tgt := 28) dX2_ratherThanMate_6 rfl rfl (fun c6 => ?_) (fun c6 => ?_)
    · exact absurd c6 (by decide)
    refine r_aload_0 (q := 10) dX2_ratherThanMate_9 rfl ?_
    refine r_iload_1 (q := 11) dX2_ratherThanMate_10 rfl ?_
    refine r_iload_2 (q := 12) dX2_ratherThanMate_11 rfl ?_
    refine r_callV_2 cv_X2_90 mh_o rfl (by decide) (Nat.le_of_ble_eq_true rfl) ⟨Nat.le_refl _, Nat.le_refl _⟩ (k_X2_likesOf K e (by omega) (by omega)) (q := 15) dX2_ratherThanMate_12 rfl ?_
    refine r_bipush 50 (by decide) (q := 17) dX2_ratherThanMate_15 rfl ?_
    refine r_icmp_lt (q := 20) (tgt := 24) dX2_ratherThanMate_17 rfl rfl (fun c17 => ?_) (fun c17 => ?_)
    · refine r_iconst 0 (by decide) (q := 25) dX2_ratherThanMate_24 rfl ?_
      refine r_goto (q := 53) dX2_ratherThanMate_25 rfl ?_
      exact fin false (by unfold rathS; rw [em]; exact (decide_eq_false (Int32.not_le.mpr c17)).symm)
    · refine r_iconst 1 (by decide) (q := 21) dX2_ratherThanMate_20 rfl ?_
      refine r_goto (q := 53) dX2_ratherThanMate_21 rfl ?_
      exact fin true (by unfold rathS; rw [em]; exact (decide_eq_true (Int32.not_lt.mp c17)).symm)
  | some b' =>
    have hb' := K.mtl ha em
    refine r_if_ge (q := 9) (tgt := 28) dX2_ratherThanMate_6 rfl rfl (fun c6 => ?_) (fun c6 => ?_)
    · refine r_aload_0 (q := 29) dX2_ratherThanMate_28 rfl ?_
      refine r_iload_1 (q := 30) dX2_ratherThanMate_29 rfl ?_
      refine r_iload_2 (q := 31) dX2_ratherThanMate_30 rfl ?_
      refine r_callV_2 cv_X2_90 mh_o rfl (by decide) (Nat.le_of_ble_eq_true rfl) ⟨Nat.le_refl _, Nat.le_refl _⟩ (k_X2_likesOf K e (by omega) (by omega)) (q := 34) dX2_ratherThanMate_31 rfl ?_
      refine r_aload_0 (q := 35) dX2_ratherThanMate_34 rfl ?_
      refine r_iload_1 (q := 36) dX2_ratherThanMate_35 rfl ?_
      refine r_aload_0 (q := 37) dX2_ratherThanMate_36 rfl ?_
      refine r_get gf_X2_19_2 mh_o rfl (q := 40) dX2_ratherThanMate_37 rfl ?_
      refine r_iload_1 (q := 41) dX2_ratherThanMate_40 rfl ?_
      refine m_ald4 K e (by omega) (q := 42) dX2_ratherThanMate_41 rfl ?_
      refine J.topi (show mI (mt T a) = nI b' by rw [em]; rfl) ?_
      refine r_callV_2 cv_X2_90 mh_o rfl (by decide) (Nat.le_of_ble_eq_true rfl) ⟨Nat.le_refl _, Nat.le_refl _⟩ (k_X2_likesOf K e (by omega) (by omega)) (q := 45) dX2_ratherThanMate_42 rfl ?_
      refine r_icmp_le (q := 48) (tgt := 52) dX2_ratherThanMate_45 rfl rfl (fun c45 => ?_) (fun c45 => ?_)
      · refine r_iconst 0 (by decide) (q := 53) dX2_ratherThanMate_52 rfl ?_
        exact fin false (by unfold rathS; rw [em]; exact (decide_eq_false (Int32.not_lt.mpr c45)).symm)
      · refine r_iconst 1 (by decide) (q := 49) dX2_ratherThanMate_48 rfl ?_
        refine r_goto (q := 53) dX2_ratherThanMate_49 rfl ?_
        exact fin true (by unfold rathS; rw [em]; exact (decide_eq_true (Int32.not_le.mp c45)).symm)
    · exact absurd (nI_pos' (by omega)) c6
end MST


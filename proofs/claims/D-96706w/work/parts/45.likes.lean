/-! ===== likes, who leaves, sums ===== -/
theorem and32 : ∀ x, x < 32 → ∀ y, y < 32 → nI x &&& nI y = nI (x &&& y) ∧ x &&& y < 32 := by decide +kernel
def likS (S : SQ) (a b : Nat) : Int32 := 60 - nI (qr S a b) + nI (pop (hr S a &&& hr S b)) + nI (charmN (pr S b).1 (pr S b).2)
/-- rather with b than as he is -/
def rathS (S : SQ) (a b : Nat) : Bool := match mt S a with
  | none => decide (50 ≤ likS S a b)
  | some m => decide (likS S a m < likS S a b)
def wouldS (S : SQ) (a b : Nat) : Bool := decide (a ≠ b) && rathS S a b
def leavS (S : SQ) (a b : Nat) : Bool := decide (mt S a ≠ some b) && (wouldS S a b && wouldS S b a)
def ridS (S : SQ) (a : Nat) : Bool := match mt S a with
  | none => false
  | some m => decide (likS S a m < 50)
def stabS (S : SQ) : Bool := decide (∀ a, a < S.1.length → ridS S a = false ∧ ∀ b, b < S.1.length → a < b → leavS S a b = false)
def allI (S : SQ) (a : Nat) (acc : Int32) : Int32 := forR (fun b acc => acc + nI (qr S a b)) (a + 1) (S.1.length - (a + 1)) acc
def allS (S : SQ) : Int32 := forR (allI S) 0 S.1.length 0
def zeroI (S : SQ) (a : Nat) (acc : Int32) : Int32 := forR (fun b acc => acc + (if qr S a b = 0 then 1 else 0)) (a + 1) (S.1.length - (a + 1)) acc
def zerosS (S : SQ) : Int32 := forR (zeroI S) 0 S.1.length 0
def matI (S : SQ) (a : Nat) (acc : Int32) : Int32 := acc + (match mt S a with
  | some b => if a < b then 1 else 0
  | none => 0)
def matsS (S : SQ) : Int32 := forR (matI S) 0 S.1.length 0
def alikI (S : SQ) (a : Nat) (acc : Int32) : Int32 := acc + (match mt S a with
  | some b => likS S a b
  | none => 0)
def alikS (S : SQ) : Int32 := forR (alikI S) 0 S.1.length 0
theorem mI_le {o : Option Nat} {a : Nat} (ha : a < 2 ^ 30) (ho : ∀ b, o = some b → b < 2 ^ 30) : mI o ≤ nI a ↔ ∀ b, o = some b → b ≤ a := by
  cases o with
  | none => exact ⟨fun _ _ e => (by cases e), fun _ => Int32.le_trans (by decide : mI none ≤ 0) (nI_pos' (by omega))⟩
  | some b =>
    have hb := ho b rfl
    constructor
    · intro h c e
      cases e
      rcases Nat.lt_or_ge a b with q | q
      · exact absurd h (nI_ge q (by omega))
      · exact q
    · intro h
      exact nI_le (h b rfl) (by omega)
theorem mI_eq {o : Option Nat} {a : Nat} (ha : a < 2 ^ 30) (ho : ∀ b, o = some b → b < 2 ^ 30) : mI o = nI a ↔ o = some a := by
  cases o with
  | none =>
    constructor
    · intro h
      have h1 : nI a < 0 := by rw [← h]; decide
      exact absurd h1 (nI_pos (by omega))
    · intro h; cases h
  | some b =>
    have hb := ho b rfl
    constructor
    · intro h
      rw [nI_inj (a := b) (b := a) (by omega) (by omega) h]
    · intro h; cases h; rfl
section LM
variable {G : GD} {n : Nat} {q : Nat} {S : SQ} {pp : List Nat} {mc : Int32} {g : RH}
theorem k_X1_likes {a b : Nat} (k : QK q S pp mc g) (ha : a < S.1.length) (hb : b < S.1.length) : CtE G yX1_likes cX1_likes 3 (some FieldType.int) 5 [.ref q, .int (nI a), .int (nI b)] n (qh q (S, pp, mc) g) (some (.int (likS S a b))) (qh q (S, pp, mc) g) := by
  refine Ct.intro (k := 0) [some (.ref q), some (.int (nI a)), some (.int (nI b))] (by decide) (Nat.le_of_ble_eq_true rfl) rfl fun z hz hin => ?_
  obtain ⟨hL, hV, hI, hP⟩ := k
  have h6 := hL.1
  have pb := vs_pr hV hb
  have ab := and32 (hr S a) (Nat.lt_succ_of_le (vs_hr hV a)) (hr S b) (Nat.lt_succ_of_le (vs_hr hV b))
  refine r_bipush 60 (by decide) (q := 2) dX1_likes_0 rfl ?_
  refine r_aload_0 (q := 3) dX1_likes_2 rfl ?_
  refine r_iload_1 (q := 4) dX1_likes_3 rfl ?_
  refine r_iload_2 (q := 5) dX1_likes_4 rfl ?_
  refine r_callV_2 cv_X1_75 qh_o rfl (by decide) (Nat.le_of_ble_eq_true rfl) ⟨Nat.le_refl _, Nat.le_refl _⟩ (k_X1_between hL (by omega) (by omega)) (q := 8) dX1_likes_5 rfl ?_
  refine r_isub (q := 9) dX1_likes_8 rfl ?_
  refine r_aload_0 (q := 10) dX1_likes_9 rfl ?_
  refine r_get gf_X1_20_1 qh_o rfl (q := 13) dX1_likes_10 rfl ?_
  refine r_iload_1 (q := 14) dX1_likes_13 rfl ?_
  refine r_ialdN a 6 qh_h hL.2.1 rfl (by omega) (by decide) (q := 15) dX1_likes_14 rfl ?_
  refine r_aload_0 (q := 16) dX1_likes_15 rfl ?_
  refine r_get gf_X1_20_1 qh_o rfl (q := 19) dX1_likes_16 rfl ?_
  refine r_iload_2 (q := 20) dX1_likes_19 rfl ?_
  refine r_ialdN b 6 qh_h hL.2.1 rfl (by omega) (by decide) (q := 21) dX1_likes_20 rfl ?_
  refine r_iand (q := 22) dX1_likes_21 rfl ?_
  refine J.topi ab.1 ?_
  refine r_callSN_1 csn_X1_102 (by decide) (Nat.le_of_ble_eq_true rfl) ⟨Nat.le_refl _, Nat.le_refl _⟩ (k_X0_bits (by omega)) (q := 25) dX1_likes_22 rfl ?_
  refine r_iadd (q := 26) dX1_likes_25 rfl ?_
  refine r_aload_0 (q := 27) dX1_likes_26 rfl ?_
  refine r_iload_2 (q := 28) dX1_likes_27 rfl ?_
  refine r_callV_1 cv_X1_37 qh_o rfl (by decide) (Nat.le_of_ble_eq_true rfl) ⟨Nat.le_refl _, Nat.le_refl _⟩ (k_X1_person hL hV hP hb) (q := 31) dX1_likes_28 rfl ?_
  refine r_charm_X1 pb.1 pb.2 (hP.2 b hb) (by decide) (Nat.le_of_ble_eq_true rfl) ⟨Nat.le_refl _, Nat.le_refl _⟩ (q := 34) dX1_likes_31 rfl ?_
  refine r_iadd (q := 35) dX1_likes_34 rfl ?_
  exact r_iret hz dX1_likes_35 (Nat.le_refl _) (Nat.le_refl _) ⟨rfl, rfl, rfl⟩
theorem k_X1_wouldRather {a b : Nat} (k : QK q S pp mc g) (ha : a < S.1.length) (hb : b < S.1.length) : CtE G yX1_wouldRather cX1_wouldRather 3 (some FieldType.boolean) 6 [.ref q, .int (nI a), .int (nI b)] n (qh q (S, pp, mc) g) (some (.int (bI (wouldS S a b)))) (qh q (S, pp, mc) g) := by
  refine Ct.intro (k := 0) [some (.ref q), some (.int (nI a)), some (.int (nI b))] (by decide) (Nat.le_of_ble_eq_true rfl) rfl fun z hz hin => ?_
  have hL := k.1
  have h6 := hL.1
  have fin : ∀ t : Bool, t = wouldS S a b → J G z cX1_wouldRather 3 RX1 6 0 0 0 0 53 [some (.ref q), some (.int (nI a)), some (.int (nI b))] [.int (bI t)] n (qh q (S, pp, mc) g) := by
    intro t ht
    exact r_zret hz (bI_z _) dX1_wouldRather_53 (Nat.le_refl _) (Nat.le_refl _) ⟨by rw [ht], rfl, rfl⟩
  have no : false = wouldS S a b → J G z cX1_wouldRather 3 RX1 6 0 0 0 0 52 [some (.ref q), some (.int (nI a)), some (.int (nI b))] [] n (qh q (S, pp, mc) g) := by
    intro ht
    refine r_iconst 0 (by decide) (q := 53) dX1_wouldRather_52 rfl ?_
    exact fin false ht
  have yes : true = wouldS S a b → J G z cX1_wouldRather 3 RX1 6 0 0 0 0 48 [some (.ref q), some (.int (nI a)), some (.int (nI b))] [] n (qh q (S, pp, mc) g) := by
    intro ht
    refine r_iconst 1 (by decide) (q := 49) dX1_wouldRather_48 rfl ?_
    refine r_goto (q := 53) dX1_wouldRather_49 rfl ?_
    exact fin true ht
  refine r_iload_1 (q := 1) dX1_wouldRather_0 rfl ?_
  refine r_iload_2 (q := 2) dX1_wouldRather_1 rfl ?_
  refine r_icmp_eq (q := 5) (tgt := 52) dX1_wouldRather_2 rfl rfl (fun c2 => ?_) (fun c2 => ?_)
  · exact no (by unfold wouldS; rw [decide_eq_false (fun q => q (nI_inj (by omega) (by omega) c2))]; rfl)
  have hab : a ≠ b := fun q => c2 (by rw [q])
  refine r_aload_0 (q := 6) dX1_wouldRather_5 rfl ?_
  refine r_get gf_X1_24_1 qh_o rfl (q := 9) dX1_wouldRather_6 rfl ?_
  refine r_iload_1 (q := 10) dX1_wouldRather_9 rfl ?_
  refine r_ialdM a 6 qh_m hL.2.2.1 rfl (by omega) (by decide) (q := 11) dX1_wouldRather_10 rfl ?_
  show J G z cX1_wouldRather 3 RX1 6 0 0 0 0 11 [some (.ref q), some (.int (nI a)), some (.int (nI b))] [.int (mI (mt S a))] n (qh q (S, pp, mc) g)
  cases e : mt S a with
  | none =>
    refine r_if_ge (q := 14) (tgt := 28) dX1_wouldRather_11 rfl rfl (fun c11 => ?_) (fun c11 => ?_)
    · exact absurd c11 (by decide)
    refine r_aload_0 (q := 15) dX1_wouldRather_14 rfl ?_
    refine r_iload_1 (q := 16) dX1_wouldRather_15 rfl ?_
    refine r_iload_2 (q := 17) dX1_wouldRather_16 rfl ?_
    refine r_callV_2 cv_X1_109 qh_o rfl (by decide) (Nat.le_of_ble_eq_true rfl) ⟨Nat.le_refl _, Nat.le_refl _⟩ (k_X1_likes k ha hb) (q := 20) dX1_wouldRather_17 rfl ?_
    refine r_bipush 50 (by decide) (q := 22) dX1_wouldRather_20 rfl ?_
    refine r_icmp_lt (q := 25) (tgt := 52) dX1_wouldRather_22 rfl rfl (fun c22 => ?_) (fun c22 => ?_)
    · exact no (by unfold wouldS rathS; rw [e, decide_eq_true hab, Bool.true_and]; exact (decide_eq_false (Int32.not_le.mpr c22)).symm)
    refine r_goto (q := 48) dX1_wouldRather_25 rfl ?_
    exact yes (by unfold wouldS rathS; rw [e, decide_eq_true hab, Bool.true_and]; exact (decide_eq_true (Int32.not_lt.mp c22)).symm)
  | some m =>
    have hm := k.2.2.1 a ha m e
    refine r_if_ge (q := 14) (tgt := 28) dX1_wouldRather_11 rfl rfl (fun c11 => ?_) (fun c11 => ?_)
    · refine r_aload_0 (q := 29) dX1_wouldRather_28 rfl ?_
      refine r_iload_1 (q := 30) dX1_wouldRather_29 rfl ?_
      refine r_iload_2 (q := 31) dX1_wouldRather_30 rfl ?_
      refine r_callV_2 cv_X1_109 qh_o rfl (by decide) (Nat.le_of_ble_eq_true rfl) ⟨Nat.le_refl _, Nat.le_refl _⟩ (k_X1_likes k ha hb) (q := 34) dX1_wouldRather_31 rfl ?_
      refine r_aload_0 (q := 35) dX1_wouldRather_34 rfl ?_
      refine r_iload_1 (q := 36) dX1_wouldRather_35 rfl ?_
      refine r_aload_0 (q := 37) dX1_wouldRather_36 rfl ?_
      refine r_get gf_X1_24_1 qh_o rfl (q := 40) dX1_wouldRather_37 rfl ?_
      refine r_iload_1 (q := 41) dX1_wouldRather_40 rfl ?_
      refine r_ialdM a 6 qh_m hL.2.2.1 rfl (by omega) (by decide) (q := 42) dX1_wouldRather_41 rfl ?_
      refine J.topi (show mI (mt S a) = nI m by rw [e]; rfl) ?_
      refine r_callV_2 cv_X1_109 qh_o rfl (by decide) (Nat.le_of_ble_eq_true rfl) ⟨Nat.le_refl _, Nat.le_refl _⟩ (k_X1_likes k ha hm) (q := 45) dX1_wouldRather_42 rfl ?_
      refine r_icmp_le (q := 48) (tgt := 52) dX1_wouldRather_45 rfl rfl (fun c45 => ?_) (fun c45 => ?_)
      · exact no (by unfold wouldS rathS; rw [e, decide_eq_true hab, Bool.true_and]; exact (decide_eq_false (Int32.not_lt.mpr c45)).symm)
      · exact yes (by unfold wouldS rathS; rw [e, decide_eq_true hab, Bool.true_and]; exact (decide_eq_true (Int32.not_le.mp c45)).symm)
    · exact absurd (nI_pos' (by omega)) c11
theorem k_X1_doLeave {a b : Nat} (k : QK q S pp mc g) (ha : a < S.1.length) (hb : b < S.1.length) : CtE G yX1_doLeave cX1_doLeave 3 (some FieldType.boolean) 7 [.ref q, .int (nI a), .int (nI b)] n (qh q (S, pp, mc) g) (some (.int (bI (leavS S a b)))) (qh q (S, pp, mc) g) := by
  refine Ct.intro (k := 0) [some (.ref q), some (.int (nI a)), some (.int (nI b))] (by decide) (Nat.le_of_ble_eq_true rfl) rfl fun z hz hin => ?_
  have hL := k.1
  have h6 := hL.1
  have fin : ∀ t : Bool, t = leavS S a b → J G z cX1_doLeave 3 RX1 7 0 0 0 0 33 [some (.ref q), some (.int (nI a)), some (.int (nI b))] [.int (bI t)] n (qh q (S, pp, mc) g) := by
    intro t ht
    exact r_zret hz (bI_z _) dX1_doLeave_33 (Nat.le_refl _) (Nat.le_refl _) ⟨by rw [ht], rfl, rfl⟩
  have no : false = leavS S a b → J G z cX1_doLeave 3 RX1 7 0 0 0 0 32 [some (.ref q), some (.int (nI a)), some (.int (nI b))] [] n (qh q (S, pp, mc) g) := by
    intro ht
    refine r_iconst 0 (by decide) (q := 33) dX1_doLeave_32 rfl ?_
    exact fin false ht
  refine r_aload_0 (q := 1) dX1_doLeave_0 rfl ?_
  refine r_get gf_X1_24_1 qh_o rfl (q := 4) dX1_doLeave_1 rfl ?_
  refine r_iload_1 (q := 5) dX1_doLeave_4 rfl ?_
  refine r_ialdM a 6 qh_m hL.2.2.1 rfl (by omega) (by decide) (q := 6) dX1_doLeave_5 rfl ?_
  refine r_iload_2 (q := 7) dX1_doLeave_6 rfl ?_
  refine r_icmp_eq (q := 10) (tgt := 32) dX1_doLeave_7 rfl rfl (fun c7 => ?_) (fun c7 => ?_)
  · have e := (mI_eq (by omega) (fun c hc => Nat.lt_trans (hL.2.2.2.2 a c hc) (by decide))).mp c7
    exact no (by unfold leavS; rw [decide_eq_false (fun q => q e)]; rfl)
  have e : mt S a ≠ some b := fun q => c7 (congrArg mI q)
  refine r_aload_0 (q := 11) dX1_doLeave_10 rfl ?_
  refine r_iload_1 (q := 12) dX1_doLeave_11 rfl ?_
  refine r_iload_2 (q := 13) dX1_doLeave_12 rfl ?_
  refine r_callV_2 cv_X1_112 qh_o rfl (by decide) (Nat.le_of_ble_eq_true rfl) ⟨Nat.le_refl _, Nat.le_refl _⟩ (k_X1_wouldRather k ha hb) (q := 16) dX1_doLeave_13 rfl ?_
  refine r_if_eq (q := 19) (tgt := 32) dX1_doLeave_16 rfl rfl (fun c16 => ?_) (fun c16 => ?_)
  · exact no (by unfold leavS; rw [bI_0.mp c16]; simp)
  refine r_aload_0 (q := 20) dX1_doLeave_19 rfl ?_
  refine r_iload_2 (q := 21) dX1_doLeave_20 rfl ?_
  refine r_iload_1 (q := 22) dX1_doLeave_21 rfl ?_
  refine r_callV_2 cv_X1_112 qh_o rfl (by decide) (Nat.le_of_ble_eq_true rfl) ⟨Nat.le_refl _, Nat.le_refl _⟩ (k_X1_wouldRather k hb ha) (q := 25) dX1_doLeave_22 rfl ?_
  refine r_if_eq (q := 28) (tgt := 32) dX1_doLeave_25 rfl rfl (fun c25 => ?_) (fun c25 => ?_)
  · exact no (by unfold leavS; rw [bI_0.mp c25]; simp)
  refine r_iconst 1 (by decide) (q := 29) dX1_doLeave_28 rfl ?_
  refine r_goto (q := 33) dX1_doLeave_29 rfl ?_
  exact fin true (by unfold leavS; rw [decide_eq_true e, bI_n0.mp c16, bI_n0.mp c25]; rfl)
theorem k_X1_isRid {a : Nat} (k : QK q S pp mc g) (ha : a < S.1.length) : CtE G yX1_isRid cX1_isRid 2 (some FieldType.boolean) 6 [.ref q, .int (nI a)] n (qh q (S, pp, mc) g) (some (.int (bI (ridS S a)))) (qh q (S, pp, mc) g) := by
  refine Ct.intro (k := 0) [some (.ref q), some (.int (nI a))] (by decide) (Nat.le_of_ble_eq_true rfl) rfl fun z hz hin => ?_
  have hL := k.1
  have h6 := hL.1
  have fin : ∀ t : Bool, t = ridS S a → J G z cX1_isRid 2 RX1 6 0 0 0 0 30 [some (.ref q), some (.int (nI a))] [.int (bI t)] n (qh q (S, pp, mc) g) := by
    intro t ht
    exact r_zret hz (bI_z _) dX1_isRid_30 (Nat.le_refl _) (Nat.le_refl _) ⟨by rw [ht], rfl, rfl⟩
  refine r_aload_0 (q := 1) dX1_isRid_0 rfl ?_
  refine r_get gf_X1_24_1 qh_o rfl (q := 4) dX1_isRid_1 rfl ?_
  refine r_iload_1 (q := 5) dX1_isRid_4 rfl ?_
  refine r_ialdM a 6 qh_m hL.2.2.1 rfl (by omega) (by decide) (q := 6) dX1_isRid_5 rfl ?_
  show J G z cX1_isRid 2 RX1 6 0 0 0 0 6 [some (.ref q), some (.int (nI a))] [.int (mI (mt S a))] n (qh q (S, pp, mc) g)
  cases e : mt S a with
  | none =>
    refine r_if_lt (q := 9) (tgt := 29) dX1_isRid_6 rfl rfl (fun c6 => ?_) (fun c6 => ?_)
    · refine r_iconst 0 (by decide) (q := 30) dX1_isRid_29 rfl ?_
      exact fin false (by unfold ridS; rw [e])
    · exact absurd (by decide) c6
  | some m =>
    have hm := k.2.2.1 a ha m e
    refine r_if_lt (q := 9) (tgt := 29) dX1_isRid_6 rfl rfl (fun c6 => ?_) (fun c6 => ?_)
    · exact absurd c6 (nI_pos (by omega))
    refine r_aload_0 (q := 10) dX1_isRid_9 rfl ?_
    refine r_iload_1 (q := 11) dX1_isRid_10 rfl ?_
    refine r_aload_0 (q := 12) dX1_isRid_11 rfl ?_
    refine r_get gf_X1_24_1 qh_o rfl (q := 15) dX1_isRid_12 rfl ?_
    refine r_iload_1 (q := 16) dX1_isRid_15 rfl ?_
    refine r_ialdM a 6 qh_m hL.2.2.1 rfl (by omega) (by decide) (q := 17) dX1_isRid_16 rfl ?_
    refine J.topi (show mI (mt S a) = nI m by rw [e]; rfl) ?_
    refine r_callV_2 cv_X1_109 qh_o rfl (by decide) (Nat.le_of_ble_eq_true rfl) ⟨Nat.le_refl _, Nat.le_refl _⟩ (k_X1_likes k ha hm) (q := 20) dX1_isRid_17 rfl ?_
    refine r_bipush 50 (by decide) (q := 22) dX1_isRid_20 rfl ?_
    refine r_icmp_ge (q := 25) (tgt := 29) dX1_isRid_22 rfl rfl (fun c22 => ?_) (fun c22 => ?_)
    · refine r_iconst 0 (by decide) (q := 30) dX1_isRid_29 rfl ?_
      exact fin false (by unfold ridS; rw [e]; exact (decide_eq_false (Int32.not_lt.mpr c22)).symm)
    · refine r_iconst 1 (by decide) (q := 26) dX1_isRid_25 rfl ?_
      refine r_goto (q := 30) dX1_isRid_26 rfl ?_
      exact fin true (by unfold ridS; rw [e]; exact (decide_eq_true (Int32.not_le.mp c22)).symm)
theorem k_X1_all (hL : LenS S) (hp : pp.length = S.1.length) : CtE G yX1_all cX1_all 4 (some FieldType.int) 3 [.ref q] n (qh q (S, pp, mc) g) (some (.int (allS S))) (qh q (S, pp, mc) g) := by
  refine Ct.intro (k := 3) [some (.ref q), none, none, none] (by decide) (Nat.le_of_ble_eq_true rfl) rfl fun z hz hin => ?_
  have h6 := hL.1
  have outer : ∀ (c a : Nat) (acc : Int32) (o3 : Option Value), a + c = S.1.length → forR (allI S) a c acc = allS S → J G z cX1_all 4 RX1 3 0 0 0 0 4 [some (.ref q), some (.int acc), some (.int (nI a)), o3] [] n (qh q (S, pp, mc) g) := by
    intro c
    induction c with
    | zero =>
      intro a acc o3 h1 h2
      refine r_iload_2 (q := 5) dX1_all_4 rfl ?_
      refine r_aload_0 (q := 6) dX1_all_5 rfl ?_
      refine r_callV_0 cv_X1_61 qh_o rfl (by decide) (Nat.le_of_ble_eq_true rfl) ⟨Nat.le_refl _, Nat.le_refl _⟩ (k_X1_many hp) (q := 9) dX1_all_6 rfl ?_
      refine r_icmp_ge (q := 12) (tgt := 45) dX1_all_9 rfl rfl (fun c9 => ?_) (fun c9 => ?_)
      · rw [← show acc = allS S from h2] at hz
        refine r_iload_1 (q := 46) dX1_all_45 rfl ?_
        exact r_iret hz dX1_all_46 (Nat.le_refl _) (Nat.le_refl _) ⟨rfl, rfl, rfl⟩
      · exact absurd (nI_le (by omega) (by omega)) c9
    | succ c ih =>
      intro a acc o3 h1 h2
      have inner : ∀ (d b : Nat) (acc' : Int32), b + d = S.1.length → forR (fun b acc => acc + nI (qr S a b)) b d acc' = allI S a acc → J G z cX1_all 4 RX1 3 0 0 0 0 16 [some (.ref q), some (.int acc'), some (.int (nI a)), some (.int (nI b))] [] n (qh q (S, pp, mc) g) := by
        intro d
        induction d with
        | zero =>
          intro b acc' h3 h4
          refine r_iload_3 (q := 17) dX1_all_16 rfl ?_
          refine r_aload_0 (q := 18) dX1_all_17 rfl ?_
          refine r_callV_0 cv_X1_61 qh_o rfl (by decide) (Nat.le_of_ble_eq_true rfl) ⟨Nat.le_refl _, Nat.le_refl _⟩ (k_X1_many hp) (q := 21) dX1_all_18 rfl ?_
          refine r_icmp_ge (q := 24) (tgt := 39) dX1_all_21 rfl rfl (fun c21 => ?_) (fun c21 => ?_)
          · refine r_inc_2 (by decide) rfl (q := 42) dX1_all_39 rfl ?_
            refine r_goto (q := 4) dX1_all_42 rfl ?_
            exact ih (a + 1) acc' _ (by omega) (by rw [show acc' = _ from h4]; exact h2)
          · exact absurd (nI_le (by omega) (by omega)) c21
        | succ d ihd =>
          intro b acc' h3 h4
          refine r_iload_3 (q := 17) dX1_all_16 rfl ?_
          refine r_aload_0 (q := 18) dX1_all_17 rfl ?_
          refine r_callV_0 cv_X1_61 qh_o rfl (by decide) (Nat.le_of_ble_eq_true rfl) ⟨Nat.le_refl _, Nat.le_refl _⟩ (k_X1_many hp) (q := 21) dX1_all_18 rfl ?_
          refine r_icmp_ge (q := 24) (tgt := 39) dX1_all_21 rfl rfl (fun c21 => ?_) (fun c21 => ?_)
          · exact absurd c21 (nI_ge (by omega) (by omega))
          refine r_iload_1 (q := 25) dX1_all_24 rfl ?_
          refine r_aload_0 (q := 26) dX1_all_25 rfl ?_
          refine r_iload_2 (q := 27) dX1_all_26 rfl ?_
          refine r_iload_3 (q := 28) dX1_all_27 rfl ?_
          refine r_callV_2 cv_X1_75 qh_o rfl (by decide) (Nat.le_of_ble_eq_true rfl) ⟨Nat.le_refl _, Nat.le_refl _⟩ (k_X1_between hL (by omega) (by omega)) (q := 31) dX1_all_28 rfl ?_
          refine r_iadd (q := 32) dX1_all_31 rfl ?_
          refine r_istore_1 (by decide) rfl (q := 33) dX1_all_32 rfl ?_
          refine r_inc_3 (by decide) rfl (q := 36) dX1_all_33 rfl ?_
          refine r_goto (q := 16) dX1_all_36 rfl ?_
          exact ihd (b + 1) _ (by omega) h4
      refine r_iload_2 (q := 5) dX1_all_4 rfl ?_
      refine r_aload_0 (q := 6) dX1_all_5 rfl ?_
      refine r_callV_0 cv_X1_61 qh_o rfl (by decide) (Nat.le_of_ble_eq_true rfl) ⟨Nat.le_refl _, Nat.le_refl _⟩ (k_X1_many hp) (q := 9) dX1_all_6 rfl ?_
      refine r_icmp_ge (q := 12) (tgt := 45) dX1_all_9 rfl rfl (fun c9 => ?_) (fun c9 => ?_)
      · exact absurd c9 (nI_ge (by omega) (by omega))
      refine r_iload_2 (q := 13) dX1_all_12 rfl ?_
      refine r_iconst 1 (by decide) (q := 14) dX1_all_13 rfl ?_
      refine r_iadd (q := 15) dX1_all_14 rfl ?_
      refine J.topi (nI_1 _) ?_
      refine r_istore_3 (by decide) rfl (q := 16) dX1_all_15 rfl ?_
      exact inner (S.1.length - (a + 1)) (a + 1) acc (by omega) rfl
  refine r_iconst 0 (by decide) (q := 1) dX1_all_0 rfl ?_
  refine r_istore_1 (by decide) rfl (q := 2) dX1_all_1 rfl ?_
  refine r_iconst 0 (by decide) (q := 3) dX1_all_2 rfl ?_
  refine r_istore_2 (by decide) rfl (q := 4) dX1_all_3 rfl ?_
  exact outer S.1.length 0 0 none (Nat.zero_add _) rfl
theorem k_X1_mended (hL : LenS S) (hp : pp.length = S.1.length) (hV : ValS S) : CtE G yX1_mended cX1_mended 4 (some FieldType.int) 3 [.ref q] n (qh q (S, pp, mc) g) (some (.int (zerosS S))) (qh q (S, pp, mc) g) := by
  refine Ct.intro (k := 3) [some (.ref q), none, none, none] (by decide) (Nat.le_of_ble_eq_true rfl) rfl fun z hz hin => ?_
  have h6 := hL.1
  have outer : ∀ (c a : Nat) (acc : Int32) (o3 : Option Value), a + c = S.1.length → forR (zeroI S) a c acc = zerosS S → J G z cX1_mended 4 RX1 3 0 0 0 0 4 [some (.ref q), some (.int acc), some (.int (nI a)), o3] [] n (qh q (S, pp, mc) g) := by
    intro c
    induction c with
    | zero =>
      intro a acc o3 h1 h2
      refine r_iload_2 (q := 5) dX1_mended_4 rfl ?_
      refine r_aload_0 (q := 6) dX1_mended_5 rfl ?_
      refine r_callV_0 cv_X1_61 qh_o rfl (by decide) (Nat.le_of_ble_eq_true rfl) ⟨Nat.le_refl _, Nat.le_refl _⟩ (k_X1_many hp) (q := 9) dX1_mended_6 rfl ?_
      refine r_icmp_ge (q := 12) (tgt := 53) dX1_mended_9 rfl rfl (fun c9 => ?_) (fun c9 => ?_)
      · rw [← show acc = zerosS S from h2] at hz
        refine r_iload_1 (q := 54) dX1_mended_53 rfl ?_
        exact r_iret hz dX1_mended_54 (Nat.le_refl _) (Nat.le_refl _) ⟨rfl, rfl, rfl⟩
      · exact absurd (nI_le (by omega) (by omega)) c9
    | succ c ih =>
      intro a acc o3 h1 h2
      have inner : ∀ (d b : Nat) (acc' : Int32), b + d = S.1.length → forR (fun b acc => acc + (if qr S a b = 0 then 1 else 0)) b d acc' = zeroI S a acc → J G z cX1_mended 4 RX1 3 0 0 0 0 16 [some (.ref q), some (.int acc'), some (.int (nI a)), some (.int (nI b))] [] n (qh q (S, pp, mc) g) := by
        intro d
        induction d with
        | zero =>
          intro b acc' h3 h4
          refine r_iload_3 (q := 17) dX1_mended_16 rfl ?_
          refine r_aload_0 (q := 18) dX1_mended_17 rfl ?_
          refine r_callV_0 cv_X1_61 qh_o rfl (by decide) (Nat.le_of_ble_eq_true rfl) ⟨Nat.le_refl _, Nat.le_refl _⟩ (k_X1_many hp) (q := 21) dX1_mended_18 rfl ?_
          refine r_icmp_ge (q := 24) (tgt := 47) dX1_mended_21 rfl rfl (fun c21 => ?_) (fun c21 => ?_)
          · refine r_inc_2 (by decide) rfl (q := 50) dX1_mended_47 rfl ?_
            refine r_goto (q := 4) dX1_mended_50 rfl ?_
            exact ih (a + 1) acc' _ (by omega) (by rw [show acc' = _ from h4]; exact h2)
          · exact absurd (nI_le (by omega) (by omega)) c21
        | succ d ihd =>
          intro b acc' h3 h4
          have fin : ∀ x : Int32, x = (if qr S a b = 0 then 1 else 0) → J G z cX1_mended 4 RX1 3 0 0 0 0 39 [some (.ref q), some (.int acc'), some (.int (nI a)), some (.int (nI b))] [.int x, .int acc'] n (qh q (S, pp, mc) g) := by
            intro x hx
            subst hx
            refine r_iadd (q := 40) dX1_mended_39 rfl ?_
            refine r_istore_1 (by decide) rfl (q := 41) dX1_mended_40 rfl ?_
            refine r_inc_3 (by decide) rfl (q := 44) dX1_mended_41 rfl ?_
            refine r_goto (q := 16) dX1_mended_44 rfl ?_
            exact ihd (b + 1) _ (by omega) h4
          refine r_iload_3 (q := 17) dX1_mended_16 rfl ?_
          refine r_aload_0 (q := 18) dX1_mended_17 rfl ?_
          refine r_callV_0 cv_X1_61 qh_o rfl (by decide) (Nat.le_of_ble_eq_true rfl) ⟨Nat.le_refl _, Nat.le_refl _⟩ (k_X1_many hp) (q := 21) dX1_mended_18 rfl ?_
          refine r_icmp_ge (q := 24) (tgt := 47) dX1_mended_21 rfl rfl (fun c21 => ?_) (fun c21 => ?_)
          · exact absurd c21 (nI_ge (by omega) (by omega))
          refine r_iload_1 (q := 25) dX1_mended_24 rfl ?_
          refine r_aload_0 (q := 26) dX1_mended_25 rfl ?_
          refine r_iload_2 (q := 27) dX1_mended_26 rfl ?_
          refine r_iload_3 (q := 28) dX1_mended_27 rfl ?_
          refine r_callV_2 cv_X1_75 qh_o rfl (by decide) (Nat.le_of_ble_eq_true rfl) ⟨Nat.le_refl _, Nat.le_refl _⟩ (k_X1_between hL (by omega) (by omega)) (q := 31) dX1_mended_28 rfl ?_
          have hq := vs_qr hV a b
          refine r_if_ne (q := 34) (tgt := 38) dX1_mended_31 rfl rfl (fun c31 => ?_) (fun c31 => ?_)
          · refine r_iconst 0 (by decide) (q := 39) dX1_mended_38 rfl ?_
            exact fin 0 (if_neg (fun e => c31 (by rw [e]; rfl))).symm
          · refine r_iconst 1 (by decide) (q := 35) dX1_mended_34 rfl ?_
            refine r_goto (q := 39) dX1_mended_35 rfl ?_
            exact fin 1 (if_pos (nI_inj (b := 0) (by omega) (by omega) c31)).symm
      refine r_iload_2 (q := 5) dX1_mended_4 rfl ?_
      refine r_aload_0 (q := 6) dX1_mended_5 rfl ?_
      refine r_callV_0 cv_X1_61 qh_o rfl (by decide) (Nat.le_of_ble_eq_true rfl) ⟨Nat.le_refl _, Nat.le_refl _⟩ (k_X1_many hp) (q := 9) dX1_mended_6 rfl ?_
      refine r_icmp_ge (q := 12) (tgt := 53) dX1_mended_9 rfl rfl (fun c9 => ?_) (fun c9 => ?_)
      · exact absurd c9 (nI_ge (by omega) (by omega))
      refine r_iload_2 (q := 13) dX1_mended_12 rfl ?_
      refine r_iconst 1 (by decide) (q := 14) dX1_mended_13 rfl ?_
      refine r_iadd (q := 15) dX1_mended_14 rfl ?_
      refine J.topi (nI_1 _) ?_
      refine r_istore_3 (by decide) rfl (q := 16) dX1_mended_15 rfl ?_
      exact inner (S.1.length - (a + 1)) (a + 1) acc (by omega) rfl
  refine r_iconst 0 (by decide) (q := 1) dX1_mended_0 rfl ?_
  refine r_istore_1 (by decide) rfl (q := 2) dX1_mended_1 rfl ?_
  refine r_iconst 0 (by decide) (q := 3) dX1_mended_2 rfl ?_
  refine r_istore_2 (by decide) rfl (q := 4) dX1_mended_3 rfl ?_
  exact outer S.1.length 0 0 none (Nat.zero_add _) rfl
theorem k_X1_mats (hL : LenS S) (hp : pp.length = S.1.length) : CtE G yX1_mats cX1_mats 3 (some FieldType.int) 3 [.ref q] n (qh q (S, pp, mc) g) (some (.int (matsS S))) (qh q (S, pp, mc) g) := by
  refine Ct.intro (k := 2) [some (.ref q), none, none] (by decide) (Nat.le_of_ble_eq_true rfl) rfl fun z hz hin => ?_
  have h6 := hL.1
  have outer : ∀ (c a : Nat) (acc : Int32), a + c = S.1.length → forR (matI S) a c acc = matsS S → J G z cX1_mats 3 RX1 3 0 0 0 0 4 [some (.ref q), some (.int acc), some (.int (nI a))] [] n (qh q (S, pp, mc) g) := by
    intro c
    induction c with
    | zero =>
      intro a acc h1 h2
      refine r_iload_2 (q := 5) dX1_mats_4 rfl ?_
      refine r_aload_0 (q := 6) dX1_mats_5 rfl ?_
      refine r_callV_0 cv_X1_61 qh_o rfl (by decide) (Nat.le_of_ble_eq_true rfl) ⟨Nat.le_refl _, Nat.le_refl _⟩ (k_X1_many hp) (q := 9) dX1_mats_6 rfl ?_
      refine r_icmp_ge (q := 12) (tgt := 36) dX1_mats_9 rfl rfl (fun c9 => ?_) (fun c9 => ?_)
      · rw [← show acc = matsS S from h2] at hz
        refine r_iload_1 (q := 37) dX1_mats_36 rfl ?_
        exact r_iret hz dX1_mats_37 (Nat.le_refl _) (Nat.le_refl _) ⟨rfl, rfl, rfl⟩
      · exact absurd (nI_le (by omega) (by omega)) c9
    | succ c ih =>
      intro a acc h1 h2
      have fin : ∀ x : Int32, acc + x = matI S a acc → J G z cX1_mats 3 RX1 3 0 0 0 0 28 [some (.ref q), some (.int acc), some (.int (nI a))] [.int x, .int acc] n (qh q (S, pp, mc) g) := by
        intro x hx
        refine r_iadd (q := 29) dX1_mats_28 rfl ?_
        rw [hx]
        refine r_istore_1 (by decide) rfl (q := 30) dX1_mats_29 rfl ?_
        refine r_inc_2 (by decide) rfl (q := 33) dX1_mats_30 rfl ?_
        refine r_goto (q := 4) dX1_mats_33 rfl ?_
        exact ih (a + 1) _ (by omega) h2
      refine r_iload_2 (q := 5) dX1_mats_4 rfl ?_
      refine r_aload_0 (q := 6) dX1_mats_5 rfl ?_
      refine r_callV_0 cv_X1_61 qh_o rfl (by decide) (Nat.le_of_ble_eq_true rfl) ⟨Nat.le_refl _, Nat.le_refl _⟩ (k_X1_many hp) (q := 9) dX1_mats_6 rfl ?_
      refine r_icmp_ge (q := 12) (tgt := 36) dX1_mats_9 rfl rfl (fun c9 => ?_) (fun c9 => ?_)
      · exact absurd c9 (nI_ge (by omega) (by omega))
      refine r_iload_1 (q := 13) dX1_mats_12 rfl ?_
      refine r_aload_0 (q := 14) dX1_mats_13 rfl ?_
      refine r_get gf_X1_24_1 qh_o rfl (q := 17) dX1_mats_14 rfl ?_
      refine r_iload_2 (q := 18) dX1_mats_17 rfl ?_
      refine r_ialdM a 6 qh_m hL.2.2.1 rfl (by omega) (by decide) (q := 19) dX1_mats_18 rfl ?_
      refine r_iload_2 (q := 20) dX1_mats_19 rfl ?_
      have hle := mI_le (o := mt S a) (a := a) (by omega) (fun c hc => Nat.lt_trans (hL.2.2.2.2 a c hc) (by decide))
      refine r_icmp_le (q := 23) (tgt := 27) dX1_mats_20 rfl rfl (fun c20 => ?_) (fun c20 => ?_)
      · refine r_iconst 0 (by decide) (q := 28) dX1_mats_27 rfl ?_
        refine fin 0 ?_
        have h9 := hle.mp c20
        unfold matI
        cases e : mt S a with
        | none => rfl
        | some b => simp only [if_neg (Nat.not_lt.mpr (h9 b e))]
      · refine r_iconst 1 (by decide) (q := 24) dX1_mats_23 rfl ?_
        refine r_goto (q := 28) dX1_mats_24 rfl ?_
        refine fin 1 ?_
        have h9 : ¬ _ := fun z => c20 (hle.mpr z)
        unfold matI
        cases e : mt S a with
        | none => exact absurd (fun b z => by rw [e] at z; cases z) h9
        | some b =>
          have : a < b := Nat.not_le.mp fun z => h9 (fun b' z' => by rw [e] at z'; cases z'; exact z)
          simp only [if_pos this]
  refine r_iconst 0 (by decide) (q := 1) dX1_mats_0 rfl ?_
  refine r_istore_1 (by decide) rfl (q := 2) dX1_mats_1 rfl ?_
  refine r_iconst 0 (by decide) (q := 3) dX1_mats_2 rfl ?_
  refine r_istore_2 (by decide) rfl (q := 4) dX1_mats_3 rfl ?_
  exact outer S.1.length 0 0 (Nat.zero_add _) rfl
theorem k_X1_allLikes (k : QK q S pp mc g) : CtE G yX1_allLikes cX1_allLikes 3 (some FieldType.int) 6 [.ref q] n (qh q (S, pp, mc) g) (some (.int (alikS S))) (qh q (S, pp, mc) g) := by
  refine Ct.intro (k := 2) [some (.ref q), none, none] (by decide) (Nat.le_of_ble_eq_true rfl) rfl fun z hz hin => ?_
  have hL := k.1
  have h6 := hL.1
  have outer : ∀ (c a : Nat) (acc : Int32), a + c = S.1.length → forR (alikI S) a c acc = alikS S → J G z cX1_allLikes 3 RX1 6 0 0 0 0 4 [some (.ref q), some (.int acc), some (.int (nI a))] [] n (qh q (S, pp, mc) g) := by
    intro c
    induction c with
    | zero =>
      intro a acc h1 h2
      refine r_iload_2 (q := 5) dX1_allLikes_4 rfl ?_
      refine r_aload_0 (q := 6) dX1_allLikes_5 rfl ?_
      refine r_callV_0 cv_X1_61 qh_o rfl (by decide) (Nat.le_of_ble_eq_true rfl) ⟨Nat.le_refl _, Nat.le_refl _⟩ (k_X1_many k.2.2.2.1) (q := 9) dX1_allLikes_6 rfl ?_
      refine r_icmp_ge (q := 12) (tgt := 45) dX1_allLikes_9 rfl rfl (fun c9 => ?_) (fun c9 => ?_)
      · rw [← show acc = alikS S from h2] at hz
        refine r_iload_1 (q := 46) dX1_allLikes_45 rfl ?_
        exact r_iret hz dX1_allLikes_46 (Nat.le_refl _) (Nat.le_refl _) ⟨rfl, rfl, rfl⟩
      · exact absurd (nI_le (by omega) (by omega)) c9
    | succ c ih =>
      intro a acc h1 h2
      have ha : a < S.1.length := by omega
      have fin : ∀ x : Int32, acc + x = alikI S a acc → J G z cX1_allLikes 3 RX1 6 0 0 0 0 37 [some (.ref q), some (.int acc), some (.int (nI a))] [.int x, .int acc] n (qh q (S, pp, mc) g) := by
        intro x hx
        refine r_iadd (q := 38) dX1_allLikes_37 rfl ?_
        rw [hx]
        refine r_istore_1 (by decide) rfl (q := 39) dX1_allLikes_38 rfl ?_
        refine r_inc_2 (by decide) rfl (q := 42) dX1_allLikes_39 rfl ?_
        refine r_goto (q := 4) dX1_allLikes_42 rfl ?_
        exact ih (a + 1) _ (by omega) h2
      refine r_iload_2 (q := 5) dX1_allLikes_4 rfl ?_
      refine r_aload_0 (q := 6) dX1_allLikes_5 rfl ?_
      refine r_callV_0 cv_X1_61 qh_o rfl (by decide) (Nat.le_of_ble_eq_true rfl) ⟨Nat.le_refl _, Nat.le_refl _⟩ (k_X1_many k.2.2.2.1) (q := 9) dX1_allLikes_6 rfl ?_
      refine r_icmp_ge (q := 12) (tgt := 45) dX1_allLikes_9 rfl rfl (fun c9 => ?_) (fun c9 => ?_)
      · exact absurd c9 (nI_ge (by omega) (by omega))
      refine r_iload_1 (q := 13) dX1_allLikes_12 rfl ?_
      refine r_aload_0 (q := 14) dX1_allLikes_13 rfl ?_
      refine r_get gf_X1_24_1 qh_o rfl (q := 17) dX1_allLikes_14 rfl ?_
      refine r_iload_2 (q := 18) dX1_allLikes_17 rfl ?_
      refine r_ialdM a 6 qh_m hL.2.2.1 rfl (by omega) (by decide) (q := 19) dX1_allLikes_18 rfl ?_
      show J G z cX1_allLikes 3 RX1 6 0 0 0 0 19 [some (.ref q), some (.int acc), some (.int (nI a))] [.int (mI (mt S a)), .int acc] n (qh q (S, pp, mc) g)
      cases e : mt S a with
      | none =>
        refine r_if_ge (q := 22) (tgt := 26) dX1_allLikes_19 rfl rfl (fun c19 => ?_) (fun c19 => ?_)
        · exact absurd c19 (by decide)
        refine r_iconst 0 (by decide) (q := 23) dX1_allLikes_22 rfl ?_
        refine r_goto (q := 37) dX1_allLikes_23 rfl ?_
        exact fin 0 (by unfold alikI; rw [e])
      | some m =>
        have hm := k.2.2.1 a ha m e
        refine r_if_ge (q := 22) (tgt := 26) dX1_allLikes_19 rfl rfl (fun c19 => ?_) (fun c19 => ?_)
        · refine r_aload_0 (q := 27) dX1_allLikes_26 rfl ?_
          refine r_iload_2 (q := 28) dX1_allLikes_27 rfl ?_
          refine r_aload_0 (q := 29) dX1_allLikes_28 rfl ?_
          refine r_get gf_X1_24_1 qh_o rfl (q := 32) dX1_allLikes_29 rfl ?_
          refine r_iload_2 (q := 33) dX1_allLikes_32 rfl ?_
          refine r_ialdM a 6 qh_m hL.2.2.1 rfl (by omega) (by decide) (q := 34) dX1_allLikes_33 rfl ?_
          refine J.topi (show mI (mt S a) = nI m by rw [e]; rfl) ?_
          refine r_callV_2 cv_X1_109 qh_o rfl (by decide) (Nat.le_of_ble_eq_true rfl) ⟨Nat.le_refl _, Nat.le_refl _⟩ (k_X1_likes k ha hm) (q := 37) dX1_allLikes_34 rfl ?_
          exact fin _ (by unfold alikI; rw [e])
        · exact absurd (nI_pos' (by omega)) c19
  refine r_iconst 0 (by decide) (q := 1) dX1_allLikes_0 rfl ?_
  refine r_istore_1 (by decide) rfl (q := 2) dX1_allLikes_1 rfl ?_
  refine r_iconst 0 (by decide) (q := 3) dX1_allLikes_2 rfl ?_
  refine r_istore_2 (by decide) rfl (q := 4) dX1_allLikes_3 rfl ?_
  exact outer S.1.length 0 0 (Nat.zero_add _) rfl
theorem k_X1_isStable (k : QK q S pp mc g) : CtE G yX1_isStable cX1_isStable 3 (some FieldType.boolean) 8 [.ref q] n (qh q (S, pp, mc) g) (some (.int (bI (stabS S)))) (qh q (S, pp, mc) g) := by
  refine Ct.intro (k := 2) [some (.ref q), none, none] (by decide) (Nat.le_of_ble_eq_true rfl) rfl fun z hz hin => ?_
  have hL := k.1
  have h6 := hL.1
  have outer : ∀ (c a : Nat) (o2 : Option Value), a + c = S.1.length → (∀ a', a' < a → ridS S a' = false ∧ ∀ b, b < S.1.length → a' < b → leavS S a' b = false) → J G z cX1_isStable 3 RX1 8 0 0 0 0 2 [some (.ref q), some (.int (nI a)), o2] [] n (qh q (S, pp, mc) g) := by
    intro c
    induction c with
    | zero =>
      intro a o2 h1 h2
      refine r_iload_1 (q := 3) dX1_isStable_2 rfl ?_
      refine r_aload_0 (q := 4) dX1_isStable_3 rfl ?_
      refine r_callV_0 cv_X1_61 qh_o rfl (by decide) (Nat.le_of_ble_eq_true rfl) ⟨Nat.le_refl _, Nat.le_refl _⟩ (k_X1_many k.2.2.2.1) (q := 7) dX1_isStable_4 rfl ?_
      refine r_icmp_ge (q := 10) (tgt := 55) dX1_isStable_7 rfl rfl (fun c7 => ?_) (fun c7 => ?_)
      · refine r_iconst 1 (by decide) (q := 56) dX1_isStable_55 rfl ?_
        have e : stabS S = true := decide_eq_true (fun a' ha' => h2 a' (by omega))
        rw [e] at hz
        exact r_zret hz rfl dX1_isStable_56 (Nat.le_refl _) (Nat.le_refl _) ⟨rfl, rfl, rfl⟩
      · exact absurd (nI_le (by omega) (by omega)) c7
    | succ c ih =>
      intro a o2 h1 h2
      have ha : a < S.1.length := by omega
      refine r_iload_1 (q := 3) dX1_isStable_2 rfl ?_
      refine r_aload_0 (q := 4) dX1_isStable_3 rfl ?_
      refine r_callV_0 cv_X1_61 qh_o rfl (by decide) (Nat.le_of_ble_eq_true rfl) ⟨Nat.le_refl _, Nat.le_refl _⟩ (k_X1_many k.2.2.2.1) (q := 7) dX1_isStable_4 rfl ?_
      refine r_icmp_ge (q := 10) (tgt := 55) dX1_isStable_7 rfl rfl (fun c7 => ?_) (fun c7 => ?_)
      · exact absurd c7 (nI_ge (by omega) (by omega))
      refine r_aload_0 (q := 11) dX1_isStable_10 rfl ?_
      refine r_iload_1 (q := 12) dX1_isStable_11 rfl ?_
      refine r_callV_1 cv_X1_115 qh_o rfl (by decide) (Nat.le_of_ble_eq_true rfl) ⟨Nat.le_refl _, Nat.le_refl _⟩ (k_X1_isRid k ha) (q := 15) dX1_isStable_12 rfl ?_
      refine r_if_eq (q := 18) (tgt := 20) dX1_isStable_15 rfl rfl (fun c15 => ?_) (fun c15 => ?_)
      · have hr0 := bI_0.mp c15
        have inner : ∀ (d b : Nat), a < b → b + d = S.1.length → (∀ b', b' < b → a < b' → leavS S a b' = false) → J G z cX1_isStable 3 RX1 8 0 0 0 0 24 [some (.ref q), some (.int (nI a)), some (.int (nI b))] [] n (qh q (S, pp, mc) g) := by
          intro d
          induction d with
          | zero =>
            intro b hab0 h3 h4
            refine r_iload_2 (q := 25) dX1_isStable_24 rfl ?_
            refine r_aload_0 (q := 26) dX1_isStable_25 rfl ?_
            refine r_callV_0 cv_X1_61 qh_o rfl (by decide) (Nat.le_of_ble_eq_true rfl) ⟨Nat.le_refl _, Nat.le_refl _⟩ (k_X1_many k.2.2.2.1) (q := 29) dX1_isStable_26 rfl ?_
            refine r_icmp_ge (q := 32) (tgt := 49) dX1_isStable_29 rfl rfl (fun c29 => ?_) (fun c29 => ?_)
            · refine r_inc_1 (by decide) rfl (q := 52) dX1_isStable_49 rfl ?_
              refine r_goto (q := 2) dX1_isStable_52 rfl ?_
              refine ih (a + 1) _ (by omega) (fun a' ha' => ?_)
              rcases Nat.lt_succ_iff_lt_or_eq.mp ha' with z | z
              · exact h2 a' z
              · subst z
                exact ⟨hr0, fun b' hb' hab => h4 b' (by omega) hab⟩
            · exact absurd (nI_le (by omega) (by omega)) c29
          | succ d ihd =>
            intro b hab0 h3 h4
            have hb : b < S.1.length := by omega
            refine r_iload_2 (q := 25) dX1_isStable_24 rfl ?_
            refine r_aload_0 (q := 26) dX1_isStable_25 rfl ?_
            refine r_callV_0 cv_X1_61 qh_o rfl (by decide) (Nat.le_of_ble_eq_true rfl) ⟨Nat.le_refl _, Nat.le_refl _⟩ (k_X1_many k.2.2.2.1) (q := 29) dX1_isStable_26 rfl ?_
            refine r_icmp_ge (q := 32) (tgt := 49) dX1_isStable_29 rfl rfl (fun c29 => ?_) (fun c29 => ?_)
            · exact absurd c29 (nI_ge (by omega) (by omega))
            refine r_aload_0 (q := 33) dX1_isStable_32 rfl ?_
            refine r_iload_1 (q := 34) dX1_isStable_33 rfl ?_
            refine r_iload_2 (q := 35) dX1_isStable_34 rfl ?_
            refine r_callV_2 cv_X1_119 qh_o rfl (by decide) (Nat.le_of_ble_eq_true rfl) ⟨Nat.le_refl _, Nat.le_refl _⟩ (k_X1_doLeave k ha hb) (q := 38) dX1_isStable_35 rfl ?_
            refine r_if_eq (q := 41) (tgt := 43) dX1_isStable_38 rfl rfl (fun c38 => ?_) (fun c38 => ?_)
            · refine r_inc_2 (by decide) rfl (q := 46) dX1_isStable_43 rfl ?_
              refine r_goto (q := 24) dX1_isStable_46 rfl ?_
              refine ihd (b + 1) (by omega) (by omega) (fun b' hb' hab => ?_)
              rcases Nat.lt_succ_iff_lt_or_eq.mp hb' with z | z
              · exact h4 b' z hab
              · subst z
                exact bI_0.mp c38
            · refine r_iconst 0 (by decide) (q := 42) dX1_isStable_41 rfl ?_
              have e : stabS S = false := decide_eq_false (fun z => by have := (z a ha).2 b hb hab0; rw [bI_n0.mp c38] at this; cases this)
              rw [e] at hz
              exact r_zret hz rfl dX1_isStable_42 (Nat.le_refl _) (Nat.le_refl _) ⟨rfl, rfl, rfl⟩
        refine r_iload_1 (q := 21) dX1_isStable_20 rfl ?_
        refine r_iconst 1 (by decide) (q := 22) dX1_isStable_21 rfl ?_
        refine r_iadd (q := 23) dX1_isStable_22 rfl ?_
        refine J.topi (nI_1 _) ?_
        refine r_istore_2 (by decide) rfl (q := 24) dX1_isStable_23 rfl ?_
        exact inner (S.1.length - (a + 1)) (a + 1) (by omega) (by omega) (fun b' h5 h6 => absurd h5 (by omega))
      · refine r_iconst 0 (by decide) (q := 19) dX1_isStable_18 rfl ?_
        have e : stabS S = false := decide_eq_false (fun z => by have := (z a ha).1; rw [bI_n0.mp c15] at this; cases this)
        rw [e] at hz
        exact r_zret hz rfl dX1_isStable_19 (Nat.le_refl _) (Nat.le_refl _) ⟨rfl, rfl, rfl⟩
  refine r_iconst 0 (by decide) (q := 1) dX1_isStable_0 rfl ?_
  refine r_istore_1 (by decide) rfl (q := 2) dX1_isStable_1 rfl ?_
  exact outer S.1.length 0 none (Nat.zero_add _) (fun a' h => absurd h (Nat.not_lt_zero _))
end LM


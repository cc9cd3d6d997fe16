/-! ===== PrayerMatsFace's small static methods ===== -/
/-- bit j of m -/
def hbt (m j : Nat) : Bool := m / 2 ^ j % 2 == 1
theorem hb_ok : ∀ m, m < 256 → ∀ j, j < 8 → (((nI m >>> (nI j &&& 31)) &&& 1 = 1) ↔ hbt m j = true) := by decide +kernel
/-- how many bits -/
def popF : Nat → Nat → Nat
  | 0, _ => 0
  | f + 1, k => if k = 0 then 0 else popF f (k &&& (k - 1)) + 1
def pop (k : Nat) : Nat := popF 9 k
theorem pop_0 : pop 0 = 0 := by decide
theorem pop_s : ∀ k, k < 256 → k ≠ 0 → pop k = pop (k &&& (k - 1)) + 1 ∧ (k &&& (k - 1)) < k ∧ nI k &&& (nI k - 1) = nI (k &&& (k - 1)) := by decide +kernel
theorem pop_le : ∀ k, k < 256 → pop k ≤ 8 := by decide +kernel
/-- the refusal of a number -/
def wi (v lo hi : Int32) : Int32 := if v < lo then -4 else if hi < v then -6 else 0
section STAT
variable {G : GD} {n : Nat} {h : RH}
theorem k_X0_has {m j : Nat} (hm : m < 256) (hj : j < 8) : CtE G yX0_has cX0_has 2 (some .boolean) 1 [.int (nI m), .int (nI j)] n h (some (.int (bI (hbt m j)))) h := by
  refine Ct.intro (k := 0) [some (.int (nI m)), some (.int (nI j))] (by decide) (Nat.le_of_ble_eq_true rfl) rfl fun z hz hin => ?_
  refine r_iload_0 (q := 1) dX0_has_0 rfl ?_
  refine r_iload_1 (q := 2) dX0_has_1 rfl ?_
  refine r_ishr (q := 3) dX0_has_2 rfl ?_
  refine r_iconst 1 (by decide) (q := 4) dX0_has_3 rfl ?_
  refine r_iand (q := 5) dX0_has_4 rfl ?_
  refine r_iconst 1 (by decide) (q := 6) dX0_has_5 rfl ?_
  refine r_icmp_ne (q := 9) (tgt := 13) dX0_has_6 rfl rfl (fun c6 => ?_) (fun c6 => ?_)
  · have e : hbt m j = false := by
      cases e : hbt m j
      · rfl
      · exact absurd ((hb_ok m hm j hj).mpr e) c6
    refine r_iconst 0 (by decide) (q := 14) dX0_has_13 rfl ?_
    rw [e] at hz
    exact r_zret hz rfl dX0_has_14 (Nat.le_refl _) (Nat.le_refl _) ⟨rfl, rfl, rfl⟩
  · have e := (hb_ok m hm j hj).mp c6
    refine r_iconst 1 (by decide) (q := 10) dX0_has_9 rfl ?_
    refine r_goto (q := 14) dX0_has_10 rfl ?_
    rw [e] at hz
    exact r_zret hz rfl dX0_has_14 (Nat.le_refl _) (Nat.le_refl _) ⟨rfl, rfl, rfl⟩
theorem k_X0_bits {k : Nat} (hk : k < 256) : CtE G yX0_bits cX0_bits 3 (some .int) 1 [.int (nI k)] n h (some (.int (nI (pop k)))) h := by
  refine Ct.intro (k := 2) [some (.int (nI k)), none, none] (by decide) (Nat.le_of_ble_eq_true rfl) rfl fun z hz hin => ?_
  have loop : ∀ (c a b : Nat), b ≤ c → b < 256 → a + pop b = pop k → J G z cX0_bits 3 RX0 1 0 0 0 0 4 [some (.int (nI k)), some (.int (nI a)), some (.int (nI b))] [] n h := by
    intro c
    induction c with
    | zero =>
      intro a b h1 h2 h3
      have hb0 : b = 0 := by omega
      subst hb0
      rw [pop_0] at h3
      refine r_iload_2 (q := 5) dX0_bits_4 rfl ?_
      refine r_if_eq (q := 8) (tgt := 20) dX0_bits_5 rfl rfl (fun c5 => ?_) (fun c5 => ?_)
      · refine r_iload_1 (q := 21) dX0_bits_20 rfl ?_
        rw [show a = pop k by omega]
        exact r_iret hz dX0_bits_21 (Nat.le_refl _) (Nat.le_refl _) ⟨rfl, rfl, rfl⟩
      · exact absurd rfl c5
    | succ c ih =>
      intro a b h1 h2 h3
      refine r_iload_2 (q := 5) dX0_bits_4 rfl ?_
      refine r_if_eq (q := 8) (tgt := 20) dX0_bits_5 rfl rfl (fun c5 => ?_) (fun c5 => ?_)
      · have hb0 : b = 0 := nI_inj (by omega) (by omega) c5
        subst hb0
        rw [pop_0] at h3
        refine r_iload_1 (q := 21) dX0_bits_20 rfl ?_
        rw [show a = pop k by omega]
        exact r_iret hz dX0_bits_21 (Nat.le_refl _) (Nat.le_refl _) ⟨rfl, rfl, rfl⟩
      · have hb0 : b ≠ 0 := fun e => c5 (by rw [e]; rfl)
        obtain ⟨p1, p2, p3⟩ := pop_s b h2 hb0
        refine r_inc_1 (by decide) rfl (q := 11) dX0_bits_8 rfl ?_
        refine r_iload_2 (q := 12) dX0_bits_11 rfl ?_
        refine r_iload_2 (q := 13) dX0_bits_12 rfl ?_
        refine r_iconst 1 (by decide) (q := 14) dX0_bits_13 rfl ?_
        refine r_isub (q := 15) dX0_bits_14 rfl ?_
        refine r_iand (q := 16) dX0_bits_15 rfl ?_
        rw [p3]
        refine r_istore_2 (by decide) rfl (q := 17) dX0_bits_16 rfl ?_
        refine r_goto (q := 4) dX0_bits_17 rfl ?_
        exact ih (a + 1) _ (by omega) (by omega) (by omega)
  refine r_iconst 0 (by decide) (q := 1) dX0_bits_0 rfl ?_
  refine r_istore_1 (by decide) rfl (q := 2) dX0_bits_1 rfl ?_
  refine r_iload_0 (q := 3) dX0_bits_2 rfl ?_
  refine r_istore_2 (by decide) rfl (q := 4) dX0_bits_3 rfl ?_
  exact loop k 0 k (Nat.le_refl _) hk (Nat.zero_add _)
theorem k_X0_isIn {x y : Int32} : CtE G yX0_isIn cX0_isIn 2 (some .boolean) 1 [.int x, .int y] n h (some (.int (bI (decide (0 ≤ x ∧ x < y))))) h := by
  refine Ct.intro (k := 0) [some (.int x), some (.int y)] (by decide) (Nat.le_of_ble_eq_true rfl) rfl fun z hz hin => ?_
  refine r_iload_0 (q := 1) dX0_isIn_0 rfl ?_
  refine r_if_lt (q := 4) (tgt := 13) dX0_isIn_1 rfl rfl (fun c1 => ?_) (fun c1 => ?_)
  · refine r_iconst 0 (by decide) (q := 14) dX0_isIn_13 rfl ?_
    rw [decide_eq_false (p := 0 ≤ x ∧ x < y) (fun q => absurd c1 (Int32.not_lt.mpr q.1))] at hz
    exact r_zret hz rfl dX0_isIn_14 (Nat.le_refl _) (Nat.le_refl _) ⟨rfl, rfl, rfl⟩
  refine r_iload_0 (q := 5) dX0_isIn_4 rfl ?_
  refine r_iload_1 (q := 6) dX0_isIn_5 rfl ?_
  refine r_icmp_ge (q := 9) (tgt := 13) dX0_isIn_6 rfl rfl (fun c6 => ?_) (fun c6 => ?_)
  · refine r_iconst 0 (by decide) (q := 14) dX0_isIn_13 rfl ?_
    rw [decide_eq_false (p := 0 ≤ x ∧ x < y) (fun q => absurd q.2 (Int32.not_lt.mpr c6))] at hz
    exact r_zret hz rfl dX0_isIn_14 (Nat.le_refl _) (Nat.le_refl _) ⟨rfl, rfl, rfl⟩
  · refine r_iconst 1 (by decide) (q := 10) dX0_isIn_9 rfl ?_
    refine r_goto (q := 14) dX0_isIn_10 rfl ?_
    rw [decide_eq_true (p := 0 ≤ x ∧ x < y) ⟨Int32.not_lt.mp c1, Int32.not_le.mp c6⟩] at hz
    exact r_zret hz rfl dX0_isIn_14 (Nat.le_refl _) (Nat.le_refl _) ⟨rfl, rfl, rfl⟩
theorem k_X0_within {v lo hi : Int32} : CtE G yX0_within cX0_within 3 (some .int) 1 [.int v, .int lo, .int hi] n h (some (.int (wi v lo hi))) h := by
  refine Ct.intro (k := 0) [some (.int v), some (.int lo), some (.int hi)] (by decide) (Nat.le_of_ble_eq_true rfl) rfl fun z hz hin => ?_
  unfold wi at hz
  refine r_iload_0 (q := 1) dX0_within_0 rfl ?_
  refine r_iload_1 (q := 2) dX0_within_1 rfl ?_
  refine r_icmp_ge (q := 5) (tgt := 10) dX0_within_2 rfl rfl (fun c2 => ?_) (fun c2 => ?_)
  · rw [if_neg (Int32.not_lt.mpr c2)] at hz
    refine r_iload_0 (q := 11) dX0_within_10 rfl ?_
    refine r_iload_2 (q := 12) dX0_within_11 rfl ?_
    refine r_icmp_le (q := 15) (tgt := 20) dX0_within_12 rfl rfl (fun c12 => ?_) (fun c12 => ?_)
    · rw [if_neg (Int32.not_lt.mpr c12)] at hz
      refine r_iconst 0 (by decide) (q := 21) dX0_within_20 rfl ?_
      exact r_iret hz dX0_within_21 (Nat.le_refl _) (Nat.le_refl _) ⟨rfl, rfl, rfl⟩
    · rw [if_pos (Int32.not_le.mp c12)] at hz
      refine r_bipush (-6) (by decide) (q := 17) dX0_within_15 rfl ?_
      refine r_goto (q := 21) dX0_within_17 rfl ?_
      exact r_iret hz dX0_within_21 (Nat.le_refl _) (Nat.le_refl _) ⟨rfl, rfl, rfl⟩
  · rw [if_pos (Int32.not_le.mp c2)] at hz
    refine r_bipush (-4) (by decide) (q := 7) dX0_within_5 rfl ?_
    refine r_goto (q := 21) dX0_within_7 rfl ?_
    exact r_iret hz dX0_within_21 (Nat.le_refl _) (Nat.le_refl _) ⟨rfl, rfl, rfl⟩
/-! Math.max, Math.min: the machine's own, by the kit's rows -/
section MM
variable {z : MZ} {cc : ByteArray} {nL : Nat} {own : String} {lvl mcT msT cells slots pc q idx : Nat} {lo : List (Option Value)} {stk : List Value}
theorem r_max {x y : Int32} (hw : Cond.methodLink own idx Lib.Math.max.name ∈ lw_all) (hlv : 1 ≤ lvl) (hst : (stk.map fun v => v.category).sum ≤ 8) (hro : cells ≤ mcT ∧ slots ≤ msT) (d : decode cc pc = .ok (.invokestatic idx, 3)) (hq : pc + 3 = q) (kk : J G z cc nL own lvl mcT msT cells slots q lo (.int (if x < y then y else x) :: stk) n h) : J G z cc nL own lvl mcT msT cells slots pc lo (.int y :: .int x :: stk) n h := by
  obtain ⟨p, e, R, s, m, args, below, meth, c, Q⟩ := z
  subst hq
  intro S K hA hL hR ls H locs hl hn hP hS
  exact va_mmax S.1 S.2.1 (S.2.2.1.trans hl.1.symm) S.2.2.2.1 (S.2.2.2.2 _ hw) (S.2.2.2.2 _ q295) (S.2.2.2.2 _ q91) (S.2.2.2.2 _ q296) (Nat.le_trans hlv hR.1) (by have := hR.2.1; omega) (by rw [hR.2.2.1]; exact hro.1) (by rw [hR.2.2.2]; exact hro.2) d (kk S K hA hL hR ls H locs hl hn hP hS)
theorem r_min {x y : Int32} (hw : Cond.methodLink own idx Lib.Math.min.name ∈ lw_all) (hlv : 1 ≤ lvl) (hst : (stk.map fun v => v.category).sum ≤ 8) (hro : cells ≤ mcT ∧ slots ≤ msT) (d : decode cc pc = .ok (.invokestatic idx, 3)) (hq : pc + 3 = q) (kk : J G z cc nL own lvl mcT msT cells slots q lo (.int (if y < x then y else x) :: stk) n h) : J G z cc nL own lvl mcT msT cells slots pc lo (.int y :: .int x :: stk) n h := by
  obtain ⟨p, e, R, s, m, args, below, meth, c, Q⟩ := z
  subst hq
  intro S K hA hL hR ls H locs hl hn hP hS
  exact va_mmin S.1 S.2.1 (S.2.2.1.trans hl.1.symm) S.2.2.2.1 (S.2.2.2.2 _ hw) (S.2.2.2.2 _ q326) (S.2.2.2.2 _ q91) (S.2.2.2.2 _ q327) (Nat.le_trans hlv hR.1) (by have := hR.2.1; omega) (by rw [hR.2.2.1]; exact hro.1) (by rw [hR.2.2.2]; exact hro.2) d (kk S K hA hL hR ls H locs hl hn hP hS)
end MM
/-- a person by kind and figure -/
theorem k_X0_personWith {k f : Nat} (hk : k < 6) : Ct G yX0_personWith cX0_personWith 2 (some (.object "PrayerMatsFace$Person")) 5 1 2 [.int (nI k), .int (nI f)] n h (fun r n' h' => r = some (.ref n) ∧ n' = n + 1 ∧ h' = hset h n (pcell (k, f))) := by
  refine Ct.intro (k := 0) [some (.int (nI k)), some (.int (nI f))] (by decide) (Nat.le_of_ble_eq_true rfl) rfl fun z hz hin => ?_
  refine r_iload_0 (q := 1) dX0_personWith_0 rfl ?_
  match k, hk with
  | 0, _ =>
    refine r_tableOut dX0_personWith_1 (Or.inl (by decide)) rfl ?_
    refine r_new nw_X0_71 (Nat.le_refl _) (Nat.le_refl _) (q := 89) dX0_personWith_86 rfl ?_
    refine r_dup rfl (q := 90) dX0_personWith_89 rfl ?_
    refine r_iload_0 (q := 91) dX0_personWith_90 rfl ?_
    refine r_iload_1 (q := 92) dX0_personWith_91 rfl ?_
    refine r_callIv_2 ci_X0_73 (by decide) (Nat.le_of_ble_eq_true rfl) ⟨Nat.le_refl _, Nat.le_refl _⟩ (k_X5_init_5 (hset_eq _ _ _)) dX0_personWith_92 rfl ?_
    rw [hset_hset]
    exact r_aret hz (Or.inr ⟨_, rfl⟩) dX0_personWith_95 (Nat.le_refl _) (Nat.le_refl _) ⟨rfl, rfl, rfl⟩
  | 1, _ =>
    refine r_tableIn dX0_personWith_1 (by decide) (by decide) (off := 36 - 1) (by decide) rfl ?_
    refine r_new nw_X0_54 (Nat.le_refl _) (Nat.le_refl _) (q := 39) dX0_personWith_36 rfl ?_
    refine r_dup rfl (q := 40) dX0_personWith_39 rfl ?_
    refine r_iload_0 (q := 41) dX0_personWith_40 rfl ?_
    refine r_iload_1 (q := 42) dX0_personWith_41 rfl ?_
    refine r_callIv_2 ci_X0_56 (by decide) (Nat.le_of_ble_eq_true rfl) ⟨Nat.le_refl _, Nat.le_refl _⟩ (k_X6_init_6 (hset_eq _ _ _)) (q := 45) dX0_personWith_42 rfl ?_
    rw [hset_hset]
    refine r_aret hz (Or.inr ⟨_, rfl⟩) dX0_personWith_45 (Nat.le_refl _) (Nat.le_refl _) ⟨rfl, rfl, rfl⟩
  | 2, _ =>
    refine r_tableIn dX0_personWith_1 (by decide) (by decide) (off := 46 - 1) (by decide) rfl ?_
    refine r_new nw_X0_59 (Nat.le_refl _) (Nat.le_refl _) (q := 49) dX0_personWith_46 rfl ?_
    refine r_dup rfl (q := 50) dX0_personWith_49 rfl ?_
    refine r_iload_0 (q := 51) dX0_personWith_50 rfl ?_
    refine r_iload_1 (q := 52) dX0_personWith_51 rfl ?_
    refine r_callIv_2 ci_X0_61 (by decide) (Nat.le_of_ble_eq_true rfl) ⟨Nat.le_refl _, Nat.le_refl _⟩ (k_X7_init (hset_eq _ _ _)) (q := 55) dX0_personWith_52 rfl ?_
    rw [hset_hset]
    refine r_aret hz (Or.inr ⟨_, rfl⟩) dX0_personWith_55 (Nat.le_refl _) (Nat.le_refl _) ⟨rfl, rfl, rfl⟩
  | 3, _ =>
    refine r_tableIn dX0_personWith_1 (by decide) (by decide) (off := 56 - 1) (by decide) rfl ?_
    refine r_new nw_X0_62 (Nat.le_refl _) (Nat.le_refl _) (q := 59) dX0_personWith_56 rfl ?_
    refine r_dup rfl (q := 60) dX0_personWith_59 rfl ?_
    refine r_iload_0 (q := 61) dX0_personWith_60 rfl ?_
    refine r_iload_1 (q := 62) dX0_personWith_61 rfl ?_
    refine r_callIv_2 ci_X0_64 (by decide) (Nat.le_of_ble_eq_true rfl) ⟨Nat.le_refl _, Nat.le_refl _⟩ (k_X8_init_8 (hset_eq _ _ _)) (q := 65) dX0_personWith_62 rfl ?_
    rw [hset_hset]
    refine r_aret hz (Or.inr ⟨_, rfl⟩) dX0_personWith_65 (Nat.le_refl _) (Nat.le_refl _) ⟨rfl, rfl, rfl⟩
  | 4, _ =>
    refine r_tableIn dX0_personWith_1 (by decide) (by decide) (off := 66 - 1) (by decide) rfl ?_
    refine r_new nw_X0_65 (Nat.le_refl _) (Nat.le_refl _) (q := 69) dX0_personWith_66 rfl ?_
    refine r_dup rfl (q := 70) dX0_personWith_69 rfl ?_
    refine r_iload_0 (q := 71) dX0_personWith_70 rfl ?_
    refine r_iload_1 (q := 72) dX0_personWith_71 rfl ?_
    refine r_callIv_2 ci_X0_67 (by decide) (Nat.le_of_ble_eq_true rfl) ⟨Nat.le_refl _, Nat.le_refl _⟩ (k_X9_init (hset_eq _ _ _)) (q := 75) dX0_personWith_72 rfl ?_
    rw [hset_hset]
    refine r_aret hz (Or.inr ⟨_, rfl⟩) dX0_personWith_75 (Nat.le_refl _) (Nat.le_refl _) ⟨rfl, rfl, rfl⟩
  | 5, _ =>
    refine r_tableIn dX0_personWith_1 (by decide) (by decide) (off := 76 - 1) (by decide) rfl ?_
    refine r_new nw_X0_68 (Nat.le_refl _) (Nat.le_refl _) (q := 79) dX0_personWith_76 rfl ?_
    refine r_dup rfl (q := 80) dX0_personWith_79 rfl ?_
    refine r_iload_0 (q := 81) dX0_personWith_80 rfl ?_
    refine r_iload_1 (q := 82) dX0_personWith_81 rfl ?_
    refine r_callIv_2 ci_X0_70 (by decide) (Nat.le_of_ble_eq_true rfl) ⟨Nat.le_refl _, Nat.le_refl _⟩ (k_X10_init (hset_eq _ _ _)) (q := 85) dX0_personWith_82 rfl ?_
    rw [hset_hset]
    refine r_aret hz (Or.inr ⟨_, rfl⟩) dX0_personWith_85 (Nat.le_refl _) (Nat.le_refl _) ⟨rfl, rfl, rfl⟩
end STAT


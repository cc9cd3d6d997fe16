/-! ===== small methods of PrayerMatsFace ===== -/
/-- a refusal, and its place -/
def isC (c : Int32) : Prop := c = -1 ∨ c = -2 ∨ c = -3 ∨ c = -4 ∨ c = -6
def rfn (c : Int32) : Nat := if c = -1 then 1 else if c = -2 then 2 else if c = -3 then 3 else if c = -4 then 4 else 6
theorem rfn_ok {c : Int32} (h : isC c) : -c = nI (rfn c) ∧ rfn c < 7 := by
  rcases h with rfl | rfl | rfl | rfl | rfl <;> decide
theorem isC_1 : isC (-1) := Or.inl rfl
theorem isC_2 : isC (-2) := Or.inr (Or.inl rfl)
theorem isC_3 : isC (-3) := Or.inr (Or.inr (Or.inl rfl))
theorem isC_4 : isC (-4) := Or.inr (Or.inr (Or.inr (Or.inl rfl)))
theorem isC_6 : isC (-6) := Or.inr (Or.inr (Or.inr (Or.inr rfl)))
theorem isC_ne {c : Int32} (h : isC c) : ¬ c = 0 := by
  rcases h with rfl | rfl | rfl | rfl | rfl <;> decide
theorem wi_c (v lo hi : Int32) : wi v lo hi = 0 ∨ isC (wi v lo hi) := by
  unfold wi
  split
  · exact Or.inr isC_4
  · split
    · exact Or.inr isC_6
    · exact Or.inl rfl
/-- one more refusal of the kind -/
def bump (l : List Int32) (c : Int32) : List Int32 := l.set (rfn c) (l.getD (rfn c) 0 + 1)
def rfw (w : XW) (c : Int32) : XW := setra w (bump w.2.2.1.1 c)
theorem isP {i : Int32} {k : Nat} (hk : k < 2 ^ 30) (h : 0 ≤ i ∧ i < nI k) : ∃ a, a < k ∧ i = nI a := by
  obtain ⟨a, h1, rfl⟩ := nI_of (x := i) (Int32.not_lt.mpr h.1)
  exact ⟨a, (nI_ltI h1 (by omega)).mp h.2, rfl⟩
def isPer (S : SQ) (i : Int32) : Bool := decide (0 ≤ i ∧ i < nI S.1.length)
def areTw (S : SQ) (i j : Int32) : Bool := isPer S i && (isPer S j && decide (i ≠ j))
theorem isPer_t {S : SQ} {i : Int32} (hL : LenS S) (h : isPer S i = true) : ∃ a, a < S.1.length ∧ i = nI a := isP (by have := hL.1; omega) (of_decide_eq_true h)
theorem areTw_t {S : SQ} {i j : Int32} (hL : LenS S) (h : areTw S i j = true) : ∃ a b, a < S.1.length ∧ b < S.1.length ∧ a ≠ b ∧ i = nI a ∧ j = nI b := by
  unfold areTw at h
  rw [Bool.and_eq_true, Bool.and_eq_true] at h
  obtain ⟨a, h1, rfl⟩ := isPer_t hL h.1
  obtain ⟨b, h2, rfl⟩ := isPer_t hL h.2.1
  exact ⟨a, b, h1, h2, fun e => of_decide_eq_true h.2.2 (by rw [e]), rfl, rfl⟩
/-- the 100 that is never -/
def toldI (v : Int32) : Int32 := if v = 100 then -9 else v
def comS (S : SQ) (h : Nat) : Int32 := forR (fun a acc => acc + (if hbt (hr S a) h then 1 else 0)) 0 S.1.length 0
def allComS (S : SQ) : Int32 := forR (fun h acc => acc + comS S h) 0 5 0
/-- the one he likes best -/
def favF (S : SQ) (p : Nat) (i : Nat) (b : Option Nat) : Option Nat := if i = p then b else match b with
  | none => some i
  | some k => if likS S p k < likS S p i then some i else some k
def favS (S : SQ) (p : Nat) : Option Nat := forR (favF S p) 0 S.1.length none
def wantS (S : SQ) (p : Nat) : Bool := decide (∃ i, i < S.1.length ∧ wouldS S i p = true)
def lawF (S : SQ) (a b : Nat) (s : Int32 × Int32) : Int32 × Int32 := if nI (qr S a b) ≤ s.2 then s else (10 * nI a + nI b, nI (qr S a b))
def lawI (S : SQ) (a : Nat) (s : Int32 × Int32) : Int32 × Int32 := forR (lawF S a) (a + 1) (S.1.length - (a + 1)) s
def lawS (S : SQ) : Int32 × Int32 := forR (lawI S) 0 S.1.length (-9, -1)
/-- the first of c days on which the quarrel is mended -/
def zin (a b : Nat) : Nat → Nat → SQ → Int32
  | 0, _, _ => 100
  | c + 1, k, S => if qr S a b = 0 then nI k else zin a b c (k + 1) (goesS S)
def peaceS (S : SQ) : Bool := decide (∀ a, a < S.1.length → ∀ b, mt S a = some b → a < b → qr S a b = 0)
/-- what is left in mind is any quarter -/
def LX (X : QX) : Prop := LenS X.1 ∧ X.2.1.length ≤ 6
def MP (x : Nat) (w : XW) (g : RH) (n : Nat) (r0 : Option Value) : Option Value → Nat → RH → Prop := fun r n' h' => r = r0 ∧ n' = n ∧ ∃ X', LX X' ∧ h' = xh x (setq w 1 X') g
section XM
variable {G : GD} {n x : Nat} {w : XW} {g : RH} {X Y : QX}
theorem KX.lx (h : KX x g Y) : LX Y := h.lq
theorem xe_o (i : Nat) (hi : i < 12) (e : w.1 i = Y) : xh x w g (x + qo i) = some (.inr (.inr (1, [.ref (x + qo i + 1), .ref (x + qo i + 3), .ref (x + qo i + 4), .ref (x + qo i + 5), .int (nI Y.1.2.2.2.2)]))) := by subst e; exact xh_qo i hi
theorem xe_h (i : Nat) (hi : i < 12) (e : w.1 i = Y) : xh x w g (x + qo i + 3) = some (.inl (Y.1.2.1.map nI)) := by subst e; exact xh_qh i hi
theorem xe_m (i : Nat) (hi : i < 12) (e : w.1 i = Y) : xh x w g (x + qo i + 4) = some (.inl (Y.1.2.2.1.map mI)) := by subst e; exact xh_qm i hi
theorem xs_h {a v : Nat} (i : Nat) (hi : i < 12) : hset (xh x (setq w i X) g) (x + qo i + 3) (.inl ((X.1.2.1.set a v).map nI)) = xh x (setq w i (setH X.1 a v, X.2)) g := by
  refine (xset_q (w := setq w i X) (X := (setH X.1 a v, X.2)) i 3 hi ?_).trans (by rw [setq_setq])
  rw [setq_at]
  exact qh_setH (S := X.1) (pp := X.2.1) (mc := X.2.2) a v
theorem xs_m {a : Nat} {v : Option Nat} (i : Nat) (hi : i < 12) : hset (xh x (setq w i X) g) (x + qo i + 4) (.inl ((X.1.2.2.1.set a v).map mI)) = xh x (setq w i (setM X.1 a v, X.2)) g := by
  refine (xset_q (w := setq w i X) (X := (setM X.1 a v, X.2)) i 4 hi ?_).trans (by rw [setq_setq])
  rw [setq_at]
  exact qh_setM (S := X.1) (pp := X.2.1) (mc := X.2.2) a v
theorem k_X0_refuse {c : Int32} (hc : isC c) (hl : w.2.2.1.1.length = 7) : CtE G yX0_refuse cX0_refuse 2 (some FieldType.int) 1 [.ref x, .int c] n (xh x w g) (some (.int c)) (xh x (rfw w c) g) := by
  refine Ct.intro (k := 0) [some (.ref x), some (.int c)] (by decide) (Nat.le_of_ble_eq_true rfl) rfl fun z hz hin => ?_
  refine r_aload_0 (q := 1) dX0_refuse_0 rfl ?_
  refine r_get gf_X0_7_0 xh_x rfl (q := 4) dX0_refuse_1 rfl ?_
  refine r_iload_1 (q := 5) dX0_refuse_4 rfl ?_
  refine r_ineg (q := 6) dX0_refuse_5 rfl ?_
  refine r_dup2 rfl rfl (q := 7) dX0_refuse_6 rfl ?_
  refine r_iald (rfn c) 7 xh_ra hl (rfn_ok hc).1 (rfn_ok hc).2 (by decide) (q := 8) dX0_refuse_7 rfl ?_
  refine r_iconst 1 (by decide) (q := 9) dX0_refuse_8 rfl ?_
  refine r_iadd (q := 10) dX0_refuse_9 rfl ?_
  refine r_iast (rfn c) 7 xh_ra hl (rfn_ok hc).1 (rfn_ok hc).2 (by decide) (q := 11) dX0_refuse_10 rfl ?_
  refine J.heap (xset_ra _) ?_
  refine r_iload_1 (q := 12) dX0_refuse_11 rfl ?_
  exact r_iret hz dX0_refuse_12 (Nat.le_refl _) (Nat.le_refl _) ⟨rfl, rfl, rfl⟩
theorem k_X0_refuseFar {c : Int32} (hc : isC c) (hl : w.2.2.1.1.length = 7) : CtE G yX0_refuseFar cX0_refuseFar 2 (some FieldType.int) 2 [.ref x, .int c] n (xh x w g) (some (.int (1000000000 - c))) (xh x (rfw w c) g) := by
  refine Ct.intro (k := 0) [some (.ref x), some (.int c)] (by decide) (Nat.le_of_ble_eq_true rfl) rfl fun z hz hin => ?_
  refine r_ldc q776 (q := 2) dX0_refuseFar_0 rfl ?_
  refine r_aload_0 (q := 3) dX0_refuseFar_2 rfl ?_
  refine r_iload_1 (q := 4) dX0_refuseFar_3 rfl ?_
  refine r_callV_1 cv_X0_48 xh_x rfl (by decide) (Nat.le_of_ble_eq_true rfl) ⟨Nat.le_refl _, Nat.le_refl _⟩ (k_X0_refuse hc hl) (q := 7) dX0_refuseFar_4 rfl ?_
  refine r_isub (q := 8) dX0_refuseFar_7 rfl ?_
  exact r_iret hz dX0_refuseFar_8 (Nat.le_refl _) (Nat.le_refl _) ⟨rfl, rfl, rfl⟩
theorem k_X0_refuseWide {c : Int32} (hc : isC c) (hl : w.2.2.1.1.length = 7) : CtE G yX0_refuseWide cX0_refuseWide 2 (some FieldType.long) 2 [.ref x, .int c] n (xh x w g) (some (.long (4000000000000000000 - c.toInt64))) (xh x (rfw w c) g) := by
  refine Ct.intro (k := 0) [some (.ref x), some (.int c)] (by decide) (Nat.le_of_ble_eq_true rfl) rfl fun z hz hin => ?_
  refine r_ldc2 q888 (q := 3) dX0_refuseWide_0 rfl ?_
  refine r_aload_0 (q := 4) dX0_refuseWide_3 rfl ?_
  refine r_iload_1 (q := 5) dX0_refuseWide_4 rfl ?_
  refine r_callV_1 cv_X0_48 xh_x rfl (by decide) (Nat.le_of_ble_eq_true rfl) ⟨Nat.le_refl _, Nat.le_refl _⟩ (k_X0_refuse hc hl) (q := 8) dX0_refuseWide_5 rfl ?_
  refine r_i2l (q := 9) dX0_refuseWide_8 rfl ?_
  refine r_lsub (q := 10) dX0_refuseWide_9 rfl ?_
  exact r_lret hz dX0_refuseWide_10 (Nat.le_refl _) (Nat.le_refl _) ⟨rfl, rfl, rfl⟩
theorem k_X0_isPerson {i : Int32} (h : KX x g (w.1 0)) : CtE G yX0_isPerson cX0_isPerson 2 (some FieldType.boolean) 3 [.ref x, .int i] n (xh x w g) (some (.int (bI (isPer (w.1 0).1 i)))) (xh x w g) := by
  refine Ct.intro (k := 0) [some (.ref x), some (.int i)] (by decide) (Nat.le_of_ble_eq_true rfl) rfl fun z hz hin => ?_
  refine r_iload_1 (q := 1) dX0_isPerson_0 rfl ?_
  refine r_aload_0 (q := 2) dX0_isPerson_1 rfl ?_
  refine r_get gf_X0_16_0 xh_x rfl (q := 5) dX0_isPerson_2 rfl ?_
  refine r_callV_0 cv_X0_74 (xe_o 0 (by decide) rfl) rfl (by decide) (Nat.le_of_ble_eq_true rfl) ⟨Nat.le_refl _, Nat.le_refl _⟩ (x_many 0 (by decide) h rfl) (q := 8) dX0_isPerson_5 rfl ?_
  refine r_callS_2 cs_X0_78 (by decide) (Nat.le_of_ble_eq_true rfl) ⟨Nat.le_refl _, Nat.le_refl _⟩ (k_X0_isIn) (q := 11) dX0_isPerson_8 rfl ?_
  exact r_zret hz (by first | exact bI_z _ | rfl) dX0_isPerson_11 (Nat.le_refl _) (Nat.le_refl _) ⟨rfl, rfl, rfl⟩
theorem k_X0_areTwo {i j : Int32} (h : KX x g (w.1 0)) : CtE G yX0_areTwo cX0_areTwo 3 (some FieldType.boolean) 4 [.ref x, .int i, .int j] n (xh x w g) (some (.int (bI (areTw (w.1 0).1 i j)))) (xh x w g) := by
  refine Ct.intro (k := 0) [some (.ref x), some (.int i), some (.int j)] (by decide) (Nat.le_of_ble_eq_true rfl) rfl fun z hz hin => ?_
  have fin : ∀ t : Bool, t = areTw (w.1 0).1 i j → J G z cX0_areTwo 3 RX0 4 0 0 0 0 26 [some (.ref x), some (.int i), some (.int j)] [.int (bI t)] n (xh x w g) := by
    intro t ht
    exact r_zret hz (by first | exact bI_z _ | rfl) dX0_areTwo_26 (Nat.le_refl _) (Nat.le_refl _) ⟨by rw [ht], rfl, rfl⟩
  have no : false = areTw (w.1 0).1 i j → J G z cX0_areTwo 3 RX0 4 0 0 0 0 25 [some (.ref x), some (.int i), some (.int j)] [] n (xh x w g) := by
    intro ht
    refine r_iconst 0 (by decide) (q := 26) dX0_areTwo_25 rfl ?_
    exact fin false ht
  refine r_aload_0 (q := 1) dX0_areTwo_0 rfl ?_
  refine r_iload_1 (q := 2) dX0_areTwo_1 rfl ?_
  refine r_callV_1 cv_X0_82 xh_x rfl (by decide) (Nat.le_of_ble_eq_true rfl) ⟨Nat.le_refl _, Nat.le_refl _⟩ (k_X0_isPerson h) (q := 5) dX0_areTwo_2 rfl ?_
  refine r_if_eq (q := 8) (tgt := 25) dX0_areTwo_5 rfl rfl (fun c5 => ?_) (fun c5 => ?_)
  · exact no (by unfold areTw; rw [bI_0.mp c5]; rfl)
  refine r_aload_0 (q := 9) dX0_areTwo_8 rfl ?_
  refine r_iload_2 (q := 10) dX0_areTwo_9 rfl ?_
  refine r_callV_1 cv_X0_82 xh_x rfl (by decide) (Nat.le_of_ble_eq_true rfl) ⟨Nat.le_refl _, Nat.le_refl _⟩ (k_X0_isPerson h) (q := 13) dX0_areTwo_10 rfl ?_
  refine r_if_eq (q := 16) (tgt := 25) dX0_areTwo_13 rfl rfl (fun c13 => ?_) (fun c13 => ?_)
  · exact no (by unfold areTw; rw [bI_0.mp c13, Bool.false_and, Bool.and_false])
  refine r_iload_1 (q := 17) dX0_areTwo_16 rfl ?_
  refine r_iload_2 (q := 18) dX0_areTwo_17 rfl ?_
  refine r_icmp_eq (q := 21) (tgt := 25) dX0_areTwo_18 rfl rfl (fun c18 => ?_) (fun c18 => ?_)
  · exact no (by unfold areTw; rw [decide_eq_false (fun z => z c18), Bool.and_false, Bool.and_false])
  refine r_iconst 1 (by decide) (q := 22) dX0_areTwo_21 rfl ?_
  refine r_goto (q := 26) dX0_areTwo_22 rfl ?_
  exact fin true (by unfold areTw; rw [bI_n0.mp c5, bI_n0.mp c13, decide_eq_true c18]; rfl)
theorem k_X0_wrongDays {v : Int32} {h : RH} : CtE G yX0_wrongDays cX0_wrongDays 1 (some FieldType.int) 2 [.int v] n h (some (.int (wi v 0 99))) h := by
  refine Ct.intro (k := 0) [some (.int v)] (by decide) (Nat.le_of_ble_eq_true rfl) rfl fun z hz hin => ?_
  refine r_iload_0 (q := 1) dX0_wrongDays_0 rfl ?_
  refine r_iconst 0 (by decide) (q := 2) dX0_wrongDays_1 rfl ?_
  refine r_bipush 99 (by decide) (q := 4) dX0_wrongDays_2 rfl ?_
  refine r_callS_3 cs_X0_86 (by decide) (Nat.le_of_ble_eq_true rfl) ⟨Nat.le_refl _, Nat.le_refl _⟩ (k_X0_within) (q := 7) dX0_wrongDays_4 rfl ?_
  exact r_iret hz dX0_wrongDays_7 (Nat.le_refl _) (Nat.le_refl _) ⟨rfl, rfl, rfl⟩
theorem k_X0_told {v : Int32} {h : RH} : CtE G yX0_told cX0_told 1 (some FieldType.int) 1 [.int v] n h (some (.int (toldI v))) h := by
  refine Ct.intro (k := 0) [some (.int v)] (by decide) (Nat.le_of_ble_eq_true rfl) rfl fun z hz hin => ?_
  unfold toldI at hz
  refine r_iload_0 (q := 1) dX0_told_0 rfl ?_
  refine r_bipush 100 (by decide) (q := 3) dX0_told_1 rfl ?_
  refine r_icmp_ne (q := 6) (tgt := 11) dX0_told_3 rfl rfl (fun c3 => ?_) (fun c3 => ?_)
  · rw [if_neg c3] at hz
    refine r_iload_0 (q := 12) dX0_told_11 rfl ?_
    exact r_iret hz dX0_told_12 (Nat.le_refl _) (Nat.le_refl _) ⟨rfl, rfl, rfl⟩
  · rw [if_pos c3] at hz
    refine r_bipush (-9) (by decide) (q := 8) dX0_told_6 rfl ?_
    refine r_goto (q := 12) dX0_told_8 rfl ?_
    exact r_iret hz dX0_told_12 (Nat.le_refl _) (Nat.le_refl _) ⟨rfl, rfl, rfl⟩
/-- on one mat, or not any more -/
def turnS (S : SQ) (a b : Nat) : SQ := if mt S a = some b then leaveS S a else joinS S a b
theorem KX.turn {a b : Nat} (h : KX x g X) (ha : a < X.1.1.length) (hb : b < X.1.1.length) : KX x g (turnS X.1 a b, X.2) := by
  unfold turnS
  split
  · exact h.leave
  · exact h.join ha hb
theorem k_X0_turnsMat {a b : Nat} (i : Nat) (hi : i < 12) (h : KX x g X) (ha : a < 6) (hb : b < 6) : CtE G yX0_turnsMat cX0_turnsMat 3 none 3 [.ref (x + qo i), .int (nI a), .int (nI b)] n (xh x (setq w i X) g) none (xh x (setq w i (turnS X.1 a b, X.2)) g) := by
  refine Ct.intro (k := 0) [some (.ref (x + qo i)), some (.int (nI a)), some (.int (nI b))] (by decide) (Nat.le_of_ble_eq_true rfl) rfl fun z hz hin => ?_
  unfold turnS at hz
  refine r_aload_0 (q := 1) dX0_turnsMat_0 rfl ?_
  refine r_getN gn_X0_94_1 (xe_o i hi (setq_at _ _)) rfl (q := 4) dX0_turnsMat_1 rfl ?_
  refine r_iload_1 (q := 5) dX0_turnsMat_4 rfl ?_
  refine r_ialdM a 6 (xe_m i hi (setq_at _ _)) h.1.2.2.1 rfl ha (by decide) (q := 6) dX0_turnsMat_5 rfl ?_
  refine r_iload_2 (q := 7) dX0_turnsMat_6 rfl ?_
  have e := mI_eq (o := mt X.1 a) (a := b) (by omega) (fun c hc => Nat.lt_trans (h.mt6 hc) (by decide))
  refine r_icmp_ne (q := 10) (tgt := 18) dX0_turnsMat_7 rfl rfl (fun c7 => ?_) (fun c7 => ?_)
  · rw [if_neg (fun q => c7 (e.mpr q))] at hz
    refine r_aload_0 (q := 19) dX0_turnsMat_18 rfl ?_
    refine r_iload_1 (q := 20) dX0_turnsMat_19 rfl ?_
    refine r_iload_2 (q := 21) dX0_turnsMat_20 rfl ?_
    refine r_callVv_2 cv_X0_100 (xe_o i hi (setq_at _ _)) rfl (by decide) (Nat.le_of_ble_eq_true rfl) ⟨Nat.le_refl _, Nat.le_refl _⟩ (m_joins i hi h ha hb) (q := 24) dX0_turnsMat_21 rfl ?_
    exact r_vret hz dX0_turnsMat_24 (Nat.le_refl _) (Nat.le_refl _) ⟨rfl, rfl, rfl⟩
  · rw [if_pos (e.mp c7)] at hz
    refine r_aload_0 (q := 11) dX0_turnsMat_10 rfl ?_
    refine r_iload_1 (q := 12) dX0_turnsMat_11 rfl ?_
    refine r_callVv_1 cv_X0_97 (xe_o i hi (setq_at _ _)) rfl (by decide) (Nat.le_of_ble_eq_true rfl) ⟨Nat.le_refl _, Nat.le_refl _⟩ (m_parts i hi h ha) (q := 15) dX0_turnsMat_12 rfl ?_
    refine r_goto (q := 24) dX0_turnsMat_15 rfl ?_
    exact r_vret hz dX0_turnsMat_24 (Nat.le_refl _) (Nat.le_refl _) ⟨rfl, rfl, rfl⟩
theorem k_X0_goesOn {m : Nat} (h : KX x g (w.1 0)) (hX : LX X) (hm : m < 2 ^ 30) : CtE G yX0_goesOn cX0_goesOn 2 none 9 [.ref x, .int (nI m)] n (xh x (setq w 1 X) g) none (xh x (setq w 1 (daysS m (w.1 0).1, (tkX (w.1 0) X).2)) g) := by
  refine Ct.intro (k := 0) [some (.ref x), some (.int (nI m))] (by decide) (Nat.le_of_ble_eq_true rfl) rfl fun z hz hin => ?_
  refine r_aload_0 (q := 1) dX0_goesOn_0 rfl ?_
  refine r_get gf_X0_20_0 xh_x rfl (q := 4) dX0_goesOn_1 rfl ?_
  refine r_aload_0 (q := 5) dX0_goesOn_4 rfl ?_
  refine r_get gf_X0_16_0 xh_x rfl (q := 8) dX0_goesOn_5 rfl ?_
  refine r_callVv_1 cv_X0_103 (xe_o 1 (by decide) rfl) rfl (by decide) (Nat.le_of_ble_eq_true rfl) ⟨Nat.le_refl _, Nat.le_refl _⟩ (m_takes 1 0 (by decide) (by decide) (by decide) hX h rfl) (q := 11) dX0_goesOn_8 rfl ?_
  refine r_aload_0 (q := 12) dX0_goesOn_11 rfl ?_
  refine r_get gf_X0_20_0 xh_x rfl (q := 15) dX0_goesOn_12 rfl ?_
  refine r_iload_1 (q := 16) dX0_goesOn_15 rfl ?_
  refine r_callVv_1 cv_X0_181 (xe_o 1 (by decide) rfl) rfl (by decide) (Nat.le_of_ble_eq_true rfl) ⟨Nat.le_refl _, Nat.le_refl _⟩ (m_goesOn (X := tkX (w.1 0) X) 1 (by decide) h.tk hm) (q := 19) dX0_goesOn_16 rfl ?_
  exact r_vret hz dX0_goesOn_19 (Nat.le_refl _) (Nat.le_refl _) ⟨rfl, rfl, rfl⟩
theorem k_X0_atLaw (i : Nat) (hi : i < 12) (h : KX x g Y) (e : w.1 i = Y) : CtE G yX0_atLaw cX0_atLaw 5 (some FieldType.int) 3 [.ref (x + qo i)] n (xh x w g) (some (.int (lawS Y.1).1)) (xh x w g) := by
  refine Ct.intro (k := 4) [some (.ref (x + qo i)), none, none, none, none] (by decide) (Nat.le_of_ble_eq_true rfl) rfl fun z hz hin => ?_
  have h6 := h.l6
  refine r_bipush (-9) (by decide) (q := 2) dX0_atLaw_0 rfl ?_
  refine r_istore_1 (by decide) rfl (q := 3) dX0_atLaw_2 rfl ?_
  refine r_iconst (-1) (by decide) (q := 4) dX0_atLaw_3 rfl ?_
  refine r_istore_2 (by decide) rfl (q := 5) dX0_atLaw_4 rfl ?_
  refine r_iconst 0 (by decide) (q := 6) dX0_atLaw_5 rfl ?_
  refine r_istore_3 (by decide) rfl (q := 7) dX0_atLaw_6 rfl ?_
  refine forJ (f := lawI Y.1) (σ := Int32 × Int32) Y.1.1.length (fun _ => True) (fun a s => ∀ o4 : Option Value, J G z cX0_atLaw 5 RX0 3 0 0 0 0 7 [some (.ref (x + qo i)), some (.int s.1), some (.int s.2), some (.int (nI a)), o4] [] n (xh x w g)) (a0 := 0) (s0 := (-9, -1)) (Nat.zero_le _) trivial (fun s _ hs o4 => ?_) (fun a s _ ha _ => ⟨trivial, fun next o4 => ?_⟩) none
  · refine r_iload_3 (q := 8) dX0_atLaw_7 rfl ?_
    refine r_aload_0 (q := 9) dX0_atLaw_8 rfl ?_
    refine r_callV_0 cv_X0_74 (xe_o i hi e) rfl (by decide) (Nat.le_of_ble_eq_true rfl) ⟨Nat.le_refl _, Nat.le_refl _⟩ (x_many i hi h e) (q := 12) dX0_atLaw_9 rfl ?_
    refine r_icmp_ge (q := 15) (tgt := 71) dX0_atLaw_12 rfl rfl (fun c12 => ?_) (fun c12 => ?_)
    · rw [← show s = lawS Y.1 from hs] at hz
      refine r_iload_1 (q := 72) dX0_atLaw_71 rfl ?_
      exact r_iret hz dX0_atLaw_72 (Nat.le_refl _) (Nat.le_refl _) ⟨rfl, rfl, rfl⟩
    · exact absurd (Int32.le_refl _) c12
  · refine r_iload_3 (q := 8) dX0_atLaw_7 rfl ?_
    refine r_aload_0 (q := 9) dX0_atLaw_8 rfl ?_
    refine r_callV_0 cv_X0_74 (xe_o i hi e) rfl (by decide) (Nat.le_of_ble_eq_true rfl) ⟨Nat.le_refl _, Nat.le_refl _⟩ (x_many i hi h e) (q := 12) dX0_atLaw_9 rfl ?_
    refine r_icmp_ge (q := 15) (tgt := 71) dX0_atLaw_12 rfl rfl (fun c12 => ?_) (fun c12 => ?_)
    · exact absurd c12 (nI_not_lt ha (by omega))
    refine r_iload_3 (q := 16) dX0_atLaw_15 rfl ?_
    refine r_iconst 1 (by decide) (q := 17) dX0_atLaw_16 rfl ?_
    refine r_iadd (q := 18) dX0_atLaw_17 rfl ?_
    refine J.topi (nI_1 _) ?_
    refine r_istore_4 (by decide) rfl (q := 20) dX0_atLaw_18 rfl ?_
    refine forJ (f := lawF Y.1 a) (σ := Int32 × Int32) Y.1.1.length (fun _ => True) (fun b s => J G z cX0_atLaw 5 RX0 3 0 0 0 0 20 [some (.ref (x + qo i)), some (.int s.1), some (.int s.2), some (.int (nI a)), some (.int (nI b))] [] n (xh x w g)) (a0 := a + 1) (s0 := s) ha trivial (fun s' _ hs => ?_) (fun b s' _ hb _ => ⟨trivial, fun next' => ?_⟩)
    · refine r_iload_4 (q := 22) dX0_atLaw_20 rfl ?_
      refine r_aload_0 (q := 23) dX0_atLaw_22 rfl ?_
      refine r_callV_0 cv_X0_74 (xe_o i hi e) rfl (by decide) (Nat.le_of_ble_eq_true rfl) ⟨Nat.le_refl _, Nat.le_refl _⟩ (x_many i hi h e) (q := 26) dX0_atLaw_23 rfl ?_
      refine r_icmp_ge (q := 29) (tgt := 65) dX0_atLaw_26 rfl rfl (fun c26 => ?_) (fun c26 => ?_)
      · refine r_inc_3 (by decide) rfl (q := 68) dX0_atLaw_65 rfl ?_
        refine r_goto (q := 7) dX0_atLaw_68 rfl ?_
        subst hs
        exact next _
      · exact absurd (Int32.le_refl _) c26
    · refine r_iload_4 (q := 22) dX0_atLaw_20 rfl ?_
      refine r_aload_0 (q := 23) dX0_atLaw_22 rfl ?_
      refine r_callV_0 cv_X0_74 (xe_o i hi e) rfl (by decide) (Nat.le_of_ble_eq_true rfl) ⟨Nat.le_refl _, Nat.le_refl _⟩ (x_many i hi h e) (q := 26) dX0_atLaw_23 rfl ?_
      refine r_icmp_ge (q := 29) (tgt := 65) dX0_atLaw_26 rfl rfl (fun c26 => ?_) (fun c26 => ?_)
      · exact absurd c26 (nI_not_lt hb (by omega))
      unfold lawF at next'
      refine r_aload_0 (q := 30) dX0_atLaw_29 rfl ?_
      refine r_iload_3 (q := 31) dX0_atLaw_30 rfl ?_
      refine r_iload_4 (q := 33) dX0_atLaw_31 rfl ?_
      refine r_callV_2 cv_X0_149 (xe_o i hi e) rfl (by decide) (Nat.le_of_ble_eq_true rfl) ⟨Nat.le_refl _, Nat.le_refl _⟩ (x_between i hi h e (by omega) (by omega)) (q := 36) dX0_atLaw_33 rfl ?_
      refine r_iload_2 (q := 37) dX0_atLaw_36 rfl ?_
      refine r_icmp_gt (q := 40) (tgt := 43) dX0_atLaw_37 rfl rfl (fun c37 => ?_) (fun c37 => ?_)
      · rw [if_neg (Int32.not_le.mpr c37)] at next'
        refine r_bipush 10 (by decide) (q := 45) dX0_atLaw_43 rfl ?_
        refine r_iload_3 (q := 46) dX0_atLaw_45 rfl ?_
        refine r_imul (q := 47) dX0_atLaw_46 rfl ?_
        refine r_iload_4 (q := 49) dX0_atLaw_47 rfl ?_
        refine r_iadd (q := 50) dX0_atLaw_49 rfl ?_
        refine r_istore_1 (by decide) rfl (q := 51) dX0_atLaw_50 rfl ?_
        refine r_aload_0 (q := 52) dX0_atLaw_51 rfl ?_
        refine r_iload_3 (q := 53) dX0_atLaw_52 rfl ?_
        refine r_iload_4 (q := 55) dX0_atLaw_53 rfl ?_
        refine r_callV_2 cv_X0_149 (xe_o i hi e) rfl (by decide) (Nat.le_of_ble_eq_true rfl) ⟨Nat.le_refl _, Nat.le_refl _⟩ (x_between i hi h e (by omega) (by omega)) (q := 58) dX0_atLaw_55 rfl ?_
        refine r_istore_2 (by decide) rfl (q := 59) dX0_atLaw_58 rfl ?_
        refine r_inc_4 (by decide) rfl (q := 62) dX0_atLaw_59 rfl ?_
        refine r_goto (q := 20) dX0_atLaw_62 rfl ?_
        exact next'
      · rw [if_pos (Int32.not_lt.mp c37)] at next'
        refine r_goto (q := 59) dX0_atLaw_40 rfl ?_
        refine r_inc_4 (by decide) rfl (q := 62) dX0_atLaw_59 rfl ?_
        refine r_goto (q := 20) dX0_atLaw_62 rfl ?_
        exact next'
theorem k_X0_whenMended {a b : Nat} (hX : KX x g X) (ha : a < 6) (hb : b < 6) : Ct G yX0_whenMended cX0_whenMended 4 (some .int) 8 0 0 [.ref x, .int (nI a), .int (nI b)] n (xh x (setq w 1 X) g) (MP x w g n (some (.int (zin a b 100 0 X.1)))) := by
  refine Ct.intro (k := 1) [some (.ref x), some (.int (nI a)), some (.int (nI b)), none] (by decide) (Nat.le_of_ble_eq_true rfl) rfl fun z hz hin => ?_
  have loop : ∀ (c k : Nat) (S : SQ), k + c = 100 → KX x g (S, X.2) → zin a b c k S = zin a b 100 0 X.1 → J G z cX0_whenMended 4 RX0 8 0 0 0 0 2 [some (.ref x), some (.int (nI a)), some (.int (nI b)), some (.int (nI k))] [] n (xh x (setq w 1 (S, X.2)) g) := by
    intro c
    induction c with
    | zero =>
      intro k S h1 h2 h3
      rw [← h3] at hz
      refine r_iload_3 (q := 3) dX0_whenMended_2 rfl ?_
      refine r_bipush 99 (by decide) (q := 5) dX0_whenMended_3 rfl ?_
      refine r_icmp_gt (q := 8) (tgt := 35) dX0_whenMended_5 rfl rfl (fun c5 => ?_) (fun c5 => ?_)
      · refine r_bipush 100 (by decide) (q := 37) dX0_whenMended_35 rfl ?_
        exact r_iret hz dX0_whenMended_37 (Nat.le_refl _) (Nat.le_refl _) ⟨rfl, rfl, _, h2.lx, rfl⟩
      · exact absurd (nI_lt (a := 99) (b := k) (by omega) (by omega)) c5
    | succ c ih =>
      intro k S h1 h2 h3
      refine r_iload_3 (q := 3) dX0_whenMended_2 rfl ?_
      refine r_bipush 99 (by decide) (q := 5) dX0_whenMended_3 rfl ?_
      refine r_icmp_gt (q := 8) (tgt := 35) dX0_whenMended_5 rfl rfl (fun c5 => ?_) (fun c5 => ?_)
      · exact absurd c5 (nI_nlt (a := 99) (b := k) (by omega) (by omega))
      refine r_aload_0 (q := 9) dX0_whenMended_8 rfl ?_
      refine r_get gf_X0_20_0 xh_x rfl (q := 12) dX0_whenMended_9 rfl ?_
      refine r_iload_1 (q := 13) dX0_whenMended_12 rfl ?_
      refine r_iload_2 (q := 14) dX0_whenMended_13 rfl ?_
      refine r_callV_2 cv_X0_149 (xe_o 1 (by decide) rfl) rfl (by decide) (Nat.le_of_ble_eq_true rfl) ⟨Nat.le_refl _, Nat.le_refl _⟩ (x_between (Y := (S, X.2)) 1 (by decide) h2 rfl ha hb) (q := 17) dX0_whenMended_14 rfl ?_
      have hq := vs_qr h2.2.1 a b
      have h3 : (if qr S a b = 0 then nI k else zin a b c (k + 1) (goesS S)) = zin a b 100 0 X.1 := h3
      refine r_if_ne (q := 20) (tgt := 22) dX0_whenMended_17 rfl rfl (fun c17 => ?_) (fun c17 => ?_)
      · rw [if_neg (fun q => c17 (by rw [q]; rfl))] at h3
        refine r_aload_0 (q := 23) dX0_whenMended_22 rfl ?_
        refine r_get gf_X0_20_0 xh_x rfl (q := 26) dX0_whenMended_23 rfl ?_
        refine r_callVv_0 cv_X0_196 (xe_o 1 (by decide) rfl) rfl (by decide) (Nat.le_of_ble_eq_true rfl) ⟨Nat.le_refl _, Nat.le_refl _⟩ (m_goes (X := (S, X.2)) 1 (by decide) h2) (q := 29) dX0_whenMended_26 rfl ?_
        refine r_inc_3 (by decide) rfl (q := 32) dX0_whenMended_29 rfl ?_
        refine r_goto (q := 2) dX0_whenMended_32 rfl ?_
        exact ih (k + 1) (goesS S) (by omega) h2.goes h3
      · rw [if_pos (nI_inj (b := 0) (by omega) (by omega) c17)] at h3
        rw [← h3] at hz
        refine r_iload_3 (q := 21) dX0_whenMended_20 rfl ?_
        exact r_iret hz dX0_whenMended_21 (Nat.le_refl _) (Nat.le_refl _) ⟨rfl, rfl, _, h2.lx, rfl⟩
  refine r_iconst 0 (by decide) (q := 1) dX0_whenMended_0 rfl ?_
  refine r_istore_3 (by decide) rfl (q := 2) dX0_whenMended_1 rfl ?_
  exact loop 100 0 X.1 rfl hX rfl
theorem k_X0_favourite {p : Nat} (h : KX x g (w.1 0)) (hp : p < (w.1 0).1.1.length) : CtE G yX0_favourite cX0_favourite 4 (some FieldType.int) 6 [.ref x, .int (nI p)] n (xh x w g) (some (.int (mI (favS (w.1 0).1 p)))) (xh x w g) := by
  refine Ct.intro (k := 2) [some (.ref x), some (.int (nI p)), none, none] (by decide) (Nat.le_of_ble_eq_true rfl) rfl fun z hz hin => ?_
  have h6 := h.l6
  refine r_bipush (-9) (by decide) (q := 2) dX0_favourite_0 rfl ?_
  refine r_istore_2 (by decide) rfl (q := 3) dX0_favourite_2 rfl ?_
  refine r_iconst 0 (by decide) (q := 4) dX0_favourite_3 rfl ?_
  refine r_istore_3 (by decide) rfl (q := 5) dX0_favourite_4 rfl ?_
  refine forJ (f := favF (w.1 0).1 p) (σ := Option Nat) (w.1 0).1.1.length (fun s => ∀ k, s = some k → k < (w.1 0).1.1.length) (fun a s => J G z cX0_favourite 4 RX0 6 0 0 0 0 5 [some (.ref x), some (.int (nI p)), some (.int (mI s)), some (.int (nI a))] [] n (xh x w g)) (a0 := 0) (s0 := none) (Nat.zero_le _) (fun k e => by cases e) (fun s hk hs => ?_) (fun a s _ ha hk => ⟨?_, fun next => ?_⟩)
  · refine r_iload_3 (q := 6) dX0_favourite_5 rfl ?_
    refine r_aload_0 (q := 7) dX0_favourite_6 rfl ?_
    refine r_get gf_X0_16_0 xh_x rfl (q := 10) dX0_favourite_7 rfl ?_
    refine r_callV_0 cv_X0_74 (xe_o 0 (by decide) rfl) rfl (by decide) (Nat.le_of_ble_eq_true rfl) ⟨Nat.le_refl _, Nat.le_refl _⟩ (x_many 0 (by decide) h rfl) (q := 13) dX0_favourite_10 rfl ?_
    refine r_icmp_ge (q := 16) (tgt := 54) dX0_favourite_13 rfl rfl (fun c13 => ?_) (fun c13 => ?_)
    · rw [← show s = favS (w.1 0).1 p from hs] at hz
      refine r_iload_2 (q := 55) dX0_favourite_54 rfl ?_
      exact r_iret hz dX0_favourite_55 (Nat.le_refl _) (Nat.le_refl _) ⟨rfl, rfl, rfl⟩
    · exact absurd (Int32.le_refl _) c13
  · intro k e
    unfold favF at e
    split at e
    · exact hk k e
    · split at e
      · cases e; exact ha
      · split at e
        · cases e; exact ha
        · exact hk k e
  · have take : favF (w.1 0).1 p a s = some a → ∀ s0 : Option Nat, J G z cX0_favourite 4 RX0 6 0 0 0 0 46 [some (.ref x), some (.int (nI p)), some (.int (mI s0)), some (.int (nI a))] [] n (xh x w g) := by
      intro e s0
      rw [e] at next
      refine r_iload_3 (q := 47) dX0_favourite_46 rfl ?_
      refine r_istore_2 (by decide) rfl (q := 48) dX0_favourite_47 rfl ?_
      refine r_inc_3 (by decide) rfl (q := 51) dX0_favourite_48 rfl ?_
      refine r_goto (q := 5) dX0_favourite_51 rfl ?_
      exact next
    have keep : favF (w.1 0).1 p a s = s → J G z cX0_favourite 4 RX0 6 0 0 0 0 48 [some (.ref x), some (.int (nI p)), some (.int (mI s)), some (.int (nI a))] [] n (xh x w g) := by
      intro e
      rw [e] at next
      refine r_inc_3 (by decide) rfl (q := 51) dX0_favourite_48 rfl ?_
      refine r_goto (q := 5) dX0_favourite_51 rfl ?_
      exact next
    refine r_iload_3 (q := 6) dX0_favourite_5 rfl ?_
    refine r_aload_0 (q := 7) dX0_favourite_6 rfl ?_
    refine r_get gf_X0_16_0 xh_x rfl (q := 10) dX0_favourite_7 rfl ?_
    refine r_callV_0 cv_X0_74 (xe_o 0 (by decide) rfl) rfl (by decide) (Nat.le_of_ble_eq_true rfl) ⟨Nat.le_refl _, Nat.le_refl _⟩ (x_many 0 (by decide) h rfl) (q := 13) dX0_favourite_10 rfl ?_
    refine r_icmp_ge (q := 16) (tgt := 54) dX0_favourite_13 rfl rfl (fun c13 => ?_) (fun c13 => ?_)
    · exact absurd c13 (nI_not_lt ha (by omega))
    refine r_iload_3 (q := 17) dX0_favourite_16 rfl ?_
    refine r_iload_1 (q := 18) dX0_favourite_17 rfl ?_
    refine r_icmp_eq (q := 21) (tgt := 48) dX0_favourite_18 rfl rfl (fun c18 => ?_) (fun c18 => ?_)
    · exact keep (if_pos (nI_inj (by omega) (by omega) c18))
    have hap : a ≠ p := fun e => c18 (by rw [e])
    refine r_iload_2 (q := 22) dX0_favourite_21 rfl ?_
    cases s with
    | none =>
      refine r_if_lt (q := 25) (tgt := 46) dX0_favourite_22 rfl rfl (fun c22 => ?_) (fun c22 => ?_)
      · exact take (if_neg hap) _
      · exact absurd mI_neg c22
    | some k =>
      have hk' := hk k rfl
      refine r_if_lt (q := 25) (tgt := 46) dX0_favourite_22 rfl rfl (fun c22 => ?_) (fun c22 => ?_)
      · exact absurd c22 (nI_pos (by omega))
      refine r_aload_0 (q := 26) dX0_favourite_25 rfl ?_
      refine r_get gf_X0_16_0 xh_x rfl (q := 29) dX0_favourite_26 rfl ?_
      refine r_iload_1 (q := 30) dX0_favourite_29 rfl ?_
      refine r_iload_3 (q := 31) dX0_favourite_30 rfl ?_
      refine r_callV_2 cv_X0_153 (xe_o 0 (by decide) rfl) rfl (by decide) (Nat.le_of_ble_eq_true rfl) ⟨Nat.le_refl _, Nat.le_refl _⟩ (x_likes 0 (by decide) h rfl hp ha) (q := 34) dX0_favourite_31 rfl ?_
      refine r_aload_0 (q := 35) dX0_favourite_34 rfl ?_
      refine r_get gf_X0_16_0 xh_x rfl (q := 38) dX0_favourite_35 rfl ?_
      refine r_iload_1 (q := 39) dX0_favourite_38 rfl ?_
      refine r_iload_2 (q := 40) dX0_favourite_39 rfl ?_
      refine J.topi (show mI (some k) = nI k from rfl) ?_
      refine r_callV_2 cv_X0_153 (xe_o 0 (by decide) rfl) rfl (by decide) (Nat.le_of_ble_eq_true rfl) ⟨Nat.le_refl _, Nat.le_refl _⟩ (x_likes 0 (by decide) h rfl hp hk') (q := 43) dX0_favourite_40 rfl ?_
      refine r_icmp_le (q := 46) (tgt := 48) dX0_favourite_43 rfl rfl (fun c43 => ?_) (fun c43 => ?_)
      · exact keep ((if_neg hap).trans (if_neg (Int32.not_lt.mpr c43)))
      · exact take ((if_neg hap).trans (if_pos (Int32.not_le.mp c43))) _
theorem k_X0_isWanted {p : Nat} (h : KX x g (w.1 0)) (hp : p < (w.1 0).1.1.length) : CtE G yX0_isWanted cX0_isWanted 3 (some FieldType.boolean) 7 [.ref x, .int (nI p)] n (xh x w g) (some (.int (bI (wantS (w.1 0).1 p)))) (xh x w g) := by
  refine Ct.intro (k := 1) [some (.ref x), some (.int (nI p)), none] (by decide) (Nat.le_of_ble_eq_true rfl) rfl fun z hz hin => ?_
  have h6 := h.l6
  refine r_iconst 0 (by decide) (q := 1) dX0_isWanted_0 rfl ?_
  refine r_istore_2 (by decide) rfl (q := 2) dX0_isWanted_1 rfl ?_
  refine upto (P := fun a => (∀ i, i < a → wouldS (w.1 0).1 i p = false) → J G z cX0_isWanted 3 RX0 7 0 0 0 0 2 [some (.ref x), some (.int (nI p)), some (.int (nI a))] [] n (xh x w g)) (w.1 0).1.1.length (fun hf => ?_) (fun a ha next hf => ?_) 0 (Nat.zero_le _) (fun i hi => absurd hi (Nat.not_lt_zero _))
  · refine r_iload_2 (q := 3) dX0_isWanted_2 rfl ?_
    refine r_aload_0 (q := 4) dX0_isWanted_3 rfl ?_
    refine r_get gf_X0_16_0 xh_x rfl (q := 7) dX0_isWanted_4 rfl ?_
    refine r_callV_0 cv_X0_74 (xe_o 0 (by decide) rfl) rfl (by decide) (Nat.le_of_ble_eq_true rfl) ⟨Nat.le_refl _, Nat.le_refl _⟩ (x_many 0 (by decide) h rfl) (q := 10) dX0_isWanted_7 rfl ?_
    refine r_icmp_ge (q := 13) (tgt := 33) dX0_isWanted_10 rfl rfl (fun c10 => ?_) (fun c10 => ?_)
    · have e : wantS (w.1 0).1 p = false := decide_eq_false (fun ⟨i, h1, h2⟩ => by rw [hf i h1] at h2; cases h2)
      rw [e] at hz
      refine r_iconst 0 (by decide) (q := 34) dX0_isWanted_33 rfl ?_
      exact r_zret hz (by first | exact bI_z _ | rfl) dX0_isWanted_34 (Nat.le_refl _) (Nat.le_refl _) ⟨rfl, rfl, rfl⟩
    · exact absurd (Int32.le_refl _) c10
  · refine r_iload_2 (q := 3) dX0_isWanted_2 rfl ?_
    refine r_aload_0 (q := 4) dX0_isWanted_3 rfl ?_
    refine r_get gf_X0_16_0 xh_x rfl (q := 7) dX0_isWanted_4 rfl ?_
    refine r_callV_0 cv_X0_74 (xe_o 0 (by decide) rfl) rfl (by decide) (Nat.le_of_ble_eq_true rfl) ⟨Nat.le_refl _, Nat.le_refl _⟩ (x_many 0 (by decide) h rfl) (q := 10) dX0_isWanted_7 rfl ?_
    refine r_icmp_ge (q := 13) (tgt := 33) dX0_isWanted_10 rfl rfl (fun c10 => ?_) (fun c10 => ?_)
    · exact absurd c10 (nI_not_lt ha (by omega))
    refine r_aload_0 (q := 14) dX0_isWanted_13 rfl ?_
    refine r_get gf_X0_16_0 xh_x rfl (q := 17) dX0_isWanted_14 rfl ?_
    refine r_iload_2 (q := 18) dX0_isWanted_17 rfl ?_
    refine r_iload_1 (q := 19) dX0_isWanted_18 rfl ?_
    refine r_callV_2 cv_X0_253 (xe_o 0 (by decide) rfl) rfl (by decide) (Nat.le_of_ble_eq_true rfl) ⟨Nat.le_refl _, Nat.le_refl _⟩ (x_wouldRather 0 (by decide) h rfl ha hp) (q := 22) dX0_isWanted_19 rfl ?_
    refine r_if_eq (q := 25) (tgt := 27) dX0_isWanted_22 rfl rfl (fun c22 => ?_) (fun c22 => ?_)
    · refine r_inc_2 (by decide) rfl (q := 30) dX0_isWanted_27 rfl ?_
      refine r_goto (q := 2) dX0_isWanted_30 rfl ?_
      refine next (fun i hi => ?_)
      rcases Nat.lt_succ_iff_lt_or_eq.mp hi with z | z
      · exact hf i z
      · subst z; exact bI_0.mp c22
    · have e : wantS (w.1 0).1 p = true := decide_eq_true ⟨a, ha, bI_n0.mp c22⟩
      rw [e] at hz
      refine r_iconst 1 (by decide) (q := 26) dX0_isWanted_25 rfl ?_
      exact r_zret hz (by first | exact bI_z _ | rfl) dX0_isWanted_26 (Nat.le_refl _) (Nat.le_refl _) ⟨rfl, rfl, rfl⟩
theorem k_X0_comingAt {hh : Nat} (h : KX x g (w.1 0)) (hb : hh < 8) : CtE G yX0_comingAt cX0_comingAt 4 (some FieldType.int) 3 [.ref x, .int (nI hh)] n (xh x w g) (some (.int (comS (w.1 0).1 hh))) (xh x w g) := by
  refine Ct.intro (k := 2) [some (.ref x), some (.int (nI hh)), none, none] (by decide) (Nat.le_of_ble_eq_true rfl) rfl fun z hz hin => ?_
  have h6 := h.l6
  refine r_iconst 0 (by decide) (q := 1) dX0_comingAt_0 rfl ?_
  refine r_istore_2 (by decide) rfl (q := 2) dX0_comingAt_1 rfl ?_
  refine r_iconst 0 (by decide) (q := 3) dX0_comingAt_2 rfl ?_
  refine r_istore_3 (by decide) rfl (q := 4) dX0_comingAt_3 rfl ?_
  refine forJ (f := fun a acc => acc + (if hbt (hr (w.1 0).1 a) hh then 1 else 0)) (σ := Int32) (w.1 0).1.1.length (fun _ => True) (fun a s => J G z cX0_comingAt 4 RX0 3 0 0 0 0 4 [some (.ref x), some (.int (nI hh)), some (.int s), some (.int (nI a))] [] n (xh x w g)) (a0 := 0) (s0 := 0) (Nat.zero_le _) trivial (fun s _ hs => ?_) (fun a s _ ha _ => ⟨trivial, fun next => ?_⟩)
  · refine r_iload_3 (q := 5) dX0_comingAt_4 rfl ?_
    refine r_aload_0 (q := 6) dX0_comingAt_5 rfl ?_
    refine r_get gf_X0_16_0 xh_x rfl (q := 9) dX0_comingAt_6 rfl ?_
    refine r_callV_0 cv_X0_74 (xe_o 0 (by decide) rfl) rfl (by decide) (Nat.le_of_ble_eq_true rfl) ⟨Nat.le_refl _, Nat.le_refl _⟩ (x_many 0 (by decide) h rfl) (q := 12) dX0_comingAt_9 rfl ?_
    refine r_icmp_ge (q := 15) (tgt := 45) dX0_comingAt_12 rfl rfl (fun c12 => ?_) (fun c12 => ?_)
    · rw [← show s = comS (w.1 0).1 hh from hs] at hz
      refine r_iload_2 (q := 46) dX0_comingAt_45 rfl ?_
      exact r_iret hz dX0_comingAt_46 (Nat.le_refl _) (Nat.le_refl _) ⟨rfl, rfl, rfl⟩
    · exact absurd (Int32.le_refl _) c12
  · refine r_iload_3 (q := 5) dX0_comingAt_4 rfl ?_
    refine r_aload_0 (q := 6) dX0_comingAt_5 rfl ?_
    refine r_get gf_X0_16_0 xh_x rfl (q := 9) dX0_comingAt_6 rfl ?_
    refine r_callV_0 cv_X0_74 (xe_o 0 (by decide) rfl) rfl (by decide) (Nat.le_of_ble_eq_true rfl) ⟨Nat.le_refl _, Nat.le_refl _⟩ (x_many 0 (by decide) h rfl) (q := 12) dX0_comingAt_9 rfl ?_
    refine r_icmp_ge (q := 15) (tgt := 45) dX0_comingAt_12 rfl rfl (fun c12 => ?_) (fun c12 => ?_)
    · exact absurd c12 (nI_not_lt ha (by omega))
    refine r_iload_2 (q := 16) dX0_comingAt_15 rfl ?_
    refine r_aload_0 (q := 17) dX0_comingAt_16 rfl ?_
    refine r_get gf_X0_16_0 xh_x rfl (q := 20) dX0_comingAt_17 rfl ?_
    refine r_getN gn_X0_134_1 (xe_o 0 (by decide) rfl) rfl (q := 23) dX0_comingAt_20 rfl ?_
    refine r_iload_3 (q := 24) dX0_comingAt_23 rfl ?_
    refine r_ialdN a 6 (xe_h 0 (by decide) rfl) h.1.2.1 rfl (by omega) (by decide) (q := 25) dX0_comingAt_24 rfl ?_
    refine r_iload_1 (q := 26) dX0_comingAt_25 rfl ?_
    have := vs_hr h.2.1 a
    refine r_callS_2 cs_X0_240 (by decide) (Nat.le_of_ble_eq_true rfl) ⟨Nat.le_refl _, Nat.le_refl _⟩ (k_X0_has (m := hr (w.1 0).1 a) (by omega) hb) (q := 29) dX0_comingAt_26 rfl ?_
    refine r_if_eq (q := 32) (tgt := 36) dX0_comingAt_29 rfl rfl (fun c29 => ?_) (fun c29 => ?_)
    · rw [bI_0.mp c29] at next
      refine r_iconst 0 (by decide) (q := 37) dX0_comingAt_36 rfl ?_
      refine r_iadd (q := 38) dX0_comingAt_37 rfl ?_
      refine r_istore_2 (by decide) rfl (q := 39) dX0_comingAt_38 rfl ?_
      refine r_inc_3 (by decide) rfl (q := 42) dX0_comingAt_39 rfl ?_
      refine r_goto (q := 4) dX0_comingAt_42 rfl ?_
      exact next
    · rw [bI_n0.mp c29] at next
      refine r_iconst 1 (by decide) (q := 33) dX0_comingAt_32 rfl ?_
      refine r_goto (q := 37) dX0_comingAt_33 rfl ?_
      refine r_iadd (q := 38) dX0_comingAt_37 rfl ?_
      refine r_istore_2 (by decide) rfl (q := 39) dX0_comingAt_38 rfl ?_
      refine r_inc_3 (by decide) rfl (q := 42) dX0_comingAt_39 rfl ?_
      refine r_goto (q := 4) dX0_comingAt_42 rfl ?_
      exact next
theorem k_X0_allComing (h : KX x g (w.1 0)) : CtE G yX0_allComing cX0_allComing 3 (some FieldType.int) 4 [.ref x] n (xh x w g) (some (.int (allComS (w.1 0).1))) (xh x w g) := by
  refine Ct.intro (k := 2) [some (.ref x), none, none] (by decide) (Nat.le_of_ble_eq_true rfl) rfl fun z hz hin => ?_
  refine r_iconst 0 (by decide) (q := 1) dX0_allComing_0 rfl ?_
  refine r_istore_1 (by decide) rfl (q := 2) dX0_allComing_1 rfl ?_
  refine r_iconst 0 (by decide) (q := 3) dX0_allComing_2 rfl ?_
  refine r_istore_2 (by decide) rfl (q := 4) dX0_allComing_3 rfl ?_
  refine forJ (f := fun a acc => acc + comS (w.1 0).1 a) (σ := Int32) 5 (fun _ => True) (fun a s => J G z cX0_allComing 3 RX0 4 0 0 0 0 4 [some (.ref x), some (.int s), some (.int (nI a))] [] n (xh x w g)) (a0 := 0) (s0 := 0) (Nat.zero_le _) trivial (fun s _ hs => ?_) (fun a s _ ha _ => ⟨trivial, fun next => ?_⟩)
  · refine r_iload_2 (q := 5) dX0_allComing_4 rfl ?_
    refine r_iconst 5 (by decide) (q := 6) dX0_allComing_5 rfl ?_
    refine r_icmp_ge (q := 9) (tgt := 23) dX0_allComing_6 rfl rfl (fun c6 => ?_) (fun c6 => ?_)
    · rw [← show s = allComS (w.1 0).1 from hs] at hz
      refine r_iload_1 (q := 24) dX0_allComing_23 rfl ?_
      exact r_iret hz dX0_allComing_24 (Nat.le_refl _) (Nat.le_refl _) ⟨rfl, rfl, rfl⟩
    · exact absurd (Int32.le_refl (5 : Int32)) c6
  · refine r_iload_2 (q := 5) dX0_allComing_4 rfl ?_
    refine r_iconst 5 (by decide) (q := 6) dX0_allComing_5 rfl ?_
    refine r_icmp_ge (q := 9) (tgt := 23) dX0_allComing_6 rfl rfl (fun c6 => ?_) (fun c6 => ?_)
    · exact absurd c6 (nI_not_lt (b := 5) ha (by decide))
    refine r_iload_1 (q := 10) dX0_allComing_9 rfl ?_
    refine r_aload_0 (q := 11) dX0_allComing_10 rfl ?_
    refine r_iload_2 (q := 12) dX0_allComing_11 rfl ?_
    refine r_callV_1 cv_X0_309 xh_x rfl (by decide) (Nat.le_of_ble_eq_true rfl) ⟨Nat.le_refl _, Nat.le_refl _⟩ (k_X0_comingAt h (by omega)) (q := 15) dX0_allComing_12 rfl ?_
    refine r_iadd (q := 16) dX0_allComing_15 rfl ?_
    refine r_istore_1 (by decide) rfl (q := 17) dX0_allComing_16 rfl ?_
    refine r_inc_2 (by decide) rfl (q := 20) dX0_allComing_17 rfl ?_
    refine r_goto (q := 4) dX0_allComing_20 rfl ?_
    exact next
theorem k_X0_isPeaceful (i : Nat) (hi : i < 12) (h : KX x g Y) (e : w.1 i = Y) : CtE G yX0_isPeaceful cX0_isPeaceful 2 (some FieldType.boolean) 3 [.ref (x + qo i)] n (xh x w g) (some (.int (bI (peaceS Y.1)))) (xh x w g) := by
  refine Ct.intro (k := 1) [some (.ref (x + qo i)), none] (by decide) (Nat.le_of_ble_eq_true rfl) rfl fun z hz hin => ?_
  have h6 := h.l6
  refine r_iconst 0 (by decide) (q := 1) dX0_isPeaceful_0 rfl ?_
  refine r_istore_1 (by decide) rfl (q := 2) dX0_isPeaceful_1 rfl ?_
  refine upto (P := fun a => (∀ c, c < a → ∀ b, mt Y.1 c = some b → c < b → qr Y.1 c b = 0) → J G z cX0_isPeaceful 2 RX0 3 0 0 0 0 2 [some (.ref (x + qo i)), some (.int (nI a))] [] n (xh x w g)) Y.1.1.length (fun hf => ?_) (fun a ha next hf => ?_) 0 (Nat.zero_le _) (fun i hi => absurd hi (Nat.not_lt_zero _))
  · refine r_iload_1 (q := 3) dX0_isPeaceful_2 rfl ?_
    refine r_aload_0 (q := 4) dX0_isPeaceful_3 rfl ?_
    refine r_callV_0 cv_X0_74 (xe_o i hi e) rfl (by decide) (Nat.le_of_ble_eq_true rfl) ⟨Nat.le_refl _, Nat.le_refl _⟩ (x_many i hi h e) (q := 7) dX0_isPeaceful_4 rfl ?_
    refine r_icmp_ge (q := 10) (tgt := 42) dX0_isPeaceful_7 rfl rfl (fun c7 => ?_) (fun c7 => ?_)
    · have e : peaceS Y.1 = true := decide_eq_true hf
      rw [e] at hz
      refine r_iconst 1 (by decide) (q := 43) dX0_isPeaceful_42 rfl ?_
      exact r_zret hz (by first | exact bI_z _ | rfl) dX0_isPeaceful_43 (Nat.le_refl _) (Nat.le_refl _) ⟨rfl, rfl, rfl⟩
    · exact absurd (Int32.le_refl _) c7
  · have go : (∀ b, mt Y.1 a = some b → a < b → qr Y.1 a b = 0) → J G z cX0_isPeaceful 2 RX0 3 0 0 0 0 36 [some (.ref (x + qo i)), some (.int (nI a))] [] n (xh x w g) := by
      intro ho
      refine r_inc_1 (by decide) rfl (q := 39) dX0_isPeaceful_36 rfl ?_
      refine r_goto (q := 2) dX0_isPeaceful_39 rfl ?_
      refine next (fun c hc => ?_)
      rcases Nat.lt_succ_iff_lt_or_eq.mp hc with z | z
      · exact hf c z
      · subst z; exact ho
    refine r_iload_1 (q := 3) dX0_isPeaceful_2 rfl ?_
    refine r_aload_0 (q := 4) dX0_isPeaceful_3 rfl ?_
    refine r_callV_0 cv_X0_74 (xe_o i hi e) rfl (by decide) (Nat.le_of_ble_eq_true rfl) ⟨Nat.le_refl _, Nat.le_refl _⟩ (x_many i hi h e) (q := 7) dX0_isPeaceful_4 rfl ?_
    refine r_icmp_ge (q := 10) (tgt := 42) dX0_isPeaceful_7 rfl rfl (fun c7 => ?_) (fun c7 => ?_)
    · exact absurd c7 (nI_not_lt ha (by omega))
    refine r_aload_0 (q := 11) dX0_isPeaceful_10 rfl ?_
    refine r_getN gn_X0_94_1 (xe_o i hi e) rfl (q := 14) dX0_isPeaceful_11 rfl ?_
    refine r_iload_1 (q := 15) dX0_isPeaceful_14 rfl ?_
    refine r_ialdM a 6 (xe_m i hi e) h.1.2.2.1 rfl (by omega) (by decide) (q := 16) dX0_isPeaceful_15 rfl ?_
    refine r_iload_1 (q := 17) dX0_isPeaceful_16 rfl ?_
    have hm := mI_le (o := mt Y.1 a) (a := a) (by omega) (fun c hc => Nat.lt_trans (h.mt6 hc) (by decide))
    refine r_icmp_le (q := 20) (tgt := 36) dX0_isPeaceful_17 rfl rfl (fun c17 => ?_) (fun c17 => ?_)
    · exact go (fun b e1 e2 => absurd e2 (Nat.not_lt.mpr (hm.mp c17 b e1)))
    cases em : mt Y.1 a with
    | none => exact absurd (hm.mpr (fun b e1 => by rw [em] at e1; cases e1)) c17
    | some b =>
      have hb6 := h.mt6 em
      have hq := vs_qr h.2.1 a b
      refine r_aload_0 (q := 21) dX0_isPeaceful_20 rfl ?_
      refine r_iload_1 (q := 22) dX0_isPeaceful_21 rfl ?_
      refine r_aload_0 (q := 23) dX0_isPeaceful_22 rfl ?_
      refine r_getN gn_X0_94_1 (xe_o i hi e) rfl (q := 26) dX0_isPeaceful_23 rfl ?_
      refine r_iload_1 (q := 27) dX0_isPeaceful_26 rfl ?_
      refine r_ialdM a 6 (xe_m i hi e) h.1.2.2.1 rfl (by omega) (by decide) (q := 28) dX0_isPeaceful_27 rfl ?_
      refine J.topi (show mI (mt Y.1 a) = nI b by rw [em]; rfl) ?_
      refine r_callV_2 cv_X0_149 (xe_o i hi e) rfl (by decide) (Nat.le_of_ble_eq_true rfl) ⟨Nat.le_refl _, Nat.le_refl _⟩ (x_between i hi h e (by omega) hb6) (q := 31) dX0_isPeaceful_28 rfl ?_
      refine r_if_le (q := 34) (tgt := 36) dX0_isPeaceful_31 rfl rfl (fun c31 => ?_) (fun c31 => ?_)
      · refine go (fun b' e1 _ => ?_)
        rw [em] at e1
        cases e1
        have := (nI_leI (b := 0) (by omega) (by omega)).mp c31
        omega
      · have hab : a < b := by
          rcases Nat.lt_or_ge a b with q | q
          · exact q
          · exact absurd (hm.mpr (fun b' e1 => by rw [em] at e1; cases e1; exact q)) c17
        have e : peaceS Y.1 = false := decide_eq_false (fun z => c31 (by rw [z a ha b em hab]; exact Int32.le_refl _))
        rw [e] at hz
        refine r_iconst 0 (by decide) (q := 35) dX0_isPeaceful_34 rfl ?_
        exact r_zret hz (by first | exact bI_z _ | rfl) dX0_isPeaceful_35 (Nat.le_refl _) (Nat.le_refl _) ⟨rfl, rfl, rfl⟩
end XM


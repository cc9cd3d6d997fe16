/-! ===== charm, friends, chains, enemies, peace, doubled hours, swaps, help ===== -/
def chaF (S : SQ) (i : Nat) (b : Option Nat) : Option Nat := match b with
  | none => some i
  | some k => if charmN (pr S k).1 (pr S k).2 < charmN (pr S i).1 (pr S i).2 then some i else some k
def charmerS (σ : SG) : Int32 × SG := (mI (forR (chaF σ.1) 0 σ.1.1.length none), σ)
def friF (S : SQ) (a b : Nat) (s : Int32) : Int32 := s + (if 60 ≤ likS S a b ∧ 60 ≤ likS S b a then 1 else 0)
def friI (S : SQ) (a : Nat) (s : Int32) : Int32 := forR (friF S a) (a + 1) (S.1.length - (a + 1)) s
def friendsS (σ : SG) : Int32 × SG := (forR (friI σ.1) 0 σ.1.1.length 0, σ)
def eneF (S : SQ) (p : Nat) (i : Nat) (b : Option Nat) : Option Nat := if i = p then b else match b with
  | none => some i
  | some k => if qr S p k < qr S p i then some i else some k
def eneS (S : SQ) (p : Nat) : Option Nat := forR (eneF S p) 0 S.1.length none
def enemyS (σ : SG) (p : Int32) : Int32 × SG := if isPer σ.1 p = true then (mI (eneS σ.1 (cl p)), σ) else (-1, rfS σ (-1))
/-- the liking chain: fuel, those in it, the next one -/
def chS (S : SQ) : Nat → Nat → Option Nat → Nat
  | 0, m, _ => m
  | c + 1, m, o => match o with
    | none => m
    | some i => if hbt m i = true then m else chS S c (m ||| 2 ^ i) (favS S i)
def chainS (σ : SG) (p : Int32) : Int32 × SG := if isPer σ.1 p = true then (nI (pop (chS σ.1 7 0 (some (cl p)))), σ) else (-1, rfS σ (-1))
def zpe : Nat → Nat → SQ → Int32
  | 0, _, _ => -9
  | c + 1, k, S => if peaceS S = true then nI k else zpe c (k + 1) (goesS S)
def xpeaceS (σ : SG) : Int32 × SG := (zpe 100 0 σ.1, σ)
def dblS (h : Nat) : Nat → SQ → SQ
  | 0, S => S
  | c + 1, S => dblS h c (hourS h (goesS S))
def dobF (S : SQ) (h b : Nat) : Nat := if allS (dblS h 9 S) < allS (dblS b 9 S) then h else b
def doubS (S : SQ) : Nat := forR (dobF S) 1 4 0
def doubledS (σ : SG) : Int32 × SG := (nI (doubS σ.1), σ)
def swaF (S : SQ) (a c : Nat) (s : Int32 × Int32) : Int32 × Int32 := match mt S a, mt S c with
  | some b, some e => if a ≤ b ∧ c ≤ e then (if alikS (joinS (joinS S a e) c b) ≤ s.2 then s else (10 * nI a + nI c, alikS (joinS (joinS S a e) c b))) else s
  | _, _ => s
def swaI (S : SQ) (a : Nat) (s : Int32 × Int32) : Int32 × Int32 := forR (swaF S a) (a + 1) (S.1.length - (a + 1)) s
def swapS (σ : SG) : Int32 × SG := ((forR (swaI σ.1) 0 σ.1.1.length (-9, alikS σ.1)).1, σ)
theorem ch_bit : ∀ m, m < 64 → ∀ i, i < 6 → hbt m i = false → nI m ||| (1 : Int32) <<< (nI i &&& 31) = nI (m ||| 2 ^ i) ∧ m ||| 2 ^ i < 64 ∧ pop (m ||| 2 ^ i) = pop m + 1 := by decide +kernel
theorem ch_pop : ∀ m, m < 64 → pop m < 7 := by decide +kernel
section XO3
variable {G : GD} {n x : Nat} {w w' : XW} {g : RH} {σ : SG} {X Y : QX}
theorem KX.pers {i : Nat} (h : KX x g Y) (hi : i < Y.1.1.length) : xh x w g (Y.2.1.getD i 0) = some (pcell ((pr Y.1 i).1, (pr Y.1 i).2)) := by
  rw [xh_out (Or.inr (h.2.2.2.2 i hi).1)]
  exact (h.2.2.2.2 i hi).2
theorem k_X0_charmer (h : XR x w g σ) : Ct G yX0_charmer cX0_charmer 3 (some .int) 6 0 0 [.ref x] n (xh x w g) (XPo x n g (charmerS σ)) := by
  refine Ct.intro (k := 2) [some (.ref x), none, none] (by decide) (Nat.le_of_ble_eq_true rfl) rfl fun z hz hin => ?_
  unfold charmerS at hz
  rw [← h.s] at hz
  have hk := h.kx
  have h6 := hk.l6
  refine r_bipush (-9) (by decide) (q := 2) dX0_charmer_0 rfl ?_
  refine r_istore_1 (by decide) rfl (q := 3) dX0_charmer_2 rfl ?_
  refine r_iconst 0 (by decide) (q := 4) dX0_charmer_3 rfl ?_
  refine r_istore_2 (by decide) rfl (q := 5) dX0_charmer_4 rfl ?_
  refine forJ (f := chaF (w.1 0).1) (σ := Option Nat) (w.1 0).1.1.length (fun s => ∀ k, s = some k → k < (w.1 0).1.1.length) (fun a s => J G z cX0_charmer 3 RX0 6 0 0 0 0 5 [some (.ref x), some (.int (mI s)), some (.int (nI a))] [] n (xh x w g)) (a0 := 0) (s0 := none) (Nat.zero_le _) (fun k e => by cases e) (fun s _ hs => ?_) (fun a s _ ha hkk => ⟨?_, fun next => ?_⟩)
  · refine r_iload_2 (q := 6) dX0_charmer_5 rfl ?_
    refine r_aload_0 (q := 7) dX0_charmer_6 rfl ?_
    refine r_get gf_X0_16_0 xh_x rfl (q := 10) dX0_charmer_7 rfl ?_
    refine r_callV_0 cv_X0_74 (xe_o 0 (by decide) rfl) rfl (by decide) (Nat.le_of_ble_eq_true rfl) ⟨Nat.le_refl _, Nat.le_refl _⟩ (x_many 0 (by decide) hk rfl) (q := 13) dX0_charmer_10 rfl ?_
    refine r_icmp_ge (q := 16) (tgt := 53) dX0_charmer_13 rfl rfl (fun c13 => ?_) (fun c13 => ?_)
    · rw [← show s = forR (chaF (w.1 0).1) 0 (w.1 0).1.1.length none from hs] at hz
      refine r_iload_1 (q := 54) dX0_charmer_53 rfl ?_
      exact r_iret hz dX0_charmer_54 (Nat.le_refl _) (Nat.le_refl _) (.of rfl h)
    · exact absurd (Int32.le_refl _) c13
  · intro k e
    unfold chaF at e
    split at e
    · cases e; exact ha
    · split at e
      · cases e; exact ha
      · exact hkk k e
  · have take : chaF (w.1 0).1 a s = some a → ∀ s0 : Option Nat, J G z cX0_charmer 3 RX0 6 0 0 0 0 45 [some (.ref x), some (.int (mI s0)), some (.int (nI a))] [] n (xh x w g) := by
      intro e s0
      rw [e] at next
      refine r_iload_2 (q := 46) dX0_charmer_45 rfl ?_
      refine r_istore_1 (by decide) rfl (q := 47) dX0_charmer_46 rfl ?_
      refine r_inc_2 (by decide) rfl (q := 50) dX0_charmer_47 rfl ?_
      refine r_goto (q := 5) dX0_charmer_50 rfl ?_
      exact next
    refine r_iload_2 (q := 6) dX0_charmer_5 rfl ?_
    refine r_aload_0 (q := 7) dX0_charmer_6 rfl ?_
    refine r_get gf_X0_16_0 xh_x rfl (q := 10) dX0_charmer_7 rfl ?_
    refine r_callV_0 cv_X0_74 (xe_o 0 (by decide) rfl) rfl (by decide) (Nat.le_of_ble_eq_true rfl) ⟨Nat.le_refl _, Nat.le_refl _⟩ (x_many 0 (by decide) hk rfl) (q := 13) dX0_charmer_10 rfl ?_
    refine r_icmp_ge (q := 16) (tgt := 53) dX0_charmer_13 rfl rfl (fun c13 => ?_) (fun c13 => ?_)
    · exact absurd c13 (nI_not_lt ha (by omega))
    refine r_iload_1 (q := 17) dX0_charmer_16 rfl ?_
    cases s with
    | none =>
      refine r_if_lt (q := 20) (tgt := 45) dX0_charmer_17 rfl rfl (fun c17 => ?_) (fun c17 => ?_)
      · exact take rfl _
      · exact absurd mI_neg c17
    | some k =>
      have hk' := hkk k rfl
      have pa := vs_pr hk.2.1 ha
      have pk := vs_pr hk.2.1 hk'
      refine r_if_lt (q := 20) (tgt := 45) dX0_charmer_17 rfl rfl (fun c17 => ?_) (fun c17 => ?_)
      · exact absurd c17 (nI_pos (by omega))
      refine r_aload_0 (q := 21) dX0_charmer_20 rfl ?_
      refine r_get gf_X0_16_0 xh_x rfl (q := 24) dX0_charmer_21 rfl ?_
      refine r_iload_2 (q := 25) dX0_charmer_24 rfl ?_
      refine r_callV_1 cv_X0_124 (xe_o 0 (by decide) rfl) rfl (by decide) (Nat.le_of_ble_eq_true rfl) ⟨Nat.le_refl _, Nat.le_refl _⟩ (x_person 0 (by decide) hk rfl ha) (q := 28) dX0_charmer_25 rfl ?_
      refine r_charm_X0 pa.1 pa.2 (hk.pers ha) (by decide) (Nat.le_of_ble_eq_true rfl) ⟨Nat.le_refl _, Nat.le_refl _⟩ (q := 31) dX0_charmer_28 rfl ?_
      refine r_aload_0 (q := 32) dX0_charmer_31 rfl ?_
      refine r_get gf_X0_16_0 xh_x rfl (q := 35) dX0_charmer_32 rfl ?_
      refine r_iload_1 (q := 36) dX0_charmer_35 rfl ?_
      refine J.topi (show mI (some k) = nI k from rfl) ?_
      refine r_callV_1 cv_X0_124 (xe_o 0 (by decide) rfl) rfl (by decide) (Nat.le_of_ble_eq_true rfl) ⟨Nat.le_refl _, Nat.le_refl _⟩ (x_person 0 (by decide) hk rfl hk') (q := 39) dX0_charmer_36 rfl ?_
      refine r_charm_X0 pk.1 pk.2 (hk.pers hk') (by decide) (Nat.le_of_ble_eq_true rfl) ⟨Nat.le_refl _, Nat.le_refl _⟩ (q := 42) dX0_charmer_39 rfl ?_
      have b1' := charm_le _ pa.1 _ pa.2
      have b2' := charm_le _ pk.1 _ pk.2
      refine r_icmp_le (q := 45) (tgt := 47) dX0_charmer_42 rfl rfl (fun c42 => ?_) (fun c42 => ?_)
      · have e : chaF (w.1 0).1 a (some k) = some k := if_neg (fun q => absurd c42 (nI_ge q (by omega)))
        rw [e] at next
        refine r_inc_2 (by decide) rfl (q := 50) dX0_charmer_47 rfl ?_
        refine r_goto (q := 5) dX0_charmer_50 rfl ?_
        exact next
      · exact take (if_pos (by
          rcases Nat.lt_or_ge (charmN (pr (w.1 0).1 k).1 (pr (w.1 0).1 k).2) (charmN (pr (w.1 0).1 a).1 (pr (w.1 0).1 a).2) with q | q
          · exact q
          · exact absurd (nI_le q (by omega)) c42)) _
theorem k_X0_friends (h : XR x w g σ) : Ct G yX0_friends cX0_friends 4 (some .int) 6 0 0 [.ref x] n (xh x w g) (XPo x n g (friendsS σ)) := by
  refine Ct.intro (k := 3) [some (.ref x), none, none, none] (by decide) (Nat.le_of_ble_eq_true rfl) rfl fun z hz hin => ?_
  unfold friendsS at hz
  rw [← h.s] at hz
  have hk := h.kx
  have h6 := hk.l6
  refine r_iconst 0 (by decide) (q := 1) dX0_friends_0 rfl ?_
  refine r_istore_1 (by decide) rfl (q := 2) dX0_friends_1 rfl ?_
  refine r_iconst 0 (by decide) (q := 3) dX0_friends_2 rfl ?_
  refine r_istore_2 (by decide) rfl (q := 4) dX0_friends_3 rfl ?_
  refine forJ (f := friI (w.1 0).1) (σ := Int32) (w.1 0).1.1.length (fun _ => True) (fun a s => ∀ o, J G z cX0_friends 4 RX0 6 0 0 0 0 4 [some (.ref x), some (.int s), some (.int (nI a)), o] [] n (xh x w g)) (a0 := 0) (s0 := 0) (Nat.zero_le _) trivial (fun s _ hs o => ?_) (fun a s _ ha _ => ⟨trivial, fun next o => ?_⟩) none
  · refine r_iload_2 (q := 5) dX0_friends_4 rfl ?_
    refine r_aload_0 (q := 6) dX0_friends_5 rfl ?_
    refine r_get gf_X0_16_0 xh_x rfl (q := 9) dX0_friends_6 rfl ?_
    refine r_callV_0 cv_X0_74 (xe_o 0 (by decide) rfl) rfl (by decide) (Nat.le_of_ble_eq_true rfl) ⟨Nat.le_refl _, Nat.le_refl _⟩ (x_many 0 (by decide) hk rfl) (q := 12) dX0_friends_9 rfl ?_
    refine r_icmp_ge (q := 15) (tgt := 78) dX0_friends_12 rfl rfl (fun c12 => ?_) (fun c12 => ?_)
    · rw [← show s = forR (friI (w.1 0).1) 0 (w.1 0).1.1.length 0 from hs] at hz
      refine r_iload_1 (q := 79) dX0_friends_78 rfl ?_
      exact r_iret hz dX0_friends_79 (Nat.le_refl _) (Nat.le_refl _) (.of rfl h)
    · exact absurd (Int32.le_refl _) c12
  · refine r_iload_2 (q := 5) dX0_friends_4 rfl ?_
    refine r_aload_0 (q := 6) dX0_friends_5 rfl ?_
    refine r_get gf_X0_16_0 xh_x rfl (q := 9) dX0_friends_6 rfl ?_
    refine r_callV_0 cv_X0_74 (xe_o 0 (by decide) rfl) rfl (by decide) (Nat.le_of_ble_eq_true rfl) ⟨Nat.le_refl _, Nat.le_refl _⟩ (x_many 0 (by decide) hk rfl) (q := 12) dX0_friends_9 rfl ?_
    refine r_icmp_ge (q := 15) (tgt := 78) dX0_friends_12 rfl rfl (fun c12 => ?_) (fun c12 => ?_)
    · exact absurd c12 (nI_not_lt ha (by omega))
    refine r_iload_2 (q := 16) dX0_friends_15 rfl ?_
    refine r_iconst 1 (by decide) (q := 17) dX0_friends_16 rfl ?_
    refine r_iadd (q := 18) dX0_friends_17 rfl ?_
    refine J.topi (nI_1 _) ?_
    refine r_istore_3 (by decide) rfl (q := 19) dX0_friends_18 rfl ?_
    refine forJ (f := friF (w.1 0).1 a) (σ := Int32) (w.1 0).1.1.length (fun _ => True) (fun b s => J G z cX0_friends 4 RX0 6 0 0 0 0 19 [some (.ref x), some (.int s), some (.int (nI a)), some (.int (nI b))] [] n (xh x w g)) (a0 := a + 1) (s0 := s) ha trivial (fun s' _ hs => ?_) (fun b s' _ hb _ => ⟨trivial, fun next' => ?_⟩)
    · refine r_iload_3 (q := 20) dX0_friends_19 rfl ?_
      refine r_aload_0 (q := 21) dX0_friends_20 rfl ?_
      refine r_get gf_X0_16_0 xh_x rfl (q := 24) dX0_friends_21 rfl ?_
      refine r_callV_0 cv_X0_74 (xe_o 0 (by decide) rfl) rfl (by decide) (Nat.le_of_ble_eq_true rfl) ⟨Nat.le_refl _, Nat.le_refl _⟩ (x_many 0 (by decide) hk rfl) (q := 27) dX0_friends_24 rfl ?_
      refine r_icmp_ge (q := 30) (tgt := 72) dX0_friends_27 rfl rfl (fun c27 => ?_) (fun c27 => ?_)
      · refine r_inc_2 (by decide) rfl (q := 75) dX0_friends_72 rfl ?_
        refine r_goto (q := 4) dX0_friends_75 rfl ?_
        subst hs
        exact next _
      · exact absurd (Int32.le_refl _) c27
    · have go : ∀ v : Int32, v = (if 60 ≤ likS (w.1 0).1 a b ∧ 60 ≤ likS (w.1 0).1 b a then 1 else 0) → J G z cX0_friends 4 RX0 6 0 0 0 0 64 [some (.ref x), some (.int s'), some (.int (nI a)), some (.int (nI b))] [.int v, .int s'] n (xh x w g) := by
        intro v hv
        unfold friF at next'
        rw [← hv] at next'
        refine r_iadd (q := 65) dX0_friends_64 rfl ?_
        refine r_istore_1 (by decide) rfl (q := 66) dX0_friends_65 rfl ?_
        refine r_inc_3 (by decide) rfl (q := 69) dX0_friends_66 rfl ?_
        refine r_goto (q := 19) dX0_friends_69 rfl ?_
        exact next'
      refine r_iload_3 (q := 20) dX0_friends_19 rfl ?_
      refine r_aload_0 (q := 21) dX0_friends_20 rfl ?_
      refine r_get gf_X0_16_0 xh_x rfl (q := 24) dX0_friends_21 rfl ?_
      refine r_callV_0 cv_X0_74 (xe_o 0 (by decide) rfl) rfl (by decide) (Nat.le_of_ble_eq_true rfl) ⟨Nat.le_refl _, Nat.le_refl _⟩ (x_many 0 (by decide) hk rfl) (q := 27) dX0_friends_24 rfl ?_
      refine r_icmp_ge (q := 30) (tgt := 72) dX0_friends_27 rfl rfl (fun c27 => ?_) (fun c27 => ?_)
      · exact absurd c27 (nI_not_lt hb (by omega))
      refine r_iload_1 (q := 31) dX0_friends_30 rfl ?_
      refine r_aload_0 (q := 32) dX0_friends_31 rfl ?_
      refine r_get gf_X0_16_0 xh_x rfl (q := 35) dX0_friends_32 rfl ?_
      refine r_iload_2 (q := 36) dX0_friends_35 rfl ?_
      refine r_iload_3 (q := 37) dX0_friends_36 rfl ?_
      refine r_callV_2 cv_X0_153 (xe_o 0 (by decide) rfl) rfl (by decide) (Nat.le_of_ble_eq_true rfl) ⟨Nat.le_refl _, Nat.le_refl _⟩ (x_likes 0 (by decide) hk rfl ha hb) (q := 40) dX0_friends_37 rfl ?_
      refine r_bipush 60 (by decide) (q := 42) dX0_friends_40 rfl ?_
      refine r_icmp_lt (q := 45) (tgt := 63) dX0_friends_42 rfl rfl (fun c42 => ?_) (fun c42 => ?_)
      · refine r_iconst 0 (by decide) (q := 64) dX0_friends_63 rfl ?_
        exact go 0 (if_neg (fun q => absurd q.1 (Int32.not_le.mpr c42))).symm
      refine r_aload_0 (q := 46) dX0_friends_45 rfl ?_
      refine r_get gf_X0_16_0 xh_x rfl (q := 49) dX0_friends_46 rfl ?_
      refine r_iload_3 (q := 50) dX0_friends_49 rfl ?_
      refine r_iload_2 (q := 51) dX0_friends_50 rfl ?_
      refine r_callV_2 cv_X0_153 (xe_o 0 (by decide) rfl) rfl (by decide) (Nat.le_of_ble_eq_true rfl) ⟨Nat.le_refl _, Nat.le_refl _⟩ (x_likes 0 (by decide) hk rfl hb ha) (q := 54) dX0_friends_51 rfl ?_
      refine r_bipush 60 (by decide) (q := 56) dX0_friends_54 rfl ?_
      refine r_icmp_lt (q := 59) (tgt := 63) dX0_friends_56 rfl rfl (fun c56 => ?_) (fun c56 => ?_)
      · refine r_iconst 0 (by decide) (q := 64) dX0_friends_63 rfl ?_
        exact go 0 (if_neg (fun q => absurd q.2 (Int32.not_le.mpr c56))).symm
      · refine r_iconst 1 (by decide) (q := 60) dX0_friends_59 rfl ?_
        refine r_goto (q := 64) dX0_friends_60 rfl ?_
        exact go 1 (if_pos ⟨Int32.not_lt.mp c42, Int32.not_lt.mp c56⟩).symm
theorem k_X0_enemy {p : Int32} (h : XR x w g σ) : Ct G yX0_enemy cX0_enemy 4 (some .int) 6 0 0 [.ref x, .int p] n (xh x w g) (XPo x n g (enemyS σ p)) := by
  refine Ct.intro (k := 2) [some (.ref x), some (.int p), none, none] (by decide) (Nat.le_of_ble_eq_true rfl) rfl fun z hz hin => ?_
  refine r_aload_0 (q := 1) dX0_enemy_0 rfl ?_
  refine r_iload_1 (q := 2) dX0_enemy_1 rfl ?_
  refine r_callV_1 cv_X0_82 xh_x rfl (by decide) (Nat.le_of_ble_eq_true rfl) ⟨Nat.le_refl _, Nat.le_refl _⟩ (k_X0_isPerson h.kx) (q := 5) dX0_enemy_2 rfl ?_
  rw [h.s]
  refine r_if_ne (q := 8) (tgt := 14) dX0_enemy_5 rfl rfl (fun c5 => ?_) (fun c5 => ?_)
  · have hp := bI_n0.mp c5
    obtain ⟨i, hi, rfl⟩ := isPer_t h.oks.1 hp
    have h60 := h.oks.1.1
    unfold enemyS at hz
    rw [if_pos hp, cl_nI (by omega), ← h.s] at hz
    rw [← h.s] at hi
    have hk := h.kx
    have h6 := hk.l6
    refine r_bipush (-9) (by decide) (q := 16) dX0_enemy_14 rfl ?_
    refine r_istore_2 (by decide) rfl (q := 17) dX0_enemy_16 rfl ?_
    refine r_iconst 0 (by decide) (q := 18) dX0_enemy_17 rfl ?_
    refine r_istore_3 (by decide) rfl (q := 19) dX0_enemy_18 rfl ?_
    refine forJ (f := eneF (w.1 0).1 i) (σ := Option Nat) (w.1 0).1.1.length (fun s => ∀ k, s = some k → k < (w.1 0).1.1.length) (fun a s => J G z cX0_enemy 4 RX0 6 0 0 0 0 19 [some (.ref x), some (.int (nI i)), some (.int (mI s)), some (.int (nI a))] [] n (xh x w g)) (a0 := 0) (s0 := none) (Nat.zero_le _) (fun k e => by cases e) (fun s _ hs => ?_) (fun a s _ ha hkk => ⟨?_, fun next => ?_⟩)
    · refine r_iload_3 (q := 20) dX0_enemy_19 rfl ?_
      refine r_aload_0 (q := 21) dX0_enemy_20 rfl ?_
      refine r_get gf_X0_16_0 xh_x rfl (q := 24) dX0_enemy_21 rfl ?_
      refine r_callV_0 cv_X0_74 (xe_o 0 (by decide) rfl) rfl (by decide) (Nat.le_of_ble_eq_true rfl) ⟨Nat.le_refl _, Nat.le_refl _⟩ (x_many 0 (by decide) hk rfl) (q := 27) dX0_enemy_24 rfl ?_
      refine r_icmp_ge (q := 30) (tgt := 68) dX0_enemy_27 rfl rfl (fun c27 => ?_) (fun c27 => ?_)
      · rw [← show s = eneS (w.1 0).1 i from hs] at hz
        refine r_iload_2 (q := 69) dX0_enemy_68 rfl ?_
        exact r_iret hz dX0_enemy_69 (Nat.le_refl _) (Nat.le_refl _) (.of rfl h)
      · exact absurd (Int32.le_refl _) c27
    · intro k e
      unfold eneF at e
      split at e
      · exact hkk k e
      · split at e
        · cases e; exact ha
        · split at e
          · cases e; exact ha
          · exact hkk k e
    · have take : eneF (w.1 0).1 i a s = some a → ∀ s0 : Option Nat, J G z cX0_enemy 4 RX0 6 0 0 0 0 60 [some (.ref x), some (.int (nI i)), some (.int (mI s0)), some (.int (nI a))] [] n (xh x w g) := by
        intro e s0
        rw [e] at next
        refine r_iload_3 (q := 61) dX0_enemy_60 rfl ?_
        refine r_istore_2 (by decide) rfl (q := 62) dX0_enemy_61 rfl ?_
        refine r_inc_3 (by decide) rfl (q := 65) dX0_enemy_62 rfl ?_
        refine r_goto (q := 19) dX0_enemy_65 rfl ?_
        exact next
      have keep : eneF (w.1 0).1 i a s = s → J G z cX0_enemy 4 RX0 6 0 0 0 0 62 [some (.ref x), some (.int (nI i)), some (.int (mI s)), some (.int (nI a))] [] n (xh x w g) := by
        intro e
        rw [e] at next
        refine r_inc_3 (by decide) rfl (q := 65) dX0_enemy_62 rfl ?_
        refine r_goto (q := 19) dX0_enemy_65 rfl ?_
        exact next
      refine r_iload_3 (q := 20) dX0_enemy_19 rfl ?_
      refine r_aload_0 (q := 21) dX0_enemy_20 rfl ?_
      refine r_get gf_X0_16_0 xh_x rfl (q := 24) dX0_enemy_21 rfl ?_
      refine r_callV_0 cv_X0_74 (xe_o 0 (by decide) rfl) rfl (by decide) (Nat.le_of_ble_eq_true rfl) ⟨Nat.le_refl _, Nat.le_refl _⟩ (x_many 0 (by decide) hk rfl) (q := 27) dX0_enemy_24 rfl ?_
      refine r_icmp_ge (q := 30) (tgt := 68) dX0_enemy_27 rfl rfl (fun c27 => ?_) (fun c27 => ?_)
      · exact absurd c27 (nI_not_lt ha (by omega))
      refine r_iload_3 (q := 31) dX0_enemy_30 rfl ?_
      refine r_iload_1 (q := 32) dX0_enemy_31 rfl ?_
      refine r_icmp_eq (q := 35) (tgt := 62) dX0_enemy_32 rfl rfl (fun c32 => ?_) (fun c32 => ?_)
      · exact keep (if_pos (nI_inj (by omega) (by omega) c32))
      have hap : a ≠ i := fun e => c32 (by rw [e])
      refine r_iload_2 (q := 36) dX0_enemy_35 rfl ?_
      cases s with
      | none =>
        refine r_if_lt (q := 39) (tgt := 60) dX0_enemy_36 rfl rfl (fun c36 => ?_) (fun c36 => ?_)
        · exact take (if_neg hap) _
        · exact absurd mI_neg c36
      | some k =>
        have hk' := hkk k rfl
        have v1 := vs_qr hk.2.1 i a
        have v2 := vs_qr hk.2.1 i k
        refine r_if_lt (q := 39) (tgt := 60) dX0_enemy_36 rfl rfl (fun c36 => ?_) (fun c36 => ?_)
        · exact absurd c36 (nI_pos (by omega))
        refine r_aload_0 (q := 40) dX0_enemy_39 rfl ?_
        refine r_get gf_X0_16_0 xh_x rfl (q := 43) dX0_enemy_40 rfl ?_
        refine r_iload_1 (q := 44) dX0_enemy_43 rfl ?_
        refine r_iload_3 (q := 45) dX0_enemy_44 rfl ?_
        refine r_callV_2 cv_X0_149 (xe_o 0 (by decide) rfl) rfl (by decide) (Nat.le_of_ble_eq_true rfl) ⟨Nat.le_refl _, Nat.le_refl _⟩ (x_between 0 (by decide) hk rfl (by omega) (by omega)) (q := 48) dX0_enemy_45 rfl ?_
        refine r_aload_0 (q := 49) dX0_enemy_48 rfl ?_
        refine r_get gf_X0_16_0 xh_x rfl (q := 52) dX0_enemy_49 rfl ?_
        refine r_iload_1 (q := 53) dX0_enemy_52 rfl ?_
        refine r_iload_2 (q := 54) dX0_enemy_53 rfl ?_
        refine J.topi (show mI (some k) = nI k from rfl) ?_
        refine r_callV_2 cv_X0_149 (xe_o 0 (by decide) rfl) rfl (by decide) (Nat.le_of_ble_eq_true rfl) ⟨Nat.le_refl _, Nat.le_refl _⟩ (x_between 0 (by decide) hk rfl (by omega) (by omega)) (q := 57) dX0_enemy_54 rfl ?_
        refine r_icmp_le (q := 60) (tgt := 62) dX0_enemy_57 rfl rfl (fun c57 => ?_) (fun c57 => ?_)
        · exact keep ((if_neg hap).trans (if_neg (fun q => absurd c57 (nI_ge q (by omega)))))
        · exact take ((if_neg hap).trans (if_pos (by
            rcases Nat.lt_or_ge (qr (w.1 0).1 i k) (qr (w.1 0).1 i a) with q | q
            · exact q
            · exact absurd (nI_le q (by omega)) c57))) _
  · refine r_aload_0 (q := 9) dX0_enemy_8 rfl ?_
    refine r_iconst (-1) (by decide) (q := 10) dX0_enemy_9 rfl ?_
    refine r_callV_1 cv_X0_48 xh_x rfl (by decide) (Nat.le_of_ble_eq_true rfl) ⟨Nat.le_refl _, Nat.le_refl _⟩ (k_X0_refuse isC_1 h.ra) (q := 13) dX0_enemy_10 rfl ?_
    exact r_iret hz dX0_enemy_13 (Nat.le_refl _) (Nat.le_refl _) (.of (by unfold enemyS; rw [bI_0.mp c5]; rfl) (h.refuse _))
theorem k_X0_chain {p : Int32} (h : XR x w g σ) : Ct G yX0_chain cX0_chain 4 (some .int) 7 0 0 [.ref x, .int p] n (xh x w g) (XPo x n g (chainS σ p)) := by
  refine Ct.intro (k := 2) [some (.ref x), some (.int p), none, none] (by decide) (Nat.le_of_ble_eq_true rfl) rfl fun z hz hin => ?_
  refine r_aload_0 (q := 1) dX0_chain_0 rfl ?_
  refine r_iload_1 (q := 2) dX0_chain_1 rfl ?_
  refine r_callV_1 cv_X0_82 xh_x rfl (by decide) (Nat.le_of_ble_eq_true rfl) ⟨Nat.le_refl _, Nat.le_refl _⟩ (k_X0_isPerson h.kx) (q := 5) dX0_chain_2 rfl ?_
  rw [h.s]
  refine r_if_ne (q := 8) (tgt := 14) dX0_chain_5 rfl rfl (fun c5 => ?_) (fun c5 => ?_)
  · have hp := bI_n0.mp c5
    obtain ⟨i, hi, rfl⟩ := isPer_t h.oks.1 hp
    have h60 := h.oks.1.1
    unfold chainS at hz
    rw [if_pos hp, cl_nI (by omega), ← h.s] at hz
    rw [← h.s] at hi
    have hk := h.kx
    have h6 := hk.l6
    have hfav : ∀ p k, favS (w.1 0).1 p = some k → k < (w.1 0).1.1.length := fun p => forR_inv' (N := (w.1 0).1.1.length) (fun s : Option Nat => ∀ k, s = some k → k < (w.1 0).1.1.length) (fun j s hj hs k e => by
      unfold favF at e
      split at e
      · exact hs k e
      · split at e
        · cases e; exact hj
        · split at e
          · cases e; exact hj
          · exact hs k e) _ _ _ (by omega) (fun k e => by cases e)
    have done : ∀ (m : Nat) (o : Option Nat), m < 64 → m = chS (w.1 0).1 7 0 (some i) → J G z cX0_chain 4 RX0 7 0 0 0 0 45 [some (.ref x), some (.int (nI i)), some (.int (nI m)), some (.int (mI o))] [] n (xh x w g) := by
      intro m o hm e
      rw [← e] at hz
      refine r_iload_2 (q := 46) dX0_chain_45 rfl ?_
      refine r_callS_1 cs_X0_256 (by decide) (Nat.le_of_ble_eq_true rfl) ⟨Nat.le_refl _, Nat.le_refl _⟩ (k_X0_bits (by omega)) (q := 49) dX0_chain_46 rfl ?_
      exact r_iret hz dX0_chain_49 (Nat.le_refl _) (Nat.le_refl _) (.of rfl h)
    have loop : ∀ (c m : Nat) (o : Option Nat), c + pop m = 7 → m < 64 → (∀ k, o = some k → k < (w.1 0).1.1.length) → chS (w.1 0).1 c m o = chS (w.1 0).1 7 0 (some i) → J G z cX0_chain 4 RX0 7 0 0 0 0 18 [some (.ref x), some (.int (nI i)), some (.int (nI m)), some (.int (mI o))] [] n (xh x w g) := by
      intro c
      induction c with
      | zero =>
        intro m o h1 h2
        exact absurd (ch_pop m h2) (by omega)
      | succ c ih =>
        intro m o h1 h2 h3 h4
        refine r_iload_3 (q := 19) dX0_chain_18 rfl ?_
        cases o with
        | none =>
          refine r_if_lt (q := 22) (tgt := 45) dX0_chain_19 rfl rfl (fun c19 => ?_) (fun c19 => ?_)
          · exact done m none h2 h4
          · exact absurd mI_neg c19
        | some k =>
          have hk' := h3 k rfl
          have h4 : (if hbt m k = true then m else chS (w.1 0).1 c (m ||| 2 ^ k) (favS (w.1 0).1 k)) = chS (w.1 0).1 7 0 (some i) := h4
          refine r_if_lt (q := 22) (tgt := 45) dX0_chain_19 rfl rfl (fun c19 => ?_) (fun c19 => ?_)
          · exact absurd c19 (nI_pos (by omega))
          refine r_iload_2 (q := 23) dX0_chain_22 rfl ?_
          refine r_iload_3 (q := 24) dX0_chain_23 rfl ?_
          refine J.topi (show mI (some k) = nI k from rfl) ?_
          refine r_callS_2 cs_X0_240 (by decide) (Nat.le_of_ble_eq_true rfl) ⟨Nat.le_refl _, Nat.le_refl _⟩ (k_X0_has (m := m) (by omega) (by omega)) (q := 27) dX0_chain_24 rfl ?_
          refine r_if_ne (q := 30) (tgt := 45) dX0_chain_27 rfl rfl (fun c27 => ?_) (fun c27 => ?_)
          · rw [if_pos (bI_n0.mp c27)] at h4
            exact done m (some k) h2 h4
          · rw [if_neg (by rw [bI_0.mp c27]; decide)] at h4
            obtain ⟨q1, q2, q3⟩ := ch_bit m h2 k (by omega) (bI_0.mp c27)
            refine r_iload_2 (q := 31) dX0_chain_30 rfl ?_
            refine r_iconst 1 (by decide) (q := 32) dX0_chain_31 rfl ?_
            refine r_iload_3 (q := 33) dX0_chain_32 rfl ?_
            refine r_ishl (q := 34) dX0_chain_33 rfl ?_
            refine r_ior (q := 35) dX0_chain_34 rfl ?_
            refine J.topi q1 ?_
            refine r_istore_2 (by decide) rfl (q := 36) dX0_chain_35 rfl ?_
            refine r_aload_0 (q := 37) dX0_chain_36 rfl ?_
            refine r_iload_3 (q := 38) dX0_chain_37 rfl ?_
            refine J.topi (show mI (some k) = nI k from rfl) ?_
            refine r_callV_1 cv_X0_250 xh_x rfl (by decide) (Nat.le_of_ble_eq_true rfl) ⟨Nat.le_refl _, Nat.le_refl _⟩ (k_X0_favourite hk hk') (q := 41) dX0_chain_38 rfl ?_
            refine r_istore_3 (by decide) rfl (q := 42) dX0_chain_41 rfl ?_
            refine r_goto (q := 18) dX0_chain_42 rfl ?_
            exact ih (m ||| 2 ^ k) _ (by omega) q2 (hfav k) h4
    refine r_iconst 0 (by decide) (q := 15) dX0_chain_14 rfl ?_
    refine r_istore_2 (by decide) rfl (q := 16) dX0_chain_15 rfl ?_
    refine r_iload_1 (q := 17) dX0_chain_16 rfl ?_
    refine r_istore_3 (by decide) rfl (q := 18) dX0_chain_17 rfl ?_
    exact loop 7 0 (some i) (by rw [pop_0]) (by decide) (fun k e => by cases e; exact hi) rfl
  · refine r_aload_0 (q := 9) dX0_chain_8 rfl ?_
    refine r_iconst (-1) (by decide) (q := 10) dX0_chain_9 rfl ?_
    refine r_callV_1 cv_X0_48 xh_x rfl (by decide) (Nat.le_of_ble_eq_true rfl) ⟨Nat.le_refl _, Nat.le_refl _⟩ (k_X0_refuse isC_1 h.ra) (q := 13) dX0_chain_10 rfl ?_
    exact r_iret hz dX0_chain_13 (Nat.le_refl _) (Nat.le_refl _) (.of (by unfold chainS; rw [bI_0.mp c5]; rfl) (h.refuse _))
theorem k_X0_peace (h : XR x w g σ) : Ct G yX0_peace cX0_peace 2 (some .int) 8 0 0 [.ref x] n (xh x w g) (XPo x n g (xpeaceS σ)) := by
  refine Ct.intro (k := 1) [some (.ref x), none] (by decide) (Nat.le_of_ble_eq_true rfl) rfl fun z hz hin => ?_
  refine J.qs 1 ?_
  refine r_aload_0 (q := 1) dX0_peace_0 rfl ?_
  refine r_get gf_X0_20_0 xh_x rfl (q := 4) dX0_peace_1 rfl ?_
  refine r_aload_0 (q := 5) dX0_peace_4 rfl ?_
  refine r_get gf_X0_16_0 xh_x rfl (q := 8) dX0_peace_5 rfl ?_
  refine r_callVv_1 cv_X0_103 (xe_o 1 (by decide) rfl) rfl (by decide) (Nat.le_of_ble_eq_true rfl) ⟨Nat.le_refl _, Nat.le_refl _⟩ (m_takes 1 0 (by decide) (by decide) (by decide) (h.lx 1 (by decide)) h.kx rfl) (q := 11) dX0_peace_8 rfl ?_
  have loop : ∀ (c k : Nat) (S : SQ), k + c = 100 → KX x g (S, (tkX (w.1 0) (w.1 1)).2) → zpe c k S = zpe 100 0 σ.1 → J G z cX0_peace 2 RX0 8 0 0 0 0 13 [some (.ref x), some (.int (nI k))] [] n (xh x (setq w 1 (S, (tkX (w.1 0) (w.1 1)).2)) g) := by
    intro c
    induction c with
    | zero =>
      intro k S h1 h2 h3
      refine r_iload_1 (q := 14) dX0_peace_13 rfl ?_
      refine r_bipush 99 (by decide) (q := 16) dX0_peace_14 rfl ?_
      refine r_icmp_gt (q := 19) (tgt := 44) dX0_peace_16 rfl rfl (fun c16 => ?_) (fun c16 => ?_)
      · refine r_bipush (-9) (by decide) (q := 46) dX0_peace_44 rfl ?_
        exact r_iret hz dX0_peace_46 (Nat.le_refl _) (Nat.le_refl _) (.of (by unfold xpeaceS; rw [← h3]; rfl) (h.mind h2.lx))
      · exact absurd (nI_lt (a := 99) (b := k) (by omega) (by omega)) c16
    | succ c ih =>
      intro k S h1 h2 h3
      have h3 : (if peaceS S = true then nI k else zpe c (k + 1) (goesS S)) = zpe 100 0 σ.1 := h3
      refine r_iload_1 (q := 14) dX0_peace_13 rfl ?_
      refine r_bipush 99 (by decide) (q := 16) dX0_peace_14 rfl ?_
      refine r_icmp_gt (q := 19) (tgt := 44) dX0_peace_16 rfl rfl (fun c16 => ?_) (fun c16 => ?_)
      · exact absurd c16 (nI_nlt (a := 99) (b := k) (by omega) (by omega))
      refine r_aload_0 (q := 20) dX0_peace_19 rfl ?_
      refine r_get gf_X0_20_0 xh_x rfl (q := 23) dX0_peace_20 rfl ?_
      refine r_callS_1 cs_X0_318 (by decide) (Nat.le_of_ble_eq_true rfl) ⟨Nat.le_refl _, Nat.le_refl _⟩ (k_X0_isPeaceful 1 (by decide) h2 rfl) (q := 26) dX0_peace_23 rfl ?_
      refine r_if_eq (q := 29) (tgt := 31) dX0_peace_26 rfl rfl (fun c26 => ?_) (fun c26 => ?_)
      · rw [if_neg (by rw [bI_0.mp c26]; decide)] at h3
        refine r_aload_0 (q := 32) dX0_peace_31 rfl ?_
        refine r_get gf_X0_20_0 xh_x rfl (q := 35) dX0_peace_32 rfl ?_
        refine r_callVv_0 cv_X0_196 (xe_o 1 (by decide) rfl) rfl (by decide) (Nat.le_of_ble_eq_true rfl) ⟨Nat.le_refl _, Nat.le_refl _⟩ (m_goes 1 (by decide) h2) (q := 38) dX0_peace_35 rfl ?_
        refine r_inc_1 (by decide) rfl (q := 41) dX0_peace_38 rfl ?_
        refine r_goto (q := 13) dX0_peace_41 rfl ?_
        exact ih (k + 1) (goesS S) (by omega) h2.goes h3
      · rw [if_pos (bI_n0.mp c26)] at h3
        refine r_iload_1 (q := 30) dX0_peace_29 rfl ?_
        exact r_iret hz dX0_peace_30 (Nat.le_refl _) (Nat.le_refl _) (.of (by unfold xpeaceS; rw [← h3]) (h.mind h2.lx))
  refine r_iconst 0 (by decide) (q := 12) dX0_peace_11 rfl ?_
  refine r_istore_1 (by decide) rfl (q := 13) dX0_peace_12 rfl ?_
  exact loop 100 0 (w.1 0).1 rfl h.kx (by rw [h.s])
theorem k_X0_allDoubled {hh : Nat} (h : KX x g (w.1 0)) (hX : LX X) (hb : hh < 5) : CtE G yX0_allDoubled cX0_allDoubled 3 (some FieldType.int) 8 [.ref x, .int (nI hh)] n (xh x (setq w 1 X) g) (some (.int (allS (dblS hh 9 (w.1 0).1)))) (xh x (setq w 1 (dblS hh 9 (w.1 0).1, (tkX (w.1 0) X).2)) g) := by
  refine Ct.intro (k := 1) [some (.ref x), some (.int (nI hh)), none] (by decide) (Nat.le_of_ble_eq_true rfl) rfl fun z hz hin => ?_
  refine r_aload_0 (q := 1) dX0_allDoubled_0 rfl ?_
  refine r_get gf_X0_20_0 xh_x rfl (q := 4) dX0_allDoubled_1 rfl ?_
  refine r_aload_0 (q := 5) dX0_allDoubled_4 rfl ?_
  refine r_get gf_X0_16_0 xh_x rfl (q := 8) dX0_allDoubled_5 rfl ?_
  refine r_callVv_1 cv_X0_103 (xe_o 1 (by decide) rfl) rfl (by decide) (Nat.le_of_ble_eq_true rfl) ⟨Nat.le_refl _, Nat.le_refl _⟩ (m_takes 1 0 (by decide) (by decide) (by decide) hX h rfl) (q := 11) dX0_allDoubled_8 rfl ?_
  have loop : ∀ (c k : Nat) (S : SQ), k + c = 9 → KX x g (S, (tkX (w.1 0) X).2) → dblS hh c S = dblS hh 9 (w.1 0).1 → J G z cX0_allDoubled 3 RX0 8 0 0 0 0 13 [some (.ref x), some (.int (nI hh)), some (.int (nI k))] [] n (xh x (setq w 1 (S, (tkX (w.1 0) X).2)) g) := by
    intro c
    induction c with
    | zero =>
      intro k S h1 h2 h3
      rw [← show S = dblS hh 9 (w.1 0).1 from h3] at hz
      refine r_iload_2 (q := 14) dX0_allDoubled_13 rfl ?_
      refine r_bipush 9 (by decide) (q := 16) dX0_allDoubled_14 rfl ?_
      refine r_icmp_ge (q := 19) (tgt := 40) dX0_allDoubled_16 rfl rfl (fun c16 => ?_) (fun c16 => ?_)
      · refine r_aload_0 (q := 41) dX0_allDoubled_40 rfl ?_
        refine r_get gf_X0_20_0 xh_x rfl (q := 44) dX0_allDoubled_41 rfl ?_
        refine r_callV_0 cv_X0_184 (xe_o 1 (by decide) rfl) rfl (by decide) (Nat.le_of_ble_eq_true rfl) ⟨Nat.le_refl _, Nat.le_refl _⟩ (x_all 1 (by decide) h2 rfl) (q := 47) dX0_allDoubled_44 rfl ?_
        exact r_iret hz dX0_allDoubled_47 (Nat.le_refl _) (Nat.le_refl _) ⟨rfl, rfl, rfl⟩
      · exact absurd (nI_le (a := 9) (b := k) (by omega) (by omega)) c16
    | succ c ih =>
      intro k S h1 h2 h3
      refine r_iload_2 (q := 14) dX0_allDoubled_13 rfl ?_
      refine r_bipush 9 (by decide) (q := 16) dX0_allDoubled_14 rfl ?_
      refine r_icmp_ge (q := 19) (tgt := 40) dX0_allDoubled_16 rfl rfl (fun c16 => ?_) (fun c16 => ?_)
      · exact absurd c16 (nI_ge (b := 9) (a := k) (by omega) (by omega))
      refine r_aload_0 (q := 20) dX0_allDoubled_19 rfl ?_
      refine r_get gf_X0_20_0 xh_x rfl (q := 23) dX0_allDoubled_20 rfl ?_
      refine r_callVv_0 cv_X0_196 (xe_o 1 (by decide) rfl) rfl (by decide) (Nat.le_of_ble_eq_true rfl) ⟨Nat.le_refl _, Nat.le_refl _⟩ (m_goes 1 (by decide) h2) (q := 26) dX0_allDoubled_23 rfl ?_
      refine r_aload_0 (q := 27) dX0_allDoubled_26 rfl ?_
      refine r_get gf_X0_20_0 xh_x rfl (q := 30) dX0_allDoubled_27 rfl ?_
      refine r_iload_1 (q := 31) dX0_allDoubled_30 rfl ?_
      refine r_callVv_1 cv_X0_322 (xe_o 1 (by decide) rfl) rfl (by decide) (Nat.le_of_ble_eq_true rfl) ⟨Nat.le_refl _, Nat.le_refl _⟩ (m_hour 1 (by decide) h2.goes (by omega)) (q := 34) dX0_allDoubled_31 rfl ?_
      refine r_inc_2 (by decide) rfl (q := 37) dX0_allDoubled_34 rfl ?_
      refine r_goto (q := 13) dX0_allDoubled_37 rfl ?_
      exact ih (k + 1) _ (by omega) h2.goes.hour h3
  refine r_iconst 0 (by decide) (q := 12) dX0_allDoubled_11 rfl ?_
  refine r_istore_2 (by decide) rfl (q := 13) dX0_allDoubled_12 rfl ?_
  exact loop 9 0 (w.1 0).1 rfl h rfl
theorem dblS_fr (hh : Nat) : ∀ (c : Nat) (S : SQ), fr4 S (dblS hh c S)
  | 0, _ => ⟨rfl, rfl, rfl⟩
  | c + 1, S => (goesS_fr S).trans ((hourS_fr hh _).trans (dblS_fr hh c _))
theorem KX.dbl {hh : Nat} (S : SQ) (Z : List Nat × Int32) : ∀ c, ∀ S, KX x g (S, Z) → KX x g (dblS hh c S, Z)
  | 0, _, h => h
  | c + 1, _, h => KX.dbl S Z c _ h.goes.hour
theorem k_X0_doubled (h : XR x w g σ) : Ct G yX0_doubled cX0_doubled 3 (some .int) 9 0 0 [.ref x] n (xh x w g) (XPo x n g (doubledS σ)) := by
  refine Ct.intro (k := 2) [some (.ref x), none, none] (by decide) (Nat.le_of_ble_eq_true rfl) rfl fun z hz hin => ?_
  unfold doubledS at hz
  rw [← h.s] at hz
  have hk := h.kx
  have kd : ∀ (hh : Nat) (X : QX), LX (dblS hh 9 (w.1 0).1, (tkX (w.1 0) X).2) := fun hh X => (KX.dbl (w.1 0).1 (tkX (w.1 0) X).2 9 (w.1 0).1 (hk.tk (X := X))).lx
  refine J.qs 1 ?_
  refine r_iconst 0 (by decide) (q := 1) dX0_doubled_0 rfl ?_
  refine r_istore_1 (by decide) rfl (q := 2) dX0_doubled_1 rfl ?_
  refine r_iconst 1 (by decide) (q := 3) dX0_doubled_2 rfl ?_
  refine r_istore_2 (by decide) rfl (q := 4) dX0_doubled_3 rfl ?_
  refine forJ (f := dobF (w.1 0).1) (σ := Nat) 5 (fun b => b < 5) (fun a b => ∀ X, LX X → J G z cX0_doubled 3 RX0 9 0 0 0 0 4 [some (.ref x), some (.int (nI b)), some (.int (nI a))] [] n (xh x (setq w 1 X) g)) (a0 := 1) (s0 := 0) (by decide) (by decide) (fun s hl hs X hX => ?_) (fun a s _ ha hl => ⟨by unfold dobF; split <;> omega, fun next X hX => ?_⟩) _ (h.lx 1 (by decide))
  · refine r_iload_2 (q := 5) dX0_doubled_4 rfl ?_
    refine r_iconst 5 (by decide) (q := 6) dX0_doubled_5 rfl ?_
    refine r_icmp_ge (q := 9) (tgt := 30) dX0_doubled_6 rfl rfl (fun c6 => ?_) (fun c6 => ?_)
    · rw [← show s = doubS (w.1 0).1 from hs] at hz
      refine r_iload_1 (q := 31) dX0_doubled_30 rfl ?_
      exact r_iret hz dX0_doubled_31 (Nat.le_refl _) (Nat.le_refl _) (.of rfl (h.mind hX))
    · exact absurd (Int32.le_refl (5 : Int32)) c6
  · unfold dobF at next
    refine r_iload_2 (q := 5) dX0_doubled_4 rfl ?_
    refine r_iconst 5 (by decide) (q := 6) dX0_doubled_5 rfl ?_
    refine r_icmp_ge (q := 9) (tgt := 30) dX0_doubled_6 rfl rfl (fun c6 => ?_) (fun c6 => ?_)
    · exact absurd c6 (nI_not_lt (b := 5) ha (by decide))
    refine r_aload_0 (q := 10) dX0_doubled_9 rfl ?_
    refine r_iload_2 (q := 11) dX0_doubled_10 rfl ?_
    refine r_callV_1 cv_X0_325 xh_x rfl (by decide) (Nat.le_of_ble_eq_true rfl) ⟨Nat.le_refl _, Nat.le_refl _⟩ (k_X0_allDoubled hk hX ha) (q := 14) dX0_doubled_11 rfl ?_
    refine r_aload_0 (q := 15) dX0_doubled_14 rfl ?_
    refine r_iload_1 (q := 16) dX0_doubled_15 rfl ?_
    refine r_callV_1 cv_X0_325 xh_x rfl (by decide) (Nat.le_of_ble_eq_true rfl) ⟨Nat.le_refl _, Nat.le_refl _⟩ (k_X0_allDoubled hk (kd a X) hl) (q := 19) dX0_doubled_16 rfl ?_
    refine r_icmp_ge (q := 22) (tgt := 24) dX0_doubled_19 rfl rfl (fun c19 => ?_) (fun c19 => ?_)
    · rw [if_neg (Int32.not_lt.mpr c19)] at next
      refine r_inc_2 (by decide) rfl (q := 27) dX0_doubled_24 rfl ?_
      refine r_goto (q := 4) dX0_doubled_27 rfl ?_
      exact next _ (kd s _)
    · rw [if_pos (Int32.not_le.mp c19)] at next
      refine r_iload_2 (q := 23) dX0_doubled_22 rfl ?_
      refine r_istore_1 (by decide) rfl (q := 24) dX0_doubled_23 rfl ?_
      refine r_inc_2 (by decide) rfl (q := 27) dX0_doubled_24 rfl ?_
      refine r_goto (q := 4) dX0_doubled_27 rfl ?_
      exact next _ (kd s _)
end XO3


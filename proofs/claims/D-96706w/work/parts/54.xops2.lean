/-! ===== days on in mind, who leaves, likings ===== -/
def behS (σ : SG) (a b v : Int32) : Int32 × SG :=
  if noQua σ.1 a b v = 0 then (nI (qr (daysS (cl v) σ.1) (cl a) (cl b)), σ) else (noQua σ.1 a b v, rfS σ (noQua σ.1 a b v))
def noAll (v what : Int32) : Int32 := if wi v 0 99 = 0 ∧ inI what 3 = false then -2 else wi v 0 99
def xallS (σ : SG) (v what : Int32) : Int32 × SG :=
  if noAll v what = 0 then (if what = 0 then allS (daysS (cl v) σ.1) else if what = 1 then zerosS (daysS (cl v) σ.1) else (lawS (daysS (cl v) σ.1)).1, σ) else (noAll v what, rfS σ (noAll v what))
def mendS (σ : SG) (a b : Int32) : Int32 × SG := if areTw σ.1 a b = true then (toldI (zin (cl a) (cl b) 100 0 σ.1), σ) else (-1, rfS σ (-1))
def soonS (σ : SG) (a b : Int32) : Int32 × SG := if areTw σ.1 a b = true then (toldI (zin (cl a) (cl b) 100 0 (joinS σ.1 (cl a) (cl b))), σ) else (-1, rfS σ (-1))
def turS (S : SQ) (a b : Nat) : SQ := goesS (setQr (joinS S a b) a b 50)
def xturnS (σ : SG) (a b : Int32) : Int32 × SG := if areTw σ.1 a b = true then (nI (qr (turS σ.1 (cl a) (cl b)) (cl a) (cl b)) - 50, σ) else (1000000000 - (-1), rfS σ (-1))
def gladS (σ : SG) (p : Int32) : Int32 × SG := if isPer σ.1 p = true then (match mt σ.1 (cl p) with
  | none => -9
  | some m => likS σ.1 (cl p) m + 1000, σ) else (-1, rfS σ (-1))
def nevF (S : SQ) (a : Nat) (s : Int32) : Int32 := s + (match mt S a with
  | none => 0
  | some b => if a < b ∧ 0 < qr S a b then 1 else 0)
def nevS (S : SQ) : Int32 := forR (nevF S) 0 S.1.length 0
def neverS (σ : SG) : Int32 × SG := (nevS (daysS 99 σ.1), σ)
def b1 (a : Nat) : Int32 := (1 : Int32) <<< (nI a &&& 31)
def leaF (S : SQ) (a b : Nat) (s : Int32 × Int32 × Int32) : Int32 × Int32 × Int32 := if leavS S a b = true then (if s.2.1 = 0 then 10 * nI a + nI b else s.1, s.2.1 + 1, s.2.2) else s
def leaI (S : SQ) (a : Nat) (s : Int32 × Int32 × Int32) : Int32 × Int32 × Int32 := forR (leaF S a) (a + 1) (S.1.length - (a + 1)) (s.1, s.2.1, if ridS S a = true then s.2.2 ||| b1 a else s.2.2)
def leaS (S : SQ) : Int32 × Int32 × Int32 := forR (leaI S) 0 S.1.length (-9, 0, 0)
def leavesS (σ : SG) (what : Int32) : Int32 × SG := if inI what 3 = true then (if what = 0 then (leaS σ.1).1 else if what = 1 then (leaS σ.1).2.1 else (leaS σ.1).2.2, σ) else (-2, rfS σ (-2))
def noPw (S : SQ) (p what k : Int32) : Int32 := if isPer S p = true then (if inI what k = true then 0 else -2) else -1
def matF (S : SQ) (p : Nat) (i : Nat) (s : Int32) : Int32 := if wouldS S i p = true then s ||| b1 i else s
def mateS (σ : SG) (p what : Int32) : Int32 × SG :=
  if noPw σ.1 p what 2 = 0 then (if what = 0 then mI (favS σ.1 (cl p)) else forR (matF σ.1 (cl p)) 0 σ.1.1.length 0, σ) else (noPw σ.1 p what 2, rfS σ (noPw σ.1 p what 2))
def lonF (S : SQ) (i : Nat) (s : Int32) : Int32 := if mt S i = none ∧ wantS S i = false then s ||| b1 i else s
def lonelyS (σ : SG) : Int32 × SG := (forR (lonF σ.1) 0 σ.1.1.length 0, σ)
def fulF (S : SQ) (h b : Nat) : Nat := if comS S b < comS S h then h else b
def fulS (S : SQ) : Nat := forR (fulF S) 1 4 0
def fullS (σ : SG) (what : Int32) : Int32 × SG := if inI what 2 = true then (if what = 0 then nI (fulS σ.1) else comS σ.1 (fulS σ.1), σ) else (-2, rfS σ (-2))
theorem noAll_c {v what : Int32} : noAll v what = 0 ∨ isC (noAll v what) := by
  unfold noAll
  split
  · exact Or.inr isC_2
  · exact wi_c _ _ _
theorem noPw_c {S : SQ} {p what k : Int32} : noPw S p what k = 0 ∨ isC (noPw S p what k) := by
  unfold noPw
  split
  · split
    · exact Or.inl rfl
    · exact Or.inr isC_2
  · exact Or.inr isC_1
theorem noPw_0 {S : SQ} {p what k : Int32} (h : noPw S p what k = 0) : isPer S p = true ∧ inI what k = true := by
  unfold noPw at h
  split at h
  · split at h
    · exact ⟨by assumption, by assumption⟩
    · exact absurd h (by decide)
  · exact absurd h (by decide)
theorem noQua_0 {S : SQ} {a b v : Int32} (h : noQua S a b v = 0) : areTw S a b = true ∧ wi v 0 99 = 0 := by
  unfold noQua at h
  split at h
  · exact ⟨by assumption, h⟩
  · exact absurd h (by decide)
theorem fulS_lt (S : SQ) : fulS S < 5 := forR_inv' (N := 5) (fun b => b < 5) (fun j s hj hs => by unfold fulF; split <;> omega) 4 1 0 (by decide) (by decide)
section XO2
variable {G : GD} {n x : Nat} {w w' : XW} {g : RH} {σ : SG} {X Y : QX}
theorem J.qs {z : MZ} {cc : ByteArray} {nL : Nat} {own : String} {lvl mcT msT cells slots pc : Nat} {lo : List (Option Value)} {stk : List Value} (i : Nat) (k : J G z cc nL own lvl mcT msT cells slots pc lo stk n (xh x (setq w i (w.1 i)) g)) : J G z cc nL own lvl mcT msT cells slots pc lo stk n (xh x w g) := by
  rw [setq_self] at k
  exact k
theorem k_X0_behind {a b v : Int32} (h : XR x w g σ) : Ct G yX0_behind cX0_behind 5 (some .int) 10 0 0 [.ref x, .int a, .int b, .int v] n (xh x w g) (XPo x n g (behS σ a b v)) := by
  refine Ct.intro (k := 1) [some (.ref x), some (.int a), some (.int b), some (.int v), none] (by decide) (Nat.le_of_ble_eq_true rfl) rfl fun z hz hin => ?_
  have fin : ∀ no : Int32, (no = 0 ∨ isC no) → no = noQua σ.1 a b v → J G z cX0_behind 5 RX0 10 0 0 0 0 17 [some (.ref x), some (.int a), some (.int b), some (.int v), none] [.int no] n (xh x w g) := by
    intro no hno h1
    refine r_istore_4 (by decide) rfl (q := 19) dX0_behind_17 rfl ?_
    refine r_iload_4 (q := 21) dX0_behind_19 rfl ?_
    refine r_if_eq (q := 24) (tgt := 31) dX0_behind_21 rfl rfl (fun c21 => ?_) (fun c21 => ?_)
    · rw [c21] at h1
      obtain ⟨hp, hv⟩ := noQua_0 h1.symm
      obtain ⟨i, j, hi, hj, hij, rfl, rfl⟩ := areTw_t h.oks.1 hp
      obtain ⟨k, hk, rfl⟩ := wi_n (k := 99) rfl (by decide) hv
      have h6 := h.oks.1.1
      have e0 : behS σ (nI i) (nI j) (nI k) = (nI (qr (daysS k σ.1) i j), σ) := by
        unfold behS
        rw [if_pos h1.symm, cl_nI (by omega), cl_nI (by omega), cl_nI (by omega)]
      rw [e0] at hz
      refine J.qs 1 ?_
      refine r_aload_0 (q := 32) dX0_behind_31 rfl ?_
      refine r_iload_3 (q := 33) dX0_behind_32 rfl ?_
      refine r_callVv_1 cv_X0_188 xh_x rfl (by decide) (Nat.le_of_ble_eq_true rfl) ⟨Nat.le_refl _, Nat.le_refl _⟩ (k_X0_goesOn h.kx (h.lx 1 (by decide)) (by omega)) (q := 36) dX0_behind_33 rfl ?_
      have hk' : KX x g (daysS k (w.1 0).1, (tkX (w.1 0) (w.1 1)).2) := KX.days (X := tkX (w.1 0) (w.1 1)) h.kx
      refine r_aload_0 (q := 37) dX0_behind_36 rfl ?_
      refine r_get gf_X0_20_0 xh_x rfl (q := 40) dX0_behind_37 rfl ?_
      refine r_iload_1 (q := 41) dX0_behind_40 rfl ?_
      refine r_iload_2 (q := 42) dX0_behind_41 rfl ?_
      refine r_callV_2 cv_X0_149 (xe_o 1 (by decide) rfl) rfl (by decide) (Nat.le_of_ble_eq_true rfl) ⟨Nat.le_refl _, Nat.le_refl _⟩ (x_between 1 (by decide) hk' rfl (by omega) (by omega)) (q := 45) dX0_behind_42 rfl ?_
      exact r_iret hz dX0_behind_45 (Nat.le_refl _) (Nat.le_refl _) (.of (by rw [h.s]) (h.mind hk'.lx))
    · have hc : isC no := hno.resolve_left c21
      refine r_aload_0 (q := 25) dX0_behind_24 rfl ?_
      refine r_iload_4 (q := 27) dX0_behind_25 rfl ?_
      refine r_callV_1 cv_X0_48 xh_x rfl (by decide) (Nat.le_of_ble_eq_true rfl) ⟨Nat.le_refl _, Nat.le_refl _⟩ (k_X0_refuse hc h.ra) (q := 30) dX0_behind_27 rfl ?_
      exact r_iret hz dX0_behind_30 (Nat.le_refl _) (Nat.le_refl _) (.of (by unfold behS; rw [← h1, if_neg c21]) (h.refuse _))
  refine r_aload_0 (q := 1) dX0_behind_0 rfl ?_
  refine r_iload_1 (q := 2) dX0_behind_1 rfl ?_
  refine r_iload_2 (q := 3) dX0_behind_2 rfl ?_
  refine r_callV_2 cv_X0_146 xh_x rfl (by decide) (Nat.le_of_ble_eq_true rfl) ⟨Nat.le_refl _, Nat.le_refl _⟩ (k_X0_areTwo h.kx) (q := 6) dX0_behind_3 rfl ?_
  rw [h.s]
  refine r_if_eq (q := 9) (tgt := 16) dX0_behind_6 rfl rfl (fun c6 => ?_) (fun c6 => ?_)
  · refine r_iconst (-1) (by decide) (q := 17) dX0_behind_16 rfl ?_
    exact fin _ (Or.inr isC_1) (by unfold noQua; rw [bI_0.mp c6]; rfl)
  · refine r_iload_3 (q := 10) dX0_behind_9 rfl ?_
    refine r_callS_1 cs_X0_185 (by decide) (Nat.le_of_ble_eq_true rfl) ⟨Nat.le_refl _, Nat.le_refl _⟩ (k_X0_wrongDays) (q := 13) dX0_behind_10 rfl ?_
    refine r_goto (q := 17) dX0_behind_13 rfl ?_
    exact fin _ (wi_c _ _ _) (by unfold noQua; rw [if_pos (bI_n0.mp c6)])
theorem k_X0_all {v what : Int32} (h : XR x w g σ) : Ct G yX0_all cX0_all 4 (some .int) 10 0 0 [.ref x, .int v, .int what] n (xh x w g) (XPo x n g (xallS σ v what)) := by
  refine Ct.intro (k := 1) [some (.ref x), some (.int v), some (.int what), none] (by decide) (Nat.le_of_ble_eq_true rfl) rfl fun z hz hin => ?_
  have fin : ∀ no : Int32, (no = 0 ∨ isC no) → (no = 0 → wi v 0 99 = 0) → no = noAll v what → J G z cX0_all 4 RX0 10 0 0 0 0 20 [some (.ref x), some (.int v), some (.int what), some (.int no)] [] n (xh x w g) := by
    intro no hno hv h1
    refine r_iload_3 (q := 21) dX0_all_20 rfl ?_
    refine r_if_eq (q := 24) (tgt := 30) dX0_all_21 rfl rfl (fun c21 => ?_) (fun c21 => ?_)
    · obtain ⟨k, hk, rfl⟩ := wi_n (k := 99) rfl (by decide) (hv c21)
      rw [c21] at h1
      have e0 : xallS σ (nI k) what = (if what = 0 then allS (daysS k σ.1) else if what = 1 then zerosS (daysS k σ.1) else (lawS (daysS k σ.1)).1, σ) := by
        unfold xallS
        rw [if_pos h1.symm, cl_nI (by omega)]
      rw [e0] at hz
      refine J.qs 1 ?_
      refine r_aload_0 (q := 31) dX0_all_30 rfl ?_
      refine r_iload_1 (q := 32) dX0_all_31 rfl ?_
      refine r_callVv_1 cv_X0_188 xh_x rfl (by decide) (Nat.le_of_ble_eq_true rfl) ⟨Nat.le_refl _, Nat.le_refl _⟩ (k_X0_goesOn h.kx (h.lx 1 (by decide)) (by omega)) (q := 35) dX0_all_32 rfl ?_
      have hk' : KX x g (daysS k (w.1 0).1, (tkX (w.1 0) (w.1 1)).2) := KX.days (X := tkX (w.1 0) (w.1 1)) h.kx
      refine r_iload_2 (q := 36) dX0_all_35 rfl ?_
      refine r_if_ne (q := 39) (tgt := 49) dX0_all_36 rfl rfl (fun c36 => ?_) (fun c36 => ?_)
      · rw [if_neg c36] at hz
        refine r_iload_2 (q := 50) dX0_all_49 rfl ?_
        refine r_iconst 1 (by decide) (q := 51) dX0_all_50 rfl ?_
        refine r_icmp_ne (q := 54) (tgt := 64) dX0_all_51 rfl rfl (fun c51 => ?_) (fun c51 => ?_)
        · rw [if_neg c51] at hz
          refine r_aload_0 (q := 65) dX0_all_64 rfl ?_
          refine r_get gf_X0_20_0 xh_x rfl (q := 68) dX0_all_65 rfl ?_
          refine r_callS_1 cs_X0_192 (by decide) (Nat.le_of_ble_eq_true rfl) ⟨Nat.le_refl _, Nat.le_refl _⟩ (k_X0_atLaw 1 (by decide) hk' rfl) (q := 71) dX0_all_68 rfl ?_
          exact r_iret hz dX0_all_71 (Nat.le_refl _) (Nat.le_refl _) (.of (by rw [h.s]) (h.mind hk'.lx))
        · rw [if_pos c51] at hz
          refine r_aload_0 (q := 55) dX0_all_54 rfl ?_
          refine r_get gf_X0_20_0 xh_x rfl (q := 58) dX0_all_55 rfl ?_
          refine r_callV_0 cv_X0_189 (xe_o 1 (by decide) rfl) rfl (by decide) (Nat.le_of_ble_eq_true rfl) ⟨Nat.le_refl _, Nat.le_refl _⟩ (x_mended 1 (by decide) hk' rfl) (q := 61) dX0_all_58 rfl ?_
          refine r_goto (q := 71) dX0_all_61 rfl ?_
          exact r_iret hz dX0_all_71 (Nat.le_refl _) (Nat.le_refl _) (.of (by rw [h.s]) (h.mind hk'.lx))
      · rw [if_pos c36] at hz
        refine r_aload_0 (q := 40) dX0_all_39 rfl ?_
        refine r_get gf_X0_20_0 xh_x rfl (q := 43) dX0_all_40 rfl ?_
        refine r_callV_0 cv_X0_184 (xe_o 1 (by decide) rfl) rfl (by decide) (Nat.le_of_ble_eq_true rfl) ⟨Nat.le_refl _, Nat.le_refl _⟩ (x_all 1 (by decide) hk' rfl) (q := 46) dX0_all_43 rfl ?_
        refine r_goto (q := 71) dX0_all_46 rfl ?_
        exact r_iret hz dX0_all_71 (Nat.le_refl _) (Nat.le_refl _) (.of (by rw [h.s]) (h.mind hk'.lx))
    · have hc : isC no := hno.resolve_left c21
      refine r_aload_0 (q := 25) dX0_all_24 rfl ?_
      refine r_iload_3 (q := 26) dX0_all_25 rfl ?_
      refine r_callV_1 cv_X0_48 xh_x rfl (by decide) (Nat.le_of_ble_eq_true rfl) ⟨Nat.le_refl _, Nat.le_refl _⟩ (k_X0_refuse hc h.ra) (q := 29) dX0_all_26 rfl ?_
      exact r_iret hz dX0_all_29 (Nat.le_refl _) (Nat.le_refl _) (.of (by unfold xallS; rw [← h1, if_neg c21]) (h.refuse _))
  refine r_iload_1 (q := 1) dX0_all_0 rfl ?_
  refine r_callS_1 cs_X0_185 (by decide) (Nat.le_of_ble_eq_true rfl) ⟨Nat.le_refl _, Nat.le_refl _⟩ (k_X0_wrongDays) (q := 4) dX0_all_1 rfl ?_
  refine r_istore_3 (by decide) rfl (q := 5) dX0_all_4 rfl ?_
  refine r_iload_3 (q := 6) dX0_all_5 rfl ?_
  refine r_if_ne (q := 9) (tgt := 20) dX0_all_6 rfl rfl (fun c6 => ?_) (fun c6 => ?_)
  · exact fin _ (wi_c _ _ _) (fun e => absurd e c6) (by unfold noAll; rw [if_neg (fun q => c6 q.1)])
  refine r_iload_2 (q := 10) dX0_all_9 rfl ?_
  refine r_iconst 3 (by decide) (q := 11) dX0_all_10 rfl ?_
  refine r_callS_2 cs_X0_78 (by decide) (Nat.le_of_ble_eq_true rfl) ⟨Nat.le_refl _, Nat.le_refl _⟩ (k_X0_isIn) (q := 14) dX0_all_11 rfl ?_
  refine r_if_ne (q := 17) (tgt := 20) dX0_all_14 rfl rfl (fun c14 => ?_) (fun c14 => ?_)
  · exact fin _ (wi_c _ _ _) (fun e => e) (by unfold noAll inI; rw [if_neg (fun q => by rw [bI_n0.mp c14] at q; cases q.2)])
  · refine r_bipush (-2) (by decide) (q := 19) dX0_all_17 rfl ?_
    refine r_istore_3 (by decide) rfl (q := 20) dX0_all_19 rfl ?_
    exact fin _ (Or.inr isC_2) (fun e => absurd e (by decide)) (by unfold noAll inI; rw [if_pos ⟨c6, bI_0.mp c14⟩])
theorem k_X0_mended {a b : Int32} (h : XR x w g σ) : Ct G yX0_mended cX0_mended 3 (some .int) 9 0 0 [.ref x, .int a, .int b] n (xh x w g) (XPo x n g (mendS σ a b)) := by
  refine Ct.intro (k := 0) [some (.ref x), some (.int a), some (.int b)] (by decide) (Nat.le_of_ble_eq_true rfl) rfl fun z hz hin => ?_
  refine r_aload_0 (q := 1) dX0_mended_0 rfl ?_
  refine r_iload_1 (q := 2) dX0_mended_1 rfl ?_
  refine r_iload_2 (q := 3) dX0_mended_2 rfl ?_
  refine r_callV_2 cv_X0_146 xh_x rfl (by decide) (Nat.le_of_ble_eq_true rfl) ⟨Nat.le_refl _, Nat.le_refl _⟩ (k_X0_areTwo h.kx) (q := 6) dX0_mended_3 rfl ?_
  rw [h.s]
  refine r_if_ne (q := 9) (tgt := 15) dX0_mended_6 rfl rfl (fun c6 => ?_) (fun c6 => ?_)
  · have hp := bI_n0.mp c6
    obtain ⟨i, j, hi, hj, hij, rfl, rfl⟩ := areTw_t h.oks.1 hp
    have h6 := h.oks.1.1
    refine J.qs 1 ?_
    refine r_aload_0 (q := 16) dX0_mended_15 rfl ?_
    refine r_get gf_X0_20_0 xh_x rfl (q := 19) dX0_mended_16 rfl ?_
    refine r_aload_0 (q := 20) dX0_mended_19 rfl ?_
    refine r_get gf_X0_16_0 xh_x rfl (q := 23) dX0_mended_20 rfl ?_
    refine r_callVv_1 cv_X0_103 (xe_o 1 (by decide) rfl) rfl (by decide) (Nat.le_of_ble_eq_true rfl) ⟨Nat.le_refl _, Nat.le_refl _⟩ (m_takes 1 0 (by decide) (by decide) (by decide) (h.lx 1 (by decide)) h.kx rfl) (q := 26) dX0_mended_23 rfl ?_
    have hk : KX x g (tkX (w.1 0) (w.1 1)) := h.kx
    refine r_aload_0 (q := 27) dX0_mended_26 rfl ?_
    refine r_iload_1 (q := 28) dX0_mended_27 rfl ?_
    refine r_iload_2 (q := 29) dX0_mended_28 rfl ?_
    refine r_callVp_2 cv_X0_199 xh_x rfl (by decide) (Nat.le_of_ble_eq_true rfl) ⟨Nat.le_refl _, Nat.le_refl _⟩ (k_X0_whenMended hk (by omega) (by omega)) (q := 32) dX0_mended_29 rfl ?_
    intro r n' h' hq
    obtain ⟨rfl, rfl, X', hX', rfl⟩ := hq
    refine r_callS_1 cs_X0_202 (by decide) (Nat.le_of_ble_eq_true rfl) ⟨Nat.le_refl _, Nat.le_refl _⟩ (k_X0_told) (q := 35) dX0_mended_32 rfl ?_
    exact r_iret hz dX0_mended_35 (Nat.le_refl _) (Nat.le_refl _) (.of (by unfold mendS; rw [if_pos hp, cl_nI (by omega), cl_nI (by omega), ← h.s]; rfl) (h.mind hX'))
  · refine r_aload_0 (q := 10) dX0_mended_9 rfl ?_
    refine r_iconst (-1) (by decide) (q := 11) dX0_mended_10 rfl ?_
    refine r_callV_1 cv_X0_48 xh_x rfl (by decide) (Nat.le_of_ble_eq_true rfl) ⟨Nat.le_refl _, Nat.le_refl _⟩ (k_X0_refuse isC_1 h.ra) (q := 14) dX0_mended_11 rfl ?_
    exact r_iret hz dX0_mended_14 (Nat.le_refl _) (Nat.le_refl _) (.of (by unfold mendS; rw [bI_0.mp c6]; rfl) (h.refuse _))
theorem k_X0_soonest {a b : Int32} (h : XR x w g σ) : Ct G yX0_soonest cX0_soonest 3 (some .int) 9 0 0 [.ref x, .int a, .int b] n (xh x w g) (XPo x n g (soonS σ a b)) := by
  refine Ct.intro (k := 0) [some (.ref x), some (.int a), some (.int b)] (by decide) (Nat.le_of_ble_eq_true rfl) rfl fun z hz hin => ?_
  refine r_aload_0 (q := 1) dX0_soonest_0 rfl ?_
  refine r_iload_1 (q := 2) dX0_soonest_1 rfl ?_
  refine r_iload_2 (q := 3) dX0_soonest_2 rfl ?_
  refine r_callV_2 cv_X0_146 xh_x rfl (by decide) (Nat.le_of_ble_eq_true rfl) ⟨Nat.le_refl _, Nat.le_refl _⟩ (k_X0_areTwo h.kx) (q := 6) dX0_soonest_3 rfl ?_
  rw [h.s]
  refine r_if_ne (q := 9) (tgt := 15) dX0_soonest_6 rfl rfl (fun c6 => ?_) (fun c6 => ?_)
  · have hp := bI_n0.mp c6
    obtain ⟨i, j, hi, hj, hij, rfl, rfl⟩ := areTw_t h.oks.1 hp
    have h6 := h.oks.1.1
    refine J.qs 1 ?_
    refine r_aload_0 (q := 16) dX0_soonest_15 rfl ?_
    refine r_get gf_X0_20_0 xh_x rfl (q := 19) dX0_soonest_16 rfl ?_
    refine r_aload_0 (q := 20) dX0_soonest_19 rfl ?_
    refine r_get gf_X0_16_0 xh_x rfl (q := 23) dX0_soonest_20 rfl ?_
    refine r_callVv_1 cv_X0_103 (xe_o 1 (by decide) rfl) rfl (by decide) (Nat.le_of_ble_eq_true rfl) ⟨Nat.le_refl _, Nat.le_refl _⟩ (m_takes 1 0 (by decide) (by decide) (by decide) (h.lx 1 (by decide)) h.kx rfl) (q := 26) dX0_soonest_23 rfl ?_
    have hk : KX x g (tkX (w.1 0) (w.1 1)) := h.kx
    refine r_aload_0 (q := 27) dX0_soonest_26 rfl ?_
    refine r_get gf_X0_20_0 xh_x rfl (q := 30) dX0_soonest_27 rfl ?_
    refine r_iload_1 (q := 31) dX0_soonest_30 rfl ?_
    refine r_iload_2 (q := 32) dX0_soonest_31 rfl ?_
    refine r_callVv_2 cv_X0_100 (xe_o 1 (by decide) rfl) rfl (by decide) (Nat.le_of_ble_eq_true rfl) ⟨Nat.le_refl _, Nat.le_refl _⟩ (m_joins 1 (by decide) hk (by omega) (by omega)) (q := 35) dX0_soonest_32 rfl ?_
    have hk2 := hk.join (a := i) (b := j) (by show i < (w.1 0).1.1.length; rw [h.s]; exact hi) (by show j < (w.1 0).1.1.length; rw [h.s]; exact hj)
    refine r_aload_0 (q := 36) dX0_soonest_35 rfl ?_
    refine r_iload_1 (q := 37) dX0_soonest_36 rfl ?_
    refine r_iload_2 (q := 38) dX0_soonest_37 rfl ?_
    refine r_callVp_2 cv_X0_199 xh_x rfl (by decide) (Nat.le_of_ble_eq_true rfl) ⟨Nat.le_refl _, Nat.le_refl _⟩ (k_X0_whenMended hk2 (by omega) (by omega)) (q := 41) dX0_soonest_38 rfl ?_
    intro r n' h' hq
    obtain ⟨rfl, rfl, X', hX', rfl⟩ := hq
    refine r_callS_1 cs_X0_202 (by decide) (Nat.le_of_ble_eq_true rfl) ⟨Nat.le_refl _, Nat.le_refl _⟩ (k_X0_told) (q := 44) dX0_soonest_41 rfl ?_
    exact r_iret hz dX0_soonest_44 (Nat.le_refl _) (Nat.le_refl _) (.of (by unfold soonS; rw [if_pos hp, cl_nI (by omega), cl_nI (by omega), ← h.s]; rfl) (h.mind hX'))
  · refine r_aload_0 (q := 10) dX0_soonest_9 rfl ?_
    refine r_iconst (-1) (by decide) (q := 11) dX0_soonest_10 rfl ?_
    refine r_callV_1 cv_X0_48 xh_x rfl (by decide) (Nat.le_of_ble_eq_true rfl) ⟨Nat.le_refl _, Nat.le_refl _⟩ (k_X0_refuse isC_1 h.ra) (q := 14) dX0_soonest_11 rfl ?_
    exact r_iret hz dX0_soonest_14 (Nat.le_refl _) (Nat.le_refl _) (.of (by unfold soonS; rw [bI_0.mp c6]; rfl) (h.refuse _))
theorem k_X0_turn {a b : Int32} (h : XR x w g σ) : Ct G yX0_turn cX0_turn 3 (some .int) 9 0 0 [.ref x, .int a, .int b] n (xh x w g) (XPo x n g (xturnS σ a b)) := by
  refine Ct.intro (k := 0) [some (.ref x), some (.int a), some (.int b)] (by decide) (Nat.le_of_ble_eq_true rfl) rfl fun z hz hin => ?_
  refine r_aload_0 (q := 1) dX0_turn_0 rfl ?_
  refine r_iload_1 (q := 2) dX0_turn_1 rfl ?_
  refine r_iload_2 (q := 3) dX0_turn_2 rfl ?_
  refine r_callV_2 cv_X0_146 xh_x rfl (by decide) (Nat.le_of_ble_eq_true rfl) ⟨Nat.le_refl _, Nat.le_refl _⟩ (k_X0_areTwo h.kx) (q := 6) dX0_turn_3 rfl ?_
  rw [h.s]
  refine r_if_ne (q := 9) (tgt := 15) dX0_turn_6 rfl rfl (fun c6 => ?_) (fun c6 => ?_)
  · have hp := bI_n0.mp c6
    obtain ⟨i, j, hi, hj, hij, rfl, rfl⟩ := areTw_t h.oks.1 hp
    have h6 := h.oks.1.1
    refine J.qs 1 ?_
    refine r_aload_0 (q := 16) dX0_turn_15 rfl ?_
    refine r_get gf_X0_20_0 xh_x rfl (q := 19) dX0_turn_16 rfl ?_
    refine r_aload_0 (q := 20) dX0_turn_19 rfl ?_
    refine r_get gf_X0_16_0 xh_x rfl (q := 23) dX0_turn_20 rfl ?_
    refine r_callVv_1 cv_X0_103 (xe_o 1 (by decide) rfl) rfl (by decide) (Nat.le_of_ble_eq_true rfl) ⟨Nat.le_refl _, Nat.le_refl _⟩ (m_takes 1 0 (by decide) (by decide) (by decide) (h.lx 1 (by decide)) h.kx rfl) (q := 26) dX0_turn_23 rfl ?_
    have hk : KX x g (tkX (w.1 0) (w.1 1)) := h.kx
    refine r_aload_0 (q := 27) dX0_turn_26 rfl ?_
    refine r_get gf_X0_20_0 xh_x rfl (q := 30) dX0_turn_27 rfl ?_
    refine r_iload_1 (q := 31) dX0_turn_30 rfl ?_
    refine r_iload_2 (q := 32) dX0_turn_31 rfl ?_
    refine r_callVv_2 cv_X0_100 (xe_o 1 (by decide) rfl) rfl (by decide) (Nat.le_of_ble_eq_true rfl) ⟨Nat.le_refl _, Nat.le_refl _⟩ (m_joins 1 (by decide) hk (by omega) (by omega)) (q := 35) dX0_turn_32 rfl ?_
    have hk2 := hk.join (a := i) (b := j) (by show i < (w.1 0).1.1.length; rw [h.s]; exact hi) (by show j < (w.1 0).1.1.length; rw [h.s]; exact hj)
    refine r_aload_0 (q := 36) dX0_turn_35 rfl ?_
    refine r_get gf_X0_20_0 xh_x rfl (q := 39) dX0_turn_36 rfl ?_
    refine r_iload_1 (q := 40) dX0_turn_39 rfl ?_
    refine r_iload_2 (q := 41) dX0_turn_40 rfl ?_
    refine r_bipush 50 (by decide) (q := 43) dX0_turn_41 rfl ?_
    refine r_callVv_3 cv_X0_167 (xe_o 1 (by decide) rfl) rfl (by decide) (Nat.le_of_ble_eq_true rfl) ⟨Nat.le_refl _, Nat.le_refl _⟩ (m_quarrels (v := 50) 1 (by decide) hk2 (by omega) (by omega)) (q := 46) dX0_turn_43 rfl ?_
    have hk3 := hk2.setQr (a := i) (b := j) (v := 50) (by decide)
    refine r_aload_0 (q := 47) dX0_turn_46 rfl ?_
    refine r_get gf_X0_20_0 xh_x rfl (q := 50) dX0_turn_47 rfl ?_
    refine r_callVv_0 cv_X0_196 (xe_o 1 (by decide) rfl) rfl (by decide) (Nat.le_of_ble_eq_true rfl) ⟨Nat.le_refl _, Nat.le_refl _⟩ (m_goes 1 (by decide) hk3) (q := 53) dX0_turn_50 rfl ?_
    have hk4 := hk3.goes
    refine r_aload_0 (q := 54) dX0_turn_53 rfl ?_
    refine r_get gf_X0_20_0 xh_x rfl (q := 57) dX0_turn_54 rfl ?_
    refine r_iload_1 (q := 58) dX0_turn_57 rfl ?_
    refine r_iload_2 (q := 59) dX0_turn_58 rfl ?_
    refine r_callV_2 cv_X0_149 (xe_o 1 (by decide) rfl) rfl (by decide) (Nat.le_of_ble_eq_true rfl) ⟨Nat.le_refl _, Nat.le_refl _⟩ (x_between 1 (by decide) hk4 rfl (by omega) (by omega)) (q := 62) dX0_turn_59 rfl ?_
    refine r_bipush 50 (by decide) (q := 64) dX0_turn_62 rfl ?_
    refine r_isub (q := 65) dX0_turn_64 rfl ?_
    exact r_iret hz dX0_turn_65 (Nat.le_refl _) (Nat.le_refl _) (.of (by unfold xturnS; rw [if_pos hp, cl_nI (by omega), cl_nI (by omega), ← h.s]; rfl) (h.mind hk4.lx))
  · refine r_aload_0 (q := 10) dX0_turn_9 rfl ?_
    refine r_iconst (-1) (by decide) (q := 11) dX0_turn_10 rfl ?_
    refine r_callV_1 cv_X0_205 xh_x rfl (by decide) (Nat.le_of_ble_eq_true rfl) ⟨Nat.le_refl _, Nat.le_refl _⟩ (k_X0_refuseFar isC_1 h.ra) (q := 14) dX0_turn_11 rfl ?_
    exact r_iret hz dX0_turn_14 (Nat.le_refl _) (Nat.le_refl _) (.of (by unfold xturnS; rw [bI_0.mp c6]; rfl) (h.refuse _))
theorem k_X0_never (h : XR x w g σ) : Ct G yX0_never cX0_never 3 (some .int) 10 0 0 [.ref x] n (xh x w g) (XPo x n g (neverS σ)) := by
  refine Ct.intro (k := 2) [some (.ref x), none, none] (by decide) (Nat.le_of_ble_eq_true rfl) rfl fun z hz hin => ?_
  refine J.qs 1 ?_
  refine r_aload_0 (q := 1) dX0_never_0 rfl ?_
  refine r_bipush 99 (by decide) (q := 3) dX0_never_1 rfl ?_
  refine r_callVv_1 cv_X0_188 xh_x rfl (by decide) (Nat.le_of_ble_eq_true rfl) ⟨Nat.le_refl _, Nat.le_refl _⟩ (k_X0_goesOn (m := 99) h.kx (h.lx 1 (by decide)) (by omega)) (q := 6) dX0_never_3 rfl ?_
  have hk : KX x g (daysS 99 (w.1 0).1, (tkX (w.1 0) (w.1 1)).2) := KX.days (X := tkX (w.1 0) (w.1 1)) h.kx
  generalize hT : daysS 99 (w.1 0).1 = T at hk
  have h6 : T.1.length ≤ 6 := hk.l6
  have hT' : daysS 99 σ.1 = T := by rw [← hT, h.s]
  refine r_iconst 0 (by decide) (q := 7) dX0_never_6 rfl ?_
  refine r_istore_1 (by decide) rfl (q := 8) dX0_never_7 rfl ?_
  refine r_iconst 0 (by decide) (q := 9) dX0_never_8 rfl ?_
  refine r_istore_2 (by decide) rfl (q := 10) dX0_never_9 rfl ?_
  refine forJ (f := nevF T) (σ := Int32) T.1.length (fun _ => True) (fun a s => J G z cX0_never 3 RX0 10 0 0 0 0 10 [some (.ref x), some (.int s), some (.int (nI a))] [] n (xh x (setq w 1 (T, (tkX (w.1 0) (w.1 1)).2)) g)) (a0 := 0) (s0 := 0) (Nat.zero_le _) trivial (fun s _ hs => ?_) (fun a s _ ha _ => ⟨trivial, fun next => ?_⟩)
  · refine r_iload_2 (q := 11) dX0_never_10 rfl ?_
    refine r_aload_0 (q := 12) dX0_never_11 rfl ?_
    refine r_get gf_X0_20_0 xh_x rfl (q := 15) dX0_never_12 rfl ?_
    refine r_callV_0 cv_X0_74 (xe_o 1 (by decide) rfl) rfl (by decide) (Nat.le_of_ble_eq_true rfl) ⟨Nat.le_refl _, Nat.le_refl _⟩ (x_many 1 (by decide) hk rfl) (q := 18) dX0_never_15 rfl ?_
    refine r_icmp_ge (q := 21) (tgt := 68) dX0_never_18 rfl rfl (fun c18 => ?_) (fun c18 => ?_)
    · refine r_iload_1 (q := 69) dX0_never_68 rfl ?_
      exact r_iret hz dX0_never_69 (Nat.le_refl _) (Nat.le_refl _) (.of (by unfold neverS; rw [hT', hs]; rfl) (h.mind hk.lx))
    · exact absurd (Int32.le_refl _) c18
  · have go : ∀ v : Int32, s + v = nevF T a s → J G z cX0_never 3 RX0 10 0 0 0 0 60 [some (.ref x), some (.int s), some (.int (nI a))] [.int v, .int s] n (xh x (setq w 1 (T, (tkX (w.1 0) (w.1 1)).2)) g) := by
      intro v hv
      rw [← hv] at next
      refine r_iadd (q := 61) dX0_never_60 rfl ?_
      refine r_istore_1 (by decide) rfl (q := 62) dX0_never_61 rfl ?_
      refine r_inc_2 (by decide) rfl (q := 65) dX0_never_62 rfl ?_
      refine r_goto (q := 10) dX0_never_65 rfl ?_
      exact next
    refine r_iload_2 (q := 11) dX0_never_10 rfl ?_
    refine r_aload_0 (q := 12) dX0_never_11 rfl ?_
    refine r_get gf_X0_20_0 xh_x rfl (q := 15) dX0_never_12 rfl ?_
    refine r_callV_0 cv_X0_74 (xe_o 1 (by decide) rfl) rfl (by decide) (Nat.le_of_ble_eq_true rfl) ⟨Nat.le_refl _, Nat.le_refl _⟩ (x_many 1 (by decide) hk rfl) (q := 18) dX0_never_15 rfl ?_
    refine r_icmp_ge (q := 21) (tgt := 68) dX0_never_18 rfl rfl (fun c18 => ?_) (fun c18 => ?_)
    · exact absurd c18 (nI_not_lt ha (by show T.1.length < 2 ^ 30; omega))
    refine r_iload_1 (q := 22) dX0_never_21 rfl ?_
    refine r_aload_0 (q := 23) dX0_never_22 rfl ?_
    refine r_get gf_X0_20_0 xh_x rfl (q := 26) dX0_never_23 rfl ?_
    refine r_getN gn_X0_94_1 (xe_o 1 (by decide) rfl) rfl (q := 29) dX0_never_26 rfl ?_
    refine r_iload_2 (q := 30) dX0_never_29 rfl ?_
    refine r_ialdM a 6 (xe_m 1 (by decide) rfl) hk.1.2.2.1 rfl (by omega) (by decide) (q := 31) dX0_never_30 rfl ?_
    refine r_iload_2 (q := 32) dX0_never_31 rfl ?_
    have hm := mI_le (o := mt T a) (a := a) (by omega) (fun c hc => Nat.lt_trans (hk.mt6 hc) (by decide))
    refine r_icmp_le (q := 35) (tgt := 59) dX0_never_32 rfl rfl (fun c32 => ?_) (fun c32 => ?_)
    · refine r_iconst 0 (by decide) (q := 60) dX0_never_59 rfl ?_
      refine go 0 ?_
      unfold nevF
      cases em : mt T a with
      | none => rfl
      | some b => exact congrArg (fun v => s + v) (if_neg (fun q => absurd (hm.mp c32 b em) (by omega))).symm
    cases em : mt T a with
    | none => exact absurd (hm.mpr (fun b e1 => by rw [em] at e1; cases e1)) c32
    | some b =>
      have hb6 := hk.mt6 em
      have hq : qr T a b ≤ 99 := vs_qr hk.2.1 a b
      have hab : a < b := by
        rcases Nat.lt_or_ge a b with q | q
        · exact q
        · exact absurd (hm.mpr (fun b' e1 => by rw [em] at e1; cases e1; exact q)) c32
      refine r_aload_0 (q := 36) dX0_never_35 rfl ?_
      refine r_get gf_X0_20_0 xh_x rfl (q := 39) dX0_never_36 rfl ?_
      refine r_iload_2 (q := 40) dX0_never_39 rfl ?_
      refine r_aload_0 (q := 41) dX0_never_40 rfl ?_
      refine r_get gf_X0_20_0 xh_x rfl (q := 44) dX0_never_41 rfl ?_
      refine r_getN gn_X0_94_1 (xe_o 1 (by decide) rfl) rfl (q := 47) dX0_never_44 rfl ?_
      refine r_iload_2 (q := 48) dX0_never_47 rfl ?_
      refine r_ialdM a 6 (xe_m 1 (by decide) rfl) hk.1.2.2.1 rfl (by omega) (by decide) (q := 49) dX0_never_48 rfl ?_
      refine J.topi (show mI (mt T a) = nI b by rw [em]; rfl) ?_
      refine r_callV_2 cv_X0_149 (xe_o 1 (by decide) rfl) rfl (by decide) (Nat.le_of_ble_eq_true rfl) ⟨Nat.le_refl _, Nat.le_refl _⟩ (x_between 1 (by decide) hk rfl (by omega) hb6) (q := 52) dX0_never_49 rfl ?_
      refine r_if_le (q := 55) (tgt := 59) dX0_never_52 rfl rfl (fun c52 => ?_) (fun c52 => ?_)
      · refine r_iconst 0 (by decide) (q := 60) dX0_never_59 rfl ?_
        have := (nI_leI (b := 0) (by show qr T a b < 2 ^ 31; omega) (by omega)).mp c52
        exact go 0 (by unfold nevF; rw [em]; exact congrArg (fun v => s + v) (if_neg (fun q => by have : qr T a b ≤ 0 := this; omega)).symm)
      · refine r_iconst 1 (by decide) (q := 56) dX0_never_55 rfl ?_
        refine r_goto (q := 60) dX0_never_56 rfl ?_
        have hpos : 0 < qr T a b := by
          rcases Nat.eq_zero_or_pos (qr T a b) with q | q
          · exact absurd (by rw [show qr (T, (tkX (w.1 0) (w.1 1)).2).1 a b = 0 from q]; exact Int32.le_refl _) c52
          · exact q
        exact go 1 (by unfold nevF; rw [em]; exact congrArg (fun v => s + v) (if_pos ⟨hab, hpos⟩).symm)
theorem k_X0_glad {p : Int32} (h : XR x w g σ) : Ct G yX0_glad cX0_glad 3 (some .int) 6 0 0 [.ref x, .int p] n (xh x w g) (XPo x n g (gladS σ p)) := by
  refine Ct.intro (k := 1) [some (.ref x), some (.int p), none] (by decide) (Nat.le_of_ble_eq_true rfl) rfl fun z hz hin => ?_
  refine r_aload_0 (q := 1) dX0_glad_0 rfl ?_
  refine r_iload_1 (q := 2) dX0_glad_1 rfl ?_
  refine r_callV_1 cv_X0_82 xh_x rfl (by decide) (Nat.le_of_ble_eq_true rfl) ⟨Nat.le_refl _, Nat.le_refl _⟩ (k_X0_isPerson h.kx) (q := 5) dX0_glad_2 rfl ?_
  rw [h.s]
  refine r_if_ne (q := 8) (tgt := 14) dX0_glad_5 rfl rfl (fun c5 => ?_) (fun c5 => ?_)
  · have hp := bI_n0.mp c5
    obtain ⟨i, hi, rfl⟩ := isPer_t h.oks.1 hp
    have h6 := h.oks.1.1
    have e0 : gladS σ (nI i) = (match mt σ.1 i with
      | none => -9
      | some m => likS σ.1 i m + 1000, σ) := by
      unfold gladS
      rw [if_pos hp, cl_nI (by omega)]
    rw [e0] at hz
    refine r_aload_0 (q := 15) dX0_glad_14 rfl ?_
    refine r_get gf_X0_16_0 xh_x rfl (q := 18) dX0_glad_15 rfl ?_
    refine r_getN gn_X0_94_1 (xe_o 0 (by decide) rfl) rfl (q := 21) dX0_glad_18 rfl ?_
    refine r_iload_1 (q := 22) dX0_glad_21 rfl ?_
    refine r_ialdM i 6 (xe_m 0 (by decide) rfl) h.kx.1.2.2.1 rfl (by omega) (by decide) (q := 23) dX0_glad_22 rfl ?_
    refine J.topi (show mI (mt (w.1 0).1 i) = mI (mt σ.1 i) by rw [h.s]) ?_
    refine r_istore_2 (by decide) rfl (q := 24) dX0_glad_23 rfl ?_
    refine r_iload_2 (q := 25) dX0_glad_24 rfl ?_
    cases em : mt σ.1 i with
    | none =>
      rw [em] at hz
      refine r_if_ge (q := 28) (tgt := 33) dX0_glad_25 rfl rfl (fun c25 => ?_) (fun c25 => ?_)
      · exact absurd c25 (by decide)
      refine r_bipush (-9) (by decide) (q := 30) dX0_glad_28 rfl ?_
      refine r_goto (q := 46) dX0_glad_30 rfl ?_
      exact r_iret hz dX0_glad_46 (Nat.le_refl _) (Nat.le_refl _) (.of rfl h)
    | some m =>
      rw [em] at hz
      have hm := h.oks.matI i hi m em
      refine r_if_ge (q := 28) (tgt := 33) dX0_glad_25 rfl rfl (fun c25 => ?_) (fun c25 => ?_)
      · refine r_aload_0 (q := 34) dX0_glad_33 rfl ?_
        refine r_get gf_X0_16_0 xh_x rfl (q := 37) dX0_glad_34 rfl ?_
        refine r_iload_1 (q := 38) dX0_glad_37 rfl ?_
        refine r_iload_2 (q := 39) dX0_glad_38 rfl ?_
        refine J.topi (show mI (some m) = nI m from rfl) ?_
        refine r_callV_2 cv_X0_153 (xe_o 0 (by decide) rfl) rfl (by decide) (Nat.le_of_ble_eq_true rfl) ⟨Nat.le_refl _, Nat.le_refl _⟩ (x_likes 0 (by decide) h.kx rfl (by rw [h.s]; exact hi) (by rw [h.s]; exact hm)) (q := 42) dX0_glad_39 rfl ?_
        refine r_sipush 1000 (by decide) (q := 45) dX0_glad_42 rfl ?_
        refine r_iadd (q := 46) dX0_glad_45 rfl ?_
        rw [h.s]
        exact r_iret hz dX0_glad_46 (Nat.le_refl _) (Nat.le_refl _) (.of rfl h)
      · exact absurd (nI_pos' (by omega)) c25
  · refine r_aload_0 (q := 9) dX0_glad_8 rfl ?_
    refine r_iconst (-1) (by decide) (q := 10) dX0_glad_9 rfl ?_
    refine r_callV_1 cv_X0_48 xh_x rfl (by decide) (Nat.le_of_ble_eq_true rfl) ⟨Nat.le_refl _, Nat.le_refl _⟩ (k_X0_refuse isC_1 h.ra) (q := 13) dX0_glad_10 rfl ?_
    exact r_iret hz dX0_glad_13 (Nat.le_refl _) (Nat.le_refl _) (.of (by unfold gladS; rw [bI_0.mp c5]; rfl) (h.refuse _))
theorem k_X0_leaves {what : Int32} (h : XR x w g σ) : Ct G yX0_leaves cX0_leaves 7 (some .int) 8 0 0 [.ref x, .int what] n (xh x w g) (XPo x n g (leavesS σ what)) := by
  refine Ct.intro (k := 5) [some (.ref x), some (.int what), none, none, none, none, none] (by decide) (Nat.le_of_ble_eq_true rfl) rfl fun z hz hin => ?_
  refine r_iload_1 (q := 1) dX0_leaves_0 rfl ?_
  refine r_iconst 3 (by decide) (q := 2) dX0_leaves_1 rfl ?_
  refine r_callS_2 cs_X0_78 (by decide) (Nat.le_of_ble_eq_true rfl) ⟨Nat.le_refl _, Nat.le_refl _⟩ (k_X0_isIn) (q := 5) dX0_leaves_2 rfl ?_
  refine r_if_ne (q := 8) (tgt := 15) dX0_leaves_5 rfl rfl (fun c5 => ?_) (fun c5 => ?_)
  · have hp : inI what 3 = true := bI_n0.mp c5
    unfold leavesS at hz
    rw [if_pos hp, ← h.s] at hz
    have hk := h.kx
    have h6 := hk.l6
    refine r_bipush (-9) (by decide) (q := 17) dX0_leaves_15 rfl ?_
    refine r_istore_2 (by decide) rfl (q := 18) dX0_leaves_17 rfl ?_
    refine r_iconst 0 (by decide) (q := 19) dX0_leaves_18 rfl ?_
    refine r_istore_3 (by decide) rfl (q := 20) dX0_leaves_19 rfl ?_
    refine r_iconst 0 (by decide) (q := 21) dX0_leaves_20 rfl ?_
    refine r_istore_4 (by decide) rfl (q := 23) dX0_leaves_21 rfl ?_
    refine r_iconst 0 (by decide) (q := 24) dX0_leaves_23 rfl ?_
    refine r_istore_5 (by decide) rfl (q := 26) dX0_leaves_24 rfl ?_
    refine forJ (f := leaI (w.1 0).1) (σ := Int32 × Int32 × Int32) (w.1 0).1.1.length (fun _ => True) (fun a s => ∀ o6, J G z cX0_leaves 7 RX0 8 0 0 0 0 26 [some (.ref x), some (.int what), some (.int s.1), some (.int s.2.1), some (.int s.2.2), some (.int (nI a)), o6] [] n (xh x w g)) (a0 := 0) (s0 := (-9, 0, 0)) (Nat.zero_le _) trivial (fun s _ hs o6 => ?_) (fun a s _ ha _ => ⟨trivial, fun next o6 => ?_⟩) none
    · refine r_iload_5 (q := 28) dX0_leaves_26 rfl ?_
      refine r_aload_0 (q := 29) dX0_leaves_28 rfl ?_
      refine r_get gf_X0_16_0 xh_x rfl (q := 32) dX0_leaves_29 rfl ?_
      refine r_callV_0 cv_X0_74 (xe_o 0 (by decide) rfl) rfl (by decide) (Nat.le_of_ble_eq_true rfl) ⟨Nat.le_refl _, Nat.le_refl _⟩ (x_many 0 (by decide) hk rfl) (q := 35) dX0_leaves_32 rfl ?_
      refine r_icmp_ge (q := 38) (tgt := 122) dX0_leaves_35 rfl rfl (fun c35 => ?_) (fun c35 => ?_)
      · rw [← show s = leaS (w.1 0).1 from hs] at hz
        refine r_iload_1 (q := 123) dX0_leaves_122 rfl ?_
        refine r_if_ne (q := 126) (tgt := 130) dX0_leaves_123 rfl rfl (fun c123 => ?_) (fun c123 => ?_)
        · rw [if_neg c123] at hz
          refine r_iload_1 (q := 131) dX0_leaves_130 rfl ?_
          refine r_iconst 1 (by decide) (q := 132) dX0_leaves_131 rfl ?_
          refine r_icmp_ne (q := 135) (tgt := 139) dX0_leaves_132 rfl rfl (fun c132 => ?_) (fun c132 => ?_)
          · rw [if_neg c132] at hz
            refine r_iload_4 (q := 141) dX0_leaves_139 rfl ?_
            exact r_iret hz dX0_leaves_141 (Nat.le_refl _) (Nat.le_refl _) (.of rfl h)
          · rw [if_pos c132] at hz
            refine r_iload_3 (q := 136) dX0_leaves_135 rfl ?_
            refine r_goto (q := 141) dX0_leaves_136 rfl ?_
            exact r_iret hz dX0_leaves_141 (Nat.le_refl _) (Nat.le_refl _) (.of rfl h)
        · rw [if_pos c123] at hz
          refine r_iload_2 (q := 127) dX0_leaves_126 rfl ?_
          refine r_goto (q := 141) dX0_leaves_127 rfl ?_
          exact r_iret hz dX0_leaves_141 (Nat.le_refl _) (Nat.le_refl _) (.of rfl h)
      · exact absurd (Int32.le_refl _) c35
    · have rest : ∀ rid : Int32, rid = (if ridS (w.1 0).1 a = true then s.2.2 ||| b1 a else s.2.2) → J G z cX0_leaves 7 RX0 8 0 0 0 0 59 [some (.ref x), some (.int what), some (.int s.1), some (.int s.2.1), some (.int rid), some (.int (nI a)), o6] [] n (xh x w g) := by
        intro rid hrid
        refine r_iload_5 (q := 61) dX0_leaves_59 rfl ?_
        refine r_iconst 1 (by decide) (q := 62) dX0_leaves_61 rfl ?_
        refine r_iadd (q := 63) dX0_leaves_62 rfl ?_
        refine J.topi (nI_1 _) ?_
        refine r_istore_6 (by decide) rfl (q := 65) dX0_leaves_63 rfl ?_
        refine forJ (f := leaF (w.1 0).1 a) (σ := Int32 × Int32 × Int32) (w.1 0).1.1.length (fun _ => True) (fun b s => J G z cX0_leaves 7 RX0 8 0 0 0 0 65 [some (.ref x), some (.int what), some (.int s.1), some (.int s.2.1), some (.int s.2.2), some (.int (nI a)), some (.int (nI b))] [] n (xh x w g)) (a0 := a + 1) (s0 := (s.1, s.2.1, rid)) ha trivial (fun s' _ hs => ?_) (fun b s' hab hb _ => ⟨trivial, fun next' => ?_⟩)
        · refine r_iload_6 (q := 67) dX0_leaves_65 rfl ?_
          refine r_aload_0 (q := 68) dX0_leaves_67 rfl ?_
          refine r_get gf_X0_16_0 xh_x rfl (q := 71) dX0_leaves_68 rfl ?_
          refine r_callV_0 cv_X0_74 (xe_o 0 (by decide) rfl) rfl (by decide) (Nat.le_of_ble_eq_true rfl) ⟨Nat.le_refl _, Nat.le_refl _⟩ (x_many 0 (by decide) hk rfl) (q := 74) dX0_leaves_71 rfl ?_
          refine r_icmp_ge (q := 77) (tgt := 116) dX0_leaves_74 rfl rfl (fun c74 => ?_) (fun c74 => ?_)
          · refine r_inc_5 (by decide) rfl (q := 119) dX0_leaves_116 rfl ?_
            refine r_goto (q := 26) dX0_leaves_119 rfl ?_
            have hs : s' = leaI (w.1 0).1 a s := by rw [hs, hrid]; rfl
            subst hs
            exact next _
          · exact absurd (Int32.le_refl _) c74
        · unfold leaF at next'
          refine r_iload_6 (q := 67) dX0_leaves_65 rfl ?_
          refine r_aload_0 (q := 68) dX0_leaves_67 rfl ?_
          refine r_get gf_X0_16_0 xh_x rfl (q := 71) dX0_leaves_68 rfl ?_
          refine r_callV_0 cv_X0_74 (xe_o 0 (by decide) rfl) rfl (by decide) (Nat.le_of_ble_eq_true rfl) ⟨Nat.le_refl _, Nat.le_refl _⟩ (x_many 0 (by decide) hk rfl) (q := 74) dX0_leaves_71 rfl ?_
          refine r_icmp_ge (q := 77) (tgt := 116) dX0_leaves_74 rfl rfl (fun c74 => ?_) (fun c74 => ?_)
          · exact absurd c74 (nI_not_lt hb (by omega))
          refine r_aload_0 (q := 78) dX0_leaves_77 rfl ?_
          refine r_get gf_X0_16_0 xh_x rfl (q := 81) dX0_leaves_78 rfl ?_
          refine r_iload_5 (q := 83) dX0_leaves_81 rfl ?_
          refine r_iload_6 (q := 85) dX0_leaves_83 rfl ?_
          refine r_callV_2 cv_X0_211 (xe_o 0 (by decide) rfl) rfl (by decide) (Nat.le_of_ble_eq_true rfl) ⟨Nat.le_refl _, Nat.le_refl _⟩ (x_doLeave 0 (by decide) hk rfl ha hb) (q := 88) dX0_leaves_85 rfl ?_
          refine r_if_ne (q := 91) (tgt := 94) dX0_leaves_88 rfl rfl (fun c88 => ?_) (fun c88 => ?_)
          · rw [if_pos (bI_n0.mp c88)] at next'
            refine r_iload_3 (q := 95) dX0_leaves_94 rfl ?_
            refine r_if_ne (q := 98) (tgt := 107) dX0_leaves_95 rfl rfl (fun c95 => ?_) (fun c95 => ?_)
            · rw [if_neg c95] at next'
              refine r_iinc_3 (s'.2.1 + 1) rfl (by decide) rfl (q := 110) dX0_leaves_107 rfl ?_
              refine r_inc_6 (by decide) rfl (q := 113) dX0_leaves_110 rfl ?_
              refine r_goto (q := 65) dX0_leaves_113 rfl ?_
              exact next'
            · rw [if_pos c95] at next'
              refine r_bipush 10 (by decide) (q := 100) dX0_leaves_98 rfl ?_
              refine r_iload_5 (q := 102) dX0_leaves_100 rfl ?_
              refine r_imul (q := 103) dX0_leaves_102 rfl ?_
              refine r_iload_6 (q := 105) dX0_leaves_103 rfl ?_
              refine r_iadd (q := 106) dX0_leaves_105 rfl ?_
              refine r_istore_2 (by decide) rfl (q := 107) dX0_leaves_106 rfl ?_
              refine r_iinc_3 (s'.2.1 + 1) rfl (by decide) rfl (q := 110) dX0_leaves_107 rfl ?_
              refine r_inc_6 (by decide) rfl (q := 113) dX0_leaves_110 rfl ?_
              refine r_goto (q := 65) dX0_leaves_113 rfl ?_
              exact next'
          · rw [if_neg (by rw [bI_0.mp c88]; decide)] at next'
            refine r_goto (q := 110) dX0_leaves_91 rfl ?_
            refine r_inc_6 (by decide) rfl (q := 113) dX0_leaves_110 rfl ?_
            refine r_goto (q := 65) dX0_leaves_113 rfl ?_
            exact next'
      refine r_iload_5 (q := 28) dX0_leaves_26 rfl ?_
      refine r_aload_0 (q := 29) dX0_leaves_28 rfl ?_
      refine r_get gf_X0_16_0 xh_x rfl (q := 32) dX0_leaves_29 rfl ?_
      refine r_callV_0 cv_X0_74 (xe_o 0 (by decide) rfl) rfl (by decide) (Nat.le_of_ble_eq_true rfl) ⟨Nat.le_refl _, Nat.le_refl _⟩ (x_many 0 (by decide) hk rfl) (q := 35) dX0_leaves_32 rfl ?_
      refine r_icmp_ge (q := 38) (tgt := 122) dX0_leaves_35 rfl rfl (fun c35 => ?_) (fun c35 => ?_)
      · exact absurd c35 (nI_not_lt ha (by omega))
      refine r_aload_0 (q := 39) dX0_leaves_38 rfl ?_
      refine r_get gf_X0_16_0 xh_x rfl (q := 42) dX0_leaves_39 rfl ?_
      refine r_iload_5 (q := 44) dX0_leaves_42 rfl ?_
      refine r_callV_1 cv_X0_208 (xe_o 0 (by decide) rfl) rfl (by decide) (Nat.le_of_ble_eq_true rfl) ⟨Nat.le_refl _, Nat.le_refl _⟩ (x_isRid 0 (by decide) hk rfl ha) (q := 47) dX0_leaves_44 rfl ?_
      refine r_if_eq (q := 50) (tgt := 59) dX0_leaves_47 rfl rfl (fun c47 => ?_) (fun c47 => ?_)
      · exact rest _ (by rw [bI_0.mp c47]; rfl)
      · refine r_iload_4 (q := 52) dX0_leaves_50 rfl ?_
        refine r_iconst 1 (by decide) (q := 53) dX0_leaves_52 rfl ?_
        refine r_iload_5 (q := 55) dX0_leaves_53 rfl ?_
        refine r_ishl (q := 56) dX0_leaves_55 rfl ?_
        refine r_ior (q := 57) dX0_leaves_56 rfl ?_
        refine r_istore_4 (by decide) rfl (q := 59) dX0_leaves_57 rfl ?_
        exact rest _ (by rw [bI_n0.mp c47]; rfl)
  · refine r_aload_0 (q := 9) dX0_leaves_8 rfl ?_
    refine r_bipush (-2) (by decide) (q := 11) dX0_leaves_9 rfl ?_
    refine r_callV_1 cv_X0_48 xh_x rfl (by decide) (Nat.le_of_ble_eq_true rfl) ⟨Nat.le_refl _, Nat.le_refl _⟩ (k_X0_refuse isC_2 h.ra) (q := 14) dX0_leaves_11 rfl ?_
    exact r_iret hz dX0_leaves_14 (Nat.le_refl _) (Nat.le_refl _) (.of (by unfold leavesS inI; rw [bI_0.mp c5]; rfl) (h.refuse _))
theorem k_X0_mateFor {p what : Int32} (h : XR x w g σ) : Ct G yX0_mateFor cX0_mateFor 6 (some .int) 7 0 0 [.ref x, .int p, .int what] n (xh x w g) (XPo x n g (mateS σ p what)) := by
  refine Ct.intro (k := 3) [some (.ref x), some (.int p), some (.int what), none, none, none] (by decide) (Nat.le_of_ble_eq_true rfl) rfl fun z hz hin => ?_
  have fin : ∀ no : Int32, no = noPw σ.1 p what 2 → J G z cX0_mateFor 6 RX0 7 0 0 0 0 26 [some (.ref x), some (.int p), some (.int what), none, none, none] [.int no] n (xh x w g) := by
    intro no h1
    refine r_istore_3 (by decide) rfl (q := 27) dX0_mateFor_26 rfl ?_
    refine r_iload_3 (q := 28) dX0_mateFor_27 rfl ?_
    refine r_if_eq (q := 31) (tgt := 37) dX0_mateFor_28 rfl rfl (fun c28 => ?_) (fun c28 => ?_)
    · rw [c28] at h1
      have h2 := noPw_0 h1.symm
      obtain ⟨i, hi, rfl⟩ := isPer_t h.oks.1 h2.1
      have h6 := h.oks.1.1
      have e0 : mateS σ (nI i) what = (if what = 0 then mI (favS (w.1 0).1 i) else forR (matF (w.1 0).1 i) 0 (w.1 0).1.1.length 0, σ) := by
        unfold mateS
        rw [if_pos h1.symm, cl_nI (by omega), h.s]
      rw [e0] at hz
      rw [← h.s] at hi h6
      refine r_iload_2 (q := 38) dX0_mateFor_37 rfl ?_
      refine r_if_ne (q := 41) (tgt := 47) dX0_mateFor_38 rfl rfl (fun c38 => ?_) (fun c38 => ?_)
      · rw [if_neg c38] at hz
        refine r_iconst 0 (by decide) (q := 48) dX0_mateFor_47 rfl ?_
        refine r_istore_4 (by decide) rfl (q := 50) dX0_mateFor_48 rfl ?_
        refine r_iconst 0 (by decide) (q := 51) dX0_mateFor_50 rfl ?_
        refine r_istore_5 (by decide) rfl (q := 53) dX0_mateFor_51 rfl ?_
        refine forJ (f := matF (w.1 0).1 i) (σ := Int32) (w.1 0).1.1.length (fun _ => True) (fun a s => J G z cX0_mateFor 6 RX0 7 0 0 0 0 53 [some (.ref x), some (.int (nI i)), some (.int what), some (.int no), some (.int s), some (.int (nI a))] [] n (xh x w g)) (a0 := 0) (s0 := 0) (Nat.zero_le _) trivial (fun s _ hs => ?_) (fun a s _ ha _ => ⟨trivial, fun next => ?_⟩)
        · refine r_iload_5 (q := 55) dX0_mateFor_53 rfl ?_
          refine r_aload_0 (q := 56) dX0_mateFor_55 rfl ?_
          refine r_get gf_X0_16_0 xh_x rfl (q := 59) dX0_mateFor_56 rfl ?_
          refine r_callV_0 cv_X0_74 (xe_o 0 (by decide) rfl) rfl (by decide) (Nat.le_of_ble_eq_true rfl) ⟨Nat.le_refl _, Nat.le_refl _⟩ (x_many 0 (by decide) h.kx rfl) (q := 62) dX0_mateFor_59 rfl ?_
          refine r_icmp_ge (q := 65) (tgt := 93) dX0_mateFor_62 rfl rfl (fun c62 => ?_) (fun c62 => ?_)
          · rw [← show s = forR (matF (w.1 0).1 i) 0 (w.1 0).1.1.length 0 from hs] at hz
            refine r_iload_4 (q := 95) dX0_mateFor_93 rfl ?_
            exact r_iret hz dX0_mateFor_95 (Nat.le_refl _) (Nat.le_refl _) (.of rfl h)
          · exact absurd (Int32.le_refl _) c62
        · unfold matF at next
          refine r_iload_5 (q := 55) dX0_mateFor_53 rfl ?_
          refine r_aload_0 (q := 56) dX0_mateFor_55 rfl ?_
          refine r_get gf_X0_16_0 xh_x rfl (q := 59) dX0_mateFor_56 rfl ?_
          refine r_callV_0 cv_X0_74 (xe_o 0 (by decide) rfl) rfl (by decide) (Nat.le_of_ble_eq_true rfl) ⟨Nat.le_refl _, Nat.le_refl _⟩ (x_many 0 (by decide) h.kx rfl) (q := 62) dX0_mateFor_59 rfl ?_
          refine r_icmp_ge (q := 65) (tgt := 93) dX0_mateFor_62 rfl rfl (fun c62 => ?_) (fun c62 => ?_)
          · exact absurd c62 (nI_not_lt ha (by omega))
          refine r_aload_0 (q := 66) dX0_mateFor_65 rfl ?_
          refine r_get gf_X0_16_0 xh_x rfl (q := 69) dX0_mateFor_66 rfl ?_
          refine r_iload_5 (q := 71) dX0_mateFor_69 rfl ?_
          refine r_iload_1 (q := 72) dX0_mateFor_71 rfl ?_
          refine r_callV_2 cv_X0_253 (xe_o 0 (by decide) rfl) rfl (by decide) (Nat.le_of_ble_eq_true rfl) ⟨Nat.le_refl _, Nat.le_refl _⟩ (x_wouldRather 0 (by decide) h.kx rfl ha hi) (q := 75) dX0_mateFor_72 rfl ?_
          refine r_if_eq (q := 78) (tgt := 87) dX0_mateFor_75 rfl rfl (fun c75 => ?_) (fun c75 => ?_)
          · rw [if_neg (by rw [bI_0.mp c75]; decide)] at next
            refine r_inc_5 (by decide) rfl (q := 90) dX0_mateFor_87 rfl ?_
            refine r_goto (q := 53) dX0_mateFor_90 rfl ?_
            exact next
          · rw [if_pos (bI_n0.mp c75)] at next
            refine r_iload_4 (q := 80) dX0_mateFor_78 rfl ?_
            refine r_iconst 1 (by decide) (q := 81) dX0_mateFor_80 rfl ?_
            refine r_iload_5 (q := 83) dX0_mateFor_81 rfl ?_
            refine r_ishl (q := 84) dX0_mateFor_83 rfl ?_
            refine r_ior (q := 85) dX0_mateFor_84 rfl ?_
            refine r_istore_4 (by decide) rfl (q := 87) dX0_mateFor_85 rfl ?_
            refine r_inc_5 (by decide) rfl (q := 90) dX0_mateFor_87 rfl ?_
            refine r_goto (q := 53) dX0_mateFor_90 rfl ?_
            exact next
      · rw [if_pos c38] at hz
        refine r_aload_0 (q := 42) dX0_mateFor_41 rfl ?_
        refine r_iload_1 (q := 43) dX0_mateFor_42 rfl ?_
        refine r_callV_1 cv_X0_250 xh_x rfl (by decide) (Nat.le_of_ble_eq_true rfl) ⟨Nat.le_refl _, Nat.le_refl _⟩ (k_X0_favourite h.kx hi) (q := 46) dX0_mateFor_43 rfl ?_
        exact r_iret hz dX0_mateFor_46 (Nat.le_refl _) (Nat.le_refl _) (.of rfl h)
    · have hc : isC no := by rw [h1] at c28 ⊢; exact noPw_c.resolve_left c28
      refine r_aload_0 (q := 32) dX0_mateFor_31 rfl ?_
      refine r_iload_3 (q := 33) dX0_mateFor_32 rfl ?_
      refine r_callV_1 cv_X0_48 xh_x rfl (by decide) (Nat.le_of_ble_eq_true rfl) ⟨Nat.le_refl _, Nat.le_refl _⟩ (k_X0_refuse hc h.ra) (q := 36) dX0_mateFor_33 rfl ?_
      exact r_iret hz dX0_mateFor_36 (Nat.le_refl _) (Nat.le_refl _) (.of (by unfold mateS; rw [← h1, if_neg c28]) (h.refuse _))
  refine r_aload_0 (q := 1) dX0_mateFor_0 rfl ?_
  refine r_iload_1 (q := 2) dX0_mateFor_1 rfl ?_
  refine r_callV_1 cv_X0_82 xh_x rfl (by decide) (Nat.le_of_ble_eq_true rfl) ⟨Nat.le_refl _, Nat.le_refl _⟩ (k_X0_isPerson h.kx) (q := 5) dX0_mateFor_2 rfl ?_
  rw [h.s]
  refine r_if_ne (q := 8) (tgt := 12) dX0_mateFor_5 rfl rfl (fun c5 => ?_) (fun c5 => ?_)
  · refine r_iload_2 (q := 13) dX0_mateFor_12 rfl ?_
    refine r_iconst 2 (by decide) (q := 14) dX0_mateFor_13 rfl ?_
    refine r_callS_2 cs_X0_78 (by decide) (Nat.le_of_ble_eq_true rfl) ⟨Nat.le_refl _, Nat.le_refl _⟩ (k_X0_isIn) (q := 17) dX0_mateFor_14 rfl ?_
    refine r_if_eq (q := 20) (tgt := 24) dX0_mateFor_17 rfl rfl (fun c17 => ?_) (fun c17 => ?_)
    · refine r_bipush (-2) (by decide) (q := 26) dX0_mateFor_24 rfl ?_
      exact fin _ (by unfold noPw inI; rw [if_pos (bI_n0.mp c5), bI_0.mp c17]; rfl)
    · refine r_iconst 0 (by decide) (q := 21) dX0_mateFor_20 rfl ?_
      refine r_goto (q := 26) dX0_mateFor_21 rfl ?_
      exact fin _ (by unfold noPw inI; rw [if_pos (bI_n0.mp c5), bI_n0.mp c17]; rfl)
  · refine r_iconst (-1) (by decide) (q := 9) dX0_mateFor_8 rfl ?_
    refine r_goto (q := 26) dX0_mateFor_9 rfl ?_
    exact fin _ (by unfold noPw; rw [bI_0.mp c5]; rfl)
theorem k_X0_lonely (h : XR x w g σ) : Ct G yX0_lonely cX0_lonely 3 (some .int) 8 0 0 [.ref x] n (xh x w g) (XPo x n g (lonelyS σ)) := by
  refine Ct.intro (k := 2) [some (.ref x), none, none] (by decide) (Nat.le_of_ble_eq_true rfl) rfl fun z hz hin => ?_
  unfold lonelyS at hz
  rw [← h.s] at hz
  have hk := h.kx
  have h6 := hk.l6
  refine r_iconst 0 (by decide) (q := 1) dX0_lonely_0 rfl ?_
  refine r_istore_1 (by decide) rfl (q := 2) dX0_lonely_1 rfl ?_
  refine r_iconst 0 (by decide) (q := 3) dX0_lonely_2 rfl ?_
  refine r_istore_2 (by decide) rfl (q := 4) dX0_lonely_3 rfl ?_
  refine forJ (f := lonF (w.1 0).1) (σ := Int32) (w.1 0).1.1.length (fun _ => True) (fun a s => J G z cX0_lonely 3 RX0 8 0 0 0 0 4 [some (.ref x), some (.int s), some (.int (nI a))] [] n (xh x w g)) (a0 := 0) (s0 := 0) (Nat.zero_le _) trivial (fun s _ hs => ?_) (fun a s _ ha _ => ⟨trivial, fun next => ?_⟩)
  · refine r_iload_2 (q := 5) dX0_lonely_4 rfl ?_
    refine r_aload_0 (q := 6) dX0_lonely_5 rfl ?_
    refine r_get gf_X0_16_0 xh_x rfl (q := 9) dX0_lonely_6 rfl ?_
    refine r_callV_0 cv_X0_74 (xe_o 0 (by decide) rfl) rfl (by decide) (Nat.le_of_ble_eq_true rfl) ⟨Nat.le_refl _, Nat.le_refl _⟩ (x_many 0 (by decide) hk rfl) (q := 12) dX0_lonely_9 rfl ?_
    refine r_icmp_ge (q := 15) (tgt := 47) dX0_lonely_12 rfl rfl (fun c12 => ?_) (fun c12 => ?_)
    · rw [← show s = forR (lonF (w.1 0).1) 0 (w.1 0).1.1.length 0 from hs] at hz
      refine r_iload_1 (q := 48) dX0_lonely_47 rfl ?_
      exact r_iret hz dX0_lonely_48 (Nat.le_refl _) (Nat.le_refl _) (.of rfl h)
    · exact absurd (Int32.le_refl _) c12
  · unfold lonF at next
    refine r_iload_2 (q := 5) dX0_lonely_4 rfl ?_
    refine r_aload_0 (q := 6) dX0_lonely_5 rfl ?_
    refine r_get gf_X0_16_0 xh_x rfl (q := 9) dX0_lonely_6 rfl ?_
    refine r_callV_0 cv_X0_74 (xe_o 0 (by decide) rfl) rfl (by decide) (Nat.le_of_ble_eq_true rfl) ⟨Nat.le_refl _, Nat.le_refl _⟩ (x_many 0 (by decide) hk rfl) (q := 12) dX0_lonely_9 rfl ?_
    refine r_icmp_ge (q := 15) (tgt := 47) dX0_lonely_12 rfl rfl (fun c12 => ?_) (fun c12 => ?_)
    · exact absurd c12 (nI_not_lt ha (by omega))
    refine r_aload_0 (q := 16) dX0_lonely_15 rfl ?_
    refine r_get gf_X0_16_0 xh_x rfl (q := 19) dX0_lonely_16 rfl ?_
    refine r_getN gn_X0_94_1 (xe_o 0 (by decide) rfl) rfl (q := 22) dX0_lonely_19 rfl ?_
    refine r_iload_2 (q := 23) dX0_lonely_22 rfl ?_
    refine r_ialdM a 6 (xe_m 0 (by decide) rfl) hk.1.2.2.1 rfl (by omega) (by decide) (q := 24) dX0_lonely_23 rfl ?_
    refine J.topi (show _ = mI (mt (w.1 0).1 a) from rfl) ?_
    cases em : mt (w.1 0).1 a with
    | none =>
      refine r_if_ge (q := 27) (tgt := 41) dX0_lonely_24 rfl rfl (fun c24 => ?_) (fun c24 => ?_)
      · exact absurd c24 (by decide)
      refine r_aload_0 (q := 28) dX0_lonely_27 rfl ?_
      refine r_iload_2 (q := 29) dX0_lonely_28 rfl ?_
      refine r_callV_1 cv_X0_312 xh_x rfl (by decide) (Nat.le_of_ble_eq_true rfl) ⟨Nat.le_refl _, Nat.le_refl _⟩ (k_X0_isWanted hk ha) (q := 32) dX0_lonely_29 rfl ?_
      refine r_if_ne (q := 35) (tgt := 41) dX0_lonely_32 rfl rfl (fun c32 => ?_) (fun c32 => ?_)
      · rw [if_neg (fun q => by rw [bI_n0.mp c32] at q; cases q.2)] at next
        refine r_inc_2 (by decide) rfl (q := 44) dX0_lonely_41 rfl ?_
        refine r_goto (q := 4) dX0_lonely_44 rfl ?_
        exact next
      · rw [if_pos ⟨em, bI_0.mp c32⟩] at next
        refine r_iload_1 (q := 36) dX0_lonely_35 rfl ?_
        refine r_iconst 1 (by decide) (q := 37) dX0_lonely_36 rfl ?_
        refine r_iload_2 (q := 38) dX0_lonely_37 rfl ?_
        refine r_ishl (q := 39) dX0_lonely_38 rfl ?_
        refine r_ior (q := 40) dX0_lonely_39 rfl ?_
        refine r_istore_1 (by decide) rfl (q := 41) dX0_lonely_40 rfl ?_
        refine r_inc_2 (by decide) rfl (q := 44) dX0_lonely_41 rfl ?_
        refine r_goto (q := 4) dX0_lonely_44 rfl ?_
        exact next
    | some m =>
      have := hk.mt6 em
      rw [if_neg (fun q => by rw [em] at q; cases q.1)] at next
      refine r_if_ge (q := 27) (tgt := 41) dX0_lonely_24 rfl rfl (fun c24 => ?_) (fun c24 => ?_)
      · refine r_inc_2 (by decide) rfl (q := 44) dX0_lonely_41 rfl ?_
        refine r_goto (q := 4) dX0_lonely_44 rfl ?_
        exact next
      · exact absurd (nI_pos' (by omega)) c24
theorem k_X0_fullest {what : Int32} (h : XR x w g σ) : Ct G yX0_fullest cX0_fullest 4 (some .int) 4 0 0 [.ref x, .int what] n (xh x w g) (XPo x n g (fullS σ what)) := by
  refine Ct.intro (k := 2) [some (.ref x), some (.int what), none, none] (by decide) (Nat.le_of_ble_eq_true rfl) rfl fun z hz hin => ?_
  refine r_iload_1 (q := 1) dX0_fullest_0 rfl ?_
  refine r_iconst 2 (by decide) (q := 2) dX0_fullest_1 rfl ?_
  refine r_callS_2 cs_X0_78 (by decide) (Nat.le_of_ble_eq_true rfl) ⟨Nat.le_refl _, Nat.le_refl _⟩ (k_X0_isIn) (q := 5) dX0_fullest_2 rfl ?_
  refine r_if_ne (q := 8) (tgt := 15) dX0_fullest_5 rfl rfl (fun c5 => ?_) (fun c5 => ?_)
  · have hp : inI what 2 = true := bI_n0.mp c5
    unfold fullS at hz
    rw [if_pos hp, ← h.s] at hz
    have hk := h.kx
    refine r_iconst 0 (by decide) (q := 16) dX0_fullest_15 rfl ?_
    refine r_istore_2 (by decide) rfl (q := 17) dX0_fullest_16 rfl ?_
    refine r_iconst 1 (by decide) (q := 18) dX0_fullest_17 rfl ?_
    refine r_istore_3 (by decide) rfl (q := 19) dX0_fullest_18 rfl ?_
    refine forJ (f := fulF (w.1 0).1) (σ := Nat) 5 (fun b => b < 5) (fun a b => J G z cX0_fullest 4 RX0 4 0 0 0 0 19 [some (.ref x), some (.int what), some (.int (nI b)), some (.int (nI a))] [] n (xh x w g)) (a0 := 1) (s0 := 0) (by decide) (by decide) (fun s hl hs => ?_) (fun a s _ ha hl => ⟨by unfold fulF; split <;> omega, fun next => ?_⟩)
    · refine r_iload_3 (q := 20) dX0_fullest_19 rfl ?_
      refine r_iconst 5 (by decide) (q := 21) dX0_fullest_20 rfl ?_
      refine r_icmp_ge (q := 24) (tgt := 45) dX0_fullest_21 rfl rfl (fun c21 => ?_) (fun c21 => ?_)
      · rw [← show s = fulS (w.1 0).1 from hs] at hz
        refine r_iload_1 (q := 46) dX0_fullest_45 rfl ?_
        refine r_if_ne (q := 49) (tgt := 53) dX0_fullest_46 rfl rfl (fun c46 => ?_) (fun c46 => ?_)
        · rw [if_neg c46] at hz
          refine r_aload_0 (q := 54) dX0_fullest_53 rfl ?_
          refine r_iload_2 (q := 55) dX0_fullest_54 rfl ?_
          refine r_callV_1 cv_X0_309 xh_x rfl (by decide) (Nat.le_of_ble_eq_true rfl) ⟨Nat.le_refl _, Nat.le_refl _⟩ (k_X0_comingAt hk (by omega)) (q := 58) dX0_fullest_55 rfl ?_
          exact r_iret hz dX0_fullest_58 (Nat.le_refl _) (Nat.le_refl _) (.of rfl h)
        · rw [if_pos c46] at hz
          refine r_iload_2 (q := 50) dX0_fullest_49 rfl ?_
          refine r_goto (q := 58) dX0_fullest_50 rfl ?_
          exact r_iret hz dX0_fullest_58 (Nat.le_refl _) (Nat.le_refl _) (.of rfl h)
      · exact absurd (Int32.le_refl (5 : Int32)) c21
    · unfold fulF at next
      refine r_iload_3 (q := 20) dX0_fullest_19 rfl ?_
      refine r_iconst 5 (by decide) (q := 21) dX0_fullest_20 rfl ?_
      refine r_icmp_ge (q := 24) (tgt := 45) dX0_fullest_21 rfl rfl (fun c21 => ?_) (fun c21 => ?_)
      · exact absurd c21 (nI_not_lt (b := 5) ha (by decide))
      refine r_aload_0 (q := 25) dX0_fullest_24 rfl ?_
      refine r_iload_3 (q := 26) dX0_fullest_25 rfl ?_
      refine r_callV_1 cv_X0_309 xh_x rfl (by decide) (Nat.le_of_ble_eq_true rfl) ⟨Nat.le_refl _, Nat.le_refl _⟩ (k_X0_comingAt hk (by omega)) (q := 29) dX0_fullest_26 rfl ?_
      refine r_aload_0 (q := 30) dX0_fullest_29 rfl ?_
      refine r_iload_2 (q := 31) dX0_fullest_30 rfl ?_
      refine r_callV_1 cv_X0_309 xh_x rfl (by decide) (Nat.le_of_ble_eq_true rfl) ⟨Nat.le_refl _, Nat.le_refl _⟩ (k_X0_comingAt hk (by omega)) (q := 34) dX0_fullest_31 rfl ?_
      refine r_icmp_le (q := 37) (tgt := 39) dX0_fullest_34 rfl rfl (fun c34 => ?_) (fun c34 => ?_)
      · rw [if_neg (Int32.not_lt.mpr c34)] at next
        refine r_inc_3 (by decide) rfl (q := 42) dX0_fullest_39 rfl ?_
        refine r_goto (q := 19) dX0_fullest_42 rfl ?_
        exact next
      · rw [if_pos (Int32.not_le.mp c34)] at next
        refine r_iload_3 (q := 38) dX0_fullest_37 rfl ?_
        refine r_istore_2 (by decide) rfl (q := 39) dX0_fullest_38 rfl ?_
        refine r_inc_3 (by decide) rfl (q := 42) dX0_fullest_39 rfl ?_
        refine r_goto (q := 19) dX0_fullest_42 rfl ?_
        exact next
  · refine r_aload_0 (q := 9) dX0_fullest_8 rfl ?_
    refine r_bipush (-2) (by decide) (q := 11) dX0_fullest_9 rfl ?_
    refine r_callV_1 cv_X0_48 xh_x rfl (by decide) (Nat.le_of_ble_eq_true rfl) ⟨Nat.le_refl _, Nat.le_refl _⟩ (k_X0_refuse isC_2 h.ra) (q := 14) dX0_fullest_11 rfl ?_
    exact r_iret hz dX0_fullest_14 (Nat.le_refl _) (Nat.le_refl _) (.of (by unfold fullS inI; rw [bI_0.mp c5]; rfl) (h.refuse _))
end XO2


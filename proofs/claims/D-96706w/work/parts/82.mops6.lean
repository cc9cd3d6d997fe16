/-! ===== PrayerMatsFaceModel: chains, lonely ones, peace, help, doubled hours, lots ===== -/
theorem joinS_self {S : SQ} {a b : Nat} (hL : LenS S) (hM : MatS S) (ha : a < S.1.length) (h : mt S a = some b) : joinS S a b = S := by
  obtain ⟨hb, hne, hba⟩ := hM a ha b h
  have h6 := hL.1
  have hm : ∀ c, mt (joinS S a b) c = mt S c := by
    intro c
    rw [mt_join hL (by omega) (by omega)]
    by_cases h1 : c = b
    · rw [if_pos h1, h1, hba]
    · rw [if_neg h1]
      by_cases h2 : c = a
      · rw [if_pos h2, h2, h]
      · rw [if_neg h2, mt_leave (lens_leave hL) (by omega), mt_leave hL (by omega), mt_leave hL (by omega)]
        have n1 : ¬(c = a ∨ mt S a = some c) := fun q => by
          rcases q with q | q
          · exact h2 q
          · rw [h] at q; cases q; exact h1 rfl
        have n2 : (b = a ∨ mt S a = some b) := Or.inr h
        rw [if_neg n1, if_pos n2, if_neg (fun q => by rcases q with q | q; exact h1 q; cases q)]
  have hl : (joinS S a b).2.2.1 = S.2.2.1 := by
    have l1 : (joinS S a b).2.2.1.length = 6 := (lens_join hL (by omega) (by omega)).2.2.1
    apply List.ext_getElem?
    intro i
    rcases Nat.lt_or_ge i 6 with hi | hi
    · have e1 := hm i
      unfold mt at e1
      rw [List.getD_eq_getElem?_getD, List.getD_eq_getElem?_getD, List.getElem?_eq_getElem (by omega), List.getElem?_eq_getElem (by rw [hL.2.2.1]; exact hi)] at e1
      rw [List.getElem?_eq_getElem (by omega), List.getElem?_eq_getElem (by rw [hL.2.2.1]; exact hi)]
      exact congrArg some e1
    · rw [List.getElem?_eq_none (by omega), List.getElem?_eq_none (by rw [hL.2.2.1]; exact hi)]
  obtain ⟨f1, f2, f3⟩ := joinS_fr S a b
  have : joinS S a b = ((joinS S a b).1, (joinS S a b).2.1, (joinS S a b).2.2.1, (joinS S a b).2.2.2) := rfl
  rw [this, f1, f2, hl, f3]
/-! lots: the seed, a draw, a year, all -/
theorem and_pos (s : Int32) : ¬ s &&& 2147483647 < 0 := by
  rw [Int32.lt_iff_toInt_lt, Int32.toInt_zero]
  have h1 : (s &&& 2147483647).toBitVec.msb = false := by
    rw [Int32.toBitVec_and, BitVec.msb_and]
    have : (2147483647 : Int32).toBitVec.msb = false := by decide
    rw [this, Bool.and_false]
  have h2 : (s &&& 2147483647).toInt = (s &&& 2147483647).toBitVec.toInt := rfl
  rw [h2, BitVec.toInt_eq_toNat_of_msb h1]
  omega
theorem drawS_ok (s : Int32) {k : Nat} (hk : 0 < k) (hk6 : k ≤ 6) : ∃ a, a < k ∧ drawS s k = nI a := by
  obtain ⟨x, hx, e⟩ := nI_of (and_pos s)
  refine ⟨x / 65536 % k, Nat.mod_lt _ hk, ?_⟩
  have hd : nI x / 65536 = nI (x / 65536) := by
    have : (65536 : Int32) = nI 65536 := rfl
    rw [this, pk_div hx (by decide) (by decide)]
  have hl : x / 65536 < 2 ^ 31 := Nat.lt_of_le_of_lt (Nat.div_le_self _ _) hx
  unfold drawS
  rw [e, hd]
  exact pk_rem hl hk (by omega)
def lotJ (S : SQ) (x y : Int32) : SQ := if x = y then S else joinS S (cl x) (cl y)
def lotD (N : Nat) (s : Int32 × SQ) : Int32 × SQ := (seedS (seedS s.1), goesS (lotJ s.2 (drawS (seedS s.1) N) (drawS (seedS (seedS s.1)) N)))
def lotY (N : Nat) (c : Nat) (s : Int32 × SQ) : Int32 × SQ := forR (fun _ s => lotD N s) 0 c s
/-- seed, all, mended: years from S -/
def lotF (S : SQ) (_k : Nat) (s : Int32 × Int32 × Int32) : Int32 × Int32 × Int32 := ((lotY S.1.length 30 (s.1, S)).1, s.2.1 + allS (lotY S.1.length 30 (s.1, S)).2, s.2.2 + zerosS (lotY S.1.length 30 (s.1, S)).2)
def noLot (n what : Int32) : Int32 := if wi n 1 20 = 0 ∧ inI what 2 = false then -2 else wi n 1 20
def lotR (S : SQ) (n : Nat) (z : Int32) : Int32 × Int32 × Int32 := if S.1.length = 0 then (z, 0, 0) else forR (lotF S) 0 n (z, 0, 0)
def lotsS (σ : SG) (n z what : Int32) : Int32 × SG :=
  if noLot n what = 0 then (if what = 0 then (lotR σ.1 (cl n) z).2.1 else (lotR σ.1 (cl n) z).2.2, σ) else (noLot n what, rfS σ (noLot n what))
theorem noLot_c {v what : Int32} : noLot v what = 0 ∨ isC (noLot v what) := by
  unfold noLot
  split
  · exact Or.inr isC_2
  · exact wi_c _ _ _
theorem lotJ_ok {S P : SQ} {x y : Int32} {a b : Nat} (ha : a < P.1.length) (hb : b < P.1.length) (ex : x = nI a) (ey : y = nI b) (h : OKS S ∧ S.1 = P.1) : OKS (lotJ S x y) ∧ (lotJ S x y).1 = P.1 := by
  subst ex; subst ey
  have h6 := h.1.1.1
  rw [h.2] at h6
  unfold lotJ
  by_cases hne : nI a = nI b
  · rw [if_pos hne]
    exact h
  · rw [if_neg hne, cl_nI (by omega), cl_nI (by omega)]
    exact ⟨h.1.join (by rw [h.2]; exact ha) (by rw [h.2]; exact hb) (fun q => hne (by rw [q])), (joinS_fr _ _ _).1.trans h.2⟩
theorem lotD_ok {S : SQ} {s : Int32 × SQ} (h0 : 0 < S.1.length) (h : OKS s.2 ∧ s.2.1 = S.1) : OKS (lotD S.1.length s).2 ∧ (lotD S.1.length s).2.1 = S.1 := by
  have h6 := h.1.1.1
  rw [h.2] at h6
  obtain ⟨a, ha, ea⟩ := drawS_ok (seedS s.1) h0 h6
  obtain ⟨b, hb, eb⟩ := drawS_ok (seedS (seedS s.1)) h0 h6
  unfold lotD
  generalize drawS (seedS s.1) S.1.length = x at ea
  generalize drawS (seedS (seedS s.1)) S.1.length = y at eb
  obtain ⟨k1, k2⟩ := lotJ_ok ha hb ea eb h
  exact ⟨k1.goes, (goesS_fr _).1.trans k2⟩
theorem lotY_ok {S : SQ} (h0 : 0 < S.1.length) (c : Nat) (s : Int32 × SQ) (h : OKS s.2 ∧ s.2.1 = S.1) : OKS (lotY S.1.length c s).2 ∧ (lotY S.1.length c s).2.1 = S.1 := by
  unfold lotY
  exact forR_inv (fun s : Int32 × SQ => OKS s.2 ∧ s.2.1 = S.1) (fun _ s h => lotD_ok h0 h) c 0 s h
theorem peM {S : SQ} (h : OKS S) : peaceS S = true ↔ ∀ a, a < S.1.length → ∀ b, mt S a = some b → qr S a b = 0 := by
  unfold peaceS
  rw [decide_eq_true_iff]
  refine ⟨fun q a ha b e => ?_, fun q a ha b e _ => q a ha b e⟩
  obtain ⟨p1, p2, p3⟩ := h.2.2.1 a ha b e
  rcases Nat.lt_or_ge a b with z | z
  · exact q a ha b e z
  · have h6 := h.1.1
    rw [h.2.2.2.1 a b (by omega) (by omega)]
    exact q b p1 a p3 (by omega)
theorem OKM.hour {T : SQ} {j : List PP} (K : OKM T j) (hh : Nat) : OKM (hourS hh T) j := K.of (hourS_fr hh T).1 K.1.hour
theorem OKM.dbl {j : List PP} (hh : Nat) : ∀ (c : Nat) {T : SQ}, OKM T j → OKM (dblS hh c T) j
  | 0, _, k => k
  | c + 1, _, k => OKM.dbl hh c (k.goes.hour hh)
section MO6
variable {G : GD} {n m : Nat} {w : MW} {g : RH} {σ : SG} {T T0 : SQ} {j j0 : List PP}
theorem k_X2_chain {p : Int32} (h : MR w σ) : Ct G yX2_chain cX2_chain 4 (some .int) 5 0 0 [.ref m, .int p] n (mh m w g) (MPo m n g (chainS σ p)) := by
  refine Ct.intro (k := 2) [some (.ref m), some (.int p), none, none] (by decide) (Nat.le_of_ble_eq_true rfl) rfl fun z hz hin => ?_
  obtain ⟨j, e, K⟩ := h.1
  have h6 := K.l6
  unfold chainS at hz
  refine r_aload_0 (q := 1) dX2_chain_0 rfl ?_
  refine r_iconst 0 (by decide) (q := 2) dX2_chain_1 rfl ?_
  refine r_put gf_X2_65_2 cl_ok_2 ft_2_7 mh_o (Nat.le_of_ble_eq_true rfl) rfl rfl (q := 5) dX2_chain_2 rfl ?_
  refine J.heap mset_f7 ?_
  refine r_aload_0 (q := 6) dX2_chain_5 rfl ?_
  refine r_iload_1 (q := 7) dX2_chain_6 rfl ?_
  refine r_callV_1 cv_X2_75 mh_o rfl (by decide) (Nat.le_of_ble_eq_true rfl) ⟨Nat.le_refl _, Nat.le_refl _⟩ (k_X2_isOne K e) (q := 10) dX2_chain_7 rfl ?_
  refine r_if_ne (q := 13) (tgt := 19) dX2_chain_10 rfl rfl (fun c10 => ?_) (fun c10 => ?_)
  · have hp := bI_n0.mp c10
    rw [if_pos hp] at hz
    obtain ⟨i, hi, rfl⟩ := isPer_t K.lens hp
    rw [cl_nI (by omega)] at hz
    refine r_iconst 0 (by decide) (q := 20) dX2_chain_19 rfl ?_
    refine r_istore_2 (by decide) rfl (q := 21) dX2_chain_20 rfl ?_
    refine r_iload_1 (q := 22) dX2_chain_21 rfl ?_
    refine r_istore_3 (by decide) rfl (q := 23) dX2_chain_22 rfl ?_
    have fin : ∀ (k : Nat) (x : Int32), k < 64 → k = chS σ.1 7 0 (some i) → J G z cX2_chain 4 RX2 5 0 0 0 0 50 [some (.ref m), some (.int (nI i)), some (.int (nI k)), some (.int x)] [] n (mh m (sf7 w 0) g) := by
      intro k x hk he
      rw [← he] at hz
      refine r_iload_2 (q := 51) dX2_chain_50 rfl ?_
      refine r_callS_1 cs_X2_83 (by decide) (Nat.le_of_ble_eq_true rfl) ⟨Nat.le_refl _, Nat.le_refl _⟩ (k_X2_onesOf (k := k) (by omega)) (q := 54) dX2_chain_51 rfl ?_
      exact r_iret hz dX2_chain_54 (Nat.le_refl _) (Nat.le_refl _) (.of rfl (h.th 0))
    have loop : ∀ (c k : Nat) (o : Option Nat), k < 64 → pop k + c = 7 → (∀ q, o = some q → q < σ.1.1.length) → chS σ.1 c k o = chS σ.1 7 0 (some i) → J G z cX2_chain 4 RX2 5 0 0 0 0 23 [some (.ref m), some (.int (nI i)), some (.int (nI k)), some (.int (mI o))] [] n (mh m (sf7 w 0) g) := by
      intro c
      induction c with
      | zero =>
        intro k o h1 h2 h3 h4
        have := ch_pop k h1
        omega
      | succ c ih =>
        intro k o h1 h2 h3 h4
        cases o with
        | none =>
          refine r_iload_3 (q := 24) dX2_chain_23 rfl ?_
          refine r_if_lt (q := 27) (tgt := 50) dX2_chain_24 rfl rfl (fun c24 => ?_) (fun c24 => ?_)
          · exact fin k _ h1 h4
          · exact absurd mI_neg c24
        | some q =>
          have hq := h3 q rfl
          have h4 : (if hbt k q = true then k else chS σ.1 c (k ||| 2 ^ q) (favS σ.1 q)) = chS σ.1 7 0 (some i) := h4
          refine r_iload_3 (q := 24) dX2_chain_23 rfl ?_
          refine r_if_lt (q := 27) (tgt := 50) dX2_chain_24 rfl rfl (fun c24 => ?_) (fun c24 => ?_)
          · exact absurd c24 (nI_pos (by omega))
          refine r_iload_2 (q := 28) dX2_chain_27 rfl ?_
          refine r_iload_3 (q := 29) dX2_chain_28 rfl ?_
          refine r_callS_2 cs_X2_93 (by decide) (Nat.le_of_ble_eq_true rfl) ⟨Nat.le_refl _, Nat.le_refl _⟩ (k_X2_hasBit (k := k) (i := q) (by omega) (by omega)) (q := 32) dX2_chain_29 rfl ?_
          refine r_if_ne (q := 35) (tgt := 50) dX2_chain_32 rfl rfl (fun c32 => ?_) (fun c32 => ?_)
          · rw [bI_n0.mp c32, if_pos rfl] at h4
            exact fin k _ h1 h4
          · have hf := bI_0.mp c32
            rw [hf, if_neg (by decide)] at h4
            obtain ⟨z1, z2, z3⟩ := ch_bit k h1 q (by omega) hf
            refine r_iload_2 (q := 36) dX2_chain_35 rfl ?_
            refine r_iconst 1 (by decide) (q := 37) dX2_chain_36 rfl ?_
            refine r_iload_3 (q := 38) dX2_chain_37 rfl ?_
            refine r_ishl (q := 39) dX2_chain_38 rfl ?_
            refine r_ior (q := 40) dX2_chain_39 rfl ?_
            refine J.topi z1 ?_
            refine r_istore_2 (by decide) rfl (q := 41) dX2_chain_40 rfl ?_
            refine r_aload_0 (q := 42) dX2_chain_41 rfl ?_
            refine r_iload_3 (q := 43) dX2_chain_42 rfl ?_
            refine r_callV_1 cv_X2_267 mh_o rfl (by decide) (Nat.le_of_ble_eq_true rfl) ⟨Nat.le_refl _, Nat.le_refl _⟩ (k_X2_mostLiked K e hq) (q := 46) dX2_chain_43 rfl ?_
            refine r_istore_3 (by decide) rfl (q := 47) dX2_chain_46 rfl ?_
            refine r_goto (q := 23) dX2_chain_47 rfl ?_
            refine ih _ _ z2 (by omega) (fun t ht => ?_) h4
            have := forR_inv' (f := favF σ.1 q) (N := σ.1.1.length) (fun s => ∀ k, s = some k → k < σ.1.1.length) (fun a s ha hs k e => by
              unfold favF at e
              split at e
              · exact hs k e
              · split at e
                · cases e; exact ha
                · split at e
                  · cases e; exact ha
                  · exact hs k e) σ.1.1.length 0 none (by omega) (fun k e => by cases e)
            exact this t ht
    exact loop 7 0 (some i) (by decide) rfl (fun q e => by cases e; exact hi) rfl
  · rw [if_neg (by rw [bI_0.mp c10]; decide)] at hz
    refine r_aload_0 (q := 14) dX2_chain_13 rfl ?_
    refine r_iconst (-1) (by decide) (q := 15) dX2_chain_14 rfl ?_
    refine r_callV_1 cv_X2_128 mh_o rfl (by decide) (Nat.le_of_ble_eq_true rfl) ⟨Nat.le_refl _, Nat.le_refl _⟩ (k_X2_refuse isC_1 (h.th 0).l6) (q := 18) dX2_chain_15 rfl ?_
    exact r_iret hz dX2_chain_18 (Nat.le_refl _) (Nat.le_refl _) (.of rfl ((h.th 0).refuse _))
theorem k_X2_lonely (h : MR w σ) : Ct G yX2_lonely cX2_lonely 5 (some .int) 5 0 0 [.ref m] n (mh m w g) (MPo m n g (lonelyS σ)) := by
  refine Ct.intro (k := 4) [some (.ref m), none, none, none, none] (by decide) (Nat.le_of_ble_eq_true rfl) rfl fun z hz hin => ?_
  obtain ⟨j, e, K⟩ := h.1
  have h6 := K.l6
  unfold lonelyS at hz
  refine r_aload_0 (q := 1) dX2_lonely_0 rfl ?_
  refine r_iconst 0 (by decide) (q := 2) dX2_lonely_1 rfl ?_
  refine r_put gf_X2_65_2 cl_ok_2 ft_2_7 mh_o (Nat.le_of_ble_eq_true rfl) rfl rfl (q := 5) dX2_lonely_2 rfl ?_
  refine J.heap mset_f7 ?_
  refine r_iconst 0 (by decide) (q := 6) dX2_lonely_5 rfl ?_
  refine r_istore_1 (by decide) rfl (q := 7) dX2_lonely_6 rfl ?_
  refine r_iconst 0 (by decide) (q := 8) dX2_lonely_7 rfl ?_
  refine r_istore_2 (by decide) rfl (q := 9) dX2_lonely_8 rfl ?_
  refine forJ (f := lonF σ.1) (σ := Int32) σ.1.1.length (fun _ => True) (fun a s => ∀ o3 o4 : Option Value, lc2 o3 = false → J G z cX2_lonely 5 RX2 5 0 0 0 0 9 [some (.ref m), some (.int s), some (.int (nI a)), o3, o4] [] n (mh m (sf7 w 0) g)) (a0 := 0) (s0 := 0) (Nat.zero_le _) trivial (fun s _ hs o3 o4 _ => ?_) (fun a s _ ha _ => ⟨trivial, fun next o3 o4 _ => ?_⟩) none none rfl
  · have hs : s = forR (lonF σ.1) 0 σ.1.1.length 0 := hs
    rw [← hs] at hz
    refine r_iload_2 (q := 10) dX2_lonely_9 rfl ?_
    refine r_aload_0 (q := 11) dX2_lonely_10 rfl ?_
    refine m_getp gf_X2_68_2 K e (q := 14) dX2_lonely_11 rfl ?_
    refine r_icmp_ge (q := 17) (tgt := 96) dX2_lonely_14 rfl rfl (fun c14 => ?_) (fun c14 => ?_)
    · refine r_iload_1 (q := 97) dX2_lonely_96 rfl ?_
      exact r_iret hz dX2_lonely_97 (Nat.le_refl _) (Nat.le_refl _) (.of rfl (h.th 0))
    · exact absurd (Int32.le_refl _) c14
  · have inner : ∀ t0 : Bool, t0 = decide (mt σ.1 a = none) → J G z cX2_lonely 5 RX2 5 0 0 0 0 31 [some (.ref m), some (.int s), some (.int (nI a)), o3, o4] [.int (bI t0)] n (mh m (sf7 w 0) g) := by
      intro t0 ht0
      refine r_istore_3 (by decide) rfl (q := 32) dX2_lonely_31 rfl ?_
      refine r_iconst 0 (by decide) (q := 33) dX2_lonely_32 rfl ?_
      refine r_istore_4 (by decide) rfl (q := 35) dX2_lonely_33 rfl ?_
      refine upto (P := fun q => ∀ t : Bool, (t = true ↔ t0 = true ∧ ∀ c, c < q → ¬ wouldS σ.1 c a = true ∨ mt σ.1 a ≠ none) → J G z cX2_lonely 5 RX2 5 0 0 0 0 35 [some (.ref m), some (.int s), some (.int (nI a)), some (.int (bI t)), some (.int (nI q))] [] n (mh m (sf7 w 0) g)) σ.1.1.length (fun t ht => ?_) (fun q hq nx t ht => ?_) 0 (Nat.zero_le _) t0 ⟨fun q => ⟨q, fun c hc => absurd hc (Nat.not_lt_zero _)⟩, fun q => q.1⟩
      · have hl : lonF σ.1 a s = s ||| (if t = true then b1 a else 0) := by
          unfold lonF
          have ew : (mt σ.1 a = none ∧ wantS σ.1 a = false) ↔ t = true := by
            rw [ht, ht0, decide_eq_true_iff]
            refine and_congr_right fun hm => ?_
            unfold wantS
            rw [decide_eq_false_iff_not]
            refine ⟨fun q c hc => Or.inl (fun z => q ⟨c, hc, z⟩), fun q z => ?_⟩
            obtain ⟨c, hc, z⟩ := z
            rcases q c hc with y | y
            · exact y z
            · exact y hm
          by_cases hc : mt σ.1 a = none ∧ wantS σ.1 a = false
          · rw [if_pos hc, if_pos (ew.mp hc)]
          · rw [if_neg hc, if_neg (fun q => hc (ew.mpr q)), or0]
        rw [hl] at next
        refine r_iload_4 (q := 37) dX2_lonely_35 rfl ?_
        refine r_aload_0 (q := 38) dX2_lonely_37 rfl ?_
        refine m_getp gf_X2_68_2 K e (q := 41) dX2_lonely_38 rfl ?_
        refine r_icmp_ge (q := 44) (tgt := 76) dX2_lonely_41 rfl rfl (fun c41 => ?_) (fun c41 => ?_)
        · refine r_iload_1 (q := 77) dX2_lonely_76 rfl ?_
          refine r_iload_3 (q := 78) dX2_lonely_77 rfl ?_
          refine r_if_eq (q := 81) (tgt := 87) dX2_lonely_78 rfl rfl (fun c78 => ?_) (fun c78 => ?_)
          · rw [bI_0.mp c78] at next ⊢
            refine r_iconst 0 (by decide) (q := 88) dX2_lonely_87 rfl ?_
            refine r_ior (q := 89) dX2_lonely_88 rfl ?_
            refine r_istore_1 (by decide) rfl (q := 90) dX2_lonely_89 rfl ?_
            refine r_inc_2 (by decide) rfl (q := 93) dX2_lonely_90 rfl ?_
            refine r_goto (q := 9) dX2_lonely_93 rfl ?_
            exact next _ _ rfl
          · rw [bI_n0.mp c78] at next ⊢
            refine r_iconst 1 (by decide) (q := 82) dX2_lonely_81 rfl ?_
            refine r_iload_2 (q := 83) dX2_lonely_82 rfl ?_
            refine r_ishl (q := 84) dX2_lonely_83 rfl ?_
            refine r_goto (q := 88) dX2_lonely_84 rfl ?_
            refine r_ior (q := 89) dX2_lonely_88 rfl ?_
            refine r_istore_1 (by decide) rfl (q := 90) dX2_lonely_89 rfl ?_
            refine r_inc_2 (by decide) rfl (q := 93) dX2_lonely_90 rfl ?_
            refine r_goto (q := 9) dX2_lonely_93 rfl ?_
            exact next _ _ rfl
        · exact absurd (Int32.le_refl _) c41
      · have put : ∀ t' : Bool, (t' = true ↔ t = true ∧ (¬ wouldS σ.1 q a = true ∨ mt σ.1 a ≠ none)) → J G z cX2_lonely 5 RX2 5 0 0 0 0 69 [some (.ref m), some (.int s), some (.int (nI a)), some (.int (bI t)), some (.int (nI q))] [.int (bI t')] n (mh m (sf7 w 0) g) := by
          intro t' ht'
          refine r_istore_3 (by decide) rfl (q := 70) dX2_lonely_69 rfl ?_
          refine r_inc_4 (by decide) rfl (q := 73) dX2_lonely_70 rfl ?_
          refine r_goto (q := 35) dX2_lonely_73 rfl ?_
          refine nx t' ?_
          rw [ht', ht]
          refine ⟨fun z => ⟨z.1.1, fun c hc => ?_⟩, fun z => ⟨⟨z.1, fun c hc => z.2 c (by omega)⟩, z.2 q (Nat.lt_succ_self _)⟩⟩
          rcases Nat.lt_succ_iff_lt_or_eq.mp hc with y | y
          · exact z.1.2 c y
          · subst y; exact z.2
        refine r_iload_4 (q := 37) dX2_lonely_35 rfl ?_
        refine r_aload_0 (q := 38) dX2_lonely_37 rfl ?_
        refine m_getp gf_X2_68_2 K e (q := 41) dX2_lonely_38 rfl ?_
        refine r_icmp_ge (q := 44) (tgt := 76) dX2_lonely_41 rfl rfl (fun c41 => ?_) (fun c41 => ?_)
        · exact absurd c41 (nI_not_lt hq (by omega))
        refine r_iload_3 (q := 45) dX2_lonely_44 rfl ?_
        refine r_if_eq (q := 48) (tgt := 68) dX2_lonely_45 rfl rfl (fun c45 => ?_) (fun c45 => ?_)
        · have hf := bI_0.mp c45
          refine r_iconst 0 (by decide) (q := 69) dX2_lonely_68 rfl ?_
          exact put false ⟨fun z => absurd z (by decide), fun z => by rw [hf] at z; exact absurd z.1 (by decide)⟩
        have htt := bI_n0.mp c45
        refine r_iload_4 (q := 50) dX2_lonely_48 rfl ?_
        refine r_iload_2 (q := 51) dX2_lonely_50 rfl ?_
        refine r_icmp_eq (q := 54) (tgt := 64) dX2_lonely_51 rfl rfl (fun c51 => ?_) (fun c51 => ?_)
        · have : q = a := nI_inj (by omega) (by omega) c51
          refine r_iconst 1 (by decide) (q := 65) dX2_lonely_64 rfl ?_
          refine r_goto (q := 69) dX2_lonely_65 rfl ?_
          exact put true ⟨fun _ => ⟨htt, Or.inl (fun z => (would_eq.mp z).1 this)⟩, fun _ => rfl⟩
        have hqa : q ≠ a := fun z => c51 (by rw [z])
        have hma : mt σ.1 a = none := by
          have := (ht.mp htt).1
          rw [ht0] at this
          exact of_decide_eq_true this
        have hmq : mt σ.1 q ≠ some a := fun z => by
          have := (K.mats q hq a z).2.2
          rw [hma] at this
          cases this
        refine r_aload_0 (q := 55) dX2_lonely_54 rfl ?_
        refine r_iload_4 (q := 57) dX2_lonely_55 rfl ?_
        refine r_iload_2 (q := 58) dX2_lonely_57 rfl ?_
        refine r_callV_2 cv_X2_239 mh_o rfl (by decide) (Nat.le_of_ble_eq_true rfl) ⟨Nat.le_refl _, Nat.le_refl _⟩ (k_X2_ratherThanMate K e (by omega) (by omega)) (q := 61) dX2_lonely_58 rfl ?_
        refine r_if_ne (q := 64) (tgt := 68) dX2_lonely_61 rfl rfl (fun c61 => ?_) (fun c61 => ?_)
        · have hr := bI_n0.mp c61
          refine r_iconst 0 (by decide) (q := 69) dX2_lonely_68 rfl ?_
          exact put false ⟨fun z => absurd z (by decide), fun z => by
            rcases z.2 with y | y
            · exact absurd (would_eq.mpr ⟨hqa, hmq, hr⟩) y
            · exact absurd hma y⟩
        · have hr := bI_0.mp c61
          refine r_iconst 1 (by decide) (q := 65) dX2_lonely_64 rfl ?_
          refine r_goto (q := 69) dX2_lonely_65 rfl ?_
          exact put true ⟨fun _ => ⟨htt, Or.inl (fun z => by rw [(would_eq.mp z).2.2] at hr; cases hr)⟩, fun _ => rfl⟩
    refine r_iload_2 (q := 10) dX2_lonely_9 rfl ?_
    refine r_aload_0 (q := 11) dX2_lonely_10 rfl ?_
    refine m_getp gf_X2_68_2 K e (q := 14) dX2_lonely_11 rfl ?_
    refine r_icmp_ge (q := 17) (tgt := 96) dX2_lonely_14 rfl rfl (fun c14 => ?_) (fun c14 => ?_)
    · exact absurd c14 (nI_not_lt ha (by omega))
    refine r_aload_0 (q := 18) dX2_lonely_17 rfl ?_
    refine r_get gf_X2_19_2 mh_o rfl (q := 21) dX2_lonely_18 rfl ?_
    refine r_iload_2 (q := 22) dX2_lonely_21 rfl ?_
    refine m_ald4 K e (by omega) (q := 23) dX2_lonely_22 rfl ?_
    cases em : mt σ.1 a with
    | none =>
      refine r_if_ge (q := 26) (tgt := 30) dX2_lonely_23 rfl rfl (fun c23 => ?_) (fun c23 => ?_)
      · exact absurd c23 (by decide)
      · refine r_iconst 1 (by decide) (q := 27) dX2_lonely_26 rfl ?_
        refine r_goto (q := 31) dX2_lonely_27 rfl ?_
        exact inner true (by rw [em]; rfl)
    | some b =>
      have hb := K.mt6 em
      refine r_if_ge (q := 26) (tgt := 30) dX2_lonely_23 rfl rfl (fun c23 => ?_) (fun c23 => ?_)
      · refine r_iconst 0 (by decide) (q := 31) dX2_lonely_30 rfl ?_
        exact inner false (by rw [em]; rfl)
      · exact absurd (nI_pos' (by omega)) c23
theorem k_X2_isPeace (K : OKM T j) (e : w.1 = mS T j) : CtE G yX2_isPeace cX2_isPeace 3 (some FieldType.boolean) 2 [.ref m] n (mh m w g) (some (.int (bI (peaceS T)))) (mh m w g) := by
  refine Ct.intro (k := 2) [some (.ref m), none, none] (by decide) (Nat.le_of_ble_eq_true rfl) rfl fun z hz hin => ?_
  have h6 := K.l6
  refine r_iconst 1 (by decide) (q := 1) dX2_isPeace_0 rfl ?_
  refine r_istore_1 (by decide) rfl (q := 2) dX2_isPeace_1 rfl ?_
  refine r_iconst 0 (by decide) (q := 3) dX2_isPeace_2 rfl ?_
  refine r_istore_2 (by decide) rfl (q := 4) dX2_isPeace_3 rfl ?_
  refine upto (P := fun q => ∀ t : Bool, (t = true ↔ ∀ a, a < q → ∀ b, mt T a = some b → qr T a b = 0) → J G z cX2_isPeace 3 RX2 2 0 0 0 0 4 [some (.ref m), some (.int (bI t)), some (.int (nI q))] [] n (mh m w g)) T.1.length (fun t ht => ?_) (fun q hq nx t ht => ?_) 0 (Nat.zero_le _) true ⟨fun _ a ha => absurd ha (Nat.not_lt_zero _), fun _ => rfl⟩
  · have et : t = peaceS T := by
      have := peM K.1
      cases hp : peaceS T
      · cases t
        · rfl
        · exact absurd (this.mpr (ht.mp rfl)) (by rw [hp]; decide)
      · exact ht.mpr (this.mp hp)
    rw [← et] at hz
    refine r_iload_2 (q := 5) dX2_isPeace_4 rfl ?_
    refine r_aload_0 (q := 6) dX2_isPeace_5 rfl ?_
    refine m_getp gf_X2_68_2 K e (q := 9) dX2_isPeace_6 rfl ?_
    refine r_icmp_ge (q := 12) (tgt := 51) dX2_isPeace_9 rfl rfl (fun c9 => ?_) (fun c9 => ?_)
    · refine r_iload_1 (q := 52) dX2_isPeace_51 rfl ?_
      exact r_zret hz (by first | exact bI_z _ | rfl) dX2_isPeace_52 (Nat.le_refl _) (Nat.le_refl _) ⟨rfl, rfl, rfl⟩
    · exact absurd (Int32.le_refl _) c9
  · have put : ∀ t' : Bool, (t' = true ↔ t = true ∧ ∀ b, mt T q = some b → qr T q b = 0) → J G z cX2_isPeace 3 RX2 2 0 0 0 0 44 [some (.ref m), some (.int (bI t)), some (.int (nI q))] [.int (bI t')] n (mh m w g) := by
      intro t' ht'
      refine r_istore_1 (by decide) rfl (q := 45) dX2_isPeace_44 rfl ?_
      refine r_inc_2 (by decide) rfl (q := 48) dX2_isPeace_45 rfl ?_
      refine r_goto (q := 4) dX2_isPeace_48 rfl ?_
      refine nx t' ?_
      rw [ht', ht]
      refine ⟨fun z a ha => ?_, fun z => ⟨fun a ha => z a (by omega), z q (Nat.lt_succ_self _)⟩⟩
      rcases Nat.lt_succ_iff_lt_or_eq.mp ha with y | y
      · exact z.1 a y
      · subst y; exact z.2
    refine r_iload_2 (q := 5) dX2_isPeace_4 rfl ?_
    refine r_aload_0 (q := 6) dX2_isPeace_5 rfl ?_
    refine m_getp gf_X2_68_2 K e (q := 9) dX2_isPeace_6 rfl ?_
    refine r_icmp_ge (q := 12) (tgt := 51) dX2_isPeace_9 rfl rfl (fun c9 => ?_) (fun c9 => ?_)
    · exact absurd c9 (nI_not_lt hq (by omega))
    refine r_iload_1 (q := 13) dX2_isPeace_12 rfl ?_
    refine r_if_eq (q := 16) (tgt := 43) dX2_isPeace_13 rfl rfl (fun c13 => ?_) (fun c13 => ?_)
    · have hf := bI_0.mp c13
      refine r_iconst 0 (by decide) (q := 44) dX2_isPeace_43 rfl ?_
      exact put false ⟨fun z => absurd z (by decide), fun z => by rw [hf] at z; exact absurd z.1 (by decide)⟩
    have htt := bI_n0.mp c13
    refine r_aload_0 (q := 17) dX2_isPeace_16 rfl ?_
    refine r_get gf_X2_19_2 mh_o rfl (q := 20) dX2_isPeace_17 rfl ?_
    refine r_iload_2 (q := 21) dX2_isPeace_20 rfl ?_
    refine m_ald4 K e (by omega) (q := 22) dX2_isPeace_21 rfl ?_
    cases em : mt T q with
    | none =>
      rw [em] at put
      refine r_if_lt (q := 25) (tgt := 39) dX2_isPeace_22 rfl rfl (fun c22 => ?_) (fun c22 => ?_)
      · refine r_iconst 1 (by decide) (q := 40) dX2_isPeace_39 rfl ?_
        refine r_goto (q := 44) dX2_isPeace_40 rfl ?_
        exact put true ⟨fun _ => ⟨htt, fun b z => by cases z⟩, fun _ => rfl⟩
      · exact absurd (by decide : mI none < 0) c22
    | some b =>
      have hb := K.mt6 em
      have hqr := K.qr99 q b
      refine r_if_lt (q := 25) (tgt := 39) dX2_isPeace_22 rfl rfl (fun c22 => ?_) (fun c22 => ?_)
      · exact absurd c22 (nI_pos (by omega))
      refine r_aload_0 (q := 26) dX2_isPeace_25 rfl ?_
      refine r_iload_2 (q := 27) dX2_isPeace_26 rfl ?_
      refine r_aload_0 (q := 28) dX2_isPeace_27 rfl ?_
      refine r_get gf_X2_19_2 mh_o rfl (q := 31) dX2_isPeace_28 rfl ?_
      refine r_iload_2 (q := 32) dX2_isPeace_31 rfl ?_
      refine m_ald4 K e (by omega) (q := 33) dX2_isPeace_32 rfl ?_
      refine J.topi (show mI (mt T q) = nI b by rw [em]; rfl) ?_
      refine r_callV_2 cv_X2_79 mh_o rfl (by decide) (Nat.le_of_ble_eq_true rfl) ⟨Nat.le_refl _, Nat.le_refl _⟩ (k_X2_quarrelOf K e (by omega) (by omega)) (q := 36) dX2_isPeace_33 rfl ?_
      rw [em] at put
      refine r_if_ne (q := 39) (tgt := 43) dX2_isPeace_36 rfl rfl (fun c36 => ?_) (fun c36 => ?_)
      · refine r_iconst 0 (by decide) (q := 44) dX2_isPeace_43 rfl ?_
        exact put false ⟨fun z => absurd z (by decide), fun z => absurd (by rw [z.2 b rfl]; rfl) c36⟩
      · have : qr T q b = 0 := nI_inj (b := 0) (by omega) (by omega) c36
        refine r_iconst 1 (by decide) (q := 40) dX2_isPeace_39 rfl ?_
        refine r_goto (q := 44) dX2_isPeace_40 rfl ?_
        exact put true ⟨fun _ => ⟨htt, fun b' z => by cases z; exact this⟩, fun _ => rfl⟩
theorem k_X2_peace (h : MR w σ) : Ct G yX2_peace cX2_peace 3 (some .int) 5 0 0 [.ref m] n (mh m w g) (MPo m n g (xpeaceS σ)) := by
  refine Ct.intro (k := 2) [some (.ref m), none, none] (by decide) (Nat.le_of_ble_eq_true rfl) rfl fun z hz hin => ?_
  obtain ⟨j, e, K⟩ := h.1
  unfold xpeaceS at hz
  refine r_aload_0 (q := 1) dX2_peace_0 rfl ?_
  refine r_iconst 0 (by decide) (q := 2) dX2_peace_1 rfl ?_
  refine r_put gf_X2_65_2 cl_ok_2 ft_2_7 mh_o (Nat.le_of_ble_eq_true rfl) rfl rfl (q := 5) dX2_peace_2 rfl ?_
  refine J.heap mset_f7 ?_
  refine r_bipush (-9) (by decide) (q := 7) dX2_peace_5 rfl ?_
  refine r_istore_1 (by decide) rfl (q := 8) dX2_peace_7 rfl ?_
  refine r_aload_0 (q := 9) dX2_peace_8 rfl ?_
  refine r_callVv_0 cv_X2_178 mh_o rfl (by decide) (Nat.le_of_ble_eq_true rfl) ⟨Nat.le_refl _, Nat.le_refl _⟩ (k_X2_think K e h.l11) (q := 12) dX2_peace_9 rfl ?_
  have stop : ∀ (v : Int32) (S : SQ) (k : Nat), OKM S j → v = zpe 100 0 σ.1 → J G z cX2_peace 3 RX2 5 0 0 0 0 52 [some (.ref m), some (.int v), some (.int (nI k))] [] n (mh m (sS (cw11 m (sf7 w 0) 1 (mS σ.1 j) (encS (mS σ.1 j)) 62) (mS S j)) g) := by
    intro v S k hS hv
    rw [← hv] at hz
    refine r_aload_0 (q := 53) dX2_peace_52 rfl ?_
    refine r_callVv_0 cv_X2_184 mh_o rfl (by decide) (Nat.le_of_ble_eq_true rfl) ⟨Nat.le_refl _, Nat.le_refl _⟩ (k_X2_againT K hS) (q := 56) dX2_peace_53 rfl ?_
    refine r_iload_1 (q := 57) dX2_peace_56 rfl ?_
    exact r_iret hz dX2_peace_57 (Nat.le_refl _) (Nat.le_refl _) (.of rfl ((h.th 0).fin e))
  have loop : ∀ (c k : Nat) (S : SQ), k + c = 100 → OKM S j → zpe c k S = zpe 100 0 σ.1 → J G z cX2_peace 3 RX2 5 0 0 0 0 14 [some (.ref m), some (.int (-9)), some (.int (nI k))] [] n (mh m (sS (cw11 m (sf7 w 0) 1 (mS σ.1 j) (encS (mS σ.1 j)) 62) (mS S j)) g) := by
    intro c
    induction c with
    | zero =>
      intro k S h1 h2 h3
      refine r_iload_2 (q := 15) dX2_peace_14 rfl ?_
      refine r_bipush 99 (by decide) (q := 17) dX2_peace_15 rfl ?_
      refine r_icmp_gt (q := 20) (tgt := 52) dX2_peace_17 rfl rfl (fun c17 => ?_) (fun c17 => ?_)
      · exact stop (-9) S k h2 h3
      · exact absurd (nI_lt (a := 99) (b := k) (by omega) (by omega)) c17
    | succ c ih =>
      intro k S h1 h2 h3
      have h3 : (if peaceS S = true then nI k else zpe c (k + 1) (goesS S)) = zpe 100 0 σ.1 := h3
      refine r_iload_2 (q := 15) dX2_peace_14 rfl ?_
      refine r_bipush 99 (by decide) (q := 17) dX2_peace_15 rfl ?_
      refine r_icmp_gt (q := 20) (tgt := 52) dX2_peace_17 rfl rfl (fun c17 => ?_) (fun c17 => ?_)
      · exact absurd c17 (nI_nlt (a := 99) (b := k) (by omega) (by omega))
      refine r_iload_1 (q := 21) dX2_peace_20 rfl ?_
      refine r_if_ge (q := 24) (tgt := 52) dX2_peace_21 rfl rfl (fun c21 => ?_) (fun c21 => ?_)
      · exact absurd c21 (by decide)
      refine r_aload_0 (q := 25) dX2_peace_24 rfl ?_
      refine r_callV_0 cv_X2_295 mh_o rfl (by decide) (Nat.le_of_ble_eq_true rfl) ⟨Nat.le_refl _, Nat.le_refl _⟩ (k_X2_isPeace h2 rfl) (q := 28) dX2_peace_25 rfl ?_
      refine r_if_eq (q := 31) (tgt := 35) dX2_peace_28 rfl rfl (fun c28 => ?_) (fun c28 => ?_)
      · rw [bI_0.mp c28, if_neg (by decide)] at h3
        refine r_bipush (-9) (by decide) (q := 37) dX2_peace_35 rfl ?_
        refine r_istore_1 (by decide) rfl (q := 38) dX2_peace_37 rfl ?_
        refine r_aload_0 (q := 39) dX2_peace_38 rfl ?_
        refine r_bipush (-9) (by decide) (q := 41) dX2_peace_39 rfl ?_
        refine r_bipush (-9) (by decide) (q := 43) dX2_peace_41 rfl ?_
        refine r_callVv_2 cv_X2_117 mh_o rfl (by decide) (Nat.le_of_ble_eq_true rfl) ⟨Nat.le_refl _, Nat.le_refl _⟩ (k_X2_day h2 rfl) (q := 46) dX2_peace_43 rfl ?_
        rw [sS_sS]
        refine r_inc_2 (by decide) rfl (q := 49) dX2_peace_46 rfl ?_
        refine r_goto (q := 14) dX2_peace_49 rfl ?_
        exact ih (k + 1) (goesS S) (by omega) h2.goes h3
      · rw [bI_n0.mp c28, if_pos rfl] at h3
        refine r_iload_2 (q := 32) dX2_peace_31 rfl ?_
        refine r_goto (q := 37) dX2_peace_32 rfl ?_
        refine r_istore_1 (by decide) rfl (q := 38) dX2_peace_37 rfl ?_
        refine r_aload_0 (q := 39) dX2_peace_38 rfl ?_
        refine r_bipush (-9) (by decide) (q := 41) dX2_peace_39 rfl ?_
        refine r_bipush (-9) (by decide) (q := 43) dX2_peace_41 rfl ?_
        refine r_callVv_2 cv_X2_117 mh_o rfl (by decide) (Nat.le_of_ble_eq_true rfl) ⟨Nat.le_refl _, Nat.le_refl _⟩ (k_X2_day h2 rfl) (q := 46) dX2_peace_43 rfl ?_
        rw [sS_sS]
        refine r_inc_2 (by decide) rfl (q := 49) dX2_peace_46 rfl ?_
        refine r_goto (q := 14) dX2_peace_49 rfl ?_
        refine r_iload_2 (q := 15) dX2_peace_14 rfl ?_
        refine r_bipush 99 (by decide) (q := 17) dX2_peace_15 rfl ?_
        refine r_icmp_gt (q := 20) (tgt := 52) dX2_peace_17 rfl rfl (fun c17 => ?_) (fun c17 => ?_)
        · exact stop _ _ _ h2.goes h3
        refine r_iload_1 (q := 21) dX2_peace_20 rfl ?_
        refine r_if_ge (q := 24) (tgt := 52) dX2_peace_21 rfl rfl (fun c21 => ?_) (fun c21 => ?_)
        · exact stop _ _ _ h2.goes h3
        · exact absurd (nI_pos' (by omega)) c21
  refine r_iconst 0 (by decide) (q := 13) dX2_peace_12 rfl ?_
  refine r_istore_2 (by decide) rfl (q := 14) dX2_peace_13 rfl ?_
  refine J.heap (h2 := mh m (sS (cw11 m (sf7 w 0) 1 (mS σ.1 j) (encS (mS σ.1 j)) 62) (mS σ.1 j)) g) rfl ?_
  exact loop 100 0 σ.1 rfl K rfl
theorem noHel_c {S : SQ} {p hr v : Int32} : noHel S p hr v = 0 ∨ isC (noHel S p hr v) := by
  unfold noHel
  split
  · exact wi_c _ _ _
  · exact Or.inr isC_1
theorem k_X2_helps {p hh v : Int32} (h : MR w σ) : Ct G yX2_helps cX2_helps 7 (some .int) 5 0 0 [.ref m, .int p, .int hh, .int v] n (mh m w g) (MPo m n g (helpsS σ p hh v)) := by
  refine Ct.intro (k := 3) [some (.ref m), some (.int p), some (.int hh), some (.int v), none, none, none] (by decide) (Nat.le_of_ble_eq_true rfl) rfl fun z hz hin => ?_
  obtain ⟨j, e, K⟩ := h.1
  have h6 := K.l6
  have fin : ∀ no : Int32, no = noHel σ.1 p hh v → J G z cX2_helps 7 RX2 5 0 0 0 0 36 [some (.ref m), some (.int p), some (.int hh), some (.int v), none, none, none] [.int no] n (mh m (sf7 w 0) g) := by
    intro no h1
    obtain ⟨q1, q2⟩ := no_ge (noHel_c (S := σ.1) (p := p) (hr := hh) (v := v))
    rw [h1]
    refine r_istore_4 (by decide) rfl (q := 38) dX2_helps_36 rfl ?_
    refine r_iload_4 (q := 40) dX2_helps_38 rfl ?_
    refine r_if_ge (q := 43) (tgt := 53) dX2_helps_40 rfl rfl (fun c40 => ?_) (fun c40 => ?_)
    · have h0 := q1 c40
      have h0' := h0
      unfold noHel at h0'
      split at h0'
      · rename_i hc
        obtain ⟨i, hi, rfl⟩ := isPer_t K.lens hc.1
        obtain ⟨t, ht, rfl⟩ := inI_n (k := 5) (by decide) hc.2
        obtain ⟨vv, hv, rfl⟩ := wi_n (k := 99) rfl (by decide) h0'
        have e0 : helpsS σ (nI i) (nI t) (nI vv) = (helS σ.1 i t vv, σ) := by
          unfold helpsS
          rw [if_pos h0, cl_nI (by omega), cl_nI (by omega), cl_nI (by omega)]
        rw [e0] at hz
        unfold helS at hz
        have h31 := K.hr31 i
        obtain ⟨y1, y2⟩ := hel_bit (hr σ.1 i) (by omega) t ht
        refine r_aload_0 (q := 54) dX2_helps_53 rfl ?_
        refine r_get gf_X2_19_2 mh_o rfl (q := 57) dX2_helps_54 rfl ?_
        refine r_iload_1 (q := 58) dX2_helps_57 rfl ?_
        refine m_ald4 K e (by omega) (q := 59) dX2_helps_58 rfl ?_
        cases em : mt σ.1 i with
        | none =>
          rw [em] at hz
          refine r_if_ge (q := 62) (tgt := 64) dX2_helps_59 rfl rfl (fun c59 => ?_) (fun c59 => ?_)
          · exact absurd c59 (by decide)
          · refine r_iconst 0 (by decide) (q := 63) dX2_helps_62 rfl ?_
            exact r_iret hz dX2_helps_63 (Nat.le_refl _) (Nat.le_refl _) (.of rfl (h.th 0))
        | some b =>
          rw [em] at hz
          have hb := K.mt6 em
          have K1 := K.days vv
          have m1 : mt (daysS vv σ.1) i = some b := by
            unfold mt at em ⊢
            rw [(daysS_fr vv σ.1).2.2]
            exact em
          have K2 : OKM (setH σ.1 i (hr σ.1 i ||| 2 ^ t)) j := K.of rfl (K.1.stH (by omega))
          have K3 := K2.days vv
          have m3 : mt (daysS vv (setH σ.1 i (hr σ.1 i ||| 2 ^ t))) i = some b := by
            unfold mt at em ⊢
            rw [(daysS_fr vv _).2.2]
            exact em
          refine r_if_ge (q := 62) (tgt := 64) dX2_helps_59 rfl rfl (fun c59 => ?_) (fun c59 => ?_)
          · refine r_aload_0 (q := 65) dX2_helps_64 rfl ?_
            refine r_callVv_0 cv_X2_178 mh_o rfl (by decide) (Nat.le_of_ble_eq_true rfl) ⟨Nat.le_refl _, Nat.le_refl _⟩ (k_X2_think K e h.l11) (q := 68) dX2_helps_65 rfl ?_
            refine r_aload_0 (q := 69) dX2_helps_68 rfl ?_
            refine r_iload_3 (q := 70) dX2_helps_69 rfl ?_
            refine r_callVv_1 cv_X2_172 mh_o rfl (by decide) (Nat.le_of_ble_eq_true rfl) ⟨Nat.le_refl _, Nat.le_refl _⟩ (k_X2_goDays K rfl (by omega)) (q := 73) dX2_helps_70 rfl ?_
            refine r_aload_0 (q := 74) dX2_helps_73 rfl ?_
            refine r_iload_1 (q := 75) dX2_helps_74 rfl ?_
            refine r_aload_0 (q := 76) dX2_helps_75 rfl ?_
            refine r_get gf_X2_19_2 mh_o rfl (q := 79) dX2_helps_76 rfl ?_
            refine r_iload_1 (q := 80) dX2_helps_79 rfl ?_
            refine m_ald4 K1 rfl (by omega) (q := 81) dX2_helps_80 rfl ?_
            refine J.topi (show mI (mt (daysS vv σ.1) i) = nI b by rw [m1]; rfl) ?_
            refine r_callV_2 cv_X2_79 mh_o rfl (by decide) (Nat.le_of_ble_eq_true rfl) ⟨Nat.le_refl _, Nat.le_refl _⟩ (k_X2_quarrelOf K1 rfl (by omega) (by omega)) (q := 84) dX2_helps_81 rfl ?_
            refine r_istore_5 (by decide) rfl (q := 86) dX2_helps_84 rfl ?_
            refine r_aload_0 (q := 87) dX2_helps_86 rfl ?_
            refine r_callVv_0 cv_X2_184 mh_o rfl (by decide) (Nat.le_of_ble_eq_true rfl) ⟨Nat.le_refl _, Nat.le_refl _⟩ (k_X2_againT K K1) (q := 90) dX2_helps_87 rfl ?_
            refine r_aload_0 (q := 91) dX2_helps_90 rfl ?_
            refine r_get gf_X2_16_2 mh_o rfl (q := 94) dX2_helps_91 rfl ?_
            refine r_iload_1 (q := 95) dX2_helps_94 rfl ?_
            refine r_dup2 rfl rfl (q := 96) dX2_helps_95 rfl ?_
            refine m_ald3 K rfl (by omega) (q := 97) dX2_helps_96 rfl ?_
            refine r_iconst 1 (by decide) (q := 98) dX2_helps_97 rfl ?_
            refine r_iload_2 (q := 99) dX2_helps_98 rfl ?_
            refine r_ishl (q := 100) dX2_helps_99 rfl ?_
            refine r_ior (q := 101) dX2_helps_100 rfl ?_
            refine J.topi y1 ?_
            refine m_ast3 K rfl (by omega) (q := 102) dX2_helps_101 rfl ?_
            refine r_aload_0 (q := 103) dX2_helps_102 rfl ?_
            refine r_iload_3 (q := 104) dX2_helps_103 rfl ?_
            refine r_callVv_1 cv_X2_172 mh_o rfl (by decide) (Nat.le_of_ble_eq_true rfl) ⟨Nat.le_refl _, Nat.le_refl _⟩ (k_X2_goDays K2 rfl (by omega)) (q := 107) dX2_helps_104 rfl ?_
            rw [sS_sS]
            refine r_aload_0 (q := 108) dX2_helps_107 rfl ?_
            refine r_iload_1 (q := 109) dX2_helps_108 rfl ?_
            refine r_aload_0 (q := 110) dX2_helps_109 rfl ?_
            refine r_get gf_X2_19_2 mh_o rfl (q := 113) dX2_helps_110 rfl ?_
            refine r_iload_1 (q := 114) dX2_helps_113 rfl ?_
            refine m_ald4 K3 rfl (by omega) (q := 115) dX2_helps_114 rfl ?_
            refine J.topi (show mI (mt (daysS vv (setH σ.1 i (hr σ.1 i ||| 2 ^ t))) i) = nI b by rw [m3]; rfl) ?_
            refine r_callV_2 cv_X2_79 mh_o rfl (by decide) (Nat.le_of_ble_eq_true rfl) ⟨Nat.le_refl _, Nat.le_refl _⟩ (k_X2_quarrelOf K3 rfl (by omega) (by omega)) (q := 118) dX2_helps_115 rfl ?_
            refine r_istore_6 (by decide) rfl (q := 120) dX2_helps_118 rfl ?_
            refine r_aload_0 (q := 121) dX2_helps_120 rfl ?_
            refine r_callVv_0 cv_X2_184 mh_o rfl (by decide) (Nat.le_of_ble_eq_true rfl) ⟨Nat.le_refl _, Nat.le_refl _⟩ (k_X2_again K rfl K3 rfl) (q := 124) dX2_helps_121 rfl ?_
            rw [cw11_sS, cw11_cw11]
            refine r_iload_5 (q := 126) dX2_helps_124 rfl ?_
            refine r_iload_6 (q := 128) dX2_helps_126 rfl ?_
            refine r_isub (q := 129) dX2_helps_128 rfl ?_
            exact r_iret hz dX2_helps_129 (Nat.le_refl _) (Nat.le_refl _) (.of rfl ((h.th 0).fin e))
          · exact absurd (nI_pos' (by omega)) c59
      · exact absurd h0' (by decide)
    · have hc := q2 c40
      have e0 : helpsS σ p hh v = (1000000000 - noHel σ.1 p hh v, rfS σ (noHel σ.1 p hh v)) := if_neg (isC_ne hc)
      rw [e0] at hz
      refine r_ldc q1327 (q := 45) dX2_helps_43 rfl ?_
      refine r_aload_0 (q := 46) dX2_helps_45 rfl ?_
      refine r_iload_4 (q := 48) dX2_helps_46 rfl ?_
      refine r_callV_1 cv_X2_128 mh_o rfl (by decide) (Nat.le_of_ble_eq_true rfl) ⟨Nat.le_refl _, Nat.le_refl _⟩ (k_X2_refuse hc (h.th 0).l6) (q := 51) dX2_helps_48 rfl ?_
      refine r_isub (q := 52) dX2_helps_51 rfl ?_
      exact r_iret hz dX2_helps_52 (Nat.le_refl _) (Nat.le_refl _) (.of rfl ((h.th 0).refuse _))
  have no : ¬(isPer σ.1 p = true ∧ inI hh 5 = true) → J G z cX2_helps 7 RX2 5 0 0 0 0 35 [some (.ref m), some (.int p), some (.int hh), some (.int v), none, none, none] [] n (mh m (sf7 w 0) g) := by
    intro hn
    refine r_iconst (-1) (by decide) (q := 36) dX2_helps_35 rfl ?_
    exact fin (-1) (by unfold noHel; rw [if_neg hn])
  refine r_aload_0 (q := 1) dX2_helps_0 rfl ?_
  refine r_iconst 0 (by decide) (q := 2) dX2_helps_1 rfl ?_
  refine r_put gf_X2_65_2 cl_ok_2 ft_2_7 mh_o (Nat.le_of_ble_eq_true rfl) rfl rfl (q := 5) dX2_helps_2 rfl ?_
  refine J.heap mset_f7 ?_
  refine r_aload_0 (q := 6) dX2_helps_5 rfl ?_
  refine r_iload_1 (q := 7) dX2_helps_6 rfl ?_
  refine r_callV_1 cv_X2_75 mh_o rfl (by decide) (Nat.le_of_ble_eq_true rfl) ⟨Nat.le_refl _, Nat.le_refl _⟩ (k_X2_isOne K e) (q := 10) dX2_helps_7 rfl ?_
  refine r_if_eq (q := 13) (tgt := 35) dX2_helps_10 rfl rfl (fun c10 => ?_) (fun c10 => ?_)
  · exact no (fun q => by rw [bI_0.mp c10] at q; exact absurd q.1 (by decide))
  refine r_iload_2 (q := 14) dX2_helps_13 rfl ?_
  refine r_i2l (q := 15) dX2_helps_14 rfl ?_
  refine r_lconst 0 (by decide) (q := 16) dX2_helps_15 rfl ?_
  refine r_ldc2 q1472 (q := 19) dX2_helps_16 rfl ?_
  refine r_callS_3 cs_X2_71 (by decide) (Nat.le_of_ble_eq_true rfl) ⟨Nat.le_refl _, Nat.le_refl _⟩ (k_X2_in32 (lo := 0) (hi := 4) (by decide) (by decide)) (q := 22) dX2_helps_19 rfl ?_
  rw [in_le' (hi := 4) (k := 4) (ub := 5) (by decide) rfl rfl]
  refine r_if_eq (q := 25) (tgt := 35) dX2_helps_22 rfl rfl (fun c22 => ?_) (fun c22 => ?_)
  · exact no (fun q => by rw [bI_0.mp c22] at q; exact absurd q.2 (by decide))
  · refine r_iload_3 (q := 26) dX2_helps_25 rfl ?_
    refine r_iconst 0 (by decide) (q := 27) dX2_helps_26 rfl ?_
    refine r_bipush 99 (by decide) (q := 29) dX2_helps_27 rfl ?_
    refine r_callS_3 cs_X2_217 (by decide) (Nat.le_of_ble_eq_true rfl) ⟨Nat.le_refl _, Nat.le_refl _⟩ (k_X2_wrongNumber) (q := 32) dX2_helps_29 rfl ?_
    refine r_goto (q := 36) dX2_helps_32 rfl ?_
    exact fin _ (by unfold noHel; rw [if_pos ⟨bI_n0.mp c10, bI_n0.mp c22⟩])
theorem k_X2_doubled (h : MR w σ) : Ct G yX2_doubled cX2_doubled 5 (some .int) 5 0 0 [.ref m] n (mh m w g) (MPo m n g (doubledS σ)) := by
  refine Ct.intro (k := 4) [some (.ref m), none, none, none, none] (by decide) (Nat.le_of_ble_eq_true rfl) rfl fun z hz hin => ?_
  obtain ⟨j, e, K⟩ := h.1
  unfold doubledS at hz
  refine r_aload_0 (q := 1) dX2_doubled_0 rfl ?_
  refine r_iconst 0 (by decide) (q := 2) dX2_doubled_1 rfl ?_
  refine r_put gf_X2_65_2 cl_ok_2 ft_2_7 mh_o (Nat.le_of_ble_eq_true rfl) rfl rfl (q := 5) dX2_doubled_2 rfl ?_
  refine J.heap mset_f7 ?_
  refine r_iconst 0 (by decide) (q := 6) dX2_doubled_5 rfl ?_
  refine r_istore_1 (by decide) rfl (q := 7) dX2_doubled_6 rfl ?_
  refine r_iconst (-1) (by decide) (q := 8) dX2_doubled_7 rfl ?_
  refine r_istore_2 (by decide) rfl (q := 9) dX2_doubled_8 rfl ?_
  refine r_aload_0 (q := 10) dX2_doubled_9 rfl ?_
  refine r_callVv_0 cv_X2_178 mh_o rfl (by decide) (Nat.le_of_ble_eq_true rfl) ⟨Nat.le_refl _, Nat.le_refl _⟩ (k_X2_think K e h.l11) (q := 13) dX2_doubled_10 rfl ?_
  refine r_iconst 0 (by decide) (q := 14) dX2_doubled_13 rfl ?_
  refine r_istore_3 (by decide) rfl (q := 15) dX2_doubled_14 rfl ?_
  have pos : ∀ hh, 0 ≤ allS (dblS hh 9 σ.1) := fun hh => by
    have k := (OKM.dbl hh 9 K).1
    rw [allS_N]
    have := allN_le k.1 k.2.1
    exact nI_pos' (by omega)
  have run : ∀ (hh : Nat) (tk x1 x2 : Int32) (o4 : Option Value), hh < 5 → (∀ (by9 : Int32), by9 = allS (dblS hh 9 σ.1) → J G z cX2_doubled 5 RX2 5 0 0 0 0 53 [some (.ref m), some (.int x1), some (.int x2), some (.int (nI hh)), some (.int by9)] [] n (mh m (cw11 m (sf7 w 0) 0 (mS σ.1 j) (encS (mS σ.1 j)) 62) g)) → J G z cX2_doubled 5 RX2 5 0 0 0 0 20 [some (.ref m), some (.int x1), some (.int x2), some (.int (nI hh)), o4] [] n (mh m (cw11 m (sf7 w 0) tk (mS σ.1 j) (encS (mS σ.1 j)) 62) g) := by
    intro hh tk x1 x2 o4 h5 next
    refine r_iconst 0 (by decide) (q := 21) dX2_doubled_20 rfl ?_
    refine r_istore_4 (by decide) rfl (q := 23) dX2_doubled_21 rfl ?_
    refine J.heap (h2 := mh m (sS (cw11 m (sf7 w 0) tk (mS σ.1 j) (encS (mS σ.1 j)) 62) (mS σ.1 j)) g) rfl ?_
    have loop : ∀ (c k : Nat) (S : SQ), k + c = 9 → OKM S j → dblS hh c S = dblS hh 9 σ.1 → J G z cX2_doubled 5 RX2 5 0 0 0 0 23 [some (.ref m), some (.int x1), some (.int x2), some (.int (nI hh)), some (.int (nI k))] [] n (mh m (sS (cw11 m (sf7 w 0) tk (mS σ.1 j) (encS (mS σ.1 j)) 62) (mS S j)) g) := by
      intro c
      induction c with
      | zero =>
        intro k S h1 h2 h3
        have h1 : k = 9 := h1
        subst h1
        have h3 : S = dblS hh 9 σ.1 := h3
        refine r_iload_4 (q := 25) dX2_doubled_23 rfl ?_
        refine r_bipush 9 (by decide) (q := 27) dX2_doubled_25 rfl ?_
        refine r_icmp_ge (q := 30) (tgt := 43) dX2_doubled_27 rfl rfl (fun c27 => ?_) (fun c27 => ?_)
        · refine r_aload_0 (q := 44) dX2_doubled_43 rfl ?_
          refine r_callV_0 cv_X2_226 mh_o rfl (by decide) (Nat.le_of_ble_eq_true rfl) ⟨Nat.le_refl _, Nat.le_refl _⟩ (k_X2_allOf h2 rfl) (q := 47) dX2_doubled_44 rfl ?_
          refine r_istore_4 (by decide) rfl (q := 49) dX2_doubled_47 rfl ?_
          refine r_aload_0 (q := 50) dX2_doubled_49 rfl ?_
          refine r_callVv_0 cv_X2_184 mh_o rfl (by decide) (Nat.le_of_ble_eq_true rfl) ⟨Nat.le_refl _, Nat.le_refl _⟩ (k_X2_again K rfl h2 rfl) (q := 53) dX2_doubled_50 rfl ?_
          rw [cw11_sS, cw11_cw11]
          exact next _ (by rw [h3])
        · exact absurd (by decide : (9 : Int32) ≤ nI 9) c27
      | succ c ih =>
        intro k S h1 h2 h3
        have kd := k_X2_dayBy (G := G) (n := n) (m := m) (g := g) (w := sS (cw11 m (sf7 w 0) tk (mS σ.1 j) (encS (mS σ.1 j)) 62) (mS S j)) (ab := none) (tw := some hh) h2 rfl (fun _ q => by cases q) (fun _ q => by cases q; omega)
        rw [dayM_twice hh h2.1, sS_sS] at kd
        refine r_iload_4 (q := 25) dX2_doubled_23 rfl ?_
        refine r_bipush 9 (by decide) (q := 27) dX2_doubled_25 rfl ?_
        refine r_icmp_ge (q := 30) (tgt := 43) dX2_doubled_27 rfl rfl (fun c27 => ?_) (fun c27 => ?_)
        · exact absurd c27 (nI_ge (b := 9) (by omega) (by omega))
        refine r_aload_0 (q := 31) dX2_doubled_30 rfl ?_
        refine r_bipush (-9) (by decide) (q := 33) dX2_doubled_31 rfl ?_
        refine r_iload_3 (q := 34) dX2_doubled_33 rfl ?_
        refine r_callVv_2 cv_X2_117 mh_o rfl (by decide) (Nat.le_of_ble_eq_true rfl) ⟨Nat.le_refl _, Nat.le_refl _⟩ kd (q := 37) dX2_doubled_34 rfl ?_
        refine r_inc_4 (by decide) rfl (q := 40) dX2_doubled_37 rfl ?_
        refine r_goto (q := 23) dX2_doubled_40 rfl ?_
        exact ih (k + 1) _ (by omega) (h2.goes.hour hh) h3
    exact loop 9 0 σ.1 rfl K rfl
  have upd : ∀ (hh b : Nat) (x2 by9 : Int32), hh < 5 → b < 5 → (x2 = -1 ∧ hh = 0 ∧ b = 0 ∨ x2 = allS (dblS b 9 σ.1) ∧ 0 < hh) → by9 = allS (dblS hh 9 σ.1) → (∀ b' : Nat, b' = (if hh = 0 then 0 else dobF σ.1 hh b) → b' < 5 → J G z cX2_doubled 5 RX2 5 0 0 0 0 15 [some (.ref m), some (.int (nI b')), some (.int (allS (dblS b' 9 σ.1))), some (.int (nI (hh + 1))), some (.int by9)] [] n (mh m (cw11 m (sf7 w 0) 0 (mS σ.1 j) (encS (mS σ.1 j)) 62) g)) → J G z cX2_doubled 5 RX2 5 0 0 0 0 53 [some (.ref m), some (.int (nI b)), some (.int x2), some (.int (nI hh)), some (.int by9)] [] n (mh m (cw11 m (sf7 w 0) 0 (mS σ.1 j) (encS (mS σ.1 j)) 62) g) := by
    intro hh b x2 by9 h5 hb5 hx hby next
    have take : (if hh = 0 then 0 else dobF σ.1 hh b) = hh → x2 < 0 ∨ by9 < x2 → J G z cX2_doubled 5 RX2 5 0 0 0 0 63 [some (.ref m), some (.int (nI b)), some (.int x2), some (.int (nI hh)), some (.int by9)] [] n (mh m (cw11 m (sf7 w 0) 0 (mS σ.1 j) (encS (mS σ.1 j)) 62) g) := by
      intro he hc
      have nx := next hh he.symm h5
      rw [← hby] at nx
      have out : J G z cX2_doubled 5 RX2 5 0 0 0 0 79 [some (.ref m), some (.int (nI hh)), some (.int x2), some (.int (nI hh)), some (.int by9)] [] n (mh m (cw11 m (sf7 w 0) 0 (mS σ.1 j) (encS (mS σ.1 j)) 62) g) := by
        refine r_iload_4 (q := 81) dX2_doubled_79 rfl ?_
        refine r_goto (q := 85) dX2_doubled_81 rfl ?_
        refine r_istore_2 (by decide) rfl (q := 86) dX2_doubled_85 rfl ?_
        refine r_inc_3 (by decide) rfl (q := 89) dX2_doubled_86 rfl ?_
        refine r_goto (q := 15) dX2_doubled_89 rfl ?_
        exact nx
      refine r_iload_3 (q := 64) dX2_doubled_63 rfl ?_
      refine r_goto (q := 68) dX2_doubled_64 rfl ?_
      refine r_istore_1 (by decide) rfl (q := 69) dX2_doubled_68 rfl ?_
      refine r_iload_2 (q := 70) dX2_doubled_69 rfl ?_
      refine r_if_lt (q := 73) (tgt := 79) dX2_doubled_70 rfl rfl (fun c70 => ?_) (fun c70 => ?_)
      · exact out
      refine r_iload_4 (q := 75) dX2_doubled_73 rfl ?_
      refine r_iload_2 (q := 76) dX2_doubled_75 rfl ?_
      refine r_icmp_ge (q := 79) (tgt := 84) dX2_doubled_76 rfl rfl (fun c76 => ?_) (fun c76 => ?_)
      · rcases hc with z | z
        · exact absurd z c70
        · exact absurd z (Int32.not_lt.mpr c76)
      · exact out
    refine r_iload_2 (q := 54) dX2_doubled_53 rfl ?_
    rcases hx with ⟨z1, z2, z3⟩ | ⟨z1, z2⟩
    · refine r_if_lt (q := 57) (tgt := 63) dX2_doubled_54 rfl rfl (fun c54 => ?_) (fun c54 => ?_)
      · exact take (by rw [if_pos z2, z2]) (Or.inl c54)
      · exact absurd (by rw [z1]; decide) c54
    · have p0 := pos b
      refine r_if_lt (q := 57) (tgt := 63) dX2_doubled_54 rfl rfl (fun c54 => ?_) (fun c54 => ?_)
      · rw [z1] at c54
        exact absurd c54 (Int32.not_lt.mpr p0)
      refine r_iload_4 (q := 59) dX2_doubled_57 rfl ?_
      refine r_iload_2 (q := 60) dX2_doubled_59 rfl ?_
      refine r_icmp_ge (q := 63) (tgt := 67) dX2_doubled_60 rfl rfl (fun c60 => ?_) (fun c60 => ?_)
      · have he : (if hh = 0 then 0 else dobF σ.1 hh b) = b := by
          rw [if_neg (by omega)]
          unfold dobF
          rw [← hby, ← z1]
          exact if_neg (Int32.not_lt.mpr c60)
        have nx := next b he.symm hb5
        rw [← z1] at nx
        refine r_iload_1 (q := 68) dX2_doubled_67 rfl ?_
        refine r_istore_1 (by decide) rfl (q := 69) dX2_doubled_68 rfl ?_
        refine r_iload_2 (q := 70) dX2_doubled_69 rfl ?_
        refine r_if_lt (q := 73) (tgt := 79) dX2_doubled_70 rfl rfl (fun c70 => ?_) (fun c70 => ?_)
        · exact absurd c70 c54
        refine r_iload_4 (q := 75) dX2_doubled_73 rfl ?_
        refine r_iload_2 (q := 76) dX2_doubled_75 rfl ?_
        refine r_icmp_ge (q := 79) (tgt := 84) dX2_doubled_76 rfl rfl (fun c76 => ?_) (fun c76 => ?_)
        · refine r_iload_2 (q := 85) dX2_doubled_84 rfl ?_
          refine r_istore_2 (by decide) rfl (q := 86) dX2_doubled_85 rfl ?_
          refine r_inc_3 (by decide) rfl (q := 89) dX2_doubled_86 rfl ?_
          refine r_goto (q := 15) dX2_doubled_89 rfl ?_
          exact nx
        · exact absurd c60 c76
      · refine take ?_ (Or.inr (Int32.not_le.mp c60))
        rw [if_neg (by omega)]
        unfold dobF
        rw [← hby, ← z1]
        exact if_pos (Int32.not_le.mp c60)
  have head : ∀ (hh : Nat) (tk x1 x2 : Int32) (o4 : Option Value), hh < 5 → J G z cX2_doubled 5 RX2 5 0 0 0 0 20 [some (.ref m), some (.int x1), some (.int x2), some (.int (nI hh)), o4] [] n (mh m (cw11 m (sf7 w 0) tk (mS σ.1 j) (encS (mS σ.1 j)) 62) g) → J G z cX2_doubled 5 RX2 5 0 0 0 0 15 [some (.ref m), some (.int x1), some (.int x2), some (.int (nI hh)), o4] [] n (mh m (cw11 m (sf7 w 0) tk (mS σ.1 j) (encS (mS σ.1 j)) 62) g) := by
    intro hh tk x1 x2 o4 h5 next
    refine r_iload_3 (q := 16) dX2_doubled_15 rfl ?_
    refine r_iconst 5 (by decide) (q := 17) dX2_doubled_16 rfl ?_
    refine r_icmp_ge (q := 20) (tgt := 92) dX2_doubled_17 rfl rfl (fun c17 => ?_) (fun c17 => ?_)
    · exact absurd c17 (nI_ge (b := 5) h5 (by omega))
    · exact next
  refine head 0 1 (nI 0) (-1) none (by decide) (run 0 1 (nI 0) (-1) none (by decide) (fun by9 hby => upd 0 0 (-1) by9 (by decide) (by decide) (Or.inl ⟨rfl, rfl, rfl⟩) hby (fun b' hb' _ => ?_)))
  rw [if_pos rfl] at hb'
  rw [hb']
  refine forJ (f := dobF σ.1) (σ := Nat) 5 (fun b => b < 5) (fun a b => ∀ o4 : Option Value, J G z cX2_doubled 5 RX2 5 0 0 0 0 15 [some (.ref m), some (.int (nI b)), some (.int (allS (dblS b 9 σ.1))), some (.int (nI a)), o4] [] n (mh m (cw11 m (sf7 w 0) 0 (mS σ.1 j) (encS (mS σ.1 j)) 62) g)) (a0 := 1) (s0 := 0) (by decide) (by decide) (fun b _ hs o4 => ?_) (fun a b h1 ha hb => ⟨by unfold dobF; split <;> omega, fun next o4 => ?_⟩) _
  · have hs : b = doubS σ.1 := hs
    rw [← hs] at hz
    refine r_iload_3 (q := 16) dX2_doubled_15 rfl ?_
    refine r_iconst 5 (by decide) (q := 17) dX2_doubled_16 rfl ?_
    refine r_icmp_ge (q := 20) (tgt := 92) dX2_doubled_17 rfl rfl (fun c17 => ?_) (fun c17 => ?_)
    · refine r_iload_1 (q := 93) dX2_doubled_92 rfl ?_
      exact r_iret hz dX2_doubled_93 (Nat.le_refl _) (Nat.le_refl _) (.of rfl ((h.th 0).cn e 0))
    · exact absurd (by decide : (5 : Int32) ≤ nI 5) c17
  · refine head a 0 _ _ o4 ha (run a 0 _ _ o4 ha (fun by9 hby => upd a b _ by9 ha hb (Or.inr ⟨rfl, by omega⟩) hby (fun b' hb' _ => ?_)))
    rw [if_neg (by omega)] at hb'
    rw [hb']
    exact next _
theorem k_X2_drawBelow {k : Nat} (hk : 0 < k) (hk6 : k ≤ 6) : CtE G yX2_drawBelow cX2_drawBelow 2 (some FieldType.int) 1 [.ref m, .int (nI k)] n (mh m w g) (some (.int (drawS (seedS (mf32 w)) k))) (mh m (sf32 w (seedS (mf32 w))) g) := by
  refine Ct.intro (k := 0) [some (.ref m), some (.int (nI k))] (by decide) (Nat.le_of_ble_eq_true rfl) rfl fun z hz hin => ?_
  refine r_aload_0 (q := 1) dX2_drawBelow_0 rfl ?_
  refine r_aload_0 (q := 2) dX2_drawBelow_1 rfl ?_
  refine r_get gf_X2_301_2 mh_o rfl (q := 5) dX2_drawBelow_2 rfl ?_
  refine r_ldcw q1497 (q := 8) dX2_drawBelow_5 rfl ?_
  refine r_imul (q := 9) dX2_drawBelow_8 rfl ?_
  refine r_sipush 12345 (by decide) (q := 12) dX2_drawBelow_9 rfl ?_
  refine r_iadd (q := 13) dX2_drawBelow_12 rfl ?_
  refine r_put gf_X2_301_2 cl_ok_2 ft_2_32 mh_o (Nat.le_of_ble_eq_true rfl) rfl rfl (q := 16) dX2_drawBelow_13 rfl ?_
  refine J.heap mset_f32 ?_
  refine r_aload_0 (q := 17) dX2_drawBelow_16 rfl ?_
  refine r_get gf_X2_301_2 mh_o rfl (q := 20) dX2_drawBelow_17 rfl ?_
  refine r_ldcw q1498 (q := 23) dX2_drawBelow_20 rfl ?_
  refine r_iand (q := 24) dX2_drawBelow_23 rfl ?_
  refine r_ldcw q1499 (q := 27) dX2_drawBelow_24 rfl ?_
  refine r_idiv (by decide) (q := 28) dX2_drawBelow_27 rfl ?_
  refine r_iload_1 (q := 29) dX2_drawBelow_28 rfl ?_
  refine r_irem (nI_ne0 hk (by omega)) (q := 30) dX2_drawBelow_29 rfl ?_
  exact r_iret hz dX2_drawBelow_30 (Nat.le_refl _) (Nat.le_refl _) ⟨rfl, rfl, rfl⟩
end MO6


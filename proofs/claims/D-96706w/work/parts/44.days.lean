/-! ===== a day ===== -/
theorem soft_le : ∀ k, k < 6 → ∀ f, f < 10 → softN k f ≤ 4 := by decide +kernel
theorem sore_le : ∀ k, k < 6 → ∀ f, f < 10 → soreN k f ≤ 3 := by decide +kernel
theorem charm_le : ∀ k, k < 6 → ∀ f, f < 10 → charmN k f ≤ 13 := by decide +kernel
theorem mx_ok : ∀ v, v < 100 → ∀ a, a < 5 → ∀ b, b < 5 → (if (0 : Int32) < nI v - nI a - nI b then nI v - nI a - nI b else 0) = nI (v - a - b) := by decide +kernel
theorem mn_ok : ∀ v, v < 100 → ∀ a, a < 4 → (if nI v + nI a < (99 : Int32) then nI v + nI a else 99) = nI (min 99 (v + a)) := by decide +kernel
/-- a quarrel behind an hour, by the hours of both -/
def kn (ha hb' : Nat) (pa pb : PP) (h v : Nat) : Nat :=
  if hbt ha h && hbt hb' h then v - softN pa.1 pa.2 - softN pb.1 pb.2 else if hbt ha h then min 99 (v + soreN pa.1 pa.2) else if hbt hb' h then min 99 (v + soreN pb.1 pb.2) else v
theorem kn_le {ha hb' : Nat} {pa pb : PP} {h v : Nat} (hv : v ≤ 99) : kn ha hb' pa pb h v ≤ 99 := by
  unfold kn
  split
  · omega
  · split
    · omega
    · split <;> omega
def hourStep (h : Nat) (a : Nat) (S : SQ) : SQ := match mt S a with
  | some b => if a < b then setQr S a b (kn (hr S a) (hr S b) (pr S a) (pr S b) h (qr S a b)) else S
  | none => S
def hourS (h : Nat) (S : SQ) : SQ := forR (hourStep h) 0 S.1.length S
def goesS (S : SQ) : SQ := forR hourS 0 5 (setD S (S.2.2.2.2 + 1))
/-- k days -/
def daysS : Nat → SQ → SQ
  | 0, S => S
  | k + 1, S => daysS k (goesS S)
theorem vals_setQ1 {S : SQ} {k v : Nat} (h : ValS S) (hv : v ≤ 99) : ValS (setQ1 S k v) := ⟨h.1, h.2.1, fun x hx => by
  rcases List.mem_or_eq_of_mem_set hx with h1 | h1
  · exact h.2.2 x h1
  · rw [h1]; exact hv⟩
theorem vals_setQr {S : SQ} {a b v : Nat} (h : ValS S) (hv : v ≤ 99) : ValS (setQr S a b v) := vals_setQ1 (vals_setQ1 h hv) hv
theorem vals_setH {S : SQ} {a v : Nat} (h : ValS S) (hv : v ≤ 31) : ValS (setH S a v) := ⟨h.1, fun x hx => by
  rcases List.mem_or_eq_of_mem_set hx with h1 | h1
  · exact h.2.1 x h1
  · rw [h1]; exact hv, h.2.2⟩
/-- what Quarter's methods ask -/
def QK (q : Nat) (S : SQ) (pp : List Nat) (mc : Int32) (g : RH) : Prop := LenS S ∧ ValS S ∧ MatI S ∧ PG (qh q (S, pp, mc) g) pp S.1
theorem QK.of {q : Nat} {S S' : SQ} {pp : List Nat} {mc mc' : Int32} {g : RH} (h : QK q S pp mc g) (h1 : S'.1 = S.1) (hL : LenS S') (hV : ValS S') (hI : MatI S') : QK q S' pp mc' g := ⟨hL, hV, hI, by rw [h1]; exact h.2.2.2.moved h.2.1.1⟩
theorem hourStep_fr (h a : Nat) (S : SQ) : (hourStep h a S).1 = S.1 ∧ (hourStep h a S).2.1 = S.2.1 ∧ (hourStep h a S).2.2.1 = S.2.2.1 ∧ (hourStep h a S).2.2.2.2 = S.2.2.2.2 := by
  unfold hourStep
  split
  · split
    · exact ⟨rfl, rfl, rfl, rfl⟩
    · exact ⟨rfl, rfl, rfl, rfl⟩
  · exact ⟨rfl, rfl, rfl, rfl⟩
theorem MatI.of {S S' : SQ} (h : MatI S) (h1 : S'.1 = S.1) (h2 : S'.2.2.1 = S.2.2.1) : MatI S' := by
  intro a ha b hb
  rw [h1] at ha ⊢
  unfold mt at hb
  rw [h2] at hb
  exact h a ha b hb
theorem hourStep_lens {h a : Nat} {S : SQ} (hL : LenS S) : LenS (hourStep h a S) := by
  unfold hourStep
  split
  · split
    · exact lens_setQr hL
    · exact hL
  · exact hL
theorem hourStep_vals {h a : Nat} {S : SQ} (hV : ValS S) : ValS (hourStep h a S) := by
  unfold hourStep
  split
  · split
    · exact vals_setQr hV (kn_le (vs_qr hV _ _))
    · exact hV
  · exact hV
theorem QK.hourStep {q : Nat} {S : SQ} {pp : List Nat} {mc : Int32} {g : RH} {h a : Nat} (k : QK q S pp mc g) : QK q (hourStep h a S) pp mc g :=
  k.of (hourStep_fr h a S).1 (hourStep_lens k.1) (hourStep_vals k.2.1) (k.2.2.1.of (hourStep_fr h a S).1 (hourStep_fr h a S).2.2.1)
/-- what a fold of steps keeps -/
theorem forR_inv {σ : Type} {f : Nat → σ → σ} (I : σ → Prop) (hs : ∀ j s, I s → I (f j s)) : ∀ (c i : Nat) (s : σ), I s → I (forR f i c s)
  | 0, _, _, h => h
  | c + 1, i, s, h => forR_inv I hs c (i + 1) (f i s) (hs i s h)
/-- the parts of a quarter that days don't touch -/
def fr4 (S S' : SQ) : Prop := S'.1 = S.1 ∧ S'.2.1 = S.2.1 ∧ S'.2.2.1 = S.2.2.1
theorem fr4.trans {A B C : SQ} (h : fr4 A B) (k : fr4 B C) : fr4 A C := ⟨k.1.trans h.1, k.2.1.trans h.2.1, k.2.2.trans h.2.2⟩
theorem hourS_fr (h : Nat) (S : SQ) : fr4 S (hourS h S) := forR_inv (fun S' => fr4 S S') (fun j s k => k.trans ⟨(hourStep_fr h j s).1, (hourStep_fr h j s).2.1, (hourStep_fr h j s).2.2.1⟩) _ _ _ ⟨rfl, rfl, rfl⟩
theorem goesS_fr (S : SQ) : fr4 S (goesS S) := forR_inv (fun S' => fr4 S S') (fun j s k => k.trans (hourS_fr j s)) _ _ _ ⟨rfl, rfl, rfl⟩
theorem hourS_lens {h : Nat} {S : SQ} (hL : LenS S) : LenS (hourS h S) := forR_inv LenS (fun _ _ k => hourStep_lens k) _ _ _ hL
theorem hourS_vals {h : Nat} {S : SQ} (hV : ValS S) : ValS (hourS h S) := forR_inv ValS (fun _ _ k => hourStep_vals k) _ _ _ hV
theorem goesS_lens {S : SQ} (hL : LenS S) : LenS (goesS S) := forR_inv LenS (fun _ _ k => hourS_lens k) _ _ _ (lens_setD hL)
theorem goesS_vals {S : SQ} (hV : ValS S) : ValS (goesS S) := forR_inv ValS (fun _ _ k => hourS_vals k) _ _ _ hV
theorem QK.hourS {q : Nat} {S : SQ} {pp : List Nat} {mc : Int32} {g : RH} {h : Nat} (k : QK q S pp mc g) : QK q (hourS h S) pp mc g := k.of (hourS_fr h S).1 (hourS_lens k.1) (hourS_vals k.2.1) (k.2.2.1.of (hourS_fr h S).1 (hourS_fr h S).2.2)
theorem QK.goesS {q : Nat} {S : SQ} {pp : List Nat} {mc : Int32} {g : RH} (k : QK q S pp mc g) : QK q (goesS S) pp mc g := k.of (goesS_fr S).1 (goesS_lens k.1) (goesS_vals k.2.1) (k.2.2.1.of (goesS_fr S).1 (goesS_fr S).2.2)
theorem QK.setD {q : Nat} {S : SQ} {pp : List Nat} {mc : Int32} {g : RH} {v : Nat} (k : QK q S pp mc g) : QK q (setD S v) pp mc g := k.of rfl k.1 k.2.1 k.2.2.1
theorem QK.daysS {q : Nat} {pp : List Nat} {mc : Int32} {g : RH} : ∀ (c : Nat) {S : SQ}, QK q S pp mc g → QK q (daysS c S) pp mc g
  | 0, _, k => k
  | c + 1, _, k => QK.daysS c k.goesS
section DM
variable {G : GD} {n : Nat} {q : Nat} {S : SQ} {pp : List Nat} {mc : Int32} {g : RH}
theorem k_X1_kneel {a b h : Nat} (k : QK q S pp mc g) (ha : a < S.1.length) (hb : b < S.1.length) (hh : h < 8) : CtE G yX1_kneel cX1_kneel 7 none 5 [.ref q, .int (nI a), .int (nI b), .int (nI h)] n (qh q (S, pp, mc) g) none (qh q (setQr S a b (kn (hr S a) (hr S b) (pr S a) (pr S b) h (qr S a b)), pp, mc) g) := by
  refine Ct.intro (k := 3) [some (.ref q), some (.int (nI a)), some (.int (nI b)), some (.int (nI h)), none, none, none] (by decide) (Nat.le_of_ble_eq_true rfl) rfl fun z hz hin => ?_
  obtain ⟨hL, hV, hI, hP⟩ := k
  have h6 := hL.1
  have e1 := vs_hr hV a
  have e2 := vs_hr hV b
  have e3 := vs_qr hV a b
  have pa := vs_pr hV ha
  have pb := vs_pr hV hb
  refine r_aload_0 (q := 1) dX1_kneel_0 rfl ?_
  refine r_get gf_X1_20_1 qh_o rfl (q := 4) dX1_kneel_1 rfl ?_
  refine r_iload_1 (q := 5) dX1_kneel_4 rfl ?_
  refine r_ialdN a 6 qh_h hL.2.1 rfl (by omega) (by decide) (q := 6) dX1_kneel_5 rfl ?_
  refine r_iload_3 (q := 7) dX1_kneel_6 rfl ?_
  refine r_callSN_2 csn_X1_71 (by decide) (Nat.le_of_ble_eq_true rfl) ⟨Nat.le_refl _, Nat.le_refl _⟩ (k_X0_has (m := hr S a) (by omega) hh) (q := 10) dX1_kneel_7 rfl ?_
  refine r_istore_4 (by decide) rfl (q := 12) dX1_kneel_10 rfl ?_
  refine r_aload_0 (q := 13) dX1_kneel_12 rfl ?_
  refine r_get gf_X1_20_1 qh_o rfl (q := 16) dX1_kneel_13 rfl ?_
  refine r_iload_2 (q := 17) dX1_kneel_16 rfl ?_
  refine r_ialdN b 6 qh_h hL.2.1 rfl (by omega) (by decide) (q := 18) dX1_kneel_17 rfl ?_
  refine r_iload_3 (q := 19) dX1_kneel_18 rfl ?_
  refine r_callSN_2 csn_X1_71 (by decide) (Nat.le_of_ble_eq_true rfl) ⟨Nat.le_refl _, Nat.le_refl _⟩ (k_X0_has (m := hr S b) (by omega) hh) (q := 22) dX1_kneel_19 rfl ?_
  refine r_istore_5 (by decide) rfl (q := 24) dX1_kneel_22 rfl ?_
  refine r_aload_0 (q := 25) dX1_kneel_24 rfl ?_
  refine r_iload_1 (q := 26) dX1_kneel_25 rfl ?_
  refine r_iload_2 (q := 27) dX1_kneel_26 rfl ?_
  refine r_callV_2 cv_X1_75 qh_o rfl (by decide) (Nat.le_of_ble_eq_true rfl) ⟨Nat.le_refl _, Nat.le_refl _⟩ (k_X1_between hL (by omega) (by omega)) (q := 30) dX1_kneel_27 rfl ?_
  refine r_istore_6 (by decide) rfl (q := 32) dX1_kneel_30 rfl ?_
  have fin : ∀ v : Nat, v = kn (hr S a) (hr S b) (pr S a) (pr S b) h (qr S a b) → ∀ x y : Int32, J G z cX1_kneel 7 RX1 5 0 0 0 0 108 [some (.ref q), some (.int (nI a)), some (.int (nI b)), some (.int (nI h)), some (.int x), some (.int y), some (.int (nI v))] [] n (qh q (S, pp, mc) g) := by
    intro v hv x y
    subst hv
    refine r_aload_0 (q := 109) dX1_kneel_108 rfl ?_
    refine r_iload_1 (q := 110) dX1_kneel_109 rfl ?_
    refine r_iload_2 (q := 111) dX1_kneel_110 rfl ?_
    refine r_iload_6 (q := 113) dX1_kneel_111 rfl ?_
    refine r_callVv_3 cv_X1_64 qh_o rfl (by decide) (Nat.le_of_ble_eq_true rfl) ⟨Nat.le_refl _, Nat.le_refl _⟩ (k_X1_quarrels hL (by omega) (by omega)) (q := 116) dX1_kneel_113 rfl ?_
    exact r_vret hz dX1_kneel_116 (Nat.le_refl _) (Nat.le_refl _) ⟨rfl, rfl, rfl⟩
  have sc : ∀ (v : Nat) (p : PP) (c : Nat) (x y : Int32), p.1 < 6 → p.2 < 10 → c < S.1.length → pr S c = p → v ≤ 99 → min 99 (v + soreN p.1 p.2) = kn (hr S a) (hr S b) (pr S a) (pr S b) h (qr S a b) → J G z cX1_kneel 7 RX1 5 0 0 0 0 96 [some (.ref q), some (.int (nI a)), some (.int (nI b)), some (.int (nI h)), some (.int x), some (.int y), some (.int (nI v))] [.int (nI c), .ref q, .int (nI v), .int 99] n (qh q (S, pp, mc) g) := by
    intro v p c x y p1 p2 hc hp hv he
    refine r_callV_1 cv_X1_37 qh_o rfl (by decide) (Nat.le_of_ble_eq_true rfl) ⟨Nat.le_refl _, Nat.le_refl _⟩ (k_X1_person hL hV hP hc) (q := 99) dX1_kneel_96 rfl ?_
    subst hp
    refine r_sore_X1 p1 p2 (hP.2 c hc) (by decide) (Nat.le_of_ble_eq_true rfl) ⟨Nat.le_refl _, Nat.le_refl _⟩ (q := 102) dX1_kneel_99 rfl ?_
    refine r_iadd (q := 103) dX1_kneel_102 rfl ?_
    refine r_min q631 (by decide) (Nat.le_of_ble_eq_true rfl) ⟨Nat.le_refl _, Nat.le_refl _⟩ (q := 106) dX1_kneel_103 rfl ?_
    refine J.topi (mn_ok v (by omega) _ (Nat.lt_succ_of_le (sore_le _ p1 _ p2))) ?_
    refine r_istore_6 (by decide) rfl (q := 108) dX1_kneel_106 rfl ?_
    exact fin _ he _ _
  cases f1 : hbt (hr S a) h <;> cases f2 : hbt (hr S b) h
  · refine r_iload_4 (q := 34) dX1_kneel_32 rfl ?_
    refine r_if_eq (q := 37) (tgt := 71) dX1_kneel_34 rfl rfl (fun c34 => ?_) (fun c34 => ?_)
    · refine r_iload_4 (q := 73) dX1_kneel_71 rfl ?_
      refine r_if_ne (q := 76) (tgt := 81) dX1_kneel_73 rfl rfl (fun c73 => ?_) (fun c73 => ?_)
      · exact absurd rfl c73
      · refine r_iload_5 (q := 78) dX1_kneel_76 rfl ?_
        refine r_if_eq (q := 81) (tgt := 108) dX1_kneel_78 rfl rfl (fun c78 => ?_) (fun c78 => ?_)
        · exact fin _ (by unfold kn; rw [f1, f2]; rfl) _ _
        · exact absurd rfl c78
    · exact absurd rfl c34
  · refine r_iload_4 (q := 34) dX1_kneel_32 rfl ?_
    refine r_if_eq (q := 37) (tgt := 71) dX1_kneel_34 rfl rfl (fun c34 => ?_) (fun c34 => ?_)
    · refine r_iload_4 (q := 73) dX1_kneel_71 rfl ?_
      refine r_if_ne (q := 76) (tgt := 81) dX1_kneel_73 rfl rfl (fun c73 => ?_) (fun c73 => ?_)
      · exact absurd rfl c73
      · refine r_iload_5 (q := 78) dX1_kneel_76 rfl ?_
        refine r_if_eq (q := 81) (tgt := 108) dX1_kneel_78 rfl rfl (fun c78 => ?_) (fun c78 => ?_)
        · exact absurd c78 (by decide)
        · refine r_bipush 99 (by decide) (q := 83) dX1_kneel_81 rfl ?_
          refine r_iload_6 (q := 85) dX1_kneel_83 rfl ?_
          refine r_aload_0 (q := 86) dX1_kneel_85 rfl ?_
          refine r_iload_4 (q := 88) dX1_kneel_86 rfl ?_
          refine r_if_eq (q := 91) (tgt := 95) dX1_kneel_88 rfl rfl (fun c88 => ?_) (fun c88 => ?_)
          · refine r_iload_2 (q := 96) dX1_kneel_95 rfl ?_
            exact sc _ (pr S b) b _ _ pb.1 pb.2 hb rfl e3 (by unfold kn; rw [f1, f2]; rfl)
          · exact absurd rfl c88
    · exact absurd rfl c34
  · refine r_iload_4 (q := 34) dX1_kneel_32 rfl ?_
    refine r_if_eq (q := 37) (tgt := 71) dX1_kneel_34 rfl rfl (fun c34 => ?_) (fun c34 => ?_)
    · exact absurd c34 (by decide)
    · refine r_iload_5 (q := 39) dX1_kneel_37 rfl ?_
      refine r_if_eq (q := 42) (tgt := 71) dX1_kneel_39 rfl rfl (fun c39 => ?_) (fun c39 => ?_)
      · refine r_iload_4 (q := 73) dX1_kneel_71 rfl ?_
        refine r_if_ne (q := 76) (tgt := 81) dX1_kneel_73 rfl rfl (fun c73 => ?_) (fun c73 => ?_)
        · refine r_bipush 99 (by decide) (q := 83) dX1_kneel_81 rfl ?_
          refine r_iload_6 (q := 85) dX1_kneel_83 rfl ?_
          refine r_aload_0 (q := 86) dX1_kneel_85 rfl ?_
          refine r_iload_4 (q := 88) dX1_kneel_86 rfl ?_
          refine r_if_eq (q := 91) (tgt := 95) dX1_kneel_88 rfl rfl (fun c88 => ?_) (fun c88 => ?_)
          · exact absurd c88 (by decide)
          · refine r_iload_1 (q := 92) dX1_kneel_91 rfl ?_
            refine r_goto (q := 96) dX1_kneel_92 rfl ?_
            exact sc _ (pr S a) a _ _ pa.1 pa.2 ha rfl e3 (by unfold kn; rw [f1, f2]; rfl)
        · exact absurd c73 (by decide)
      · exact absurd rfl c39
  · refine r_iload_4 (q := 34) dX1_kneel_32 rfl ?_
    refine r_if_eq (q := 37) (tgt := 71) dX1_kneel_34 rfl rfl (fun c34 => ?_) (fun c34 => ?_)
    · exact absurd c34 (by decide)
    · refine r_iload_5 (q := 39) dX1_kneel_37 rfl ?_
      refine r_if_eq (q := 42) (tgt := 71) dX1_kneel_39 rfl rfl (fun c39 => ?_) (fun c39 => ?_)
      · exact absurd c39 (by decide)
      · refine r_iconst 0 (by decide) (q := 43) dX1_kneel_42 rfl ?_
        refine r_iload_6 (q := 45) dX1_kneel_43 rfl ?_
        refine r_aload_0 (q := 46) dX1_kneel_45 rfl ?_
        refine r_iload_1 (q := 47) dX1_kneel_46 rfl ?_
        refine r_callV_1 cv_X1_37 qh_o rfl (by decide) (Nat.le_of_ble_eq_true rfl) ⟨Nat.le_refl _, Nat.le_refl _⟩ (k_X1_person hL hV hP ha) (q := 50) dX1_kneel_47 rfl ?_
        refine r_soft_X1 pa.1 pa.2 (hP.2 a ha) (by decide) (Nat.le_of_ble_eq_true rfl) ⟨Nat.le_refl _, Nat.le_refl _⟩ (q := 53) dX1_kneel_50 rfl ?_
        refine r_isub (q := 54) dX1_kneel_53 rfl ?_
        refine r_aload_0 (q := 55) dX1_kneel_54 rfl ?_
        refine r_iload_2 (q := 56) dX1_kneel_55 rfl ?_
        refine r_callV_1 cv_X1_37 qh_o rfl (by decide) (Nat.le_of_ble_eq_true rfl) ⟨Nat.le_refl _, Nat.le_refl _⟩ (k_X1_person hL hV hP hb) (q := 59) dX1_kneel_56 rfl ?_
        refine r_soft_X1 pb.1 pb.2 (hP.2 b hb) (by decide) (Nat.le_of_ble_eq_true rfl) ⟨Nat.le_refl _, Nat.le_refl _⟩ (q := 62) dX1_kneel_59 rfl ?_
        refine r_isub (q := 63) dX1_kneel_62 rfl ?_
        refine r_max q610 (by decide) (Nat.le_of_ble_eq_true rfl) ⟨Nat.le_refl _, Nat.le_refl _⟩ (q := 66) dX1_kneel_63 rfl ?_
        refine J.topi (mx_ok _ (by omega) _ (Nat.lt_succ_of_le (soft_le _ pa.1 _ pa.2)) _ (Nat.lt_succ_of_le (soft_le _ pb.1 _ pb.2))) ?_
        refine r_istore_6 (by decide) rfl (q := 68) dX1_kneel_66 rfl ?_
        refine r_goto (q := 108) dX1_kneel_68 rfl ?_
        exact fin _ (by unfold kn; rw [f1, f2]; rfl) _ _
theorem k_X1_hour {h : Nat} (k : QK q S pp mc g) (hh : h < 8) : CtE G yX1_hour cX1_hour 3 none 6 [.ref q, .int (nI h)] n (qh q (S, pp, mc) g) none (qh q (hourS h S, pp, mc) g) := by
  refine Ct.intro (k := 1) [some (.ref q), some (.int (nI h)), none] (by decide) (Nat.le_of_ble_eq_true rfl) rfl fun z hz hin => ?_
  have loop : ∀ (c a : Nat) (S' : SQ), QK q S' pp mc g → S'.1.length = S.1.length → a + c = S.1.length → forR (hourStep h) a c S' = hourS h S → J G z cX1_hour 3 RX1 6 0 0 0 0 2 [some (.ref q), some (.int (nI h)), some (.int (nI a))] [] n (qh q (S', pp, mc) g) := by
    intro c
    induction c with
    | zero =>
      intro a S' k' h1 h2 h3
      have h6 := k'.1.1
      refine r_iload_2 (q := 3) dX1_hour_2 rfl ?_
      refine r_aload_0 (q := 4) dX1_hour_3 rfl ?_
      refine r_callV_0 cv_X1_61 qh_o rfl (by decide) (Nat.le_of_ble_eq_true rfl) ⟨Nat.le_refl _, Nat.le_refl _⟩ (k_X1_many k'.2.2.2.1) (q := 7) dX1_hour_4 rfl ?_
      refine r_icmp_ge (q := 10) (tgt := 38) dX1_hour_7 rfl rfl (fun c7 => ?_) (fun c7 => ?_)
      · rw [← show S' = hourS h S from h3] at hz
        exact r_vret hz dX1_hour_38 (Nat.le_refl _) (Nat.le_refl _) ⟨rfl, rfl, rfl⟩
      · exact absurd (nI_le (by omega) (by omega)) c7
    | succ c ih =>
      intro a S' k' h1 h2 h3
      have h6 := k'.1.1
      have ha : a < S'.1.length := by omega
      have next : ∀ S'', S'' = hourStep h a S' → J G z cX1_hour 3 RX1 6 0 0 0 0 32 [some (.ref q), some (.int (nI h)), some (.int (nI a))] [] n (qh q (S'', pp, mc) g) := by
        intro S'' e
        subst e
        refine r_inc_2 (by decide) rfl (q := 35) dX1_hour_32 rfl ?_
        refine r_goto (q := 2) dX1_hour_35 rfl ?_
        exact ih (a + 1) _ k'.hourStep (by rw [(hourStep_fr h a S').1]; exact h1) (by omega) h3
      refine r_iload_2 (q := 3) dX1_hour_2 rfl ?_
      refine r_aload_0 (q := 4) dX1_hour_3 rfl ?_
      refine r_callV_0 cv_X1_61 qh_o rfl (by decide) (Nat.le_of_ble_eq_true rfl) ⟨Nat.le_refl _, Nat.le_refl _⟩ (k_X1_many k'.2.2.2.1) (q := 7) dX1_hour_4 rfl ?_
      refine r_icmp_ge (q := 10) (tgt := 38) dX1_hour_7 rfl rfl (fun c7 => ?_) (fun c7 => ?_)
      · exact absurd c7 (nI_ge (by omega) (by omega))
      refine r_aload_0 (q := 11) dX1_hour_10 rfl ?_
      refine r_get gf_X1_24_1 qh_o rfl (q := 14) dX1_hour_11 rfl ?_
      refine r_iload_2 (q := 15) dX1_hour_14 rfl ?_
      refine r_ialdM a 6 qh_m k'.1.2.2.1 rfl (by omega) (by decide) (q := 16) dX1_hour_15 rfl ?_
      refine r_iload_2 (q := 17) dX1_hour_16 rfl ?_
      show J G z cX1_hour 3 RX1 6 0 0 0 0 17 [some (.ref q), some (.int (nI h)), some (.int (nI a))] [.int (nI a), .int (mI (mt S' a))] n (qh q (S', pp, mc) g)
      cases e : mt S' a with
      | none =>
        refine r_icmp_le (q := 20) (tgt := 32) dX1_hour_17 rfl rfl (fun c17 => ?_) (fun c17 => ?_)
        · exact next _ (by unfold hourStep; rw [e])
        · exact absurd (Int32.le_trans (by decide : mI none ≤ 0) (nI_pos' (by omega))) c17
      | some b =>
        have hb := k'.2.2.1 a ha b e
        refine r_icmp_le (q := 20) (tgt := 32) dX1_hour_17 rfl rfl (fun c17 => ?_) (fun c17 => ?_)
        · have : ¬ a < b := fun q => (nI_ge q (by omega)) c17
          exact next _ (by unfold hourStep; rw [e]; exact (if_neg this).symm)
        · have hab : a < b := by
            rcases Nat.lt_or_ge a b with q | q
            · exact q
            · exact absurd (nI_le q (by omega)) c17
          refine r_aload_0 (q := 21) dX1_hour_20 rfl ?_
          refine r_iload_2 (q := 22) dX1_hour_21 rfl ?_
          refine r_aload_0 (q := 23) dX1_hour_22 rfl ?_
          refine r_get gf_X1_24_1 qh_o rfl (q := 26) dX1_hour_23 rfl ?_
          refine r_iload_2 (q := 27) dX1_hour_26 rfl ?_
          refine r_ialdM a 6 qh_m k'.1.2.2.1 rfl (by omega) (by decide) (q := 28) dX1_hour_27 rfl ?_
          refine J.topi (show mI (mt S' a) = nI b by rw [e]; rfl) ?_
          refine r_iload_1 (q := 29) dX1_hour_28 rfl ?_
          refine r_callVv_3 cv_X1_93 qh_o rfl (by decide) (Nat.le_of_ble_eq_true rfl) ⟨Nat.le_refl _, Nat.le_refl _⟩ (k_X1_kneel k' ha hb hh) (q := 32) dX1_hour_29 rfl ?_
          exact next _ (by unfold hourStep; rw [e]; exact (if_pos hab).symm)
  refine r_iconst 0 (by decide) (q := 1) dX1_hour_0 rfl ?_
  refine r_istore_2 (by decide) rfl (q := 2) dX1_hour_1 rfl ?_
  exact loop S.1.length 0 S k rfl (Nat.zero_add _) rfl
theorem k_X1_goes (k : QK q S pp mc g) : CtE G yX1_goes cX1_goes 2 none 7 [.ref q] n (qh q (S, pp, mc) g) none (qh q (goesS S, pp, mc) g) := by
  refine Ct.intro (k := 1) [some (.ref q), none] (by decide) (Nat.le_of_ble_eq_true rfl) rfl fun z hz hin => ?_
  have loop : ∀ (c a : Nat) (S' : SQ), QK q S' pp mc g → a + c = 5 → forR hourS a c S' = goesS S → J G z cX1_goes 2 RX1 7 0 0 0 0 12 [some (.ref q), some (.int (nI a))] [] n (qh q (S', pp, mc) g) := by
    intro c
    induction c with
    | zero =>
      intro a S' k' h2 h3
      refine r_iload_1 (q := 13) dX1_goes_12 rfl ?_
      refine r_iconst 5 (by decide) (q := 14) dX1_goes_13 rfl ?_
      refine r_icmp_ge (q := 17) (tgt := 28) dX1_goes_14 rfl rfl (fun c14 => ?_) (fun c14 => ?_)
      · rw [← show S' = goesS S from h3] at hz
        exact r_vret hz dX1_goes_28 (Nat.le_refl _) (Nat.le_refl _) ⟨rfl, rfl, rfl⟩
      · exact absurd (nI_le (a := 5) (by omega) (by omega)) c14
    | succ c ih =>
      intro a S' k' h2 h3
      refine r_iload_1 (q := 13) dX1_goes_12 rfl ?_
      refine r_iconst 5 (by decide) (q := 14) dX1_goes_13 rfl ?_
      refine r_icmp_ge (q := 17) (tgt := 28) dX1_goes_14 rfl rfl (fun c14 => ?_) (fun c14 => ?_)
      · exact absurd c14 (nI_ge (b := 5) (by omega) (by omega))
      refine r_aload_0 (q := 18) dX1_goes_17 rfl ?_
      refine r_iload_1 (q := 19) dX1_goes_18 rfl ?_
      refine r_callVv_1 cv_X1_96 qh_o rfl (by decide) (Nat.le_of_ble_eq_true rfl) ⟨Nat.le_refl _, Nat.le_refl _⟩ (k_X1_hour k' (by omega)) (q := 22) dX1_goes_19 rfl ?_
      refine r_inc_1 (by decide) rfl (q := 25) dX1_goes_22 rfl ?_
      refine r_goto (q := 12) dX1_goes_25 rfl ?_
      exact ih (a + 1) _ k'.hourS (by omega) h3
  refine r_aload_0 (q := 1) dX1_goes_0 rfl ?_
  refine r_dup rfl (q := 2) dX1_goes_1 rfl ?_
  refine r_get gf_X1_51_1 qh_o rfl (q := 5) dX1_goes_2 rfl ?_
  refine r_iconst 1 (by decide) (q := 6) dX1_goes_5 rfl ?_
  refine r_iadd (q := 7) dX1_goes_6 rfl ?_
  refine J.topi (nI_1 _) ?_
  refine r_put gf_X1_51_1 cl_ok_1 ft_1_4 qh_o (Nat.le_of_ble_eq_true rfl) rfl rfl (q := 10) dX1_goes_7 rfl ?_
  refine J.heap (qh_setD _) ?_
  refine r_iconst 0 (by decide) (q := 11) dX1_goes_10 rfl ?_
  refine r_istore_1 (by decide) rfl (q := 12) dX1_goes_11 rfl ?_
  exact loop 5 0 _ k.setD rfl rfl
theorem k_X1_goesOn {m : Nat} (k : QK q S pp mc g) (hm : m < 2 ^ 30) : CtE G yX1_goesOn cX1_goesOn 3 none 8 [.ref q, .int (nI m)] n (qh q (S, pp, mc) g) none (qh q (daysS m S, pp, mc) g) := by
  refine Ct.intro (k := 1) [some (.ref q), some (.int (nI m)), none] (by decide) (Nat.le_of_ble_eq_true rfl) rfl fun z hz hin => ?_
  have loop : ∀ (c a : Nat) (S' : SQ), QK q S' pp mc g → a + c = m → daysS c S' = daysS m S → J G z cX1_goesOn 3 RX1 8 0 0 0 0 2 [some (.ref q), some (.int (nI m)), some (.int (nI a))] [] n (qh q (S', pp, mc) g) := by
    intro c
    induction c with
    | zero =>
      intro a S' k' h2 h3
      refine r_iload_2 (q := 3) dX1_goesOn_2 rfl ?_
      refine r_iload_1 (q := 4) dX1_goesOn_3 rfl ?_
      refine r_icmp_ge (q := 7) (tgt := 17) dX1_goesOn_4 rfl rfl (fun c4 => ?_) (fun c4 => ?_)
      · rw [← show S' = daysS m S from h3] at hz
        exact r_vret hz dX1_goesOn_17 (Nat.le_refl _) (Nat.le_refl _) ⟨rfl, rfl, rfl⟩
      · exact absurd (nI_le (by omega) (by omega)) c4
    | succ c ih =>
      intro a S' k' h2 h3
      refine r_iload_2 (q := 3) dX1_goesOn_2 rfl ?_
      refine r_iload_1 (q := 4) dX1_goesOn_3 rfl ?_
      refine r_icmp_ge (q := 7) (tgt := 17) dX1_goesOn_4 rfl rfl (fun c4 => ?_) (fun c4 => ?_)
      · exact absurd c4 (nI_ge (by omega) (by omega))
      refine r_aload_0 (q := 8) dX1_goesOn_7 rfl ?_
      refine r_callVv_0 cv_X1_99 qh_o rfl (by decide) (Nat.le_of_ble_eq_true rfl) ⟨Nat.le_refl _, Nat.le_refl _⟩ (k_X1_goes k') (q := 11) dX1_goesOn_8 rfl ?_
      refine r_inc_2 (by decide) rfl (q := 14) dX1_goesOn_11 rfl ?_
      refine r_goto (q := 2) dX1_goesOn_14 rfl ?_
      exact ih (a + 1) _ k'.goesS (by omega) h3
  refine r_iconst 0 (by decide) (q := 1) dX1_goesOn_0 rfl ?_
  refine r_istore_2 (by decide) rfl (q := 2) dX1_goesOn_1 rfl ?_
  exact loop m 0 S k (Nat.zero_add _) rfl
end DM


/-! ===== PrayerMatsFace: each pairing ===== -/
theorem us_sub : ∀ l, l < 64 → ∀ a, a < 6 → hbt l a = true → nI l &&& ((1 : Int32) <<< (nI a &&& 31) ^^^ -1) = nI (l - 2 ^ a) := by decide +kernel
theorem forR_app {σ : Type} (f : Nat → σ → σ) : ∀ (c d i : Nat) (s : σ), forR f i (c + d) s = forR f (i + c) d (forR f i c s)
  | 0, d, i, s => by rw [Nat.zero_add]; rfl
  | c + 1, d, i, s => by
    rw [show c + 1 + d = (c + d) + 1 by omega, forR_s, forR_s, forR_app f c d (i + 1), show i + 1 + c = i + (c + 1) by omega]
theorem forR_idB {σ : Type} (f : Nat → σ → σ) : ∀ (c i : Nat) (s : σ), (∀ b s, i ≤ b → b < i + c → f b s = s) → forR f i c s = s
  | 0, _, _, _ => rfl
  | c + 1, i, s, h => by
    rw [forR_s, h i s (Nat.le_refl _) (by omega)]
    exact forR_idB f c (i + 1) s fun b s h1 h2 => h b s (by omega) (by omega)
theorem fold_flat {σ α : Type} (g : σ → α → σ) (F : Nat → List α) : ∀ (c i : Nat) (s : σ), ((List.range' i c).flatMap F).foldl g s = forR (fun b s => (F b).foldl g s) i c s
  | 0, _, _ => rfl
  | c + 1, i, s => by
    rw [List.range'_succ, List.flatMap_cons, List.foldl_append, fold_flat g F c (i + 1), forR_s]
/-- what comes with each partner -/
def eaF (k f l a : Nat) (ms : List (Option Nat)) (b : Nat) : List (List (Option Nat)) := if a < b ∧ hbt (l - 2 ^ a) b = true then prG k f (l - 2 ^ a - 2 ^ b) ((ms.set a (some b)).set b (some a)) else []
theorem prG_fold {σ : Type} (g : σ → List (Option Nat) → σ) (k f l : Nat) (ms : List (Option Nat)) (s : σ) (h0 : l ≠ 0) (ha : lowB 6 0 l < k) : (prG k (f + 1) l ms).foldl g s = forR (fun b s => (eaF k f l (lowB 6 0 l) ms b).foldl g s) (lowB 6 0 l + 1) (k - (lowB 6 0 l + 1)) ((prG k f (l - 2 ^ lowB 6 0 l) (ms.set (lowB 6 0 l) none)).foldl g s) := by
  rw [prG, if_neg h0, List.foldl_append]
  generalize lowB 6 0 l = a at ha
  generalize (prG k f (l - 2 ^ a) (ms.set a none)).foldl g s = s1
  have e := fold_flat g (eaF k f l a ms) k 0 s1
  rw [show List.range' 0 k = List.range k from (List.range_eq_range' ..).symm] at e
  refine e.trans ?_
  rw [show forR (fun b s => (eaF k f l a ms b).foldl g s) 0 k s1 = forR (fun b s => (eaF k f l a ms b).foldl g s) 0 (a + 1 + (k - (a + 1))) s1 from congrArg (fun c => forR (fun b s => (eaF k f l a ms b).foldl g s) 0 c s1) (by omega), forR_app]
  rw [forR_idB _ (a + 1) 0 s1 (fun b s _ h2 => by
    unfold eaF
    rw [if_neg (fun q => by omega)]
    rfl), Nat.zero_add]
theorem AgO.refl {l : Nat} {ms : List (Option Nat)} (h : ms.length = 6) : AgO l ms ms := ⟨h, h, fun _ _ _ => rfl⟩
section XP2
variable {G : GD} {n x : Nat} {w w' w2 : XW} {g g' : RH} {σ : SG} {X Y : QX} {Z : List Nat × Int32} {s : Int32 × Int32 × List Int32} {S : SQ}
theorem k_X0_eachPairing {st : Bool} {nn : Nat} (h0 : KX x g (w.1 0)) (hS : (w.1 0).1.1 = S.1) (hd : st = false → w.2.2.2 13 = nI nn) (hn : nn < 2 ^ 30) : ∀ (f l : Nat) (M : List (Option Nat)) (w' : XW) (s : Int32 × Int32 × List Int32), l < 64 → l < 2 ^ S.1.length → pop l ≤ f → KX x g (mkM S M, Z) → PW w w' (mkM S M, Z) s → Ct G yX0_eachPairing cX0_eachPairing 6 none (10 + f) 0 0 [.ref x, .int (nI l), .int (bI st)] n (xh x w' g) (fun r n' h' => r = none ∧ n' = n ∧ ∃ M' w'', h' = xh x w'' g ∧ AgO l M M' ∧ KX x g (mkM S M', Z) ∧ PW w w'' (mkM S M', Z) ((prG S.1.length f l M).foldl (lookF st S nn) s)) := by
  have last : ∀ (f l : Nat) (M : List (Option Nat)) (w' : XW) (s : Int32 × Int32 × List Int32), l = 0 → prG S.1.length f l M = [M] → KX x g (mkM S M, Z) → PW w w' (mkM S M, Z) s → Ct G yX0_eachPairing cX0_eachPairing 6 none (10 + f) 0 0 [.ref x, .int (nI l), .int (bI st)] n (xh x w' g) (fun r n' h' => r = none ∧ n' = n ∧ ∃ M' w'', h' = xh x w'' g ∧ AgO l M M' ∧ KX x g (mkM S M', Z) ∧ PW w w'' (mkM S M', Z) ((prG S.1.length f l M).foldl (lookF st S nn) s)) := by
    intro f l M w' s hl hp hk hw
    subst hl
    rw [hp]
    refine Ct.intro (k := 3) [some (.ref x), some (.int (nI 0)), some (.int (bI st)), none, none, none] (by decide) (Nat.le_of_ble_eq_true rfl) rfl fun z hz hin => ?_
    refine r_iload_1 (q := 1) dX0_eachPairing_0 rfl ?_
    refine r_if_ne (q := 4) (tgt := 10) dX0_eachPairing_1 rfl rfl (fun c1 => ?_) (fun c1 => ?_)
    · exact absurd rfl c1
    refine r_aload_0 (q := 5) dX0_eachPairing_4 rfl ?_
    refine r_iload_2 (q := 6) dX0_eachPairing_5 rfl ?_
    refine r_callVp_1 cv_X0_236 xh_x rfl (by omega) (Nat.le_of_ble_eq_true rfl) ⟨Nat.le_refl _, Nat.le_refl _⟩ (k_X0_looksAt hw hk hd hn) (q := 9) dX0_eachPairing_6 rfl ?_
    intro r n' h' hq
    obtain ⟨rfl, rfl, w'', rfl, h2⟩ := hq
    exact r_vret hz dX0_eachPairing_9 (Nat.le_refl _) (Nat.le_refl _) ⟨rfl, rfl, M, w'', rfl, AgO.refl hk.1.2.2.1, hk, h2⟩
  intro f
  induction f with
  | zero =>
    intro l M w' s hl hlk hp hk hw
    exact last 0 l M w' s (pop_0' l hl (by omega)) rfl hk hw
  | succ f ih =>
    intro l M w' s hl hlk hp hk hw
    by_cases hl0 : l = 0
    · exact last (f + 1) l M w' s hl0 (by rw [hl0]; unfold prG; rw [if_pos rfl]) hk hw
    have h6 : S.1.length ≤ 6 := hk.1.1
    have hM : M.length = 6 := hk.1.2.2.1
    obtain ⟨a1, a2⟩ := lowB_ok l hl hl0
    have ak := hbt_k S.1.length (by omega) l hl hlk _ a1 a2
    rw [prG_fold _ _ _ _ _ _ hl0 ak]
    generalize hA : lowB 6 0 l = a at a1 a2 ak
    obtain ⟨b1, b2, b3⟩ := bit_sub l hl a a1 a2
    refine Ct.intro (k := 3) [some (.ref x), some (.int (nI l)), some (.int (bI st)), none, none, none] (by decide) (Nat.le_of_ble_eq_true rfl) rfl fun z hz hin => ?_
    have e1 := hw.2.1
    have ew0 : w'.1 0 = w.1 0 := hw.1.1
    have at26 : J G z cX0_eachPairing 6 RX0 (10 + (f + 1)) 0 0 0 0 26 [some (.ref x), some (.int (nI l)), some (.int (bI st)), some (.int (nI a)), none, none] [] n (xh x w' g) := by
      refine r_iload_1 (q := 27) dX0_eachPairing_26 rfl ?_
      refine r_iconst 1 (by decide) (q := 28) dX0_eachPairing_27 rfl ?_
      refine r_iload_3 (q := 29) dX0_eachPairing_28 rfl ?_
      refine r_ishl (q := 30) dX0_eachPairing_29 rfl ?_
      refine r_iconst (-1) (by decide) (q := 31) dX0_eachPairing_30 rfl ?_
      refine r_ixor (q := 32) dX0_eachPairing_31 rfl ?_
      refine r_iand (q := 33) dX0_eachPairing_32 rfl ?_
      refine J.topi (us_sub l hl a a1 a2) ?_
      refine r_istore_4 (by decide) rfl (q := 35) dX0_eachPairing_33 rfl ?_
      refine r_aload_0 (q := 36) dX0_eachPairing_35 rfl ?_
      refine r_get gf_X0_20_0 xh_x rfl (q := 39) dX0_eachPairing_36 rfl ?_
      refine r_getN gn_X0_94_1 (xe_o 1 (by decide) rfl) rfl (q := 42) dX0_eachPairing_39 rfl ?_
      refine r_iload_3 (q := 43) dX0_eachPairing_42 rfl ?_
      refine r_bipush (-9) (by decide) (q := 45) dX0_eachPairing_43 rfl ?_
      refine J.heap (h2 := xh x (setq w' 1 (mkM S M, Z)) g) (by rw [← e1, setq_self]) ?_
      refine r_iastM a 6 none (xe_m (Y := (mkM S M, Z)) 1 (by decide) rfl) hM rfl rfl a1 (by decide) (q := 46) dX0_eachPairing_45 rfl ?_
      refine J.heap (xs_m (X := (mkM S M, Z)) 1 (by decide)) ?_
      have hk1 : KX x g (mkM S (M.set a none), Z) := hk.setM (a := a) (v := none) (fun _ q => by cases q)
      have hw1 : PW w (setq w' 1 (mkM S (M.set a none), Z)) (mkM S (M.set a none), Z) s := hw.q1 hk1.lx
      refine J.heap (h2 := xh x (setq w' 1 (mkM S (M.set a none), Z)) g) rfl ?_
      refine r_aload_0 (q := 47) dX0_eachPairing_46 rfl ?_
      refine r_iload_4 (q := 49) dX0_eachPairing_47 rfl ?_
      refine r_iload_2 (q := 50) dX0_eachPairing_49 rfl ?_
      refine r_callVp_2 cv_X0_243 xh_x rfl (by omega) (Nat.le_of_ble_eq_true rfl) ⟨Nat.le_refl _, Nat.le_refl _⟩ (ih (l - 2 ^ a) (M.set a none) _ s (by omega) (by omega) (by omega) hk1 hw1) (q := 53) dX0_eachPairing_50 rfl ?_
      intro r n' h' hq
      obtain ⟨rfl, rfl, M1, w1, rfl, g1, g2, g3⟩ := hq
      generalize hs1 : (prG S.1.length f (l - 2 ^ a) (M.set a none)).foldl (lookF st S nn) s = s1 at g3 hz
      have gM : AgO l M M1 := by
        refine ⟨hM, g1.2.1, fun i hi hf => ?_⟩
        have hne : i ≠ a := fun q => by rw [q, a2] at hf; cases hf
        have := g1.2.2 i hi (by rw [b3 i hi, hf]; rfl)
        rw [getD_set, if_neg (fun q => hne q.1)] at this
        exact this
      refine r_iload_3 (q := 54) dX0_eachPairing_53 rfl ?_
      refine r_iconst 1 (by decide) (q := 55) dX0_eachPairing_54 rfl ?_
      refine r_iadd (q := 56) dX0_eachPairing_55 rfl ?_
      refine J.topi (y := nI (a + 1)) (nI_add a 1) ?_
      refine r_istore_5 (by decide) rfl (q := 58) dX0_eachPairing_56 rfl ?_
      refine forJ (f := fun b s => (eaF S.1.length f l a M b).foldl (lookF st S nn) s) (σ := Int32 × Int32 × List Int32) S.1.length (fun _ => True) (fun b s => ∀ (M1 : List (Option Nat)) (w1 : XW), AgO l M M1 → KX x g (mkM S M1, Z) → PW w w1 (mkM S M1, Z) s → J G z cX0_eachPairing 6 RX0 (10 + (f + 1)) 0 0 0 0 58 [some (.ref x), some (.int (nI l)), some (.int (bI st)), some (.int (nI a)), some (.int (nI (l - 2 ^ a))), some (.int (nI b))] [] n' (xh x w1 g)) (a0 := a + 1) (s0 := s1) ak trivial (fun s _ hs M1 w1 g1 g2 g3 => ?_) (fun b s hab hb _ => ⟨trivial, fun next M1 w1 g1 g2 g3 => ?_⟩) M1 w1 gM g2 g3
      · have hs : s = forR (fun b s => (eaF S.1.length f l a M b).foldl (lookF st S nn) s) (a + 1) (S.1.length - (a + 1)) s1 := hs
        have kq : KX x g (w1.1 0) := by rw [g3.1.1]; exact h0
        refine r_iload_5 (q := 60) dX0_eachPairing_58 rfl ?_
        refine r_aload_0 (q := 61) dX0_eachPairing_60 rfl ?_
        refine r_get gf_X0_16_0 xh_x rfl (q := 64) dX0_eachPairing_61 rfl ?_
        refine r_callV_0 cv_X0_74 (xe_o 0 (by decide) rfl) rfl (by omega) (Nat.le_of_ble_eq_true rfl) ⟨Nat.le_refl _, Nat.le_refl _⟩ (x_many 0 (by decide) kq rfl) (q := 67) dX0_eachPairing_64 rfl ?_
        rw [g3.1.1, hS]
        refine r_icmp_ge (q := 70) (tgt := 125) dX0_eachPairing_67 rfl rfl (fun c67 => ?_) (fun c67 => ?_)
        · rw [hs] at g3
          exact r_vret hz dX0_eachPairing_125 (Nat.le_refl _) (Nat.le_refl _) ⟨rfl, rfl, M1, w1, rfl, g1, g2, g3⟩
        · exact absurd (Int32.le_refl _) c67
      · have kq : KX x g (w1.1 0) := by rw [g3.1.1]; exact h0
        refine r_iload_5 (q := 60) dX0_eachPairing_58 rfl ?_
        refine r_aload_0 (q := 61) dX0_eachPairing_60 rfl ?_
        refine r_get gf_X0_16_0 xh_x rfl (q := 64) dX0_eachPairing_61 rfl ?_
        refine r_callV_0 cv_X0_74 (xe_o 0 (by decide) rfl) rfl (by omega) (Nat.le_of_ble_eq_true rfl) ⟨Nat.le_refl _, Nat.le_refl _⟩ (x_many 0 (by decide) kq rfl) (q := 67) dX0_eachPairing_64 rfl ?_
        rw [g3.1.1, hS]
        refine r_icmp_ge (q := 70) (tgt := 125) dX0_eachPairing_67 rfl rfl (fun c67 => ?_) (fun c67 => ?_)
        · exact absurd c67 (nI_not_lt hb (by omega))
        refine r_iload_4 (q := 72) dX0_eachPairing_70 rfl ?_
        refine r_iload_5 (q := 74) dX0_eachPairing_72 rfl ?_
        refine r_callS_2 cs_X0_240 (by omega) (Nat.le_of_ble_eq_true rfl) ⟨Nat.le_refl _, Nat.le_refl _⟩ (k_X0_has (m := l - 2 ^ a) (j := b) (by omega) (by omega)) (q := 77) dX0_eachPairing_74 rfl ?_
        unfold eaF at next
        refine r_if_ne (q := 80) (tgt := 83) dX0_eachPairing_77 rfl rfl (fun c77 => ?_) (fun c77 => ?_)
        · have hb2 := bI_n0.mp c77
          rw [if_pos ⟨by omega, hb2⟩] at next
          obtain ⟨d1, d2, d3⟩ := bit_sub (l - 2 ^ a) (by omega) b (by omega) hb2
          have hbl : hbt l b = true := by
            have := b3 b (by omega)
            rw [hb2] at this
            simpa using (Bool.and_eq_true_iff.mp this.symm).1
          have hM1 : M1.length = 6 := g1.2.1
          have ag := (g1.set (v := some b) hl a1 a2).set (v := some a) (by omega) (by omega) hb2
          rw [prG_ag S.1.length f _ _ _ (by omega) (by omega) ag] at next
          have ka : KX x g (mkM S (M1.set a (some b)), Z) := g2.setM (a := a) (v := some b) (fun c q => by cases q; exact hb)
          have kb : KX x g (mkM S ((M1.set a (some b)).set b (some a)), Z) := ka.setM (a := b) (v := some a) (fun c q => by cases q; exact ak)
          have e9 := g3.2.1
          refine r_aload_0 (q := 84) dX0_eachPairing_83 rfl ?_
          refine r_get gf_X0_20_0 xh_x rfl (q := 87) dX0_eachPairing_84 rfl ?_
          refine r_getN gn_X0_94_1 (xe_o 1 (by decide) rfl) rfl (q := 90) dX0_eachPairing_87 rfl ?_
          refine r_iload_3 (q := 91) dX0_eachPairing_90 rfl ?_
          refine r_iload_5 (q := 93) dX0_eachPairing_91 rfl ?_
          refine J.heap (h2 := xh x (setq w1 1 (mkM S M1, Z)) g) (by rw [← e9, setq_self]) ?_
          refine r_iastM a 6 (some b) (xe_m (Y := (mkM S M1, Z)) 1 (by decide) rfl) hM1 rfl rfl a1 (by decide) (q := 94) dX0_eachPairing_93 rfl ?_
          refine J.heap (xs_m (X := (mkM S M1, Z)) 1 (by decide)) ?_
          refine J.heap (h2 := xh x (setq w1 1 (mkM S (M1.set a (some b)), Z)) g) rfl ?_
          refine r_aload_0 (q := 95) dX0_eachPairing_94 rfl ?_
          refine r_get gf_X0_20_0 xh_x rfl (q := 98) dX0_eachPairing_95 rfl ?_
          refine r_getN gn_X0_94_1 (xe_o 1 (by decide) rfl) rfl (q := 101) dX0_eachPairing_98 rfl ?_
          refine r_iload_5 (q := 103) dX0_eachPairing_101 rfl ?_
          refine r_iload_3 (q := 104) dX0_eachPairing_103 rfl ?_
          refine r_iastM b 6 (some a) (xe_m (Y := (mkM S (M1.set a (some b)), Z)) 1 (by decide) rfl) ka.1.2.2.1 rfl rfl (by omega) (by decide) (q := 105) dX0_eachPairing_104 rfl ?_
          refine J.heap (xs_m (X := (mkM S (M1.set a (some b)), Z)) 1 (by decide)) ?_
          refine J.heap (h2 := xh x (setq w1 1 (mkM S ((M1.set a (some b)).set b (some a)), Z)) g) rfl ?_
          refine r_aload_0 (q := 106) dX0_eachPairing_105 rfl ?_
          refine r_iload_4 (q := 108) dX0_eachPairing_106 rfl ?_
          refine r_iconst 1 (by decide) (q := 109) dX0_eachPairing_108 rfl ?_
          refine r_iload_5 (q := 111) dX0_eachPairing_109 rfl ?_
          refine r_ishl (q := 112) dX0_eachPairing_111 rfl ?_
          refine r_iconst (-1) (by decide) (q := 113) dX0_eachPairing_112 rfl ?_
          refine r_ixor (q := 114) dX0_eachPairing_113 rfl ?_
          refine r_iand (q := 115) dX0_eachPairing_114 rfl ?_
          refine J.topi (us_sub (l - 2 ^ a) (by omega) b (by omega) hb2) ?_
          refine r_iload_2 (q := 116) dX0_eachPairing_115 rfl ?_
          refine r_callVp_2 cv_X0_243 xh_x rfl (by omega) (Nat.le_of_ble_eq_true rfl) ⟨Nat.le_refl _, Nat.le_refl _⟩ (ih (l - 2 ^ a - 2 ^ b) ((M1.set a (some b)).set b (some a)) _ s (by omega) (by omega) (by omega) kb (g3.q1 kb.lx)) (q := 119) dX0_eachPairing_116 rfl ?_
          intro r n2 h' hq
          obtain ⟨rfl, rfl, M3, w3, rfl, k1, k2, k3⟩ := hq
          refine r_inc_5 (by decide) rfl (q := 122) dX0_eachPairing_119 rfl ?_
          refine r_goto (q := 58) dX0_eachPairing_122 rfl ?_
          refine next M3 w3 ⟨hM, k1.2.1, fun i hi hf => ?_⟩ k2 k3
          have na : i ≠ a := fun q => by rw [q, a2] at hf; cases hf
          have nb : i ≠ b := fun q => by rw [q, hbl] at hf; cases hf
          have t1 := k1.2.2 i hi (by rw [d3 i hi, b3 i hi, hf]; rfl)
          rw [getD_set, if_neg (fun q => nb q.1), getD_set, if_neg (fun q => na q.1)] at t1
          exact (g1.2.2 i hi hf).trans t1
        · have hb2 := bI_0.mp c77
          rw [if_neg (fun q => by rw [hb2] at q; cases q.2)] at next
          refine r_goto (q := 119) dX0_eachPairing_80 rfl ?_
          refine r_inc_5 (by decide) rfl (q := 122) dX0_eachPairing_119 rfl ?_
          refine r_goto (q := 58) dX0_eachPairing_122 rfl ?_
          exact next M1 w1 g1 g2 g3
    have low : ∀ c i, i + c = 6 → lowB c i l = a → J G z cX0_eachPairing 6 RX0 (10 + (f + 1)) 0 0 0 0 12 [some (.ref x), some (.int (nI l)), some (.int (bI st)), some (.int (nI i)), none, none] [] n (xh x w' g) := by
      intro c
      induction c with
      | zero =>
        intro i hi q
        have q : i = a := q
        omega
      | succ c ih2 =>
        intro i hi q
        unfold lowB at q
        refine r_iload_1 (q := 13) dX0_eachPairing_12 rfl ?_
        refine r_iload_3 (q := 14) dX0_eachPairing_13 rfl ?_
        refine r_callS_2 cs_X0_240 (by omega) (Nat.le_of_ble_eq_true rfl) ⟨Nat.le_refl _, Nat.le_refl _⟩ (k_X0_has (m := l) (j := i) (by omega) (by omega)) (q := 17) dX0_eachPairing_14 rfl ?_
        refine r_if_ne (q := 20) (tgt := 26) dX0_eachPairing_17 rfl rfl (fun c17 => ?_) (fun c17 => ?_)
        · rw [if_pos (bI_n0.mp c17)] at q
          subst q
          exact at26
        · rw [if_neg (fun z => by rw [bI_0.mp c17] at z; cases z)] at q
          refine r_inc_3 (by decide) rfl (q := 23) dX0_eachPairing_20 rfl ?_
          refine r_goto (q := 12) dX0_eachPairing_23 rfl ?_
          exact ih2 (i + 1) (by omega) q
    refine r_iload_1 (q := 1) dX0_eachPairing_0 rfl ?_
    refine r_if_ne (q := 4) (tgt := 10) dX0_eachPairing_1 rfl rfl (fun c1 => ?_) (fun c1 => ?_)
    · refine r_iconst 0 (by decide) (q := 11) dX0_eachPairing_10 rfl ?_
      refine r_istore_3 (by decide) rfl (q := 12) dX0_eachPairing_11 rfl ?_
      exact low 6 0 rfl hA
    · exact absurd (nI_inj (b := 0) (by omega) (by omega) c1) hl0
end XP2


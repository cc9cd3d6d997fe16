/-! ===== the pairings, in their order ===== -/
/-- the least one of a set -/
def lowB : Nat → Nat → Nat → Nat
  | 0, a, _ => a
  | f + 1, a, left => if hbt left a = true then a else lowB f (a + 1) left
/-- all ways to put the ones in left two by two or alone: the least one alone, then with each later one -/
def prG (k : Nat) : Nat → Nat → List (Option Nat) → List (List (Option Nat))
  | 0, _, ms => [ms]
  | f + 1, left, ms => if left = 0 then [ms] else
      prG k f (left - 2 ^ lowB 6 0 left) (ms.set (lowB 6 0 left) none) ++
      (List.range k).flatMap (fun b => if lowB 6 0 left < b ∧ hbt (left - 2 ^ lowB 6 0 left) b = true then prG k f (left - 2 ^ lowB 6 0 left - 2 ^ b) ((ms.set (lowB 6 0 left) (some b)).set b (some (lowB 6 0 left))) else [])
def pairsL (k : Nat) : List (List (Option Nat)) := prG k 7 (2 ^ k - 1) (List.replicate 6 none)
/-! ===== what a model holds, in plain terms ===== -/
abbrev MKt : Type := List Int32 × List Int32 × List Int32 × List Int32 × List Int32 × List Int32 × Int32 × Int32 × Int32 × Int32 × Int32 × Int32
def MKp (w : MW) : MKt := (ma6 w, ma7 w, ma12 w, ma13 w, ma15 w, ma17 w, mf10 w, mf19 w, mf25 w, mf27 w, mf28 w, mf31 w)
def MLn (w : MW) : Prop := (ma8 w).length = 49 ∧ (ma9 w).length = 49 ∧ (ma10 w).length = 147 ∧ (ma11 w).length = 62 ∧ (ma14 w).length = 62 ∧ (ma16 w).length = 6
/-- the saved states -/
def MRs (l : List Int32) (t : Int32) (st : List SQ) : Prop := l.length = 496 ∧ t = nI st.length ∧ st.length ≤ 8 ∧ ∀ k, k < st.length → ∃ j, OKM (st.getD k S0) j ∧ (st.getD k S0).2.2.2.2 ≤ 999 ∧ ∀ i, i < 62 → l.getD (62 * k + i) 0 = encF (mS (st.getD k S0) j) i
def MRi (l : List Int32) (t : Int32) : Option SQ → Prop
  | none => t = 0 ∧ l.length = 62
  | some S => t = 1 ∧ ∃ j, OKM S j ∧ S.2.2.2.2 ≤ 999 ∧ l = encS (mS S j)
/-- the pairings laid for k people -/
def PrO (k : Nat) (l : List Int32) (many : Int32) : Prop := many = nI (pairsL k).length ∧ ∀ t, t < (pairsL k).length → ∀ p, p < k → l.getD (6 * t + p) 0 = mI (((pairsL k).getD t []).getD p none)
def MRp (l : List Int32) (many fo : Int32) : Prop := l.length = 456 ∧ (fo = -1 ∨ ∃ k, k ≤ 6 ∧ fo = nI k ∧ PrO k l many)
def MKq (t : MKt) (σ : SG) : Prop := match t with
  | (a6, a7, a12, a13, a15, a17, f10, f19, f25, f27, f28, f31) =>
    (a6 = σ.2.1.1 ∧ σ.2.1.1.length = 7) ∧ (a7 = σ.2.1.2.1.1 ∧ σ.2.1.2.1.1.length = 96 ∧ f10 = nI σ.2.1.2.1.2 ∧ σ.2.1.2.1.2 ≤ 96) ∧
    (a17 = σ.2.1.2.2.1 ∧ σ.2.1.2.2.1.length = 12 ∧ f31 = nI σ.2.1.2.2.2 ∧ σ.2.1.2.2.2 ≤ 12) ∧ MRs a13 f25 σ.2.2.1 ∧ MRi a12 f19 σ.2.2.2 ∧ MRp a15 f27 f28
def MR (w : MW) (σ : SG) : Prop := (∃ j, w.1 = mS σ.1 j ∧ OKM σ.1 j) ∧ σ.1.2.2.2.2 ≤ 999 ∧ MKq (MKp w) σ ∧ MLn w
/-- what a call of an int method leaves -/
def MPo (m n : Nat) (g : RH) (p : Int32 × SG) : Option Value → Nat → RH → Prop := fun r n' h' => r = some (.int p.1) ∧ n' = n ∧ ∃ w', h' = mh m w' g ∧ MR w' p.2
def MPl (m n : Nat) (g : RH) (p : Int64 × SG) : Option Value → Nat → RH → Prop := fun r n' h' => r = some (.long p.1) ∧ n' = n ∧ ∃ w', h' = mh m w' g ∧ MR w' p.2
section MRL
variable {m n : Nat} {w w' : MW} {g : RH} {σ σ' : SG} {T : SQ} {j : List PP} {tk : Int32} {S : SM} {i : Nat}
theorem MPo.of {p : Int32 × SG} {r : Int32} (e : p = (r, σ')) (h : MR w' σ') : MPo m n g p (some (.int r)) n (mh m w' g) := by
  subst e
  exact ⟨rfl, rfl, w', rfl, h⟩
theorem MPl.of {p : Int64 × SG} {r : Int64} (e : p = (r, σ')) (h : MR w' σ') : MPl m n g p (some (.long r)) n (mh m w' g) := by
  subst e
  exact ⟨rfl, rfl, w', rfl, h⟩
theorem MR.ln (h : MR w σ) : MLn w := h.2.2.2
theorem MR.l11 (h : MR w σ) : (ma11 w).length = 62 := h.2.2.2.2.2.2.1
theorem MR.l6 (h : MR w σ) : (ma6 w).length = 7 := by
  have k := h.2.2.1
  have e : ma6 w = σ.2.1.1 ∧ σ.2.1.1.length = 7 := k.1
  rw [e.1]
  exact e.2
theorem MR.scr (h : MR w σ) (h1 : w'.1 = w.1) (h2 : MKp w' = MKp w) (h3 : MLn w') : MR w' σ := by
  obtain ⟨⟨j, a1, a2⟩, a3, a4, a5⟩ := h
  exact ⟨⟨j, h1.trans a1, a2⟩, a3, by rw [h2]; exact a4, h3⟩
theorem MR.th (h : MR w σ) (v : Int32) : MR (sf7 w v) σ := h.scr rfl rfl h.ln
theorem MLn.k11 (h : MLn w) : MLn (cw11 m w tk S (encS S) i) := ⟨h.1, h.2.1, h.2.2.1, encS_len _, h.2.2.2.2.1, h.2.2.2.2.2⟩
/-- put back -/
theorem MR.fin (h : MR w σ) (e : w.1 = mS σ.1 j) : MR (cw11 m w 0 (mS σ.1 j) (encS (mS σ.1 j)) 62) σ := h.scr e.symm rfl h.ln.k11
theorem MR.refuse (h : MR w σ) (c : Int32) : MR (sa6 w (bump (ma6 w) c)) (rfS σ c) := by
  obtain ⟨a1, a2, ⟨b1, b2, b3, b4, b5, b6⟩, a4⟩ := h
  refine ⟨a1, a2, ⟨⟨?_, (bump_len _ _).trans b1.2⟩, b2, b3, b4, b5, b6⟩, a4⟩
  have e : ma6 w = σ.2.1.1 := b1.1
  show bump (ma6 w) c = bump σ.2.1.1 c
  rw [e]
end MRL
section MO
variable {G : GD} {n m : Nat} {w : MW} {g : RH} {σ : SG}
theorem MR.feed (h : MR w σ) (c : Int32) (hlt : σ.2.1.2.1.2 < 96) (v : Int32) (hv : v = nI (σ.2.1.2.1.2 + 1)) : MR (sf10 (sa7 w ((ma7 w).set σ.2.1.2.1.2 c)) v) (σ.1, (σ.2.1.1, (σ.2.1.2.1.1.set σ.2.1.2.1.2 c, σ.2.1.2.1.2 + 1), σ.2.1.2.2), σ.2.2) := by
  obtain ⟨a1, a2, ⟨b1, b2, b3, b4, b5, b6⟩, a4⟩ := h
  have e : ma7 w = σ.2.1.2.1.1 := b2.1
  exact ⟨a1, a2, ⟨b1, ⟨by show (ma7 w).set _ c = _; rw [e], (List.length_set ..).trans b2.2.1, hv, hlt⟩, b3, b4, b5, b6⟩, a4⟩
theorem MR.row (h : MR w σ) (c : Int32) (hlt : σ.2.1.2.2.2 < 12) (v : Int32) (hv : v = nI (σ.2.1.2.2.2 + 1)) : MR (sf31 (sa17 w ((ma17 w).set σ.2.1.2.2.2 c)) v) (σ.1, (σ.2.1.1, σ.2.1.2.1, (σ.2.1.2.2.1.set σ.2.1.2.2.2 c, σ.2.1.2.2.2 + 1)), σ.2.2) := by
  obtain ⟨a1, a2, ⟨b1, b2, b3, b4, b5, b6⟩, a4⟩ := h
  have e : ma17 w = σ.2.1.2.2.1 := b3.1
  exact ⟨a1, a2, ⟨b1, b2, ⟨by show (ma17 w).set _ c = _; rw [e], (List.length_set ..).trans b3.2.1, hv, hlt⟩, b4, b5, b6⟩, a4⟩
theorem MR.clear (h : MR w σ) : MR (sf31 w 0) (clearS σ).2 := by
  obtain ⟨a1, a2, ⟨b1, b2, b3, b4, b5, b6⟩, a4⟩ := h
  exact ⟨a1, a2, ⟨b1, b2, ⟨b3.1, b3.2.1, rfl, Nat.zero_le _⟩, b4, b5, b6⟩, a4⟩
theorem MR.let7 (h : MR w σ) : (ma7 w = σ.2.1.2.1.1 ∧ σ.2.1.2.1.1.length = 96 ∧ mf10 w = nI σ.2.1.2.1.2 ∧ σ.2.1.2.1.2 ≤ 96) := h.2.2.1.2.1
theorem MR.row17 (h : MR w σ) : (ma17 w = σ.2.1.2.2.1 ∧ σ.2.1.2.2.1.length = 12 ∧ mf31 w = nI σ.2.1.2.2.2 ∧ σ.2.1.2.2.2 ≤ 12) := h.2.2.1.2.2.1
theorem MR.st (h : MR w σ) : MRs (ma13 w) (mf25 w) σ.2.2.1 := h.2.2.1.2.2.2.1
theorem MR.im (h : MR w σ) : MRi (ma12 w) (mf19 w) σ.2.2.2 := h.2.2.1.2.2.2.2.1
/-- a refusal for a full store -/
def noN (wr : Int32) (k N : Nat) : Int32 := if wr = 0 ∧ k = N then -6 else wr
theorem k_X2_feed {c : Int32} (h : MR w σ) : Ct G yX2_feed cX2_feed 2 (some .int) 2 0 0 [.ref m, .int c] n (mh m w g) (MPo m n g (feedS σ c)) := by
  refine Ct.intro (k := 0) [some (.ref m), some (.int c)] (by decide) (Nat.le_of_ble_eq_true rfl) rfl fun z hz hin => ?_
  have h7 := h.let7
  have e96 : ∀ c : Int32, feedS σ c = if (noN (wi c 0 255) σ.2.1.2.1.2 96) = 0 then (nI (σ.2.1.2.1.2 + 1), (σ.1, (σ.2.1.1, (σ.2.1.2.1.1.set σ.2.1.2.1.2 c, σ.2.1.2.1.2 + 1), σ.2.1.2.2), σ.2.2)) else ((noN (wi c 0 255) σ.2.1.2.1.2 96), rfS σ (noN (wi c 0 255) σ.2.1.2.1.2 96)) := fun _ => rfl
  rw [e96] at hz
  refine r_aload_0 (q := 1) dX2_feed_0 rfl ?_
  refine r_iconst 0 (by decide) (q := 2) dX2_feed_1 rfl ?_
  refine r_put gf_X2_65_2 cl_ok_2 ft_2_7 mh_o (Nat.le_of_ble_eq_true rfl) rfl rfl (q := 5) dX2_feed_2 rfl ?_
  refine J.heap mset_f7 ?_
  refine r_iload_1 (q := 6) dX2_feed_5 rfl ?_
  refine r_if_ge (q := 9) (tgt := 16) dX2_feed_6 rfl rfl (fun c6 => ?_) (fun c6 => ?_)
  · have h1 : ¬ c < 0 := Int32.not_lt.mpr c6
    refine r_iload_1 (q := 17) dX2_feed_16 rfl ?_
    refine r_sipush 255 (by decide) (q := 20) dX2_feed_17 rfl ?_
    have bad : (noN (wi c 0 255) σ.2.1.2.1.2 96) = -6 → J G z cX2_feed 2 RX2 2 0 0 0 0 32 [some (.ref m), some (.int c)] [] n (mh m (sf7 w 0) g) := by
      intro hb
      rw [hb, if_neg (by decide)] at hz
      refine r_aload_0 (q := 33) dX2_feed_32 rfl ?_
      refine r_bipush (-6) (by decide) (q := 35) dX2_feed_33 rfl ?_
      refine r_callV_1 cv_X2_128 mh_o rfl (by decide) (Nat.le_of_ble_eq_true rfl) ⟨Nat.le_refl _, Nat.le_refl _⟩ (k_X2_refuse isC_6 (h.th 0).l6) (q := 38) dX2_feed_35 rfl ?_
      exact r_iret hz dX2_feed_38 (Nat.le_refl _) (Nat.le_refl _) (.of rfl ((h.th 0).refuse _))
    refine r_icmp_gt (q := 23) (tgt := 32) dX2_feed_20 rfl rfl (fun c20 => ?_) (fun c20 => ?_)
    · have w6 : wi c 0 255 = -6 := by unfold wi; rw [if_neg h1, if_pos c20]
      exact bad (by rw [w6]; exact if_neg (fun q => absurd q.1 (by decide)))
    have w0 : wi c 0 255 = 0 := by unfold wi; rw [if_neg h1, if_neg c20]
    refine r_aload_0 (q := 24) dX2_feed_23 rfl ?_
    refine r_get gf_X2_131_2 mh_o rfl (q := 27) dX2_feed_24 rfl ?_
    refine r_bipush 96 (by decide) (q := 29) dX2_feed_27 rfl ?_
    refine J.stk (s2 := [.int 96, .int (nI σ.2.1.2.1.2)]) (by show [Value.int 96, .int (mf10 w)] = _; rw [h7.2.2.1]) ?_
    refine r_icmp_ne (q := 32) (tgt := 39) dX2_feed_29 rfl rfl (fun c29 => ?_) (fun c29 => ?_)
    · have hne : ¬ σ.2.1.2.1.2 = 96 := fun q => c29 (by rw [q]; rfl)
      have hlt : σ.2.1.2.1.2 < 96 := by have := h7.2.2.2; omega
      rw [w0, show noN 0 _ _ = 0 from if_neg (fun q => hne q.2), if_pos rfl] at hz
      refine r_aload_0 (q := 40) dX2_feed_39 rfl ?_
      refine r_get gf_X2_28_2 mh_o rfl (q := 43) dX2_feed_40 rfl ?_
      refine r_aload_0 (q := 44) dX2_feed_43 rfl ?_
      refine r_get gf_X2_131_2 mh_o rfl (q := 47) dX2_feed_44 rfl ?_
      refine r_iload_1 (q := 48) dX2_feed_47 rfl ?_
      refine r_iast σ.2.1.2.1.2 96 mh_7 (by show (ma7 w).length = 96; rw [h7.1]; exact h7.2.1) h7.2.2.1 hlt (by decide) (q := 49) dX2_feed_48 rfl ?_
      refine J.heap mset_7 ?_
      refine r_aload_0 (q := 50) dX2_feed_49 rfl ?_
      refine r_dup rfl (q := 51) dX2_feed_50 rfl ?_
      refine r_get gf_X2_131_2 mh_o rfl (q := 54) dX2_feed_51 rfl ?_
      refine r_iconst 1 (by decide) (q := 55) dX2_feed_54 rfl ?_
      refine r_iadd (q := 56) dX2_feed_55 rfl ?_
      refine r_put gf_X2_131_2 cl_ok_2 ft_2_10 mh_o (Nat.le_of_ble_eq_true rfl) rfl rfl (q := 59) dX2_feed_56 rfl ?_
      refine J.heap mset_f10 ?_
      refine r_aload_0 (q := 60) dX2_feed_59 rfl ?_
      refine r_get gf_X2_131_2 mh_o rfl (q := 63) dX2_feed_60 rfl ?_
      have e1 : mf10 w + 1 = nI (σ.2.1.2.1.2 + 1) := by rw [h7.2.2.1, nI_1]
      refine J.topi (x := mf10 w + 1) e1 ?_
      exact r_iret hz dX2_feed_63 (Nat.le_refl _) (Nat.le_refl _) (.of rfl ((h.th 0).feed c hlt _ e1))
    · have he : σ.2.1.2.1.2 = 96 := nI_inj (b := 96) (by have := h7.2.2.2; omega) (by omega) c29
      exact bad (if_pos ⟨w0, he⟩)
  · have w4 : wi c 0 255 = -4 := by unfold wi; rw [if_pos (Int32.not_le.mp c6)]
    rw [w4, show noN (-4) _ _ = -4 from if_neg (fun q => absurd q.1 (by decide)), if_neg (by decide)] at hz
    refine r_aload_0 (q := 10) dX2_feed_9 rfl ?_
    refine r_bipush (-4) (by decide) (q := 12) dX2_feed_10 rfl ?_
    refine r_callV_1 cv_X2_128 mh_o rfl (by decide) (Nat.le_of_ble_eq_true rfl) ⟨Nat.le_refl _, Nat.le_refl _⟩ (k_X2_refuse isC_4 (h.th 0).l6) (q := 15) dX2_feed_12 rfl ?_
    exact r_iret hz dX2_feed_15 (Nat.le_refl _) (Nat.le_refl _) (.of rfl ((h.th 0).refuse _))
theorem k_X2_row {c : Int32} (h : MR w σ) : Ct G yX2_row cX2_row 2 (some .int) 2 0 0 [.ref m, .int c] n (mh m w g) (MPo m n g (rowS σ c)) := by
  refine Ct.intro (k := 0) [some (.ref m), some (.int c)] (by decide) (Nat.le_of_ble_eq_true rfl) rfl fun z hz hin => ?_
  have h7 := h.row17
  have e96 : ∀ c : Int32, rowS σ c = if (noN (wi c 0 99) σ.2.1.2.2.2 12) = 0 then (nI (σ.2.1.2.2.2 + 1), (σ.1, (σ.2.1.1, σ.2.1.2.1, (σ.2.1.2.2.1.set σ.2.1.2.2.2 c, σ.2.1.2.2.2 + 1)), σ.2.2)) else ((noN (wi c 0 99) σ.2.1.2.2.2 12), rfS σ (noN (wi c 0 99) σ.2.1.2.2.2 12)) := fun _ => rfl
  rw [e96] at hz
  refine r_aload_0 (q := 1) dX2_row_0 rfl ?_
  refine r_iconst 0 (by decide) (q := 2) dX2_row_1 rfl ?_
  refine r_put gf_X2_65_2 cl_ok_2 ft_2_7 mh_o (Nat.le_of_ble_eq_true rfl) rfl rfl (q := 5) dX2_row_2 rfl ?_
  refine J.heap mset_f7 ?_
  refine r_iload_1 (q := 6) dX2_row_5 rfl ?_
  refine r_if_ge (q := 9) (tgt := 16) dX2_row_6 rfl rfl (fun c6 => ?_) (fun c6 => ?_)
  · have h1 : ¬ c < 0 := Int32.not_lt.mpr c6
    refine r_iload_1 (q := 17) dX2_row_16 rfl ?_
    refine r_bipush 99 (by decide) (q := 19) dX2_row_17 rfl ?_
    have bad : (noN (wi c 0 99) σ.2.1.2.2.2 12) = -6 → J G z cX2_row 2 RX2 2 0 0 0 0 31 [some (.ref m), some (.int c)] [] n (mh m (sf7 w 0) g) := by
      intro hb
      rw [hb, if_neg (by decide)] at hz
      refine r_aload_0 (q := 32) dX2_row_31 rfl ?_
      refine r_bipush (-6) (by decide) (q := 34) dX2_row_32 rfl ?_
      refine r_callV_1 cv_X2_128 mh_o rfl (by decide) (Nat.le_of_ble_eq_true rfl) ⟨Nat.le_refl _, Nat.le_refl _⟩ (k_X2_refuse isC_6 (h.th 0).l6) (q := 37) dX2_row_34 rfl ?_
      exact r_iret hz dX2_row_37 (Nat.le_refl _) (Nat.le_refl _) (.of rfl ((h.th 0).refuse _))
    refine r_icmp_gt (q := 22) (tgt := 31) dX2_row_19 rfl rfl (fun c19 => ?_) (fun c19 => ?_)
    · have w6 : wi c 0 99 = -6 := by unfold wi; rw [if_neg h1, if_pos c19]
      exact bad (by rw [w6]; exact if_neg (fun q => absurd q.1 (by decide)))
    have w0 : wi c 0 99 = 0 := by unfold wi; rw [if_neg h1, if_neg c19]
    refine r_aload_0 (q := 23) dX2_row_22 rfl ?_
    refine r_get gf_X2_273_2 mh_o rfl (q := 26) dX2_row_23 rfl ?_
    refine r_bipush 12 (by decide) (q := 28) dX2_row_26 rfl ?_
    refine J.stk (s2 := [.int 12, .int (nI σ.2.1.2.2.2)]) (by show [Value.int 12, .int (mf31 w)] = _; rw [h7.2.2.1]) ?_
    refine r_icmp_ne (q := 31) (tgt := 38) dX2_row_28 rfl rfl (fun c28 => ?_) (fun c28 => ?_)
    · have hne : ¬ σ.2.1.2.2.2 = 12 := fun q => c28 (by rw [q]; rfl)
      have hlt : σ.2.1.2.2.2 < 12 := by have := h7.2.2.2; omega
      rw [w0, show noN 0 _ _ = 0 from if_neg (fun q => hne q.2), if_pos rfl] at hz
      refine r_aload_0 (q := 39) dX2_row_38 rfl ?_
      refine r_get gf_X2_62_2 mh_o rfl (q := 42) dX2_row_39 rfl ?_
      refine r_aload_0 (q := 43) dX2_row_42 rfl ?_
      refine r_get gf_X2_273_2 mh_o rfl (q := 46) dX2_row_43 rfl ?_
      refine r_iload_1 (q := 47) dX2_row_46 rfl ?_
      refine r_iast σ.2.1.2.2.2 12 mh_17 (by show (ma17 w).length = 12; rw [h7.1]; exact h7.2.1) h7.2.2.1 hlt (by decide) (q := 48) dX2_row_47 rfl ?_
      refine J.heap mset_17 ?_
      refine r_aload_0 (q := 49) dX2_row_48 rfl ?_
      refine r_dup rfl (q := 50) dX2_row_49 rfl ?_
      refine r_get gf_X2_273_2 mh_o rfl (q := 53) dX2_row_50 rfl ?_
      refine r_iconst 1 (by decide) (q := 54) dX2_row_53 rfl ?_
      refine r_iadd (q := 55) dX2_row_54 rfl ?_
      refine r_put gf_X2_273_2 cl_ok_2 ft_2_31 mh_o (Nat.le_of_ble_eq_true rfl) rfl rfl (q := 58) dX2_row_55 rfl ?_
      refine J.heap mset_f31 ?_
      refine r_aload_0 (q := 59) dX2_row_58 rfl ?_
      refine r_get gf_X2_273_2 mh_o rfl (q := 62) dX2_row_59 rfl ?_
      have e1 : mf31 w + 1 = nI (σ.2.1.2.2.2 + 1) := by rw [h7.2.2.1, nI_1]
      refine J.topi (x := mf31 w + 1) e1 ?_
      exact r_iret hz dX2_row_62 (Nat.le_refl _) (Nat.le_refl _) (.of rfl ((h.th 0).row c hlt _ e1))
    · have he : σ.2.1.2.2.2 = 12 := nI_inj (b := 12) (by have := h7.2.2.2; omega) (by omega) c28
      exact bad (if_pos ⟨w0, he⟩)
  · have w4 : wi c 0 99 = -4 := by unfold wi; rw [if_pos (Int32.not_le.mp c6)]
    rw [w4, show noN (-4) _ _ = -4 from if_neg (fun q => absurd q.1 (by decide)), if_neg (by decide)] at hz
    refine r_aload_0 (q := 10) dX2_row_9 rfl ?_
    refine r_bipush (-4) (by decide) (q := 12) dX2_row_10 rfl ?_
    refine r_callV_1 cv_X2_128 mh_o rfl (by decide) (Nat.le_of_ble_eq_true rfl) ⟨Nat.le_refl _, Nat.le_refl _⟩ (k_X2_refuse isC_4 (h.th 0).l6) (q := 15) dX2_row_12 rfl ?_
    exact r_iret hz dX2_row_15 (Nat.le_refl _) (Nat.le_refl _) (.of rfl ((h.th 0).refuse _))
theorem k_X2_clear (h : MR w σ) : Ct G yX2_clear cX2_clear 2 (some .int) 1 0 0 [.ref m] n (mh m w g) (MPo m n g (clearS σ)) := by
  refine Ct.intro (k := 1) [some (.ref m), none] (by decide) (Nat.le_of_ble_eq_true rfl) rfl fun z hz hin => ?_
  refine r_aload_0 (q := 1) dX2_clear_0 rfl ?_
  refine r_iconst 0 (by decide) (q := 2) dX2_clear_1 rfl ?_
  refine r_put gf_X2_65_2 cl_ok_2 ft_2_7 mh_o (Nat.le_of_ble_eq_true rfl) rfl rfl (q := 5) dX2_clear_2 rfl ?_
  refine J.heap mset_f7 ?_
  refine r_aload_0 (q := 6) dX2_clear_5 rfl ?_
  refine r_get gf_X2_273_2 mh_o rfl (q := 9) dX2_clear_6 rfl ?_
  refine r_istore_1 (by decide) rfl (q := 10) dX2_clear_9 rfl ?_
  refine r_aload_0 (q := 11) dX2_clear_10 rfl ?_
  refine r_iconst 0 (by decide) (q := 12) dX2_clear_11 rfl ?_
  refine r_put gf_X2_273_2 cl_ok_2 ft_2_31 mh_o (Nat.le_of_ble_eq_true rfl) rfl rfl (q := 15) dX2_clear_12 rfl ?_
  refine J.heap mset_f31 ?_
  refine r_iload_1 (q := 16) dX2_clear_15 rfl ?_
  refine J.topi (x := mf31 w) h.row17.2.2.1 ?_
  exact r_iret hz dX2_clear_16 (Nat.le_refl _) (Nat.le_refl _) (.of rfl (h.th 0).clear)
theorem k_X2_judge {p : Int32} (h : MR w σ) : Ct G yX2_judge cX2_judge 4 (some .int) 5 0 0 [.ref m, .int p] n (mh m w g) (MPo m n g (judgeS σ p)) := by
  refine Ct.intro (k := 2) [some (.ref m), some (.int p), none, none] (by decide) (Nat.le_of_ble_eq_true rfl) rfl fun z hz hin => ?_
  obtain ⟨j, e, K⟩ := h.1
  have h6 := K.l6
  have h5 := h.row17
  refine r_aload_0 (q := 1) dX2_judge_0 rfl ?_
  refine r_iconst 0 (by decide) (q := 2) dX2_judge_1 rfl ?_
  refine r_put gf_X2_65_2 cl_ok_2 ft_2_7 mh_o (Nat.le_of_ble_eq_true rfl) rfl rfl (q := 5) dX2_judge_2 rfl ?_
  refine J.heap mset_f7 ?_
  refine r_aload_0 (q := 6) dX2_judge_5 rfl ?_
  refine r_iload_1 (q := 7) dX2_judge_6 rfl ?_
  refine r_callV_1 cv_X2_75 mh_o rfl (by decide) (Nat.le_of_ble_eq_true rfl) ⟨Nat.le_refl _, Nat.le_refl _⟩ (k_X2_isOne K e) (q := 10) dX2_judge_7 rfl ?_
  refine r_if_ne (q := 13) (tgt := 19) dX2_judge_10 rfl rfl (fun c10 => ?_) (fun c10 => ?_)
  · have hp := bI_n0.mp c10
    obtain ⟨a, ha, rfl⟩ := isPer_t K.lens hp
    have e0 : judgeS σ (nI a) = (judF σ.1 a σ.2.1.2.2.1 σ.2.1.2.2.2 0, (clearS σ).2) := by
      unfold judgeS
      rw [if_pos hp, nI_clamp (by omega)]
    rw [e0] at hz
    refine r_aload_0 (q := 20) dX2_judge_19 rfl ?_
    refine r_get gf_X2_273_2 mh_o rfl (q := 23) dX2_judge_20 rfl ?_
    refine r_istore_2 (by decide) rfl (q := 24) dX2_judge_23 rfl ?_
    refine r_aload_0 (q := 25) dX2_judge_24 rfl ?_
    refine r_iconst 0 (by decide) (q := 26) dX2_judge_25 rfl ?_
    refine r_put gf_X2_273_2 cl_ok_2 ft_2_31 mh_o (Nat.le_of_ble_eq_true rfl) rfl rfl (q := 29) dX2_judge_26 rfl ?_
    refine J.heap mset_f31 ?_
    refine r_iconst 0 (by decide) (q := 30) dX2_judge_29 rfl ?_
    refine r_istore_3 (by decide) rfl (q := 31) dX2_judge_30 rfl ?_
    have hR := (h.th 0).clear
    refine J.lo (l2 := [some (.ref m), some (.int (nI a)), some (.int (nI σ.2.1.2.2.2)), some (.int (nI 0))]) (by show [_, _, some (Value.int (mf31 w)), _] = _; rw [h5.2.2.1]; rfl) ?_
    have loop : ∀ (c i : Nat), i + c = σ.2.1.2.2.2 → judF σ.1 a σ.2.1.2.2.1 c i = judF σ.1 a σ.2.1.2.2.1 σ.2.1.2.2.2 0 → J G z cX2_judge 4 RX2 5 0 0 0 0 31 [some (.ref m), some (.int (nI a)), some (.int (nI σ.2.1.2.2.2)), some (.int (nI i))] [] n (mh m (sf31 (sf7 w 0) 0) g) := by
      intro c
      induction c with
      | zero =>
        intro i h1 h2
        rw [← h2] at hz
        have h1 : i = σ.2.1.2.2.2 := h1
        subst h1
        refine r_iload_3 (q := 32) dX2_judge_31 rfl ?_
        refine r_iload_2 (q := 33) dX2_judge_32 rfl ?_
        refine r_icmp_ge (q := 36) (tgt := 76) dX2_judge_33 rfl rfl (fun c33 => ?_) (fun c33 => ?_)
        · refine r_bipush (-9) (by decide) (q := 78) dX2_judge_76 rfl ?_
          exact r_iret hz dX2_judge_78 (Nat.le_refl _) (Nat.le_refl _) (.of rfl hR)
        · exact absurd (Int32.le_refl _) c33
      | succ c ih =>
        intro i h1 h2
        have h12 := h5.2.2.2
        have h2 : (if i < σ.1.1.length ∧ nI (qr σ.1 a i) = σ.2.1.2.2.1.getD i 0 then judF σ.1 a σ.2.1.2.2.1 c (i + 1) else nI i) = judF σ.1 a σ.2.1.2.2.1 σ.2.1.2.2.2 0 := h2
        have stop : ¬(i < σ.1.1.length ∧ nI (qr σ.1 a i) = σ.2.1.2.2.1.getD i 0) → J G z cX2_judge 4 RX2 5 0 0 0 0 68 [some (.ref m), some (.int (nI a)), some (.int (nI σ.2.1.2.2.2)), some (.int (nI i))] [] n (mh m (sf31 (sf7 w 0) 0) g) := by
          intro hn
          rw [if_neg hn] at h2
          rw [← h2] at hz
          refine r_iload_3 (q := 69) dX2_judge_68 rfl ?_
          exact r_iret hz dX2_judge_69 (Nat.le_refl _) (Nat.le_refl _) (.of rfl hR)
        refine r_iload_3 (q := 32) dX2_judge_31 rfl ?_
        refine r_iload_2 (q := 33) dX2_judge_32 rfl ?_
        refine r_icmp_ge (q := 36) (tgt := 76) dX2_judge_33 rfl rfl (fun c33 => ?_) (fun c33 => ?_)
        · exact absurd c33 (nI_not_lt (by omega) (by omega))
        refine r_iload_3 (q := 37) dX2_judge_36 rfl ?_
        refine r_aload_0 (q := 38) dX2_judge_37 rfl ?_
        refine m_getp gf_X2_68_2 K e (q := 41) dX2_judge_38 rfl ?_
        refine r_icmp_ge (q := 44) (tgt := 68) dX2_judge_41 rfl rfl (fun c41 => ?_) (fun c41 => ?_)
        · exact stop (fun q => nI_ge q.1 (by omega) c41)
        have hi : i < σ.1.1.length := by
          rcases Nat.lt_or_ge i σ.1.1.length with q | q
          · exact q
          · exact absurd (nI_le q (by omega)) c41
        have go : J G z cX2_judge 4 RX2 5 0 0 0 0 65 [some (.ref m), some (.int (nI a)), some (.int (nI σ.2.1.2.2.2)), some (.int (nI i))] [.int (nI (qr σ.1 a i)), .int (σ.2.1.2.2.1.getD i 0)] n (mh m (sf31 (sf7 w 0) 0) g) := by
          refine r_icmp_eq (q := 68) (tgt := 70) dX2_judge_65 rfl rfl (fun c65 => ?_) (fun c65 => ?_)
          · rw [if_pos ⟨hi, c65.symm⟩] at h2
            refine r_inc_3 (by decide) rfl (q := 73) dX2_judge_70 rfl ?_
            refine r_goto (q := 31) dX2_judge_73 rfl ?_
            exact ih (i + 1) (by omega) h2
          · exact stop (fun q => c65 q.2.symm)
        refine r_aload_0 (q := 45) dX2_judge_44 rfl ?_
        refine r_get gf_X2_62_2 mh_o rfl (q := 48) dX2_judge_45 rfl ?_
        refine r_iload_3 (q := 49) dX2_judge_48 rfl ?_
        refine r_iald i 12 mh_17 (by show (ma17 w).length = 12; rw [h5.1]; exact h5.2.1) rfl (by omega) (by decide) (q := 50) dX2_judge_49 rfl ?_
        refine J.topi (y := σ.2.1.2.2.1.getD i 0) (by show (ma17 w).getD i 0 = _; rw [h5.1]) ?_
        refine r_iload_3 (q := 51) dX2_judge_50 rfl ?_
        refine r_iload_1 (q := 52) dX2_judge_51 rfl ?_
        refine r_icmp_ne (q := 55) (tgt := 59) dX2_judge_52 rfl rfl (fun c52 => ?_) (fun c52 => ?_)
        · refine r_aload_0 (q := 60) dX2_judge_59 rfl ?_
          refine r_iload_1 (q := 61) dX2_judge_60 rfl ?_
          refine r_iload_3 (q := 62) dX2_judge_61 rfl ?_
          refine r_callV_2 cv_X2_79 mh_o rfl (by decide) (Nat.le_of_ble_eq_true rfl) ⟨Nat.le_refl _, Nat.le_refl _⟩ (k_X2_quarrelOf K e (by omega) (by omega)) (q := 65) dX2_judge_62 rfl ?_
          exact go
        · have hia : i = a := nI_inj (by omega) (by omega) c52
          refine r_iconst 0 (by decide) (q := 56) dX2_judge_55 rfl ?_
          refine r_goto (q := 65) dX2_judge_56 rfl ?_
          have e9 : qr σ.1 a i = 0 := by rw [hia]; exact K.syms.2 a (by omega)
          rw [e9] at go
          exact go
    exact loop σ.2.1.2.2.2 0 (Nat.zero_add _) rfl
  · have hp := bI_0.mp c10
    refine r_aload_0 (q := 14) dX2_judge_13 rfl ?_
    refine r_iconst (-1) (by decide) (q := 15) dX2_judge_14 rfl ?_
    refine r_callV_1 cv_X2_128 mh_o rfl (by decide) (Nat.le_of_ble_eq_true rfl) ⟨Nat.le_refl _, Nat.le_refl _⟩ (k_X2_refuse isC_1 (h.th 0).l6) (q := 18) dX2_judge_15 rfl ?_
    exact r_iret hz dX2_judge_18 (Nat.le_refl _) (Nat.le_refl _) (.of (by unfold judgeS; rw [if_neg (by rw [hp]; decide)]) ((h.th 0).refuse _))
end MO


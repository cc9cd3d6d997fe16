/-! ===== what a face holds, in plain terms ===== -/
/-- quarter, (refusals, (letters, how many), (row, how many)), what can be taken back (oldest first), the image -/
abbrev SG : Type := SQ × (List Int32 × (List Int32 × Nat) × (List Int32 × Nat)) × List SQ × Option SQ
def XRs (x : Nat) (w : XW) (g : RH) (st : List SQ) : Prop := w.2.1.length = 8 ∧ w.2.1.Nodup ∧ (∀ i ∈ w.2.1, 4 ≤ i ∧ i < 12) ∧ st.length ≤ 8 ∧ w.2.2.2 9 = nI st.length ∧ ∀ k, k < st.length → OKX x g (w.1 (w.2.1.getD k 0)) ∧ (w.1 (w.2.1.getD k 0)).1 = st.getD k S0 ∧ (st.getD k S0).2.2.2.2 ≤ 999
def XRi (x : Nat) (w : XW) (g : RH) : Option SQ → Prop
  | none => w.2.2.2 5 = 0
  | some S => w.2.2.2 5 = 1 ∧ OKX x g (w.1 3) ∧ (w.1 3).1 = S ∧ S.2.2.2.2 ≤ 999
def XR (x : Nat) (w : XW) (g : RH) (σ : SG) : Prop :=
  (OKX x g (w.1 0) ∧ (w.1 0).1 = σ.1 ∧ σ.1.2.2.2.2 ≤ 999) ∧ LQ w ∧
  (w.2.2.1.1 = σ.2.1.1 ∧ σ.2.1.1.length = 7) ∧
  (w.2.2.1.2.1 = σ.2.1.2.1.1 ∧ σ.2.1.2.1.1.length = 96 ∧ w.2.2.2 7 = nI σ.2.1.2.1.2 ∧ σ.2.1.2.1.2 ≤ 96) ∧
  (w.2.2.1.2.2.2 = σ.2.1.2.2.1 ∧ σ.2.1.2.2.1.length = 12 ∧ w.2.2.2 15 = nI σ.2.1.2.2.2 ∧ σ.2.1.2.2.2 ≤ 12) ∧
  w.2.2.1.2.2.1.length = 6 ∧ XRs x w g σ.2.2.1 ∧ XRi x w g σ.2.2.2
/-- changes in what is only scratch -/
def XS (w w' : XW) : Prop := w'.1 0 = w.1 0 ∧ (∀ i, 3 ≤ i → w'.1 i = w.1 i) ∧ LQ w' ∧ w'.2.1 = w.2.1 ∧ w'.2.2.1.1 = w.2.2.1.1 ∧ w'.2.2.1.2.1 = w.2.2.1.2.1 ∧ w'.2.2.1.2.2.2 = w.2.2.1.2.2.2 ∧ w'.2.2.1.2.2.1.length = 6 ∧ w'.2.2.2 5 = w.2.2.2 5 ∧ w'.2.2.2 7 = w.2.2.2 7 ∧ w'.2.2.2 9 = w.2.2.2 9 ∧ w'.2.2.2 15 = w.2.2.2 15
section XRL
variable {x n : Nat} {w w' w2 : XW} {g g' : RH} {σ : SG} {X : QX}
theorem XR.scr (h : XR x w g σ) (s : XS w w') : XR x w' g σ := by
  obtain ⟨s1, s2, s3, s4, s5, s6, s7, s8, s9, s10, s11, s12⟩ := s
  obtain ⟨h1, h2, h3, h4, h5, h6, h7, h8⟩ := h
  refine ⟨by rw [s1]; exact h1, s3, by rw [s5]; exact h3, by rw [s6, s10]; exact h4, by rw [s7, s12]; exact h5, s8, ?_, ?_⟩
  · unfold XRs at h7 ⊢
    rw [s4, s11]
    obtain ⟨a1, a2, a3, a4, a5, a6⟩ := h7
    refine ⟨a1, a2, a3, a4, a5, fun k hk => ?_⟩
    have hk' : k < w.2.1.length := by omega
    have hm : 4 ≤ w.2.1.getD k 0 := by
      rw [List.getD_eq_getElem?_getD, List.getElem?_eq_getElem hk', Option.getD_some]
      exact (a3 _ (List.getElem_mem hk')).1
    rw [s2 _ (by omega)]
    exact a6 k hk
  · unfold XRi at h8 ⊢
    cases hi : σ.2.2.2 with
    | none => rw [hi] at h8; exact s9.trans h8
    | some S => rw [hi] at h8; exact ⟨s9.trans h8.1, by rw [s2 3 (Nat.le_refl _)]; exact h8.2⟩
theorem XR.ok (h : XR x w g σ) : OKX x g (w.1 0) := h.1.1
theorem XR.kx (h : XR x w g σ) : KX x g (w.1 0) := h.1.1.kx
theorem XR.s (h : XR x w g σ) : (w.1 0).1 = σ.1 := h.1.2.1
theorem XR.day (h : XR x w g σ) : σ.1.2.2.2.2 ≤ 999 := h.1.2.2
theorem XR.oks (h : XR x w g σ) : OKS σ.1 := h.s ▸ h.1.1.1
theorem XR.lq (h : XR x w g σ) : LQ w := h.2.1
theorem XR.lx (i : Nat) (hi : i < 12) (h : XR x w g σ) : LX (w.1 i) := h.2.1 i hi
theorem XR.ra (h : XR x w g σ) : w.2.2.1.1.length = 7 := by rw [h.2.2.1.1]; exact h.2.2.1.2
theorem XS.mind (hL : LQ w) (hb : w.2.2.1.2.2.1.length = 6) (i : Nat) (hi : i = 1 ∨ i = 2) (hX : LX X) : XS w (setq w i X) :=
  ⟨setq_ne X (by omega), fun j hj => setq_ne X (by omega), hL.setq hX.1 hX.2, rfl, rfl, rfl, rfl, hb, rfl, rfl, rfl, rfl⟩
theorem XS.trans (h : XS w w') (k : XS w' w2) : XS w w2 := by
  obtain ⟨s1, s2, s3, s4, s5, s6, s7, s8, s9, s10, s11, s12⟩ := h
  obtain ⟨t1, t2, t3, t4, t5, t6, t7, t8, t9, t10, t11, t12⟩ := k
  exact ⟨t1.trans s1, fun i hi => (t2 i hi).trans (s2 i hi), t3, t4.trans s4, t5.trans s5, t6.trans s6, t7.trans s7, t8, t9.trans s9, t10.trans s10, t11.trans s11, t12.trans s12⟩
theorem XR.mind (h : XR x w g σ) (hX : LX X) : XR x (setq w 1 X) g σ := h.scr (XS.mind h.2.1 h.2.2.2.2.2.1 1 (Or.inl rfl) hX)
theorem XR.read (h : XR x w g σ) (hX : LX X) : XR x (setq w 2 X) g σ := h.scr (XS.mind h.2.1 h.2.2.2.2.2.1 2 (Or.inr rfl) hX)
/-- refused -/
def rfS (σ : SG) (c : Int32) : SG := (σ.1, (bump σ.2.1.1 c, σ.2.1.2), σ.2.2)
theorem bump_len (l : List Int32) (c : Int32) : (bump l c).length = l.length := List.length_set ..
theorem XR.refuse (h : XR x w g σ) (c : Int32) : XR x (rfw w c) g (rfS σ c) := by
  obtain ⟨h1, h2, h3, h4, h5, h6, h7, h8⟩ := h
  exact ⟨h1, h2, ⟨by show bump w.2.2.1.1 c = bump σ.2.1.1 c; rw [h3.1], (bump_len _ _).trans h3.2⟩, h4, h5, h6, h7, h8⟩
/-- what a call of an int method leaves -/
def XPo (x n : Nat) (g : RH) (p : Int32 × SG) : Option Value → Nat → RH → Prop := fun r n' h' => r = some (.int p.1) ∧ n ≤ n' ∧ ∃ w' g', h' = xh x w' g' ∧ XR x w' g' p.2 ∧ ∀ a, a < n → g' a = g a
def XPl (x n : Nat) (g : RH) (p : Int64 × SG) : Option Value → Nat → RH → Prop := fun r n' h' => r = some (.long p.1) ∧ n ≤ n' ∧ ∃ w' g', h' = xh x w' g' ∧ XR x w' g' p.2 ∧ ∀ a, a < n → g' a = g a
theorem XPo.of {p : Int32 × SG} {r : Int32} {σ' : SG} (e : p = (r, σ')) (h : XR x w' g σ') : XPo x n g p (some (.int r)) n (xh x w' g) := by
  subst e
  exact ⟨rfl, Nat.le_refl _, w', g, rfl, h, fun _ _ => rfl⟩
theorem XPl.of {p : Int64 × SG} {r : Int64} {σ' : SG} (e : p = (r, σ')) (h : XR x w' g σ') : XPl x n g p (some (.long r)) n (xh x w' g) := by
  subst e
  exact ⟨rfl, Nat.le_refl _, w', g, rfl, h, fun _ _ => rfl⟩
theorem XPo.gen {p : Int32 × SG} {r : Int32} {n' : Nat} {σ' : SG} (e : p = (r, σ')) (hn : n ≤ n') (h : XR x w' g' σ') (hg : ∀ a, a < n → g' a = g a) : XPo x n g p (some (.int r)) n' (xh x w' g') := by
  subst e
  exact ⟨rfl, hn, w', g', rfl, h, hg⟩
/-- a longer heap -/
theorem PO.grow {pp : List Nat} {P : List PP} (h : PO x g pp P) (hf : ∀ a c, xh x w g a = some c → a < n) (hg : ∀ a, a < n → g' a = g a) : PO x g' pp P := by
  refine ⟨h.1, fun i hi => ⟨(h.2 i hi).1, ?_⟩⟩
  rw [hg _ (hf _ _ (by rw [xh_out (Or.inr (h.2 i hi).1)]; exact (h.2 i hi).2))]
  exact (h.2 i hi).2
theorem XR.grow (h : XR x w g σ) (hf : ∀ a c, xh x w2 g a = some c → a < n) (hg : ∀ a, a < n → g' a = g a) : XR x w g' σ := by
  obtain ⟨h1, h2, h3, h4, h5, h6, h7, h8⟩ := h
  refine ⟨⟨⟨h1.1.1, h1.1.2.grow hf hg⟩, h1.2⟩, h2, h3, h4, h5, h6, ?_, ?_⟩
  · obtain ⟨a1, a2, a3, a4, a5, a6⟩ := h7
    exact ⟨a1, a2, a3, a4, a5, fun k hk => ⟨⟨(a6 k hk).1.1, (a6 k hk).1.2.grow hf hg⟩, (a6 k hk).2⟩⟩
  · unfold XRi at h8 ⊢
    cases hi : σ.2.2.2 with
    | none => rw [hi] at h8; exact h8
    | some S => rw [hi] at h8; exact ⟨h8.1, ⟨h8.2.1.1, h8.2.1.2.grow hf hg⟩, h8.2.2⟩
end XRL
/-! ===== feed, row, clear, judge ===== -/
def inI (v k : Int32) : Bool := decide (0 ≤ v ∧ v < k)
def feedS (σ : SG) (c : Int32) : Int32 × SG :=
  let no := if wi c 0 255 = 0 ∧ σ.2.1.2.1.2 = 96 then -6 else wi c 0 255
  if no = 0 then (nI (σ.2.1.2.1.2 + 1), (σ.1, (σ.2.1.1, (σ.2.1.2.1.1.set σ.2.1.2.1.2 c, σ.2.1.2.1.2 + 1), σ.2.1.2.2), σ.2.2)) else (no, rfS σ no)
def rowS (σ : SG) (v : Int32) : Int32 × SG :=
  let no := if wi v 0 99 = 0 ∧ σ.2.1.2.2.2 = 12 then -6 else wi v 0 99
  if no = 0 then (nI (σ.2.1.2.2.2 + 1), (σ.1, (σ.2.1.1, σ.2.1.2.1, (σ.2.1.2.2.1.set σ.2.1.2.2.2 v, σ.2.1.2.2.2 + 1)), σ.2.2)) else (no, rfS σ no)
def clearS (σ : SG) : Int32 × SG := (nI σ.2.1.2.2.2, (σ.1, (σ.2.1.1, σ.2.1.2.1, (σ.2.1.2.2.1, 0)), σ.2.2))
/-- the first told quarrel that is not so -/
def judF (S : SQ) (p : Nat) (row : List Int32) : Nat → Nat → Int32
  | 0, _ => -9
  | c + 1, i => if i < S.1.length ∧ nI (qr S p i) = row.getD i 0 then judF S p row c (i + 1) else nI i
def judgeS (σ : SG) (p : Int32) : Int32 × SG :=
  if isPer σ.1 p = true then (judF σ.1 p.toNatClampNeg σ.2.1.2.2.1 σ.2.1.2.2.2 0, (clearS σ).2) else (-1, rfS σ (-1))
section XF
variable {G : GD} {n x : Nat} {w : XW} {g : RH} {σ : SG}
theorem XR.feed (h : XR x w g σ) (c : Int32) (hlt : σ.2.1.2.1.2 < 96) (v : Int32) (hv : v = nI (σ.2.1.2.1.2 + 1)) : XR x (setf (setle w (w.2.2.1.2.1.set σ.2.1.2.1.2 c)) 7 v) g (σ.1, (σ.2.1.1, (σ.2.1.2.1.1.set σ.2.1.2.1.2 c, σ.2.1.2.1.2 + 1), σ.2.1.2.2), σ.2.2) := by
  obtain ⟨h1, h2, h3, h4, h5, h6, h7, h8⟩ := h
  refine ⟨h1, h2, h3, ⟨by show w.2.2.1.2.1.set _ c = _; rw [h4.1], (List.length_set ..).trans h4.2.1, hv, hlt⟩, h5, h6, h7, ?_⟩
  unfold XRi at h8 ⊢
  exact h8
theorem k_X0_feed {c : Int32} (h : XR x w g σ) : Ct G yX0_feed cX0_feed 3 (some .int) 2 0 0 [.ref x, .int c] n (xh x w g) (XPo x n g (feedS σ c)) := by
  refine Ct.intro (k := 1) [some (.ref x), some (.int c), none] (by decide) (Nat.le_of_ble_eq_true rfl) rfl fun z hz hin => ?_
  have h4 := h.2.2.2.1
  have fin : ∀ no : Int32, (no = 0 ∨ isC no) → (no = 0 → σ.2.1.2.1.2 < 96) → no = (if wi c 0 255 = 0 ∧ σ.2.1.2.1.2 = 96 then -6 else wi c 0 255) → J G z cX0_feed 3 RX0 2 0 0 0 0 25 [some (.ref x), some (.int c), some (.int no)] [] n (xh x w g) := by
    intro no h1 h2 h3
    refine r_iload_2 (q := 26) dX0_feed_25 rfl ?_
    refine r_if_eq (q := 29) (tgt := 35) dX0_feed_26 rfl rfl (fun c26 => ?_) (fun c26 => ?_)
    · have hlt := h2 c26
      refine r_aload_0 (q := 36) dX0_feed_35 rfl ?_
      refine r_get gf_X0_29_0 xh_x rfl (q := 39) dX0_feed_36 rfl ?_
      refine r_aload_0 (q := 40) dX0_feed_39 rfl ?_
      refine r_get gf_X0_90_0 xh_x rfl (q := 43) dX0_feed_40 rfl ?_
      refine r_iload_1 (q := 44) dX0_feed_43 rfl ?_
      refine r_iast σ.2.1.2.1.2 96 xh_le (by rw [h4.1]; exact h4.2.1) h4.2.2.1 hlt (by decide) (q := 45) dX0_feed_44 rfl ?_
      refine J.heap (xset_le _) ?_
      refine r_aload_0 (q := 46) dX0_feed_45 rfl ?_
      refine r_dup rfl (q := 47) dX0_feed_46 rfl ?_
      refine r_get gf_X0_90_0 xh_x rfl (q := 50) dX0_feed_47 rfl ?_
      refine r_iconst 1 (by decide) (q := 51) dX0_feed_50 rfl ?_
      refine r_iadd (q := 52) dX0_feed_51 rfl ?_
      refine r_put gf_X0_90_0 cl_ok_0 ft_0_7 xh_x (Nat.le_of_ble_eq_true rfl) rfl rfl (q := 55) dX0_feed_52 rfl ?_
      refine J.heap (xset_f rfl) ?_
      refine r_aload_0 (q := 56) dX0_feed_55 rfl ?_
      refine r_get gf_X0_90_0 xh_x rfl (q := 59) dX0_feed_56 rfl ?_
      have e : w.2.2.2 7 + 1 = nI (σ.2.1.2.1.2 + 1) := by rw [h4.2.2.1, nI_1]
      refine J.topi (x := w.2.2.2 7 + 1) e ?_
      exact r_iret hz dX0_feed_59 (Nat.le_refl _) (Nat.le_refl _) (.of (by unfold feedS; rw [← h3]; exact if_pos c26) (h.feed c hlt _ e))
    · have hc : isC no := h1.resolve_left c26
      refine r_aload_0 (q := 30) dX0_feed_29 rfl ?_
      refine r_iload_2 (q := 31) dX0_feed_30 rfl ?_
      refine r_callV_1 cv_X0_48 xh_x rfl (by decide) (Nat.le_of_ble_eq_true rfl) ⟨Nat.le_refl _, Nat.le_refl _⟩ (k_X0_refuse hc h.ra) (q := 34) dX0_feed_31 rfl ?_
      exact r_iret hz dX0_feed_34 (Nat.le_refl _) (Nat.le_refl _) (.of (by unfold feedS; rw [← h3]; exact if_neg c26) (h.refuse _))
  refine r_iload_1 (q := 1) dX0_feed_0 rfl ?_
  refine r_iconst 0 (by decide) (q := 2) dX0_feed_1 rfl ?_
  refine r_sipush 255 (by decide) (q := 5) dX0_feed_2 rfl ?_
  refine r_callS_3 cs_X0_86 (by decide) (Nat.le_of_ble_eq_true rfl) ⟨Nat.le_refl _, Nat.le_refl _⟩ (k_X0_within) (q := 8) dX0_feed_5 rfl ?_
  refine r_istore_2 (by decide) rfl (q := 9) dX0_feed_8 rfl ?_
  refine r_iload_2 (q := 10) dX0_feed_9 rfl ?_
  refine r_if_ne (q := 13) (tgt := 25) dX0_feed_10 rfl rfl (fun c10 => ?_) (fun c10 => ?_)
  · exact fin _ (wi_c _ _ _) (fun e => absurd e c10) (if_neg (fun q => c10 q.1)).symm
  refine r_aload_0 (q := 14) dX0_feed_13 rfl ?_
  refine r_get gf_X0_90_0 xh_x rfl (q := 17) dX0_feed_14 rfl ?_
  refine r_bipush 96 (by decide) (q := 19) dX0_feed_17 rfl ?_
  refine r_icmp_ne (q := 22) (tgt := 25) dX0_feed_19 rfl rfl (fun c19 => ?_) (fun c19 => ?_)
  · have hne : σ.2.1.2.1.2 ≠ 96 := fun e => c19 (by show w.2.2.2 7 = _; rw [h4.2.2.1, e]; rfl)
    exact fin _ (wi_c _ _ _) (fun _ => by omega) (if_neg (fun q => hne q.2)).symm
  · have he : σ.2.1.2.1.2 = 96 := by
      have c19 : w.2.2.2 7 = 96 := c19
      rw [h4.2.2.1] at c19
      exact nI_inj (b := 96) (by omega) (by omega) c19
    refine r_bipush (-6) (by decide) (q := 24) dX0_feed_22 rfl ?_
    refine r_istore_2 (by decide) rfl (q := 25) dX0_feed_24 rfl ?_
    exact fin _ (Or.inr isC_6) (fun e => absurd e (by decide)) (if_pos ⟨c10, he⟩).symm
theorem XR.row (h : XR x w g σ) (c : Int32) (hlt : σ.2.1.2.2.2 < 12) (v : Int32) (hv : v = nI (σ.2.1.2.2.2 + 1)) : XR x (setf (setro w (w.2.2.1.2.2.2.set σ.2.1.2.2.2 c)) 15 v) g (σ.1, (σ.2.1.1, σ.2.1.2.1, (σ.2.1.2.2.1.set σ.2.1.2.2.2 c, σ.2.1.2.2.2 + 1)), σ.2.2) := by
  obtain ⟨h1, h2, h3, h4, h5, h6, h7, h8⟩ := h
  refine ⟨h1, h2, h3, h4, ⟨by show w.2.2.1.2.2.2.set _ c = _; rw [h5.1], (List.length_set ..).trans h5.2.1, hv, hlt⟩, h6, h7, ?_⟩
  unfold XRi at h8 ⊢
  exact h8
theorem k_X0_row {c : Int32} (h : XR x w g σ) : Ct G yX0_row cX0_row 3 (some .int) 2 0 0 [.ref x, .int c] n (xh x w g) (XPo x n g (rowS σ c)) := by
  refine Ct.intro (k := 1) [some (.ref x), some (.int c), none] (by decide) (Nat.le_of_ble_eq_true rfl) rfl fun z hz hin => ?_
  have h4 := h.2.2.2.2.1
  have fin : ∀ no : Int32, (no = 0 ∨ isC no) → (no = 0 → σ.2.1.2.2.2 < 12) → no = (if wi c 0 99 = 0 ∧ σ.2.1.2.2.2 = 12 then -6 else wi c 0 99) → J G z cX0_row 3 RX0 2 0 0 0 0 24 [some (.ref x), some (.int c), some (.int no)] [] n (xh x w g) := by
    intro no h1 h2 h3
    refine r_iload_2 (q := 25) dX0_row_24 rfl ?_
    refine r_if_eq (q := 28) (tgt := 34) dX0_row_25 rfl rfl (fun c25 => ?_) (fun c25 => ?_)
    · have hlt := h2 c25
      refine r_aload_0 (q := 35) dX0_row_34 rfl ?_
      refine r_get gf_X0_39_0 xh_x rfl (q := 38) dX0_row_35 rfl ?_
      refine r_aload_0 (q := 39) dX0_row_38 rfl ?_
      refine r_get gf_X0_262_0 xh_x rfl (q := 42) dX0_row_39 rfl ?_
      refine r_iload_1 (q := 43) dX0_row_42 rfl ?_
      refine r_iast σ.2.1.2.2.2 12 xh_ro (by rw [h4.1]; exact h4.2.1) h4.2.2.1 hlt (by decide) (q := 44) dX0_row_43 rfl ?_
      refine J.heap (xset_ro _) ?_
      refine r_aload_0 (q := 45) dX0_row_44 rfl ?_
      refine r_dup rfl (q := 46) dX0_row_45 rfl ?_
      refine r_get gf_X0_262_0 xh_x rfl (q := 49) dX0_row_46 rfl ?_
      refine r_iconst 1 (by decide) (q := 50) dX0_row_49 rfl ?_
      refine r_iadd (q := 51) dX0_row_50 rfl ?_
      refine r_put gf_X0_262_0 cl_ok_0 ft_0_15 xh_x (Nat.le_of_ble_eq_true rfl) rfl rfl (q := 54) dX0_row_51 rfl ?_
      refine J.heap (xset_f rfl) ?_
      refine r_aload_0 (q := 55) dX0_row_54 rfl ?_
      refine r_get gf_X0_262_0 xh_x rfl (q := 58) dX0_row_55 rfl ?_
      have e : w.2.2.2 15 + 1 = nI (σ.2.1.2.2.2 + 1) := by rw [h4.2.2.1, nI_1]
      refine J.topi (x := w.2.2.2 15 + 1) e ?_
      exact r_iret hz dX0_row_58 (Nat.le_refl _) (Nat.le_refl _) (.of (by unfold rowS; rw [← h3]; exact if_pos c25) (h.row c hlt _ e))
    · have hc : isC no := h1.resolve_left c25
      refine r_aload_0 (q := 29) dX0_row_28 rfl ?_
      refine r_iload_2 (q := 30) dX0_row_29 rfl ?_
      refine r_callV_1 cv_X0_48 xh_x rfl (by decide) (Nat.le_of_ble_eq_true rfl) ⟨Nat.le_refl _, Nat.le_refl _⟩ (k_X0_refuse hc h.ra) (q := 33) dX0_row_30 rfl ?_
      exact r_iret hz dX0_row_33 (Nat.le_refl _) (Nat.le_refl _) (.of (by unfold rowS; rw [← h3]; exact if_neg c25) (h.refuse _))
  refine r_iload_1 (q := 1) dX0_row_0 rfl ?_
  refine r_iconst 0 (by decide) (q := 2) dX0_row_1 rfl ?_
  refine r_bipush 99 (by decide) (q := 4) dX0_row_2 rfl ?_
  refine r_callS_3 cs_X0_86 (by decide) (Nat.le_of_ble_eq_true rfl) ⟨Nat.le_refl _, Nat.le_refl _⟩ (k_X0_within) (q := 7) dX0_row_4 rfl ?_
  refine r_istore_2 (by decide) rfl (q := 8) dX0_row_7 rfl ?_
  refine r_iload_2 (q := 9) dX0_row_8 rfl ?_
  refine r_if_ne (q := 12) (tgt := 24) dX0_row_9 rfl rfl (fun c9 => ?_) (fun c9 => ?_)
  · exact fin _ (wi_c _ _ _) (fun e => absurd e c9) (if_neg (fun q => c9 q.1)).symm
  refine r_aload_0 (q := 13) dX0_row_12 rfl ?_
  refine r_get gf_X0_262_0 xh_x rfl (q := 16) dX0_row_13 rfl ?_
  refine r_bipush 12 (by decide) (q := 18) dX0_row_16 rfl ?_
  refine r_icmp_ne (q := 21) (tgt := 24) dX0_row_18 rfl rfl (fun c18 => ?_) (fun c18 => ?_)
  · have hne : σ.2.1.2.2.2 ≠ 12 := fun e => c18 (by show w.2.2.2 15 = _; rw [h4.2.2.1, e]; rfl)
    exact fin _ (wi_c _ _ _) (fun _ => by omega) (if_neg (fun q => hne q.2)).symm
  · have he : σ.2.1.2.2.2 = 12 := by
      have c18 : w.2.2.2 15 = 12 := c18
      rw [h4.2.2.1] at c18
      exact nI_inj (b := 12) (by omega) (by omega) c18
    refine r_bipush (-6) (by decide) (q := 23) dX0_row_21 rfl ?_
    refine r_istore_2 (by decide) rfl (q := 24) dX0_row_23 rfl ?_
    exact fin _ (Or.inr isC_6) (fun e => absurd e (by decide)) (if_pos ⟨c9, he⟩).symm
theorem XR.clear (h : XR x w g σ) : XR x (setf w 15 0) g (clearS σ).2 := by
  obtain ⟨h1, h2, h3, h4, h5, h6, h7, h8⟩ := h
  refine ⟨h1, h2, h3, h4, ⟨h5.1, h5.2.1, rfl, Nat.zero_le _⟩, h6, h7, ?_⟩
  unfold XRi at h8 ⊢
  exact h8
theorem k_X0_clear (h : XR x w g σ) : CtE G yX0_clear cX0_clear 2 (some FieldType.int) 1 [.ref x] n (xh x w g) (some (.int (nI σ.2.1.2.2.2))) (xh x (setf w 15 0) g) := by
  refine Ct.intro (k := 1) [some (.ref x), none] (by decide) (Nat.le_of_ble_eq_true rfl) rfl fun z hz hin => ?_
  refine r_aload_0 (q := 1) dX0_clear_0 rfl ?_
  refine r_get gf_X0_262_0 xh_x rfl (q := 4) dX0_clear_1 rfl ?_
  refine r_istore_1 (by decide) rfl (q := 5) dX0_clear_4 rfl ?_
  refine r_aload_0 (q := 6) dX0_clear_5 rfl ?_
  refine r_iconst 0 (by decide) (q := 7) dX0_clear_6 rfl ?_
  refine r_put gf_X0_262_0 cl_ok_0 ft_0_15 xh_x (Nat.le_of_ble_eq_true rfl) rfl rfl (q := 10) dX0_clear_7 rfl ?_
  refine J.heap (xset_f rfl) ?_
  refine r_iload_1 (q := 11) dX0_clear_10 rfl ?_
  exact r_iret hz dX0_clear_11 (Nat.le_refl _) (Nat.le_refl _) ⟨congrArg (fun v => some (Value.int v)) h.2.2.2.2.1.2.2.1, rfl, rfl⟩
theorem k_X0_judge {p : Int32} (h : XR x w g σ) : Ct G yX0_judge cX0_judge 4 (some .int) 5 0 0 [.ref x, .int p] n (xh x w g) (XPo x n g (judgeS σ p)) := by
  refine Ct.intro (k := 2) [some (.ref x), some (.int p), none, none] (by decide) (Nat.le_of_ble_eq_true rfl) rfl fun z hz hin => ?_
  refine r_aload_0 (q := 1) dX0_judge_0 rfl ?_
  refine r_iload_1 (q := 2) dX0_judge_1 rfl ?_
  refine r_callV_1 cv_X0_82 xh_x rfl (by decide) (Nat.le_of_ble_eq_true rfl) ⟨Nat.le_refl _, Nat.le_refl _⟩ (k_X0_isPerson h.kx) (q := 5) dX0_judge_2 rfl ?_
  have h5 := h.2.2.2.2.1
  rw [h.s]
  refine r_if_ne (q := 8) (tgt := 14) dX0_judge_5 rfl rfl (fun c5 => ?_) (fun c5 => ?_)
  · have hp := bI_n0.mp c5
    refine r_aload_0 (q := 15) dX0_judge_14 rfl ?_
    refine r_callV_0 cv_X0_328 xh_x rfl (by decide) (Nat.le_of_ble_eq_true rfl) ⟨Nat.le_refl _, Nat.le_refl _⟩ (k_X0_clear h) (q := 18) dX0_judge_15 rfl ?_
    have hR := h.clear
    obtain ⟨a, ha, rfl⟩ := isPer_t h.oks.1 hp
    have h6 := h.oks.1.1
    have e0 : judgeS σ (nI a) = (judF σ.1 a σ.2.1.2.2.1 σ.2.1.2.2.2 0, (clearS σ).2) := by
      unfold judgeS
      rw [if_pos hp, nI_clamp (by omega)]
    rw [e0] at hz
    refine r_istore_2 (by decide) rfl (q := 19) dX0_judge_18 rfl ?_
    refine r_iconst 0 (by decide) (q := 20) dX0_judge_19 rfl ?_
    refine r_istore_3 (by decide) rfl (q := 21) dX0_judge_20 rfl ?_
    have loop : ∀ (c i : Nat), i + c = σ.2.1.2.2.2 → judF σ.1 a σ.2.1.2.2.1 c i = judF σ.1 a σ.2.1.2.2.1 σ.2.1.2.2.2 0 → J G z cX0_judge 4 RX0 5 0 0 0 0 21 [some (.ref x), some (.int (nI a)), some (.int (nI σ.2.1.2.2.2)), some (.int (nI i))] [] n (xh x (setf w 15 0) g) := by
      intro c
      induction c with
      | zero =>
        intro i h1 h2
        rw [← h2] at hz
        have h1 : i = σ.2.1.2.2.2 := h1
        subst h1
        refine r_iload_3 (q := 22) dX0_judge_21 rfl ?_
        refine r_iload_2 (q := 23) dX0_judge_22 rfl ?_
        refine r_icmp_ge (q := 26) (tgt := 60) dX0_judge_23 rfl rfl (fun c23 => ?_) (fun c23 => ?_)
        · refine r_bipush (-9) (by decide) (q := 62) dX0_judge_60 rfl ?_
          exact r_iret hz dX0_judge_62 (Nat.le_refl _) (Nat.le_refl _) (.of rfl hR)
        · exact absurd (Int32.le_refl _) c23
      | succ c ih =>
        intro i h1 h2
        have h12 := h5.2.2.2
        have h2 : (if i < σ.1.1.length ∧ nI (qr σ.1 a i) = σ.2.1.2.2.1.getD i 0 then judF σ.1 a σ.2.1.2.2.1 c (i + 1) else nI i) = judF σ.1 a σ.2.1.2.2.1 σ.2.1.2.2.2 0 := h2
        have stop : ¬(i < σ.1.1.length ∧ nI (qr σ.1 a i) = σ.2.1.2.2.1.getD i 0) → J G z cX0_judge 4 RX0 5 0 0 0 0 52 [some (.ref x), some (.int (nI a)), some (.int (nI σ.2.1.2.2.2)), some (.int (nI i))] [] n (xh x (setf w 15 0) g) := by
          intro hn
          rw [if_neg hn] at h2
          rw [← h2] at hz
          refine r_iload_3 (q := 53) dX0_judge_52 rfl ?_
          exact r_iret hz dX0_judge_53 (Nat.le_refl _) (Nat.le_refl _) (.of rfl hR)
        refine r_iload_3 (q := 22) dX0_judge_21 rfl ?_
        refine r_iload_2 (q := 23) dX0_judge_22 rfl ?_
        refine r_icmp_ge (q := 26) (tgt := 60) dX0_judge_23 rfl rfl (fun c23 => ?_) (fun c23 => ?_)
        · exact absurd c23 (nI_not_lt (by omega) (by omega))
        refine r_aload_0 (q := 27) dX0_judge_26 rfl ?_
        refine r_iload_3 (q := 28) dX0_judge_27 rfl ?_
        refine r_callV_1 cv_X0_82 xh_x rfl (by decide) (Nat.le_of_ble_eq_true rfl) ⟨Nat.le_refl _, Nat.le_refl _⟩ (k_X0_isPerson (w := setf w 15 0) h.kx) (q := 31) dX0_judge_28 rfl ?_
        refine r_if_eq (q := 34) (tgt := 52) dX0_judge_31 rfl rfl (fun c31 => ?_) (fun c31 => ?_)
        · refine stop (fun q => ?_)
          have hf := bI_0.mp c31
          have : isPer ((setf w 15 0).1 0).1 (nI i) = true := by
            show isPer (w.1 0).1 (nI i) = true
            rw [h.s]
            exact decide_eq_true ⟨nI_pos' (by omega), nI_lt q.1 (by omega)⟩
          rw [this] at hf
          cases hf
        have hi : i < σ.1.1.length := by
          have ht := of_decide_eq_true (bI_n0.mp c31)
          have : nI i < nI (w.1 0).1.1.length := ht.2
          rw [h.s] at this
          exact (nI_ltI (by omega) (by omega)).mp this
        refine r_aload_0 (q := 35) dX0_judge_34 rfl ?_
        refine r_get gf_X0_16_0 xh_x rfl (q := 38) dX0_judge_35 rfl ?_
        refine r_iload_1 (q := 39) dX0_judge_38 rfl ?_
        refine r_iload_3 (q := 40) dX0_judge_39 rfl ?_
        refine r_callV_2 cv_X0_149 (xe_o 0 (by decide) rfl) rfl (by decide) (Nat.le_of_ble_eq_true rfl) ⟨Nat.le_refl _, Nat.le_refl _⟩ (x_between (w := setf w 15 0) 0 (by decide) h.kx rfl (by omega) (by omega)) (q := 43) dX0_judge_40 rfl ?_
        refine r_aload_0 (q := 44) dX0_judge_43 rfl ?_
        refine r_get gf_X0_39_0 xh_x rfl (q := 47) dX0_judge_44 rfl ?_
        refine r_iload_3 (q := 48) dX0_judge_47 rfl ?_
        refine r_iald i 12 xh_ro (by show w.2.2.1.2.2.2.length = 12; rw [h5.1]; exact h5.2.1) rfl (by omega) (by decide) (q := 49) dX0_judge_48 rfl ?_
        refine J.stk (s2 := [.int (σ.2.1.2.2.1.getD i 0), .int (nI (qr σ.1 a i))]) (by show [Value.int (w.2.2.1.2.2.2.getD i 0), .int (nI (qr (w.1 0).1 a i))] = _; rw [h5.1, h.s]) ?_
        refine r_icmp_eq (q := 52) (tgt := 54) dX0_judge_49 rfl rfl (fun c49 => ?_) (fun c49 => ?_)
        · rw [if_pos ⟨hi, c49⟩] at h2
          refine r_inc_3 (by decide) rfl (q := 57) dX0_judge_54 rfl ?_
          refine r_goto (q := 21) dX0_judge_57 rfl ?_
          exact ih (i + 1) (by omega) h2
        · exact stop (fun q => c49 q.2)
    exact loop σ.2.1.2.2.2 0 (Nat.zero_add _) rfl
  · have hp := bI_0.mp c5
    refine r_aload_0 (q := 9) dX0_judge_8 rfl ?_
    refine r_iconst (-1) (by decide) (q := 10) dX0_judge_9 rfl ?_
    refine r_callV_1 cv_X0_48 xh_x rfl (by decide) (Nat.le_of_ble_eq_true rfl) ⟨Nat.le_refl _, Nat.le_refl _⟩ (k_X0_refuse isC_1 h.ra) (q := 13) dX0_judge_10 rfl ?_
    exact r_iret hz dX0_judge_13 (Nat.le_refl _) (Nat.le_refl _) (.of (by unfold judgeS; rw [if_neg (by rw [hp]; decide)]) (h.refuse _))
end XF


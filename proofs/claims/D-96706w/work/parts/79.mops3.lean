/-! ===== the first that would leave, from the end or from the start ===== -/
/-- the last word of c steps downwards to q0 -/
def fqS (T : SQ) (a : Nat) : Nat → Nat → Int32 → Int32
  | 0, _, d => d
  | c + 1, q, d => if leavS T a q = true then 10 * nI a + nI q else fqS T a c (q + 1) d
def fcS (T : SQ) (a : Nat) : Nat → Nat → Nat
  | 0, _ => 0
  | c + 1, q => (if leavS T a q = true then 1 else 0) + fcS T a c (q + 1)
def fpS (T : SQ) : Nat → Nat → Int32 → Int32
  | 0, _, d => d
  | c + 1, p, d => fqS T p (T.1.length - (p + 1)) (p + 1) (fpS T c (p + 1) d)
def gcS (T : SQ) : Nat → Nat → Nat
  | 0, _ => 0
  | c + 1, p => fcS T p (T.1.length - (p + 1)) (p + 1) + gcS T c (p + 1)
def grS (T : SQ) : Nat → Nat → Int32 → Int32
  | 0, _, r => r
  | c + 1, p, r => grS T c (p + 1) (rbF T p r)
theorem fcS_le (T : SQ) (a : Nat) : ∀ c q, fcS T a c q ≤ c
  | 0, _ => Nat.le_refl _
  | c + 1, q => by
    have := fcS_le T a c (q + 1)
    show (if leavS T a q = true then 1 else 0) + fcS T a c (q + 1) ≤ c + 1
    split <;> omega
theorem fqS_0 (T : SQ) (a : Nat) : ∀ c q d, fcS T a c q = 0 → fqS T a c q d = d
  | 0, _, _, _ => rfl
  | c + 1, q, d, h => by
    have h : (if leavS T a q = true then 1 else 0) + fcS T a c (q + 1) = 0 := h
    show (if leavS T a q = true then 10 * nI a + nI q else fqS T a c (q + 1) d) = d
    split at h
    · omega
    · rename_i hn
      rw [if_neg hn]
      exact fqS_0 T a c (q + 1) d (by omega)
theorem fqS_n (T : SQ) (a : Nat) : ∀ c q d d', fcS T a c q ≠ 0 → fqS T a c q d = fqS T a c q d'
  | 0, _, _, _, h => absurd rfl h
  | c + 1, q, d, d', h => by
    have h : (if leavS T a q = true then 1 else 0) + fcS T a c (q + 1) ≠ 0 := h
    show (if leavS T a q = true then 10 * nI a + nI q else fqS T a c (q + 1) d) = (if leavS T a q = true then 10 * nI a + nI q else fqS T a c (q + 1) d')
    split
    · rfl
    · rename_i hn
      rw [if_neg hn] at h
      exact fqS_n T a c (q + 1) d d' (by omega)
theorem leaF_run (T : SQ) (a : Nat) (r : Int32) : ∀ (c q k : Nat) (x : Int32), k + c < 2 ^ 30 → forR (leaF T a) q c (x, nI k, r) = (if k = 0 then fqS T a c q x else x, nI (k + fcS T a c q), r)
  | 0, q, k, x, h => by
    rw [forR_0]
    show _ = (if k = 0 then x else x, _, _)
    rw [ite_self]
    rfl
  | c + 1, q, k, x, h => by
    have hk : nI k = 0 ↔ k = 0 := ⟨fun e => nI_inj (b := 0) (by omega) (by omega) e, fun e => by rw [e]; rfl⟩
    rw [forR_s]
    by_cases hl : leavS T a q = true
    · have e1 : leaF T a q (x, nI k, r) = (if k = 0 then 10 * nI a + nI q else x, nI (k + 1), r) := by
        unfold leaF
        rw [if_pos hl]
        show (if nI k = 0 then _ else x, nI k + 1, r) = _
        rw [nI_1]
        by_cases h0 : k = 0
        · rw [if_pos h0, if_pos (hk.mpr h0)]
        · rw [if_neg h0, if_neg (fun e => h0 (hk.mp e))]
      rw [e1, leaF_run T a r c (q + 1) (k + 1) _ (by omega), if_neg (by omega)]
      show (_, nI (k + 1 + fcS T a c (q + 1)), r) = (if k = 0 then (if leavS T a q = true then 10 * nI a + nI q else _) else x, nI (k + ((if leavS T a q = true then 1 else 0) + fcS T a c (q + 1))), r)
      rw [if_pos hl, if_pos hl, Nat.add_assoc]
    · have e1 : leaF T a q (x, nI k, r) = (x, nI k, r) := if_neg hl
      rw [e1, leaF_run T a r c (q + 1) k _ (by omega)]
      show _ = (if k = 0 then (if leavS T a q = true then 10 * nI a + nI q else fqS T a c (q + 1) x) else x, nI (k + ((if leavS T a q = true then 1 else 0) + fcS T a c (q + 1))), r)
      rw [if_neg hl, if_neg hl, Nat.zero_add]
theorem leaI_run (T : SQ) (hN : T.1.length ≤ 6) : ∀ (c p k : Nat) (x r : Int32), k + 6 * c < 2 ^ 30 → forR (leaI T) p c (x, nI k, r) = (if k = 0 then fpS T c p x else x, nI (k + gcS T c p), grS T c p r)
  | 0, p, k, x, r, h => by
    rw [forR_0]
    show _ = (if k = 0 then x else x, _, _)
    rw [ite_self]
    rfl
  | c + 1, p, k, x, r, h => by
    have hf := fcS_le T p (T.1.length - (p + 1)) (p + 1)
    have er : (if ridS T p = true then r ||| b1 p else r) = rbF T p r := by
      unfold rbF
      split
      · rfl
      · exact (or0 r).symm
    rw [forR_s]
    have e1 : leaI T p (x, nI k, r) = (if k = 0 then fqS T p (T.1.length - (p + 1)) (p + 1) x else x, nI (k + fcS T p (T.1.length - (p + 1)) (p + 1)), rbF T p r) := by
      unfold leaI
      show forR (leaF T p) (p + 1) (T.1.length - (p + 1)) (x, nI k, if ridS T p = true then r ||| b1 p else r) = _
      rw [er, leaF_run T p _ _ _ _ _ (by omega)]
    rw [e1, leaI_run T hN c (p + 1) _ _ _ (by omega)]
    show (_, nI (k + fcS T p (T.1.length - (p + 1)) (p + 1) + gcS T c (p + 1)), _) = (if k = 0 then fqS T p (T.1.length - (p + 1)) (p + 1) (fpS T c (p + 1) x) else x, nI (k + (fcS T p (T.1.length - (p + 1)) (p + 1) + gcS T c (p + 1))), grS T c (p + 1) (rbF T p r))
    rw [Nat.add_assoc]
    congr 1
    by_cases h0 : k = 0
    · rw [if_pos h0, if_pos h0]
      by_cases hc : fcS T p (T.1.length - (p + 1)) (p + 1) = 0
      · rw [if_pos (by omega), fqS_0 _ _ _ _ _ hc, fqS_0 _ _ _ _ _ hc]
      · rw [if_neg (by omega)]
        exact fqS_n _ _ _ _ _ _ hc
    · rw [if_neg h0, if_neg h0, if_neg (by omega)]
theorem leaS_eq (T : SQ) (hN : T.1.length ≤ 6) : leaS T = (fpS T T.1.length 0 (-9), nI (gcS T T.1.length 0), grS T T.1.length 0 0) := by
  unfold leaS
  have e : ((-9 : Int32), (0 : Int32), (0 : Int32)) = (-9, nI 0, 0) := rfl
  rw [e, leaI_run T hN _ _ _ _ _ (by omega), if_pos rfl, Nat.zero_add]
theorem grS_eq (T : SQ) : ∀ (c p : Nat) (r : Int32), grS T c p r = forR (rbF T) p c r
  | 0, _, _ => rfl
  | c + 1, p, r => by
    rw [forR_s]
    exact grS_eq T c (p + 1) (rbF T p r)
theorem ltF_run (T : SQ) (a : Nat) : ∀ (c q k : Nat), forR (ltF T a) q c (nI k) = nI (k + fcS T a c q)
  | 0, _, _ => rfl
  | c + 1, q, k => by
    rw [forR_s]
    have e1 : ltF T a q (nI k) = nI (k + (if leavS T a q = true then 1 else 0)) := by
      unfold ltF
      split
      · exact nI_1 k
      · show nI k + nI 0 = nI (k + 0)
        exact nI_add k 0
    rw [e1, ltF_run T a c (q + 1), Nat.add_assoc]
    rfl
theorem ltI_run (T : SQ) : ∀ (c p k : Nat), forR (ltI T) p c (nI k) = nI (k + gcS T c p)
  | 0, _, _ => rfl
  | c + 1, p, k => by
    rw [forR_s]
    have e1 : ltI T p (nI k) = nI (k + fcS T p (T.1.length - (p + 1)) (p + 1)) := ltF_run T p _ _ _
    rw [e1, ltI_run T c (p + 1), Nat.add_assoc]
    rfl
theorem lea_lt (T : SQ) (hN : T.1.length ≤ 6) : (leaS T).2.1 = ltS T ∧ (leaS T).2.2 = rbS T ∧ (leaS T).1 = fpS T T.1.length 0 (-9) := by
  rw [leaS_eq T hN]
  refine ⟨?_, ?_, rfl⟩
  · show nI _ = ltS T
    unfold ltS
    have e : (0 : Int32) = nI 0 := rfl
    rw [e, ltI_run, Nat.zero_add]
  · exact grS_eq T _ _ _
theorem iinc_m1 (x : Int32) : x + Int32.ofInt (-1) = x - 1 := by
  rw [Int32.sub_eq_add_neg]
  rfl
/-! who it was: up or down -/
def downR {σ : Type} (f : Nat → σ → σ) : Nat → σ → σ
  | 0, s => s
  | c + 1, s => downR f c (f c s)
def supS (T : SQ) (a : Nat) (what : Int32) (v : Nat) : SQ := if what = 0 then setPr T a (v, (pr T a).2) else if what = 1 then setPr T a ((pr T a).1, v) else setH T a v
def whoQ (σ : SG) (a b : Nat) (what : Int32) (v : Nat) : Bool := isqS a b σ.2.1.2.2.1 σ.2.1.2.2.2 0 (supS σ.1 a what v)
def whoF (Q : Nat → Bool) (what : Int32) (v : Nat) (s : Int32 × Int32 × Int32) : Int32 × Int32 × Int32 := if Q v = true then (if what < 2 then s.1 ||| b1 v else s.1, s.2.1 + 1, nI v) else s
def whoN (what : Int32) : Nat := if what = 0 then 6 else if what = 1 then 10 else 32
def whoR (Q : Nat → Bool) (what : Int32) : Int32 × Int32 × Int32 := downR (whoF Q what) (whoN what) (0, 0, -9)
def whoS (σ : SG) (a b what : Int32) : Int32 × SG :=
  if noTw σ.1 a b what 4 = 0 then (if what < 2 then (whoR (whoQ σ (cl a) (cl b) what) what).1 else if what = 2 then (whoR (whoQ σ (cl a) (cl b) what) what).2.1 else (whoR (whoQ σ (cl a) (cl b) what) what).2.2, σ) else (noTw σ.1 a b what 4, rfS σ (noTw σ.1 a b what 4))
def whoG (Q : Nat → Bool) (what : Int32) (v : Nat) (s : Int32 × Int32 × Int32) : Int32 × Int32 × Int32 := (s.1 ||| (if Q v = true ∧ what < 2 then b1 v else 0), s.2.1 + (if Q v = true then 1 else 0), if Q v = true ∧ s.2.2 < 0 then nI v else s.2.2)
theorem who_up (Q : Nat → Bool) (what : Int32) : ∀ (N : Nat), N < 2 ^ 30 → ((forR (whoG Q what) 0 N (0, 0, -9)).2.2 = -9 ∨ ∃ k, k < N ∧ (forR (whoG Q what) 0 N (0, 0, -9)).2.2 = nI k) ∧ ∀ s : Int32 × Int32 × Int32, downR (whoF Q what) N s = ((forR (whoG Q what) 0 N (0, 0, -9)).1 ||| s.1, (forR (whoG Q what) 0 N (0, 0, -9)).2.1 + s.2.1, if (forR (whoG Q what) 0 N (0, 0, -9)).2.2 < 0 then s.2.2 else (forR (whoG Q what) 0 N (0, 0, -9)).2.2)
  | 0, _ => by
    refine ⟨Or.inl rfl, fun s => ?_⟩
    show s = (0 ||| s.1, 0 + s.2.1, if (-9 : Int32) < 0 then s.2.2 else -9)
    rw [Int32.zero_or, Int32.zero_add, if_pos (by decide)]
  | N + 1, hN => by
    obtain ⟨i1, i2⟩ := who_up Q what N (by omega)
    rw [forR_snoc, Nat.zero_add]
    generalize forR (whoG Q what) 0 N (0, 0, -9) = t at i1 i2 ⊢
    have neg : t.2.2 < 0 ↔ t.2.2 = -9 := by
      rcases i1 with h | ⟨k, hk, h⟩
      · rw [h]; decide
      · rw [h]
        refine ⟨fun q => absurd q (nI_pos (by omega)), fun q => ?_⟩
        rw [q]; decide
    refine ⟨?_, fun s => ?_⟩
    · show (if Q N = true ∧ t.2.2 < 0 then nI N else t.2.2) = -9 ∨ ∃ k, k < N + 1 ∧ (if Q N = true ∧ t.2.2 < 0 then nI N else t.2.2) = nI k
      split
      · exact Or.inr ⟨N, Nat.lt_succ_self _, rfl⟩
      · rcases i1 with h | ⟨k, hk, h⟩
        · exact Or.inl h
        · exact Or.inr ⟨k, by omega, h⟩
    · show downR (whoF Q what) N (whoF Q what N s) = _
      rw [i2]
      unfold whoF whoG
      by_cases hq : Q N = true
      · rw [if_pos hq]
        show (t.1 ||| (if what < 2 then s.1 ||| b1 N else s.1), t.2.1 + (s.2.1 + 1), if t.2.2 < 0 then nI N else t.2.2) = ((t.1 ||| (if Q N = true ∧ what < 2 then b1 N else 0)) ||| s.1, (t.2.1 + if Q N = true then 1 else 0) + s.2.1, if (if Q N = true ∧ t.2.2 < 0 then nI N else t.2.2) < 0 then s.2.2 else if Q N = true ∧ t.2.2 < 0 then nI N else t.2.2)
        have e1 : (t.1 ||| (if what < 2 then s.1 ||| b1 N else s.1)) = ((t.1 ||| (if Q N = true ∧ what < 2 then b1 N else 0)) ||| s.1) := by
          by_cases hw : what < 2
          · rw [if_pos hw, if_pos ⟨hq, hw⟩, Int32.or_assoc, Int32.or_comm s.1]
          · rw [if_neg hw, if_neg (fun q => hw q.2), or0]
        have e2 : t.2.1 + (s.2.1 + 1) = (t.2.1 + if Q N = true then 1 else 0) + s.2.1 := by
          rw [if_pos hq, Int32.add_assoc, Int32.add_comm s.2.1]
        have e3 : (if t.2.2 < 0 then nI N else t.2.2) = (if (if Q N = true ∧ t.2.2 < 0 then nI N else t.2.2) < 0 then s.2.2 else if Q N = true ∧ t.2.2 < 0 then nI N else t.2.2) := by
          by_cases h0 : t.2.2 < 0
          · have x : (if Q N = true ∧ t.2.2 < 0 then nI N else t.2.2) = nI N := if_pos ⟨hq, h0⟩
            rw [x, if_pos h0, if_neg (nI_pos (n := N) (by omega))]
          · have x : (if Q N = true ∧ t.2.2 < 0 then nI N else t.2.2) = t.2.2 := if_neg (fun q => h0 q.2)
            rw [x, if_neg h0, if_neg h0]
        rw [e1, e2, e3]
      · rw [if_neg hq]
        show (t.1 ||| s.1, t.2.1 + s.2.1, if t.2.2 < 0 then s.2.2 else t.2.2) = ((t.1 ||| (if Q N = true ∧ what < 2 then b1 N else 0)) ||| s.1, (t.2.1 + if Q N = true then 1 else 0) + s.2.1, if (if Q N = true ∧ t.2.2 < 0 then nI N else t.2.2) < 0 then s.2.2 else if Q N = true ∧ t.2.2 < 0 then nI N else t.2.2)
        have x1 : (if Q N = true ∧ what < 2 then b1 N else (0 : Int32)) = 0 := if_neg (fun q => hq q.1)
        have x2 : (if Q N = true then (1 : Int32) else 0) = 0 := if_neg hq
        have x3 : (if Q N = true ∧ t.2.2 < 0 then nI N else t.2.2) = t.2.2 := if_neg (fun q => hq q.1)
        rw [x1, x2, x3, or0, Int32.add_zero]
theorem whoR_up (Q : Nat → Bool) (what : Int32) : whoR Q what = forR (whoG Q what) 0 (whoN what) (0, 0, -9) := by
  have hN : whoN what < 2 ^ 30 := by unfold whoN; (repeat' split) <;> decide
  obtain ⟨i1, i2⟩ := who_up Q what (whoN what) hN
  unfold whoR
  rw [i2]
  generalize forR (whoG Q what) 0 (whoN what) (0, 0, -9) = t at i1 ⊢
  show (t.1 ||| 0, t.2.1 + 0, if t.2.2 < 0 then -9 else t.2.2) = t
  rw [or0, Int32.add_zero]
  rcases i1 with h | ⟨k, hk, h⟩
  · rw [if_pos (by rw [h]; decide), ← h]
  · rw [if_neg (by rw [h]; exact nI_pos (by omega))]
section MO3
variable {G : GD} {n m : Nat} {w : MW} {g : RH} {σ : SG} {T T0 : SQ} {j j0 : List PP}
theorem k_X2_leaves {what : Int32} (h : MR w σ) : Ct G yX2_leaves cX2_leaves 5 (some .int) 6 0 0 [.ref m, .int what] n (mh m w g) (MPo m n g (leavesS σ what)) := by
  refine Ct.intro (k := 3) [some (.ref m), some (.int what), none, none, none] (by decide) (Nat.le_of_ble_eq_true rfl) rfl fun z hz hin => ?_
  obtain ⟨j, e, K⟩ := h.1
  have h6 := K.l6
  obtain ⟨l1, l2, l3⟩ := lea_lt σ.1 h6
  unfold leavesS at hz
  rw [l1, l2, l3] at hz
  refine r_aload_0 (q := 1) dX2_leaves_0 rfl ?_
  refine r_iconst 0 (by decide) (q := 2) dX2_leaves_1 rfl ?_
  refine r_put gf_X2_65_2 cl_ok_2 ft_2_7 mh_o (Nat.le_of_ble_eq_true rfl) rfl rfl (q := 5) dX2_leaves_2 rfl ?_
  refine J.heap mset_f7 ?_
  refine r_iload_1 (q := 6) dX2_leaves_5 rfl ?_
  refine r_i2l (q := 7) dX2_leaves_6 rfl ?_
  refine r_lconst 0 (by decide) (q := 8) dX2_leaves_7 rfl ?_
  refine r_ldc2 q1332 (q := 11) dX2_leaves_8 rfl ?_
  refine r_callS_3 cs_X2_71 (by decide) (Nat.le_of_ble_eq_true rfl) ⟨Nat.le_refl _, Nat.le_refl _⟩ (k_X2_in32 (lo := 0) (hi := 2) (by decide) (by decide)) (q := 14) dX2_leaves_11 rfl ?_
  have ei : decide ((0 : Int32) ≤ what ∧ what ≤ 2) = inI what 3 := by
    have := inI_le (v := what) (k := 2) (by decide)
    cases hh : inI what 3
    · exact decide_eq_false (fun q => by have := this.mp q; rw [show inI what (nI (2 + 1)) = inI what 3 from rfl, hh] at this; cases this)
    · exact decide_eq_true (this.mpr hh)
  rw [ei]
  refine r_if_ne (q := 17) (tgt := 24) dX2_leaves_14 rfl rfl (fun c14 => ?_) (fun c14 => ?_)
  · rw [if_pos (bI_n0.mp c14)] at hz
    refine r_bipush (-9) (by decide) (q := 26) dX2_leaves_24 rfl ?_
    refine r_istore_2 (by decide) rfl (q := 27) dX2_leaves_26 rfl ?_
    have outer : ∀ (p c : Nat) (o4 : Option Value), p + c = σ.1.1.length → lc2 o4 = false → J G z cX2_leaves 5 RX2 6 0 0 0 0 34 [some (.ref m), some (.int what), some (.int (fpS σ.1 c p (-9))), some (.int (nI p - 1)), o4] [] n (mh m (sf7 w 0) g) := by
      intro p
      induction p with
      | zero =>
        intro c o4 h1 _
        have h1 : c = σ.1.1.length := by omega
        subst h1
        refine r_iload_3 (q := 35) dX2_leaves_34 rfl ?_
        refine r_if_lt (q := 38) (tgt := 86) dX2_leaves_35 rfl rfl (fun c35 => ?_) (fun c35 => ?_)
        · refine r_iload_1 (q := 87) dX2_leaves_86 rfl ?_
          refine r_if_ne (q := 90) (tgt := 94) dX2_leaves_87 rfl rfl (fun c87 => ?_) (fun c87 => ?_)
          · rw [if_neg c87] at hz
            refine r_iload_1 (q := 95) dX2_leaves_94 rfl ?_
            refine r_iconst 1 (by decide) (q := 96) dX2_leaves_95 rfl ?_
            refine r_icmp_ne (q := 99) (tgt := 106) dX2_leaves_96 rfl rfl (fun c96 => ?_) (fun c96 => ?_)
            · rw [if_neg c96] at hz
              refine r_aload_0 (q := 107) dX2_leaves_106 rfl ?_
              refine r_callV_0 cv_X2_250 mh_o rfl (by decide) (Nat.le_of_ble_eq_true rfl) ⟨Nat.le_refl _, Nat.le_refl _⟩ (k_X2_ridBits K e) (q := 110) dX2_leaves_107 rfl ?_
              exact r_iret hz dX2_leaves_110 (Nat.le_refl _) (Nat.le_refl _) (.of rfl (h.th 0))
            · rw [if_pos c96] at hz
              refine r_aload_0 (q := 100) dX2_leaves_99 rfl ?_
              refine r_callV_0 cv_X2_247 mh_o rfl (by decide) (Nat.le_of_ble_eq_true rfl) ⟨Nat.le_refl _, Nat.le_refl _⟩ (k_X2_leavingTwos K e) (q := 103) dX2_leaves_100 rfl ?_
              refine r_goto (q := 110) dX2_leaves_103 rfl ?_
              exact r_iret hz dX2_leaves_110 (Nat.le_refl _) (Nat.le_refl _) (.of rfl (h.th 0))
          · rw [if_pos c87] at hz
            refine r_iload_2 (q := 91) dX2_leaves_90 rfl ?_
            refine r_goto (q := 110) dX2_leaves_91 rfl ?_
            exact r_iret hz dX2_leaves_110 (Nat.le_refl _) (Nat.le_refl _) (.of rfl (h.th 0))
        · exact absurd (by decide : nI 0 - 1 < 0) c35
      | succ p ih =>
        intro c o4 h1 _
        refine J.lo (l2 := [some (.ref m), some (.int what), some (.int (fpS σ.1 c (p + 1) (-9))), some (.int (nI p)), o4]) (by rw [nI_pred]) ?_
        refine r_iload_3 (q := 35) dX2_leaves_34 rfl ?_
        refine r_if_lt (q := 38) (tgt := 86) dX2_leaves_35 rfl rfl (fun c35 => ?_) (fun c35 => ?_)
        · exact absurd c35 (nI_pos (by omega))
        refine r_aload_0 (q := 39) dX2_leaves_38 rfl ?_
        refine m_getp gf_X2_68_2 K e (q := 42) dX2_leaves_39 rfl ?_
        refine r_iconst 1 (by decide) (q := 43) dX2_leaves_42 rfl ?_
        refine r_isub (q := 44) dX2_leaves_43 rfl ?_
        refine r_istore_4 (by decide) rfl (q := 46) dX2_leaves_44 rfl ?_
        have inner : ∀ (t q : Nat), p + 1 + t = q → q ≤ σ.1.1.length → J G z cX2_leaves 5 RX2 6 0 0 0 0 46 [some (.ref m), some (.int what), some (.int (fqS σ.1 p (σ.1.1.length - q) q (fpS σ.1 c (p + 1) (-9)))), some (.int (nI p)), some (.int (nI q - 1))] [] n (mh m (sf7 w 0) g) := by
          intro t
          induction t with
          | zero =>
            intro q h2 h3
            have h2 : q = p + 1 := by omega
            subst h2
            refine J.lo (l2 := [some (.ref m), some (.int what), some (.int (fpS σ.1 (c + 1) p (-9))), some (.int (nI p)), some (.int (nI p))]) (by rw [nI_pred]; rfl) ?_
            refine r_iload_4 (q := 48) dX2_leaves_46 rfl ?_
            refine r_iload_3 (q := 49) dX2_leaves_48 rfl ?_
            refine r_icmp_le (q := 52) (tgt := 80) dX2_leaves_49 rfl rfl (fun c49 => ?_) (fun c49 => ?_)
            · refine r_iinc_3 (nI p - 1) (iinc_m1 _) (by decide) rfl (q := 83) dX2_leaves_80 rfl ?_
              refine r_goto (q := 34) dX2_leaves_83 rfl ?_
              exact ih (c + 1) _ (by omega) rfl
            · exact absurd (Int32.le_refl _) c49
          | succ t iht =>
            intro q h2 h3
            obtain ⟨r, rfl⟩ : ∃ r, q = r + 1 := ⟨q - 1, by omega⟩
            refine J.lo (l2 := [some (.ref m), some (.int what), some (.int (fqS σ.1 p (σ.1.1.length - (r + 1)) (r + 1) (fpS σ.1 c (p + 1) (-9)))), some (.int (nI p)), some (.int (nI r))]) (by rw [nI_pred]) ?_
            refine r_iload_4 (q := 48) dX2_leaves_46 rfl ?_
            refine r_iload_3 (q := 49) dX2_leaves_48 rfl ?_
            refine r_icmp_le (q := 52) (tgt := 80) dX2_leaves_49 rfl rfl (fun c49 => ?_) (fun c49 => ?_)
            · exact absurd c49 (nI_ge (by omega) (by omega))
            refine r_aload_0 (q := 53) dX2_leaves_52 rfl ?_
            refine r_iload_3 (q := 54) dX2_leaves_53 rfl ?_
            refine r_iload_4 (q := 56) dX2_leaves_54 rfl ?_
            refine r_callV_2 cv_X2_242 mh_o rfl (by decide) (Nat.le_of_ble_eq_true rfl) ⟨Nat.le_refl _, Nat.le_refl _⟩ (k_X2_wouldLeave K e (by omega) (by omega) (by omega)) (q := 59) dX2_leaves_56 rfl ?_
            have es : σ.1.1.length - r = σ.1.1.length - (r + 1) + 1 := by omega
            have nx := iht r (by omega) (by omega)
            rw [es] at nx
            refine r_if_eq (q := 62) (tgt := 72) dX2_leaves_59 rfl rfl (fun c59 => ?_) (fun c59 => ?_)
            · rw [show fqS σ.1 p (σ.1.1.length - (r + 1) + 1) r (fpS σ.1 c (p + 1) (-9)) = fqS σ.1 p (σ.1.1.length - (r + 1)) (r + 1) (fpS σ.1 c (p + 1) (-9)) from if_neg (by rw [bI_0.mp c59]; decide)] at nx
              refine r_iload_2 (q := 73) dX2_leaves_72 rfl ?_
              refine r_istore_2 (by decide) rfl (q := 74) dX2_leaves_73 rfl ?_
              refine r_iinc_4 (nI r - 1) (iinc_m1 _) (by decide) rfl (q := 77) dX2_leaves_74 rfl ?_
              refine r_goto (q := 46) dX2_leaves_77 rfl ?_
              exact nx
            · rw [show fqS σ.1 p (σ.1.1.length - (r + 1) + 1) r (fpS σ.1 c (p + 1) (-9)) = 10 * nI p + nI r from if_pos (bI_n0.mp c59)] at nx
              refine r_bipush 10 (by decide) (q := 64) dX2_leaves_62 rfl ?_
              refine r_iload_3 (q := 65) dX2_leaves_64 rfl ?_
              refine r_imul (q := 66) dX2_leaves_65 rfl ?_
              refine r_iload_4 (q := 68) dX2_leaves_66 rfl ?_
              refine r_iadd (q := 69) dX2_leaves_68 rfl ?_
              refine r_goto (q := 73) dX2_leaves_69 rfl ?_
              refine r_istore_2 (by decide) rfl (q := 74) dX2_leaves_73 rfl ?_
              refine r_iinc_4 (nI r - 1) (iinc_m1 _) (by decide) rfl (q := 77) dX2_leaves_74 rfl ?_
              refine r_goto (q := 46) dX2_leaves_77 rfl ?_
              exact nx
        have := inner (σ.1.1.length - (p + 1)) σ.1.1.length (by omega) (Nat.le_refl _)
        rw [Nat.sub_self] at this
        exact this
    refine r_aload_0 (q := 28) dX2_leaves_27 rfl ?_
    refine m_getp gf_X2_68_2 K e (q := 31) dX2_leaves_28 rfl ?_
    refine r_iconst 1 (by decide) (q := 32) dX2_leaves_31 rfl ?_
    refine r_isub (q := 33) dX2_leaves_32 rfl ?_
    refine r_istore_3 (by decide) rfl (q := 34) dX2_leaves_33 rfl ?_
    exact outer σ.1.1.length 0 _ rfl rfl
  · rw [if_neg (by rw [bI_0.mp c14]; decide)] at hz
    refine r_aload_0 (q := 18) dX2_leaves_17 rfl ?_
    refine r_bipush (-2) (by decide) (q := 20) dX2_leaves_18 rfl ?_
    refine r_callV_1 cv_X2_128 mh_o rfl (by decide) (Nat.le_of_ble_eq_true rfl) ⟨Nat.le_refl _, Nat.le_refl _⟩ (k_X2_refuse isC_2 (h.th 0).l6) (q := 23) dX2_leaves_20 rfl ?_
    exact r_iret hz dX2_leaves_23 (Nat.le_refl _) (Nat.le_refl _) (.of rfl ((h.th 0).refuse _))
theorem k_X2_allLikes (K : OKM T j) (e : w.1 = mS T j) : CtE G yX2_allLikes cX2_allLikes 3 (some FieldType.int) 3 [.ref m] n (mh m w g) (some (.int (alikS T))) (mh m w g) := by
  refine Ct.intro (k := 2) [some (.ref m), none, none] (by decide) (Nat.le_of_ble_eq_true rfl) rfl fun z hz hin => ?_
  have h6 := K.l6
  refine r_iconst 0 (by decide) (q := 1) dX2_allLikes_0 rfl ?_
  refine r_istore_1 (by decide) rfl (q := 2) dX2_allLikes_1 rfl ?_
  refine r_iconst 0 (by decide) (q := 3) dX2_allLikes_2 rfl ?_
  refine r_istore_2 (by decide) rfl (q := 4) dX2_allLikes_3 rfl ?_
  refine forJ (f := alikI T) (σ := Int32) T.1.length (fun _ => True) (fun a s => J G z cX2_allLikes 3 RX2 3 0 0 0 0 4 [some (.ref m), some (.int s), some (.int (nI a))] [] n (mh m w g)) (a0 := 0) (s0 := 0) (Nat.zero_le _) trivial (fun s _ hs => ?_) (fun a s _ ha _ => ⟨trivial, fun next => ?_⟩)
  · refine r_iload_2 (q := 5) dX2_allLikes_4 rfl ?_
    refine r_aload_0 (q := 6) dX2_allLikes_5 rfl ?_
    refine m_getp gf_X2_68_2 K e (q := 9) dX2_allLikes_6 rfl ?_
    refine r_icmp_ge (q := 12) (tgt := 45) dX2_allLikes_9 rfl rfl (fun c9 => ?_) (fun c9 => ?_)
    · rw [← show s = alikS T from hs] at hz
      refine r_iload_1 (q := 46) dX2_allLikes_45 rfl ?_
      exact r_iret hz dX2_allLikes_46 (Nat.le_refl _) (Nat.le_refl _) ⟨rfl, rfl, rfl⟩
    · exact absurd (Int32.le_refl _) c9
  · unfold alikI at next
    refine r_iload_2 (q := 5) dX2_allLikes_4 rfl ?_
    refine r_aload_0 (q := 6) dX2_allLikes_5 rfl ?_
    refine m_getp gf_X2_68_2 K e (q := 9) dX2_allLikes_6 rfl ?_
    refine r_icmp_ge (q := 12) (tgt := 45) dX2_allLikes_9 rfl rfl (fun c9 => ?_) (fun c9 => ?_)
    · exact absurd c9 (nI_not_lt ha (by omega))
    refine r_iload_1 (q := 13) dX2_allLikes_12 rfl ?_
    refine r_aload_0 (q := 14) dX2_allLikes_13 rfl ?_
    refine r_get gf_X2_19_2 mh_o rfl (q := 17) dX2_allLikes_14 rfl ?_
    refine r_iload_2 (q := 18) dX2_allLikes_17 rfl ?_
    refine m_ald4 K e (by omega) (q := 19) dX2_allLikes_18 rfl ?_
    cases em : mt T a with
    | none =>
      rw [em] at next
      refine r_if_ge (q := 22) (tgt := 26) dX2_allLikes_19 rfl rfl (fun c19 => ?_) (fun c19 => ?_)
      · exact absurd c19 (by decide)
      · refine r_iconst 0 (by decide) (q := 23) dX2_allLikes_22 rfl ?_
        refine r_goto (q := 37) dX2_allLikes_23 rfl ?_
        refine r_iadd (q := 38) dX2_allLikes_37 rfl ?_
        refine r_istore_1 (by decide) rfl (q := 39) dX2_allLikes_38 rfl ?_
        refine r_inc_2 (by decide) rfl (q := 42) dX2_allLikes_39 rfl ?_
        refine r_goto (q := 4) dX2_allLikes_42 rfl ?_
        exact next
    | some b =>
      have hb := K.mtl ha em
      rw [em] at next
      refine r_if_ge (q := 22) (tgt := 26) dX2_allLikes_19 rfl rfl (fun c19 => ?_) (fun c19 => ?_)
      · refine r_aload_0 (q := 27) dX2_allLikes_26 rfl ?_
        refine r_iload_2 (q := 28) dX2_allLikes_27 rfl ?_
        refine r_aload_0 (q := 29) dX2_allLikes_28 rfl ?_
        refine r_get gf_X2_19_2 mh_o rfl (q := 32) dX2_allLikes_29 rfl ?_
        refine r_iload_2 (q := 33) dX2_allLikes_32 rfl ?_
        refine m_ald4 K e (by omega) (q := 34) dX2_allLikes_33 rfl ?_
        refine J.topi (show mI (mt T a) = nI b by rw [em]; rfl) ?_
        refine r_callV_2 cv_X2_90 mh_o rfl (by decide) (Nat.le_of_ble_eq_true rfl) ⟨Nat.le_refl _, Nat.le_refl _⟩ (k_X2_likesOf K e (by omega) (by omega)) (q := 37) dX2_allLikes_34 rfl ?_
        refine r_iadd (q := 38) dX2_allLikes_37 rfl ?_
        refine r_istore_1 (by decide) rfl (q := 39) dX2_allLikes_38 rfl ?_
        refine r_inc_2 (by decide) rfl (q := 42) dX2_allLikes_39 rfl ?_
        refine r_goto (q := 4) dX2_allLikes_42 rfl ?_
        exact next
      · exact absurd (nI_pos' (by omega)) c19
theorem k_X2_glad {p : Int32} (h : MR w σ) : Ct G yX2_glad cX2_glad 2 (some .int) 4 0 0 [.ref m, .int p] n (mh m w g) (MPo m n g (gladS σ p)) := by
  refine Ct.intro (k := 0) [some (.ref m), some (.int p)] (by decide) (Nat.le_of_ble_eq_true rfl) rfl fun z hz hin => ?_
  obtain ⟨j, e, K⟩ := h.1
  have h6 := K.l6
  unfold gladS at hz
  refine r_aload_0 (q := 1) dX2_glad_0 rfl ?_
  refine r_iconst 0 (by decide) (q := 2) dX2_glad_1 rfl ?_
  refine r_put gf_X2_65_2 cl_ok_2 ft_2_7 mh_o (Nat.le_of_ble_eq_true rfl) rfl rfl (q := 5) dX2_glad_2 rfl ?_
  refine J.heap mset_f7 ?_
  refine r_aload_0 (q := 6) dX2_glad_5 rfl ?_
  refine r_iload_1 (q := 7) dX2_glad_6 rfl ?_
  refine r_callV_1 cv_X2_75 mh_o rfl (by decide) (Nat.le_of_ble_eq_true rfl) ⟨Nat.le_refl _, Nat.le_refl _⟩ (k_X2_isOne K e) (q := 10) dX2_glad_7 rfl ?_
  refine r_if_ne (q := 13) (tgt := 19) dX2_glad_10 rfl rfl (fun c10 => ?_) (fun c10 => ?_)
  · have hp := bI_n0.mp c10
    rw [if_pos hp] at hz
    obtain ⟨a, ha, rfl⟩ := isPer_t K.lens hp
    rw [cl_nI (by omega)] at hz
    refine r_aload_0 (q := 20) dX2_glad_19 rfl ?_
    refine r_get gf_X2_19_2 mh_o rfl (q := 23) dX2_glad_20 rfl ?_
    refine r_iload_1 (q := 24) dX2_glad_23 rfl ?_
    refine m_ald4 K e (by omega) (q := 25) dX2_glad_24 rfl ?_
    cases em : mt σ.1 a with
    | none =>
      rw [em] at hz
      refine r_if_ge (q := 28) (tgt := 33) dX2_glad_25 rfl rfl (fun c25 => ?_) (fun c25 => ?_)
      · exact absurd c25 (by decide)
      · refine r_bipush (-9) (by decide) (q := 30) dX2_glad_28 rfl ?_
        refine r_goto (q := 48) dX2_glad_30 rfl ?_
        exact r_iret hz dX2_glad_48 (Nat.le_refl _) (Nat.le_refl _) (.of rfl (h.th 0))
    | some b =>
      have hb := K.mtl ha em
      rw [em] at hz
      refine r_if_ge (q := 28) (tgt := 33) dX2_glad_25 rfl rfl (fun c25 => ?_) (fun c25 => ?_)
      · refine r_aload_0 (q := 34) dX2_glad_33 rfl ?_
        refine r_iload_1 (q := 35) dX2_glad_34 rfl ?_
        refine r_aload_0 (q := 36) dX2_glad_35 rfl ?_
        refine r_get gf_X2_19_2 mh_o rfl (q := 39) dX2_glad_36 rfl ?_
        refine r_iload_1 (q := 40) dX2_glad_39 rfl ?_
        refine m_ald4 K e (by omega) (q := 41) dX2_glad_40 rfl ?_
        refine J.topi (show mI (mt σ.1 a) = nI b by rw [em]; rfl) ?_
        refine r_callV_2 cv_X2_90 mh_o rfl (by decide) (Nat.le_of_ble_eq_true rfl) ⟨Nat.le_refl _, Nat.le_refl _⟩ (k_X2_likesOf K e (by omega) (by omega)) (q := 44) dX2_glad_41 rfl ?_
        refine r_sipush 1000 (by decide) (q := 47) dX2_glad_44 rfl ?_
        refine r_iadd (q := 48) dX2_glad_47 rfl ?_
        exact r_iret hz dX2_glad_48 (Nat.le_refl _) (Nat.le_refl _) (.of rfl (h.th 0))
      · exact absurd (nI_pos' (by omega)) c25
  · rw [if_neg (by rw [bI_0.mp c10]; decide)] at hz
    refine r_aload_0 (q := 14) dX2_glad_13 rfl ?_
    refine r_iconst (-1) (by decide) (q := 15) dX2_glad_14 rfl ?_
    refine r_callV_1 cv_X2_128 mh_o rfl (by decide) (Nat.le_of_ble_eq_true rfl) ⟨Nat.le_refl _, Nat.le_refl _⟩ (k_X2_refuse isC_1 (h.th 0).l6) (q := 18) dX2_glad_15 rfl ?_
    exact r_iret hz dX2_glad_18 (Nat.le_refl _) (Nat.le_refl _) (.of rfl ((h.th 0).refuse _))
end MO3


/-! ===== PrayerMatsFaceModel: lots, means, days away, spread, count ===== -/
theorem forR_rel {σ τ : Type} {f : Nat → σ → σ} {k : Nat → τ → τ} (R : σ → τ → Prop) : ∀ (c i : Nat) (s : σ) (t : τ), (∀ j s t, i ≤ j → j < i + c → R s t → R (f j s) (k j t)) → R s t → R (forR f i c s) (forR k i c t)
  | 0, _, _, _, _, h => h
  | c + 1, i, s, t, hs, h => by
    rw [forR_s, forR_s]
    exact forR_rel R c (i + 1) _ _ (fun j s t h1 h2 => hs j s t (by omega) (by omega)) (hs i s t (Nat.le_refl _) (by omega) h)
theorem setH_setH {S : SQ} {a x y : Nat} : setH (setH S a x) a y = setH S a y := by
  unfold setH
  show (S.1, (S.2.1.set a x).set a y, _) = _
  rw [List.set_set]
theorem setH_self {S : SQ} {a x : Nat} (h : hr S a = x) : setH S a x = S := by
  unfold setH
  rw [← h]
  unfold hr
  rw [set_self]
theorem hr_setH {S : SQ} {a b x : Nat} (hL : LenS S) (ha : a < 6) : hr (setH S a x) b = if b = a then x else hr S b := by
  unfold hr setH
  show (S.2.1.set a x).getD b 0 = _
  rw [getD_set]
  by_cases h : b = a
  · rw [if_pos ⟨h, by rw [hL.2.1]; exact ha⟩, if_pos h]
  · rw [if_neg (fun q => h q.1), if_neg h]
theorem dayM_abs {S : SQ} {p : Nat} (h : OKS S) (hp : p < S.1.length) : dayM (some p) none S = setH (dayM none none (setH S p 0)) p (hr S p) := by
  have h6 := h.1.1
  have key : ∀ (c i : Nat) (s t : SQ), (LenS s ∧ t = setH s p 0 ∧ hr s p = hr S p) → (LenS (forR (dayStep (some p) none) i c s) ∧ forR (dayStep none none) i c t = setH (forR (dayStep (some p) none) i c s) p 0 ∧ hr (forR (dayStep (some p) none) i c s) p = hr S p) := by
    intro c i s t hst
    refine forR_rel (f := dayStep (some p) none) (k := dayStep none none) (fun s t => LenS s ∧ t = setH s p 0 ∧ hr s p = hr S p) c i s t (fun a s t _ _ hR => ?_) hst
    obtain ⟨r1, r2, r3⟩ := hR
    subst r2
    have fr := dayStep_fr (some p) none a s
    have e3 : hr (dayStep (some p) none a s) p = hr S p := by
      unfold hr at r3 ⊢
      rw [fr.2.1]
      exact r3
    have cm : ∀ b, cmH none (setH s p 0) b = cmH (some p) s b := by
      intro b
      unfold cmH
      rw [if_neg (fun q => by cases q), hr_setH r1 (by omega)]
      by_cases hb : b = p
      · rw [if_pos hb, if_pos (by rw [hb])]
      · rw [if_neg hb, if_neg (fun q => hb (Option.some.inj q).symm)]
    have ll : LenS (dayStep (some p) none a s) := by
      rcases on_off s a with ⟨b, e, q⟩ | hn
      · rw [dayStep_on e q]
        exact forR_inv (f := pairH (cmH (some p) s a) (cmH (some p) s b) a b) LenS (fun _ s k => lens_setQr k) 5 0 s r1
      · rw [dayStep_off hn]
        exact r1
    refine ⟨ll, ?_, e3⟩
    rcases on_off s a with ⟨b, e, q⟩ | hn
    · rw [dayStep_on e q, dayStep_on (S := setH s p 0) e q]
      show forR (pairH (cmH none (setH s p 0) a) (cmH none (setH s p 0) b) a b) 0 5 (setH s p 0) = setH (forR (pairH (cmH (some p) s a) (cmH (some p) s b) a b) 0 5 s) p 0
      rw [cm, cm]
      exact (forR_map (f := pairH (cmH (some p) s a) (cmH (some p) s b) a b) (k := pairH (cmH (some p) s a) (cmH (some p) s b) a b) (fun s => setH s p 0) (fun _ _ => rfl) 5 0 s).symm
    · rw [dayStep_off hn, dayStep_off (S := setH s p 0) hn]
  obtain ⟨k1, k2, k3⟩ := key S.1.length 0 (setD S (S.2.2.2.2 + 1)) (setD (setH S p 0) (S.2.2.2.2 + 1)) ⟨h.1, rfl, rfl⟩
  have e2 : dayM none none (setH S p 0) = setH (dayM (some p) none S) p 0 := k2
  have e3 : hr (dayM (some p) none S) p = hr S p := k3
  rw [e2, setH_setH, setH_self e3]
/-- a day of chance: the model's quarter beside the face's -/
theorem awy_day {S : SQ} {p own : Nat} (h : OKS S) (hp : p < S.1.length) (ho : own ≤ 31) (gone : Bool) : dayM (if gone = true then some p else none) none (setH S p own) = setH (goesS (setH S p (if gone = true then 0 else own))) p own := by
  have h6 := h.1.1
  have ho2 : hr (setH S p own) p = own := by rw [hr_setH h.1 (by omega), if_pos rfl]
  cases gone
  · rw [if_neg (by decide), if_neg (by decide), dayM_goes (h.stH ho)]
    refine (setH_self ?_).symm
    have := (goesS_fr (setH S p own)).2.1
    unfold hr at ho2 ⊢
    rw [this]
    exact ho2
  · rw [if_pos rfl, if_pos rfl, dayM_abs (h.stH ho) hp, ho2, setH_setH, dayM_goes (h.stH (by decide))]
def oddF (t g : Nat) (k o : Nat) : Nat := o * (if hbt g k = true then 1 else t - 1)
def zcN (g : Nat) : Nat → Nat
  | 0 => 0
  | k + 1 => zcN g k + (if hbt g k = true then 0 else 1)
theorem odd_pow (t g : Nat) : ∀ n, forR (oddF t g) 0 n 1 = (t - 1) ^ zcN g n
  | 0 => rfl
  | n + 1 => by
    rw [forR_snoc, odd_pow t g n, Nat.zero_add]
    unfold oddF
    show _ = (t - 1) ^ (zcN g n + (if hbt g n = true then 0 else 1))
    split
    · rw [Nat.mul_one, Nat.add_zero]
    · rw [Nat.pow_succ]
theorem zc_pop : ∀ n, n < 9 → ∀ g, g < 256 → g < 2 ^ n → zcN g n = n - pop g := by decide +kernel
def noAwy (S : SQ) (a b v n t part : Int32) : Int32 := if areTw S a b = true then (if v < 0 ∨ n < 0 ∨ t < 2 then -4 else if 99 < v ∨ 8 < n ∨ 20 < t then -6 else if inI part 2 = true then 0 else -2) else -1
def awyF (S : SQ) (a b v n t : Nat) (g acc : Nat) : Nat := acc + (if qr (awyS a (hr S a) g n 0 S) a b ≤ v then (t - 1) ^ (n - pop g) else 0)
def awyN (S : SQ) (a b v n t : Nat) : Nat := forR (awyF S a b v n t) 0 (2 ^ n) 0
def awayS (σ : SG) (a b v n t part : Int32) : Int64 × SG :=
  if noAwy σ.1 a b v n t part = 0 then (leastL (awyN σ.1 (cl a) (cl b) (cl v) (cl n) (cl t)) (cl t ^ cl n) part, σ) else (4000000000000000000 - (noAwy σ.1 a b v n t part).toInt64, rfS σ (noAwy σ.1 a b v n t part))
theorem noAwy_c {S : SQ} {a b v n t part : Int32} : noAwy S a b v n t part = 0 ∨ isC (noAwy S a b v n t part) := by
  unfold noAwy
  split
  · split
    · exact Or.inr isC_4
    · split
      · exact Or.inr isC_6
      · split
        · exact Or.inl rfl
        · exact Or.inr isC_2
  · exact Or.inr isC_1
theorem awy_pow {n t : Nat} (hn : n ≤ 8) (ht : t ≤ 20) : t ^ n ≤ 20 ^ 8 := Nat.le_trans (Nat.pow_le_pow_left ht n) (Nat.pow_le_pow_right (by decide) hn)
theorem awyF_le {S : SQ} {a b v n t g acc : Nat} (hn : n ≤ 8) (ht : t ≤ 20) : awyF S a b v n t g acc ≤ acc + 20 ^ 8 := by
  unfold awyF
  have := awy_pow (n := n - pop g) (t := t - 1) (by omega) (by omega)
  split <;> omega
theorem awyN_le {S : SQ} {a b v n t : Nat} (hn : n ≤ 8) (ht : t ≤ 20) : awyN S a b v n t < 2 ^ 62 := by
  have h1 := forR_le (f := awyF S a b v n t) (B := 20 ^ 8) (fun j s => awyF_le hn ht) (2 ^ n) 0 0
  have h2 : 2 ^ n ≤ 256 := Nat.pow_le_pow_right (n := 2) (by decide) hn
  have h3 : 2 ^ n * 20 ^ 8 ≤ 256 * 20 ^ 8 := Nat.mul_le_mul_right _ h2
  unfold awyN
  have h4 : 256 * 20 ^ 8 < 2 ^ 62 := by decide
  omega
/-! hours by people or people by hours -/
theorem pop5 : ∀ m, m < 32 → pop m = (if hbt m 0 = true then 1 else 0) + (if hbt m 1 = true then 1 else 0) + (if hbt m 2 = true then 1 else 0) + (if hbt m 3 = true then 1 else 0) + (if hbt m 4 = true then 1 else 0) := by decide +kernel
def cN (S : SQ) (h a acc : Nat) : Nat := acc + (if hbt (hr S a) h = true then 1 else 0)
theorem cN_sum (S : SQ) (hv : ∀ a, hr S a ≤ 31) : ∀ (c i x0 x1 x2 x3 x4 : Nat), forR (fun a acc => acc + pop (hr S a)) i c (x0 + x1 + x2 + x3 + x4) = forR (cN S 0) i c x0 + forR (cN S 1) i c x1 + forR (cN S 2) i c x2 + forR (cN S 3) i c x3 + forR (cN S 4) i c x4
  | 0, _, _, _, _, _, _ => rfl
  | c + 1, i, x0, x1, x2, x3, x4 => by
    rw [forR_s, forR_s, forR_s, forR_s, forR_s, forR_s, ← cN_sum S hv c (i + 1)]
    congr 1
    rw [pop5 _ (Nat.lt_succ_of_le (hv i))]
    unfold cN
    omega
theorem comS_N (S : SQ) (h : Nat) : comS S h = nI (forR (cN S h) 0 S.1.length 0) := by
  unfold comS
  rw [forR_map (f := cN S h) (k := fun a acc => acc + (if hbt (hr S a) h then 1 else 0)) nI (fun a s => ?_)]
  · rfl
  · unfold cN
    split
    · exact (nI_1 s).symm
    · exact (Int32.add_zero _).symm
def popS (S : SQ) : Int32 := forR (fun a acc => acc + nI (pop (hr S a))) 0 S.1.length 0
theorem popS_all {S : SQ} (hv : ∀ a, hr S a ≤ 31) : popS S = allComS S := by
  have e1 : popS S = nI (forR (fun a acc => acc + pop (hr S a)) 0 S.1.length 0) := by
    unfold popS
    rw [forR_map (f := fun a acc => acc + pop (hr S a)) (k := fun a acc => acc + nI (pop (hr S a))) nI (fun a s => (nI_add s _).symm)]
    rfl
  have e2 := cN_sum S hv S.1.length 0 0 0 0 0 0
  rw [e1, show (0 : Nat) = 0 + 0 + 0 + 0 + 0 from rfl, e2]
  show _ = forR (fun h acc => acc + comS S h) 0 5 0
  rw [forR_s, forR_s, forR_s, forR_s, forR_s, forR_0, comS_N, comS_N, comS_N, comS_N, comS_N, show (0 : Int32) = nI 0 from rfl, nI_add, nI_add, nI_add, nI_add, nI_add]
  simp only [Nat.zero_add]
/-! spread -/
def sprF (S : SQ) (a b : Nat) (s : Int32) : Int32 := if nI (qr S a b) < s then nI (qr S a b) else s
def sprI (S : SQ) (a : Nat) (s : Int32) : Int32 := forR (sprF S a) (a + 1) (S.1.length - (a + 1)) s
def sprM (S : SQ) (s : Int32) : Int32 := forR (sprI S) 0 S.1.length s
def sprS (S : SQ) : Int32 := if (lawS S).1 < 0 then 0 else (lawS S).2 - sprM S (lawS S).2
def spreadS (σ : SG) : Int32 × SG := (sprS σ.1, σ)
def spmF (S : SQ) (a b : Nat) (s : Int32 × Int32) : Int32 × Int32 := (if s.1 < nI (qr S a b) then nI (qr S a b) else s.1, if s.2 < 0 ∨ nI (qr S a b) < s.2 then nI (qr S a b) else s.2)
def spmI (S : SQ) (a : Nat) (s : Int32 × Int32) : Int32 × Int32 := forR (spmF S a) (a + 1) (S.1.length - (a + 1)) s
def spmS (S : SQ) : Int32 × Int32 := forR (spmI S) 0 S.1.length (-1, -1)
def R1 (l : Int32 × Int32) (s : Int32 × Int32) : Prop := (l = (-9, -1) ∧ s = (-1, -1)) ∨ ∃ f x y, x ≤ y ∧ y ≤ 99 ∧ f < 100 ∧ l = (nI f, nI y) ∧ s = (nI y, nI x)
def R2 (z : Nat) (l : Int32) (s : Int32 × Int32) : Prop := (s.2 = -1 ∧ l = nI z) ∨ ∃ x, x ≤ 99 ∧ s.2 = nI x ∧ l = nI (min z x)
theorem spr_eq {S : SQ} (h6 : S.1.length ≤ 6) (hq : ∀ a b, qr S a b ≤ 99) : (spmS S).1 - (spmS S).2 = sprS S := by
  have r1 : R1 (lawS S) (spmS S) := by
    refine forR_rel (f := lawI S) (k := spmI S) R1 _ _ _ _ (fun a s t _ ha hR => ?_) (Or.inl ⟨rfl, rfl⟩)
    refine forR_rel (f := lawF S a) (k := spmF S a) R1 _ _ _ _ (fun b s t _ hb hR => ?_) hR
    have q9 := hq a b
    unfold lawF spmF
    rcases hR with ⟨rfl, rfl⟩ | ⟨f, x, y, h1, h2, h3, rfl, rfl⟩
    · refine Or.inr ⟨10 * a + b, qr S a b, qr S a b, Nat.le_refl _, q9, by omega, ?_, ?_⟩
      · rw [if_neg (fun q => by have := nI_pos' (n := qr S a b) (by omega); exact absurd (Int32.le_trans this q) (by decide))]
        rw [show (10 : Int32) = nI 10 from rfl, pk_mul, nI_add]
      · rw [if_pos (Int32.lt_of_lt_of_le (by decide) (nI_pos' (by omega))), if_pos (Or.inl (by decide))]
    · have c1 : nI (qr S a b) ≤ nI y ↔ qr S a b ≤ y := nI_leI (by omega) (by omega)
      have c2 : nI (qr S a b) < nI x ↔ qr S a b < x := nI_ltI (by omega) (by omega)
      have c3 : nI y < nI (qr S a b) ↔ y < qr S a b := nI_ltI (by omega) (by omega)
      by_cases g1 : qr S a b ≤ y
      · by_cases g2 : qr S a b < x
        · refine Or.inr ⟨f, qr S a b, y, g1, h2, h3, if_pos (c1.mpr g1), ?_⟩
          rw [if_neg (fun q => by have := c3.mp q; omega), if_pos (Or.inr (c2.mpr g2))]
        · refine Or.inr ⟨f, x, y, h1, h2, h3, if_pos (c1.mpr g1), ?_⟩
          rw [if_neg (fun q => by have := c3.mp q; omega), if_neg (fun q => by
            rcases q with q | q
            · exact nI_pos (by omega) q
            · exact g2 (c2.mp q))]
      · refine Or.inr ⟨10 * a + b, x, qr S a b, by omega, q9, by omega, ?_, ?_⟩
        · rw [if_neg (fun q => g1 (c1.mp q)), show (10 : Int32) = nI 10 from rfl, pk_mul, nI_add]
        · rw [if_pos (c3.mpr (by omega)), if_neg (fun q => by
            rcases q with q | q
            · exact nI_pos (by omega) q
            · have := c2.mp q; omega)]
  have r2 : ∀ z, z ≤ 99 → R2 z (sprM S (nI z)) (spmS S) := by
    intro z hz
    refine forR_rel (f := sprI S) (k := spmI S) (R2 z) _ _ _ _ (fun a s t _ ha hR => ?_) (Or.inl ⟨rfl, rfl⟩)
    refine forR_rel (f := sprF S a) (k := spmF S a) (R2 z) _ _ _ _ (fun b s t _ hb hR => ?_) hR
    have q9 := hq a b
    unfold sprF spmF
    rcases hR with ⟨e1, rfl⟩ | ⟨x, h1, e1, rfl⟩
    · refine Or.inr ⟨qr S a b, q9, ?_, ?_⟩
      · show (if t.2 < 0 ∨ nI (qr S a b) < t.2 then nI (qr S a b) else t.2) = _
        rw [if_pos (Or.inl (by rw [e1]; decide))]
      · have c2 : nI (qr S a b) < nI z ↔ qr S a b < z := nI_ltI (by omega) (by omega)
        by_cases g2 : qr S a b < z
        · rw [if_pos (c2.mpr g2), Nat.min_eq_right (by omega)]
        · rw [if_neg (fun q => g2 (c2.mp q)), Nat.min_eq_left (by omega)]
    · have c1 : nI (qr S a b) < nI x ↔ qr S a b < x := nI_ltI (by omega) (by omega)
      have c2 : nI (qr S a b) < nI (min z x) ↔ qr S a b < min z x := nI_ltI (by omega) (by omega)
      by_cases g1 : qr S a b < x
      · refine Or.inr ⟨qr S a b, q9, ?_, ?_⟩
        · show (if t.2 < 0 ∨ nI (qr S a b) < t.2 then nI (qr S a b) else t.2) = _
          rw [e1, if_pos (Or.inr (c1.mpr g1))]
        · by_cases g2 : qr S a b < min z x
          · rw [if_pos (c2.mpr g2), Nat.min_eq_right (by omega)]
          · rw [if_neg (fun q => g2 (c2.mp q))]
            congr 1
            omega
      · refine Or.inr ⟨x, h1, ?_, ?_⟩
        · show (if t.2 < 0 ∨ nI (qr S a b) < t.2 then nI (qr S a b) else t.2) = _
          rw [e1, if_neg (fun q => by
            rcases q with q | q
            · exact nI_pos (by omega) q
            · exact g1 (c1.mp q))]
        · rw [if_neg (fun q => by have := c2.mp q; omega)]
  unfold sprS
  rcases r1 with ⟨e1, e2⟩ | ⟨f, x, y, h1, h2, h3, e1, e2⟩
  · rw [e1, e2]
    show (-1 : Int32) - -1 = if (-9 : Int32) < 0 then 0 else _
    rw [if_pos (by decide)]
    decide
  · have := r2 y h2
    rw [e1, e2]
    show nI y - nI x = if nI f < 0 then 0 else nI y - sprM S (nI y)
    rw [if_neg (nI_pos (by omega))]
    rcases this with ⟨z1, z2⟩ | ⟨x', g1, g2, g3⟩
    · rw [e2] at z1
      have z1 : nI x = -1 := z1
      exact absurd (by rw [z1]; decide : nI x < 0) (nI_pos (by omega))
    · rw [e2] at g2
      have g2 : nI x = nI x' := g2
      have := nI_inj (by omega) (by omega) g2
      rw [g3, ← this, Nat.min_eq_right h1]
section MO7
variable {G : GD} {n m : Nat} {w : MW} {g : RH} {σ : SG} {T T0 : SQ} {j j0 : List PP} {h : RH}
theorem k_X2_divisor {a b : Nat} (ha : a < 2 ^ 63) (hb : b < 2 ^ 63) : CtE G yX2_divisor cX2_divisor 10 (some FieldType.long) 1 [.long (lN a), .long (lN b)] n h (some (.long (lN (Nat.gcd a b)))) h := by
  refine Ct.intro (k := 6) [some (.long (lN a)), none, some (.long (lN b)), none, none, none, none, none, none, none] (by decide) (Nat.le_of_ble_eq_true rfl) rfl fun z hz hin => ?_
  have loop : ∀ (m u v : Nat) (o8 : Option Value), v ≤ m → u < 2 ^ 63 → v < 2 ^ 63 → Nat.gcd u v = Nat.gcd a b → J G z cX2_divisor 10 RX2 1 0 0 0 0 6 [some (.long (lN a)), none, some (.long (lN b)), none, some (.long (lN u)), none, some (.long (lN v)), none, o8, none] [] n h := by
    intro m
    induction m with
    | zero =>
      intro u v o8 h1 h2 h3 h4
      have h1 : v = 0 := by omega
      subst h1
      refine r_lload_6 (q := 8) dX2_divisor_6 rfl ?_
      refine r_lconst 0 (by decide) (q := 9) dX2_divisor_8 rfl ?_
      refine r_lcmp (q := 10) dX2_divisor_9 rfl ?_
      refine r_if_eq (q := 13) (tgt := 31) dX2_divisor_10 rfl rfl (fun c10 => ?_) (fun c10 => ?_)
      · rw [Nat.gcd_zero_right] at h4
        rw [← h4] at hz
        refine r_lload_4 (q := 33) dX2_divisor_31 rfl ?_
        exact r_lret hz dX2_divisor_33 (Nat.le_refl _) (Nat.le_refl _) ⟨rfl, rfl, rfl⟩
      · exact absurd ((cmp0 h3).mpr rfl) c10
    | succ m ih =>
      intro u v o8 h1 h2 h3 h4
      refine r_lload_6 (q := 8) dX2_divisor_6 rfl ?_
      refine r_lconst 0 (by decide) (q := 9) dX2_divisor_8 rfl ?_
      refine r_lcmp (q := 10) dX2_divisor_9 rfl ?_
      refine r_if_eq (q := 13) (tgt := 31) dX2_divisor_10 rfl rfl (fun c10 => ?_) (fun c10 => ?_)
      · have h1 := (cmp0 h3).mp c10
        subst h1
        rw [Nat.gcd_zero_right] at h4
        rw [← h4] at hz
        refine r_lload_4 (q := 33) dX2_divisor_31 rfl ?_
        exact r_lret hz dX2_divisor_33 (Nat.le_refl _) (Nat.le_refl _) ⟨rfl, rfl, rfl⟩
      · have hv : 0 < v := Nat.pos_of_ne_zero (fun q => c10 ((cmp0 h3).mpr q))
        refine r_lload_4 (q := 15) dX2_divisor_13 rfl ?_
        refine r_lload_6 (q := 17) dX2_divisor_15 rfl ?_
        refine r_lrem (fun q => by rw [show (0 : Int64) = lN 0 from rfl] at q; have := (pk_lEQ h3 (by decide)).mp q; omega) (q := 18) dX2_divisor_17 rfl ?_
        refine J.topl (pk_lRem h2 hv h3) ?_
        have hm : u % v < v := Nat.mod_lt _ hv
        refine r_lstore_8 (by decide) rfl (q := 20) dX2_divisor_18 rfl ?_
        refine r_lload_6 (q := 22) dX2_divisor_20 rfl ?_
        refine r_lstore_4 (by decide) rfl (q := 24) dX2_divisor_22 rfl ?_
        refine r_lload_8 (q := 26) dX2_divisor_24 rfl ?_
        refine r_lstore_6 (by decide) rfl (q := 28) dX2_divisor_26 rfl ?_
        refine r_goto (q := 6) dX2_divisor_28 rfl ?_
        exact ih v (u % v) _ (by omega) h3 (by omega) (by rw [← h4, Nat.gcd_comm u v, Nat.gcd_rec v u, Nat.gcd_comm])
  refine r_lload_0 (q := 1) dX2_divisor_0 rfl ?_
  refine r_lstore_4 (by decide) rfl (q := 3) dX2_divisor_1 rfl ?_
  refine r_lload_2 (q := 4) dX2_divisor_3 rfl ?_
  refine r_lstore_6 (by decide) rfl (q := 6) dX2_divisor_4 rfl ?_
  exact loop b a b none (Nat.le_refl _) ha hb rfl
theorem k_X2_partOf {a b : Nat} {part : Int32} (ha : a < 2 ^ 63) (hb : b < 2 ^ 63) : CtE G yX2_partOf cX2_partOf 7 (some FieldType.long) 2 [.long (lN a), .long (lN b), .int part] n h (some (.long (leastL a b part))) h := by
  refine Ct.intro (k := 2) [some (.long (lN a)), none, some (.long (lN b)), none, some (.int part), none, none] (by decide) (Nat.le_of_ble_eq_true rfl) rfl fun z hz hin => ?_
  unfold leastL at hz
  refine r_lload_0 (q := 1) dX2_partOf_0 rfl ?_
  refine r_lconst 0 (by decide) (q := 2) dX2_partOf_1 rfl ?_
  refine r_lcmp (q := 3) dX2_partOf_2 rfl ?_
  refine r_if_ne (q := 6) (tgt := 10) dX2_partOf_3 rfl rfl (fun c3 => ?_) (fun c3 => ?_)
  · have hne : ¬ a = 0 := fun q => c3 ((cmp0 ha).mpr q)
    rw [if_neg hne, Nat.gcd_comm b a] at hz
    have hg0 : 0 < Nat.gcd a b := Nat.gcd_pos_of_pos_left _ (by omega)
    have hgl : Nat.gcd a b < 2 ^ 63 := Nat.lt_of_le_of_lt (Nat.gcd_le_left _ (by omega)) ha
    have hg9 : ¬ lN (Nat.gcd a b) = 0 := fun q => by rw [show (0 : Int64) = lN 0 from rfl] at q; have := (pk_lEQ hgl (by decide)).mp q; omega
    refine r_lload_0 (q := 11) dX2_partOf_10 rfl ?_
    refine r_lload_2 (q := 12) dX2_partOf_11 rfl ?_
    refine r_callS_2 cs_X2_282 (by decide) (Nat.le_of_ble_eq_true rfl) ⟨Nat.le_refl _, Nat.le_refl _⟩ (k_X2_divisor ha hb) (q := 15) dX2_partOf_12 rfl ?_
    refine r_lstore_5 (by decide) rfl (q := 17) dX2_partOf_15 rfl ?_
    refine r_iload_4 (q := 19) dX2_partOf_17 rfl ?_
    refine r_if_ne (q := 22) (tgt := 29) dX2_partOf_19 rfl rfl (fun c19 => ?_) (fun c19 => ?_)
    · rw [if_neg c19] at hz
      refine r_lload_2 (q := 30) dX2_partOf_29 rfl ?_
      refine r_lload_5 (q := 32) dX2_partOf_30 rfl ?_
      refine r_ldiv hg9 (q := 33) dX2_partOf_32 rfl ?_
      refine J.topl (pk_lDiv hb hg0 hgl) ?_
      exact r_lret hz dX2_partOf_33 (Nat.le_refl _) (Nat.le_refl _) ⟨rfl, rfl, rfl⟩
    · rw [if_pos c19] at hz
      refine r_lload_0 (q := 23) dX2_partOf_22 rfl ?_
      refine r_lload_5 (q := 25) dX2_partOf_23 rfl ?_
      refine r_ldiv hg9 (q := 26) dX2_partOf_25 rfl ?_
      refine J.topl (pk_lDiv ha hg0 hgl) ?_
      refine r_goto (q := 33) dX2_partOf_26 rfl ?_
      exact r_lret hz dX2_partOf_33 (Nat.le_refl _) (Nat.le_refl _) ⟨rfl, rfl, rfl⟩
  · have he := (cmp0 ha).mp c3
    rw [if_pos he] at hz
    refine r_iload_4 (q := 8) dX2_partOf_6 rfl ?_
    refine r_i2l (q := 9) dX2_partOf_8 rfl ?_
    exact r_lret hz dX2_partOf_9 (Nat.le_refl _) (Nat.le_refl _) ⟨rfl, rfl, rfl⟩
theorem k_X2_mean {part : Int32} (h : MR w σ) : Ct G yX2_mean cX2_mean 2 (some .long) 5 0 0 [.ref m, .int part] n (mh m w g) (MPl m n g (meanS σ part)) := by
  refine Ct.intro (k := 0) [some (.ref m), some (.int part)] (by decide) (Nat.le_of_ble_eq_true rfl) rfl fun z hz hin => ?_
  obtain ⟨j, e, K⟩ := h.1
  have h6 := K.l6
  unfold meanS at hz
  refine r_aload_0 (q := 1) dX2_mean_0 rfl ?_
  refine r_iconst 0 (by decide) (q := 2) dX2_mean_1 rfl ?_
  refine r_put gf_X2_65_2 cl_ok_2 ft_2_7 mh_o (Nat.le_of_ble_eq_true rfl) rfl rfl (q := 5) dX2_mean_2 rfl ?_
  refine J.heap mset_f7 ?_
  refine r_iload_1 (q := 6) dX2_mean_5 rfl ?_
  refine r_i2l (q := 7) dX2_mean_6 rfl ?_
  refine r_lconst 0 (by decide) (q := 8) dX2_mean_7 rfl ?_
  refine r_lconst 1 (by decide) (q := 9) dX2_mean_8 rfl ?_
  refine r_callS_3 cs_X2_71 (by decide) (Nat.le_of_ble_eq_true rfl) ⟨Nat.le_refl _, Nat.le_refl _⟩ (k_X2_in32 (lo := 0) (hi := 1) (by decide) (by decide)) (q := 12) dX2_mean_9 rfl ?_
  rw [in_le' (hi := 1) (k := 1) (ub := 2) (by decide) rfl rfl]
  refine r_if_eq (q := 15) (tgt := 41) dX2_mean_12 rfl rfl (fun c12 => ?_) (fun c12 => ?_)
  · rw [if_neg (by rw [bI_0.mp c12]; decide)] at hz
    refine r_ldc2 q1417 (q := 44) dX2_mean_41 rfl ?_
    refine r_aload_0 (q := 45) dX2_mean_44 rfl ?_
    refine r_bipush (-2) (by decide) (q := 47) dX2_mean_45 rfl ?_
    refine r_callV_1 cv_X2_128 mh_o rfl (by decide) (Nat.le_of_ble_eq_true rfl) ⟨Nat.le_refl _, Nat.le_refl _⟩ (k_X2_refuse isC_2 (h.th 0).l6) (q := 50) dX2_mean_47 rfl ?_
    refine r_i2l (q := 51) dX2_mean_50 rfl ?_
    refine r_lsub (q := 52) dX2_mean_51 rfl ?_
    exact r_lret hz dX2_mean_52 (Nat.le_refl _) (Nat.le_refl _) (.of rfl ((h.th 0).refuse _))
  · rw [if_pos (bI_n0.mp c12)] at hz
    have hN := allN_le K.lens K.vals
    refine r_aload_0 (q := 16) dX2_mean_15 rfl ?_
    refine r_callV_0 cv_X2_226 mh_o rfl (by decide) (Nat.le_of_ble_eq_true rfl) ⟨Nat.le_refl _, Nat.le_refl _⟩ (k_X2_allOf K e) (q := 19) dX2_mean_16 rfl ?_
    refine J.topi (allS_N σ.1) ?_
    refine r_i2l (q := 20) dX2_mean_19 rfl ?_
    refine J.topl (nI_l (by omega)) ?_
    refine r_aload_0 (q := 21) dX2_mean_20 rfl ?_
    refine m_getp gf_X2_68_2 K e (q := 24) dX2_mean_21 rfl ?_
    refine r_aload_0 (q := 25) dX2_mean_24 rfl ?_
    refine m_getp gf_X2_68_2 K e (q := 28) dX2_mean_25 rfl ?_
    refine r_iconst 1 (by decide) (q := 29) dX2_mean_28 rfl ?_
    refine r_isub (q := 30) dX2_mean_29 rfl ?_
    refine r_imul (q := 31) dX2_mean_30 rfl ?_
    refine r_iconst 2 (by decide) (q := 32) dX2_mean_31 rfl ?_
    refine r_idiv (by decide) (q := 33) dX2_mean_32 rfl ?_
    refine J.topi (mean_pairs _ (by omega)) ?_
    have hb : σ.1.1.length * (σ.1.1.length - 1) / 2 < 2 ^ 31 := by
      have : σ.1.1.length * (σ.1.1.length - 1) ≤ 6 * 5 := Nat.mul_le_mul h6 (by omega)
      omega
    refine r_i2l (q := 34) dX2_mean_33 rfl ?_
    refine J.topl (nI_l hb) ?_
    refine r_iload_1 (q := 35) dX2_mean_34 rfl ?_
    refine r_callS_3 cs_X2_288 (by decide) (Nat.le_of_ble_eq_true rfl) ⟨Nat.le_refl _, Nat.le_refl _⟩ (k_X2_partOf (by omega) (by omega)) (q := 38) dX2_mean_35 rfl ?_
    refine r_goto (q := 52) dX2_mean_38 rfl ?_
    exact r_lret hz dX2_mean_52 (Nat.le_refl _) (Nat.le_refl _) (.of rfl (h.th 0))
theorem k_X2_spread (h : MR w σ) : Ct G yX2_spread cX2_spread 6 (some .int) 4 0 0 [.ref m] n (mh m w g) (MPo m n g (spreadS σ)) := by
  refine Ct.intro (k := 5) [some (.ref m), none, none, none, none, none] (by decide) (Nat.le_of_ble_eq_true rfl) rfl fun z hz hin => ?_
  obtain ⟨j, e, K⟩ := h.1
  have h6 := K.l6
  unfold spreadS at hz
  rw [← spr_eq h6 K.qr99] at hz
  refine r_aload_0 (q := 1) dX2_spread_0 rfl ?_
  refine r_iconst 0 (by decide) (q := 2) dX2_spread_1 rfl ?_
  refine r_put gf_X2_65_2 cl_ok_2 ft_2_7 mh_o (Nat.le_of_ble_eq_true rfl) rfl rfl (q := 5) dX2_spread_2 rfl ?_
  refine J.heap mset_f7 ?_
  refine r_iconst (-1) (by decide) (q := 6) dX2_spread_5 rfl ?_
  refine r_istore_1 (by decide) rfl (q := 7) dX2_spread_6 rfl ?_
  refine r_iconst (-1) (by decide) (q := 8) dX2_spread_7 rfl ?_
  refine r_istore_2 (by decide) rfl (q := 9) dX2_spread_8 rfl ?_
  refine r_iconst 0 (by decide) (q := 10) dX2_spread_9 rfl ?_
  refine r_istore_3 (by decide) rfl (q := 11) dX2_spread_10 rfl ?_
  refine forJ (f := spmI σ.1) (σ := Int32 × Int32) σ.1.1.length (fun _ => True) (fun a s => ∀ o4 o5 : Option Value, lc2 o4 = false → J G z cX2_spread 6 RX2 4 0 0 0 0 11 [some (.ref m), some (.int s.1), some (.int s.2), some (.int (nI a)), o4, o5] [] n (mh m (sf7 w 0) g)) (a0 := 0) (s0 := (-1, -1)) (Nat.zero_le _) trivial (fun s _ hs o4 o5 _ => ?_) (fun a s _ ha _ => ⟨trivial, fun next o4 o5 _ => ?_⟩) none none rfl
  · have hs : s = spmS σ.1 := hs
    rw [← hs] at hz
    refine r_iload_3 (q := 12) dX2_spread_11 rfl ?_
    refine r_aload_0 (q := 13) dX2_spread_12 rfl ?_
    refine m_getp gf_X2_68_2 K e (q := 16) dX2_spread_13 rfl ?_
    refine r_icmp_ge (q := 19) (tgt := 84) dX2_spread_16 rfl rfl (fun c16 => ?_) (fun c16 => ?_)
    · refine r_iload_1 (q := 85) dX2_spread_84 rfl ?_
      refine r_iload_2 (q := 86) dX2_spread_85 rfl ?_
      refine r_isub (q := 87) dX2_spread_86 rfl ?_
      exact r_iret hz dX2_spread_87 (Nat.le_refl _) (Nat.le_refl _) (.of rfl (h.th 0))
    · exact absurd (Int32.le_refl _) c16
  · refine r_iload_3 (q := 12) dX2_spread_11 rfl ?_
    refine r_aload_0 (q := 13) dX2_spread_12 rfl ?_
    refine m_getp gf_X2_68_2 K e (q := 16) dX2_spread_13 rfl ?_
    refine r_icmp_ge (q := 19) (tgt := 84) dX2_spread_16 rfl rfl (fun c16 => ?_) (fun c16 => ?_)
    · exact absurd c16 (nI_not_lt ha (by omega))
    refine r_iload_3 (q := 20) dX2_spread_19 rfl ?_
    refine r_iconst 1 (by decide) (q := 21) dX2_spread_20 rfl ?_
    refine r_iadd (q := 22) dX2_spread_21 rfl ?_
    refine J.topi (nI_1 _) ?_
    refine r_istore_4 (by decide) rfl (q := 24) dX2_spread_22 rfl ?_
    refine forJ (f := spmF σ.1 a) (σ := Int32 × Int32) σ.1.1.length (fun _ => True) (fun b s => ∀ o5 : Option Value, J G z cX2_spread 6 RX2 4 0 0 0 0 24 [some (.ref m), some (.int s.1), some (.int s.2), some (.int (nI a)), some (.int (nI b)), o5] [] n (mh m (sf7 w 0) g)) (a0 := a + 1) (s0 := s) ha trivial (fun s' _ hs o5 => ?_) (fun b s' _ hb _ => ⟨trivial, fun next' o5 => ?_⟩) o5
    · refine r_iload_4 (q := 26) dX2_spread_24 rfl ?_
      refine r_aload_0 (q := 27) dX2_spread_26 rfl ?_
      refine m_getp gf_X2_68_2 K e (q := 30) dX2_spread_27 rfl ?_
      refine r_icmp_ge (q := 33) (tgt := 78) dX2_spread_30 rfl rfl (fun c30 => ?_) (fun c30 => ?_)
      · refine r_inc_3 (by decide) rfl (q := 81) dX2_spread_78 rfl ?_
        refine r_goto (q := 11) dX2_spread_81 rfl ?_
        subst hs
        exact next _ _ rfl
      · exact absurd (Int32.le_refl _) c30
    · have put : ∀ y : Int32, y = (if s'.2 < 0 ∨ nI (qr σ.1 a b) < s'.2 then nI (qr σ.1 a b) else s'.2) → J G z cX2_spread 6 RX2 4 0 0 0 0 71 [some (.ref m), some (.int (if s'.1 < nI (qr σ.1 a b) then nI (qr σ.1 a b) else s'.1)), some (.int s'.2), some (.int (nI a)), some (.int (nI b)), some (.int (nI (qr σ.1 a b)))] [.int y] n (mh m (sf7 w 0) g) := by
        intro y hy
        subst hy
        refine r_istore_2 (by decide) rfl (q := 72) dX2_spread_71 rfl ?_
        refine r_inc_4 (by decide) rfl (q := 75) dX2_spread_72 rfl ?_
        refine r_goto (q := 24) dX2_spread_75 rfl ?_
        exact next' _
      have mid : ∀ x : Int32, x = (if s'.1 < nI (qr σ.1 a b) then nI (qr σ.1 a b) else s'.1) → J G z cX2_spread 6 RX2 4 0 0 0 0 54 [some (.ref m), some (.int s'.1), some (.int s'.2), some (.int (nI a)), some (.int (nI b)), some (.int (nI (qr σ.1 a b)))] [.int x] n (mh m (sf7 w 0) g) := by
        intro x hx
        subst hx
        refine r_istore_1 (by decide) rfl (q := 55) dX2_spread_54 rfl ?_
        refine r_iload_2 (q := 56) dX2_spread_55 rfl ?_
        refine r_if_lt (q := 59) (tgt := 65) dX2_spread_56 rfl rfl (fun c56 => ?_) (fun c56 => ?_)
        · refine r_iload_5 (q := 67) dX2_spread_65 rfl ?_
          refine r_goto (q := 71) dX2_spread_67 rfl ?_
          exact put _ (by rw [if_pos (Or.inl c56)])
        · refine r_iload_5 (q := 61) dX2_spread_59 rfl ?_
          refine r_iload_2 (q := 62) dX2_spread_61 rfl ?_
          refine r_icmp_ge (q := 65) (tgt := 70) dX2_spread_62 rfl rfl (fun c62 => ?_) (fun c62 => ?_)
          · refine r_iload_2 (q := 71) dX2_spread_70 rfl ?_
            exact put _ (by rw [if_neg (fun q => by rcases q with q | q; exact c56 q; exact absurd q (Int32.not_lt.mpr c62))])
          · refine r_iload_5 (q := 67) dX2_spread_65 rfl ?_
            refine r_goto (q := 71) dX2_spread_67 rfl ?_
            exact put _ (by rw [if_pos (Or.inr (Int32.not_le.mp c62))])
      refine r_iload_4 (q := 26) dX2_spread_24 rfl ?_
      refine r_aload_0 (q := 27) dX2_spread_26 rfl ?_
      refine m_getp gf_X2_68_2 K e (q := 30) dX2_spread_27 rfl ?_
      refine r_icmp_ge (q := 33) (tgt := 78) dX2_spread_30 rfl rfl (fun c30 => ?_) (fun c30 => ?_)
      · exact absurd c30 (nI_not_lt hb (by omega))
      refine r_aload_0 (q := 34) dX2_spread_33 rfl ?_
      refine r_iload_3 (q := 35) dX2_spread_34 rfl ?_
      refine r_iload_4 (q := 37) dX2_spread_35 rfl ?_
      refine r_callV_2 cv_X2_79 mh_o rfl (by decide) (Nat.le_of_ble_eq_true rfl) ⟨Nat.le_refl _, Nat.le_refl _⟩ (k_X2_quarrelOf K e (by omega) (by omega)) (q := 40) dX2_spread_37 rfl ?_
      refine r_istore_5 (by decide) rfl (q := 42) dX2_spread_40 rfl ?_
      refine r_iload_5 (q := 44) dX2_spread_42 rfl ?_
      refine r_iload_1 (q := 45) dX2_spread_44 rfl ?_
      refine r_icmp_le (q := 48) (tgt := 53) dX2_spread_45 rfl rfl (fun c45 => ?_) (fun c45 => ?_)
      · refine r_iload_1 (q := 54) dX2_spread_53 rfl ?_
        exact mid _ (by rw [if_neg (Int32.not_lt.mpr c45)])
      · refine r_iload_5 (q := 50) dX2_spread_48 rfl ?_
        refine r_goto (q := 54) dX2_spread_50 rfl ?_
        exact mid _ (by rw [if_pos (Int32.not_le.mp c45)])
theorem k_X2_count {what : Int32} (h : MR w σ) : Ct G yX2_count cX2_count 4 (some .int) 4 0 0 [.ref m, .int what] n (mh m w g) (MPo m n g (countS σ what)) := by
  refine Ct.intro (k := 2) [some (.ref m), some (.int what), none, none] (by decide) (Nat.le_of_ble_eq_true rfl) rfl fun z hz hin => ?_
  obtain ⟨j, e, K⟩ := h.1
  have h6 := K.l6
  unfold countS at hz
  refine r_aload_0 (q := 1) dX2_count_0 rfl ?_
  refine r_iconst 0 (by decide) (q := 2) dX2_count_1 rfl ?_
  refine r_put gf_X2_65_2 cl_ok_2 ft_2_7 mh_o (Nat.le_of_ble_eq_true rfl) rfl rfl (q := 5) dX2_count_2 rfl ?_
  refine J.heap mset_f7 ?_
  refine r_iconst 0 (by decide) (q := 6) dX2_count_5 rfl ?_
  refine r_istore_2 (by decide) rfl (q := 7) dX2_count_6 rfl ?_
  refine r_iload_1 (q := 8) dX2_count_7 rfl ?_
  by_cases hw : inI what 8 = true
  · obtain ⟨v, hv, rfl⟩ := inI_n (k := 8) (by decide) hw
    rw [if_neg (fun q => by have := (nI_ltI (a := 10) (by decide) (by omega)).mp q.1; omega), if_pos hw, cl_nI (by omega)] at hz
    match v, hv with
    | 0, _ =>
      refine r_tableIn dX2_count_8 (by decide) (by decide) (off := 48) (by decide) (q := 56) rfl ?_
      refine r_aload_0 (q := 57) dX2_count_56 rfl ?_
      refine m_getp gf_X2_68_2 K e (q := 60) dX2_count_57 rfl ?_
      exact r_iret hz dX2_count_60 (Nat.le_refl _) (Nat.le_refl _) (.of rfl (h.th 0))
    | 1, _ =>
      refine r_tableIn dX2_count_8 (by decide) (by decide) (off := 53) (by decide) (q := 61) rfl ?_
      refine r_aload_0 (q := 62) dX2_count_61 rfl ?_
      refine m_getd gf_X2_106_2 K e (q := 65) dX2_count_62 rfl ?_
      exact r_iret hz dX2_count_65 (Nat.le_refl _) (Nat.le_refl _) (.of rfl (h.th 0))
    | 2, _ =>
      refine r_tableIn dX2_count_8 (by decide) (by decide) (off := 58) (by decide) (q := 66) rfl ?_
      refine r_aload_0 (q := 67) dX2_count_66 rfl ?_
      refine r_callV_0 cv_X2_223 mh_o rfl (by decide) (Nat.le_of_ble_eq_true rfl) ⟨Nat.le_refl _, Nat.le_refl _⟩ (k_X2_matsOf K e) (q := 70) dX2_count_67 rfl ?_
      exact r_iret hz dX2_count_70 (Nat.le_refl _) (Nat.le_refl _) (.of rfl (h.th 0))
    | 3, _ =>
      refine r_tableIn dX2_count_8 (by decide) (by decide) (off := 63) (by decide) (q := 71) rfl ?_
      refine r_aload_0 (q := 72) dX2_count_71 rfl ?_
      refine r_callV_0 cv_X2_226 mh_o rfl (by decide) (Nat.le_of_ble_eq_true rfl) ⟨Nat.le_refl _, Nat.le_refl _⟩ (k_X2_allOf K e) (q := 75) dX2_count_72 rfl ?_
      exact r_iret hz dX2_count_75 (Nat.le_refl _) (Nat.le_refl _) (.of rfl (h.th 0))
    | 4, _ =>
      refine r_tableIn dX2_count_8 (by decide) (by decide) (off := 68) (by decide) (q := 76) rfl ?_
      have hz : ZQ G z (some .int) 0 0 (MPo m n g (popS σ.1, σ)) := by rw [popS_all K.hr31]; exact hz
      refine r_iconst 0 (by decide) (q := 77) dX2_count_76 rfl ?_
      refine r_istore_3 (by decide) rfl (q := 78) dX2_count_77 rfl ?_
      refine forJ (f := fun a acc => acc + nI (pop (hr σ.1 a))) (σ := Int32) σ.1.1.length (fun _ => True) (fun a s => J G z cX2_count 4 RX2 4 0 0 0 0 78 [some (.ref m), some (.int (nI 4)), some (.int s), some (.int (nI a))] [] n (mh m (sf7 w 0) g)) (a0 := 0) (s0 := 0) (Nat.zero_le _) trivial (fun s _ hs => ?_) (fun a s _ ha _ => ⟨trivial, fun next => ?_⟩)
      · have hs : s = popS σ.1 := hs
        rw [← hs] at hz
        refine r_iload_3 (q := 79) dX2_count_78 rfl ?_
        refine r_aload_0 (q := 80) dX2_count_79 rfl ?_
        refine m_getp gf_X2_68_2 K e (q := 83) dX2_count_80 rfl ?_
        refine r_icmp_ge (q := 86) (tgt := 104) dX2_count_83 rfl rfl (fun c83 => ?_) (fun c83 => ?_)
        · refine r_iload_2 (q := 105) dX2_count_104 rfl ?_
          exact r_iret hz dX2_count_105 (Nat.le_refl _) (Nat.le_refl _) (.of rfl (h.th 0))
        · exact absurd (Int32.le_refl _) c83
      · have h31 := K.hr31 a
        refine r_iload_3 (q := 79) dX2_count_78 rfl ?_
        refine r_aload_0 (q := 80) dX2_count_79 rfl ?_
        refine m_getp gf_X2_68_2 K e (q := 83) dX2_count_80 rfl ?_
        refine r_icmp_ge (q := 86) (tgt := 104) dX2_count_83 rfl rfl (fun c83 => ?_) (fun c83 => ?_)
        · exact absurd c83 (nI_not_lt ha (by omega))
        refine r_iload_2 (q := 87) dX2_count_86 rfl ?_
        refine r_aload_0 (q := 88) dX2_count_87 rfl ?_
        refine r_get gf_X2_16_2 mh_o rfl (q := 91) dX2_count_88 rfl ?_
        refine r_iload_3 (q := 92) dX2_count_91 rfl ?_
        refine m_ald3 K e (by omega) (q := 93) dX2_count_92 rfl ?_
        refine r_callS_1 cs_X2_83 (by decide) (Nat.le_of_ble_eq_true rfl) ⟨Nat.le_refl _, Nat.le_refl _⟩ (k_X2_onesOf (k := hr σ.1 a) (by omega)) (q := 96) dX2_count_93 rfl ?_
        refine r_iadd (q := 97) dX2_count_96 rfl ?_
        refine r_istore_2 (by decide) rfl (q := 98) dX2_count_97 rfl ?_
        refine r_inc_3 (by decide) rfl (q := 101) dX2_count_98 rfl ?_
        refine r_goto (q := 78) dX2_count_101 rfl ?_
        exact next
    | 5, _ =>
      refine r_tableIn dX2_count_8 (by decide) (by decide) (off := 98) (by decide) (q := 106) rfl ?_
      refine r_aload_0 (q := 107) dX2_count_106 rfl ?_
      refine r_get gf_X2_131_2 mh_o rfl (q := 110) dX2_count_107 rfl ?_
      refine J.topi (x := mf10 w) h.let7.2.2.1 ?_
      exact r_iret hz dX2_count_110 (Nat.le_refl _) (Nat.le_refl _) (.of rfl (h.th 0))
    | 6, _ =>
      refine r_tableIn dX2_count_8 (by decide) (by decide) (off := 103) (by decide) (q := 111) rfl ?_
      refine r_aload_0 (q := 112) dX2_count_111 rfl ?_
      refine r_get gf_X2_273_2 mh_o rfl (q := 115) dX2_count_112 rfl ?_
      refine J.topi (x := mf31 w) h.row17.2.2.1 ?_
      exact r_iret hz dX2_count_115 (Nat.le_refl _) (Nat.le_refl _) (.of rfl (h.th 0))
    | 7, _ =>
      refine r_tableIn dX2_count_8 (by decide) (by decide) (off := 108) (by decide) (q := 116) rfl ?_
      refine r_aload_0 (q := 117) dX2_count_116 rfl ?_
      refine r_get gf_X2_187_2 mh_o rfl (q := 120) dX2_count_117 rfl ?_
      refine J.topi (x := mf25 w) h.st.2.1 ?_
      exact r_iret hz dX2_count_120 (Nat.le_refl _) (Nat.le_refl _) (.of rfl (h.th 0))
  · have hw : inI what 8 = false := by
      cases hh : inI what 8
      · rfl
      · exact absurd hh hw
    refine r_tableOut dX2_count_8 (inI_out (k := 8) (by decide) hw) (q := 121) rfl ?_
    rw [if_neg (c := inI what 8 = true) (by rw [hw]; decide)] at hz
    refine r_iload_1 (q := 122) dX2_count_121 rfl ?_
    refine r_i2l (q := 123) dX2_count_122 rfl ?_
    refine r_ldc2 q1504 (q := 126) dX2_count_123 rfl ?_
    refine r_ldc2 q1505 (q := 129) dX2_count_126 rfl ?_
    refine r_callS_3 cs_X2_71 (by decide) (Nat.le_of_ble_eq_true rfl) ⟨Nat.le_refl _, Nat.le_refl _⟩ (k_X2_in32 (lo := 11) (hi := 16) (by decide) (by decide)) (q := 132) dX2_count_129 rfl ?_
    have cc : (11 ≤ what ∧ what ≤ 16) ↔ (10 < what ∧ what < 17) := by
      rw [Int32.le_iff_toInt_le, Int32.le_iff_toInt_le, Int32.lt_iff_toInt_lt, Int32.lt_iff_toInt_lt, show (11 : Int32).toInt = 11 from rfl, show (16 : Int32).toInt = 16 from rfl, show (10 : Int32).toInt = 10 from rfl, show (17 : Int32).toInt = 17 from rfl]
      omega
    refine r_if_eq (q := 135) (tgt := 147) dX2_count_132 rfl rfl (fun c132 => ?_) (fun c132 => ?_)
    · have := of_decide_eq_false (bI_0.mp c132)
      rw [if_neg (fun q => this (cc.mpr q))] at hz
      refine r_bipush (-9) (by decide) (q := 149) dX2_count_147 rfl ?_
      exact r_iret hz dX2_count_149 (Nat.le_refl _) (Nat.le_refl _) (.of rfl (h.th 0))
    · have c9 := of_decide_eq_true (bI_n0.mp c132)
      rw [if_pos (cc.mp c9)] at hz
      obtain ⟨v, hv, rfl⟩ := nI_of (x := what) (Int32.not_lt.mpr (Int32.le_trans (by decide) c9.1))
      have v1 : 11 ≤ v := (nI_leI (a := 11) (by decide) (by omega)).mp c9.1
      have v2 : v ≤ 16 := (nI_leI (b := 16) (by omega) (by decide)).mp c9.2
      have es : nI v - 10 = nI (v - 10) := by
        obtain ⟨k, rfl⟩ : ∃ k, v = k + 10 := ⟨v - 10, by omega⟩
        rw [← nI_add, Nat.add_sub_cancel]
        exact Int32.add_sub_cancel (nI k) (nI 10)
      rw [es, cl_nI (by omega)] at hz
      have e6 : ma6 w = σ.2.1.1 := h.2.2.1.1.1
      refine r_aload_0 (q := 136) dX2_count_135 rfl ?_
      refine r_get gf_X2_25_2 mh_o rfl (q := 139) dX2_count_136 rfl ?_
      refine r_iload_1 (q := 140) dX2_count_139 rfl ?_
      refine r_bipush 10 (by decide) (q := 142) dX2_count_140 rfl ?_
      refine r_isub (q := 143) dX2_count_142 rfl ?_
      refine r_iald (v - 10) 7 mh_6 (h.th 0).l6 es (by omega) (by decide) (q := 144) dX2_count_143 rfl ?_
      refine J.topi (y := σ.2.1.1.getD (v - 10) 0) (by show (ma6 w).getD (v - 10) 0 = _; rw [e6]) ?_
      refine r_goto (q := 149) dX2_count_144 rfl ?_
      exact r_iret hz dX2_count_149 (Nat.le_refl _) (Nat.le_refl _) (.of rfl (h.th 0))
end MO7


/-! ===== longs: common, power, in least terms ===== -/
def leastL (a b : Nat) (part : Int32) : Int64 := if a = 0 then part.toInt64 else lN ((if part = 0 then a else b) / Nat.gcd b a)
theorem cmp0 {a : Nat} (ha : a < 2 ^ 63) : lg_cmp (lN a) 0 = 0 ↔ a = 0 := by
  have e : (0 : Int64) = lN 0 := rfl
  unfold lg_cmp
  constructor
  · intro h
    split at h
    · exact absurd h (by decide)
    · split at h
      · rename_i q
        rw [e] at q
        exact (pk_lEQ ha (by decide)).mp q
      · exact absurd h (by decide)
  · intro h
    subst h
    rw [← e]
    decide
section XL2
variable {G : GD} {n x : Nat} {w : XW} {g : RH} {σ : SG} {h : RH}
theorem k_X0_common {a b : Nat} (ha : a < 2 ^ 63) (hb : b < 2 ^ 63) : CtE G yX0_common cX0_common 10 (some FieldType.long) 1 [.long (lN a), .long (lN b)] n h (some (.long (lN (Nat.gcd a b)))) h := by
  refine Ct.intro (k := 6) [some (.long (lN a)), none, some (.long (lN b)), none, none, none, none, none, none, none] (by decide) (Nat.le_of_ble_eq_true rfl) rfl fun z hz hin => ?_
  have loop : ∀ (m u v : Nat) (o8 : Option Value), v ≤ m → u < 2 ^ 63 → v < 2 ^ 63 → Nat.gcd u v = Nat.gcd a b → J G z cX0_common 10 RX0 1 0 0 0 0 6 [some (.long (lN a)), none, some (.long (lN b)), none, some (.long (lN u)), none, some (.long (lN v)), none, o8, none] [] n h := by
    intro m
    induction m with
    | zero =>
      intro u v o8 h1 h2 h3 h4
      have h1 : v = 0 := by omega
      subst h1
      refine r_lload_6 (q := 8) dX0_common_6 rfl ?_
      refine r_lconst 0 (by decide) (q := 9) dX0_common_8 rfl ?_
      refine r_lcmp (q := 10) dX0_common_9 rfl ?_
      refine r_if_eq (q := 13) (tgt := 31) dX0_common_10 rfl rfl (fun c10 => ?_) (fun c10 => ?_)
      · rw [Nat.gcd_zero_right] at h4
        rw [← h4] at hz
        refine r_lload_4 (q := 33) dX0_common_31 rfl ?_
        exact r_lret hz dX0_common_33 (Nat.le_refl _) (Nat.le_refl _) ⟨rfl, rfl, rfl⟩
      · exact absurd ((cmp0 h3).mpr rfl) c10
    | succ m ih =>
      intro u v o8 h1 h2 h3 h4
      refine r_lload_6 (q := 8) dX0_common_6 rfl ?_
      refine r_lconst 0 (by decide) (q := 9) dX0_common_8 rfl ?_
      refine r_lcmp (q := 10) dX0_common_9 rfl ?_
      refine r_if_eq (q := 13) (tgt := 31) dX0_common_10 rfl rfl (fun c10 => ?_) (fun c10 => ?_)
      · have h1 := (cmp0 h3).mp c10
        subst h1
        rw [Nat.gcd_zero_right] at h4
        rw [← h4] at hz
        refine r_lload_4 (q := 33) dX0_common_31 rfl ?_
        exact r_lret hz dX0_common_33 (Nat.le_refl _) (Nat.le_refl _) ⟨rfl, rfl, rfl⟩
      · have hv : 0 < v := Nat.pos_of_ne_zero (fun q => c10 ((cmp0 h3).mpr q))
        refine r_lload_4 (q := 15) dX0_common_13 rfl ?_
        refine r_lload_6 (q := 17) dX0_common_15 rfl ?_
        refine r_lrem (fun q => by rw [show (0 : Int64) = lN 0 from rfl] at q; have := (pk_lEQ h3 (by decide)).mp q; omega) (q := 18) dX0_common_17 rfl ?_
        refine J.topl (pk_lRem h2 hv h3) ?_
        have hm : u % v < v := Nat.mod_lt _ hv
        refine r_lstore_8 (by decide) rfl (q := 20) dX0_common_18 rfl ?_
        refine r_lload_6 (q := 22) dX0_common_20 rfl ?_
        refine r_lstore_4 (by decide) rfl (q := 24) dX0_common_22 rfl ?_
        refine r_lload_8 (q := 26) dX0_common_24 rfl ?_
        refine r_lstore_6 (by decide) rfl (q := 28) dX0_common_26 rfl ?_
        refine r_goto (q := 6) dX0_common_28 rfl ?_
        exact ih v (u % v) _ (by omega) h3 (by omega) (by rw [← h4, Nat.gcd_comm u v, Nat.gcd_rec v u, Nat.gcd_comm])
  refine r_lload_0 (q := 1) dX0_common_0 rfl ?_
  refine r_lstore_4 (by decide) rfl (q := 3) dX0_common_1 rfl ?_
  refine r_lload_2 (q := 4) dX0_common_3 rfl ?_
  refine r_lstore_6 (by decide) rfl (q := 6) dX0_common_4 rfl ?_
  exact loop b a b none (Nat.le_refl _) ha hb rfl
theorem k_X0_inLeast {a b : Nat} {part : Int32} (ha : a < 2 ^ 63) (hb : b < 2 ^ 63) : CtE G yX0_inLeast cX0_inLeast 5 (some FieldType.long) 2 [.long (lN a), .long (lN b), .int part] n h (some (.long (leastL a b part))) h := by
  refine Ct.intro (k := 0) [some (.long (lN a)), none, some (.long (lN b)), none, some (.int part)] (by decide) (Nat.le_of_ble_eq_true rfl) rfl fun z hz hin => ?_
  unfold leastL at hz
  refine r_lload_0 (q := 1) dX0_inLeast_0 rfl ?_
  refine r_lconst 0 (by decide) (q := 2) dX0_inLeast_1 rfl ?_
  refine r_lcmp (q := 3) dX0_inLeast_2 rfl ?_
  refine r_if_ne (q := 6) (tgt := 12) dX0_inLeast_3 rfl rfl (fun c3 => ?_) (fun c3 => ?_)
  · have hne : ¬ a = 0 := fun q => c3 ((cmp0 ha).mpr q)
    rw [if_neg hne] at hz
    have hg0 : 0 < Nat.gcd b a := Nat.gcd_pos_of_pos_right _ (by omega)
    have hgl : Nat.gcd b a < 2 ^ 63 := Nat.lt_of_le_of_lt (Nat.gcd_le_right _ (by omega)) ha
    have fin : ∀ c : Nat, c < 2 ^ 63 → c = (if part = 0 then a else b) → J G z cX0_inLeast 5 RX0 2 0 0 0 0 22 [some (.long (lN a)), none, some (.long (lN b)), none, some (.int part)] [.long (lN c)] n h := by
      intro c hc e
      rw [← e] at hz
      refine r_lload_2 (q := 23) dX0_inLeast_22 rfl ?_
      refine r_lload_0 (q := 24) dX0_inLeast_23 rfl ?_
      refine r_callS_2 cs_X0_289 (by decide) (Nat.le_of_ble_eq_true rfl) ⟨Nat.le_refl _, Nat.le_refl _⟩ (k_X0_common hb ha) (q := 27) dX0_inLeast_24 rfl ?_
      refine r_ldiv (fun q => by rw [show (0 : Int64) = lN 0 from rfl] at q; have := (pk_lEQ hgl (by decide)).mp q; omega) (q := 28) dX0_inLeast_27 rfl ?_
      refine J.topl (pk_lDiv hc hg0 hgl) ?_
      exact r_lret hz dX0_inLeast_28 (Nat.le_refl _) (Nat.le_refl _) ⟨rfl, rfl, rfl⟩
    refine r_iload_4 (q := 14) dX0_inLeast_12 rfl ?_
    refine r_if_ne (q := 17) (tgt := 21) dX0_inLeast_14 rfl rfl (fun c14 => ?_) (fun c14 => ?_)
    · refine r_lload_2 (q := 22) dX0_inLeast_21 rfl ?_
      exact fin b hb (if_neg c14).symm
    · refine r_lload_0 (q := 18) dX0_inLeast_17 rfl ?_
      refine r_goto (q := 22) dX0_inLeast_18 rfl ?_
      exact fin a ha (if_pos c14).symm
  · have he := (cmp0 ha).mp c3
    rw [if_pos he] at hz
    refine r_iload_4 (q := 8) dX0_inLeast_6 rfl ?_
    refine r_i2l (q := 9) dX0_inLeast_8 rfl ?_
    refine r_goto (q := 28) dX0_inLeast_9 rfl ?_
    exact r_lret hz dX0_inLeast_28 (Nat.le_refl _) (Nat.le_refl _) ⟨rfl, rfl, rfl⟩
theorem k_X0_power {t m : Nat} (hm : m < 2 ^ 30) : CtE G yX0_power cX0_power 6 (some FieldType.long) 1 [.long (lN t), .int (nI m)] n h (some (.long (lN (t ^ m)))) h := by
  refine Ct.intro (k := 3) [some (.long (lN t)), none, some (.int (nI m)), none, none, none] (by decide) (Nat.le_of_ble_eq_true rfl) rfl fun z hz hin => ?_
  refine r_lconst 1 (by decide) (q := 1) dX0_power_0 rfl ?_
  refine r_lstore_3 (by decide) rfl (q := 2) dX0_power_1 rfl ?_
  refine r_iconst 0 (by decide) (q := 3) dX0_power_2 rfl ?_
  refine r_istore_5 (by decide) rfl (q := 5) dX0_power_3 rfl ?_
  refine upto (P := fun k => ∀ v : Int64, v = lN (t ^ k) → J G z cX0_power 6 RX0 1 0 0 0 0 5 [some (.long (lN t)), none, some (.int (nI m)), some (.long v), none, some (.int (nI k))] [] n h) m (fun v hv => ?_) (fun k hk next v hv => ?_) 0 (Nat.zero_le _) _ rfl
  · subst hv
    refine r_iload_5 (q := 7) dX0_power_5 rfl ?_
    refine r_iload_2 (q := 8) dX0_power_7 rfl ?_
    refine r_icmp_ge (q := 11) (tgt := 21) dX0_power_8 rfl rfl (fun c8 => ?_) (fun c8 => ?_)
    · refine r_lload_3 (q := 22) dX0_power_21 rfl ?_
      exact r_lret hz dX0_power_22 (Nat.le_refl _) (Nat.le_refl _) ⟨rfl, rfl, rfl⟩
    · exact absurd (Int32.le_refl _) c8
  · refine r_iload_5 (q := 7) dX0_power_5 rfl ?_
    refine r_iload_2 (q := 8) dX0_power_7 rfl ?_
    refine r_icmp_ge (q := 11) (tgt := 21) dX0_power_8 rfl rfl (fun c8 => ?_) (fun c8 => ?_)
    · exact absurd c8 (nI_not_lt hk hm)
    refine r_lload_3 (q := 12) dX0_power_11 rfl ?_
    refine r_lload_0 (q := 13) dX0_power_12 rfl ?_
    refine r_lmul (q := 14) dX0_power_13 rfl ?_
    refine r_lstore_3 (by decide) rfl (q := 15) dX0_power_14 rfl ?_
    refine r_inc_5 (by decide) rfl (q := 18) dX0_power_15 rfl ?_
    refine r_goto (q := 5) dX0_power_18 rfl ?_
    exact next _ (by rw [hv, lN_mul, Nat.pow_succ])
end XL2


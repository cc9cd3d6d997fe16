/-! ===== the pairings from any mates ===== -/
theorem lowB_ok : ∀ l, l < 64 → l ≠ 0 → lowB 6 0 l < 6 ∧ hbt l (lowB 6 0 l) = true := by decide +kernel
theorem bit_sub : ∀ l, l < 64 → ∀ a, a < 6 → hbt l a = true → l - 2 ^ a < l ∧ pop (l - 2 ^ a) + 1 = pop l ∧ ∀ j, j < 6 → hbt (l - 2 ^ a) j = (hbt l j && j != a) := by decide +kernel
theorem pop_0' : ∀ l, l < 64 → pop l = 0 → l = 0 := by decide +kernel
theorem hbt_6 {l b : Nat} (h : l < 64) (hb : hbt l b = true) : b < 6 := by
  rcases Nat.lt_or_ge b 6 with z | z
  · exact z
  · have h1 : 64 ≤ 2 ^ b := Nat.pow_le_pow_right (n := 2) (i := 6) (by decide) z
    unfold hbt at hb
    rw [Nat.div_eq_of_lt (by omega)] at hb
    exact absurd hb (by decide)
theorem hbt_k : ∀ k, k < 7 → ∀ l, l < 64 → l < 2 ^ k → ∀ a, a < 6 → hbt l a = true → a < k := by decide +kernel
theorem hbt_full : ∀ k, k < 7 → ∀ j, j < 6 → hbt (2 ^ k - 1) j = decide (j < k) := by decide +kernel
/-- the same but for what is in l -/
def AgO (l : Nat) (ms ms' : List (Option Nat)) : Prop := ms.length = 6 ∧ ms'.length = 6 ∧ ∀ i, i < 6 → hbt l i = false → ms.getD i none = ms'.getD i none
theorem AgO.eq {l : Nat} {ms ms' : List (Option Nat)} (h : AgO l ms ms') (h0 : l = 0) : ms = ms' := by
  refine getD_ext (h.1.trans h.2.1.symm) fun i hi => h.2.2 i (by rw [h.1] at hi; exact hi) ?_
  subst h0
  unfold hbt
  simp
theorem AgO.set {l a : Nat} {v : Option Nat} {ms ms' : List (Option Nat)} (h : AgO l ms ms') (hl : l < 64) (ha : a < 6) (hb : hbt l a = true) : AgO (l - 2 ^ a) (ms.set a v) (ms'.set a v) := by
  refine ⟨(List.length_set ..).trans h.1, (List.length_set ..).trans h.2.1, fun i hi hf => ?_⟩
  rw [getD_set, getD_set, h.1, h.2.1]
  by_cases z : i = a
  · rw [if_pos ⟨z, ha⟩, if_pos ⟨z, ha⟩]
  · have z1 : ¬ (i = a ∧ a < 6) := fun q => z q.1
    rw [if_neg z1, if_neg z1]
    refine h.2.2 i hi ?_
    have := (bit_sub l hl a ha hb).2.2 i hi
    rw [hf] at this
    simpa [z] using this.symm
theorem prG_ag (k : Nat) : ∀ (f l : Nat) (ms ms' : List (Option Nat)), l < 64 → pop l ≤ f → AgO l ms ms' → prG k f l ms = prG k f l ms'
  | 0, l, ms, ms', hl, hp, h => by
    show [ms] = [ms']
    rw [h.eq (pop_0' l hl (by omega))]
  | f + 1, l, ms, ms', hl, hp, h => by
    unfold prG
    by_cases h0 : l = 0
    · rw [if_pos h0, if_pos h0, h.eq h0]
    · rw [if_neg h0, if_neg h0]
      obtain ⟨a1, a2⟩ := lowB_ok l hl h0
      generalize lowB 6 0 l = a at a1 a2
      obtain ⟨b1, b2, b3⟩ := bit_sub l hl a a1 a2
      rw [prG_ag k f (l - 2 ^ a) _ _ (by omega) (by omega) (h.set (v := none) hl a1 a2)]
      congr 1
      refine congrArg (fun F => List.flatMap F _) (funext fun b => ?_)
      by_cases hc : a < b ∧ hbt (l - 2 ^ a) b = true
      · rw [if_pos hc, if_pos hc]
        have hb6 := hbt_6 (by omega) hc.2
        obtain ⟨d1, d2, d3⟩ := bit_sub (l - 2 ^ a) (by omega) b hb6 hc.2
        exact prG_ag k f _ _ _ (by omega) (by omega) ((h.set (v := some b) hl a1 a2).set (v := some a) (by omega) hb6 hc.2)
      · rw [if_neg hc, if_neg hc]
theorem flatMap_cg {α β : Type} {f g : α → List β} : ∀ (l : List α), (∀ x ∈ l, f x = g x) → l.flatMap f = l.flatMap g
  | [], _ => rfl
  | a :: l, h => by
    rw [List.flatMap_cons, List.flatMap_cons, h a List.mem_cons_self, flatMap_cg l (fun x hx => h x (List.mem_cons_of_mem _ hx))]
theorem prG_map {k : Nat} (hk : k < 7) (θ : List (Option Nat) → List (Option Nat)) (hθ : ∀ (ms : List (Option Nat)) (a : Nat) (v : Option Nat), ms.length = 6 → a < k → θ (ms.set a v) = (θ ms).set a v) : ∀ (f l : Nat) (ms : List (Option Nat)), ms.length = 6 → l < 64 → l < 2 ^ k → prG k f l (θ ms) = (prG k f l ms).map θ
  | 0, l, ms, h6, hl, hlk => rfl
  | f + 1, l, ms, h6, hl, hlk => by
    unfold prG
    by_cases h0 : l = 0
    · rw [if_pos h0, if_pos h0]; rfl
    · rw [if_neg h0, if_neg h0]
      obtain ⟨a1, a2⟩ := lowB_ok l hl h0
      generalize lowB 6 0 l = a at a1 a2
      have ak := hbt_k k hk l hl hlk a a1 a2
      obtain ⟨b1, b2, b3⟩ := bit_sub l hl a a1 a2
      rw [List.map_append, ← hθ ms a none h6 ak, prG_map hk θ hθ f (l - 2 ^ a) (ms.set a none) ((List.length_set ..).trans h6) (by omega) (by omega), List.map_flatMap]
      congr 1
      refine flatMap_cg _ fun b hb => ?_
      have hb := List.mem_range.mp hb
      by_cases hc : a < b ∧ hbt (l - 2 ^ a) b = true
      · rw [if_pos hc, if_pos hc]
        have hb6 := hbt_6 (by omega) hc.2
        obtain ⟨d1, d2, d3⟩ := bit_sub (l - 2 ^ a) (by omega) b hb6 hc.2
        rw [← hθ ms a (some b) h6 ak, ← hθ _ b (some a) ((List.length_set ..).trans h6) hb]
        exact prG_map hk θ hθ f _ _ ((List.length_set ..).trans ((List.length_set ..).trans h6)) (by omega) (by omega)
      · rw [if_neg hc, if_neg hc]; rfl
theorem pop_le7 : ∀ k, k < 7 → pop (2 ^ k - 1) ≤ 6 := by decide +kernel
/-- from the mates of S -/
theorem prG_S {S : SQ} (hL : LenS S) : prG S.1.length 7 (2 ^ S.1.length - 1) S.2.2.1 = (pairsL S.1.length).map (fun r => (prS S r).2.2.1) := by
  have h6 := hL.1
  have len : ∀ r, (prS S r).2.2.1.length = 6 := fun r => (prC_fr r S.1.length 0 S).2.2.2.trans hL.2.2.1
  have gd : ∀ (r : List (Option Nat)) (a : Nat), ((prS S r).2.2.1).getD a none = if a < S.1.length then r.getD a none else S.2.2.1.getD a none := fun r a => prS_mt a hL
  have hp : 2 ^ S.1.length - 1 < 64 := by
    have : 2 ^ S.1.length ≤ 2 ^ 6 := Nat.pow_le_pow_right (by decide) h6
    omega
  have hp0 : 0 < 2 ^ S.1.length := Nat.pow_pos (by decide)
  have hpop : pop (2 ^ S.1.length - 1) ≤ 7 := Nat.le_trans (pop_le7 S.1.length (by omega)) (by omega)
  unfold pairsL
  rw [← prG_map (k := S.1.length) (by omega) (fun r => (prS S r).2.2.1) (fun ms a v hm ha => ?_) 7 _ (List.replicate 6 none) rfl hp (by omega)]
  · refine prG_ag _ 7 _ _ _ hp hpop ⟨hL.2.2.1, len _, fun i hi hf => ?_⟩
    rw [hbt_full _ (by omega) i hi] at hf
    rw [gd, if_neg (of_decide_eq_false hf)]
  · refine getD_ext (d := none) ((len _).trans ((List.length_set ..).trans (len _)).symm) fun i hi => ?_
    show ((prS S (ms.set a v)).2.2.1).getD i none = ((prS S ms).2.2.1.set a v).getD i none
    rw [gd, getD_set, getD_set, gd, len, hm]
    by_cases z : i = a
    · subst z
      rw [if_pos ha, if_pos ⟨rfl, by omega⟩, if_pos ⟨rfl, by omega⟩]
    · have z1 : ¬ (i = a ∧ a < 6) := fun q => z q.1
      rw [if_neg z1, if_neg z1]


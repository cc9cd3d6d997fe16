/-! ===== PrayerMatsFaceModel: the pairings by codes ===== -/
/-- the next places that are free -/
def laI (k used : Nat) : Nat → Nat → Nat → Nat
  | 0, _, q => q
  | f + 1, d, q => if 0 < d ∧ q < k then laI k used f (d - (if q + 1 < k ∧ hbt used (q + 1) = false then 1 else 0)) (q + 1) else q
/-- fuel, place, used, weight, rest, trial -/
def laP (k : Nat) : Nat → Nat → Nat → Nat → Nat → List (Option Nat) → Option (Nat × List (Option Nat))
  | 0, _, _, _, r, tr => some (r, tr)
  | c + 1, p, u, wt, r, tr =>
    if hbt u p = true then laP k c (p + 1) u wt r tr else
        if k ≤ laI k (u + 2 ^ p) 7 (r / wt) p then none else
        if p < laI k (u + 2 ^ p) 7 (r / wt) p then laP k c (p + 1) (u + 2 ^ p + 2 ^ laI k (u + 2 ^ p) 7 (r / wt) p) (if 1 < wt then wt / 6 else 1) (r % wt) ((tr.set p (some (laI k (u + 2 ^ p) 7 (r / wt) p))).set (laI k (u + 2 ^ p) 7 (r / wt) p) (some p))
        else laP k c (p + 1) (u + 2 ^ p) (if 1 < wt then wt / 6 else 1) (r % wt) (tr.set p none)
def lpW (k : Nat) : Nat := if 1 < 6 ^ k then 6 ^ k / 6 else 1
def laR : Option (Nat × List (Option Nat)) → Option (List (Option Nat))
  | some (0, tr) => some tr
  | _ => none
def lpO (k code : Nat) : Option (List (Option Nat)) := laR (laP k k 0 0 (lpW k) code (List.replicate 6 none))
/-- the same by digits -/
def laT (k : Nat) : Nat → Nat → Nat → Nat → List (Option Nat) → List (List (Option Nat))
  | 0, _, _, _, tr => [tr]
  | c + 1, p, u, mm, tr =>
    if hbt u p = true then laT k c (p + 1) u mm tr else
      (List.range (if mm = 0 then 1 else 6)).flatMap fun d =>
        if k ≤ laI k (u + 2 ^ p) 7 d p then [] else
        if p < laI k (u + 2 ^ p) 7 d p then laT k c (p + 1) (u + 2 ^ p + 2 ^ laI k (u + 2 ^ p) 7 d p) (mm - 1) ((tr.set p (some (laI k (u + 2 ^ p) 7 d p))).set (laI k (u + 2 ^ p) 7 d p) (some p))
        else laT k c (p + 1) (u + 2 ^ p) (mm - 1) (tr.set p none)
theorem la_w : ∀ mm : Nat, (if 1 < 6 ^ (mm - 1) then 6 ^ (mm - 1) / 6 else 1) = 6 ^ (mm - 1 - 1)
  | 0 => rfl
  | 1 => rfl
  | mm + 2 => by
    have h : 0 < 6 ^ mm := Nat.pow_pos (by decide)
    have h1 : 1 < 6 ^ (mm + 1) := by rw [Nat.pow_succ]; omega
    refine (if_pos h1).trans ?_
    show 6 ^ mm * 6 / 6 = 6 ^ mm
    exact Nat.mul_div_cancel _ (by decide)
theorem range_mul (w : Nat) : ∀ D : Nat, List.range (D * w) = (List.range D).flatMap fun d => (List.range w).map fun i => d * w + i
  | 0 => by rw [Nat.zero_mul]; rfl
  | D + 1 => by
    rw [Nat.succ_mul, List.range_add, List.range_succ, List.flatMap_append, range_mul w D]
    simp
theorem filterMap_cg {α β : Type} {f g : α → Option β} : ∀ (l : List α), (∀ x ∈ l, f x = g x) → l.filterMap f = l.filterMap g
  | [], _ => rfl
  | a :: l, h => by
    rw [List.filterMap_cons, List.filterMap_cons, h a List.mem_cons_self, filterMap_cg l (fun x hx => h x (List.mem_cons_of_mem _ hx))]
theorem laT_eq (k : Nat) : ∀ (c p u mm : Nat) (tr : List (Option Nat)), (List.range (6 ^ mm)).filterMap (fun r => laR (laP k c p u (6 ^ (mm - 1)) r tr)) = laT k c p u mm tr
  | 0, p, u, mm, tr => by
    obtain ⟨s, hs⟩ : ∃ s, 6 ^ mm = s + 1 := ⟨6 ^ mm - 1, by have : 0 < 6 ^ mm := Nat.pow_pos (by decide); omega⟩
    rw [hs, List.range_succ_eq_map, List.filterMap_cons]
    show tr :: _ = [tr]
    congr 1
    rw [List.filterMap_map, List.filterMap_eq_nil_iff]
    intro a _
    rfl
  | c + 1, p, u, mm, tr => by
    have hw : 0 < 6 ^ (mm - 1) := Nat.pow_pos (by decide)
    unfold laT
    by_cases hb : hbt u p = true
    · rw [if_pos hb, ← laT_eq k c (p + 1) u mm tr]
      refine congrArg (fun f => List.filterMap f _) (funext fun r => ?_)
      rw [laP, if_pos hb]
    · rw [if_neg hb]
      have e6 : 6 ^ mm = (if mm = 0 then 1 else 6) * 6 ^ (mm - 1) := by
        match mm with
        | 0 => rfl
        | mm + 1 => rw [if_neg (by omega), Nat.add_sub_cancel, Nat.pow_succ, Nat.mul_comm]
      rw [e6, range_mul, List.filterMap_flatMap]
      refine congrArg (fun f => List.flatMap f _) (funext fun d => ?_)
      rw [List.filterMap_map]
      have hd : ∀ i ∈ List.range (6 ^ (mm - 1)), ((fun r => laR (laP k (c + 1) p u (6 ^ (mm - 1)) r tr)) ∘ fun i => d * 6 ^ (mm - 1) + i) i = laR (if k ≤ laI k (u + 2 ^ p) 7 d p then none else if p < laI k (u + 2 ^ p) 7 d p then laP k c (p + 1) (u + 2 ^ p + 2 ^ laI k (u + 2 ^ p) 7 d p) (6 ^ (mm - 1 - 1)) i ((tr.set p (some (laI k (u + 2 ^ p) 7 d p))).set (laI k (u + 2 ^ p) 7 d p) (some p)) else laP k c (p + 1) (u + 2 ^ p) (6 ^ (mm - 1 - 1)) i (tr.set p none)) := by
        intro i hi
        have hi : i < 6 ^ (mm - 1) := List.mem_range.mp hi
        show laR (laP k (c + 1) p u (6 ^ (mm - 1)) (d * 6 ^ (mm - 1) + i) tr) = _
        have e1 : (d * 6 ^ (mm - 1) + i) / 6 ^ (mm - 1) = d := by
          rw [Nat.mul_comm, Nat.mul_add_div hw, Nat.div_eq_of_lt hi, Nat.add_zero]
        have e2 : (d * 6 ^ (mm - 1) + i) % 6 ^ (mm - 1) = i := by
          rw [Nat.mul_comm, Nat.mul_add_mod, Nat.mod_eq_of_lt hi]
        rw [laP, if_neg hb, e1, e2, la_w]
      rw [filterMap_cg _ hd]
      by_cases h1 : k ≤ laI k (u + 2 ^ p) 7 d p
      · rw [if_pos h1, List.filterMap_eq_nil_iff]
        intro a _
        rw [if_pos h1]
        rfl
      · rw [if_neg h1]
        by_cases h2 : p < laI k (u + 2 ^ p) 7 d p
        · rw [if_pos h2, ← laT_eq k c _ _ (mm - 1)]
          refine congrArg (fun f => List.filterMap f _) (funext fun r => ?_)
          rw [if_neg h1, if_pos h2]
        · rw [if_neg h2, ← laT_eq k c _ _ (mm - 1)]
          refine congrArg (fun f => List.filterMap f _) (funext fun r => ?_)
          rw [if_neg h1, if_neg h2]
theorem laT_k : ∀ k, k < 7 → laT k k 0 0 k (List.replicate 6 none) = pairsL k := by decide +kernel
theorem lp_all {k : Nat} (hk : k ≤ 6) : (List.range (6 ^ k)).filterMap (lpO k) = pairsL k := by
  rw [← laT_k k (by omega), ← laT_eq]
  refine congrArg (fun f => List.filterMap f _) (funext fun r => ?_)
  unfold lpO
  rw [show lpW k = 6 ^ (k - 1) from la_w (k + 1)]


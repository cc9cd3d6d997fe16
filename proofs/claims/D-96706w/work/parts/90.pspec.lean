/-! ===== the pairings, plainly ===== -/
theorem getD_ext {α : Type} {d : α} {l l' : List α} (h : l.length = l'.length) (hg : ∀ i, i < l.length → l.getD i d = l'.getD i d) : l = l' := by
  refine List.ext_getElem h fun i h1 h2 => ?_
  have := hg i h1
  simpa [List.getD_eq_getElem?_getD, h1, h2] using this
/-- mates as in the pairing r, among the people -/
def prC (r : List (Option Nat)) (c i : Nat) (S : SQ) : SQ := forR (fun p T => setM T p (r.getD p none)) i c S
def prS (S : SQ) (r : List (Option Nat)) : SQ := prC r S.1.length 0 S
theorem prC_fr (r : List (Option Nat)) : ∀ (c i : Nat) (S : SQ), (prC r c i S).1 = S.1 ∧ (prC r c i S).2.1 = S.2.1 ∧ (prC r c i S).2.2.2 = S.2.2.2 ∧ (prC r c i S).2.2.1.length = S.2.2.1.length
  | 0, _, _ => ⟨rfl, rfl, rfl, rfl⟩
  | c + 1, i, S => by
    obtain ⟨h1, h2, h3, h4⟩ := prC_fr r c (i + 1) (setM S i (r.getD i none))
    exact ⟨h1, h2, h3, h4.trans (List.length_set ..)⟩
theorem prC_mt (r : List (Option Nat)) : ∀ (c i : Nat) (S : SQ) (a : Nat), S.2.2.1.length = 6 → i + c ≤ 6 → mt (prC r c i S) a = if i ≤ a ∧ a < i + c then r.getD a none else mt S a
  | 0, i, S, a, _, _ => by rw [if_neg (by omega)]; rfl
  | c + 1, i, S, a, h, hc => by
    have e := prC_mt r c (i + 1) (setM S i (r.getD i none)) a ((List.length_set ..).trans h) (by omega)
    show mt (prC r c (i + 1) (setM S i (r.getD i none))) a = _
    rw [e]
    have e2 : mt (setM S i (r.getD i none)) a = if a = i ∧ i < 6 then r.getD i none else mt S a := by
      show (S.2.2.1.set i (r.getD i none)).getD a none = _
      rw [getD_set, h]
      rfl
    rw [e2]
    by_cases z : a = i
    · subst z
      rw [if_neg (by omega), if_pos ⟨rfl, by omega⟩, if_pos (by omega)]
    · have z1 : ¬ (a = i ∧ i < 6) := fun q => z q.1
      by_cases z2 : i + 1 ≤ a ∧ a < i + 1 + c
      · rw [if_pos z2, if_pos (by omega)]
      · rw [if_neg z2, if_neg z1, if_neg (by omega)]
theorem prS_mt {S : SQ} {r : List (Option Nat)} (a : Nat) (hL : LenS S) : mt (prS S r) a = if a < S.1.length then r.getD a none else mt S a := by
  have h6 := hL.1
  unfold prS
  rw [prC_mt r _ _ _ _ hL.2.2.1 (by omega)]
  by_cases z : a < S.1.length
  · rw [if_pos (by omega), if_pos z]
  · rw [if_neg (by omega), if_neg z]
theorem sq_ext {S S' : SQ} (h1 : S.1 = S'.1) (h2 : S.2.1 = S'.2.1) (h3 : S.2.2.2 = S'.2.2.2) (h4 : S.2.2.1.length = S'.2.2.1.length) (h5 : ∀ a, mt S a = mt S' a) : S = S' := by
  obtain ⟨a1, a2, a3, a4⟩ := S
  obtain ⟨b1, b2, b3, b4⟩ := S'
  have e3 : a3 = b3 := getD_ext h4 (fun i _ => h5 i)
  have h1 : a1 = b1 := h1
  have h2 : a2 = b2 := h2
  have h3 : a4 = b4 := h3
  rw [h1, h2, e3, h3]
def goodR (k : Nat) (r : List (Option Nat)) : Bool := r.length == 6 && (List.range k).all fun a => match r.getD a none with
  | none => true
  | some b => decide (b < k) && decide (b ≠ a) && decide (r.getD b none = some a)
theorem pairs_good : ∀ k, k < 7 → (pairsL k).all (goodR k) = true := by decide +kernel
theorem pairs_len : ∀ k, k < 7 → 1 ≤ (pairsL k).length ∧ (pairsL k).length ≤ 76 := by decide +kernel
theorem good_R {k a b : Nat} {r : List (Option Nat)} (h : goodR k r = true) (ha : a < k) (e : r.getD a none = some b) : b < k ∧ b ≠ a ∧ r.getD b none = some a := by
  unfold goodR at h
  rw [Bool.and_eq_true, List.all_eq_true] at h
  have := h.2 a (List.mem_range.mpr ha)
  rw [e] at this
  simp only [Bool.and_eq_true, decide_eq_true_eq] at this
  exact ⟨this.1.1, this.1.2, this.2⟩
theorem prS_ok {S : SQ} {r : List (Option Nat)} (h : OKS S) (hr : r ∈ pairsL S.1.length) : OKS (prS S r) := by
  have h6 := h.1.1
  have hg := (List.all_eq_true.mp (pairs_good S.1.length (by omega))) r hr
  obtain ⟨f1, f2, f3, f4⟩ := prC_fr r S.1.length 0 S
  have f1 : (prS S r).1 = S.1 := f1
  have f2 : (prS S r).2.1 = S.2.1 := f2
  have f3 : (prS S r).2.2.2 = S.2.2.2 := f3
  have f4 : (prS S r).2.2.1.length = S.2.2.1.length := f4
  refine ⟨⟨by rw [f1]; exact h6, by rw [f2]; exact h.1.2.1, f4.trans h.1.2.2.1, by rw [f3]; exact h.1.2.2.2.1, fun a b e => ?_⟩, ⟨by rw [f1]; exact h.2.1.1, by rw [f2]; exact h.2.1.2.1, by rw [f3]; exact h.2.1.2.2⟩, fun a ha b e => ?_, h.2.2.2.of (by rw [f3])⟩
  · rw [prS_mt a h.1] at e
    split at e
    · rename_i z
      have := (good_R hg z e).1
      omega
    · exact h.1.2.2.2.2 a b e
  · rw [f1] at ha ⊢
    rw [prS_mt a h.1, if_pos ha] at e
    obtain ⟨g1, g2, g3⟩ := good_R hg ha e
    exact ⟨g1, g2, by rw [prS_mt b h.1, if_pos g1]; exact g3⟩
theorem prS_prS {S : SQ} {r r' : List (Option Nat)} (hL : LenS S) (hL' : LenS (prS S r)) : prS (prS S r) r' = prS S r' := by
  obtain ⟨f1, f2, f3, f4⟩ := prC_fr r S.1.length 0 S
  obtain ⟨g1, g2, g3, g4⟩ := prC_fr r' S.1.length 0 S
  obtain ⟨k1, k2, k3, k4⟩ := prC_fr r' (prS S r).1.length 0 (prS S r)
  refine sq_ext (k1.trans (f1.trans g1.symm)) (k2.trans (f2.trans g2.symm)) (k3.trans (f3.trans g3.symm)) (k4.trans (f4.trans g4.symm)) fun a => ?_
  rw [prS_mt a hL', prS_mt a hL, prS_mt a hL, show (prS S r).1.length = S.1.length from by rw [show (prS S r).1 = S.1 from f1]]
  by_cases z : a < S.1.length
  · rw [if_pos z, if_pos z]
  · rw [if_neg z, if_neg z, if_neg z]
/-! what is asked -/
def stQ (S : SQ) (r : List (Option Nat)) : Bool := stabS (prS S r)
def mFst (o : Option (List (Option Nat))) (p : Nat) : Int32 := match o with
  | none => -9
  | some r => mI (r.getD p none)
def noPai (S : SQ) (p : Int32) : Int32 := if p = -1 ∨ isPer S p = true then 0 else -1
def pairingsS (σ : SG) (p : Int32) : Int32 × SG :=
  if noPai σ.1 p = 0 then (if p < 0 then nI ((pairsL σ.1.1.length).filter (stQ σ.1)).length else mFst ((pairsL σ.1.1.length).find? (stQ σ.1)) (cl p), σ) else (noPai σ.1 p, rfS σ (noPai σ.1 p))
def bstF (S : SQ) (n : Nat) (acc : Option (Nat × List (Option Nat))) (r : List (Option Nat)) : Option (Nat × List (Option Nat)) := match acc with
  | none => some (allN (daysS n (prS S r)), r)
  | some a => if allN (daysS n (prS S r)) < a.1 then some (allN (daysS n (prS S r)), r) else some a
def bstO (o : Option (Nat × List (Option Nat))) (p : Int32) : Int32 := match o with
  | none => -9
  | some a => if p < 0 then nI a.1 else mI (a.2.getD (cl p) none)
def noBst (S : SQ) (n p : Int32) : Int32 := if p = -1 ∨ isPer S p = true then wi n 0 99 else -1
def bestPS (σ : SG) (n p : Int32) : Int32 × SG :=
  if noBst σ.1 n p = 0 then (bstO ((pairsL σ.1.1.length).foldl (bstF σ.1 (cl n)) none) p, σ) else (noBst σ.1 n p, rfS σ (noBst σ.1 n p))


/-! ===== days: hours within pairs or pairs within hours ===== -/
section SWAP
variable {σ : Type}
/-- A past a fold of steps that commute with it -/
theorem forR_past {A : σ → σ} {B : Nat → σ → σ} (I : σ → Prop) (hB : ∀ j s, I s → I (B j s)) (hc : ∀ j s, I s → A (B j s) = B j (A s)) (hA : ∀ s, I s → I (A s)) : ∀ (c i : Nat) (s : σ), I s → A (forR B i c s) = forR B i c (A s)
  | 0, _, _, _ => rfl
  | c + 1, i, s, h => by
    rw [forR_s, forR_s, forR_past I hB hc hA c (i + 1) (B i s) (hB i s h), hc i s h]
theorem forR_inv1 {B : Nat → σ → σ} (I : σ → Prop) (hB : ∀ j s, I s → I (B j s)) : ∀ (c i : Nat) (s : σ), I s → I (forR B i c s)
  | 0, _, _, h => h
  | c + 1, i, s, h => forR_inv1 I hB c (i + 1) (B i s) (hB i s h)
/-- two folds of the same length, one behind the other, as one -/
theorem forR_comp {A B : Nat → σ → σ} (I : σ → Prop) (hA : ∀ j s, I s → I (A j s)) (hB : ∀ j s, I s → I (B j s)) (hc : ∀ i j s, I s → A i (B j s) = B j (A i s)) : ∀ (c i : Nat) (s : σ), I s → forR A i c (forR B i c s) = forR (fun j s => A j (B j s)) i c s
  | 0, _, _, _ => rfl
  | c + 1, i, s, h => by
    rw [forR_s, forR_s, forR_s, forR_past I hB (fun j s hs => hc i j s hs) (hA i) c (i + 1) (B i s) (hB i s h)]
    exact forR_comp I hA hB hc c (i + 1) (A i (B i s)) (hA i _ (hB i s h))
theorem forR_id (i c : Nat) (s : σ) : forR (fun _ s => s) i c s = s := by
  induction c generalizing i with
  | zero => rfl
  | succ c ih => rw [forR_s]; exact ih (i + 1)
/-- the two orders of a double loop whose steps commute -/
theorem forR_swap {f : Nat → Nat → σ → σ} (N : Nat) (I : σ → Prop) (hI : ∀ h a s, a < N → I s → I (f h a s)) (hc : ∀ h h' a a' s, a < N → a' < N → a ≠ a' → I s → f h a (f h' a' s) = f h' a' (f h a s)) : ∀ (d c i k : Nat) (s : σ), k + d ≤ N → I s → forR (fun a s => forR (fun h s => f h a s) i c s) k d s = forR (fun h s => forR (fun a s => f h a s) k d s) i c s
  | 0, c, i, k, s, _, _ => (forR_id i c s).symm
  | d + 1, c, i, k, s, hN, h => by
    rw [forR_s]
    have hB : ∀ j s, I s → I (f j k s) := fun j s hs => hI j k s (by omega) hs
    have hA : ∀ j s, I s → I (forR (fun a s => f j a s) (k + 1) d s) := fun j s hs => forR_inv' (N := N) I (fun a s ha hs => hI j a s ha hs) d (k + 1) s (by omega) hs
    have past : ∀ (i' j : Nat) (d' k' : Nat) (s : σ), k + 1 ≤ k' → k' + d' ≤ N → I s → forR (fun a s => f i' a s) k' d' (f j k s) = f j k (forR (fun a s => f i' a s) k' d' s) := by
      intro i' j d'
      induction d' with
      | zero => intro k' s _ _ _; rfl
      | succ d' ih =>
        intro k' s h1 h2 h3
        rw [forR_s, forR_s, hc i' j k' k s (by omega) (by omega) (by omega) h3]
        exact ih (k' + 1) (f i' k' s) (by omega) (by omega) (hI i' k' s (by omega) h3)
    rw [forR_swap N I hI hc d c i (k + 1) _ (by omega) (forR_inv1 I hB c i s h)]
    exact forR_comp (A := fun j s => forR (fun a s => f j a s) (k + 1) d s) (B := fun j s => f j k s) I hA hB (fun i' j s hs => past i' j d (k + 1) s (Nat.le_refl _) (by omega) hs) c i s h
end SWAP
/-- a pair's hour: those two come at the hours ha, hb -/
def pairH (ha hb' p q h : Nat) (S : SQ) : SQ := setQr S p q (kn ha hb' (pr S p) (pr S q) h (qr S p q))
def cmH (ab : Option Nat) (S : SQ) (p : Nat) : Nat := if ab = some p then 0 else hr S p
/-- a pair's day -/
def pairD (ab tw : Option Nat) (p q : Nat) (S : SQ) : SQ := match tw with
  | none => forR (pairH (cmH ab S p) (cmH ab S q) p q) 0 5 S
  | some h => pairH (cmH ab S p) (cmH ab S q) p q h (forR (pairH (cmH ab S p) (cmH ab S q) p q) 0 5 S)
def dayStep (ab tw : Option Nat) (p : Nat) (S : SQ) : SQ := match mt S p with
  | some q => if p < q then pairD ab tw p q S else S
  | none => S
/-- a day, pair by pair -/
def dayM (ab tw : Option Nat) (S : SQ) : SQ := forR (dayStep ab tw) 0 S.1.length (setD S (S.2.2.2.2 + 1))
/-- an hour of those that come but for one -/
def hourA (ab : Option Nat) (h a : Nat) (S : SQ) : SQ := match mt S a with
  | some b => if a < b then pairH (cmH ab S a) (cmH ab S b) a b h S else S
  | none => S
theorem hourA_on {ab : Option Nat} {h a b : Nat} {S S' : SQ} (e : mt S a = some b) (q : a < b) (e1 : S'.2.1 = S.2.1) (e2 : S'.2.2.1 = S.2.2.1) : hourA ab h a S' = pairH (cmH ab S a) (cmH ab S b) a b h S' := by
  have em : mt S' a = some b := by
    unfold mt
    rw [e2]
    exact e
  have eh : ∀ c, cmH ab S' c = cmH ab S c := fun c => by
    unfold cmH hr
    rw [e1]
  unfold hourA
  rw [em]
  show (if a < b then _ else _) = _
  rw [if_pos q, eh, eh]
theorem hourA_off {ab : Option Nat} {h a : Nat} {S S' : SQ} (hn : ∀ b, mt S a = some b → ¬ a < b) (e2 : S'.2.2.1 = S.2.2.1) : hourA ab h a S' = S' := by
  unfold hourA
  split
  · rename_i b e
    have em : mt S a = some b := by
      unfold mt at e ⊢
      rw [← e2]
      exact e
    exact if_neg (hn b em)
  · rfl
theorem dayStep_on {ab tw : Option Nat} {a b : Nat} {S : SQ} (e : mt S a = some b) (q : a < b) : dayStep ab tw a S = pairD ab tw a b S := by
  unfold dayStep
  rw [e]
  exact if_pos q
theorem dayStep_off {ab tw : Option Nat} {a : Nat} {S : SQ} (hn : ∀ b, mt S a = some b → ¬ a < b) : dayStep ab tw a S = S := by
  unfold dayStep
  split
  · rename_i b e
    exact if_neg (hn b e)
  · rfl
theorem on_off (S : SQ) (a : Nat) : (∃ b, mt S a = some b ∧ a < b) ∨ ∀ b, mt S a = some b → ¬ a < b := by
  cases e : mt S a with
  | none => exact Or.inr (fun b q => by cases q)
  | some b =>
    by_cases h : a < b
    · exact Or.inl ⟨b, rfl, h⟩
    · exact Or.inr (fun b' q => by cases q; exact h)
theorem hourA_none (h a : Nat) (S : SQ) : hourA none h a S = hourStep h a S := by
  rcases on_off S a with ⟨b, e, q⟩ | hn
  · rw [hourA_on e q rfl rfl]
    unfold hourStep
    rw [e]
    show _ = if a < b then _ else S
    rw [if_pos q]
    rfl
  · rw [hourA_off hn rfl]
    unfold hourStep
    split
    · rename_i b e
      exact (if_neg (hn b e)).symm
    · rfl
theorem pairH_fr (ha hb' p q h : Nat) (S : SQ) : (pairH ha hb' p q h S).1 = S.1 ∧ (pairH ha hb' p q h S).2.1 = S.2.1 ∧ (pairH ha hb' p q h S).2.2.1 = S.2.2.1 ∧ (pairH ha hb' p q h S).2.2.2.2 = S.2.2.2.2 := ⟨rfl, rfl, rfl, rfl⟩
theorem hourA_fr (ab : Option Nat) (h a : Nat) (S : SQ) : (hourA ab h a S).1 = S.1 ∧ (hourA ab h a S).2.1 = S.2.1 ∧ (hourA ab h a S).2.2.1 = S.2.2.1 ∧ (hourA ab h a S).2.2.2.2 = S.2.2.2.2 := by
  unfold hourA
  split
  · split
    · exact ⟨rfl, rfl, rfl, rfl⟩
    · exact ⟨rfl, rfl, rfl, rfl⟩
  · exact ⟨rfl, rfl, rfl, rfl⟩
theorem hourA_mt (ab : Option Nat) (h a : Nat) (S : SQ) (c : Nat) : mt (hourA ab h a S) c = mt S c := by
  unfold mt
  rw [(hourA_fr ab h a S).2.2.1]
theorem hourA_len (ab : Option Nat) (h a : Nat) (S : SQ) : (hourA ab h a S).2.2.2.1.length = S.2.2.2.1.length := by
  unfold hourA
  split
  · split
    · show ((S.2.2.2.1.set _ _).set _ _).length = _
      rw [List.length_set, List.length_set]
    · rfl
  · rfl
/-- sizes and mates -/
def MLS (N : Nat) (S : SQ) : Prop := S.1.length = N ∧ N ≤ 6 ∧ S.2.2.2.1.length = 36 ∧ ∀ a, a < N → ∀ b, mt S a = some b → b < N ∧ b ≠ a ∧ mt S b = some a
theorem OKS.mls {S : SQ} (h : OKS S) : MLS S.1.length S := ⟨rfl, h.1.1, h.1.2.2.2.1, h.2.2.1⟩
theorem MLS.hourA {N : Nat} {S : SQ} (ab : Option Nat) (h a : Nat) (k : MLS N S) : MLS N (hourA ab h a S) := by
  refine ⟨by rw [(hourA_fr ab h a S).1]; exact k.1, k.2.1, by rw [hourA_len]; exact k.2.2.1, fun c hc b e => ?_⟩
  rw [hourA_mt] at e ⊢
  exact k.2.2.2 c hc b e
theorem qr_setQr' {S : SQ} {a b v c d : Nat} (h36 : S.2.2.2.1.length = 36) (ha : a < 6) (hb : b < 6) (hc : c < 6) (hd : d < 6) : qr (setQr S a b v) c d = if (c = a ∧ d = b) ∨ (c = b ∧ d = a) then v else qr S c d := by
  unfold qr setQr setQ1
  show ((S.2.2.2.1.set (6 * a + b) v).set (6 * b + a) v).getD (6 * c + d) 0 = _
  rw [getD_set, getD_set, List.length_set, h36]
  by_cases e1 : c = b ∧ d = a
  · rw [if_pos (by omega), if_pos (Or.inr e1)]
  · rw [if_neg (by omega)]
    by_cases e2 : c = a ∧ d = b
    · rw [if_pos (by omega), if_pos (Or.inl e2)]
    · rw [if_neg (by omega), if_neg (by omega)]
theorem setQr_comm {S : SQ} {a b a' b' v v' : Nat} (ha : a < 6) (hb : b < 6) (ha' : a' < 6) (hb' : b' < 6) (h1 : a ≠ a') (h2 : a ≠ b') (h3 : b ≠ a') (h4 : b ≠ b') : setQr (setQr S a b v) a' b' v' = setQr (setQr S a' b' v') a b v := by
  unfold setQr setQ1
  show (S.1, S.2.1, S.2.2.1, (((S.2.2.2.1.set (6 * a + b) v).set (6 * b + a) v).set (6 * a' + b') v').set (6 * b' + a') v', S.2.2.2.2) = (S.1, S.2.1, S.2.2.1, (((S.2.2.2.1.set (6 * a' + b') v').set (6 * b' + a') v').set (6 * a + b) v).set (6 * b + a) v, S.2.2.2.2)
  congr 4
  rw [List.set_comm v v' (show 6 * b + a ≠ 6 * a' + b' by omega), List.set_comm v v' (show 6 * b + a ≠ 6 * b' + a' by omega), List.set_comm v v' (show 6 * a + b ≠ 6 * a' + b' by omega), List.set_comm v v' (show 6 * a + b ≠ 6 * b' + a' by omega)]
theorem pairH_comm {S : SQ} {x y x' y' h h' a b a' b' : Nat} (h36 : S.2.2.2.1.length = 36) (ha : a < 6) (hb : b < 6) (ha' : a' < 6) (hb' : b' < 6) (h1 : a ≠ a') (h2 : a ≠ b') (h3 : b ≠ a') (h4 : b ≠ b') : pairH x y a b h (pairH x' y' a' b' h' S) = pairH x' y' a' b' h' (pairH x y a b h S) := by
  have e1 : ∀ v, qr (setQr S a' b' v) a b = qr S a b := fun v => by rw [qr_setQr' h36 ha' hb' ha hb, if_neg (by omega)]
  have e2 : ∀ v, qr (setQr S a b v) a' b' = qr S a' b' := fun v => by rw [qr_setQr' h36 ha hb ha' hb', if_neg (by omega)]
  show setQr (setQr S a' b' _) a b (kn x y (pr S a) (pr S b) h (qr (setQr S a' b' _) a b)) = setQr (setQr S a b _) a' b' (kn x' y' (pr S a') (pr S b') h' (qr (setQr S a b _) a' b'))
  rw [e1, e2]
  exact setQr_comm ha' hb' ha hb (Ne.symm h1) (Ne.symm h3) (Ne.symm h2) (Ne.symm h4)
theorem hourA_comm {N : Nat} {S : SQ} (ab : Option Nat) (h h' a a' : Nat) (ha : a < N) (ha' : a' < N) (hne : a ≠ a') (k : MLS N S) : hourA ab h a (hourA ab h' a' S) = hourA ab h' a' (hourA ab h a S) := by
  obtain ⟨k1, k2, k3, k4⟩ := k
  rcases on_off S a with ⟨b, e, q⟩ | hn
  · rcases on_off S a' with ⟨b', e', q'⟩ | hn'
    · obtain ⟨b1, b2, b3⟩ := k4 a ha b e
      obtain ⟨c1, c2, c3⟩ := k4 a' ha' b' e'
      have n4 : b ≠ b' := fun z => by
        subst z
        rw [b3] at c3
        exact hne (Option.some.inj c3)
      have n2 : a ≠ b' := fun z => by
        subst z
        rw [c3] at e
        have := Option.some.inj e
        omega
      have n3 : b ≠ a' := fun z => by
        subst z
        rw [b3] at e'
        have := Option.some.inj e'
        omega
      rw [hourA_on (S' := S) e' q' rfl rfl, hourA_on (S' := S) e q rfl rfl, hourA_on (S' := pairH (cmH ab S a') (cmH ab S b') a' b' h' S) e q rfl rfl, hourA_on (S' := pairH (cmH ab S a) (cmH ab S b) a b h S) e' q' rfl rfl]
      exact pairH_comm k3 (by omega) (by omega) (by omega) (by omega) hne n2 n3 n4
    · rw [hourA_off (S' := S) hn' rfl, hourA_off hn' (hourA_fr ab h a S).2.2.1]
  · rw [hourA_off (S' := S) hn rfl, hourA_off hn (hourA_fr ab h' a' S).2.2.1]
/-- a pair's day is a fold over its hours -/
theorem pairD_hours (ab : Option Nat) (p q : Nat) (S : SQ) (e : mt S p = some q) (hpq : p < q) : ∀ (c i : Nat) (S' : SQ), S'.2.1 = S.2.1 → S'.2.2.1 = S.2.2.1 → forR (pairH (cmH ab S p) (cmH ab S q) p q) i c S' = forR (fun h s => hourA ab h p s) i c S'
  | 0, _, _, _, _ => rfl
  | c + 1, i, S', h1, h2 => by
    rw [forR_s, forR_s, hourA_on e hpq h1 h2]
    exact pairD_hours ab p q S e hpq c (i + 1) _ h1 h2
theorem forR_hourA_none (ab : Option Nat) (p : Nat) (S : SQ) (hn : ∀ q, mt S p = some q → ¬ p < q) : ∀ (c i : Nat), forR (fun h s => hourA ab h p s) i c S = S
  | 0, _ => rfl
  | c + 1, i => by
    rw [forR_s, hourA_off hn rfl]
    exact forR_hourA_none ab p S hn c (i + 1)
theorem dayStep_none (ab : Option Nat) (p : Nat) (S : SQ) : dayStep ab none p S = forR (fun h s => hourA ab h p s) 0 5 S := by
  rcases on_off S p with ⟨q, e, h⟩ | hn
  · rw [dayStep_on e h]
    exact pairD_hours ab p q S e h 5 0 S rfl rfl
  · rw [dayStep_off hn]
    exact (forR_hourA_none ab p S hn 5 0).symm
/-- hours as they come: 0..4, then h -/
def hx (h i : Nat) : Nat := if i = 5 then h else i
theorem dayStep_some (ab : Option Nat) (h p : Nat) (S : SQ) : dayStep ab (some h) p S = forR (fun i s => hourA ab (hx h i) p s) 0 6 S := by
  have e5 : ∀ S, forR (fun i s => hourA ab (hx h i) p s) 0 5 S = forR (fun i s => hourA ab i p s) 0 5 S := fun S => forR_congr (fun j s _ hj => by show hourA ab (hx h j) p s = _; unfold hx; rw [if_neg (by omega)])
  rw [forR_snoc, e5, ← dayStep_none]
  show _ = hourA ab (hx h 5) p (dayStep ab none p S)
  rw [show hx h 5 = h from rfl]
  rcases on_off S p with ⟨q, e, hpq⟩ | hn
  · rw [dayStep_on e hpq, dayStep_on e hpq]
    have f1 : (pairD ab none p q S).2.1 = S.2.1 := forR_inv (f := pairH (cmH ab S p) (cmH ab S q) p q) (fun s : SQ => s.2.1 = S.2.1) (fun _ _ k => k) 5 0 S rfl
    have f2 : (pairD ab none p q S).2.2.1 = S.2.2.1 := forR_inv (f := pairH (cmH ab S p) (cmH ab S q) p q) (fun s : SQ => s.2.2.1 = S.2.2.1) (fun _ _ k => k) 5 0 S rfl
    rw [hourA_on e hpq f1 f2]
    rfl
  · rw [dayStep_off hn, dayStep_off hn, hourA_off hn rfl]
/-- the day, hour by hour -/
theorem dayM_swap {S : SQ} (ab : Option Nat) (h : OKS S) : dayM ab none S = forR (fun hh s => forR (fun a s => hourA ab hh a s) 0 S.1.length s) 0 5 (setD S (S.2.2.2.2 + 1)) := by
  unfold dayM
  rw [forR_congr (g := fun a s => forR (fun hh s => hourA ab hh a s) 0 5 s) (fun j s _ _ => dayStep_none ab j s)]
  exact forR_swap (f := fun hh a s => hourA ab hh a s) S.1.length (MLS S.1.length) (fun hh a s _ k => k.hourA ab hh a) (fun hh h' a a' s ha ha' hne k => hourA_comm ab hh h' a a' ha ha' hne k) S.1.length 5 0 0 _ (by omega) h.mls
theorem hourS_A (hh : Nat) (S : SQ) : hourS hh S = forR (fun a s => hourA none hh a s) 0 S.1.length S := forR_congr (fun j s _ _ => (hourA_none hh j s).symm)
theorem dayM_goes {S : SQ} (h : OKS S) : dayM none none S = goesS S := by
  rw [dayM_swap none h]
  have : ∀ (c i : Nat) (s : SQ), s.1.length = S.1.length → forR (fun hh s => forR (fun a s => hourA none hh a s) 0 S.1.length s) i c s = forR hourS i c s := by
    intro c
    induction c with
    | zero => intro i s _; rfl
    | succ c ih =>
      intro i s hs
      rw [forR_s, forR_s, hourS_A, hs]
      refine ih (i + 1) _ ?_
      exact forR_inv (fun s : SQ => s.1.length = S.1.length) (fun j s k => by rw [(hourA_fr none i j s).1]; exact k) _ _ _ hs
  exact this 5 0 _ rfl
theorem dayM_twice {S : SQ} (hh : Nat) (h : OKS S) : dayM none (some hh) S = hourS hh (goesS S) := by
  have e : dayM none (some hh) S = forR (fun i s => forR (fun a s => hourA none (hx hh i) a s) 0 S.1.length s) 0 6 (setD S (S.2.2.2.2 + 1)) := by
    unfold dayM
    rw [forR_congr (g := fun a s => forR (fun i s => hourA none (hx hh i) a s) 0 6 s) (fun j s _ _ => dayStep_some none hh j s)]
    exact forR_swap (f := fun i a s => hourA none (hx hh i) a s) S.1.length (MLS S.1.length) (fun i a s _ k => k.hourA none _ a) (fun i i' a a' s ha ha' hne k => hourA_comm none _ _ a a' ha ha' hne k) S.1.length 6 0 0 _ (by omega) h.mls
  rw [e, forR_snoc]
  have e5 : forR (fun i s => forR (fun a s => hourA none (hx hh i) a s) 0 S.1.length s) 0 5 (setD S (S.2.2.2.2 + 1)) = goesS S := by
    rw [← dayM_goes h, dayM_swap none h]
    exact forR_congr (fun j s _ hj => by show forR (fun a s => hourA none (hx hh j) a s) 0 S.1.length s = _; unfold hx; rw [if_neg (by omega)])
  rw [e5, hourS_A, (goesS_fr S).1]
  rfl
/-- one step of a day keeps all but quarrels, and quarrels well -/
theorem OKS.pairH {S : SQ} {x y p q hh : Nat} (h : OKS S) (hp : p < 6) (hq : q < 6) (hpq : p ≠ q) : OKS (pairH x y p q hh S) := h.stQ hp hq (Or.inl hpq) (kn_le (vs_qr h.2.1 _ _))
theorem dayStep_oks {S : SQ} (ab tw : Option Nat) {p : Nat} (h : OKS S) (hp : p < S.1.length) : OKS (dayStep ab tw p S) := by
  have h6 := h.1.1
  rcases on_off S p with ⟨q, e, hpq⟩ | hn
  · rw [dayStep_on e hpq]
    have hq := h.1.2.2.2.2 p q e
    have e5 := forR_inv (f := pairH (cmH ab S p) (cmH ab S q) p q) OKS (fun hh s (k : OKS s) => k.pairH (show p < 6 by omega) hq (by omega)) 5 0 S h
    cases tw with
    | none => exact e5
    | some hh => exact OKS.pairH e5 (by omega) hq (by omega)
  · rw [dayStep_off hn]
    exact h
theorem dayStep_fr (ab tw : Option Nat) (p : Nat) (S : SQ) : (dayStep ab tw p S).1 = S.1 ∧ (dayStep ab tw p S).2.1 = S.2.1 ∧ (dayStep ab tw p S).2.2.1 = S.2.2.1 ∧ (dayStep ab tw p S).2.2.2.2 = S.2.2.2.2 := by
  rcases on_off S p with ⟨q, e, hpq⟩ | hn
  · rw [dayStep_on e hpq]
    have e5 := forR_inv (fun s : SQ => s.1 = S.1 ∧ s.2.1 = S.2.1 ∧ s.2.2.1 = S.2.2.1 ∧ s.2.2.2.2 = S.2.2.2.2) (fun hh s k => ⟨k.1, k.2.1, k.2.2.1, k.2.2.2⟩) 5 0 S (f := pairH (cmH ab S p) (cmH ab S q) p q) ⟨rfl, rfl, rfl, rfl⟩
    cases tw with
    | none => exact e5
    | some hh => exact e5
  · rw [dayStep_off hn]
    exact ⟨rfl, rfl, rfl, rfl⟩


/-! ===== a quarter, letter by letter: what is told, plainly ===== -/
/-- the letter at a place, or -1 -/
def ltA (l : List Int32) (L i : Nat) : Int32 := if i < L then l.getD i 0 else -1
/-- so many digits from i on: the place of what is none, or the number and the next place -/
def rdD (l : List Int32) (L : Nat) : Nat → Nat → Nat → Nat ⊕ (Nat × Nat)
  | 0, i, v => .inr (v, i)
  | w + 1, i, v => if 48 ≤ ltA l L i ∧ ltA l L i ≤ 57 then rdD l L w (i + 1) (10 * v + cl (ltA l L i - 48)) else .inl i
/-- digits of the numbers that come with a letter -/
def wids (c : Int32) : List Nat := if c = 112 then [1, 1, 2] else if c = 104 then [1, 2] else if c = 113 then [1, 1, 2] else if c = 109 then [1, 1] else if c = 100 then [2] else []
def rdL (l : List Int32) (L : Nat) : List Nat → Nat → List Nat → Nat ⊕ (List Nat × Nat)
  | [], i, vs => .inr (vs, i)
  | w :: ws, i, vs => match rdD l L w i 0 with
    | .inl e => .inl e
    | .inr q => rdL l L ws q.2 (vs ++ [q.1])
def rdS (l : List Int32) (L i : Nat) : Nat ⊕ ((Int32 × List Nat) × Nat) :=
  if wids (ltA l L i) = [] then .inl i else match rdL l L (wids (ltA l L i)) (i + 1) [] with
    | .inl e => .inl e
    | .inr q => if ltA l L q.2 = 59 then .inr ((ltA l L i, q.1), q.2 + 1) else .inl q.2
/-- one statement done, or wrong -/
def exeS (S : SQ) (t : Int32 × List Nat) : Option SQ :=
  if t.1 = 112 then (if t.2.getD 0 0 < 6 ∧ t.2.getD 2 0 ≤ 31 ∧ S.1.length < 6 then some (comeS S (t.2.getD 0 0, t.2.getD 1 0) (t.2.getD 2 0)) else none)
  else if t.1 = 104 then (if t.2.getD 0 0 < S.1.length ∧ t.2.getD 1 0 ≤ 31 then some (setH S (t.2.getD 0 0) (t.2.getD 1 0)) else none)
  else if t.1 = 113 then (if t.2.getD 0 0 < S.1.length ∧ t.2.getD 1 0 < S.1.length ∧ t.2.getD 0 0 ≠ t.2.getD 1 0 then some (setQr S (t.2.getD 0 0) (t.2.getD 1 0) (t.2.getD 2 0)) else none)
  else if t.1 = 109 then (if t.2.getD 0 0 < S.1.length ∧ t.2.getD 1 0 < S.1.length ∧ t.2.getD 0 0 ≠ t.2.getD 1 0 then some (turnS S (t.2.getD 0 0) (t.2.getD 1 0)) else none)
  else if 1 ≤ t.2.getD 0 0 ∧ t.2.getD 0 0 ≤ 60 ∧ S.2.2.2.2 + t.2.getD 0 0 ≤ 999 then some (daysS (t.2.getD 0 0) S) else none
/-- fuel, place, how many, the read quarter, where the first wrong one began -/
def qtrL (l : List Int32) (L : Nat) : Nat → Nat → Nat → SQ → Option Nat → Int32 × Option SQ
  | 0, _, _, _, _ => (0, none)
  | f + 1, i, k, S, wr => match rdS l L i with
    | .inl e => (-1000 - nI e, none)
    | .inr q => if q.2 < L then qtrL l L f q.2 (k + 1) ((exeS S q.1).getD S) (if exeS S q.1 = none then some (wr.getD i) else wr)
      else match (if exeS S q.1 = none then some (wr.getD i) else wr) with
        | some b => (-2000 - nI b, none)
        | none => (nI (k + 1), some ((exeS S q.1).getD S))
def qtrO (σ : SG) : Int32 × Option SQ := qtrL σ.2.1.2.1.1 σ.2.1.2.1.2 97 0 0 σ.1 none
/-- the answer, and the letters are gone -/
def qtrS (σ : SG) : Int32 × SG := ((qtrO σ).1, match (qtrO σ).2 with
  | none => (σ.1, (σ.2.1.1, (σ.2.1.2.1.1, 0), σ.2.1.2.2), σ.2.2)
  | some S => (S, (σ.2.1.1, (σ.2.1.2.1.1, 0), σ.2.1.2.2), [], σ.2.2.2))
theorem rdD_lt (l : List Int32) (L : Nat) : ∀ (w i v : Nat) (q : Nat × Nat), rdD l L w i v = .inr q → q.2 = i + w
  | 0, i, v, q, h => by cases h; rfl
  | w + 1, i, v, q, h => by
    unfold rdD at h
    split at h
    · rw [rdD_lt l L w (i + 1) _ q h]; omega
    · cases h
theorem rdL_lt (l : List Int32) (L : Nat) : ∀ (ws : List Nat) (i : Nat) (vs : List Nat) (q : List Nat × Nat), rdL l L ws i vs = .inr q → i ≤ q.2
  | [], i, vs, q, h => by cases h; exact Nat.le_refl _
  | w :: ws, i, vs, q, h => by
    unfold rdL at h
    cases hd : rdD l L w i 0 with
    | inl e => rw [hd] at h; cases h
    | inr p =>
      rw [hd] at h
      have h1 := rdD_lt l L w i 0 p hd
      have h2 := rdL_lt l L ws p.2 (vs ++ [p.1]) q h
      omega
/-- a statement takes at least two letters -/
theorem rdS_lt {l : List Int32} {L i : Nat} {q : (Int32 × List Nat) × Nat} (h : rdS l L i = .inr q) : i + 2 ≤ q.2 := by
  unfold rdS at h
  split at h
  · cases h
  · cases hd : rdL l L (wids (ltA l L i)) (i + 1) [] with
    | inl e => rw [hd] at h; cases h
    | inr p =>
      rw [hd] at h
      have h1 := rdL_lt l L _ _ _ p hd
      have h : (if ltA l L p.2 = 59 then (.inr ((ltA l L i, p.1), p.2 + 1) : Nat ⊕ ((Int32 × List Nat) × Nat)) else .inl p.2) = .inr q := h
      split at h
      · cases h
        show i + 2 ≤ p.2 + 1
        omega
      · cases h


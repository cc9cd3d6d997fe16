/-! ===== base: heap equality in J, blocks of cells ===== -/
theorem J.heap {G : GD} {z : MZ} {cc : ByteArray} {nL : Nat} {own : String} {lvl mcT msT cells slots pc n : Nat} {lo : List (Option Value)} {stk : List Value} {h1 h2 : RH} (e : h1 = h2) (k : J G z cc nL own lvl mcT msT cells slots pc lo stk n h2) : J G z cc nL own lvl mcT msT cells slots pc lo stk n h1 := e ▸ k
theorem J.stk {G : GD} {z : MZ} {cc : ByteArray} {nL : Nat} {own : String} {lvl mcT msT cells slots pc n : Nat} {lo : List (Option Value)} {s1 s2 : List Value} {h : RH} (e : s1 = s2) (k : J G z cc nL own lvl mcT msT cells slots pc lo s2 n h) : J G z cc nL own lvl mcT msT cells slots pc lo s1 n h := e ▸ k
/-- the top of the stack, an int, under another name -/
theorem J.topi {G : GD} {z : MZ} {cc : ByteArray} {nL : Nat} {own : String} {lvl mcT msT cells slots pc n : Nat} {lo : List (Option Value)} {x y : Int32} {s : List Value} {h : RH} (e : x = y) (k : J G z cc nL own lvl mcT msT cells slots pc lo (.int y :: s) n h) : J G z cc nL own lvl mcT msT cells slots pc lo (.int x :: s) n h := e ▸ k
theorem J.topl {G : GD} {z : MZ} {cc : ByteArray} {nL : Nat} {own : String} {lvl mcT msT cells slots pc n : Nat} {lo : List (Option Value)} {x y : Int64} {s : List Value} {h : RH} (e : x = y) (k : J G z cc nL own lvl mcT msT cells slots pc lo (.long y :: s) n h) : J G z cc nL own lvl mcT msT cells slots pc lo (.long x :: s) n h := e ▸ k
theorem J.lo {G : GD} {z : MZ} {cc : ByteArray} {nL : Nat} {own : String} {lvl mcT msT cells slots pc n : Nat} {l1 l2 : List (Option Value)} {s : List Value} {h : RH} (e : l1 = l2) (k : J G z cc nL own lvl mcT msT cells slots pc l2 s n h) : J G z cc nL own lvl mcT msT cells slots pc l1 s n h := e ▸ k
theorem hset_hset (h : RH) (a : Nat) (c d : RC) : hset (hset h a c) a d = hset h a d := by
  funext q
  unfold hset
  by_cases e : q = a <;> simp [e]
theorem hset_comm (h : RH) {a b : Nat} (c d : RC) (e : a ≠ b) : hset (hset h a c) b d = hset (hset h b d) a c := by
  funext q
  unfold hset
  by_cases e1 : q = a
  · subst e1
    simp [e]
  · simp [e1]
theorem hset_self {h : RH} {a : Nat} {c : RC} (e : h a = some c) : hset h a c = h := by
  funext q
  unfold hset
  by_cases e1 : q = a
  · subst e1
    simp [e]
  · simp [e1]
/-- a block of n cells from q on, over the heap g -/
def blk (q n : Nat) (f : Nat → RC) (g : RH) : RH := fun a => if q ≤ a ∧ a < q + n then some (f (a - q)) else g a
theorem blk_in {q n : Nat} {f : Nat → RC} {g : RH} (k : Nat) (hk : k < n) : blk q n f g (q + k) = some (f k) := by
  unfold blk
  rw [if_pos (by omega), Nat.add_sub_cancel_left]
theorem blk_out {q n a : Nat} {f : Nat → RC} {g : RH} (h : a < q ∨ q + n ≤ a) : blk q n f g a = g a := by
  unfold blk
  rw [if_neg (by omega)]
theorem blk_set {q n : Nat} {f f' : Nat → RC} {g : RH} {c : RC} (k : Nat) (hk : k < n) (h1 : f' k = c) (h2 : ∀ j, j < n → j ≠ k → f' j = f j) : hset (blk q n f g) (q + k) c = blk q n f' g := by
  funext a
  unfold hset blk
  by_cases e : a = q + k
  · subst e
    rw [if_pos rfl, if_pos (by omega), Nat.add_sub_cancel_left, h1]
  · rw [if_neg e]
    by_cases e1 : q ≤ a ∧ a < q + n
    · rw [if_pos e1, if_pos e1, h2 (a - q) (by omega) (by omega)]
    · rw [if_neg e1, if_neg e1]
theorem blk_out_set {q n a : Nat} {f : Nat → RC} {g : RH} {c : RC} (h : a < q ∨ q + n ≤ a) : hset (blk q n f g) a c = blk q n f (hset g a c) := by
  funext b
  unfold hset blk
  by_cases e : b = a
  · subst e
    rw [if_pos rfl, if_neg (by omega)]
    exact (if_pos rfl).symm
  · rw [if_neg e]
    by_cases e1 : q ≤ b ∧ b < q + n
    · rw [if_pos e1, if_pos e1]
    · rw [if_neg e1, if_neg e1]
      exact (if_neg e).symm
theorem blk_same {q n : Nat} {f f' : Nat → RC} {g g' : RH} (h : ∀ j, j < n → f j = f' j) (h2 : ∀ a, (a < q ∨ q + n ≤ a) → g a = g' a) : blk q n f g = blk q n f' g' := by
  funext a
  unfold blk
  by_cases e : q ≤ a ∧ a < q + n
  · rw [if_pos e, if_pos e, h _ (by omega)]
  · rw [if_neg e, if_neg e, h2 a (by omega)]
theorem blk_comm {q n q' n' : Nat} {f f' : Nat → RC} {g : RH} (h : q + n ≤ q' ∨ q' + n' ≤ q) : blk q n f (blk q' n' f' g) = blk q' n' f' (blk q n f g) := by
  funext a
  unfold blk
  by_cases e : q ≤ a ∧ a < q + n
  · rw [if_pos e, if_neg (by omega), if_pos e]
  · by_cases e1 : q' ≤ a ∧ a < q' + n'
    · rw [if_neg e, if_pos e1, if_pos e1]
    · rw [if_neg e, if_neg e1, if_neg e1, if_neg e]
/-- a heap that has the block already -/
theorem blk_self {q n : Nat} {f : Nat → RC} {h : RH} (e : ∀ j, j < n → h (q + j) = some (f j)) : blk q n f h = h := by
  funext a
  unfold blk
  by_cases e1 : q ≤ a ∧ a < q + n
  · rw [if_pos e1, ← e (a - q) (by omega)]
    congr 1
    omega
  · rw [if_neg e1]
/-! small numbers -/
theorem ix6 (a b : Nat) : (6 : Int32) * nI a + nI b = nI (6 * a + b) := by
  rw [show (6 : Int32) = nI 6 from rfl, pk_mul, nI_add]
theorem nI_inj {a b : Nat} (ha : a < 2 ^ 31) (hb : b < 2 ^ 31) (h : nI a = nI b) : a = b := (nI_eq ha hb).mp h
theorem nI_lt0 {a : Nat} (ha : a < 2 ^ 31) : ¬ nI a < 0 := nI_pos ha
/-- the -9 of one who is alone -/
def mI : Option Nat → Int32
  | none => -9
  | some b => nI b
theorem mI_neg : (mI none : Int32) < 0 := by decide
theorem mI_some {b : Nat} : mI (some b) = nI b := rfl
theorem getD_map_nI (l : List Nat) (i : Nat) : (l.map nI).getD i 0 = nI (l.getD i 0) := by
  simp only [List.getD_eq_getElem?_getD, List.getElem?_map]
  cases l[i]? <;> rfl
theorem getD_map_mI (l : List (Option Nat)) (i : Nat) (h : i < l.length) : (l.map mI).getD i 0 = mI (l.getD i none) := by
  simp [List.getD_eq_getElem?_getD, h]
/-- i, i+1 .. : cnt steps -/
def forR {σ : Type} (f : Nat → σ → σ) : Nat → Nat → σ → σ
  | _, 0, s => s
  | i, c + 1, s => forR f (i + 1) c (f i s)
theorem forR_0 {σ : Type} (f : Nat → σ → σ) (i : Nat) (s : σ) : forR f i 0 s = s := rfl
theorem forR_s {σ : Type} (f : Nat → σ → σ) (i c : Nat) (s : σ) : forR f i (c + 1) s = forR f (i + 1) c (f i s) := rfl
theorem forR_snoc {σ : Type} (f : Nat → σ → σ) (i c : Nat) (s : σ) : forR f i (c + 1) s = f (i + c) (forR f i c s) := by
  induction c generalizing i s with
  | zero => rfl
  | succ c ih =>
    rw [forR_s, ih (i + 1) (f i s), forR_s, show i + 1 + c = i + (c + 1) by omega]
theorem forR_congr {σ : Type} {f g : Nat → σ → σ} {i c : Nat} {s : σ} (h : ∀ j s, i ≤ j → j < i + c → f j s = g j s) : forR f i c s = forR g i c s := by
  induction c generalizing i s with
  | zero => rfl
  | succ c ih =>
    rw [forR_s, forR_s, h i s (by omega) (by omega)]
    exact ih (fun j s h1 h2 => h j s (by omega) (by omega))


/-! ===== the world of PrayerMatsFaceModel (printed by gen/mw.py) ===== -/
set_option maxRecDepth 100000
/-- how many people; persons by place (six, whoever is there), hours, mates, quarrels, the day -/
abbrev SM : Type := Nat × SQ
abbrev MA : Type := List Int32 × List Int32 × List Int32 × List Int32 × List Int32 × List Int32 × List Int32 × List Int32 × List Int32 × List Int32 × List Int32 × List Int32
abbrev MF : Type := Int32 × Int32 × Int32 × Int32 × Int32 × Int32 × Int32 × Int32 × Int32 × Int32 × Int32 × Int32 × Int32
/-- the quarter; arrays 6..17; the int fields; keptIn -/
abbrev MW : Type := SM × MA × MF × Value
def mS (T : SQ) (j : List PP) : SM := (T.1.length, T.1 ++ j, T.2)
def ma6 (w : MW) : List Int32 := w.2.1.1
def ma7 (w : MW) : List Int32 := w.2.1.2.1
def ma8 (w : MW) : List Int32 := w.2.1.2.2.1
def ma9 (w : MW) : List Int32 := w.2.1.2.2.2.1
def ma10 (w : MW) : List Int32 := w.2.1.2.2.2.2.1
def ma11 (w : MW) : List Int32 := w.2.1.2.2.2.2.2.1
def ma12 (w : MW) : List Int32 := w.2.1.2.2.2.2.2.2.1
def ma13 (w : MW) : List Int32 := w.2.1.2.2.2.2.2.2.2.1
def ma14 (w : MW) : List Int32 := w.2.1.2.2.2.2.2.2.2.2.1
def ma15 (w : MW) : List Int32 := w.2.1.2.2.2.2.2.2.2.2.2.1
def ma16 (w : MW) : List Int32 := w.2.1.2.2.2.2.2.2.2.2.2.2.1
def ma17 (w : MW) : List Int32 := w.2.1.2.2.2.2.2.2.2.2.2.2.2
def mf7 (w : MW) : Int32 := w.2.2.1.1
def mf10 (w : MW) : Int32 := w.2.2.1.2.1
def mf11 (w : MW) : Int32 := w.2.2.1.2.2.1
def mf12 (w : MW) : Int32 := w.2.2.1.2.2.2.1
def mf13 (w : MW) : Int32 := w.2.2.1.2.2.2.2.1
def mf19 (w : MW) : Int32 := w.2.2.1.2.2.2.2.2.1
def mf20 (w : MW) : Int32 := w.2.2.1.2.2.2.2.2.2.1
def mf21 (w : MW) : Int32 := w.2.2.1.2.2.2.2.2.2.2.1
def mf25 (w : MW) : Int32 := w.2.2.1.2.2.2.2.2.2.2.2.1
def mf27 (w : MW) : Int32 := w.2.2.1.2.2.2.2.2.2.2.2.2.1
def mf28 (w : MW) : Int32 := w.2.2.1.2.2.2.2.2.2.2.2.2.2.1
def mf31 (w : MW) : Int32 := w.2.2.1.2.2.2.2.2.2.2.2.2.2.2.1
def mf32 (w : MW) : Int32 := w.2.2.1.2.2.2.2.2.2.2.2.2.2.2.2
def mk22 (w : MW) : Value := w.2.2.2
def sS (w : MW) (s : SM) : MW := (s, w.2)
def sa6 (w : MW) (l : List Int32) : MW := (w.1, (l, w.2.1.2), w.2.2)
def sa7 (w : MW) (l : List Int32) : MW := (w.1, (w.2.1.1, (l, w.2.1.2.2)), w.2.2)
def sa8 (w : MW) (l : List Int32) : MW := (w.1, (w.2.1.1, (w.2.1.2.1, (l, w.2.1.2.2.2))), w.2.2)
def sa9 (w : MW) (l : List Int32) : MW := (w.1, (w.2.1.1, (w.2.1.2.1, (w.2.1.2.2.1, (l, w.2.1.2.2.2.2)))), w.2.2)
def sa10 (w : MW) (l : List Int32) : MW := (w.1, (w.2.1.1, (w.2.1.2.1, (w.2.1.2.2.1, (w.2.1.2.2.2.1, (l, w.2.1.2.2.2.2.2))))), w.2.2)
def sa11 (w : MW) (l : List Int32) : MW := (w.1, (w.2.1.1, (w.2.1.2.1, (w.2.1.2.2.1, (w.2.1.2.2.2.1, (w.2.1.2.2.2.2.1, (l, w.2.1.2.2.2.2.2.2)))))), w.2.2)
def sa12 (w : MW) (l : List Int32) : MW := (w.1, (w.2.1.1, (w.2.1.2.1, (w.2.1.2.2.1, (w.2.1.2.2.2.1, (w.2.1.2.2.2.2.1, (w.2.1.2.2.2.2.2.1, (l, w.2.1.2.2.2.2.2.2.2))))))), w.2.2)
def sa13 (w : MW) (l : List Int32) : MW := (w.1, (w.2.1.1, (w.2.1.2.1, (w.2.1.2.2.1, (w.2.1.2.2.2.1, (w.2.1.2.2.2.2.1, (w.2.1.2.2.2.2.2.1, (w.2.1.2.2.2.2.2.2.1, (l, w.2.1.2.2.2.2.2.2.2.2)))))))), w.2.2)
def sa14 (w : MW) (l : List Int32) : MW := (w.1, (w.2.1.1, (w.2.1.2.1, (w.2.1.2.2.1, (w.2.1.2.2.2.1, (w.2.1.2.2.2.2.1, (w.2.1.2.2.2.2.2.1, (w.2.1.2.2.2.2.2.2.1, (w.2.1.2.2.2.2.2.2.2.1, (l, w.2.1.2.2.2.2.2.2.2.2.2))))))))), w.2.2)
def sa15 (w : MW) (l : List Int32) : MW := (w.1, (w.2.1.1, (w.2.1.2.1, (w.2.1.2.2.1, (w.2.1.2.2.2.1, (w.2.1.2.2.2.2.1, (w.2.1.2.2.2.2.2.1, (w.2.1.2.2.2.2.2.2.1, (w.2.1.2.2.2.2.2.2.2.1, (w.2.1.2.2.2.2.2.2.2.2.1, (l, w.2.1.2.2.2.2.2.2.2.2.2.2)))))))))), w.2.2)
def sa16 (w : MW) (l : List Int32) : MW := (w.1, (w.2.1.1, (w.2.1.2.1, (w.2.1.2.2.1, (w.2.1.2.2.2.1, (w.2.1.2.2.2.2.1, (w.2.1.2.2.2.2.2.1, (w.2.1.2.2.2.2.2.2.1, (w.2.1.2.2.2.2.2.2.2.1, (w.2.1.2.2.2.2.2.2.2.2.1, (w.2.1.2.2.2.2.2.2.2.2.2.1, (l, w.2.1.2.2.2.2.2.2.2.2.2.2.2))))))))))), w.2.2)
def sa17 (w : MW) (l : List Int32) : MW := (w.1, (w.2.1.1, (w.2.1.2.1, (w.2.1.2.2.1, (w.2.1.2.2.2.1, (w.2.1.2.2.2.2.1, (w.2.1.2.2.2.2.2.1, (w.2.1.2.2.2.2.2.2.1, (w.2.1.2.2.2.2.2.2.2.1, (w.2.1.2.2.2.2.2.2.2.2.1, (w.2.1.2.2.2.2.2.2.2.2.2.1, (w.2.1.2.2.2.2.2.2.2.2.2.2.1, l))))))))))), w.2.2)
def sf7 (w : MW) (v : Int32) : MW := (w.1, w.2.1, (v, w.2.2.1.2), w.2.2.2)
def sf10 (w : MW) (v : Int32) : MW := (w.1, w.2.1, (w.2.2.1.1, (v, w.2.2.1.2.2)), w.2.2.2)
def sf11 (w : MW) (v : Int32) : MW := (w.1, w.2.1, (w.2.2.1.1, (w.2.2.1.2.1, (v, w.2.2.1.2.2.2))), w.2.2.2)
def sf12 (w : MW) (v : Int32) : MW := (w.1, w.2.1, (w.2.2.1.1, (w.2.2.1.2.1, (w.2.2.1.2.2.1, (v, w.2.2.1.2.2.2.2)))), w.2.2.2)
def sf13 (w : MW) (v : Int32) : MW := (w.1, w.2.1, (w.2.2.1.1, (w.2.2.1.2.1, (w.2.2.1.2.2.1, (w.2.2.1.2.2.2.1, (v, w.2.2.1.2.2.2.2.2))))), w.2.2.2)
def sf19 (w : MW) (v : Int32) : MW := (w.1, w.2.1, (w.2.2.1.1, (w.2.2.1.2.1, (w.2.2.1.2.2.1, (w.2.2.1.2.2.2.1, (w.2.2.1.2.2.2.2.1, (v, w.2.2.1.2.2.2.2.2.2)))))), w.2.2.2)
def sf20 (w : MW) (v : Int32) : MW := (w.1, w.2.1, (w.2.2.1.1, (w.2.2.1.2.1, (w.2.2.1.2.2.1, (w.2.2.1.2.2.2.1, (w.2.2.1.2.2.2.2.1, (w.2.2.1.2.2.2.2.2.1, (v, w.2.2.1.2.2.2.2.2.2.2))))))), w.2.2.2)
def sf21 (w : MW) (v : Int32) : MW := (w.1, w.2.1, (w.2.2.1.1, (w.2.2.1.2.1, (w.2.2.1.2.2.1, (w.2.2.1.2.2.2.1, (w.2.2.1.2.2.2.2.1, (w.2.2.1.2.2.2.2.2.1, (w.2.2.1.2.2.2.2.2.2.1, (v, w.2.2.1.2.2.2.2.2.2.2.2)))))))), w.2.2.2)
def sf25 (w : MW) (v : Int32) : MW := (w.1, w.2.1, (w.2.2.1.1, (w.2.2.1.2.1, (w.2.2.1.2.2.1, (w.2.2.1.2.2.2.1, (w.2.2.1.2.2.2.2.1, (w.2.2.1.2.2.2.2.2.1, (w.2.2.1.2.2.2.2.2.2.1, (w.2.2.1.2.2.2.2.2.2.2.1, (v, w.2.2.1.2.2.2.2.2.2.2.2.2))))))))), w.2.2.2)
def sf27 (w : MW) (v : Int32) : MW := (w.1, w.2.1, (w.2.2.1.1, (w.2.2.1.2.1, (w.2.2.1.2.2.1, (w.2.2.1.2.2.2.1, (w.2.2.1.2.2.2.2.1, (w.2.2.1.2.2.2.2.2.1, (w.2.2.1.2.2.2.2.2.2.1, (w.2.2.1.2.2.2.2.2.2.2.1, (w.2.2.1.2.2.2.2.2.2.2.2.1, (v, w.2.2.1.2.2.2.2.2.2.2.2.2.2)))))))))), w.2.2.2)
def sf28 (w : MW) (v : Int32) : MW := (w.1, w.2.1, (w.2.2.1.1, (w.2.2.1.2.1, (w.2.2.1.2.2.1, (w.2.2.1.2.2.2.1, (w.2.2.1.2.2.2.2.1, (w.2.2.1.2.2.2.2.2.1, (w.2.2.1.2.2.2.2.2.2.1, (w.2.2.1.2.2.2.2.2.2.2.1, (w.2.2.1.2.2.2.2.2.2.2.2.1, (w.2.2.1.2.2.2.2.2.2.2.2.2.1, (v, w.2.2.1.2.2.2.2.2.2.2.2.2.2.2))))))))))), w.2.2.2)
def sf31 (w : MW) (v : Int32) : MW := (w.1, w.2.1, (w.2.2.1.1, (w.2.2.1.2.1, (w.2.2.1.2.2.1, (w.2.2.1.2.2.2.1, (w.2.2.1.2.2.2.2.1, (w.2.2.1.2.2.2.2.2.1, (w.2.2.1.2.2.2.2.2.2.1, (w.2.2.1.2.2.2.2.2.2.2.1, (w.2.2.1.2.2.2.2.2.2.2.2.1, (w.2.2.1.2.2.2.2.2.2.2.2.2.1, (w.2.2.1.2.2.2.2.2.2.2.2.2.2.1, (v, w.2.2.1.2.2.2.2.2.2.2.2.2.2.2.2)))))))))))), w.2.2.2)
def sf32 (w : MW) (v : Int32) : MW := (w.1, w.2.1, (w.2.2.1.1, (w.2.2.1.2.1, (w.2.2.1.2.2.1, (w.2.2.1.2.2.2.1, (w.2.2.1.2.2.2.2.1, (w.2.2.1.2.2.2.2.2.1, (w.2.2.1.2.2.2.2.2.2.1, (w.2.2.1.2.2.2.2.2.2.2.1, (w.2.2.1.2.2.2.2.2.2.2.2.1, (w.2.2.1.2.2.2.2.2.2.2.2.2.1, (w.2.2.1.2.2.2.2.2.2.2.2.2.2.1, (w.2.2.1.2.2.2.2.2.2.2.2.2.2.2.1, v)))))))))))), w.2.2.2)
def sk22 (w : MW) (v : Value) : MW := (w.1, w.2.1, w.2.2.1, v)
def marr (w : MW) (k : Nat) : List Int32 := match k with
  | 1 => w.1.2.1.map (fun p => nI p.1)
  | 2 => w.1.2.1.map (fun p => nI p.2)
  | 3 => w.1.2.2.1.map nI
  | 4 => w.1.2.2.2.1.map mI
  | 5 => w.1.2.2.2.2.1.map nI
  | 6 => ma6 w
  | 7 => ma7 w
  | 8 => ma8 w
  | 9 => ma9 w
  | 10 => ma10 w
  | 11 => ma11 w
  | 12 => ma12 w
  | 13 => ma13 w
  | 14 => ma14 w
  | 15 => ma15 w
  | 16 => ma16 w
  | 17 => ma17 w
  | _ => []
def mobj (m : Nat) (w : MW) : List Value := [.int (nI w.1.1), .ref (m + 1), .ref (m + 2), .ref (m + 3), .ref (m + 4), .ref (m + 5), .int (nI w.1.2.2.2.2.2), .int (mf7 w), .ref (m + 6), .ref (m + 7), .int (mf10 w), .int (mf11 w), .int (mf12 w), .int (mf13 w), .ref (m + 8), .ref (m + 9), .ref (m + 10), .ref (m + 11), .ref (m + 12), .int (mf19 w), .int (mf20 w), .int (mf21 w), mk22 w, .ref (m + 13), .ref (m + 14), .int (mf25 w), .ref (m + 15), .int (mf27 w), .int (mf28 w), .ref (m + 16), .ref (m + 17), .int (mf31 w), .int (mf32 w)]
def mcell (m : Nat) (w : MW) (k : Nat) : RC := if k = 0 then .inr (.inr (2, mobj m w)) else .inl (marr w k)
def mh (m : Nat) (w : MW) (g : RH) : RH := blk m 18 (mcell m w) g
section MH
variable {m : Nat} {w : MW} {g : RH}
theorem mh_o : mh m w g m = some (.inr (.inr (2, mobj m w))) := blk_in (q := m) (f := mcell m w) 0 (by decide)
theorem mh_a (k : Nat) (h0 : 0 < k) (hk : k < 18) : mh m w g (m + k) = some (.inl (marr w k)) := by
  have e := blk_in (q := m) (f := mcell m w) (g := g) k hk
  unfold mcell at e
  rw [if_neg (by omega)] at e
  exact e
theorem mh_1 : mh m w g (m + 1) = some (.inl (w.1.2.1.map (fun p => nI p.1))) := mh_a 1 (by decide) (by decide)
theorem mh_2 : mh m w g (m + 2) = some (.inl (w.1.2.1.map (fun p => nI p.2))) := mh_a 2 (by decide) (by decide)
theorem mh_3 : mh m w g (m + 3) = some (.inl (w.1.2.2.1.map nI)) := mh_a 3 (by decide) (by decide)
theorem mh_4 : mh m w g (m + 4) = some (.inl (w.1.2.2.2.1.map mI)) := mh_a 4 (by decide) (by decide)
theorem mh_5 : mh m w g (m + 5) = some (.inl (w.1.2.2.2.2.1.map nI)) := mh_a 5 (by decide) (by decide)
theorem mh_6 : mh m w g (m + 6) = some (.inl (ma6 w)) := mh_a 6 (by decide) (by decide)
theorem mh_7 : mh m w g (m + 7) = some (.inl (ma7 w)) := mh_a 7 (by decide) (by decide)
theorem mh_8 : mh m w g (m + 8) = some (.inl (ma8 w)) := mh_a 8 (by decide) (by decide)
theorem mh_9 : mh m w g (m + 9) = some (.inl (ma9 w)) := mh_a 9 (by decide) (by decide)
theorem mh_10 : mh m w g (m + 10) = some (.inl (ma10 w)) := mh_a 10 (by decide) (by decide)
theorem mh_11 : mh m w g (m + 11) = some (.inl (ma11 w)) := mh_a 11 (by decide) (by decide)
theorem mh_12 : mh m w g (m + 12) = some (.inl (ma12 w)) := mh_a 12 (by decide) (by decide)
theorem mh_13 : mh m w g (m + 13) = some (.inl (ma13 w)) := mh_a 13 (by decide) (by decide)
theorem mh_14 : mh m w g (m + 14) = some (.inl (ma14 w)) := mh_a 14 (by decide) (by decide)
theorem mh_15 : mh m w g (m + 15) = some (.inl (ma15 w)) := mh_a 15 (by decide) (by decide)
theorem mh_16 : mh m w g (m + 16) = some (.inl (ma16 w)) := mh_a 16 (by decide) (by decide)
theorem mh_17 : mh m w g (m + 17) = some (.inl (ma17 w)) := mh_a 17 (by decide) (by decide)
theorem mset_o {w' : MW} {l : List Value} (e : l = mobj m w') (h : ∀ k, k < 18 → k ≠ 0 → marr w' k = marr w k) : hset (mh m w g) m (.inr (.inr (2, l))) = mh m w' g := by
  refine blk_set (q := m) 0 (by decide) (by unfold mcell; rw [if_pos rfl, e]) (fun j h1 h2 => ?_)
  unfold mcell
  rw [if_neg h2, if_neg h2, h j h1 h2]
theorem mset_a {w' : MW} {l : List Int32} (k : Nat) (h0 : 0 < k) (hk : k < 18) (eo : mobj m w' = mobj m w) (e : marr w' k = l) (h : ∀ j, j < 18 → j ≠ k → marr w' j = marr w j) : hset (mh m w g) (m + k) (.inl l) = mh m w' g := by
  refine blk_set (q := m) k hk (by unfold mcell; rw [if_neg (by omega), e]) (fun j h1 h2 => ?_)
  unfold mcell
  by_cases h3 : j = 0
  · rw [if_pos h3, if_pos h3, eo]
  · rw [if_neg h3, if_neg h3, h j h1 h2]
theorem mset_f7 {v : Int32} : hset (mh m w g) m (.inr (.inr (2, (mobj m w).set 7 (.int v)))) = mh m (sf7 w v) g := mset_o rfl (fun _ _ _ => rfl)
theorem mset_f10 {v : Int32} : hset (mh m w g) m (.inr (.inr (2, (mobj m w).set 10 (.int v)))) = mh m (sf10 w v) g := mset_o rfl (fun _ _ _ => rfl)
theorem mset_f11 {v : Int32} : hset (mh m w g) m (.inr (.inr (2, (mobj m w).set 11 (.int v)))) = mh m (sf11 w v) g := mset_o rfl (fun _ _ _ => rfl)
theorem mset_f12 {v : Int32} : hset (mh m w g) m (.inr (.inr (2, (mobj m w).set 12 (.int v)))) = mh m (sf12 w v) g := mset_o rfl (fun _ _ _ => rfl)
theorem mset_f13 {v : Int32} : hset (mh m w g) m (.inr (.inr (2, (mobj m w).set 13 (.int v)))) = mh m (sf13 w v) g := mset_o rfl (fun _ _ _ => rfl)
theorem mset_f19 {v : Int32} : hset (mh m w g) m (.inr (.inr (2, (mobj m w).set 19 (.int v)))) = mh m (sf19 w v) g := mset_o rfl (fun _ _ _ => rfl)
theorem mset_f20 {v : Int32} : hset (mh m w g) m (.inr (.inr (2, (mobj m w).set 20 (.int v)))) = mh m (sf20 w v) g := mset_o rfl (fun _ _ _ => rfl)
theorem mset_f21 {v : Int32} : hset (mh m w g) m (.inr (.inr (2, (mobj m w).set 21 (.int v)))) = mh m (sf21 w v) g := mset_o rfl (fun _ _ _ => rfl)
theorem mset_f25 {v : Int32} : hset (mh m w g) m (.inr (.inr (2, (mobj m w).set 25 (.int v)))) = mh m (sf25 w v) g := mset_o rfl (fun _ _ _ => rfl)
theorem mset_f27 {v : Int32} : hset (mh m w g) m (.inr (.inr (2, (mobj m w).set 27 (.int v)))) = mh m (sf27 w v) g := mset_o rfl (fun _ _ _ => rfl)
theorem mset_f28 {v : Int32} : hset (mh m w g) m (.inr (.inr (2, (mobj m w).set 28 (.int v)))) = mh m (sf28 w v) g := mset_o rfl (fun _ _ _ => rfl)
theorem mset_f31 {v : Int32} : hset (mh m w g) m (.inr (.inr (2, (mobj m w).set 31 (.int v)))) = mh m (sf31 w v) g := mset_o rfl (fun _ _ _ => rfl)
theorem mset_f32 {v : Int32} : hset (mh m w g) m (.inr (.inr (2, (mobj m w).set 32 (.int v)))) = mh m (sf32 w v) g := mset_o rfl (fun _ _ _ => rfl)
theorem mset_k22 {v : Value} : hset (mh m w g) m (.inr (.inr (2, (mobj m w).set 22 v))) = mh m (sk22 w v) g := mset_o rfl (fun _ _ _ => rfl)
theorem mset_p {v : Nat} : hset (mh m w g) m (.inr (.inr (2, (mobj m w).set 0 (.int (nI v))))) = mh m (sS w (v, w.1.2)) g := mset_o rfl (fun _ _ _ => rfl)
theorem mset_d {v : Nat} : hset (mh m w g) m (.inr (.inr (2, (mobj m w).set 6 (.int (nI v))))) = mh m (sS w (w.1.1, setD w.1.2 v)) g := mset_o rfl (fun _ _ _ => rfl)
theorem mset_6 {l : List Int32} : hset (mh m w g) (m + 6) (.inl l) = mh m (sa6 w l) g := mset_a 6 (by decide) (by decide) rfl rfl (fun j h1 h2 => by match j, h1, h2 with | 0, _, _ => rfl | 1, _, _ => rfl | 2, _, _ => rfl | 3, _, _ => rfl | 4, _, _ => rfl | 5, _, _ => rfl | 6, _, h => exact absurd rfl h | 7, _, _ => rfl | 8, _, _ => rfl | 9, _, _ => rfl | 10, _, _ => rfl | 11, _, _ => rfl | 12, _, _ => rfl | 13, _, _ => rfl | 14, _, _ => rfl | 15, _, _ => rfl | 16, _, _ => rfl | 17, _, _ => rfl | j + 18, h, _ => exact absurd h (by omega))
theorem mset_7 {l : List Int32} : hset (mh m w g) (m + 7) (.inl l) = mh m (sa7 w l) g := mset_a 7 (by decide) (by decide) rfl rfl (fun j h1 h2 => by match j, h1, h2 with | 0, _, _ => rfl | 1, _, _ => rfl | 2, _, _ => rfl | 3, _, _ => rfl | 4, _, _ => rfl | 5, _, _ => rfl | 6, _, _ => rfl | 7, _, h => exact absurd rfl h | 8, _, _ => rfl | 9, _, _ => rfl | 10, _, _ => rfl | 11, _, _ => rfl | 12, _, _ => rfl | 13, _, _ => rfl | 14, _, _ => rfl | 15, _, _ => rfl | 16, _, _ => rfl | 17, _, _ => rfl | j + 18, h, _ => exact absurd h (by omega))
theorem mset_8 {l : List Int32} : hset (mh m w g) (m + 8) (.inl l) = mh m (sa8 w l) g := mset_a 8 (by decide) (by decide) rfl rfl (fun j h1 h2 => by match j, h1, h2 with | 0, _, _ => rfl | 1, _, _ => rfl | 2, _, _ => rfl | 3, _, _ => rfl | 4, _, _ => rfl | 5, _, _ => rfl | 6, _, _ => rfl | 7, _, _ => rfl | 8, _, h => exact absurd rfl h | 9, _, _ => rfl | 10, _, _ => rfl | 11, _, _ => rfl | 12, _, _ => rfl | 13, _, _ => rfl | 14, _, _ => rfl | 15, _, _ => rfl | 16, _, _ => rfl | 17, _, _ => rfl | j + 18, h, _ => exact absurd h (by omega))
theorem mset_9 {l : List Int32} : hset (mh m w g) (m + 9) (.inl l) = mh m (sa9 w l) g := mset_a 9 (by decide) (by decide) rfl rfl (fun j h1 h2 => by match j, h1, h2 with | 0, _, _ => rfl | 1, _, _ => rfl | 2, _, _ => rfl | 3, _, _ => rfl | 4, _, _ => rfl | 5, _, _ => rfl | 6, _, _ => rfl | 7, _, _ => rfl | 8, _, _ => rfl | 9, _, h => exact absurd rfl h | 10, _, _ => rfl | 11, _, _ => rfl | 12, _, _ => rfl | 13, _, _ => rfl | 14, _, _ => rfl | 15, _, _ => rfl | 16, _, _ => rfl | 17, _, _ => rfl | j + 18, h, _ => exact absurd h (by omega))
theorem mset_10 {l : List Int32} : hset (mh m w g) (m + 10) (.inl l) = mh m (sa10 w l) g := mset_a 10 (by decide) (by decide) rfl rfl (fun j h1 h2 => by match j, h1, h2 with | 0, _, _ => rfl | 1, _, _ => rfl | 2, _, _ => rfl | 3, _, _ => rfl | 4, _, _ => rfl | 5, _, _ => rfl | 6, _, _ => rfl | 7, _, _ => rfl | 8, _, _ => rfl | 9, _, _ => rfl | 10, _, h => exact absurd rfl h | 11, _, _ => rfl | 12, _, _ => rfl | 13, _, _ => rfl | 14, _, _ => rfl | 15, _, _ => rfl | 16, _, _ => rfl | 17, _, _ => rfl | j + 18, h, _ => exact absurd h (by omega))
theorem mset_11 {l : List Int32} : hset (mh m w g) (m + 11) (.inl l) = mh m (sa11 w l) g := mset_a 11 (by decide) (by decide) rfl rfl (fun j h1 h2 => by match j, h1, h2 with | 0, _, _ => rfl | 1, _, _ => rfl | 2, _, _ => rfl | 3, _, _ => rfl | 4, _, _ => rfl | 5, _, _ => rfl | 6, _, _ => rfl | 7, _, _ => rfl | 8, _, _ => rfl | 9, _, _ => rfl | 10, _, _ => rfl | 11, _, h => exact absurd rfl h | 12, _, _ => rfl | 13, _, _ => rfl | 14, _, _ => rfl | 15, _, _ => rfl | 16, _, _ => rfl | 17, _, _ => rfl | j + 18, h, _ => exact absurd h (by omega))
theorem mset_12 {l : List Int32} : hset (mh m w g) (m + 12) (.inl l) = mh m (sa12 w l) g := mset_a 12 (by decide) (by decide) rfl rfl (fun j h1 h2 => by match j, h1, h2 with | 0, _, _ => rfl | 1, _, _ => rfl | 2, _, _ => rfl | 3, _, _ => rfl | 4, _, _ => rfl | 5, _, _ => rfl | 6, _, _ => rfl | 7, _, _ => rfl | 8, _, _ => rfl | 9, _, _ => rfl | 10, _, _ => rfl | 11, _, _ => rfl | 12, _, h => exact absurd rfl h | 13, _, _ => rfl | 14, _, _ => rfl | 15, _, _ => rfl | 16, _, _ => rfl | 17, _, _ => rfl | j + 18, h, _ => exact absurd h (by omega))
theorem mset_13 {l : List Int32} : hset (mh m w g) (m + 13) (.inl l) = mh m (sa13 w l) g := mset_a 13 (by decide) (by decide) rfl rfl (fun j h1 h2 => by match j, h1, h2 with | 0, _, _ => rfl | 1, _, _ => rfl | 2, _, _ => rfl | 3, _, _ => rfl | 4, _, _ => rfl | 5, _, _ => rfl | 6, _, _ => rfl | 7, _, _ => rfl | 8, _, _ => rfl | 9, _, _ => rfl | 10, _, _ => rfl | 11, _, _ => rfl | 12, _, _ => rfl | 13, _, h => exact absurd rfl h | 14, _, _ => rfl | 15, _, _ => rfl | 16, _, _ => rfl | 17, _, _ => rfl | j + 18, h, _ => exact absurd h (by omega))
theorem mset_14 {l : List Int32} : hset (mh m w g) (m + 14) (.inl l) = mh m (sa14 w l) g := mset_a 14 (by decide) (by decide) rfl rfl (fun j h1 h2 => by match j, h1, h2 with | 0, _, _ => rfl | 1, _, _ => rfl | 2, _, _ => rfl | 3, _, _ => rfl | 4, _, _ => rfl | 5, _, _ => rfl | 6, _, _ => rfl | 7, _, _ => rfl | 8, _, _ => rfl | 9, _, _ => rfl | 10, _, _ => rfl | 11, _, _ => rfl | 12, _, _ => rfl | 13, _, _ => rfl | 14, _, h => exact absurd rfl h | 15, _, _ => rfl | 16, _, _ => rfl | 17, _, _ => rfl | j + 18, h, _ => exact absurd h (by omega))
theorem mset_15 {l : List Int32} : hset (mh m w g) (m + 15) (.inl l) = mh m (sa15 w l) g := mset_a 15 (by decide) (by decide) rfl rfl (fun j h1 h2 => by match j, h1, h2 with | 0, _, _ => rfl | 1, _, _ => rfl | 2, _, _ => rfl | 3, _, _ => rfl | 4, _, _ => rfl | 5, _, _ => rfl | 6, _, _ => rfl | 7, _, _ => rfl | 8, _, _ => rfl | 9, _, _ => rfl | 10, _, _ => rfl | 11, _, _ => rfl | 12, _, _ => rfl | 13, _, _ => rfl | 14, _, _ => rfl | 15, _, h => exact absurd rfl h | 16, _, _ => rfl | 17, _, _ => rfl | j + 18, h, _ => exact absurd h (by omega))
theorem mset_16 {l : List Int32} : hset (mh m w g) (m + 16) (.inl l) = mh m (sa16 w l) g := mset_a 16 (by decide) (by decide) rfl rfl (fun j h1 h2 => by match j, h1, h2 with | 0, _, _ => rfl | 1, _, _ => rfl | 2, _, _ => rfl | 3, _, _ => rfl | 4, _, _ => rfl | 5, _, _ => rfl | 6, _, _ => rfl | 7, _, _ => rfl | 8, _, _ => rfl | 9, _, _ => rfl | 10, _, _ => rfl | 11, _, _ => rfl | 12, _, _ => rfl | 13, _, _ => rfl | 14, _, _ => rfl | 15, _, _ => rfl | 16, _, h => exact absurd rfl h | 17, _, _ => rfl | j + 18, h, _ => exact absurd h (by omega))
theorem mset_17 {l : List Int32} : hset (mh m w g) (m + 17) (.inl l) = mh m (sa17 w l) g := mset_a 17 (by decide) (by decide) rfl rfl (fun j h1 h2 => by match j, h1, h2 with | 0, _, _ => rfl | 1, _, _ => rfl | 2, _, _ => rfl | 3, _, _ => rfl | 4, _, _ => rfl | 5, _, _ => rfl | 6, _, _ => rfl | 7, _, _ => rfl | 8, _, _ => rfl | 9, _, _ => rfl | 10, _, _ => rfl | 11, _, _ => rfl | 12, _, _ => rfl | 13, _, _ => rfl | 14, _, _ => rfl | 15, _, _ => rfl | 16, _, _ => rfl | 17, _, h => exact absurd rfl h | j + 18, h, _ => exact absurd h (by omega))
theorem mset_3 {a v : Nat} : hset (mh m w g) (m + 3) (.inl ((w.1.2.2.1.set a v).map nI)) = mh m (sS w (w.1.1, setH w.1.2 a v)) g := mset_a 3 (by decide) (by decide) rfl rfl (fun j h1 h2 => by match j, h1, h2 with | 0, _, _ => rfl | 1, _, _ => rfl | 2, _, _ => rfl | 3, _, h => exact absurd rfl h | 4, _, _ => rfl | 5, _, _ => rfl | 6, _, _ => rfl | 7, _, _ => rfl | 8, _, _ => rfl | 9, _, _ => rfl | 10, _, _ => rfl | 11, _, _ => rfl | 12, _, _ => rfl | 13, _, _ => rfl | 14, _, _ => rfl | 15, _, _ => rfl | 16, _, _ => rfl | 17, _, _ => rfl | j + 18, h, _ => exact absurd h (by omega))
theorem mset_4 {a : Nat} {v : Option Nat} : hset (mh m w g) (m + 4) (.inl ((w.1.2.2.2.1.set a v).map mI)) = mh m (sS w (w.1.1, setM w.1.2 a v)) g := mset_a 4 (by decide) (by decide) rfl rfl (fun j h1 h2 => by match j, h1, h2 with | 0, _, _ => rfl | 1, _, _ => rfl | 2, _, _ => rfl | 3, _, _ => rfl | 4, _, h => exact absurd rfl h | 5, _, _ => rfl | 6, _, _ => rfl | 7, _, _ => rfl | 8, _, _ => rfl | 9, _, _ => rfl | 10, _, _ => rfl | 11, _, _ => rfl | 12, _, _ => rfl | 13, _, _ => rfl | 14, _, _ => rfl | 15, _, _ => rfl | 16, _, _ => rfl | 17, _, _ => rfl | j + 18, h, _ => exact absurd h (by omega))
theorem mset_5 {k v : Nat} : hset (mh m w g) (m + 5) (.inl ((w.1.2.2.2.2.1.set k v).map nI)) = mh m (sS w (w.1.1, setQ1 w.1.2 k v)) g := mset_a 5 (by decide) (by decide) rfl rfl (fun j h1 h2 => by match j, h1, h2 with | 0, _, _ => rfl | 1, _, _ => rfl | 2, _, _ => rfl | 3, _, _ => rfl | 4, _, _ => rfl | 5, _, h => exact absurd rfl h | 6, _, _ => rfl | 7, _, _ => rfl | 8, _, _ => rfl | 9, _, _ => rfl | 10, _, _ => rfl | 11, _, _ => rfl | 12, _, _ => rfl | 13, _, _ => rfl | 14, _, _ => rfl | 15, _, _ => rfl | 16, _, _ => rfl | 17, _, _ => rfl | j + 18, h, _ => exact absurd h (by omega))
theorem map_set_1 (l : List PP) (a k : Nat) (h : a < l.length) : (l.set a (k, (l.getD a (0, 0)).2)).map (fun p => nI p.1) = (l.map (fun p => nI p.1)).set a (nI k) := by rw [List.map_set]
theorem map_set_2 (l : List PP) (a k : Nat) (h : a < l.length) : (l.set a ((l.getD a (0, 0)).1, k)).map (fun p => nI p.2) = (l.map (fun p => nI p.2)).set a (nI k) := by rw [List.map_set]
theorem map_keep {α β : Type} (f : α → β) (l : List α) (a : Nat) (x : α) (d : α) (h : f x = f (l.getD a d)) : (l.set a x).map f = l.map f := by
  rw [List.map_set, h]
  by_cases ha : a < l.length
  · have e : (l.map f).set a (f (l.getD a d)) = (l.map f).set a ((l.map f)[a]'(by rw [List.length_map]; exact ha)) := by
      congr 1
      simp [List.getD_eq_getElem?_getD, ha]
    rw [e, List.set_getElem_self]
  · rw [List.set_eq_of_length_le (by rw [List.length_map]; omega)]
def setK1 (s : SM) (a k : Nat) : SM := (s.1, s.2.1.set a (k, (s.2.1.getD a (0, 0)).2), s.2.2)
def setK2 (s : SM) (a k : Nat) : SM := (s.1, s.2.1.set a ((s.2.1.getD a (0, 0)).1, k), s.2.2)
theorem mset_1 {a k : Nat} : hset (mh m w g) (m + 1) (.inl ((w.1.2.1.map (fun p => nI p.1)).set a (nI k))) = mh m (sS w (setK1 w.1 a k)) g := mset_a 1 (by decide) (by decide) rfl (by show (w.1.2.1.set a _).map _ = _; rw [List.map_set]) (fun j h1 h2 => by match j, h1, h2 with | 0, _, _ => rfl | 1, _, h => exact absurd rfl h | 2, _, _ => exact map_keep (fun p : PP => nI p.2) w.1.2.1 a (k, (w.1.2.1.getD a (0, 0)).2) (0, 0) rfl | 3, _, _ => rfl | 4, _, _ => rfl | 5, _, _ => rfl | 6, _, _ => rfl | 7, _, _ => rfl | 8, _, _ => rfl | 9, _, _ => rfl | 10, _, _ => rfl | 11, _, _ => rfl | 12, _, _ => rfl | 13, _, _ => rfl | 14, _, _ => rfl | 15, _, _ => rfl | 16, _, _ => rfl | 17, _, _ => rfl | j + 18, h, _ => exact absurd h (by omega))
theorem mset_2 {a k : Nat} : hset (mh m w g) (m + 2) (.inl ((w.1.2.1.map (fun p => nI p.2)).set a (nI k))) = mh m (sS w (setK2 w.1 a k)) g := mset_a 2 (by decide) (by decide) rfl (by show (w.1.2.1.set a _).map _ = _; rw [List.map_set]) (fun j h1 h2 => by match j, h1, h2 with | 0, _, _ => rfl | 1, _, _ => exact map_keep (fun p : PP => nI p.1) w.1.2.1 a ((w.1.2.1.getD a (0, 0)).1, k) (0, 0) rfl | 2, _, h => exact absurd rfl h | 3, _, _ => rfl | 4, _, _ => rfl | 5, _, _ => rfl | 6, _, _ => rfl | 7, _, _ => rfl | 8, _, _ => rfl | 9, _, _ => rfl | 10, _, _ => rfl | 11, _, _ => rfl | 12, _, _ => rfl | 13, _, _ => rfl | 14, _, _ => rfl | 15, _, _ => rfl | 16, _, _ => rfl | 17, _, _ => rfl | j + 18, h, _ => exact absurd h (by omega))
end MH

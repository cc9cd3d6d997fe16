/-! ===== the world of PrayerMatsFace: 78 cells from x on ===== -/
/-- quarters (0 quarter, 1 mind, 2 read, 3 kept, 4.. the stepped ones); the stepped ones' order; refusals, letter, bestMate, row; the int fields by number -/
abbrev XW : Type := (Nat → QX) × List Nat × (List Int32 × List Int32 × List Int32 × List Int32) × (Nat → Int32)
def qo (i : Nat) : Nat := if i < 4 then 2 + 6 * i else 4 + 6 * i
def xobj (x : Nat) (w : XW) : List Value := [.ref (x + 1), .ref (x + qo 0), .ref (x + qo 1), .ref (x + qo 2), .ref (x + qo 3), .int (w.2.2.2 5), .ref (x + 26), .int (w.2.2.2 7), .ref (x + 27), .int (w.2.2.2 9), .ref (x + 76), .int (w.2.2.2 11), .int (w.2.2.2 12), .int (w.2.2.2 13), .ref (x + 77), .int (w.2.2.2 15), .int (w.2.2.2 16)]
def xcell (x : Nat) (w : XW) (k : Nat) : RC :=
  if k = 0 then .inr (.inr (0, xobj x w)) else if k = 1 then .inl w.2.2.1.1 else if k = 26 then .inl w.2.2.1.2.1 else if k = 27 then .inr (.inl (1, w.2.1.map (fun i => some (x + qo i)))) else if k = 76 then .inl w.2.2.1.2.2.1 else if k = 77 then .inl w.2.2.1.2.2.2
  else if k < 26 then qcell (x + qo ((k - 2) / 6)) (w.1 ((k - 2) / 6)) ((k - 2) % 6) else qcell (x + qo (4 + (k - 28) / 6)) (w.1 (4 + (k - 28) / 6)) ((k - 28) % 6)
def xh (x : Nat) (w : XW) (g : RH) : RH := blk x 78 (xcell x w) g
def setq (w : XW) (i : Nat) (X : QX) : XW := (fun j => if j = i then X else w.1 j, w.2)
def setst (w : XW) (l : List Nat) : XW := (w.1, l, w.2.2)
def setra (w : XW) (l : List Int32) : XW := (w.1, w.2.1, (l, w.2.2.1.2), w.2.2.2)
def setle (w : XW) (l : List Int32) : XW := (w.1, w.2.1, (w.2.2.1.1, l, w.2.2.1.2.2), w.2.2.2)
def setbe (w : XW) (l : List Int32) : XW := (w.1, w.2.1, (w.2.2.1.1, w.2.2.1.2.1, l, w.2.2.1.2.2.2), w.2.2.2)
def setro (w : XW) (l : List Int32) : XW := (w.1, w.2.1, (w.2.2.1.1, w.2.2.1.2.1, w.2.2.1.2.2.1, l), w.2.2.2)
def setf (w : XW) (k : Nat) (v : Int32) : XW := (w.1, w.2.1, w.2.2.1, fun j => if j = k then v else w.2.2.2 j)
section XH
variable {x : Nat} {w : XW} {g : RH}
theorem xh_x : xh x w g x = some (.inr (.inr (0, xobj x w))) := blk_in (q := x) (f := xcell x w) 0 (by decide)
theorem xh_ra : xh x w g (x + 1) = some (.inl w.2.2.1.1) := blk_in (q := x) (f := xcell x w) 1 (by decide)
theorem xh_le : xh x w g (x + 26) = some (.inl w.2.2.1.2.1) := blk_in (q := x) (f := xcell x w) 26 (by decide)
theorem xh_st : xh x w g (x + 27) = some (.inr (.inl (1, w.2.1.map (fun i => some (x + qo i))))) := blk_in (q := x) (f := xcell x w) 27 (by decide)
theorem xh_be : xh x w g (x + 76) = some (.inl w.2.2.1.2.2.1) := blk_in (q := x) (f := xcell x w) 76 (by decide)
theorem xh_ro : xh x w g (x + 77) = some (.inl w.2.2.1.2.2.2) := blk_in (q := x) (f := xcell x w) 77 (by decide)
theorem xcell_q (i j : Nat) (hi : i < 12) (hj : j < 6) : xcell x w (qo i + j) = qcell (x + qo i) (w.1 i) j := by
  unfold xcell qo
  by_cases h : i < 4
  · rw [if_pos h, if_neg (by omega), if_neg (by omega), if_neg (by omega), if_neg (by omega), if_neg (by omega), if_neg (by omega), if_pos (by omega)]
    have e1 : (2 + 6 * i + j - 2) / 6 = i := by omega
    have e2 : (2 + 6 * i + j - 2) % 6 = j := by omega
    rw [e1, e2, if_pos h]
  · rw [if_neg h, if_neg (by omega), if_neg (by omega), if_neg (by omega), if_neg (by omega), if_neg (by omega), if_neg (by omega), if_neg (by omega)]
    have e1 : 4 + (4 + 6 * i + j - 28) / 6 = i := by omega
    have e2 : (4 + 6 * i + j - 28) % 6 = j := by omega
    rw [e1, e2, if_neg h]
theorem qo_le {i : Nat} (hi : i < 12) : qo i + 6 ≤ 76 := by
  unfold qo
  split <;> omega
theorem xh_q (i j : Nat) (hi : i < 12) (hj : j < 6) : xh x w g (x + qo i + j) = some (qcell (x + qo i) (w.1 i) j) := by
  have := qo_le hi
  rw [Nat.add_assoc]
  unfold xh
  rw [blk_in (q := x) (f := xcell x w) (qo i + j) (by omega), xcell_q i j hi hj]
theorem xq_self {i : Nat} (hi : i < 12) : qh (x + qo i) (w.1 i) (xh x w g) = xh x w g := blk_self (fun j hj => xh_q i j hi hj)
/-- a cell that is no cell of quarter i -/
theorem xcell_o {i k : Nat} {X : QX} (hi : i < 12) (hk : k < 78) (h : k < qo i ∨ qo i + 6 ≤ k) : xcell x (setq w i X) k = xcell x w k := by
  have hne : ∀ j, j ≠ i → (setq w i X).1 j = w.1 j := fun j hj => if_neg hj
  unfold xcell
  split
  · rfl
  split
  · rfl
  split
  · rfl
  split
  · rfl
  split
  · rfl
  split
  · rfl
  split
  · have : (k - 2) / 6 ≠ i := by
      intro e
      unfold qo at h
      by_cases h4 : i < 4
      · rw [if_pos h4] at h; omega
      · omega
    rw [hne _ this]
  · have : 4 + (k - 28) / 6 ≠ i := by
      intro e
      unfold qo at h
      by_cases h4 : i < 4
      · omega
      · rw [if_neg h4] at h; omega
    rw [hne _ this]
theorem xq_set {i : Nat} {X : QX} (hi : i < 12) : qh (x + qo i) X (xh x w g) = xh x (setq w i X) g := by
  have hq := qo_le hi
  funext a
  by_cases e : x + qo i ≤ a ∧ a < x + qo i + 6
  · have e1 : xh x (setq w i X) g a = some (qcell (x + qo i) X (a - (x + qo i))) := by
      have := xh_q (x := x) (w := setq w i X) (g := g) i (a - (x + qo i)) hi (by omega)
      rw [show x + qo i + (a - (x + qo i)) = a by omega] at this
      rw [this]
      simp [setq]
    rw [e1]
    unfold qh blk
    rw [if_pos e]
  · have e1 : qh (x + qo i) X (xh x w g) a = xh x w g a := by
      unfold qh blk
      rw [if_neg e]
    rw [e1]
    unfold xh blk
    by_cases e2 : x ≤ a ∧ a < x + 78
    · rw [if_pos e2, if_pos e2, xcell_o hi (by omega) (by omega)]
    · rw [if_neg e2, if_neg e2]
theorem setq_at (i : Nat) (X : QX) : (setq w i X).1 i = X := if_pos rfl
theorem setq_ne {i j : Nat} (X : QX) (h : j ≠ i) : (setq w i X).1 j = w.1 j := if_neg h
theorem setq_self (i : Nat) : setq w i (w.1 i) = w := by
  unfold setq
  congr 1
  funext j
  by_cases h : j = i
  · rw [if_pos h, h]
  · rw [if_neg h]
theorem xset_f {k : Nat} {v : Int32} (e : (xobj x w).set k (.int v) = xobj x (setf w k v)) : hset (xh x w g) x (.inr (.inr (0, (xobj x w).set k (.int v)))) = xh x (setf w k v) g := by
  refine blk_set (q := x) 0 (by decide) ?_ (fun j h1 h2 => ?_)
  · unfold xcell
    rw [if_pos rfl, e]
  · unfold xcell
    rw [if_neg h2, if_neg h2]
    rfl
theorem xset_ra (l : List Int32) : hset (xh x w g) (x + 1) (.inl l) = xh x (setra w l) g := by
  refine blk_set (q := x) 1 (by decide) rfl (fun j h1 h2 => ?_)
  unfold xcell
  rw [if_neg h2, if_neg h2]
  rfl
theorem xset_le (l : List Int32) : hset (xh x w g) (x + 26) (.inl l) = xh x (setle w l) g := by
  refine blk_set (q := x) 26 (by decide) rfl (fun j h1 h2 => ?_)
  unfold xcell
  rw [if_neg h2, if_neg h2]
  rfl
theorem xset_st (l : List Nat) : hset (xh x w g) (x + 27) (.inr (.inl (1, l.map (fun i => some (x + qo i))))) = xh x (setst w l) g := by
  refine blk_set (q := x) 27 (by decide) rfl (fun j h1 h2 => ?_)
  unfold xcell
  rw [if_neg h2, if_neg h2]
  rfl
theorem xset_be (l : List Int32) : hset (xh x w g) (x + 76) (.inl l) = xh x (setbe w l) g := by
  refine blk_set (q := x) 76 (by decide) rfl (fun j h1 h2 => ?_)
  unfold xcell
  rw [if_neg h2, if_neg h2]
  rfl
theorem xset_ro (l : List Int32) : hset (xh x w g) (x + 77) (.inl l) = xh x (setro w l) g := by
  refine blk_set (q := x) 77 (by decide) rfl (fun j h1 h2 => ?_)
  unfold xcell
  rw [if_neg h2, if_neg h2]
  rfl
theorem xh_out {a : Nat} (h : a < x ∨ x + 78 ≤ a) : xh x w g a = g a := blk_out h
/-- cells made later lie outside -/
theorem xh_hset {a : Nat} {c : RC} (h : x + 78 ≤ a) : hset (xh x w g) a c = xh x w (hset g a c) := blk_out_set (Or.inr h)
end XH
/-! contracts of Quarter's methods for one of x's quarters -/
section XQ
variable {G : GD} {n x : Nat} {w : XW} {g : RH} {y : MethodName} {cb : ByteArray} {L lv : Nat} {ret : Option FieldType} {av : List Value} {r : Option Value}
theorem x_set {X : QX} (i : Nat) (hi : i < 12) (hC : CtE G y cb L ret lv av n (qh (x + qo i) (w.1 i) (xh x w g)) r (qh (x + qo i) X (xh x w g))) : CtE G y cb L ret lv av n (xh x w g) r (xh x (setq w i X) g) := by
  rw [xq_self hi, xq_set hi] at hC
  exact hC
theorem x_get (i : Nat) (hi : i < 12) (hC : CtE G y cb L ret lv av n (qh (x + qo i) (w.1 i) (xh x w g)) r (qh (x + qo i) (w.1 i) (xh x w g))) : CtE G y cb L ret lv av n (xh x w g) r (xh x w g) := by
  rw [xq_self hi] at hC
  exact hC
theorem xh_qo (i : Nat) (hi : i < 12) : xh x w g (x + qo i) = some (.inr (.inr (1, [.ref (x + qo i + 1), .ref (x + qo i + 3), .ref (x + qo i + 4), .ref (x + qo i + 5), .int (nI (w.1 i).1.2.2.2.2)]))) := xh_q i 0 hi (by decide)
theorem xh_ql (i : Nat) (hi : i < 12) : xh x w g (x + qo i + 1) = some (.inr (.inr (11, [.int (w.1 i).2.2, .ref (x + qo i + 2), .int (nI (w.1 i).2.1.length)]))) := xh_q i 1 hi (by decide)
theorem xh_qe (i : Nat) (hi : i < 12) : xh x w g (x + qo i + 2) = some (.inr (.inl (0, elems (w.1 i).2.1))) := xh_q i 2 hi (by decide)
theorem xh_qh (i : Nat) (hi : i < 12) : xh x w g (x + qo i + 3) = some (.inl ((w.1 i).1.2.1.map nI)) := xh_q i 3 hi (by decide)
theorem xh_qm (i : Nat) (hi : i < 12) : xh x w g (x + qo i + 4) = some (.inl ((w.1 i).1.2.2.1.map mI)) := xh_q i 4 hi (by decide)
theorem xh_qq (i : Nat) (hi : i < 12) : xh x w g (x + qo i + 5) = some (.inl ((w.1 i).1.2.2.2.1.map nI)) := xh_q i 5 hi (by decide)
theorem xset_q {X : QX} {c : RC} (i k : Nat) (hi : i < 12) (e : hset (qh (x + qo i) (w.1 i) (xh x w g)) (x + qo i + k) c = qh (x + qo i) X (xh x w g)) : hset (xh x w g) (x + qo i + k) c = xh x (setq w i X) g := by
  rw [xq_self hi, xq_set hi] at e
  exact e
/-- the people of a quarter, made after x -/
def PO (x : Nat) (g : RH) (pp : List Nat) (P : List PP) : Prop := pp.length = P.length ∧ ∀ i, i < P.length → x + 78 ≤ pp.getD i 0 ∧ g (pp.getD i 0) = some (pcell (P.getD i (0, 0)))
theorem PO.pg {pp : List Nat} {P : List PP} (h : PO x g pp P) : PG (xh x w g) pp P := ⟨h.1, fun i hi => by rw [xh_out (Or.inr (h.2 i hi).1)]; exact (h.2 i hi).2⟩
theorem PO.pgq {pp : List Nat} {P : List PP} (i : Nat) (hi : i < 12) (h : PO x g pp P) : PG (qh (x + qo i) (w.1 i) (xh x w g)) pp P := by
  rw [xq_self hi]
  exact h.pg
/-- the sizes of the twelve quarters -/
def LQ (w : XW) : Prop := ∀ i, i < 12 → LenS (w.1 i).1 ∧ (w.1 i).2.1.length ≤ 6
theorem LQ.setq {i : Nat} {X : QX} (h : LQ w) (h1 : LenS X.1) (h2 : X.2.1.length ≤ 6) : LQ (setq w i X) := by
  intro j hj
  by_cases e : j = i
  · subst e
    rw [setq_at]
    exact ⟨h1, h2⟩
  · rw [setq_ne X e]
    exact h j hj
/-- a quarter of x's that holds a quarter of people -/
def OKX (x : Nat) (g : RH) (X : QX) : Prop := OKS X.1 ∧ PO x g X.2.1 X.1.1
theorem OKS.matI {S : SQ} (h : OKS S) : MatI S := fun a ha b hb => (h.2.2.1 a ha b hb).1
theorem OKX.qk {i : Nat} (hi : i < 12) (h : OKX x g (w.1 i)) : QK (x + qo i) (w.1 i).1 (w.1 i).2.1 (w.1 i).2.2 (xh x w g) := ⟨h.1.1, h.1.2.1, h.1.matI, h.2.pgq i hi⟩
theorem qo_apart {i j : Nat} (h : i ≠ j) : x + qo i + 6 ≤ x + qo j ∨ x + qo j + 6 ≤ x + qo i := by
  unfold qo
  split <;> split <;> omega
/-- quarter i takes quarter j's state -/
def tookX (w : XW) (i j : Nat) : QX := ((w.1 j).1, (w.1 j).2.1, (w.1 i).2.2 + nI (1 + (w.1 j).1.1.length))
theorem x_takes (i j : Nat) (hi : i < 12) (hj : j < 12) (hij : i ≠ j) (hL : LQ w) (hV : ValS (w.1 j).1) (hP : PO x g (w.1 j).2.1 (w.1 j).1.1) : CtE G yX1_takes cX1_takes 3 none 5 [.ref (x + qo i), .ref (x + qo j)] n (xh x w g) none (xh x (setq w i (tookX w i j)) g) := by
  have h0 : qh (x + qo i) (w.1 i) (qh (x + qo j) (w.1 j) (xh x w g)) = xh x w g := by rw [xq_self hj, xq_self hi]
  have k := k_X1_takes (G := G) (n := n) (q := x + qo i) (S := (w.1 i).1) (pp := (w.1 i).2.1) (mc := (w.1 i).2.2) (r := x + qo j) (S' := (w.1 j).1) (pp' := (w.1 j).2.1) (mc' := (w.1 j).2.2) (g := xh x w g) (qo_apart hij) (hL i hi).1 (hL i hi).2 (hL j hj).1 hV (by
    show PG (qh (x + qo i) (w.1 i) (qh (x + qo j) (w.1 j) (xh x w g))) _ _
    rw [h0]; exact hP.pg)
  have h1 : qh (x + qo i) (tookX w i j) (qh (x + qo j) (w.1 j) (xh x w g)) = xh x (setq w i (tookX w i j)) g := by rw [xq_self hj, xq_set hi]
  have h0' : qh (x + qo i) ((w.1 i).1, (w.1 i).2.1, (w.1 i).2.2) (qh (x + qo j) ((w.1 j).1, (w.1 j).2.1, (w.1 j).2.2) (xh x w g)) = xh x w g := h0
  have h1' : qh (x + qo i) ((w.1 j).1, (w.1 j).2.1, (w.1 i).2.2 + nI (1 + (w.1 j).1.1.length)) (qh (x + qo j) ((w.1 j).1, (w.1 j).2.1, (w.1 j).2.2) (xh x w g)) = xh x (setq w i (tookX w i j)) g := h1
  rw [h0', h1'] at k
  exact k
theorem tookX_ok {i j : Nat} (h : OKX x g (w.1 j)) : OKX x g (tookX w i j) := h
end XQ


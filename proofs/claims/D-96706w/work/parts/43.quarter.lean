/-! ===== the plain quarter, and its cells ===== -/
/-- people (kind, figure), hours, mates, quarrels (6 by the one and the other), the day -/
abbrev SQ : Type := List PP × List Nat × List (Option Nat) × List Nat × Nat
def hr (S : SQ) (a : Nat) : Nat := S.2.1.getD a 0
def mt (S : SQ) (a : Nat) : Option Nat := S.2.2.1.getD a none
def qr (S : SQ) (a b : Nat) : Nat := S.2.2.2.1.getD (6 * a + b) 0
def pr (S : SQ) (a : Nat) : PP := S.1.getD a (0, 0)
def LenS (S : SQ) : Prop := S.1.length ≤ 6 ∧ S.2.1.length = 6 ∧ S.2.2.1.length = 6 ∧ S.2.2.2.1.length = 36 ∧ ∀ a b, mt S a = some b → b < 6
def ValS (S : SQ) : Prop := (∀ p ∈ S.1, p.1 < 6 ∧ p.2 < 10) ∧ (∀ x ∈ S.2.1, x ≤ 31) ∧ (∀ x ∈ S.2.2.2.1, x ≤ 99)
/-- mates within the people, each of the other -/
def MatS (S : SQ) : Prop := ∀ a, a < S.1.length → ∀ b, mt S a = some b → b < S.1.length ∧ b ≠ a ∧ mt S b = some a
/-- mates are people -/
def MatI (S : SQ) : Prop := ∀ a, a < S.1.length → ∀ b, mt S a = some b → b < S.1.length
def SymS (S : SQ) : Prop := (∀ a b, a < 6 → b < 6 → qr S a b = qr S b a) ∧ ∀ a, a < 6 → qr S a a = 0
def OKS (S : SQ) : Prop := LenS S ∧ ValS S ∧ MatS S ∧ SymS S
theorem getD_mem_le {l : List Nat} {m i : Nat} (h : ∀ x ∈ l, x ≤ m) : l.getD i 0 ≤ m := by
  rw [List.getD_eq_getElem?_getD]
  cases e : l[i]? with
  | none => exact Nat.zero_le _
  | some x => exact h x (List.mem_of_getElem? e)
theorem vs_hr {S : SQ} (h : ValS S) (a : Nat) : hr S a ≤ 31 := getD_mem_le h.2.1
theorem vs_qr {S : SQ} (h : ValS S) (a b : Nat) : qr S a b ≤ 99 := getD_mem_le h.2.2
theorem vs_pr {S : SQ} (h : ValS S) {a : Nat} (ha : a < S.1.length) : (pr S a).1 < 6 ∧ (pr S a).2 < 10 := by
  unfold pr
  rw [List.getD_eq_getElem?_getD, List.getElem?_eq_getElem ha]
  exact h.1 _ (List.getElem_mem ha)
def setH (S : SQ) (a v : Nat) : SQ := (S.1, S.2.1.set a v, S.2.2.1, S.2.2.2.1, S.2.2.2.2)
def setM (S : SQ) (a : Nat) (v : Option Nat) : SQ := (S.1, S.2.1, S.2.2.1.set a v, S.2.2.2.1, S.2.2.2.2)
def setQ1 (S : SQ) (k v : Nat) : SQ := (S.1, S.2.1, S.2.2.1, S.2.2.2.1.set k v, S.2.2.2.2)
def setQr (S : SQ) (a b v : Nat) : SQ := setQ1 (setQ1 S (6 * a + b) v) (6 * b + a) v
def setD (S : SQ) (v : Nat) : SQ := (S.1, S.2.1, S.2.2.1, S.2.2.2.1, v)
theorem lens_setH {S : SQ} {a v : Nat} (h : LenS S) : LenS (setH S a v) := ⟨h.1, (List.length_set ..).trans h.2.1, h.2.2⟩
theorem mt_setM {S : SQ} {a c : Nat} {v : Option Nat} : mt (setM S a v) c = if c = a ∧ a < S.2.2.1.length then v else mt S c := by
  unfold mt setM
  simp only [List.getD_eq_getElem?_getD, List.getElem?_set]
  by_cases e : a = c
  · subst e
    by_cases e1 : a < S.2.2.1.length
    · simp [e1]
    · simp [e1]
  · simp [e, Ne.symm e]
theorem lens_setM {S : SQ} {a : Nat} {v : Option Nat} (h : LenS S) (hv : ∀ b, v = some b → b < 6) : LenS (setM S a v) := by
  refine ⟨h.1, h.2.1, (List.length_set ..).trans h.2.2.1, h.2.2.2.1, fun c b hc => ?_⟩
  rw [mt_setM] at hc
  split at hc
  · exact hv b hc
  · exact h.2.2.2.2 c b hc
theorem lens_setQ1 {S : SQ} {a v : Nat} (h : LenS S) : LenS (setQ1 S a v) := ⟨h.1, h.2.1, h.2.2.1, (List.length_set ..).trans h.2.2.2.1, h.2.2.2.2⟩
theorem lens_setQr {S : SQ} {a b v : Nat} (h : LenS S) : LenS (setQr S a b v) := lens_setQ1 (lens_setQ1 h)
theorem lens_setD {S : SQ} {v : Nat} (h : LenS S) : LenS (setD S v) := h
/-- one leaves his mat, the other too -/
def leaveS (S : SQ) (a : Nat) : SQ := match mt S a with
  | some b => setM (setM S b none) a none
  | none => S
def joinS (S : SQ) (a b : Nat) : SQ := setM (setM (leaveS (leaveS S a) b) a (some b)) b (some a)
theorem lens_leave {S : SQ} {a : Nat} (h : LenS S) : LenS (leaveS S a) := by
  unfold leaveS
  cases mt S a with
  | none => exact h
  | some b => exact lens_setM (lens_setM h (fun _ e => by cases e)) (fun _ e => by cases e)
theorem lens_join {S : SQ} {a b : Nat} (h : LenS S) (ha : a < 6) (hb : b < 6) : LenS (joinS S a b) := lens_setM (lens_setM (lens_leave (lens_leave h)) (fun _ e => by cases e; exact hb)) (fun _ e => by cases e; exact ha)
/-- a quarter's world: what it is, the addresses of its people, its list's count of changes -/
abbrev QX : Type := SQ × List Nat × Int32
def qcell (q : Nat) (X : QX) : Nat → RC
  | 0 => .inr (.inr (1, [.ref (q + 1), .ref (q + 3), .ref (q + 4), .ref (q + 5), .int (nI X.1.2.2.2.2)]))
  | 1 => .inr (.inr (11, [.int X.2.2, .ref (q + 2), .int (nI X.2.1.length)]))
  | 2 => .inr (.inl (0, elems X.2.1))
  | 3 => .inl (X.1.2.1.map nI)
  | 4 => .inl (X.1.2.2.1.map mI)
  | _ => .inl (X.1.2.2.2.1.map nI)
def qh (q : Nat) (X : QX) (g : RH) : RH := blk q 6 (qcell q X) g
section QH
variable {q : Nat} {X : QX} {g : RH}
theorem qh_o : qh q X g q = some (.inr (.inr (1, [.ref (q + 1), .ref (q + 3), .ref (q + 4), .ref (q + 5), .int (nI X.1.2.2.2.2)]))) := blk_in (q := q) (f := qcell q X) 0 (by decide)
theorem qh_l : qh q X g (q + 1) = some (.inr (.inr (11, [.int X.2.2, .ref (q + 2), .int (nI X.2.1.length)]))) := blk_in (q := q) (f := qcell q X) 1 (by decide)
theorem qh_e : qh q X g (q + 2) = some (.inr (.inl (0, elems X.2.1))) := blk_in (q := q) (f := qcell q X) 2 (by decide)
theorem qh_h : qh q X g (q + 3) = some (.inl (X.1.2.1.map nI)) := blk_in (q := q) (f := qcell q X) 3 (by decide)
theorem qh_m : qh q X g (q + 4) = some (.inl (X.1.2.2.1.map mI)) := blk_in (q := q) (f := qcell q X) 4 (by decide)
theorem qh_q : qh q X g (q + 5) = some (.inl (X.1.2.2.2.1.map nI)) := blk_in (q := q) (f := qcell q X) 5 (by decide)
theorem qh_set {X' : QX} {c : RC} (k : Nat) (hk : k < 6) (h1 : qcell q X' k = c) (h2 : ∀ j, j < 6 → j ≠ k → qcell q X' j = qcell q X j) : hset (qh q X g) (q + k) c = qh q X' g := blk_set k hk h1 h2
end QH
section QH2
variable {q : Nat} {S : SQ} {pp : List Nat} {mc : Int32} {g : RH}
theorem qh_setH (a v : Nat) : hset (qh q (S, pp, mc) g) (q + 3) (.inl ((S.2.1.set a v).map nI)) = qh q (setH S a v, pp, mc) g :=
  qh_set 3 (by decide) rfl (fun j h1 h2 => by match j, h1, h2 with | 0, _, _ => rfl | 1, _, _ => rfl | 2, _, _ => rfl | 3, _, h => exact absurd rfl h | 4, _, _ => rfl | 5, _, _ => rfl)
theorem qh_setM (a : Nat) (v : Option Nat) : hset (qh q (S, pp, mc) g) (q + 4) (.inl ((S.2.2.1.set a v).map mI)) = qh q (setM S a v, pp, mc) g :=
  qh_set 4 (by decide) rfl (fun j h1 h2 => by match j, h1, h2 with | 0, _, _ => rfl | 1, _, _ => rfl | 2, _, _ => rfl | 3, _, _ => rfl | 4, _, h => exact absurd rfl h | 5, _, _ => rfl)
theorem qh_setQ (k v : Nat) : hset (qh q (S, pp, mc) g) (q + 5) (.inl ((S.2.2.2.1.set k v).map nI)) = qh q (setQ1 S k v, pp, mc) g :=
  qh_set 5 (by decide) rfl (fun j h1 h2 => by match j, h1, h2 with | 0, _, _ => rfl | 1, _, _ => rfl | 2, _, _ => rfl | 3, _, _ => rfl | 4, _, _ => rfl | 5, _, h => exact absurd rfl h)
theorem qh_setD (v : Nat) : hset (qh q (S, pp, mc) g) q (.inr (.inr (1, [.ref (q + 1), .ref (q + 3), .ref (q + 4), .ref (q + 5), .int (nI v)]))) = qh q (setD S v, pp, mc) g :=
  qh_set 0 (by decide) rfl (fun j h1 h2 => by match j, h1, h2 with | 0, _, h => exact absurd rfl h | 1, _, _ => rfl | 2, _, _ => rfl | 3, _, _ => rfl | 4, _, _ => rfl | 5, _, _ => rfl)
/-- the people's cells -/
def PG (h : RH) (pp : List Nat) (P : List PP) : Prop := pp.length = P.length ∧ ∀ i, i < P.length → h (pp.getD i 0) = some (pcell (P.getD i (0, 0)))
theorem pcell_q (p : PP) (hp : p.1 < 6) (q : Nat) (X : QX) (j : Nat) (hj : j < 6) : qcell q X j ≠ pcell p := by
  intro e
  match j, hj with
  | 0, _ =>
    have e1 : (1 : Nat) = 5 + p.1 := by injection e with e; injection e with e; injection e
    omega
  | 1, _ =>
    have e1 : (11 : Nat) = 5 + p.1 := by injection e with e; injection e with e; injection e
    omega
  | 2, _ => injection e with e; injection e
  | 3, _ => injection e
  | 4, _ => injection e
  | 5, _ => injection e
/-- a person is no cell of a quarter -/
theorem qh_pers {X X' : QX} {p : PP} {a : Nat} (hp : p.1 < 6) (h : qh q X g a = some (pcell p)) : qh q X' g a = some (pcell p) := by
  unfold qh blk at h ⊢
  by_cases e : q ≤ a ∧ a < q + 6
  · rw [if_pos e] at h
    exact absurd (Option.some.inj h) (pcell_q p hp q X (a - q) (by omega))
  · rw [if_neg e] at h ⊢
    exact h
theorem PG.moved {X X' : QX} {pp : List Nat} {P : List PP} (hv : ∀ p ∈ P, p.1 < 6 ∧ p.2 < 10) (h : PG (qh q X g) pp P) : PG (qh q X' g) pp P := by
  refine ⟨h.1, fun i hi => qh_pers ?_ (h.2 i hi)⟩
  rw [List.getD_eq_getElem?_getD, List.getElem?_eq_getElem hi]
  exact (hv _ (List.getElem_mem hi)).1
end QH2
/-! arrays of plain numbers -/
section JN
variable {G : GD} {z : MZ} {cc : ByteArray} {nL : Nat} {own : String} {lvl mcT msT cells slots pc q n : Nat} {lo : List (Option Value)} {stk : List Value} {h : RH}
theorem r_ialdN (i L : Nat) {a : Nat} {l : List Nat} {x : Int32} (ho : h a = some (.inl (l.map nI))) (hlen : l.length = L) (hx : x = nI i) (hi : i < L) (hb : L ≤ 1000) (d : decode cc pc = .ok (.iaload, 1)) (hq : pc + 1 = q) (kk : J G z cc nL own lvl mcT msT cells slots q lo (.int (nI (l.getD i 0)) :: stk) n h) : J G z cc nL own lvl mcT msT cells slots pc lo (.int x :: .ref a :: stk) n h :=
  r_iald i L ho (by rw [List.length_map]; exact hlen) hx hi hb d hq (by rw [getD_map_nI]; exact kk)
theorem r_ialdM (i L : Nat) {a : Nat} {l : List (Option Nat)} {x : Int32} (ho : h a = some (.inl (l.map mI))) (hlen : l.length = L) (hx : x = nI i) (hi : i < L) (hb : L ≤ 1000) (d : decode cc pc = .ok (.iaload, 1)) (hq : pc + 1 = q) (kk : J G z cc nL own lvl mcT msT cells slots q lo (.int (mI (l.getD i none)) :: stk) n h) : J G z cc nL own lvl mcT msT cells slots pc lo (.int x :: .ref a :: stk) n h :=
  r_iald i L ho (by rw [List.length_map]; exact hlen) hx hi hb d hq (by rw [getD_map_mI _ _ (by omega)]; exact kk)
theorem r_iastN (i L v : Nat) {a : Nat} {l : List Nat} {x y : Int32} (ho : h a = some (.inl (l.map nI))) (hlen : l.length = L) (hx : x = nI i) (hy : y = nI v) (hi : i < L) (hb : L ≤ 1000) (d : decode cc pc = .ok (.iastore, 1)) (hq : pc + 1 = q) (kk : J G z cc nL own lvl mcT msT cells slots q lo stk n (hset h a (.inl ((l.set i v).map nI)))) : J G z cc nL own lvl mcT msT cells slots pc lo (.int y :: .int x :: .ref a :: stk) n h :=
  r_iast i L ho (by rw [List.length_map]; exact hlen) hx hi hb d hq (by rw [hy, ← List.map_set]; exact kk)
theorem r_iastM (i L : Nat) (v : Option Nat) {a : Nat} {l : List (Option Nat)} {x y : Int32} (ho : h a = some (.inl (l.map mI))) (hlen : l.length = L) (hx : x = nI i) (hy : y = mI v) (hi : i < L) (hb : L ≤ 1000) (d : decode cc pc = .ok (.iastore, 1)) (hq : pc + 1 = q) (kk : J G z cc nL own lvl mcT msT cells slots q lo stk n (hset h a (.inl ((l.set i v).map mI)))) : J G z cc nL own lvl mcT msT cells slots pc lo (.int y :: .int x :: .ref a :: stk) n h :=
  r_iast i L ho (by rw [List.length_map]; exact hlen) hx hi hb d hq (by rw [hy, ← List.map_set]; exact kk)
end JN
/-! ===== Quarter's methods ===== -/
section QM
variable {G : GD} {n : Nat} {q : Nat} {S : SQ} {pp : List Nat} {mc : Int32} {g : RH}
theorem k_X1_many (hp : pp.length = S.1.length) : CtE G yX1_many cX1_many 1 (some .int) 2 [.ref q] n (qh q (S, pp, mc) g) (some (.int (nI S.1.length))) (qh q (S, pp, mc) g) := by
  refine Ct.intro (k := 0) [some (.ref q)] (by decide) (Nat.le_of_ble_eq_true rfl) rfl fun z hz hin => ?_
  refine r_aload_0 (q := 1) dX1_many_0 rfl ?_
  refine r_get gf_X1_14_1 qh_o rfl (q := 4) dX1_many_1 rfl ?_
  refine r_callV_0 cv_X1_33 qh_l rfl (by decide) (Nat.le_of_ble_eq_true rfl) ⟨Nat.le_refl _, Nat.le_refl _⟩ (k_J2_size qh_l) (q := 7) dX1_many_4 rfl ?_
  rw [← hp] at hz
  exact r_iret hz dX1_many_7 (Nat.le_refl _) (Nat.le_refl _) ⟨rfl, rfl, rfl⟩
theorem k_X1_between {a b : Nat} (hL : LenS S) (ha : a < 6) (hb : b < 6) : CtE G yX1_between cX1_between 3 (some .int) 1 [.ref q, .int (nI a), .int (nI b)] n (qh q (S, pp, mc) g) (some (.int (nI (qr S a b)))) (qh q (S, pp, mc) g) := by
  refine Ct.intro (k := 0) [some (.ref q), some (.int (nI a)), some (.int (nI b))] (by decide) (Nat.le_of_ble_eq_true rfl) rfl fun z hz hin => ?_
  refine r_aload_0 (q := 1) dX1_between_0 rfl ?_
  refine r_get gf_X1_27_1 qh_o rfl (q := 4) dX1_between_1 rfl ?_
  refine r_bipush 6 (by decide) (q := 6) dX1_between_4 rfl ?_
  refine r_iload_1 (q := 7) dX1_between_6 rfl ?_
  refine r_imul (q := 8) dX1_between_7 rfl ?_
  refine r_iload_2 (q := 9) dX1_between_8 rfl ?_
  refine r_iadd (q := 10) dX1_between_9 rfl ?_
  refine r_ialdN (6 * a + b) 36 qh_q hL.2.2.2.1 (ix6 a b) (by omega) (by decide) (q := 11) dX1_between_10 rfl ?_
  exact r_iret hz dX1_between_11 (Nat.le_refl _) (Nat.le_refl _) ⟨rfl, rfl, rfl⟩
theorem k_X1_quarrels {a b v : Nat} (hL : LenS S) (ha : a < 6) (hb : b < 6) : CtE G yX1_quarrels cX1_quarrels 4 none 1 [.ref q, .int (nI a), .int (nI b), .int (nI v)] n (qh q (S, pp, mc) g) none (qh q (setQr S a b v, pp, mc) g) := by
  refine Ct.intro (k := 0) [some (.ref q), some (.int (nI a)), some (.int (nI b)), some (.int (nI v))] (by decide) (Nat.le_of_ble_eq_true rfl) rfl fun z hz hin => ?_
  refine r_aload_0 (q := 1) dX1_quarrels_0 rfl ?_
  refine r_get gf_X1_27_1 qh_o rfl (q := 4) dX1_quarrels_1 rfl ?_
  refine r_bipush 6 (by decide) (q := 6) dX1_quarrels_4 rfl ?_
  refine r_iload_1 (q := 7) dX1_quarrels_6 rfl ?_
  refine r_imul (q := 8) dX1_quarrels_7 rfl ?_
  refine r_iload_2 (q := 9) dX1_quarrels_8 rfl ?_
  refine r_iadd (q := 10) dX1_quarrels_9 rfl ?_
  refine r_iload_3 (q := 11) dX1_quarrels_10 rfl ?_
  refine r_iastN (6 * a + b) 36 v qh_q hL.2.2.2.1 (ix6 a b) rfl (by omega) (by decide) (q := 12) dX1_quarrels_11 rfl ?_
  rw [qh_setQ]
  refine r_aload_0 (q := 13) dX1_quarrels_12 rfl ?_
  refine r_get gf_X1_27_1 qh_o rfl (q := 16) dX1_quarrels_13 rfl ?_
  refine r_bipush 6 (by decide) (q := 18) dX1_quarrels_16 rfl ?_
  refine r_iload_2 (q := 19) dX1_quarrels_18 rfl ?_
  refine r_imul (q := 20) dX1_quarrels_19 rfl ?_
  refine r_iload_1 (q := 21) dX1_quarrels_20 rfl ?_
  refine r_iadd (q := 22) dX1_quarrels_21 rfl ?_
  refine r_iload_3 (q := 23) dX1_quarrels_22 rfl ?_
  refine r_iastN (6 * b + a) 36 v qh_q (lens_setQ1 hL).2.2.2.1 (ix6 b a) rfl (by omega) (by decide) (q := 24) dX1_quarrels_23 rfl ?_
  rw [qh_setQ]
  exact r_vret hz dX1_quarrels_24 (Nat.le_refl _) (Nat.le_refl _) ⟨rfl, rfl, rfl⟩
theorem k_X1_person {i : Nat} (hL : LenS S) (hV : ValS S) (hP : PG (qh q (S, pp, mc) g) pp S.1) (hi : i < S.1.length) : CtE G yX1_person cX1_person 2 (some (.object "PrayerMatsFace$Person")) 4 [.ref q, .int (nI i)] n (qh q (S, pp, mc) g) (some (.ref (pp.getD i 0))) (qh q (S, pp, mc) g) := by
  refine Ct.intro (k := 0) [some (.ref q), some (.int (nI i))] (by decide) (Nat.le_of_ble_eq_true rfl) rfl fun z hz hin => ?_
  have h6 : pp.length ≤ 6 := by rw [hP.1]; exact hL.1
  refine r_aload_0 (q := 1) dX1_person_0 rfl ?_
  refine r_get gf_X1_14_1 qh_o rfl (q := 4) dX1_person_1 rfl ?_
  refine r_iload_1 (q := 5) dX1_person_4 rfl ?_
  refine r_callV_1 cv_X1_55 qh_l rfl (by decide) (Nat.le_of_ble_eq_true rfl) ⟨Nat.le_refl _, Nat.le_refl _⟩ (k_J2_get qh_l qh_e (elems_len h6) h6 (by rw [hP.1]; exact hi) (elems_get (by rw [hP.1]; exact hi))) (q := 8) dX1_person_5 rfl ?_
  have hc := hP.2 i hi
  obtain ⟨hk, hf⟩ := vs_pr hV hi
  have hend : J G z cX1_person 2 RX1 4 0 0 0 0 11 [some (.ref q), some (.int (nI i))] [.ref (pp.getD i 0)] n (qh q (S, pp, mc) g) := by
    exact r_aret hz (Or.inr ⟨_, rfl⟩) dX1_person_11 (Nat.le_refl _) (Nat.le_refl _) ⟨rfl, rfl, rfl⟩
  show J G z cX1_person 2 RX1 4 0 0 0 0 8 [some (.ref q), some (.int (nI i))] [.ref (pp.getD i 0)] n (qh q (S, pp, mc) g)
  have hc : qh q (S, pp, mc) g (pp.getD i 0) = some (pcell (pr S i)) := hc
  generalize pr S i = p at hc hk hf
  obtain ⟨k, f⟩ := p
  match k, hk with
  | 0, _ => exact r_castS (nm := RX5) q272 rfl hc dX1_person_8 rfl hend
  | 1, _ => exact r_castY (ci := 6) (C := RX6) q272 rfl q1515 hc dX1_person_8 rfl hend
  | 2, _ => exact r_castY (ci := 7) (C := RX7) q272 rfl q1513 hc dX1_person_8 rfl hend
  | 3, _ => exact r_castY (ci := 8) (C := RX8) q272 rfl q1516 hc dX1_person_8 rfl hend
  | 4, _ => exact r_castY (ci := 9) (C := RX9) q272 rfl q1514 hc dX1_person_8 rfl hend
  | 5, _ => exact r_castY (ci := 10) (C := RX10) q272 rfl q1512 hc dX1_person_8 rfl hend
theorem k_X1_parts {a : Nat} (hL : LenS S) (ha : a < 6) : CtE G yX1_parts cX1_parts 2 none 1 [.ref q, .int (nI a)] n (qh q (S, pp, mc) g) none (qh q (leaveS S a, pp, mc) g) := by
  refine Ct.intro (k := 0) [some (.ref q), some (.int (nI a))] (by decide) (Nat.le_of_ble_eq_true rfl) rfl fun z hz hin => ?_
  refine r_aload_0 (q := 1) dX1_parts_0 rfl ?_
  refine r_get gf_X1_24_1 qh_o rfl (q := 4) dX1_parts_1 rfl ?_
  refine r_iload_1 (q := 5) dX1_parts_4 rfl ?_
  refine r_ialdM a 6 qh_m hL.2.2.1 rfl ha (by decide) (q := 6) dX1_parts_5 rfl ?_
  show J G z cX1_parts 2 RX1 1 0 0 0 0 6 [some (.ref q), some (.int (nI a))] [.int (mI (mt S a))] n (qh q (S, pp, mc) g)
  cases e : mt S a with
  | none =>
    have e1 : leaveS S a = S := by unfold leaveS; rw [e]
    rw [e1] at hz
    refine r_if_ge (q := 9) (tgt := 10) dX1_parts_6 rfl rfl (fun c6 => ?_) (fun c6 => ?_)
    · exact absurd c6 (by decide)
    · exact r_vret hz dX1_parts_9 (Nat.le_refl _) (Nat.le_refl _) ⟨rfl, rfl, rfl⟩
  | some b =>
    have e1 : leaveS S a = setM (setM S b none) a none := by unfold leaveS; rw [e]
    rw [e1] at hz
    have hb := hL.2.2.2.2 a b e
    refine r_if_ge (q := 9) (tgt := 10) dX1_parts_6 rfl rfl (fun c6 => ?_) (fun c6 => ?_)
    · refine r_aload_0 (q := 11) dX1_parts_10 rfl ?_
      refine r_get gf_X1_24_1 qh_o rfl (q := 14) dX1_parts_11 rfl ?_
      refine r_aload_0 (q := 15) dX1_parts_14 rfl ?_
      refine r_get gf_X1_24_1 qh_o rfl (q := 18) dX1_parts_15 rfl ?_
      refine r_iload_1 (q := 19) dX1_parts_18 rfl ?_
      refine r_ialdM a 6 qh_m hL.2.2.1 rfl ha (by decide) (q := 20) dX1_parts_19 rfl ?_
      refine r_bipush (-9) (by decide) (q := 22) dX1_parts_20 rfl ?_
      refine r_iastM b 6 none qh_m hL.2.2.1 (congrArg mI e) rfl hb (by decide) (q := 23) dX1_parts_22 rfl ?_
      rw [qh_setM]
      refine r_aload_0 (q := 24) dX1_parts_23 rfl ?_
      refine r_get gf_X1_24_1 qh_o rfl (q := 27) dX1_parts_24 rfl ?_
      refine r_iload_1 (q := 28) dX1_parts_27 rfl ?_
      refine r_bipush (-9) (by decide) (q := 30) dX1_parts_28 rfl ?_
      refine r_iastM a 6 none qh_m (lens_setM hL (fun _ e => by cases e)).2.2.1 rfl rfl ha (by decide) (q := 31) dX1_parts_30 rfl ?_
      rw [qh_setM]
      exact r_vret hz dX1_parts_31 (Nat.le_refl _) (Nat.le_refl _) ⟨rfl, rfl, rfl⟩
    · exact absurd (nI_pos' (by omega)) c6
theorem k_X1_joins {a b : Nat} (hL : LenS S) (ha : a < 6) (hb : b < 6) : CtE G yX1_joins cX1_joins 3 none 2 [.ref q, .int (nI a), .int (nI b)] n (qh q (S, pp, mc) g) none (qh q (joinS S a b, pp, mc) g) := by
  refine Ct.intro (k := 0) [some (.ref q), some (.int (nI a)), some (.int (nI b))] (by decide) (Nat.le_of_ble_eq_true rfl) rfl fun z hz hin => ?_
  refine r_aload_0 (q := 1) dX1_joins_0 rfl ?_
  refine r_iload_1 (q := 2) dX1_joins_1 rfl ?_
  refine r_callVv_1 cv_X1_68 qh_o rfl (by decide) (Nat.le_of_ble_eq_true rfl) ⟨Nat.le_refl _, Nat.le_refl _⟩ (k_X1_parts hL ha) (q := 5) dX1_joins_2 rfl ?_
  refine r_aload_0 (q := 6) dX1_joins_5 rfl ?_
  refine r_iload_2 (q := 7) dX1_joins_6 rfl ?_
  refine r_callVv_1 cv_X1_68 qh_o rfl (by decide) (Nat.le_of_ble_eq_true rfl) ⟨Nat.le_refl _, Nat.le_refl _⟩ (k_X1_parts (lens_leave hL) hb) (q := 10) dX1_joins_7 rfl ?_
  refine r_aload_0 (q := 11) dX1_joins_10 rfl ?_
  refine r_get gf_X1_24_1 qh_o rfl (q := 14) dX1_joins_11 rfl ?_
  refine r_iload_1 (q := 15) dX1_joins_14 rfl ?_
  refine r_iload_2 (q := 16) dX1_joins_15 rfl ?_
  refine r_iastM a 6 (some b) qh_m (lens_leave (lens_leave hL)).2.2.1 rfl rfl ha (by decide) (q := 17) dX1_joins_16 rfl ?_
  rw [qh_setM]
  refine r_aload_0 (q := 18) dX1_joins_17 rfl ?_
  refine r_get gf_X1_24_1 qh_o rfl (q := 21) dX1_joins_18 rfl ?_
  refine r_iload_2 (q := 22) dX1_joins_21 rfl ?_
  refine r_iload_1 (q := 23) dX1_joins_22 rfl ?_
  refine r_iastM b 6 (some a) qh_m (lens_setM (lens_leave (lens_leave hL)) (fun _ e => by cases e; exact hb)).2.2.1 rfl rfl hb (by decide) (q := 24) dX1_joins_23 rfl ?_
  rw [qh_setM]
  exact r_vret hz dX1_joins_24 (Nat.le_refl _) (Nat.le_refl _) ⟨rfl, rfl, rfl⟩
end QM


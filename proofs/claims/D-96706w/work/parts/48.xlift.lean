/-! ===== Quarter's methods for the quarters of x ===== -/
/-- from a up to N -/
theorem upto {P : Nat → Prop} (N : Nat) (done : P N) (step : ∀ a, a < N → P (a + 1) → P a) (a : Nat) (h : a ≤ N) : P a := by
  have : ∀ c a, a + c = N → P a := by
    intro c
    induction c with
    | zero => intro a e; rw [show a = N by omega]; exact done
    | succ c ih => intro a e; exact step a (by omega) (ih (a + 1) (by omega))
  exact this (N - a) a (by omega)
/-- a loop that carries s: what is left to do is a fold -/
theorem forJ {σ : Type} {f : Nat → σ → σ} (N : Nat) (I : σ → Prop) (P : Nat → σ → Prop) {a0 : Nat} {s0 : σ} (hN : a0 ≤ N) (h0 : I s0) (done : ∀ s, I s → s = forR f a0 (N - a0) s0 → P N s) (step : ∀ a s, a0 ≤ a → a < N → I s → I (f a s) ∧ (P (a + 1) (f a s) → P a s)) : P a0 s0 := by
  have : ∀ c a s, a0 ≤ a → a + c = N → I s → forR f a c s = forR f a0 (N - a0) s0 → P a s := by
    intro c
    induction c with
    | zero => intro a s h1 h2 h3 h4; rw [show a = N by omega]; exact done s h3 h4
    | succ c ih =>
      intro a s h1 h2 h3 h4
      obtain ⟨p, q⟩ := step a s h1 (by omega) h3
      exact q (ih (a + 1) _ (by omega) (by omega) p h4)
  exact this (N - a0) a0 s0 (Nat.le_refl _) (by omega) h0 rfl
theorem nI_not_lt {a b : Nat} (h : a < b) (hb : b < 2 ^ 30) : ¬ nI b ≤ nI a := nI_ge h (by omega)
/-- cells that are there have addresses below n -/
theorem J.fresh {G : GD} {z : MZ} {cc : ByteArray} {nL : Nat} {own : String} {lvl mcT msT cells slots pc n : Nat} {lo : List (Option Value)} {stk : List Value} {h : RH} (k : (∀ a c, h a = some c → a < n) → J G z cc nL own lvl mcT msT cells slots pc lo stk n h) : J G z cc nL own lvl mcT msT cells slots pc lo stk n h := by
  obtain ⟨p, e, R, s, m, args, below, meth, c, Q⟩ := z
  intro S K hA hL hR ls H locs hl hn hP hS
  refine k (fun a c hc => ?_) S K hA hL hR ls H locs hl hn hP hS
  rw [← hn]
  exact hP.lt hc
section XL
variable {G : GD} {n x : Nat} {w : XW} {g : RH} {X Y : QX}
theorem setq_setq (i : Nat) : setq (setq w i X) i Y = setq w i Y := by
  unfold setq
  congr 1
  funext j
  by_cases h : j = i
  · rw [if_pos h, if_pos h]
  · rw [if_neg h, if_neg h]; exact if_neg h
theorem setq_comm {i j : Nat} (h : i ≠ j) : setq (setq w i X) j Y = setq (setq w j Y) i X := by
  unfold setq
  congr 1
  funext k
  by_cases h1 : k = j
  · subst h1
    simp [Ne.symm h]
  · simp [h1]
/-- what the Quarter's methods ask of one of x's quarters -/
def KX (x : Nat) (g : RH) (X : QX) : Prop := LenS X.1 ∧ ValS X.1 ∧ MatI X.1 ∧ PO x g X.2.1 X.1.1
theorem OKX.kx (h : OKX x g X) : KX x g X := ⟨h.1.1, h.1.2.1, h.1.matI, h.2⟩
theorem KX.qk {i : Nat} (hi : i < 12) (h : KX x g (w.1 i)) : QK (x + qo i) (w.1 i).1 (w.1 i).2.1 (w.1 i).2.2 (xh x w g) := ⟨h.1, h.2.1, h.2.2.1, h.2.2.2.pgq i hi⟩
theorem KX.l6 (h : KX x g X) : X.1.1.length ≤ 6 := h.1.1
theorem KX.pl (h : KX x g X) : X.2.1.length = X.1.1.length := h.2.2.2.1
theorem KX.pl6 (h : KX x g X) : X.2.1.length ≤ 6 := by rw [h.pl]; exact h.l6
theorem KX.mt6 (h : KX x g X) {a b : Nat} (e : mt X.1 a = some b) : b < 6 := h.1.2.2.2.2 a b e
/-- another state of the same people -/
theorem KX.of {S' : SQ} (h : KX x g X) (h1 : S'.1 = X.1.1) (hL : LenS S') (hV : ValS S') (hI : MatI S') : KX x g (S', X.2) := ⟨hL, hV, hI, by show PO x g X.2.1 S'.1; rw [h1]; exact h.2.2.2⟩
theorem KX.goes (h : KX x g X) : KX x g (goesS X.1, X.2) := h.of (goesS_fr _).1 (goesS_lens h.1) (goesS_vals h.2.1) (h.2.2.1.of (goesS_fr _).1 (goesS_fr _).2.2)
theorem KX.hour {hh : Nat} (h : KX x g X) : KX x g (hourS hh X.1, X.2) := h.of (hourS_fr _ _).1 (hourS_lens h.1) (hourS_vals h.2.1) (h.2.2.1.of (hourS_fr _ _).1 (hourS_fr _ _).2.2)
theorem daysS_fr : ∀ (m : Nat) (S : SQ), fr4 S (daysS m S)
  | 0, _ => ⟨rfl, rfl, rfl⟩
  | m + 1, S => (goesS_fr S).trans (daysS_fr m (goesS S))
theorem daysS_lens : ∀ (m : Nat) {S : SQ}, LenS S → LenS (daysS m S)
  | 0, _, h => h
  | m + 1, _, h => daysS_lens m (goesS_lens h)
theorem daysS_vals : ∀ (m : Nat) {S : SQ}, ValS S → ValS (daysS m S)
  | 0, _, h => h
  | m + 1, _, h => daysS_vals m (goesS_vals h)
theorem KX.days {m : Nat} (h : KX x g X) : KX x g (daysS m X.1, X.2) := h.of (daysS_fr _ _).1 (daysS_lens _ h.1) (daysS_vals _ h.2.1) (h.2.2.1.of (daysS_fr _ _).1 (daysS_fr _ _).2.2)
theorem KX.setQr {a b v : Nat} (h : KX x g X) (hv : v ≤ 99) : KX x g (setQr X.1 a b v, X.2) := h.of rfl (lens_setQr h.1) (vals_setQr h.2.1 hv) (h.2.2.1.of rfl rfl)
theorem KX.setH {a v : Nat} (h : KX x g X) (hv : v ≤ 31) : KX x g (setH X.1 a v, X.2) := h.of rfl (lens_setH h.1) (vals_setH h.2.1 hv) (h.2.2.1.of rfl rfl)
theorem leaveS_fr (S : SQ) (a : Nat) : (leaveS S a).1 = S.1 ∧ (leaveS S a).2.1 = S.2.1 ∧ (leaveS S a).2.2.2 = S.2.2.2 := by
  unfold leaveS
  split <;> exact ⟨rfl, rfl, rfl⟩
theorem joinS_fr (S : SQ) (a b : Nat) : (joinS S a b).1 = S.1 ∧ (joinS S a b).2.1 = S.2.1 ∧ (joinS S a b).2.2.2 = S.2.2.2 := by
  have h1 := leaveS_fr S a
  have h2 := leaveS_fr (leaveS S a) b
  unfold joinS
  exact ⟨h2.1.trans h1.1, h2.2.1.trans h1.2.1, h2.2.2.trans h1.2.2⟩
theorem ValS.of {S S' : SQ} (h : ValS S) (h1 : S'.1 = S.1) (h2 : S'.2.1 = S.2.1) (h3 : S'.2.2.2 = S.2.2.2) : ValS S' := by
  unfold ValS
  rw [h1, h2, h3]
  exact h
theorem mati_setM {S : SQ} {a : Nat} {v : Option Nat} (h : MatI S) (hv : ∀ b, v = some b → b < S.1.length) : MatI (setM S a v) := by
  intro c hc b hb
  rw [mt_setM] at hb
  split at hb
  · exact hv b hb
  · exact h c hc b hb
theorem mati_leave {S : SQ} {a : Nat} (h : MatI S) : MatI (leaveS S a) := by
  unfold leaveS
  split
  · exact mati_setM (mati_setM h (fun _ e => by cases e)) (fun _ e => by cases e)
  · exact h
theorem mati_join {S : SQ} {a b : Nat} (h : MatI S) (ha : a < S.1.length) (hb : b < S.1.length) : MatI (joinS S a b) := by
  have h1 := leaveS_fr S a
  have h2 := leaveS_fr (leaveS S a) b
  have e : (leaveS (leaveS S a) b).1 = S.1 := h2.1.trans h1.1
  unfold joinS
  refine mati_setM (mati_setM (mati_leave (mati_leave h)) (fun c e1 => ?_)) (fun c e1 => ?_)
  · cases e1; rw [e]; exact hb
  · cases e1; show a < (leaveS (leaveS S a) b).1.length; rw [e]; exact ha
theorem KX.leave {a : Nat} (h : KX x g X) : KX x g (leaveS X.1 a, X.2) := h.of (leaveS_fr _ _).1 (lens_leave h.1) (h.2.1.of (leaveS_fr _ _).1 (leaveS_fr _ _).2.1 (leaveS_fr _ _).2.2) (mati_leave h.2.2.1)
theorem KX.join {a b : Nat} (h : KX x g X) (ha : a < X.1.1.length) (hb : b < X.1.1.length) : KX x g (joinS X.1 a b, X.2) := h.of (joinS_fr _ _ _).1 (lens_join h.1 (Nat.lt_of_lt_of_le ha h.l6) (Nat.lt_of_lt_of_le hb h.l6)) (h.2.1.of (joinS_fr _ _ _).1 (joinS_fr _ _ _).2.1 (joinS_fr _ _ _).2.2) (mati_join h.2.2.1 ha hb)
theorem KX.setM {a : Nat} {v : Option Nat} (h : KX x g X) (hv : ∀ b, v = some b → b < X.1.1.length) : KX x g (setM X.1 a v, X.2) := h.of rfl (lens_setM h.1 (fun b e => Nat.lt_of_lt_of_le (hv b e) h.l6)) (h.2.1.of rfl rfl rfl) (mati_setM h.2.2.1 hv)
theorem KX.took {i j : Nat} (h : KX x g (w.1 j)) : KX x g (tookX w i j) := h
/-! what asks only -/
theorem x_many (i : Nat) (hi : i < 12) (h : KX x g Y) (e : w.1 i = Y) : CtE G yX1_many cX1_many 1 (some FieldType.int) 2 [.ref (x + qo i)] n (xh x w g) (some (.int (nI Y.1.1.length))) (xh x w g) := by
  subst e
  exact x_get i hi (k_X1_many h.pl)
theorem x_between {a b : Nat} (i : Nat) (hi : i < 12) (h : KX x g Y) (e : w.1 i = Y) (ha : a < 6) (hb : b < 6) : CtE G yX1_between cX1_between 3 (some FieldType.int) 1 [.ref (x + qo i), .int (nI a), .int (nI b)] n (xh x w g) (some (.int (nI (qr Y.1 a b)))) (xh x w g) := by
  subst e
  exact x_get i hi (k_X1_between h.1 ha hb)
theorem x_person {a : Nat} (i : Nat) (hi : i < 12) (h : KX x g Y) (e : w.1 i = Y) (ha : a < Y.1.1.length) : CtE G yX1_person cX1_person 2 (some (FieldType.object "PrayerMatsFace$Person")) 4 [.ref (x + qo i), .int (nI a)] n (xh x w g) (some (.ref (Y.2.1.getD a 0))) (xh x w g) := by
  subst e
  exact x_get i hi (k_X1_person h.1 h.2.1 (h.2.2.2.pgq i hi) ha)
theorem x_likes {a b : Nat} (i : Nat) (hi : i < 12) (h : KX x g Y) (e : w.1 i = Y) (ha : a < Y.1.1.length) (hb : b < Y.1.1.length) : CtE G yX1_likes cX1_likes 3 (some FieldType.int) 5 [.ref (x + qo i), .int (nI a), .int (nI b)] n (xh x w g) (some (.int (likS Y.1 a b))) (xh x w g) := by
  subst e
  exact x_get i hi (k_X1_likes (h.qk hi) ha hb)
theorem x_wouldRather {a b : Nat} (i : Nat) (hi : i < 12) (h : KX x g Y) (e : w.1 i = Y) (ha : a < Y.1.1.length) (hb : b < Y.1.1.length) : CtE G yX1_wouldRather cX1_wouldRather 3 (some FieldType.boolean) 6 [.ref (x + qo i), .int (nI a), .int (nI b)] n (xh x w g) (some (.int (bI (wouldS Y.1 a b)))) (xh x w g) := by
  subst e
  exact x_get i hi (k_X1_wouldRather (h.qk hi) ha hb)
theorem x_doLeave {a b : Nat} (i : Nat) (hi : i < 12) (h : KX x g Y) (e : w.1 i = Y) (ha : a < Y.1.1.length) (hb : b < Y.1.1.length) : CtE G yX1_doLeave cX1_doLeave 3 (some FieldType.boolean) 7 [.ref (x + qo i), .int (nI a), .int (nI b)] n (xh x w g) (some (.int (bI (leavS Y.1 a b)))) (xh x w g) := by
  subst e
  exact x_get i hi (k_X1_doLeave (h.qk hi) ha hb)
theorem x_isRid {a : Nat} (i : Nat) (hi : i < 12) (h : KX x g Y) (e : w.1 i = Y) (ha : a < Y.1.1.length) : CtE G yX1_isRid cX1_isRid 2 (some FieldType.boolean) 6 [.ref (x + qo i), .int (nI a)] n (xh x w g) (some (.int (bI (ridS Y.1 a)))) (xh x w g) := by
  subst e
  exact x_get i hi (k_X1_isRid (h.qk hi) ha)
theorem x_all (i : Nat) (hi : i < 12) (h : KX x g Y) (e : w.1 i = Y) : CtE G yX1_all cX1_all 4 (some FieldType.int) 3 [.ref (x + qo i)] n (xh x w g) (some (.int (allS Y.1))) (xh x w g) := by
  subst e
  exact x_get i hi (k_X1_all h.1 h.pl)
theorem x_mended (i : Nat) (hi : i < 12) (h : KX x g Y) (e : w.1 i = Y) : CtE G yX1_mended cX1_mended 4 (some FieldType.int) 3 [.ref (x + qo i)] n (xh x w g) (some (.int (zerosS Y.1))) (xh x w g) := by
  subst e
  exact x_get i hi (k_X1_mended h.1 h.pl h.2.1)
theorem x_mats (i : Nat) (hi : i < 12) (h : KX x g Y) (e : w.1 i = Y) : CtE G yX1_mats cX1_mats 3 (some FieldType.int) 3 [.ref (x + qo i)] n (xh x w g) (some (.int (matsS Y.1))) (xh x w g) := by
  subst e
  exact x_get i hi (k_X1_mats h.1 h.pl)
theorem x_allLikes (i : Nat) (hi : i < 12) (h : KX x g Y) (e : w.1 i = Y) : CtE G yX1_allLikes cX1_allLikes 3 (some FieldType.int) 6 [.ref (x + qo i)] n (xh x w g) (some (.int (alikS Y.1))) (xh x w g) := by
  subst e
  exact x_get i hi (k_X1_allLikes (h.qk hi))
theorem x_isStable (i : Nat) (hi : i < 12) (h : KX x g Y) (e : w.1 i = Y) : CtE G yX1_isStable cX1_isStable 3 (some FieldType.boolean) 8 [.ref (x + qo i)] n (xh x w g) (some (.int (bI (stabS Y.1)))) (xh x w g) := by
  subst e
  exact x_get i hi (k_X1_isStable (h.qk hi))
/-! what changes one -/
theorem m_set {y : MethodName} {cb : ByteArray} {L lv : Nat} {ret : Option FieldType} {av : List Value} {r : Option Value} (i : Nat) (hi : i < 12) (hC : CtE G y cb L ret lv av n (qh (x + qo i) X (xh x (setq w i X) g)) r (qh (x + qo i) Y (xh x (setq w i X) g))) : CtE G y cb L ret lv av n (xh x (setq w i X) g) r (xh x (setq w i Y) g) := by
  have e := xq_self (x := x) (w := setq w i X) (g := g) hi
  rw [setq_at] at e
  rw [e, xq_set hi, setq_setq] at hC
  exact hC
theorem KX.mk (i : Nat) (hi : i < 12) (h : KX x g X) : QK (x + qo i) X.1 X.2.1 X.2.2 (xh x (setq w i X) g) := by
  have e := KX.qk (w := setq w i X) hi (by rw [setq_at]; exact h)
  rw [setq_at] at e
  exact e
theorem m_goes (i : Nat) (hi : i < 12) (h : KX x g X) : CtE G yX1_goes cX1_goes 2 none 7 [.ref (x + qo i)] n (xh x (setq w i X) g) none (xh x (setq w i (goesS X.1, X.2)) g) := m_set i hi (k_X1_goes (h.mk i hi))
theorem m_goesOn {m : Nat} (i : Nat) (hi : i < 12) (h : KX x g X) (hm : m < 2 ^ 30) : CtE G yX1_goesOn cX1_goesOn 3 none 8 [.ref (x + qo i), .int (nI m)] n (xh x (setq w i X) g) none (xh x (setq w i (daysS m X.1, X.2)) g) := m_set i hi (k_X1_goesOn (h.mk i hi) hm)
theorem m_hour {hh : Nat} (i : Nat) (hi : i < 12) (h : KX x g X) (hm : hh < 8) : CtE G yX1_hour cX1_hour 3 none 6 [.ref (x + qo i), .int (nI hh)] n (xh x (setq w i X) g) none (xh x (setq w i (hourS hh X.1, X.2)) g) := m_set i hi (k_X1_hour (h.mk i hi) hm)
theorem m_quarrels {a b v : Nat} (i : Nat) (hi : i < 12) (h : KX x g X) (ha : a < 6) (hb : b < 6) : CtE G yX1_quarrels cX1_quarrels 4 none 1 [.ref (x + qo i), .int (nI a), .int (nI b), .int (nI v)] n (xh x (setq w i X) g) none (xh x (setq w i (setQr X.1 a b v, X.2)) g) := m_set i hi (k_X1_quarrels h.1 ha hb)
theorem m_parts {a : Nat} (i : Nat) (hi : i < 12) (h : KX x g X) (ha : a < 6) : CtE G yX1_parts cX1_parts 2 none 1 [.ref (x + qo i), .int (nI a)] n (xh x (setq w i X) g) none (xh x (setq w i (leaveS X.1 a, X.2)) g) := m_set i hi (k_X1_parts h.1 ha)
theorem m_joins {a b : Nat} (i : Nat) (hi : i < 12) (h : KX x g X) (ha : a < 6) (hb : b < 6) : CtE G yX1_joins cX1_joins 3 none 2 [.ref (x + qo i), .int (nI a), .int (nI b)] n (xh x (setq w i X) g) none (xh x (setq w i (joinS X.1 a b, X.2)) g) := m_set i hi (k_X1_joins h.1 ha hb)
/-- mind (or another one) takes the state of j's quarter -/
def tkX (A X : QX) : QX := (A.1, A.2.1, X.2.2 + nI (1 + A.1.1.length))
theorem m_takes (i j : Nat) (hi : i < 12) (hj : j < 12) (hij : i ≠ j) (hL : LenS X.1 ∧ X.2.1.length ≤ 6) (h : KX x g Y) (e : w.1 j = Y) : CtE G yX1_takes cX1_takes 3 none 5 [.ref (x + qo i), .ref (x + qo j)] n (xh x (setq w i X) g) none (xh x (setq w i (tkX Y X)) g) := by
  subst e
  have ej : (setq w i X).1 j = w.1 j := setq_ne X (Ne.symm hij)
  have ei : (setq w i X).1 i = X := setq_at i X
  have h0 : qh (x + qo i) X (qh (x + qo j) (w.1 j) (xh x (setq w i X) g)) = xh x (setq w i X) g := by
    have e1 := xq_self (x := x) (w := setq w i X) (g := g) hj
    have e2 := xq_self (x := x) (w := setq w i X) (g := g) hi
    rw [ej] at e1
    rw [ei] at e2
    rw [e1, e2]
  have h1 : qh (x + qo i) (tkX (w.1 j) X) (qh (x + qo j) (w.1 j) (xh x (setq w i X) g)) = xh x (setq w i (tkX (w.1 j) X)) g := by
    have e1 := xq_self (x := x) (w := setq w i X) (g := g) hj
    rw [ej] at e1
    rw [e1, xq_set hi, setq_setq]
  have k := k_X1_takes (G := G) (n := n) (q := x + qo i) (S := X.1) (pp := X.2.1) (mc := X.2.2) (r := x + qo j) (S' := (w.1 j).1) (pp' := (w.1 j).2.1) (mc' := (w.1 j).2.2) (g := xh x (setq w i X) g) (qo_apart hij) hL.1 hL.2 h.1 h.2.1 (by
    show PG (qh (x + qo i) X (qh (x + qo j) (w.1 j) (xh x (setq w i X) g))) _ _
    rw [h0]; exact h.2.2.2.pg)
  have h0' : qh (x + qo i) (X.1, X.2.1, X.2.2) (qh (x + qo j) ((w.1 j).1, (w.1 j).2.1, (w.1 j).2.2) (xh x (setq w i X) g)) = xh x (setq w i X) g := h0
  have h1' : qh (x + qo i) ((w.1 j).1, (w.1 j).2.1, X.2.2 + nI (1 + (w.1 j).1.1.length)) (qh (x + qo j) ((w.1 j).1, (w.1 j).2.1, (w.1 j).2.2) (xh x (setq w i X) g)) = xh x (setq w i (tkX (w.1 j) X)) g := h1
  rw [h0', h1'] at k
  exact k
theorem KX.tk (h : KX x g Y) : KX x g (tkX Y X) := h
theorem KX.lq (h : KX x g Y) : LenS Y.1 ∧ Y.2.1.length ≤ 6 := ⟨h.1, h.pl6⟩
end XL


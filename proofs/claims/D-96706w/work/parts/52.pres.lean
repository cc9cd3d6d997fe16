/-! ===== what stays true of a quarter ===== -/
theorem getD_set {α : Type} (l : List α) (i j : Nat) (v d : α) : (l.set i v).getD j d = if j = i ∧ i < l.length then v else l.getD j d := by
  simp only [List.getD_eq_getElem?_getD, List.getElem?_set]
  by_cases e : i = j
  · subst e
    by_cases e1 : i < l.length
    · simp [e1]
    · simp [e1]
  · simp [e, Ne.symm e]
theorem qr_setQr {S : SQ} {a b v c d : Nat} (hL : LenS S) (ha : a < 6) (hb : b < 6) (hc : c < 6) (hd : d < 6) : qr (setQr S a b v) c d = if (c = a ∧ d = b) ∨ (c = b ∧ d = a) then v else qr S c d := by
  have h36 := hL.2.2.2.1
  unfold qr setQr setQ1
  show ((S.2.2.2.1.set (6 * a + b) v).set (6 * b + a) v).getD (6 * c + d) 0 = _
  rw [getD_set, getD_set, List.length_set, h36]
  by_cases e1 : c = b ∧ d = a
  · rw [if_pos (by omega), if_pos (Or.inr e1)]
  · rw [if_neg (by omega)]
    by_cases e2 : c = a ∧ d = b
    · rw [if_pos (by omega), if_pos (Or.inl e2)]
    · rw [if_neg (by omega), if_neg (by omega)]
theorem sym_setQr {S : SQ} {a b v : Nat} (hL : LenS S) (h : SymS S) (ha : a < 6) (hb : b < 6) (hab : a ≠ b ∨ v = 0) : SymS (setQr S a b v) := by
  refine ⟨fun c d hc hd => ?_, fun c hc => ?_⟩
  · rw [qr_setQr hL ha hb hc hd, qr_setQr hL ha hb hd hc, h.1 c d hc hd]
    by_cases e : (c = a ∧ d = b) ∨ (c = b ∧ d = a)
    · rw [if_pos e, if_pos (by omega)]
    · rw [if_neg e, if_neg (by omega)]
  · rw [qr_setQr hL ha hb hc hc]
    split
    · rcases hab with z | z
      · omega
      · exact z
    · exact h.2 c hc
theorem SymS.of {S S' : SQ} (h : SymS S) (e : S'.2.2.2.1 = S.2.2.2.1) : SymS S' := by
  unfold SymS qr
  rw [e]
  exact h
theorem MatS.of {S S' : SQ} (h : MatS S) (h1 : S'.1 = S.1) (h2 : S'.2.2.1 = S.2.2.1) : MatS S' := by
  unfold MatS mt
  rw [h1, h2]
  exact h
/-! days -/
theorem hourStep_sym {h a : Nat} {S : SQ} (hL : LenS S) (ha : a < S.1.length) (k : SymS S) : SymS (hourStep h a S) := by
  unfold hourStep
  split
  · rename_i b e
    split
    · rename_i hab
      exact sym_setQr hL k (by have := hL.1; omega) (hL.2.2.2.2 a b e) (Or.inl (by omega))
    · exact k
  · exact k
/-- a fold over 0 .. keeps what each step below the bound keeps -/
theorem forR_inv' {σ : Type} {f : Nat → σ → σ} (I : σ → Prop) {N : Nat} (hs : ∀ j s, j < N → I s → I (f j s)) : ∀ (c i : Nat) (s : σ), i + c ≤ N → I s → I (forR f i c s)
  | 0, _, _, _, h => h
  | c + 1, i, s, hN, h => forR_inv' I hs c (i + 1) (f i s) (by omega) (hs i s (by omega) h)
def OKq (n : Nat) (S : SQ) : Prop := LenS S ∧ SymS S ∧ S.1.length = n
theorem hourS_sym {h : Nat} {S : SQ} (hL : LenS S) (k : SymS S) : SymS (hourS h S) :=
  (forR_inv' (N := S.1.length) (OKq S.1.length) (fun j s hj hk => ⟨hourStep_lens hk.1, hourStep_sym hk.1 (by rw [hk.2.2]; exact hj) hk.2.1, by rw [(hourStep_fr h j s).1]; exact hk.2.2⟩) _ _ _ (by omega) ⟨hL, k, rfl⟩).2.1
theorem goesS_sym {S : SQ} (hL : LenS S) (k : SymS S) : SymS (goesS S) :=
  (forR_inv (fun s => LenS s ∧ SymS s) (fun j s hk => ⟨hourS_lens hk.1, hourS_sym hk.1 hk.2⟩) 5 0 (setD S (S.2.2.2.2 + 1)) ⟨hL, k.of rfl⟩).2
theorem daysS_sym : ∀ (m : Nat) {S : SQ}, LenS S → SymS S → SymS (daysS m S)
  | 0, _, _, k => k
  | m + 1, _, h, k => daysS_sym m (goesS_lens h) (goesS_sym h k)
theorem OKS.hour {S : SQ} {hh : Nat} (h : OKS S) : OKS (hourS hh S) := ⟨hourS_lens h.1, hourS_vals h.2.1, h.2.2.1.of (hourS_fr _ _).1 (hourS_fr _ _).2.2, hourS_sym h.1 h.2.2.2⟩
theorem OKS.goes {S : SQ} (h : OKS S) : OKS (goesS S) := ⟨goesS_lens h.1, goesS_vals h.2.1, h.2.2.1.of (goesS_fr _).1 (goesS_fr _).2.2, goesS_sym h.1 h.2.2.2⟩
theorem OKS.days {S : SQ} (m : Nat) (h : OKS S) : OKS (daysS m S) := ⟨daysS_lens _ h.1, daysS_vals _ h.2.1, h.2.2.1.of (daysS_fr _ _).1 (daysS_fr _ _).2.2, daysS_sym _ h.1 h.2.2.2⟩
theorem hourS_day (h : Nat) (S : SQ) : (hourS h S).2.2.2.2 = S.2.2.2.2 := forR_inv (fun s => s.2.2.2.2 = S.2.2.2.2) (fun j s k => (hourStep_fr h j s).2.2.2.trans k) _ _ _ rfl
theorem goesS_day (S : SQ) : (goesS S).2.2.2.2 = S.2.2.2.2 + 1 := forR_inv (fun s => s.2.2.2.2 = S.2.2.2.2 + 1) (fun j s k => (hourS_day j s).trans k) 5 0 (setD S (S.2.2.2.2 + 1)) rfl
theorem daysS_day : ∀ (m : Nat) (S : SQ), (daysS m S).2.2.2.2 = S.2.2.2.2 + m
  | 0, _ => rfl
  | m + 1, S => by
    show (daysS m (goesS S)).2.2.2.2 = _
    rw [daysS_day m, goesS_day]
    omega
/-! mats -/
theorem mt_leave {S : SQ} {a c : Nat} (hL : LenS S) (ha : a < 6) : mt (leaveS S a) c = if c = a ∨ mt S a = some c then none else mt S c := by
  unfold leaveS
  cases e : mt S a with
  | none =>
    by_cases h : c = a
    · subst h; rw [if_pos (Or.inl rfl)]; exact e
    · rw [if_neg (by intro q; rcases q with q | q; exact h q; cases q)]
  | some b =>
    have hb := hL.2.2.2.2 a b e
    have h6 := hL.2.2.1
    have e1 : (setM S b none).2.2.1.length = 6 := (List.length_set ..).trans h6
    show mt (setM (setM S b none) a none) c = _
    rw [mt_setM, mt_setM, h6, e1]
    by_cases h : c = a
    · subst h; rw [if_pos ⟨rfl, ha⟩, if_pos (Or.inl rfl)]
    · rw [if_neg (fun q => h q.1)]
      by_cases h2 : c = b
      · subst h2; rw [if_pos ⟨rfl, hb⟩, if_pos (Or.inr rfl)]
      · rw [if_neg (fun q => h2 q.1), if_neg (by intro q; rcases q with q | q; exact h q; cases q; exact h2 rfl)]
theorem mats_leave {S : SQ} {a : Nat} (hL : LenS S) (h : MatS S) (ha : a < S.1.length) : MatS (leaveS S a) := by
  have ha6 : a < 6 := by have := hL.1; omega
  intro c hc d hd
  rw [(leaveS_fr S a).1] at hc ⊢
  rw [mt_leave hL ha6] at hd
  split at hd
  · cases hd
  rename_i hn
  obtain ⟨p1, p2, p3⟩ := h c hc d hd
  refine ⟨p1, p2, ?_⟩
  rw [mt_leave hL ha6, if_neg ?_]
  · exact p3
  · intro q
    rcases q with q | q
    · subst q; exact hn (Or.inr p3)
    · have := (h a ha d q).2.2
      rw [p3] at this
      cases this
      exact hn (Or.inl rfl)
theorem mt_join {S : SQ} {a b c : Nat} (hL : LenS S) (ha : a < 6) (hb : b < 6) : mt (joinS S a b) c = if c = b then some a else if c = a then some b else mt (leaveS (leaveS S a) b) c := by
  have h6 : (leaveS (leaveS S a) b).2.2.1.length = 6 := (lens_leave (lens_leave hL)).2.2.1
  have e1 : (setM (leaveS (leaveS S a) b) a (some b)).2.2.1.length = 6 := (List.length_set ..).trans h6
  unfold joinS
  rw [mt_setM, mt_setM, h6, e1]
  by_cases h : c = b
  · rw [if_pos ⟨h, hb⟩, if_pos h]
  · rw [if_neg (fun q => h q.1), if_neg h]
    by_cases h2 : c = a
    · rw [if_pos ⟨h2, ha⟩, if_pos h2]
    · rw [if_neg (fun q => h2 q.1), if_neg h2]
theorem mats_join {S : SQ} {a b : Nat} (hL : LenS S) (h : MatS S) (ha : a < S.1.length) (hb : b < S.1.length) (hab : a ≠ b) : MatS (joinS S a b) := by
  have ha6 : a < 6 := by have := hL.1; omega
  have hb6 : b < 6 := by have := hL.1; omega
  have e1 : (leaveS S a).1 = S.1 := (leaveS_fr S a).1
  have h1 := mats_leave hL h ha
  have h2 := mats_leave (lens_leave hL) h1 (a := b) (by rw [e1]; exact hb)
  have e2 : (leaveS (leaveS S a) b).1 = S.1 := (leaveS_fr _ b).1.trans e1
  have za : mt (leaveS (leaveS S a) b) a = none := by
    rw [mt_leave (lens_leave hL) hb6]
    split
    · rfl
    · rw [mt_leave hL ha6, if_pos (Or.inl rfl)]
  have zb : mt (leaveS (leaveS S a) b) b = none := by
    rw [mt_leave (lens_leave hL) hb6, if_pos (Or.inl rfl)]
  intro c hc d hd
  rw [(joinS_fr S a b).1] at hc ⊢
  rw [mt_join hL ha6 hb6] at hd
  split at hd
  · rename_i e; subst e; cases hd
    exact ⟨ha, hab, by rw [mt_join hL ha6 hb6, if_neg hab, if_pos rfl]⟩
  · split at hd
    · rename_i e1 e; subst e; cases hd
      exact ⟨hb, fun q => hab q.symm, by rw [mt_join hL ha6 hb6, if_pos rfl]⟩
    · rename_i n1 n2
      obtain ⟨p1, p2, p3⟩ := h2 c (by rw [e2]; exact hc) d hd
      rw [e2] at p1
      refine ⟨p1, p2, ?_⟩
      rw [mt_join hL ha6 hb6, if_neg (fun q => by subst q; rw [zb] at p3; cases p3), if_neg (fun q => by subst q; rw [za] at p3; cases p3)]
      exact p3
theorem OKS.join {S : SQ} {a b : Nat} (h : OKS S) (ha : a < S.1.length) (hb : b < S.1.length) (hab : a ≠ b) : OKS (joinS S a b) :=
  ⟨lens_join h.1 (by have := h.1.1; omega) (by have := h.1.1; omega), h.2.1.of (joinS_fr _ _ _).1 (joinS_fr _ _ _).2.1 (joinS_fr _ _ _).2.2, mats_join h.1 h.2.2.1 ha hb hab, h.2.2.2.of (congrArg (fun q => q.1) (joinS_fr S a b).2.2)⟩
theorem OKS.leave {S : SQ} {a : Nat} (h : OKS S) (ha : a < S.1.length) : OKS (leaveS S a) :=
  ⟨lens_leave h.1, h.2.1.of (leaveS_fr _ _).1 (leaveS_fr _ _).2.1 (leaveS_fr _ _).2.2, mats_leave h.1 h.2.2.1 ha, h.2.2.2.of (congrArg (fun q => q.1) (leaveS_fr S a).2.2)⟩
theorem OKS.turn {S : SQ} {a b : Nat} (h : OKS S) (ha : a < S.1.length) (hb : b < S.1.length) (hab : a ≠ b) : OKS (turnS S a b) := by
  unfold turnS
  split
  · exact h.leave ha
  · exact h.join ha hb hab
theorem turnS_day (S : SQ) (a b : Nat) : (turnS S a b).2.2.2.2 = S.2.2.2.2 := by
  unfold turnS
  split
  · exact congrArg (fun q => q.2) (leaveS_fr S a).2.2
  · exact congrArg (fun q => q.2) (joinS_fr S a b).2.2
theorem turnS_fr (S : SQ) (a b : Nat) : (turnS S a b).1 = S.1 := by
  unfold turnS
  split
  · exact (leaveS_fr S a).1
  · exact (joinS_fr S a b).1
theorem OKS.stH {S : SQ} {a v : Nat} (h : OKS S) (hv : v ≤ 31) : OKS (setH S a v) := ⟨lens_setH h.1, vals_setH h.2.1 hv, h.2.2.1.of rfl rfl, h.2.2.2.of rfl⟩
theorem OKS.stQ {S : SQ} {a b v : Nat} (h : OKS S) (ha : a < 6) (hb : b < 6) (hab : a ≠ b ∨ v = 0) (hv : v ≤ 99) : OKS (setQr S a b v) := ⟨lens_setQr h.1, vals_setQr h.2.1 hv, h.2.2.1.of rfl rfl, sym_setQr h.1 h.2.2.2 ha hb hab⟩
def comInv (S : SQ) (S' : SQ) : Prop := LenS S' ∧ ValS S' ∧ SymS S' ∧ S'.1 = S.1 ∧ S'.2.2.1 = S.2.2.1.set S.1.length none
/-- one more comes -/
theorem OKS.come {S : SQ} {p : PP} {v : Nat} (h : OKS S) (h5 : S.1.length < 6) (hp : p.1 < 6 ∧ p.2 < 10) (hv : v ≤ 31) : OKS (comeS S p v) := by
  have k : comInv S (forR (fun k s => setQr s S.1.length k 0) 0 6 (setM (setH S S.1.length v) S.1.length none)) :=
    forR_inv' (N := 6) (comInv S) (fun j s hj hk => ⟨lens_setQr hk.1, vals_setQr hk.2.1 (Nat.zero_le _), sym_setQr hk.1 hk.2.2.1 h5 hj (Or.inr rfl), hk.2.2.2⟩) 6 0 _ (by decide)
      ⟨lens_setM (lens_setH h.1) (fun _ e => by cases e), (vals_setH h.2.1 hv).of rfl rfl rfl, h.2.2.2.of rfl, rfl, rfl⟩
  obtain ⟨k1, k2, k3, k4, k5⟩ := k
  have hmt : ∀ c, mt (comeS S p v) c = if c = S.1.length then none else mt S c := by
    intro c
    unfold mt comeS
    show (forR (fun k s => setQr s S.1.length k 0) 0 6 (setM (setH S S.1.length v) S.1.length none)).2.2.1.getD c none = _
    rw [k5, getD_set, h.1.2.2.1]
    by_cases e : c = S.1.length
    · rw [if_pos ⟨e, h5⟩, if_pos e]
    · rw [if_neg (fun q => e q.1), if_neg e]
  have hlen : (comeS S p v).1.length = S.1.length + 1 := by
    show (S.1 ++ [p]).length = _
    rw [List.length_append]; rfl
  refine ⟨⟨by rw [hlen]; omega, k1.2.1, k1.2.2.1, k1.2.2.2.1, fun a b e => ?_⟩, ⟨fun q hq => ?_, k2.2.1, k2.2.2⟩, fun a ha b e => ?_, k3.of rfl⟩
  · rw [hmt] at e
    split at e
    · cases e
    · exact h.1.2.2.2.2 a b e
  · rcases List.mem_append.mp (show q ∈ S.1 ++ [p] from hq) with z | z
    · exact h.2.1.1 q z
    · rw [List.mem_singleton.mp z]; exact hp
  · rw [hmt] at e
    split at e
    · cases e
    · rename_i hne
      rw [hlen] at ha ⊢
      obtain ⟨p1, p2, p3⟩ := h.2.2.1 a (by omega) b e
      refine ⟨by omega, p2, ?_⟩
      rw [hmt, if_neg (by omega)]
      exact p3
theorem comeS_day (S : SQ) (p : PP) (v : Nat) : (comeS S p v).2.2.2.2 = S.2.2.2.2 := forR_inv (fun s : SQ => s.2.2.2.2 = S.2.2.2.2) (fun _ _ k => k) 6 0 _ rfl


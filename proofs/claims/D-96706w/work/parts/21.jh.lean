/-! ===== heap rules of J ===== -/
set_option maxRecDepth 100000
theorem qq_oi : Cond.instanceMethod Lib.objectInit ∈ lw_all := q111
theorem qq_oc : Cond.code Lib.objectInit ⟨#[0xb1]⟩ 1 none ∈ lw_all := q112
theorem qq_an : Cond.native arraycopyName ∈ lw_all := q330
theorem qq_as : Cond.static arraycopyName ∈ lw_all := q329
theorem qq_ai : Cond.initialized "java/lang/System" ∈ lw_all := q93
def SFok (ref O f d : String) : Prop := ref = O ∨ Cond.sameField ref O f d ∈ lw_all
/-- a field site: class own, pool index idx, of an object of class number ci: its field k -/
def GFok (own : String) (idx ci k : Nat) : Prop := ∃ (C ref : String) (T : u_T) (N : Nat), dcl[ci]? = some (C, T, N) ∧ (∀ w ∈ u_ws C T N, w ∈ lw_all) ∧ k < N ∧ Cond.fieldLink own idx ref (T k).2.1 (T k).2.2.1 ∈ lw_all ∧ SFok ref (T k).1 (T k).2.1 (T k).2.2.1
def GNok (own : String) (idx ci k : Nat) : Prop := ∃ (C ref host : String) (T : u_T) (N : Nat), dcl[ci]? = some (C, T, N) ∧ (∀ w ∈ u_ws C T N, w ∈ lw_all) ∧ k < N ∧ Cond.fieldLinkNest own idx ref (T k).2.1 (T k).2.2.1 host ∈ lw_tbl ∧ ref = (T k).1
def CLok (ci : Nat) : Prop := ∃ (C : String) (T : u_T) (N : Nat), dcl[ci]? = some (C, T, N) ∧ (∀ w ∈ u_ws C T N, w ∈ lw_all) ∧ (∃ ty0 : Nat → FieldType, ∀ j, j < N → parseFieldDescriptor (T j).2.2.1 = some (ty0 j)) ∧ (∀ a, a < N → ∀ b, b < N → a ≠ b → (T a).2.1 ≠ (T b).2.1)
def FTok (ci k : Nat) (fin : Bool) (ty : FieldType) : Prop := ∃ (C : String) (T : u_T) (N : Nat), dcl[ci]? = some (C, T, N) ∧ k < N ∧ (T k).2.2.2 = fin ∧ parseFieldDescriptor (T k).2.2.1 = some ty
def DCok (ci k : Nat) (own : String) : Prop := ∃ (C : String) (T : u_T) (N : Nat), dcl[ci]? = some (C, T, N) ∧ (T k).1 = own
theorem nf_le : nativeFrameWords "java/lang/System" "arraycopy" 5 + 11 ≤ 30 := by decide +kernel
section JH
variable {G : GD} {z : MZ} {cc : ByteArray} {nL : Nat} {own : String} {lvl mcT msT cells slots pc q n : Nat} {lo : List (Option Value)} {stk : List Value} {h : RH}
theorem sf_same {args : Array Value} {s : State} {ref O f d : String} (hts : ∀ w ∈ lw_all, w.before args s = true) (hs : SFok ref O f d) : ∀ x, s.fieldFound? O f d = some x → s.fieldFound? ref f d = some x := by
  rcases hs with rfl | hs
  · exact fun _ h => h
  · exact fun x hx => u_same (hts _ hs) x hx
theorem r_get {a idx ci k : Nat} {fs : List Value} {v : Value} (hg : GFok own idx ci k) (ho : h a = some (.inr (.inr (ci, fs)))) (hv : fs[k]? = some v) (d : decode cc pc = .ok (.getfield idx, 3)) (hq : pc + 3 = q) (kk : J G z cc nL own lvl mcT msT cells slots q lo (v :: stk) n h) : J G z cc nL own lvl mcT msT cells slots pc lo (.ref a :: stk) n h := by
  obtain ⟨p, e, R, s, m, args, below, meth, c, Q⟩ := z
  subst hq
  intro S K hA hL hR ls H locs hl hn hP hS
  obtain ⟨C, ref, T, N, h1, h2, h3, h4, h5⟩ := hg
  exact va_get (D := G.2.1) (cl := dcl) S.1 S.2.1 S.2.2.2.2 h2 S.2.2.2.1 K.1 (hP.one ho) 0 rfl h1 k h3 (S.2.2.2.2 _ h4) (sf_same S.2.2.2.2 h5) hv d (kk S K hA hL hR ls H locs hl hn hP hS)
theorem r_getN {a idx ci k : Nat} {fs : List Value} {v : Value} (hg : GNok own idx ci k) (ho : h a = some (.inr (.inr (ci, fs)))) (hv : fs[k]? = some v) (d : decode cc pc = .ok (.getfield idx, 3)) (hq : pc + 3 = q) (kk : J G z cc nL own lvl mcT msT cells slots q lo (v :: stk) n h) : J G z cc nL own lvl mcT msT cells slots pc lo (.ref a :: stk) n h := by
  obtain ⟨p, e, R, s, m, args, below, meth, c, Q⟩ := z
  subst hq
  intro S K hA hL hR ls H locs hl hn hP hS
  obtain ⟨C, ref, host, T, N, h1, h2, h3, h4, h5⟩ := hg
  subst h5
  exact va_getN (D := G.2.1) (cl := dcl) S.1 S.2.1 S.2.2.2.2 h2 S.2.2.2.1 K.1 (hP.one ho) 0 rfl h1 k h3 (va_Nw.use rfl (K.2.1 _ h4 rfl)) (fun _ h => h) hv d (kk S K hA hL hR ls H locs hl hn hP hS)
theorem r_put {a idx ci k : Nat} {fs : List Value} {v : Value} {ty : FieldType} (hg : GFok own idx ci k) (hc : CLok ci) (hf : FTok ci k false ty) (ho : h a = some (.inr (.inr (ci, fs)))) (hl : k < fs.length) (hnv : narrow ty v = v) (hfit : fits ty v = true) (d : decode cc pc = .ok (.putfield idx, 3)) (hq : pc + 3 = q) (kk : J G z cc nL own lvl mcT msT cells slots q lo stk n (hset h a (.inr (.inr (ci, fs.set k v))))) : J G z cc nL own lvl mcT msT cells slots pc lo (v :: .ref a :: stk) n h := by
  obtain ⟨p, e, R, s, m, args, below, meth, c, Q⟩ := z
  subst hq
  intro S K hA hL hR ls H locs hlv hn hP hS
  obtain ⟨C, ref, T, N, h1, h2, h3, h4, h5⟩ := hg
  obtain ⟨C', T', N', g1, -, ⟨ty0, hty⟩, hnm⟩ := hc
  cases h1.symm.trans g1
  obtain ⟨C', T', N', g1, -, hfin, hd⟩ := hf
  cases h1.symm.trans g1
  have hap := va_apart (own := own) (D := G.2.1) S.2.2.2.2 h2 ty0 hty hnm K.1 h1
  obtain ⟨r, g1, cell, q1, q2, q3, q4⟩ := (hP a _ ho).2
  cases g1.symm.trans h1
  obtain ⟨hSl, hfc, kC, hkC, hkind⟩ := K.1.1 ci _ h1
  obtain ⟨cf, kf, fi, f, hi, hsl⟩ := hSl k h3
  have hlay := S.2.2.2.2 _ (h2 _ (u_in_lay h3))
  unfold u_lay at hlay
  rw [if_neg (by rw [hfin]; decide)] at hlay
  have hst := (u_facts hfc hkC (u_lays S.2.2.2.2 h2 h3) hi).1
  have h6 := u_store hfc hkC hkind hlay hi hd hnv hfit
  refine W.putK S.1 S.2.1 (f := f) ⟨S.2.2.2.1, S.2.2.2.2 _ h4, ⟨_, _, _, sf_same S.2.2.2.2 h5 _ hi⟩, hst⟩ (by rw [q2]; exact h6) q1 q3 (by rw [hsl]; exact k2_hasslot (q4 k h3)) rfl rfl d fun H' e1 e2 e3 => ?_
  rw [hsl] at e1 ⊢
  exact kk S K hA hL hR ls H' _ hlv (e2.trans hn) (hP.put (hP a _ ho).1 ⟨_, h1, t_OB.to (V := updV (vp_V fs) k v) ⟨_, e1, q2, q3, t_set q4 hap h3 v⟩ (fun j _ => vp_updV_set hl v j)⟩ e3) (hS.put e2 e3 (hP a _ ho).1)
theorem r_putN {a idx ci k : Nat} {fs : List Value} {v : Value} {ty : FieldType} (hg : GNok own idx ci k) (hc : CLok ci) (hf : FTok ci k false ty) (ho : h a = some (.inr (.inr (ci, fs)))) (hl : k < fs.length) (hnv : narrow ty v = v) (hfit : fits ty v = true) (d : decode cc pc = .ok (.putfield idx, 3)) (hq : pc + 3 = q) (kk : J G z cc nL own lvl mcT msT cells slots q lo stk n (hset h a (.inr (.inr (ci, fs.set k v))))) : J G z cc nL own lvl mcT msT cells slots pc lo (v :: .ref a :: stk) n h := by
  obtain ⟨p, e, R, s, m, args, below, meth, c, Q⟩ := z
  subst hq
  intro S K hA hL hR ls H locs hlv hn hP hS
  obtain ⟨C, ref, host, T, N, h1, h2, h3, h4, h5⟩ := hg
  subst h5
  obtain ⟨C', T', N', g1, -, ⟨ty0, hty⟩, hnm⟩ := hc
  cases h1.symm.trans g1
  obtain ⟨C', T', N', g1, -, hfin, hd⟩ := hf
  cases h1.symm.trans g1
  have hap := va_apart (own := own) (D := G.2.1) S.2.2.2.2 h2 ty0 hty hnm K.1 h1
  obtain ⟨r, g1, cell, q1, q2, q3, q4⟩ := (hP a _ ho).2
  cases g1.symm.trans h1
  obtain ⟨hSl, hfc, kC, hkC, hkind⟩ := K.1.1 ci _ h1
  obtain ⟨cf, kf, fi, f, hi, hsl⟩ := hSl k h3
  have hlay := S.2.2.2.2 _ (h2 _ (u_in_lay h3))
  unfold u_lay at hlay
  rw [if_neg (by rw [hfin]; decide)] at hlay
  have hst := (u_facts hfc hkC (u_lays S.2.2.2.2 h2 h3) hi).1
  have h6 := u_store hfc hkC hkind hlay hi hd hnv hfit
  refine va_WputK S.1 S.2.1 (f := f) S.2.2.2.1 (va_Nw.use rfl (K.2.1 _ h4 rfl)) hi hst (by rw [q2]; exact h6) q1 q3 (by rw [hsl]; exact k2_hasslot (q4 k h3)) rfl rfl d fun H' e1 e2 e3 => ?_
  rw [hsl] at e1 ⊢
  exact kk S K hA hL hR ls H' _ hlv (e2.trans hn) (hP.put (hP a _ ho).1 ⟨_, h1, t_OB.to (V := updV (vp_V fs) k v) ⟨_, e1, q2, q3, t_set q4 hap h3 v⟩ (fun j _ => vp_updV_set hl v j)⟩ e3) (hS.put e2 e3 (hP a _ ho).1)
theorem r_putF {a idx ci k : Nat} {fs : List Value} {v : Value} {ty : FieldType} (hin : zname z = "<init>") (hg : GFok own idx ci k) (hc : CLok ci) (hf : FTok ci k true ty) (hdc : DCok ci k own) (ho : h a = some (.inr (.inr (ci, fs)))) (hl : k < fs.length) (hnv : narrow ty v = v) (hfit : fits ty v = true) (d : decode cc pc = .ok (.putfield idx, 3)) (hq : pc + 3 = q) (kk : J G z cc nL own lvl mcT msT cells slots q lo stk n (hset h a (.inr (.inr (ci, fs.set k v))))) : J G z cc nL own lvl mcT msT cells slots pc lo (v :: .ref a :: stk) n h := by
  obtain ⟨p, e, R, s, m, args, below, meth, c, Q⟩ := z
  subst hq
  intro S K hA hL hR ls H locs hlv hn hP hS
  obtain ⟨C, ref, T, N, h1, h2, h3, h4, h5⟩ := hg
  obtain ⟨C', T', N', g1, -, ⟨ty0, hty⟩, hnm⟩ := hc
  cases h1.symm.trans g1
  obtain ⟨C', T', N', g1, -, hfin, hd⟩ := hf
  cases h1.symm.trans g1
  obtain ⟨C', T', N', g1, hdecl⟩ := hdc
  cases h1.symm.trans g1
  have hap := va_apart (own := own) (D := G.2.1) S.2.2.2.2 h2 ty0 hty hnm K.1 h1
  obtain ⟨r, g1, cell, q1, q2, q3, q4⟩ := (hP a _ ho).2
  cases g1.symm.trans h1
  obtain ⟨hSl, hfc, kC, hkC, hkind⟩ := K.1.1 ci _ h1
  obtain ⟨cf, kf, fi, f, hi, hsl⟩ := hSl k h3
  have hlay := S.2.2.2.2 _ (h2 _ (u_in_lay h3))
  unfold u_lay at hlay
  rw [if_pos hfin] at hlay
  have hst := (u_facts hfc hkC (u_lays S.2.2.2.2 h2 h3) hi).1
  have hcf : m.cls = cf := by
    obtain ⟨_, _, c', _, _, _, -, -, hf', -, -, -, hown2, -⟩ := Cond.laysFinal_spec hlay
    have e1 : c' = cf := by have := hi.symm.trans hf'; simp at this; exact this.1.symm
    rw [hdecl] at hown2
    rw [← e1]; exact Option.some.inj (S.2.2.2.1.symm.trans hown2)
  have h6 := u_fits hfc hkC hkind (Or.inr hlay) hi hd hnv hfit
  refine W.putFinK S.1 S.2.1 S.2.2.2.1 (S.2.2.2.2 _ h4) (sf_same S.2.2.2.2 h5 _ hi) hst hcf hin (by rw [q2]; exact h6) q1 q3 (by rw [hsl]; exact k2_hasslot (q4 k h3)) rfl rfl d fun H' e1 e2 e3 => ?_
  rw [hsl] at e1 ⊢
  exact kk S K hA hL hR ls H' _ hlv (e2.trans hn) (hP.put (hP a _ ho).1 ⟨_, h1, t_OB.to (V := updV (vp_V fs) k v) ⟨_, e1, q2, q3, t_set q4 hap h3 v⟩ (fun j _ => vp_updV_set hl v j)⟩ e3) (hS.put e2 e3 (hP a _ ho).1)
theorem r_iald (i L : Nat) {a : Nat} {l : List Int32} {x : Int32} (ho : h a = some (.inl l)) (hlen : l.length = L) (hx : x = nI i) (hi : i < L) (hb : L ≤ 1000) (d : decode cc pc = .ok (.iaload, 1)) (hq : pc + 1 = q) (kk : J G z cc nL own lvl mcT msT cells slots q lo (.int (l.getD i 0) :: stk) n h) : J G z cc nL own lvl mcT msT cells slots pc lo (.int x :: .ref a :: stk) n h := by
  obtain ⟨p, e, R, s, m, args, below, meth, c, Q⟩ := z
  subst hq
  intro S K hA hL hR ls H locs hl hn hP hS
  have e1 : x.toNatClampNeg = i := by rw [hx]; exact nI_clamp (by omega)
  refine va_iald (D := G.2.1) (cl := dcl) S.1 S.2.1 K.1 (hP.one ho) 0 0 rfl rfl (by rw [hx]; exact vp_in_nI (by omega) (by omega)) d ?_
  have := kk S K hA hL hR ls H locs hl hn hP hS
  rw [← e1] at this
  exact this
theorem r_alen {a L : Nat} {l : List Int32} (ho : h a = some (.inl l)) (hlen : l.length = L) (d : decode cc pc = .ok (.arraylength, 1)) (hq : pc + 1 = q) (kk : J G z cc nL own lvl mcT msT cells slots q lo (.int (nI L) :: stk) n h) : J G z cc nL own lvl mcT msT cells slots pc lo (.ref a :: stk) n h := by
  obtain ⟨p, e, R, s, m, args, below, meth, c, Q⟩ := z
  subst hq
  intro S K hA hL hR ls H locs hl hn hP hS
  exact va_alen (D := G.2.1) (cl := dcl) S.1 S.2.1 K.1 (hP.one ho) 0 0 rfl (ty := .int) rfl (v := nI L) (by rw [← hlen]; rfl) d (kk S K hA hL hR ls H locs hl hn hP hS)
theorem r_alenO {a L : Nat} {l : List (Option Nat)} (ho : h a = some (.inr (.inl (0, l)))) (hlen : l.length = L) (d : decode cc pc = .ok (.arraylength, 1)) (hq : pc + 1 = q) (kk : J G z cc nL own lvl mcT msT cells slots q lo (.int (nI L) :: stk) n h) : J G z cc nL own lvl mcT msT cells slots pc lo (.ref a :: stk) n h := by
  obtain ⟨p, e, R, s, m, args, below, meth, c, Q⟩ := z
  subst hq
  intro S K hA hL hR ls H locs hl hn hP hS
  exact va_alen (D := G.2.1) (cl := dcl) S.1 S.2.1 K.1 (hP.one ho) 0 1 rfl (ty := .object "java/lang/Object") rfl (v := nI L) (by rw [← hlen]; rfl) d (kk S K hA hL hR ls H locs hl hn hP hS)
theorem cell_set {cA : ClassId} {l : List Int32} {i : Nat} {v : Int32} (hi : i < l.length) : (vp_cell cA (l.length, .inl (fun j => l.getD j 0))).setSlot i (.int v) = vp_cell cA ((l.set i v).length, .inl (fun j => (l.set i v).getD j 0)) := by
  rw [vp_cell_i, vp_cell_i, arrV_store, List.length_set]
  congr 1
  funext j
  by_cases hj : j = i
  · subst hj
    simp [updV, hi]
  · simp [updV, hj, List.getElem?_set_ne (Ne.symm hj)]
theorem r_iast (i L : Nat) {a : Nat} {l : List Int32} {x v : Int32} (ho : h a = some (.inl l)) (hlen : l.length = L) (hx : x = nI i) (hi : i < L) (hb : L ≤ 1000) (d : decode cc pc = .ok (.iastore, 1)) (hq : pc + 1 = q) (kk : J G z cc nL own lvl mcT msT cells slots q lo stk n (hset h a (.inl (l.set i v)))) : J G z cc nL own lvl mcT msT cells slots pc lo (.int v :: .int x :: .ref a :: stk) n h := by
  obtain ⟨p, e, R, s, m, args, below, meth, c, Q⟩ := z
  subst hq
  intro S K hA hL hR ls H locs hl hn hP hS
  have e1 : x.toNatClampNeg = i := by rw [hx]; exact nI_clamp (by omega)
  have hcell : H[a]? = some (vp_cell G.2.2.1.1 (l.length, .inl (fun j => l.getD j 0))) := (hP a _ ho).2
  refine W.iast S.1 S.2.1 hcell ((K.1.2 0 _ rfl).1 _ (fun j => .int (l.getD j 0))) (fun q => by cases q) (by show ¬ (x < 0 ∨ (arrV _ _ _).slots.size ≤ _); rw [arrV_size, hx]; exact vp_in_nI (by omega) (by omega)) rfl rfl d fun H1 e2 z2 oq => ?_
  rw [e1, cell_set (by omega)] at e2
  rw [e1]
  exact kk S K hA hL hR ls H1 _ hl (z2.trans hn) (hP.put (hP a _ ho).1 e2 oq) (hS.put z2 oq (hP a _ ho).1)
theorem r_aald (t i L : Nat) {a o : Nat} {l : List (Option Nat)} {x : Int32} (ho : h a = some (.inr (.inl (t, l)))) (hlen : l.length = L) (hx : x = nI i) (hi : i < L) (hb : L ≤ 1000) (hv : l.getD i none = some o) (d : decode cc pc = .ok (.aaload, 1)) (hq : pc + 1 = q) (kk : J G z cc nL own lvl mcT msT cells slots q lo (.ref o :: stk) n h) : J G z cc nL own lvl mcT msT cells slots pc lo (.int x :: .ref a :: stk) n h := by
  obtain ⟨p, e, R, s, m, args, below, meth, c, Q⟩ := z
  subst hq
  intro S K hA hL hR ls H locs hl hn hP hS
  have e1 : x.toNatClampNeg = i := by rw [hx]; exact nI_clamp (by omega)
  have k2 := kk S K hA hL hR ls H locs hl hn hP hS
  rw [← e1] at hv
  by_cases ht : t = 0
  · refine va_aldq (D := G.2.1) (cl := dcl) S.1 S.2.1 K.1 (hP.one ho) 0 1 (cA := G.2.2.1.2.1) (f := fun j => l.getD j none) (n := l.length) (by simp [rc_e, ht]) rfl (by rw [hx]; exact vp_in_nI (by omega) (by omega)) d ?_
    show W p G.1 e R s m args below meth c H locs cells slots Q (F0 m _ ls (va_rf (l.getD x.toNatClampNeg none) :: stk))
    rw [hv]
    exact k2
  · refine va_aldq (D := G.2.1) (cl := dcl) S.1 S.2.1 K.1 (hP.one ho) 0 2 (cA := G.2.2.1.2.2) (f := fun j => l.getD j none) (n := l.length) (by simp [rc_e, ht]) rfl (by rw [hx]; exact vp_in_nI (by omega) (by omega)) d ?_
    show W p G.1 e R s m args below meth c H locs cells slots Q (F0 m _ ls (va_rf (l.getD x.toNatClampNeg none) :: stk))
    rw [hv]
    exact k2
theorem cell_setq {cA : ClassId} {l : List (Option Nat)} {i : Nat} {v : Option Nat} (hi : i < l.length) : (vp_cell cA (l.length, .inr (.inr (.inr (.inr (fun j => l.getD j none)))))).setSlot i (va_rf v) = vp_cell cA ((l.set i v).length, .inr (.inr (.inr (.inr (fun j => (l.set i v).getD j none))))) := by
  rw [vp_cell_q, vp_cell_q, arrV_store, List.length_set]
  congr 1
  funext j
  by_cases hj : j = i
  · subst hj
    simp [updV, hi]
  · simp [updV, hj, List.getElem?_set_ne (Ne.symm hj)]
theorem r_aastO (i L : Nat) {a o ci : Nat} {fs : List Value} {l : List (Option Nat)} {x : Int32} {C : String} {T : u_T} {N : Nat} (hcl : dcl[ci]? = some (C, T, N)) (hca : Cond.castable C "java/lang/Object" ∈ lw_tbl) (ho : h a = some (.inr (.inl (0, l)))) (hv : h o = some (.inr (.inr (ci, fs)))) (hlen : l.length = L) (hx : x = nI i) (hi : i < L) (hb : L ≤ 1000) (d : decode cc pc = .ok (.aastore, 1)) (hq : pc + 1 = q) (kk : J G z cc nL own lvl mcT msT cells slots q lo stk n (hset h a (.inr (.inl (0, l.set i (some o)))))) : J G z cc nL own lvl mcT msT cells slots pc lo (.ref o :: .int x :: .ref a :: stk) n h := by
  obtain ⟨p, e, R, s, m, args, below, meth, c, Q⟩ := z
  subst hq
  intro S K hA hL hR ls H locs hl hn hP hS
  have e1 : x.toNatClampNeg = i := by rw [hx]; exact nI_clamp (by omega)
  have hcell : H[a]? = some (vp_cell G.2.2.1.2.1 (l.length, .inr (.inr (.inr (.inr (fun j => l.getD j none)))))) := (hP a _ ho).2
  obtain ⟨r', hr', cellV, g1, g2, g3, -⟩ := (hP o _ hv).2
  cases hr'.symm.trans hcl
  have hcls := (K.1.1 ci _ hcl).2
  obtain ⟨kA, comp, k1, k2, k3, -⟩ := (K.1.2 1 _ rfl).2
  obtain ⟨kC, hkC, -⟩ := hcls.2
  obtain ⟨c0, t0, f1, f2, f3⟩ := Cond.castable_spec (va_Nw.use (A := args) rfl (K.2.1 _ hca rfl))
  cases f1.symm.trans hcls.1
  cases f2.symm.trans k3
  obtain ⟨k9, h9, -⟩ := Vm.findClass_spec k3
  have hin : ¬ x < 0 ∧ x.toNatClampNeg < l.length := by
    have hv := vp_in_nI (n := i) (N := l.length) (by omega) (by omega)
    rw [hx]
    exact ⟨fun q => hv (Or.inl q), Nat.not_le.mp fun q => hv (Or.inr q)⟩
  refine W.aast S.1 S.2.1 hcell (fun q h => by cases h) (fun h => by cases h) k1 k2 rfl h9 ⟨hin.1, by show _ < (arrV _ _ _).slots.size; rw [arrV_size]; exact hin.2⟩ g1 (fun q h => by rw [g3] at h; cases h) (by rw [g2]; exact hkC) (by rw [g2]; exact f3) rfl rfl d fun H1 e2 z2 oq => ?_
  rw [e1] at e2
  have e3 := e2.trans (congrArg some (cell_setq (v := some o) (by omega)))
  rw [e1]
  exact kk S K hA hL hR ls H1 _ hl (z2.trans hn) (hP.put (hP a _ ho).1 e3 oq) (hS.put z2 oq (hP a _ ho).1)
theorem r_aastQ (i L : Nat) {a o : Nat} {fs : List Value} {l : List (Option Nat)} {x : Int32} (ho : h a = some (.inr (.inl (1, l)))) (hv : h o = some (.inr (.inr (1, fs)))) (hlen : l.length = L) (hx : x = nI i) (hi : i < L) (hb : L ≤ 1000) (d : decode cc pc = .ok (.aastore, 1)) (hq : pc + 1 = q) (kk : J G z cc nL own lvl mcT msT cells slots q lo stk n (hset h a (.inr (.inl (1, l.set i (some o)))))) : J G z cc nL own lvl mcT msT cells slots pc lo (.ref o :: .int x :: .ref a :: stk) n h := by
  obtain ⟨p, e, R, s, m, args, below, meth, c, Q⟩ := z
  subst hq
  intro S K hA hL hR ls H locs hl hn hP hS
  have e1 : x.toNatClampNeg = i := by rw [hx]; exact nI_clamp (by omega)
  have hcell : H[a]? = some (vp_cell G.2.2.1.2.2 (l.length, .inr (.inr (.inr (.inr (fun j => l.getD j none)))))) := (hP a _ ho).2
  obtain ⟨r', hr', cellV, g1, g2, g3, -⟩ := (hP o _ hv).2
  have hcl : dcl[1]? = some (RX1, TX1, 5) := rfl
  cases hr'.symm.trans hcl
  have hcls := (K.1.1 1 _ hcl).2
  obtain ⟨kA, comp, k1, k2, k3, -⟩ := (K.1.2 2 _ rfl).2
  have hcomp : comp = G.2.1.1 1 := Option.some.inj (k3.symm.trans hcls.1)
  subst hcomp
  obtain ⟨kC, hkC, -⟩ := hcls.2
  have hin : ¬ x < 0 ∧ x.toNatClampNeg < l.length := by
    have hv := vp_in_nI (n := i) (N := l.length) (by omega) (by omega)
    rw [hx]
    exact ⟨fun q => hv (Or.inl q), Nat.not_le.mp fun q => hv (Or.inr q)⟩
  refine W.aast S.1 S.2.1 hcell (fun q h => by cases h) (fun h => by cases h) k1 k2 rfl hkC ⟨hin.1, by show _ < (arrV _ _ _).slots.size; rw [arrV_size]; exact hin.2⟩ g1 (fun q h => by rw [g3] at h; cases h) (by rw [g2]; exact hkC) (by rw [g2]; exact va_assign hcls) rfl rfl d fun H1 e2 z2 oq => ?_
  rw [e1] at e2
  have e3 := e2.trans (congrArg some (cell_setq (v := some o) (by omega)))
  rw [e1]
  exact kk S K hA hL hR ls H1 _ hl (z2.trans hn) (hP.put (hP a _ ho).1 e3 oq) (hS.put z2 oq (hP a _ ho).1)
theorem r_aastN (i L : Nat) {a : Nat} {l : List (Option Nat)} {x : Int32} (ho : h a = some (.inr (.inl (0, l)))) (hlen : l.length = L) (hx : x = nI i) (hi : i < L) (hb : L ≤ 1000) (d : decode cc pc = .ok (.aastore, 1)) (hq : pc + 1 = q) (kk : J G z cc nL own lvl mcT msT cells slots q lo stk n (hset h a (.inr (.inl (0, l.set i none))))) : J G z cc nL own lvl mcT msT cells slots pc lo (.null :: .int x :: .ref a :: stk) n h := by
  obtain ⟨p, e, R, s, m, args, below, meth, c, Q⟩ := z
  subst hq
  intro S K hA hL hR ls H locs hl hn hP hS
  have e1 : x.toNatClampNeg = i := by rw [hx]; exact nI_clamp (by omega)
  have hcell : H[a]? = some (vp_cell G.2.2.1.2.1 (l.length, .inr (.inr (.inr (.inr (fun j => l.getD j none)))))) := (hP a _ ho).2
  refine va_WaastN (C := "java/lang/Object") S.1 S.2.1 hcell ((K.1.2 1 _ rfl).1 _ (fun j => va_rf (l.getD j none))) (fun h => by cases h) (by show ¬ (x < 0 ∨ (arrV _ _ _).slots.size ≤ _); rw [arrV_size, hx]; exact vp_in_nI (by omega) (by omega)) rfl rfl d fun H1 e2 z2 oq => ?_
  rw [e1] at e2
  have e3 := e2.trans (congrArg some (cell_setq (v := none) (by omega)))
  rw [e1]
  exact kk S K hA hL hR ls H1 _ hl (z2.trans hn) (hP.put (hP a _ ho).1 e3 oq) (hS.put z2 oq (hP a _ ho).1)
/-! new things -/
def NWok (own : String) (idx ci N : Nat) (fs : List Value) : Prop := ∃ (C : String) (T : u_T) (ty : Nat → FieldType), dcl[ci]? = some (C, T, N) ∧ (∀ w ∈ u_ws C T N, w ∈ lw_all) ∧ (∀ k, k < N → parseFieldDescriptor (T k).2.2.1 = some (ty k)) ∧ Cond.classLink own idx C ∈ lw_all ∧ Cond.instantiable C N ∈ lw_all ∧ Cond.initialized C ∈ lw_all ∧ ∀ j, j < N → defaultValue (ty j) = vp_V fs j
theorem r_new {idx ci N : Nat} {fs : List Value} (hw : NWok own idx ci N fs) (hc : cells + 1 ≤ mcT) (hsl : slots + N ≤ msT) (d : decode cc pc = .ok (.new idx, 3)) (hq : pc + 3 = q) (kk : J G z cc nL own lvl mcT msT (cells + 1) (slots + N) q lo (.ref n :: stk) (n + 1) (hset h n (.inr (.inr (ci, fs))))) : J G z cc nL own lvl mcT msT cells slots pc lo stk n h := by
  obtain ⟨p, e, R, s, m, args, below, meth, c, Q⟩ := z
  subst hq
  intro S K hA hL hR ls H locs hl hn hP hS
  obtain ⟨C, T, ty, h1, h2, h3, h4, h5, h6, h7⟩ := hw
  have hKn := K.1.1 ci _ h1
  subst hn
  refine W.newcK S.1 S.2.1 S.2.2.2.1 (S.2.2.2.2 _ h4) (S.2.2.2.2 _ h5) (S.2.2.2.2 _ h6) rfl d (by rw [hR.2.2.1]; exact hc) (by rw [hR.2.2.2]; exact hsl) hKn.2.1 rfl fun H1 kC hkC e1 z1 o1 => ?_
  exact kk S K hA hL hR ls H1 _ hl z1 (hP.new (hA _ hS.1) ⟨_, h1, (u_born ty S.2.2.2.2 h2 hKn hkC e1 h3).to h7⟩ o1) ⟨Nat.le_trans hS.1 (by omega), fun x g1 g2 => (o1 x (Nat.lt_of_lt_of_le g1 hS.1)).trans (hS.2.1 x g1 g2), hS.2.2⟩
theorem r_newa (k : Nat) {x : Int32} (hx : x = nI k) (hk : k ≤ 1000) (hc : cells + 1 ≤ mcT) (hsl : slots + k ≤ msT) (hw : Cond.arrayClass .int ∈ lw_all) (d : decode cc pc = .ok (.newarray .int, 2)) (hq : pc + 2 = q) (kk : J G z cc nL own lvl mcT msT (cells + 1) (slots + k) q lo (.ref n :: stk) (n + 1) (hset h n (.inl (List.replicate k 0)))) : J G z cc nL own lvl mcT msT cells slots pc lo (.int x :: stk) n h := by
  obtain ⟨p, e, R, s, m, args, below, meth, c, Q⟩ := z
  subst hq
  intro S K hA hL hR ls H locs hl hn hP hS
  subst hn
  refine va_newaK (atype := .int) (N := k) S.1 S.2.1 (S.2.2.2.2 _ hw) rfl d rfl (by rw [hx]; exact nI_pos (by omega)) (by rw [hx]; exact nI_clamp (by omega)) (by show k * 4 ≤ _; omega) (by rw [hR.2.2.1]; exact hc) (by rw [hR.2.2.2]; exact hsl) rfl fun H1 cA e1 z1 o1 hAr hNm => ?_
  have hcA : cA = G.2.2.1.1 := Option.some.inj (hNm.symm.trans (K.1.2 0 _ rfl).2)
  subst hcA
  refine kk S K hA hL hR ls H1 _ hl z1 (hP.new (hA _ hS.1) ?_ o1) ⟨Nat.le_trans hS.1 (by omega), fun x g1 g2 => (o1 x (Nat.lt_of_lt_of_le g1 hS.1)).trans (hS.2.1 x g1 g2), hS.2.2⟩
  show H1[H.size]? = some (vp_cell _ _)
  rw [e1, vp_cell_i, List.length_replicate]
  congr 2
  funext j
  by_cases hj : j < k <;> simp [hj, defaultValue, newarray.typeOf]
theorem r_newqO (k : Nat) {x : Int32} {idx : Nat} (hx : x = nI k) (hk : k ≤ 1000) (hc : cells + 1 ≤ mcT) (hsl : slots + k ≤ msT) (hw : Cond.classLink own idx "java/lang/Object" ∈ lw_all) (d : decode cc pc = .ok (.anewarray idx, 3)) (hq : pc + 3 = q) (kk : J G z cc nL own lvl mcT msT (cells + 1) (slots + k) q lo (.ref n :: stk) (n + 1) (hset h n (.inr (.inl (0, List.replicate k none))))) : J G z cc nL own lvl mcT msT cells slots pc lo (.int x :: stk) n h := by
  obtain ⟨p, e, R, s, m, args, below, meth, c, Q⟩ := z
  subst hq
  intro S K hA hL hR ls H locs hl hn hP hS
  subst hn
  have hN : x.toNatClampNeg = k := by rw [hx]; exact nI_clamp (by omega)
  refine W.anew S.1 S.2.1 S.2.2.2.1 (S.2.2.2.2 _ hw) (va_AO.use K.2.2.1) rfl d rfl (by rw [hx]; exact nI_pos (by omega)) (by rw [hN]; omega) (by rw [hR.2.2.1]; exact hc) (by rw [hR.2.2.2, hN]; exact hsl) fun cA kA comp f1 f2 f3 f4 => ?_
  rw [hN]
  obtain ⟨kA', comp', -, -, -, hNm⟩ := (K.1.2 1 _ rfl).2
  have hcA : cA = G.2.2.1.2.1 := Option.some.inj (f1.symm.trans hNm)
  subst hcA
  refine kk S K hA hL hR ls _ _ hl (by rw [Array.size_push]) (hP.new (hA _ hS.1) ?_ (fun q hq => by rw [Array.getElem?_push, if_neg (Nat.ne_of_lt hq)])) ⟨Nat.le_trans hS.1 (by rw [Array.size_push]; omega), fun x g1 g2 => by rw [Array.getElem?_push, if_neg (Nat.ne_of_lt (Nat.lt_of_lt_of_le g1 hS.1))]; exact hS.2.1 x g1 g2, hS.2.2⟩
  show (H.push _)[H.size]? = some (vp_cell _ _)
  rw [Array.getElem?_push_size, arrV_new, if_pos rfl, vp_cell_q, List.length_replicate]
  congr 2
  funext j
  by_cases hj : j < k <;> simp [hj, va_rf]
theorem r_newqQ (k : Nat) {x : Int32} {idx : Nat} (hx : x = nI k) (hk : k ≤ 1000) (hc : cells + 1 ≤ mcT) (hsl : slots + k ≤ msT) (hw : Cond.classLink own idx "PrayerMatsFace$Quarter" ∈ lw_all) (d : decode cc pc = .ok (.anewarray idx, 3)) (hq : pc + 3 = q) (kk : J G z cc nL own lvl mcT msT (cells + 1) (slots + k) q lo (.ref n :: stk) (n + 1) (hset h n (.inr (.inl (1, List.replicate k none))))) : J G z cc nL own lvl mcT msT cells slots pc lo (.int x :: stk) n h := by
  obtain ⟨p, e, R, s, m, args, below, meth, c, Q⟩ := z
  subst hq
  intro S K hA hL hR ls H locs hl hn hP hS
  subst hn
  have hN : x.toNatClampNeg = k := by rw [hx]; exact nI_clamp (by omega)
  refine W.anew S.1 S.2.1 S.2.2.2.1 (S.2.2.2.2 _ hw) (va_AO.use K.2.2.2.1) rfl d rfl (by rw [hx]; exact nI_pos (by omega)) (by rw [hN]; omega) (by rw [hR.2.2.1]; exact hc) (by rw [hR.2.2.2, hN]; exact hsl) fun cA kA comp f1 f2 f3 f4 => ?_
  rw [hN]
  obtain ⟨kA', comp', -, -, -, hNm⟩ := (K.1.2 2 _ rfl).2
  have hcA : cA = G.2.2.1.2.2 := Option.some.inj (f1.symm.trans hNm)
  subst hcA
  refine kk S K hA hL hR ls _ _ hl (by rw [Array.size_push]) (hP.new (hA _ hS.1) ?_ (fun q hq => by rw [Array.getElem?_push, if_neg (Nat.ne_of_lt hq)])) ⟨Nat.le_trans hS.1 (by rw [Array.size_push]; omega), fun x g1 g2 => by rw [Array.getElem?_push, if_neg (Nat.ne_of_lt (Nat.lt_of_lt_of_le g1 hS.1))]; exact hS.2.1 x g1 g2, hS.2.2⟩
  show (H.push _)[H.size]? = some (vp_cell _ _)
  rw [Array.getElem?_push_size, arrV_new, if_neg (by decide), vp_cell_q, List.length_replicate]
  congr 2
  funext j
  by_cases hj : j < k <;> simp [hj, va_rf]
theorem r_objInit {a idx : Nat} (hw : Cond.methodLink own idx Lib.objectInit ∈ lw_all) (hlv : 1 ≤ lvl) (hst : (stk.map fun v => v.category).sum ≤ 20) (d : decode cc pc = .ok (.invokespecial idx, 3)) (hq : pc + 3 = q) (kk : J G z cc nL own lvl mcT msT cells slots q lo stk n h) : J G z cc nL own lvl mcT msT cells slots pc lo (.ref a :: stk) n h := by
  obtain ⟨p, e, R, s, m, args, below, meth, c, Q⟩ := z
  subst hq
  intro S K hA hL hR ls H locs hl hn hP hS
  refine W.objInit S.1 S.2.1 S.2.2.2.1 (S.2.2.2.2 _ hw) (S.2.2.2.2 _ qq_oi) (S.2.2.2.2 _ qq_oc) rfl (hl.1.trans S.2.2.1.symm) rfl d (Nat.le_trans hlv hR.1) (by show 2 * 0 + _ + 12 ≤ _; have := hR.2.1; omega) ?_
  exact kk S K hA hL hR ls H locs hl hn hP hS
theorem r_castY {a idx ci : Nat} {fs : List Value} {C nm : String} {T : u_T} {N : Nat} (hw : Cond.classLink own idx nm ∈ lw_all) (hcl : dcl[ci]? = some (C, T, N)) (hca : Cond.castable C nm ∈ lw_tbl) (ho : h a = some (.inr (.inr (ci, fs)))) (d : decode cc pc = .ok (.checkcast idx, 3)) (hq : pc + 3 = q) (kk : J G z cc nL own lvl mcT msT cells slots q lo (.ref a :: stk) n h) : J G z cc nL own lvl mcT msT cells slots pc lo (.ref a :: stk) n h := by
  obtain ⟨p, e, R, s, m, args, below, meth, c, Q⟩ := z
  subst hq
  intro S K hA hL hR ls H locs hl hn hP hS
  exact va_castY S.1 S.2.1 S.2.2.2.1 (S.2.2.2.2 _ hw) (K.2.1 _ hca rfl) (va_recv (D := G.2.1) (cl := dcl) (q := (C, T, N)) (q0 := 0) (fs := fs) K.1 (hP.one ho) hcl rfl) d (kk S K hA hL hR ls H locs hl hn hP hS)
theorem r_castS {a idx ci : Nat} {fs : List Value} {nm : String} {T : u_T} {N : Nat} (hw : Cond.classLink own idx nm ∈ lw_all) (hcl : dcl[ci]? = some (nm, T, N)) (ho : h a = some (.inr (.inr (ci, fs)))) (d : decode cc pc = .ok (.checkcast idx, 3)) (hq : pc + 3 = q) (kk : J G z cc nL own lvl mcT msT cells slots q lo (.ref a :: stk) n h) : J G z cc nL own lvl mcT msT cells slots pc lo (.ref a :: stk) n h := by
  obtain ⟨p, e, R, s, m, args, below, meth, c, Q⟩ := z
  subst hq
  intro S K hA hL hR ls H locs hl hn hP hS
  exact va_castS S.1 S.2.1 S.2.2.2.1 (S.2.2.2.2 _ hw) (K.1.1 ci _ hcl).2 (va_recv (D := G.2.1) (cl := dcl) (q := (nm, T, N)) (q0 := 0) (fs := fs) K.1 (hP.one ho) hcl rfl) d (kk S K hA hL hR ls H locs hl hn hP hS)
theorem r_gets {idx : Nat} {nd : String × String} (hnd : nd = ("UNASSIGNED_STACK", "[Ljava/lang/StackTraceElement;") ∨ nd = ("SUPPRESSED_SENTINEL", "Ljava/util/List;")) (hw : Cond.fieldLink own idx "java/lang/Throwable" nd.1 nd.2 ∈ lw_all) (d : decode cc pc = .ok (.getstatic idx, 3)) (hq : pc + 3 = q) (kk : ∀ v : Value, (v = .null ∨ ∃ t, v = .ref t) → J G z cc nL own lvl mcT msT cells slots q lo (v :: stk) n h) : J G z cc nL own lvl mcT msT cells slots pc lo stk n h := by
  obtain ⟨p, e, R, s, m, args, below, meth, c, Q⟩ := z
  subst hq
  intro S K hA hL hR ls H locs hl hn hP hS
  have hZ : va_Zq "java/lang/Throwable" nd.1 nd.2 (fun q => G.2.2.2 ≤ q) s s.heap := by
    rcases hnd with rfl | rfl
    · exact K.2.2.2.2.1
    · exact K.2.2.2.2.2
  rcases hZ with hZ | ⟨t, hZ⟩
  · exact va_gets S.1 S.2.1 hZ hS S.2.2.2.1 (S.2.2.2.2 _ hw) (fun _ h => h) d (kk _ (Or.inl rfl) S K hA hL hR ls H locs hl hn hP hS)
  · exact va_gets S.1 S.2.1 hZ hS S.2.2.2.1 (S.2.2.2.2 _ hw) (fun _ h => h) d (kk _ (Or.inr ⟨t, rfl⟩) S K hA hL hR ls H locs hl hn hP hS)
theorem r_copy (k : Nat) {idx a b : Nat} {l m0 : List Int32} {x x0 x1 : Int32} (ha : h a = some (.inl l)) (hb : h b = some (.inl m0)) (hla : l.length = k) (hlb : m0.length = k) (hx : x = nI k) (hx0 : x0 = nI 0) (hx1 : x1 = nI 0) (hk : k ≤ 1000) (hlv : 1 ≤ lvl) (hst : (stk.map fun v => v.category).sum ≤ 8) (hw : Cond.methodLink own idx arraycopyName ∈ lw_all) (d : decode cc pc = .ok (.invokestatic idx, 3)) (hq : pc + 3 = q) (kk : J G z cc nL own lvl mcT msT cells slots q lo stk n (hset h b (.inl l))) : J G z cc nL own lvl mcT msT cells slots pc lo (.int x :: .int x1 :: .ref b :: .int x0 :: .ref a :: stk) n h := by
  obtain ⟨p, e, R, s, m, args, below, meth, c, Q⟩ := z
  subst hq
  intro S K hA hL hR ls H locs hl hn hP hS
  subst hx; subst hx0; subst hx1
  have hc0 : H[a]? = some (vp_cell G.2.2.1.1 (l.length, .inl (fun j => l.getD j 0))) := (hP a _ ha).2
  have hc1 : H[b]? = some (vp_cell G.2.2.1.1 (m0.length, .inl (fun j => m0.getD j 0))) := (hP b _ hb).2
  obtain ⟨-, k0, hk0, cm0, hkk0⟩ := (K.1.2 0 _ rfl).1 l.length (fun j => .int (l.getD j 0))
  obtain ⟨-, k1, hk1, cm1, hkk1⟩ := (K.1.2 0 _ rfl).1 m0.length (fun j => .int (m0.getD j 0))
  have hkc : (nI k).toNatClampNeg = k := nI_clamp (by omega)
  have h0c : (nI 0).toNatClampNeg = 0 := nI_clamp (by omega)
  have hki : (nI k).toInt = (k : Int) := nI_toInt (by omega)
  have h0i : (nI 0).toInt = 0 := nI_toInt (by omega)
  intro T hT X
  obtain ⟨vm', X', step⟩ := X.arraycopy S.1 S.2.2.2.1 (S.2.2.2.2 _ hw) (S.2.2.2.2 _ qq_an) (S.2.2.2.2 _ qq_as) (S.2.2.2.2 _ qq_ai) (src := a) (dst := b) (cs := vp_cell G.2.2.1.1 (l.length, .inl (fun j => l.getD j 0))) (cd := vp_cell G.2.2.1.1 (m0.length, .inl (fun j => m0.getD j 0))) (srcPos := nI 0) (destPos := nI 0) (n := nI k) (by rw [hT]; exact hc0) (by rw [hT]; exact hc1)
    (fun _ h => by cases h) (fun _ h => by cases h) (fun h => by cases h) (fun h => by cases h) hk0 hk1 hkk0 hkk1 (by simp [refKind]) (nI_pos (by omega)) (nI_pos (by omega)) (nI_pos (by omega))
    (by rw [h0i, hki]; show ¬ _ > ((arrV _ _ _).slots.size : Int); rw [arrV_size]; omega)
    (by rw [h0i, hki]; show ¬ _ > ((arrV _ _ _).slots.size : Int); rw [arrV_size]; omega)
    (fun vm₁ _ i hi => by
      rw [hkc] at hi
      have e : (vp_cell G.2.2.1.1 (l.length, .inl (fun j => l.getD j 0))).slots.getD ((nI 0).toNatClampNeg + i) .null = .int (l.getD ((nI 0).toNatClampNeg + i) 0) := by
        show (arrV _ _ _).slots.getD _ _ = _
        rw [Array.getD_eq_getD_getElem?, arrV_read _ _ (by omega)]
        rfl
      refine ⟨?_, ?_⟩
      · rw [e]
        rfl
      · rw [e]
        exact trivial)
    (g := F0 m pc ls (.int (nI k) :: .int (nI 0) :: .ref b :: .int (nI 0) :: .ref a :: stk)) rfl (by rw [S.2.2.1]; exact hl.1) (rest := stk) rfl (by rw [S.2.1]; exact d) (Nat.le_trans hlv hR.1) (by show 2 * 0 + _ + _ ≤ _; have h2 := nf_le; have h3 := hR.2.1; omega)
  have e1 : copied (vp_cell G.2.2.1.1 (l.length, .inl (fun j => l.getD j 0))) (vp_cell G.2.2.1.1 (m0.length, .inl (fun j => m0.getD j 0))) (nI 0) (nI 0) (nI k) = vp_cell G.2.2.1.1 (l.length, .inl (fun j => l.getD j 0)) := by
    have e2 := va_copied (fun z => .int z) G.2.2.1.1 G.2.2.1.1 (n0 := l.length) (n1 := m0.length) (sp := (nI 0).toNatClampNeg) (dp := (nI 0).toNatClampNeg) (n := (nI k).toNatClampNeg) (fun j => l.getD j 0) (fun j => m0.getD j 0) (by rw [h0c, hkc]; omega)
    refine Eq.trans e2 ?_
    rw [vp_cell_i, hla, hlb]
    unfold arrV
    congr 1
    apply Array.ext
    · simp
    · intro i h1 h2
      simp at h1
      simp [va_cpy, h0c, hkc, h1]
  rw [e1] at X' step
  have hlt : b < H.size := (Array.getElem?_eq_some_iff.mp hc1).1
  have hheap : ((T.setVm vm').setCell b (vp_cell G.2.2.1.1 (l.length, .inl (fun j => l.getD j 0)))).heap = H.setIfInBounds b (vp_cell G.2.2.1.1 (l.length, .inl (fun j => l.getD j 0))) := by rw [← hT]; rfl
  have oq : ∀ q : Nat, q ≠ b → (H.setIfInBounds b (vp_cell G.2.2.1.1 (l.length, .inl (fun j => l.getD j 0))))[q]? = H[q]? := fun q hq => by simp [Array.getElem?_setIfInBounds, Ne.symm hq]
  obtain ⟨t, a1, b1⟩ := kk S K hA hL hR ls _ _ hl (by simp; exact hn) (hP.put (hP b _ hb).1 (c := .inl l) (show (H.setIfInBounds b _)[b]? = some _ by simp [Array.getElem?_setIfInBounds, hlt]) oq) ⟨by simp; exact hS.1, fun q g1 g2 => by
      rw [oq q (fun e => g2 (by rw [e]; exact (hP b _ hb).1))]
      exact hS.2.1 q g1 g2, fun q hq => by
      rcases List.mem_append.mp hq with h | h
      · exact hS.2.2 q h
      · obtain ⟨z, -, hz⟩ := List.mem_map.mp h
        rw [← hz]
        exact (hP b _ hb).1⟩ _ hheap X'
  exact ⟨t, step t a1, b1⟩
/-! calls -/
theorem J.call {R : Room} {p : Program} {e : Env} {s : State} {m : MethodId} {args : Array Value} {below : List Frame} {meth : Method} {c : Code} {Q : State → Prop} {H : Heap} {locs : List Loc} {ls : Array Slot} {rest st0 : List Value} {mc ms : Nat} {a : Array Value} {Post : Option Value → Nat → RH → Prop} (hr : va_Run p G.1 e R s m args below meth c H locs cells slots mc ms (F0 m pc ls st0) rest (QP G Post a) (fun q => G.2.2.2 ≤ q)) (hS : va_S (fun q => G.2.2.2 ≤ q) s.heap H locs)
    (kk : ∀ (r : Option Value) (h' : RH) (H1 : Heap) (locs1 : List Loc), Post r H1.size h' → RepH G h' H1 → va_S (fun q => G.2.2.2 ≤ q) s.heap H1 locs1 → W p G.1 e R s m args below meth c H1 locs1 (cells + mc) (slots + ms) Q (F0 m (pc + 3) ls (r.toList ++ rest))) : W p G.1 e R s m args below meth c H locs cells slots Q (F0 m pc ls st0) := by
  intro T hT X
  obtain ⟨v, st₀, t, T', L, h0, X', hL, e1, e2, ⟨⟨r, h', hv, hp, hRp⟩, hz, hk⟩, st⟩ := hr T hT X
  cases hv
  rw [h0] at hz hk
  obtain ⟨t2, a1, b1⟩ := kk v h' T'.heap (locs ++ L) (by rw [e1]; exact hp) (by rw [e1]; exact hRp)
    ⟨Nat.le_trans hS.1 (by rw [e1]; exact hz), fun q h1 h2 => by rw [e1, hk q (Nat.lt_of_lt_of_le h1 hS.1) h2]; exact hS.2.1 q h1 h2, fun q hq => by
      rcases List.mem_append.mp hq with h | h
      · exact hS.2.2 q h
      · exact hL q h⟩ T' rfl X'
  exact ⟨t2, st t2 a1, b1⟩
abbrev nMH (y : MethodName) (k : Nat) : Prop := y.cls ≠ "java/lang/invoke/MethodHandle" ∧ y.cls ≠ "java/lang/invoke/VarHandle" ∧ (parseMethodDescriptor y.desc).map (fun d => d.parameters.length) = some k
/-- a virtual call's site -/
def CVok (own : String) (idx : Nat) (C : String) (y : MethodName) (cb : ByteArray) (L : Nat) (ret : Option FieldType) (k : Nat) : Prop := GoodIn lw_all (wsV own idx C y (ws_ y cb L ret)) ∧ (y.cls = C ∧ nMH y k) ∧ L ≤ 20
def CSok (own : String) (idx : Nat) (y : MethodName) (cb : ByteArray) (L : Nat) (ret : Option FieldType) (k : Nat) : Prop := GoodIn lw_all (va_wsS own idx y (ws_ y cb L ret)) ∧ nMH y k ∧ L ≤ 20
def CIok (own : String) (idx : Nat) (y : MethodName) (cb : ByteArray) (L : Nat) (k : Nat) : Prop := (Cond.code y cb L none ∈ lw_all ∧ Cond.initialized y.cls ∈ lw_all ∧ Cond.methodLink own idx y ∈ lw_all ∧ Cond.instanceMethod y ∈ lw_all ∧ y.name = "<init>") ∧ nMH y k ∧ L ≤ 20
def CINok (own : String) (idx : Nat) (y : MethodName) (host : String) (cb : ByteArray) (L : Nat) (k : Nat) : Prop := (Cond.code y cb L none ∈ lw_all ∧ Cond.initialized y.cls ∈ lw_all ∧ Cond.methodLinkNest own idx y host ∈ lw_tbl ∧ Cond.instanceMethod y ∈ lw_all ∧ y.name = "<init>") ∧ nMH y k ∧ L ≤ 20
def CSNok (own : String) (idx : Nat) (y : MethodName) (host : String) (cb : ByteArray) (L : Nat) (ret : Option FieldType) (k : Nat) : Prop := (Cond.code y cb L ret ∈ lw_all ∧ Cond.initialized y.cls ∈ lw_all ∧ Cond.methodLinkNest own idx y host ∈ lw_tbl ∧ Cond.static y ∈ lw_all) ∧ nMH y k ∧ L ≤ 20
/-- an inherited or overridden method: x named, y selected for C -/
def CUok (own : String) (idx : Nat) (C : String) (x y : MethodName) (cb : ByteArray) (L : Nat) (ret : Option FieldType) (k : Nat) : Prop := ∃ (owner : String) (b0 : ByteArray) (m0 : Nat) (r0 : Option FieldType), GoodIn lw_all (va_wsU own idx C owner x y (ws_ y cb L ret)) ∧ Cond.instanceMethod ⟨owner, x.name, x.desc⟩ ∈ lw_all ∧ Cond.code ⟨owner, x.name, x.desc⟩ b0 m0 r0 ∈ lw_all ∧ (owner ≠ "java/lang/invoke/MethodHandle" ∧ owner ≠ "java/lang/invoke/VarHandle" ∧ (parseMethodDescriptor x.desc).map (fun d => d.parameters.length) = some k) ∧ L ≤ 20
def CSUok (own : String) (idx : Nat) (y : MethodName) (cb : ByteArray) (L : Nat) (ret : Option FieldType) (k : Nat) : Prop := GoodIn lw_all (va_wsSU own idx y (ws_ y cb L ret)) ∧ (y.name ≠ "<init>" ∧ (parseMethodDescriptor y.desc).map (fun d => d.parameters.length) = some k) ∧ L ≤ 20
variable {y x : MethodName} {cb : ByteArray} {L lv2 mc ms idx nA o ci : Nat} {ret : Option FieldType} {C : String} {T : u_T} {N : Nat} {fs As rest : List Value} {Post : Option Value → Nat → RH → Prop}
theorem g_callV (hV : CVok own idx C y cb L ret nA) (ho : h o = some (.inr (.inr (ci, fs)))) (hcl : dcl[ci]? = some (C, T, N)) (hlv : lv2 + 1 ≤ lvl) (hro : cells + mc ≤ mcT ∧ slots + ms ≤ msT) (hst : (rest.map fun v => v.category).sum ≤ 8) (hAs : As.length = nA) (hC : Ct G y cb L ret lv2 mc ms (.ref o :: As) n h Post) (d : decode cc pc = .ok (.invokevirtual idx, 3)) (hq : pc + 3 = q) (kk : ∀ (r : Option Value) (n' : Nat) (h' : RH), Post r n' h' → J G z cc nL own lvl mcT msT (cells + mc) (slots + ms) q lo (r.toList ++ rest) n' h') : J G z cc nL own lvl mcT msT cells slots pc lo (As.reverse ++ .ref o :: rest) n h := by
  obtain ⟨p, e, R, s, m, args, below, meth, c, Q⟩ := z
  subst hq
  intro S K hA hL hR ls H locs hl hn hP hS
  obtain ⟨v1, v2, v3⟩ := hV
  exact J.call (va_runV (As := As) (rest := rest) S hC (cwV nA S.2.2.2.2 v1 rfl rfl rfl ⟨v2.1, v2.2⟩ ⟨Nat.le_trans hlv hR.1, by show 8 + (L + 11) + 40 * lv2 ≤ R.locals; have := hR.2.1; omega⟩) ⟨Ct.blind, va_recv (D := G.2.1) (cl := dcl) (q := (C, T, N)) (q0 := 0) (fs := fs) K.1 (hP.one ho) hcl rfl, fun U hU hW => ⟨rfl, by rw [hU]; exact hn, by rw [hU]; exact hP, K.warm hS hU hW, by rw [← hn]; exact hA _ hS.1⟩⟩ rfl hAs hl.1 rfl (by show 2 * 0 + _ ≤ 8; omega) d ⟨by rw [hR.2.2.1]; exact hro.1, by rw [hR.2.2.2]; exact hro.2⟩) hS (fun r h' H1 locs1 hp hRp hS1 => kk r _ h' hp S K hA hL hR ls H1 locs1 hl rfl hRp hS1)
theorem g_callS (hV : CSok own idx y cb L ret nA) (hlv : lv2 + 1 ≤ lvl) (hro : cells + mc ≤ mcT ∧ slots + ms ≤ msT) (hst : (rest.map fun v => v.category).sum ≤ 8) (hAs : As.length = nA) (hC : Ct G y cb L ret lv2 mc ms As n h Post) (d : decode cc pc = .ok (.invokestatic idx, 3)) (hq : pc + 3 = q) (kk : ∀ (r : Option Value) (n' : Nat) (h' : RH), Post r n' h' → J G z cc nL own lvl mcT msT (cells + mc) (slots + ms) q lo (r.toList ++ rest) n' h') : J G z cc nL own lvl mcT msT cells slots pc lo (As.reverse ++ rest) n h := by
  obtain ⟨p, e, R, s, m, args, below, meth, c, Q⟩ := z
  subst hq
  intro S K hA hL hR ls H locs hl hn hP hS
  obtain ⟨v1, v2, v3⟩ := hV
  exact J.call (va_runS (As := As) (rest := rest) S hC (va_cwS nA S.2.2.2.2 v1 rfl rfl rfl v2 ⟨Nat.le_trans hlv hR.1, by show 8 + (L + 11) + 40 * lv2 ≤ R.locals; have := hR.2.1; omega⟩) ⟨Ct.blind, fun U hU hW => ⟨rfl, by rw [hU]; exact hn, by rw [hU]; exact hP, K.warm hS hU hW, by rw [← hn]; exact hA _ hS.1⟩⟩ rfl hAs hl.1 rfl (by show 2 * 0 + _ ≤ 8; omega) d ⟨by rw [hR.2.2.1]; exact hro.1, by rw [hR.2.2.2]; exact hro.2⟩) hS (fun r h' H1 locs1 hp hRp hS1 => kk r _ h' hp S K hA hL hR ls H1 locs1 hl rfl hRp hS1)
theorem g_callI (hV : CIok own idx y cb L nA) (hret : ret = none) (hlv : lv2 + 1 ≤ lvl) (hro : cells + mc ≤ mcT ∧ slots + ms ≤ msT) (hst : (rest.map fun v => v.category).sum ≤ 8) (hAs : As.length = nA) (hC : Ct G y cb L ret lv2 mc ms (.ref o :: As) n h Post) (d : decode cc pc = .ok (.invokespecial idx, 3)) (hq : pc + 3 = q) (kk : ∀ (r : Option Value) (n' : Nat) (h' : RH), Post r n' h' → J G z cc nL own lvl mcT msT (cells + mc) (slots + ms) q lo (r.toList ++ rest) n' h') : J G z cc nL own lvl mcT msT cells slots pc lo (As.reverse ++ .ref o :: rest) n h := by
  obtain ⟨p, e, R, s, m, args, below, meth, c, Q⟩ := z
  subst hq
  intro S K hA hL hR ls H locs hl hn hP hS
  subst hret
  obtain ⟨⟨w1, w2, w3, w4, w5⟩, v2, v3⟩ := hV
  exact J.call (va_runI (As := As) (b := o) (rest := rest) S hC (cwI nA S.2.2.2.2 (lw_meth w1) rfl rfl rfl (S.2.2.2.2 _ w2) (S.2.2.2.2 _ w3) (S.2.2.2.2 _ w4) w5 v2 ⟨Nat.le_trans hlv hR.1, by show 8 + (L + 11) + 40 * lv2 ≤ R.locals; have := hR.2.1; omega⟩) ⟨Ct.blind, fun U hU hW => ⟨rfl, by rw [hU]; exact hn, by rw [hU]; exact hP, K.warm hS hU hW, by rw [← hn]; exact hA _ hS.1⟩⟩ rfl hAs hl.1 rfl (by show 2 * 0 + _ ≤ 8; omega) d ⟨by rw [hR.2.2.1]; exact hro.1, by rw [hR.2.2.2]; exact hro.2⟩) hS (fun r h' H1 locs1 hp hRp hS1 => kk r _ h' hp S K hA hL hR ls H1 locs1 hl rfl hRp hS1)
theorem g_callIN {host : String} (hV : CINok own idx y host cb L nA) (hret : ret = none) (hlv : lv2 + 1 ≤ lvl) (hro : cells + mc ≤ mcT ∧ slots + ms ≤ msT) (hst : (rest.map fun v => v.category).sum ≤ 8) (hAs : As.length = nA) (hC : Ct G y cb L ret lv2 mc ms (.ref o :: As) n h Post) (d : decode cc pc = .ok (.invokespecial idx, 3)) (hq : pc + 3 = q) (kk : ∀ (r : Option Value) (n' : Nat) (h' : RH), Post r n' h' → J G z cc nL own lvl mcT msT (cells + mc) (slots + ms) q lo (r.toList ++ rest) n' h') : J G z cc nL own lvl mcT msT cells slots pc lo (As.reverse ++ .ref o :: rest) n h := by
  obtain ⟨p, e, R, s, m, args, below, meth, c, Q⟩ := z
  subst hq
  intro S K hA hL hR ls H locs hl hn hP hS
  subst hret
  obtain ⟨⟨w1, w2, w3, w4, w5⟩, v2, v3⟩ := hV
  exact J.call (va_runIN (As := As) (b := o) (rest := rest) S hC ⟨va_cnB nA S.2.2.2.2 (lw_meth w1) rfl rfl rfl (K.2.1 _ w3 rfl) (S.2.2.2.2 _ w2) v2 ⟨Nat.le_trans hlv hR.1, by show 8 + (L + 11) + 40 * lv2 ≤ R.locals; have := hR.2.1; omega⟩, w5, S.2.2.2.2 _ w4⟩ ⟨Ct.blind, fun U hU hW => ⟨rfl, by rw [hU]; exact hn, by rw [hU]; exact hP, K.warm hS hU hW, by rw [← hn]; exact hA _ hS.1⟩⟩ rfl hAs hl.1 rfl (by show 2 * 0 + _ ≤ 8; omega) d ⟨by rw [hR.2.2.1]; exact hro.1, by rw [hR.2.2.2]; exact hro.2⟩) hS (fun r h' H1 locs1 hp hRp hS1 => kk r _ h' hp S K hA hL hR ls H1 locs1 hl rfl hRp hS1)
theorem g_callSN {host : String} (hV : CSNok own idx y host cb L ret nA) (hlv : lv2 + 1 ≤ lvl) (hro : cells + mc ≤ mcT ∧ slots + ms ≤ msT) (hst : (rest.map fun v => v.category).sum ≤ 8) (hAs : As.length = nA) (hC : Ct G y cb L ret lv2 mc ms As n h Post) (d : decode cc pc = .ok (.invokestatic idx, 3)) (hq : pc + 3 = q) (kk : ∀ (r : Option Value) (n' : Nat) (h' : RH), Post r n' h' → J G z cc nL own lvl mcT msT (cells + mc) (slots + ms) q lo (r.toList ++ rest) n' h') : J G z cc nL own lvl mcT msT cells slots pc lo (As.reverse ++ rest) n h := by
  obtain ⟨p, e, R, s, m, args, below, meth, c, Q⟩ := z
  subst hq
  intro S K hA hL hR ls H locs hl hn hP hS
  obtain ⟨⟨w1, w2, w3, w4⟩, v2, v3⟩ := hV
  exact J.call (va_runSN (As := As) (rest := rest) S hC ⟨va_cnB nA S.2.2.2.2 (lw_meth w1) rfl rfl rfl (K.2.1 _ w3 rfl) (S.2.2.2.2 _ w2) v2 ⟨Nat.le_trans hlv hR.1, by show 8 + (L + 11) + 40 * lv2 ≤ R.locals; have := hR.2.1; omega⟩, S.2.2.2.2 _ w4, trivial⟩ ⟨Ct.blind, fun U hU hW => ⟨rfl, by rw [hU]; exact hn, by rw [hU]; exact hP, K.warm hS hU hW, by rw [← hn]; exact hA _ hS.1⟩⟩ rfl hAs hl.1 rfl (by show 2 * 0 + _ ≤ 8; omega) d ⟨by rw [hR.2.2.1]; exact hro.1, by rw [hR.2.2.2]; exact hro.2⟩) hS (fun r h' H1 locs1 hp hRp hS1 => kk r _ h' hp S K hA hL hR ls H1 locs1 hl rfl hRp hS1)
theorem g_callU (hV : CUok own idx C x y cb L ret nA) (ho : h o = some (.inr (.inr (ci, fs)))) (hcl : dcl[ci]? = some (C, T, N)) (hlv : lv2 + 1 ≤ lvl) (hro : cells + mc ≤ mcT ∧ slots + ms ≤ msT) (hst : (rest.map fun v => v.category).sum ≤ 8) (hAs : As.length = nA) (hC : Ct G y cb L ret lv2 mc ms (.ref o :: As) n h Post) (d : decode cc pc = .ok (.invokevirtual idx, 3)) (hq : pc + 3 = q) (kk : ∀ (r : Option Value) (n' : Nat) (h' : RH), Post r n' h' → J G z cc nL own lvl mcT msT (cells + mc) (slots + ms) q lo (r.toList ++ rest) n' h') : J G z cc nL own lvl mcT msT cells slots pc lo (As.reverse ++ .ref o :: rest) n h := by
  obtain ⟨p, e, R, s, m, args, below, meth, c, Q⟩ := z
  subst hq
  intro S K hA hL hR ls H locs hl hn hP hS
  obtain ⟨owner, b0, m0, r0, v1, w1, w2, v2, v3⟩ := hV
  have ok : ∀ w ∈ va_wsU own idx C owner x y (ws_ y cb L ret), w.before args s = true := fun w h => S.2.2.2.2 w (v1 w h).1
  have hG : GoodIn lw_all (ws_ y cb L ret) := fun w h => v1 w (by unfold va_wsU; exact List.mem_append_right _ h)
  have hc : Cond.code y cb L ret ∈ ws_ y cb L ret := List.mem_cons_self
  have hcw : va_CU R s args own C owner idx x y cb L ret (ws_ y cb L ret) ({ frames := lv2, cells := mc, slots := ms, locals := 40 * lv2 } : Room) mc ms nA := by
    refine ⟨⟨rfl, rfl, Nat.le_trans hlv hR.1, by show 8 + (L + 11) + 40 * lv2 ≤ R.locals; have := hR.2.1; omega, pay_in S.2.2.2.2 hG, hc⟩, S.2.2.2.2 _ (hG _ hc).1, ok _ (by simp [va_wsU]), ⟨v2.1, v2.2.1⟩, fun sig hsig => ?_, ok _ (by simp [va_wsU]), ok _ (by simp [va_wsU]), va_Decl.of (S.2.2.2.2 _ w1) (S.2.2.2.2 _ w2), ok _ (by simp [va_wsU]), ok _ (by simp [va_wsU])⟩
    have h2 := v2.2.2
    rw [hsig] at h2
    exact (Option.some.inj h2).symm
  exact J.call (va_runU (As := As) (rest := rest) S hC hcw ⟨Ct.blind, va_recv (D := G.2.1) (cl := dcl) (q := (C, T, N)) (q0 := 0) (fs := fs) K.1 (hP.one ho) hcl rfl, fun U hU hW => ⟨rfl, by rw [hU]; exact hn, by rw [hU]; exact hP, K.warm hS hU hW, by rw [← hn]; exact hA _ hS.1⟩⟩ rfl hAs hl.1 rfl (by show 2 * 0 + _ ≤ 8; omega) d ⟨by rw [hR.2.2.1]; exact hro.1, by rw [hR.2.2.2]; exact hro.2⟩) hS (fun r h' H1 locs1 hp hRp hS1 => kk r _ h' hp S K hA hL hR ls H1 locs1 hl rfl hRp hS1)
theorem g_callSU (hV : CSUok own idx y cb L ret nA) (ho : h o = some (.inr (.inr (ci, fs)))) (hcl : dcl[ci]? = some (C, T, N)) (hlv : lv2 + 1 ≤ lvl) (hro : cells + mc ≤ mcT ∧ slots + ms ≤ msT) (hst : (rest.map fun v => v.category).sum ≤ 8) (hAs : As.length = nA) (hC : Ct G y cb L ret lv2 mc ms (.ref o :: As) n h Post) (d : decode cc pc = .ok (.invokespecial idx, 3)) (hq : pc + 3 = q) (kk : ∀ (r : Option Value) (n' : Nat) (h' : RH), Post r n' h' → J G z cc nL own lvl mcT msT (cells + mc) (slots + ms) q lo (r.toList ++ rest) n' h') : J G z cc nL own lvl mcT msT cells slots pc lo (As.reverse ++ .ref o :: rest) n h := by
  obtain ⟨p, e, R, s, m, args, below, meth, c, Q⟩ := z
  subst hq
  intro S K hA hL hR ls H locs hl hn hP hS
  obtain ⟨v1, v2, v3⟩ := hV
  exact J.call (va_runSU (As := As) (rest := rest) (K.1.1 ci _ hcl).2 S hC (va_cwSU nA S.2.2.2.2 v1 rfl rfl rfl v2 ⟨Nat.le_trans hlv hR.1, by show 8 + (L + 11) + 40 * lv2 ≤ R.locals; have := hR.2.1; omega⟩) ⟨Ct.blind, va_recv (D := G.2.1) (cl := dcl) (q := (C, T, N)) (q0 := 0) (fs := fs) K.1 (hP.one ho) hcl rfl, fun U hU hW => ⟨rfl, by rw [hU]; exact hn, by rw [hU]; exact hP, K.warm hS hU hW, by rw [← hn]; exact hA _ hS.1⟩⟩ rfl hAs hl.1 rfl (by show 2 * 0 + _ ≤ 8; omega) d ⟨by rw [hR.2.2.1]; exact hro.1, by rw [hR.2.2.2]; exact hro.2⟩) hS (fun r h' H1 locs1 hp hRp hS1 => kk r _ h' hp S K hA hL hR ls H1 locs1 hl rfl hRp hS1)
end JH
section JC
variable {G : GD} {z : MZ} {cc : ByteArray} {nL : Nat} {own : String} {lvl mcT msT cells slots pc q n : Nat} {lo : List (Option Value)} {h : RH}
variable {y x : MethodName} {cb : ByteArray} {L lv2 mc ms idx o ci : Nat} {ret : Option FieldType} {C host : String} {T : u_T} {N : Nat} {fs rest : List Value} {Post : Option Value → Nat → RH → Prop} {r0 : Option Value} {v0 : Value} {h0 : RH}
theorem r_callVp_0 (hV : CVok own idx C y cb L ret 0) (ho : h o = some (.inr (.inr (ci, fs)))) (hcl : dcl[ci]? = some (C, T, N)) (hlv : lv2 + 1 ≤ lvl) (hst : (rest.map fun v => v.category).sum ≤ 8) (hro : cells + mc ≤ mcT ∧ slots + ms ≤ msT) (hC : Ct G y cb L ret lv2 mc ms [.ref o] n h Post) (d : decode cc pc = .ok (.invokevirtual idx, 3)) (hq : pc + 3 = q) (kk : ∀ (r : Option Value) (n' : Nat) (h' : RH), Post r n' h' → J G z cc nL own lvl mcT msT (cells + mc) (slots + ms) q lo (r.toList ++ rest) n' h') : J G z cc nL own lvl mcT msT cells slots pc lo (.ref o :: rest) n h := g_callV (As := []) hV ho hcl hlv hro hst rfl hC d hq kk
theorem r_callV_0 (hV : CVok own idx C y cb L ret 0) (ho : h o = some (.inr (.inr (ci, fs)))) (hcl : dcl[ci]? = some (C, T, N)) (hlv : lv2 + 1 ≤ lvl) (hst : (rest.map fun v => v.category).sum ≤ 8) (hro : cells ≤ mcT ∧ slots ≤ msT) (hC : CtE G y cb L ret lv2 [.ref o] n h (some v0) h0) (d : decode cc pc = .ok (.invokevirtual idx, 3)) (hq : pc + 3 = q) (kk : J G z cc nL own lvl mcT msT cells slots q lo (v0 :: rest) n h0) : J G z cc nL own lvl mcT msT cells slots pc lo (.ref o :: rest) n h := g_callV (As := []) hV ho hcl hlv hro hst rfl hC d hq (fun r n' h' hp => by obtain ⟨rfl, rfl, rfl⟩ := hp; exact kk)
theorem r_callVv_0 (hV : CVok own idx C y cb L ret 0) (ho : h o = some (.inr (.inr (ci, fs)))) (hcl : dcl[ci]? = some (C, T, N)) (hlv : lv2 + 1 ≤ lvl) (hst : (rest.map fun v => v.category).sum ≤ 8) (hro : cells ≤ mcT ∧ slots ≤ msT) (hC : CtE G y cb L ret lv2 [.ref o] n h (none) h0) (d : decode cc pc = .ok (.invokevirtual idx, 3)) (hq : pc + 3 = q) (kk : J G z cc nL own lvl mcT msT cells slots q lo (rest) n h0) : J G z cc nL own lvl mcT msT cells slots pc lo (.ref o :: rest) n h := g_callV (As := []) hV ho hcl hlv hro hst rfl hC d hq (fun r n' h' hp => by obtain ⟨rfl, rfl, rfl⟩ := hp; exact kk)
theorem r_callVp_1 {b0 : Value} (hV : CVok own idx C y cb L ret 1) (ho : h o = some (.inr (.inr (ci, fs)))) (hcl : dcl[ci]? = some (C, T, N)) (hlv : lv2 + 1 ≤ lvl) (hst : (rest.map fun v => v.category).sum ≤ 8) (hro : cells + mc ≤ mcT ∧ slots + ms ≤ msT) (hC : Ct G y cb L ret lv2 mc ms [.ref o, b0] n h Post) (d : decode cc pc = .ok (.invokevirtual idx, 3)) (hq : pc + 3 = q) (kk : ∀ (r : Option Value) (n' : Nat) (h' : RH), Post r n' h' → J G z cc nL own lvl mcT msT (cells + mc) (slots + ms) q lo (r.toList ++ rest) n' h') : J G z cc nL own lvl mcT msT cells slots pc lo (b0 :: .ref o :: rest) n h := g_callV (As := [b0]) hV ho hcl hlv hro hst rfl hC d hq kk
theorem r_callV_1 {b0 : Value} (hV : CVok own idx C y cb L ret 1) (ho : h o = some (.inr (.inr (ci, fs)))) (hcl : dcl[ci]? = some (C, T, N)) (hlv : lv2 + 1 ≤ lvl) (hst : (rest.map fun v => v.category).sum ≤ 8) (hro : cells ≤ mcT ∧ slots ≤ msT) (hC : CtE G y cb L ret lv2 [.ref o, b0] n h (some v0) h0) (d : decode cc pc = .ok (.invokevirtual idx, 3)) (hq : pc + 3 = q) (kk : J G z cc nL own lvl mcT msT cells slots q lo (v0 :: rest) n h0) : J G z cc nL own lvl mcT msT cells slots pc lo (b0 :: .ref o :: rest) n h := g_callV (As := [b0]) hV ho hcl hlv hro hst rfl hC d hq (fun r n' h' hp => by obtain ⟨rfl, rfl, rfl⟩ := hp; exact kk)
theorem r_callVv_1 {b0 : Value} (hV : CVok own idx C y cb L ret 1) (ho : h o = some (.inr (.inr (ci, fs)))) (hcl : dcl[ci]? = some (C, T, N)) (hlv : lv2 + 1 ≤ lvl) (hst : (rest.map fun v => v.category).sum ≤ 8) (hro : cells ≤ mcT ∧ slots ≤ msT) (hC : CtE G y cb L ret lv2 [.ref o, b0] n h (none) h0) (d : decode cc pc = .ok (.invokevirtual idx, 3)) (hq : pc + 3 = q) (kk : J G z cc nL own lvl mcT msT cells slots q lo (rest) n h0) : J G z cc nL own lvl mcT msT cells slots pc lo (b0 :: .ref o :: rest) n h := g_callV (As := [b0]) hV ho hcl hlv hro hst rfl hC d hq (fun r n' h' hp => by obtain ⟨rfl, rfl, rfl⟩ := hp; exact kk)
theorem r_callVp_2 {b0 b1 : Value} (hV : CVok own idx C y cb L ret 2) (ho : h o = some (.inr (.inr (ci, fs)))) (hcl : dcl[ci]? = some (C, T, N)) (hlv : lv2 + 1 ≤ lvl) (hst : (rest.map fun v => v.category).sum ≤ 8) (hro : cells + mc ≤ mcT ∧ slots + ms ≤ msT) (hC : Ct G y cb L ret lv2 mc ms [.ref o, b0, b1] n h Post) (d : decode cc pc = .ok (.invokevirtual idx, 3)) (hq : pc + 3 = q) (kk : ∀ (r : Option Value) (n' : Nat) (h' : RH), Post r n' h' → J G z cc nL own lvl mcT msT (cells + mc) (slots + ms) q lo (r.toList ++ rest) n' h') : J G z cc nL own lvl mcT msT cells slots pc lo (b1 :: b0 :: .ref o :: rest) n h := g_callV (As := [b0, b1]) hV ho hcl hlv hro hst rfl hC d hq kk
theorem r_callV_2 {b0 b1 : Value} (hV : CVok own idx C y cb L ret 2) (ho : h o = some (.inr (.inr (ci, fs)))) (hcl : dcl[ci]? = some (C, T, N)) (hlv : lv2 + 1 ≤ lvl) (hst : (rest.map fun v => v.category).sum ≤ 8) (hro : cells ≤ mcT ∧ slots ≤ msT) (hC : CtE G y cb L ret lv2 [.ref o, b0, b1] n h (some v0) h0) (d : decode cc pc = .ok (.invokevirtual idx, 3)) (hq : pc + 3 = q) (kk : J G z cc nL own lvl mcT msT cells slots q lo (v0 :: rest) n h0) : J G z cc nL own lvl mcT msT cells slots pc lo (b1 :: b0 :: .ref o :: rest) n h := g_callV (As := [b0, b1]) hV ho hcl hlv hro hst rfl hC d hq (fun r n' h' hp => by obtain ⟨rfl, rfl, rfl⟩ := hp; exact kk)
theorem r_callVv_2 {b0 b1 : Value} (hV : CVok own idx C y cb L ret 2) (ho : h o = some (.inr (.inr (ci, fs)))) (hcl : dcl[ci]? = some (C, T, N)) (hlv : lv2 + 1 ≤ lvl) (hst : (rest.map fun v => v.category).sum ≤ 8) (hro : cells ≤ mcT ∧ slots ≤ msT) (hC : CtE G y cb L ret lv2 [.ref o, b0, b1] n h (none) h0) (d : decode cc pc = .ok (.invokevirtual idx, 3)) (hq : pc + 3 = q) (kk : J G z cc nL own lvl mcT msT cells slots q lo (rest) n h0) : J G z cc nL own lvl mcT msT cells slots pc lo (b1 :: b0 :: .ref o :: rest) n h := g_callV (As := [b0, b1]) hV ho hcl hlv hro hst rfl hC d hq (fun r n' h' hp => by obtain ⟨rfl, rfl, rfl⟩ := hp; exact kk)
theorem r_callVp_3 {b0 b1 b2 : Value} (hV : CVok own idx C y cb L ret 3) (ho : h o = some (.inr (.inr (ci, fs)))) (hcl : dcl[ci]? = some (C, T, N)) (hlv : lv2 + 1 ≤ lvl) (hst : (rest.map fun v => v.category).sum ≤ 8) (hro : cells + mc ≤ mcT ∧ slots + ms ≤ msT) (hC : Ct G y cb L ret lv2 mc ms [.ref o, b0, b1, b2] n h Post) (d : decode cc pc = .ok (.invokevirtual idx, 3)) (hq : pc + 3 = q) (kk : ∀ (r : Option Value) (n' : Nat) (h' : RH), Post r n' h' → J G z cc nL own lvl mcT msT (cells + mc) (slots + ms) q lo (r.toList ++ rest) n' h') : J G z cc nL own lvl mcT msT cells slots pc lo (b2 :: b1 :: b0 :: .ref o :: rest) n h := g_callV (As := [b0, b1, b2]) hV ho hcl hlv hro hst rfl hC d hq kk
theorem r_callV_3 {b0 b1 b2 : Value} (hV : CVok own idx C y cb L ret 3) (ho : h o = some (.inr (.inr (ci, fs)))) (hcl : dcl[ci]? = some (C, T, N)) (hlv : lv2 + 1 ≤ lvl) (hst : (rest.map fun v => v.category).sum ≤ 8) (hro : cells ≤ mcT ∧ slots ≤ msT) (hC : CtE G y cb L ret lv2 [.ref o, b0, b1, b2] n h (some v0) h0) (d : decode cc pc = .ok (.invokevirtual idx, 3)) (hq : pc + 3 = q) (kk : J G z cc nL own lvl mcT msT cells slots q lo (v0 :: rest) n h0) : J G z cc nL own lvl mcT msT cells slots pc lo (b2 :: b1 :: b0 :: .ref o :: rest) n h := g_callV (As := [b0, b1, b2]) hV ho hcl hlv hro hst rfl hC d hq (fun r n' h' hp => by obtain ⟨rfl, rfl, rfl⟩ := hp; exact kk)
theorem r_callVv_3 {b0 b1 b2 : Value} (hV : CVok own idx C y cb L ret 3) (ho : h o = some (.inr (.inr (ci, fs)))) (hcl : dcl[ci]? = some (C, T, N)) (hlv : lv2 + 1 ≤ lvl) (hst : (rest.map fun v => v.category).sum ≤ 8) (hro : cells ≤ mcT ∧ slots ≤ msT) (hC : CtE G y cb L ret lv2 [.ref o, b0, b1, b2] n h (none) h0) (d : decode cc pc = .ok (.invokevirtual idx, 3)) (hq : pc + 3 = q) (kk : J G z cc nL own lvl mcT msT cells slots q lo (rest) n h0) : J G z cc nL own lvl mcT msT cells slots pc lo (b2 :: b1 :: b0 :: .ref o :: rest) n h := g_callV (As := [b0, b1, b2]) hV ho hcl hlv hro hst rfl hC d hq (fun r n' h' hp => by obtain ⟨rfl, rfl, rfl⟩ := hp; exact kk)
theorem r_callVp_4 {b0 b1 b2 b3 : Value} (hV : CVok own idx C y cb L ret 4) (ho : h o = some (.inr (.inr (ci, fs)))) (hcl : dcl[ci]? = some (C, T, N)) (hlv : lv2 + 1 ≤ lvl) (hst : (rest.map fun v => v.category).sum ≤ 8) (hro : cells + mc ≤ mcT ∧ slots + ms ≤ msT) (hC : Ct G y cb L ret lv2 mc ms [.ref o, b0, b1, b2, b3] n h Post) (d : decode cc pc = .ok (.invokevirtual idx, 3)) (hq : pc + 3 = q) (kk : ∀ (r : Option Value) (n' : Nat) (h' : RH), Post r n' h' → J G z cc nL own lvl mcT msT (cells + mc) (slots + ms) q lo (r.toList ++ rest) n' h') : J G z cc nL own lvl mcT msT cells slots pc lo (b3 :: b2 :: b1 :: b0 :: .ref o :: rest) n h := g_callV (As := [b0, b1, b2, b3]) hV ho hcl hlv hro hst rfl hC d hq kk
theorem r_callV_4 {b0 b1 b2 b3 : Value} (hV : CVok own idx C y cb L ret 4) (ho : h o = some (.inr (.inr (ci, fs)))) (hcl : dcl[ci]? = some (C, T, N)) (hlv : lv2 + 1 ≤ lvl) (hst : (rest.map fun v => v.category).sum ≤ 8) (hro : cells ≤ mcT ∧ slots ≤ msT) (hC : CtE G y cb L ret lv2 [.ref o, b0, b1, b2, b3] n h (some v0) h0) (d : decode cc pc = .ok (.invokevirtual idx, 3)) (hq : pc + 3 = q) (kk : J G z cc nL own lvl mcT msT cells slots q lo (v0 :: rest) n h0) : J G z cc nL own lvl mcT msT cells slots pc lo (b3 :: b2 :: b1 :: b0 :: .ref o :: rest) n h := g_callV (As := [b0, b1, b2, b3]) hV ho hcl hlv hro hst rfl hC d hq (fun r n' h' hp => by obtain ⟨rfl, rfl, rfl⟩ := hp; exact kk)
theorem r_callVv_4 {b0 b1 b2 b3 : Value} (hV : CVok own idx C y cb L ret 4) (ho : h o = some (.inr (.inr (ci, fs)))) (hcl : dcl[ci]? = some (C, T, N)) (hlv : lv2 + 1 ≤ lvl) (hst : (rest.map fun v => v.category).sum ≤ 8) (hro : cells ≤ mcT ∧ slots ≤ msT) (hC : CtE G y cb L ret lv2 [.ref o, b0, b1, b2, b3] n h (none) h0) (d : decode cc pc = .ok (.invokevirtual idx, 3)) (hq : pc + 3 = q) (kk : J G z cc nL own lvl mcT msT cells slots q lo (rest) n h0) : J G z cc nL own lvl mcT msT cells slots pc lo (b3 :: b2 :: b1 :: b0 :: .ref o :: rest) n h := g_callV (As := [b0, b1, b2, b3]) hV ho hcl hlv hro hst rfl hC d hq (fun r n' h' hp => by obtain ⟨rfl, rfl, rfl⟩ := hp; exact kk)
theorem r_callVp_5 {b0 b1 b2 b3 b4 : Value} (hV : CVok own idx C y cb L ret 5) (ho : h o = some (.inr (.inr (ci, fs)))) (hcl : dcl[ci]? = some (C, T, N)) (hlv : lv2 + 1 ≤ lvl) (hst : (rest.map fun v => v.category).sum ≤ 8) (hro : cells + mc ≤ mcT ∧ slots + ms ≤ msT) (hC : Ct G y cb L ret lv2 mc ms [.ref o, b0, b1, b2, b3, b4] n h Post) (d : decode cc pc = .ok (.invokevirtual idx, 3)) (hq : pc + 3 = q) (kk : ∀ (r : Option Value) (n' : Nat) (h' : RH), Post r n' h' → J G z cc nL own lvl mcT msT (cells + mc) (slots + ms) q lo (r.toList ++ rest) n' h') : J G z cc nL own lvl mcT msT cells slots pc lo (b4 :: b3 :: b2 :: b1 :: b0 :: .ref o :: rest) n h := g_callV (As := [b0, b1, b2, b3, b4]) hV ho hcl hlv hro hst rfl hC d hq kk
theorem r_callV_5 {b0 b1 b2 b3 b4 : Value} (hV : CVok own idx C y cb L ret 5) (ho : h o = some (.inr (.inr (ci, fs)))) (hcl : dcl[ci]? = some (C, T, N)) (hlv : lv2 + 1 ≤ lvl) (hst : (rest.map fun v => v.category).sum ≤ 8) (hro : cells ≤ mcT ∧ slots ≤ msT) (hC : CtE G y cb L ret lv2 [.ref o, b0, b1, b2, b3, b4] n h (some v0) h0) (d : decode cc pc = .ok (.invokevirtual idx, 3)) (hq : pc + 3 = q) (kk : J G z cc nL own lvl mcT msT cells slots q lo (v0 :: rest) n h0) : J G z cc nL own lvl mcT msT cells slots pc lo (b4 :: b3 :: b2 :: b1 :: b0 :: .ref o :: rest) n h := g_callV (As := [b0, b1, b2, b3, b4]) hV ho hcl hlv hro hst rfl hC d hq (fun r n' h' hp => by obtain ⟨rfl, rfl, rfl⟩ := hp; exact kk)
theorem r_callVv_5 {b0 b1 b2 b3 b4 : Value} (hV : CVok own idx C y cb L ret 5) (ho : h o = some (.inr (.inr (ci, fs)))) (hcl : dcl[ci]? = some (C, T, N)) (hlv : lv2 + 1 ≤ lvl) (hst : (rest.map fun v => v.category).sum ≤ 8) (hro : cells ≤ mcT ∧ slots ≤ msT) (hC : CtE G y cb L ret lv2 [.ref o, b0, b1, b2, b3, b4] n h (none) h0) (d : decode cc pc = .ok (.invokevirtual idx, 3)) (hq : pc + 3 = q) (kk : J G z cc nL own lvl mcT msT cells slots q lo (rest) n h0) : J G z cc nL own lvl mcT msT cells slots pc lo (b4 :: b3 :: b2 :: b1 :: b0 :: .ref o :: rest) n h := g_callV (As := [b0, b1, b2, b3, b4]) hV ho hcl hlv hro hst rfl hC d hq (fun r n' h' hp => by obtain ⟨rfl, rfl, rfl⟩ := hp; exact kk)
theorem r_callVp_6 {b0 b1 b2 b3 b4 b5 : Value} (hV : CVok own idx C y cb L ret 6) (ho : h o = some (.inr (.inr (ci, fs)))) (hcl : dcl[ci]? = some (C, T, N)) (hlv : lv2 + 1 ≤ lvl) (hst : (rest.map fun v => v.category).sum ≤ 8) (hro : cells + mc ≤ mcT ∧ slots + ms ≤ msT) (hC : Ct G y cb L ret lv2 mc ms [.ref o, b0, b1, b2, b3, b4, b5] n h Post) (d : decode cc pc = .ok (.invokevirtual idx, 3)) (hq : pc + 3 = q) (kk : ∀ (r : Option Value) (n' : Nat) (h' : RH), Post r n' h' → J G z cc nL own lvl mcT msT (cells + mc) (slots + ms) q lo (r.toList ++ rest) n' h') : J G z cc nL own lvl mcT msT cells slots pc lo (b5 :: b4 :: b3 :: b2 :: b1 :: b0 :: .ref o :: rest) n h := g_callV (As := [b0, b1, b2, b3, b4, b5]) hV ho hcl hlv hro hst rfl hC d hq kk
theorem r_callV_6 {b0 b1 b2 b3 b4 b5 : Value} (hV : CVok own idx C y cb L ret 6) (ho : h o = some (.inr (.inr (ci, fs)))) (hcl : dcl[ci]? = some (C, T, N)) (hlv : lv2 + 1 ≤ lvl) (hst : (rest.map fun v => v.category).sum ≤ 8) (hro : cells ≤ mcT ∧ slots ≤ msT) (hC : CtE G y cb L ret lv2 [.ref o, b0, b1, b2, b3, b4, b5] n h (some v0) h0) (d : decode cc pc = .ok (.invokevirtual idx, 3)) (hq : pc + 3 = q) (kk : J G z cc nL own lvl mcT msT cells slots q lo (v0 :: rest) n h0) : J G z cc nL own lvl mcT msT cells slots pc lo (b5 :: b4 :: b3 :: b2 :: b1 :: b0 :: .ref o :: rest) n h := g_callV (As := [b0, b1, b2, b3, b4, b5]) hV ho hcl hlv hro hst rfl hC d hq (fun r n' h' hp => by obtain ⟨rfl, rfl, rfl⟩ := hp; exact kk)
theorem r_callVv_6 {b0 b1 b2 b3 b4 b5 : Value} (hV : CVok own idx C y cb L ret 6) (ho : h o = some (.inr (.inr (ci, fs)))) (hcl : dcl[ci]? = some (C, T, N)) (hlv : lv2 + 1 ≤ lvl) (hst : (rest.map fun v => v.category).sum ≤ 8) (hro : cells ≤ mcT ∧ slots ≤ msT) (hC : CtE G y cb L ret lv2 [.ref o, b0, b1, b2, b3, b4, b5] n h (none) h0) (d : decode cc pc = .ok (.invokevirtual idx, 3)) (hq : pc + 3 = q) (kk : J G z cc nL own lvl mcT msT cells slots q lo (rest) n h0) : J G z cc nL own lvl mcT msT cells slots pc lo (b5 :: b4 :: b3 :: b2 :: b1 :: b0 :: .ref o :: rest) n h := g_callV (As := [b0, b1, b2, b3, b4, b5]) hV ho hcl hlv hro hst rfl hC d hq (fun r n' h' hp => by obtain ⟨rfl, rfl, rfl⟩ := hp; exact kk)
theorem r_callSp_0 (hV : CSok own idx y cb L ret 0) (hlv : lv2 + 1 ≤ lvl) (hst : (rest.map fun v => v.category).sum ≤ 8) (hro : cells + mc ≤ mcT ∧ slots + ms ≤ msT) (hC : Ct G y cb L ret lv2 mc ms [] n h Post) (d : decode cc pc = .ok (.invokestatic idx, 3)) (hq : pc + 3 = q) (kk : ∀ (r : Option Value) (n' : Nat) (h' : RH), Post r n' h' → J G z cc nL own lvl mcT msT (cells + mc) (slots + ms) q lo (r.toList ++ rest) n' h') : J G z cc nL own lvl mcT msT cells slots pc lo (rest) n h := g_callS (As := []) hV hlv hro hst rfl hC d hq kk
theorem r_callS_0 (hV : CSok own idx y cb L ret 0) (hlv : lv2 + 1 ≤ lvl) (hst : (rest.map fun v => v.category).sum ≤ 8) (hro : cells ≤ mcT ∧ slots ≤ msT) (hC : CtE G y cb L ret lv2 [] n h (some v0) h0) (d : decode cc pc = .ok (.invokestatic idx, 3)) (hq : pc + 3 = q) (kk : J G z cc nL own lvl mcT msT cells slots q lo (v0 :: rest) n h0) : J G z cc nL own lvl mcT msT cells slots pc lo (rest) n h := g_callS (As := []) hV hlv hro hst rfl hC d hq (fun r n' h' hp => by obtain ⟨rfl, rfl, rfl⟩ := hp; exact kk)
theorem r_callSv_0 (hV : CSok own idx y cb L ret 0) (hlv : lv2 + 1 ≤ lvl) (hst : (rest.map fun v => v.category).sum ≤ 8) (hro : cells ≤ mcT ∧ slots ≤ msT) (hC : CtE G y cb L ret lv2 [] n h (none) h0) (d : decode cc pc = .ok (.invokestatic idx, 3)) (hq : pc + 3 = q) (kk : J G z cc nL own lvl mcT msT cells slots q lo (rest) n h0) : J G z cc nL own lvl mcT msT cells slots pc lo (rest) n h := g_callS (As := []) hV hlv hro hst rfl hC d hq (fun r n' h' hp => by obtain ⟨rfl, rfl, rfl⟩ := hp; exact kk)
theorem r_callSp_1 {b0 : Value} (hV : CSok own idx y cb L ret 1) (hlv : lv2 + 1 ≤ lvl) (hst : (rest.map fun v => v.category).sum ≤ 8) (hro : cells + mc ≤ mcT ∧ slots + ms ≤ msT) (hC : Ct G y cb L ret lv2 mc ms [b0] n h Post) (d : decode cc pc = .ok (.invokestatic idx, 3)) (hq : pc + 3 = q) (kk : ∀ (r : Option Value) (n' : Nat) (h' : RH), Post r n' h' → J G z cc nL own lvl mcT msT (cells + mc) (slots + ms) q lo (r.toList ++ rest) n' h') : J G z cc nL own lvl mcT msT cells slots pc lo (b0 :: rest) n h := g_callS (As := [b0]) hV hlv hro hst rfl hC d hq kk
theorem r_callS_1 {b0 : Value} (hV : CSok own idx y cb L ret 1) (hlv : lv2 + 1 ≤ lvl) (hst : (rest.map fun v => v.category).sum ≤ 8) (hro : cells ≤ mcT ∧ slots ≤ msT) (hC : CtE G y cb L ret lv2 [b0] n h (some v0) h0) (d : decode cc pc = .ok (.invokestatic idx, 3)) (hq : pc + 3 = q) (kk : J G z cc nL own lvl mcT msT cells slots q lo (v0 :: rest) n h0) : J G z cc nL own lvl mcT msT cells slots pc lo (b0 :: rest) n h := g_callS (As := [b0]) hV hlv hro hst rfl hC d hq (fun r n' h' hp => by obtain ⟨rfl, rfl, rfl⟩ := hp; exact kk)
theorem r_callSv_1 {b0 : Value} (hV : CSok own idx y cb L ret 1) (hlv : lv2 + 1 ≤ lvl) (hst : (rest.map fun v => v.category).sum ≤ 8) (hro : cells ≤ mcT ∧ slots ≤ msT) (hC : CtE G y cb L ret lv2 [b0] n h (none) h0) (d : decode cc pc = .ok (.invokestatic idx, 3)) (hq : pc + 3 = q) (kk : J G z cc nL own lvl mcT msT cells slots q lo (rest) n h0) : J G z cc nL own lvl mcT msT cells slots pc lo (b0 :: rest) n h := g_callS (As := [b0]) hV hlv hro hst rfl hC d hq (fun r n' h' hp => by obtain ⟨rfl, rfl, rfl⟩ := hp; exact kk)
theorem r_callSp_2 {b0 b1 : Value} (hV : CSok own idx y cb L ret 2) (hlv : lv2 + 1 ≤ lvl) (hst : (rest.map fun v => v.category).sum ≤ 8) (hro : cells + mc ≤ mcT ∧ slots + ms ≤ msT) (hC : Ct G y cb L ret lv2 mc ms [b0, b1] n h Post) (d : decode cc pc = .ok (.invokestatic idx, 3)) (hq : pc + 3 = q) (kk : ∀ (r : Option Value) (n' : Nat) (h' : RH), Post r n' h' → J G z cc nL own lvl mcT msT (cells + mc) (slots + ms) q lo (r.toList ++ rest) n' h') : J G z cc nL own lvl mcT msT cells slots pc lo (b1 :: b0 :: rest) n h := g_callS (As := [b0, b1]) hV hlv hro hst rfl hC d hq kk
theorem r_callS_2 {b0 b1 : Value} (hV : CSok own idx y cb L ret 2) (hlv : lv2 + 1 ≤ lvl) (hst : (rest.map fun v => v.category).sum ≤ 8) (hro : cells ≤ mcT ∧ slots ≤ msT) (hC : CtE G y cb L ret lv2 [b0, b1] n h (some v0) h0) (d : decode cc pc = .ok (.invokestatic idx, 3)) (hq : pc + 3 = q) (kk : J G z cc nL own lvl mcT msT cells slots q lo (v0 :: rest) n h0) : J G z cc nL own lvl mcT msT cells slots pc lo (b1 :: b0 :: rest) n h := g_callS (As := [b0, b1]) hV hlv hro hst rfl hC d hq (fun r n' h' hp => by obtain ⟨rfl, rfl, rfl⟩ := hp; exact kk)
theorem r_callSv_2 {b0 b1 : Value} (hV : CSok own idx y cb L ret 2) (hlv : lv2 + 1 ≤ lvl) (hst : (rest.map fun v => v.category).sum ≤ 8) (hro : cells ≤ mcT ∧ slots ≤ msT) (hC : CtE G y cb L ret lv2 [b0, b1] n h (none) h0) (d : decode cc pc = .ok (.invokestatic idx, 3)) (hq : pc + 3 = q) (kk : J G z cc nL own lvl mcT msT cells slots q lo (rest) n h0) : J G z cc nL own lvl mcT msT cells slots pc lo (b1 :: b0 :: rest) n h := g_callS (As := [b0, b1]) hV hlv hro hst rfl hC d hq (fun r n' h' hp => by obtain ⟨rfl, rfl, rfl⟩ := hp; exact kk)
theorem r_callSp_3 {b0 b1 b2 : Value} (hV : CSok own idx y cb L ret 3) (hlv : lv2 + 1 ≤ lvl) (hst : (rest.map fun v => v.category).sum ≤ 8) (hro : cells + mc ≤ mcT ∧ slots + ms ≤ msT) (hC : Ct G y cb L ret lv2 mc ms [b0, b1, b2] n h Post) (d : decode cc pc = .ok (.invokestatic idx, 3)) (hq : pc + 3 = q) (kk : ∀ (r : Option Value) (n' : Nat) (h' : RH), Post r n' h' → J G z cc nL own lvl mcT msT (cells + mc) (slots + ms) q lo (r.toList ++ rest) n' h') : J G z cc nL own lvl mcT msT cells slots pc lo (b2 :: b1 :: b0 :: rest) n h := g_callS (As := [b0, b1, b2]) hV hlv hro hst rfl hC d hq kk
theorem r_callS_3 {b0 b1 b2 : Value} (hV : CSok own idx y cb L ret 3) (hlv : lv2 + 1 ≤ lvl) (hst : (rest.map fun v => v.category).sum ≤ 8) (hro : cells ≤ mcT ∧ slots ≤ msT) (hC : CtE G y cb L ret lv2 [b0, b1, b2] n h (some v0) h0) (d : decode cc pc = .ok (.invokestatic idx, 3)) (hq : pc + 3 = q) (kk : J G z cc nL own lvl mcT msT cells slots q lo (v0 :: rest) n h0) : J G z cc nL own lvl mcT msT cells slots pc lo (b2 :: b1 :: b0 :: rest) n h := g_callS (As := [b0, b1, b2]) hV hlv hro hst rfl hC d hq (fun r n' h' hp => by obtain ⟨rfl, rfl, rfl⟩ := hp; exact kk)
theorem r_callSv_3 {b0 b1 b2 : Value} (hV : CSok own idx y cb L ret 3) (hlv : lv2 + 1 ≤ lvl) (hst : (rest.map fun v => v.category).sum ≤ 8) (hro : cells ≤ mcT ∧ slots ≤ msT) (hC : CtE G y cb L ret lv2 [b0, b1, b2] n h (none) h0) (d : decode cc pc = .ok (.invokestatic idx, 3)) (hq : pc + 3 = q) (kk : J G z cc nL own lvl mcT msT cells slots q lo (rest) n h0) : J G z cc nL own lvl mcT msT cells slots pc lo (b2 :: b1 :: b0 :: rest) n h := g_callS (As := [b0, b1, b2]) hV hlv hro hst rfl hC d hq (fun r n' h' hp => by obtain ⟨rfl, rfl, rfl⟩ := hp; exact kk)
theorem r_callSp_4 {b0 b1 b2 b3 : Value} (hV : CSok own idx y cb L ret 4) (hlv : lv2 + 1 ≤ lvl) (hst : (rest.map fun v => v.category).sum ≤ 8) (hro : cells + mc ≤ mcT ∧ slots + ms ≤ msT) (hC : Ct G y cb L ret lv2 mc ms [b0, b1, b2, b3] n h Post) (d : decode cc pc = .ok (.invokestatic idx, 3)) (hq : pc + 3 = q) (kk : ∀ (r : Option Value) (n' : Nat) (h' : RH), Post r n' h' → J G z cc nL own lvl mcT msT (cells + mc) (slots + ms) q lo (r.toList ++ rest) n' h') : J G z cc nL own lvl mcT msT cells slots pc lo (b3 :: b2 :: b1 :: b0 :: rest) n h := g_callS (As := [b0, b1, b2, b3]) hV hlv hro hst rfl hC d hq kk
theorem r_callS_4 {b0 b1 b2 b3 : Value} (hV : CSok own idx y cb L ret 4) (hlv : lv2 + 1 ≤ lvl) (hst : (rest.map fun v => v.category).sum ≤ 8) (hro : cells ≤ mcT ∧ slots ≤ msT) (hC : CtE G y cb L ret lv2 [b0, b1, b2, b3] n h (some v0) h0) (d : decode cc pc = .ok (.invokestatic idx, 3)) (hq : pc + 3 = q) (kk : J G z cc nL own lvl mcT msT cells slots q lo (v0 :: rest) n h0) : J G z cc nL own lvl mcT msT cells slots pc lo (b3 :: b2 :: b1 :: b0 :: rest) n h := g_callS (As := [b0, b1, b2, b3]) hV hlv hro hst rfl hC d hq (fun r n' h' hp => by obtain ⟨rfl, rfl, rfl⟩ := hp; exact kk)
theorem r_callSv_4 {b0 b1 b2 b3 : Value} (hV : CSok own idx y cb L ret 4) (hlv : lv2 + 1 ≤ lvl) (hst : (rest.map fun v => v.category).sum ≤ 8) (hro : cells ≤ mcT ∧ slots ≤ msT) (hC : CtE G y cb L ret lv2 [b0, b1, b2, b3] n h (none) h0) (d : decode cc pc = .ok (.invokestatic idx, 3)) (hq : pc + 3 = q) (kk : J G z cc nL own lvl mcT msT cells slots q lo (rest) n h0) : J G z cc nL own lvl mcT msT cells slots pc lo (b3 :: b2 :: b1 :: b0 :: rest) n h := g_callS (As := [b0, b1, b2, b3]) hV hlv hro hst rfl hC d hq (fun r n' h' hp => by obtain ⟨rfl, rfl, rfl⟩ := hp; exact kk)
theorem r_callIp_0 (hV : CIok own idx y cb L 0) (hlv : lv2 + 1 ≤ lvl) (hst : (rest.map fun v => v.category).sum ≤ 8) (hro : cells + mc ≤ mcT ∧ slots + ms ≤ msT) (hC : Ct G y cb L none lv2 mc ms [.ref o] n h Post) (d : decode cc pc = .ok (.invokespecial idx, 3)) (hq : pc + 3 = q) (kk : ∀ (r : Option Value) (n' : Nat) (h' : RH), Post r n' h' → J G z cc nL own lvl mcT msT (cells + mc) (slots + ms) q lo (r.toList ++ rest) n' h') : J G z cc nL own lvl mcT msT cells slots pc lo (.ref o :: rest) n h := g_callI (As := []) hV rfl hlv hro hst rfl hC d hq kk
theorem r_callIv_0 (hV : CIok own idx y cb L 0) (hlv : lv2 + 1 ≤ lvl) (hst : (rest.map fun v => v.category).sum ≤ 8) (hro : cells ≤ mcT ∧ slots ≤ msT) (hC : CtE G y cb L none lv2 [.ref o] n h (none) h0) (d : decode cc pc = .ok (.invokespecial idx, 3)) (hq : pc + 3 = q) (kk : J G z cc nL own lvl mcT msT cells slots q lo (rest) n h0) : J G z cc nL own lvl mcT msT cells slots pc lo (.ref o :: rest) n h := g_callI (As := []) hV rfl hlv hro hst rfl hC d hq (fun r n' h' hp => by obtain ⟨rfl, rfl, rfl⟩ := hp; exact kk)
theorem r_callIp_1 {b0 : Value} (hV : CIok own idx y cb L 1) (hlv : lv2 + 1 ≤ lvl) (hst : (rest.map fun v => v.category).sum ≤ 8) (hro : cells + mc ≤ mcT ∧ slots + ms ≤ msT) (hC : Ct G y cb L none lv2 mc ms [.ref o, b0] n h Post) (d : decode cc pc = .ok (.invokespecial idx, 3)) (hq : pc + 3 = q) (kk : ∀ (r : Option Value) (n' : Nat) (h' : RH), Post r n' h' → J G z cc nL own lvl mcT msT (cells + mc) (slots + ms) q lo (r.toList ++ rest) n' h') : J G z cc nL own lvl mcT msT cells slots pc lo (b0 :: .ref o :: rest) n h := g_callI (As := [b0]) hV rfl hlv hro hst rfl hC d hq kk
theorem r_callIv_1 {b0 : Value} (hV : CIok own idx y cb L 1) (hlv : lv2 + 1 ≤ lvl) (hst : (rest.map fun v => v.category).sum ≤ 8) (hro : cells ≤ mcT ∧ slots ≤ msT) (hC : CtE G y cb L none lv2 [.ref o, b0] n h (none) h0) (d : decode cc pc = .ok (.invokespecial idx, 3)) (hq : pc + 3 = q) (kk : J G z cc nL own lvl mcT msT cells slots q lo (rest) n h0) : J G z cc nL own lvl mcT msT cells slots pc lo (b0 :: .ref o :: rest) n h := g_callI (As := [b0]) hV rfl hlv hro hst rfl hC d hq (fun r n' h' hp => by obtain ⟨rfl, rfl, rfl⟩ := hp; exact kk)
theorem r_callIp_2 {b0 b1 : Value} (hV : CIok own idx y cb L 2) (hlv : lv2 + 1 ≤ lvl) (hst : (rest.map fun v => v.category).sum ≤ 8) (hro : cells + mc ≤ mcT ∧ slots + ms ≤ msT) (hC : Ct G y cb L none lv2 mc ms [.ref o, b0, b1] n h Post) (d : decode cc pc = .ok (.invokespecial idx, 3)) (hq : pc + 3 = q) (kk : ∀ (r : Option Value) (n' : Nat) (h' : RH), Post r n' h' → J G z cc nL own lvl mcT msT (cells + mc) (slots + ms) q lo (r.toList ++ rest) n' h') : J G z cc nL own lvl mcT msT cells slots pc lo (b1 :: b0 :: .ref o :: rest) n h := g_callI (As := [b0, b1]) hV rfl hlv hro hst rfl hC d hq kk
theorem r_callIv_2 {b0 b1 : Value} (hV : CIok own idx y cb L 2) (hlv : lv2 + 1 ≤ lvl) (hst : (rest.map fun v => v.category).sum ≤ 8) (hro : cells ≤ mcT ∧ slots ≤ msT) (hC : CtE G y cb L none lv2 [.ref o, b0, b1] n h (none) h0) (d : decode cc pc = .ok (.invokespecial idx, 3)) (hq : pc + 3 = q) (kk : J G z cc nL own lvl mcT msT cells slots q lo (rest) n h0) : J G z cc nL own lvl mcT msT cells slots pc lo (b1 :: b0 :: .ref o :: rest) n h := g_callI (As := [b0, b1]) hV rfl hlv hro hst rfl hC d hq (fun r n' h' hp => by obtain ⟨rfl, rfl, rfl⟩ := hp; exact kk)
theorem r_callIp_3 {b0 b1 b2 : Value} (hV : CIok own idx y cb L 3) (hlv : lv2 + 1 ≤ lvl) (hst : (rest.map fun v => v.category).sum ≤ 8) (hro : cells + mc ≤ mcT ∧ slots + ms ≤ msT) (hC : Ct G y cb L none lv2 mc ms [.ref o, b0, b1, b2] n h Post) (d : decode cc pc = .ok (.invokespecial idx, 3)) (hq : pc + 3 = q) (kk : ∀ (r : Option Value) (n' : Nat) (h' : RH), Post r n' h' → J G z cc nL own lvl mcT msT (cells + mc) (slots + ms) q lo (r.toList ++ rest) n' h') : J G z cc nL own lvl mcT msT cells slots pc lo (b2 :: b1 :: b0 :: .ref o :: rest) n h := g_callI (As := [b0, b1, b2]) hV rfl hlv hro hst rfl hC d hq kk
theorem r_callIv_3 {b0 b1 b2 : Value} (hV : CIok own idx y cb L 3) (hlv : lv2 + 1 ≤ lvl) (hst : (rest.map fun v => v.category).sum ≤ 8) (hro : cells ≤ mcT ∧ slots ≤ msT) (hC : CtE G y cb L none lv2 [.ref o, b0, b1, b2] n h (none) h0) (d : decode cc pc = .ok (.invokespecial idx, 3)) (hq : pc + 3 = q) (kk : J G z cc nL own lvl mcT msT cells slots q lo (rest) n h0) : J G z cc nL own lvl mcT msT cells slots pc lo (b2 :: b1 :: b0 :: .ref o :: rest) n h := g_callI (As := [b0, b1, b2]) hV rfl hlv hro hst rfl hC d hq (fun r n' h' hp => by obtain ⟨rfl, rfl, rfl⟩ := hp; exact kk)
theorem r_callIp_4 {b0 b1 b2 b3 : Value} (hV : CIok own idx y cb L 4) (hlv : lv2 + 1 ≤ lvl) (hst : (rest.map fun v => v.category).sum ≤ 8) (hro : cells + mc ≤ mcT ∧ slots + ms ≤ msT) (hC : Ct G y cb L none lv2 mc ms [.ref o, b0, b1, b2, b3] n h Post) (d : decode cc pc = .ok (.invokespecial idx, 3)) (hq : pc + 3 = q) (kk : ∀ (r : Option Value) (n' : Nat) (h' : RH), Post r n' h' → J G z cc nL own lvl mcT msT (cells + mc) (slots + ms) q lo (r.toList ++ rest) n' h') : J G z cc nL own lvl mcT msT cells slots pc lo (b3 :: b2 :: b1 :: b0 :: .ref o :: rest) n h := g_callI (As := [b0, b1, b2, b3]) hV rfl hlv hro hst rfl hC d hq kk
theorem r_callIv_4 {b0 b1 b2 b3 : Value} (hV : CIok own idx y cb L 4) (hlv : lv2 + 1 ≤ lvl) (hst : (rest.map fun v => v.category).sum ≤ 8) (hro : cells ≤ mcT ∧ slots ≤ msT) (hC : CtE G y cb L none lv2 [.ref o, b0, b1, b2, b3] n h (none) h0) (d : decode cc pc = .ok (.invokespecial idx, 3)) (hq : pc + 3 = q) (kk : J G z cc nL own lvl mcT msT cells slots q lo (rest) n h0) : J G z cc nL own lvl mcT msT cells slots pc lo (b3 :: b2 :: b1 :: b0 :: .ref o :: rest) n h := g_callI (As := [b0, b1, b2, b3]) hV rfl hlv hro hst rfl hC d hq (fun r n' h' hp => by obtain ⟨rfl, rfl, rfl⟩ := hp; exact kk)
theorem r_callINp_0 (hV : CINok own idx y host cb L 0) (hlv : lv2 + 1 ≤ lvl) (hst : (rest.map fun v => v.category).sum ≤ 8) (hro : cells + mc ≤ mcT ∧ slots + ms ≤ msT) (hC : Ct G y cb L none lv2 mc ms [.ref o] n h Post) (d : decode cc pc = .ok (.invokespecial idx, 3)) (hq : pc + 3 = q) (kk : ∀ (r : Option Value) (n' : Nat) (h' : RH), Post r n' h' → J G z cc nL own lvl mcT msT (cells + mc) (slots + ms) q lo (r.toList ++ rest) n' h') : J G z cc nL own lvl mcT msT cells slots pc lo (.ref o :: rest) n h := g_callIN (As := []) hV rfl hlv hro hst rfl hC d hq kk
theorem r_callINv_0 (hV : CINok own idx y host cb L 0) (hlv : lv2 + 1 ≤ lvl) (hst : (rest.map fun v => v.category).sum ≤ 8) (hro : cells ≤ mcT ∧ slots ≤ msT) (hC : CtE G y cb L none lv2 [.ref o] n h (none) h0) (d : decode cc pc = .ok (.invokespecial idx, 3)) (hq : pc + 3 = q) (kk : J G z cc nL own lvl mcT msT cells slots q lo (rest) n h0) : J G z cc nL own lvl mcT msT cells slots pc lo (.ref o :: rest) n h := g_callIN (As := []) hV rfl hlv hro hst rfl hC d hq (fun r n' h' hp => by obtain ⟨rfl, rfl, rfl⟩ := hp; exact kk)
theorem r_callINp_1 {b0 : Value} (hV : CINok own idx y host cb L 1) (hlv : lv2 + 1 ≤ lvl) (hst : (rest.map fun v => v.category).sum ≤ 8) (hro : cells + mc ≤ mcT ∧ slots + ms ≤ msT) (hC : Ct G y cb L none lv2 mc ms [.ref o, b0] n h Post) (d : decode cc pc = .ok (.invokespecial idx, 3)) (hq : pc + 3 = q) (kk : ∀ (r : Option Value) (n' : Nat) (h' : RH), Post r n' h' → J G z cc nL own lvl mcT msT (cells + mc) (slots + ms) q lo (r.toList ++ rest) n' h') : J G z cc nL own lvl mcT msT cells slots pc lo (b0 :: .ref o :: rest) n h := g_callIN (As := [b0]) hV rfl hlv hro hst rfl hC d hq kk
theorem r_callINv_1 {b0 : Value} (hV : CINok own idx y host cb L 1) (hlv : lv2 + 1 ≤ lvl) (hst : (rest.map fun v => v.category).sum ≤ 8) (hro : cells ≤ mcT ∧ slots ≤ msT) (hC : CtE G y cb L none lv2 [.ref o, b0] n h (none) h0) (d : decode cc pc = .ok (.invokespecial idx, 3)) (hq : pc + 3 = q) (kk : J G z cc nL own lvl mcT msT cells slots q lo (rest) n h0) : J G z cc nL own lvl mcT msT cells slots pc lo (b0 :: .ref o :: rest) n h := g_callIN (As := [b0]) hV rfl hlv hro hst rfl hC d hq (fun r n' h' hp => by obtain ⟨rfl, rfl, rfl⟩ := hp; exact kk)
theorem r_callINp_2 {b0 b1 : Value} (hV : CINok own idx y host cb L 2) (hlv : lv2 + 1 ≤ lvl) (hst : (rest.map fun v => v.category).sum ≤ 8) (hro : cells + mc ≤ mcT ∧ slots + ms ≤ msT) (hC : Ct G y cb L none lv2 mc ms [.ref o, b0, b1] n h Post) (d : decode cc pc = .ok (.invokespecial idx, 3)) (hq : pc + 3 = q) (kk : ∀ (r : Option Value) (n' : Nat) (h' : RH), Post r n' h' → J G z cc nL own lvl mcT msT (cells + mc) (slots + ms) q lo (r.toList ++ rest) n' h') : J G z cc nL own lvl mcT msT cells slots pc lo (b1 :: b0 :: .ref o :: rest) n h := g_callIN (As := [b0, b1]) hV rfl hlv hro hst rfl hC d hq kk
theorem r_callINv_2 {b0 b1 : Value} (hV : CINok own idx y host cb L 2) (hlv : lv2 + 1 ≤ lvl) (hst : (rest.map fun v => v.category).sum ≤ 8) (hro : cells ≤ mcT ∧ slots ≤ msT) (hC : CtE G y cb L none lv2 [.ref o, b0, b1] n h (none) h0) (d : decode cc pc = .ok (.invokespecial idx, 3)) (hq : pc + 3 = q) (kk : J G z cc nL own lvl mcT msT cells slots q lo (rest) n h0) : J G z cc nL own lvl mcT msT cells slots pc lo (b1 :: b0 :: .ref o :: rest) n h := g_callIN (As := [b0, b1]) hV rfl hlv hro hst rfl hC d hq (fun r n' h' hp => by obtain ⟨rfl, rfl, rfl⟩ := hp; exact kk)
theorem r_callINp_3 {b0 b1 b2 : Value} (hV : CINok own idx y host cb L 3) (hlv : lv2 + 1 ≤ lvl) (hst : (rest.map fun v => v.category).sum ≤ 8) (hro : cells + mc ≤ mcT ∧ slots + ms ≤ msT) (hC : Ct G y cb L none lv2 mc ms [.ref o, b0, b1, b2] n h Post) (d : decode cc pc = .ok (.invokespecial idx, 3)) (hq : pc + 3 = q) (kk : ∀ (r : Option Value) (n' : Nat) (h' : RH), Post r n' h' → J G z cc nL own lvl mcT msT (cells + mc) (slots + ms) q lo (r.toList ++ rest) n' h') : J G z cc nL own lvl mcT msT cells slots pc lo (b2 :: b1 :: b0 :: .ref o :: rest) n h := g_callIN (As := [b0, b1, b2]) hV rfl hlv hro hst rfl hC d hq kk
theorem r_callINv_3 {b0 b1 b2 : Value} (hV : CINok own idx y host cb L 3) (hlv : lv2 + 1 ≤ lvl) (hst : (rest.map fun v => v.category).sum ≤ 8) (hro : cells ≤ mcT ∧ slots ≤ msT) (hC : CtE G y cb L none lv2 [.ref o, b0, b1, b2] n h (none) h0) (d : decode cc pc = .ok (.invokespecial idx, 3)) (hq : pc + 3 = q) (kk : J G z cc nL own lvl mcT msT cells slots q lo (rest) n h0) : J G z cc nL own lvl mcT msT cells slots pc lo (b2 :: b1 :: b0 :: .ref o :: rest) n h := g_callIN (As := [b0, b1, b2]) hV rfl hlv hro hst rfl hC d hq (fun r n' h' hp => by obtain ⟨rfl, rfl, rfl⟩ := hp; exact kk)
theorem r_callINp_4 {b0 b1 b2 b3 : Value} (hV : CINok own idx y host cb L 4) (hlv : lv2 + 1 ≤ lvl) (hst : (rest.map fun v => v.category).sum ≤ 8) (hro : cells + mc ≤ mcT ∧ slots + ms ≤ msT) (hC : Ct G y cb L none lv2 mc ms [.ref o, b0, b1, b2, b3] n h Post) (d : decode cc pc = .ok (.invokespecial idx, 3)) (hq : pc + 3 = q) (kk : ∀ (r : Option Value) (n' : Nat) (h' : RH), Post r n' h' → J G z cc nL own lvl mcT msT (cells + mc) (slots + ms) q lo (r.toList ++ rest) n' h') : J G z cc nL own lvl mcT msT cells slots pc lo (b3 :: b2 :: b1 :: b0 :: .ref o :: rest) n h := g_callIN (As := [b0, b1, b2, b3]) hV rfl hlv hro hst rfl hC d hq kk
theorem r_callINv_4 {b0 b1 b2 b3 : Value} (hV : CINok own idx y host cb L 4) (hlv : lv2 + 1 ≤ lvl) (hst : (rest.map fun v => v.category).sum ≤ 8) (hro : cells ≤ mcT ∧ slots ≤ msT) (hC : CtE G y cb L none lv2 [.ref o, b0, b1, b2, b3] n h (none) h0) (d : decode cc pc = .ok (.invokespecial idx, 3)) (hq : pc + 3 = q) (kk : J G z cc nL own lvl mcT msT cells slots q lo (rest) n h0) : J G z cc nL own lvl mcT msT cells slots pc lo (b3 :: b2 :: b1 :: b0 :: .ref o :: rest) n h := g_callIN (As := [b0, b1, b2, b3]) hV rfl hlv hro hst rfl hC d hq (fun r n' h' hp => by obtain ⟨rfl, rfl, rfl⟩ := hp; exact kk)
theorem r_callSNp_0 (hV : CSNok own idx y host cb L ret 0) (hlv : lv2 + 1 ≤ lvl) (hst : (rest.map fun v => v.category).sum ≤ 8) (hro : cells + mc ≤ mcT ∧ slots + ms ≤ msT) (hC : Ct G y cb L ret lv2 mc ms [] n h Post) (d : decode cc pc = .ok (.invokestatic idx, 3)) (hq : pc + 3 = q) (kk : ∀ (r : Option Value) (n' : Nat) (h' : RH), Post r n' h' → J G z cc nL own lvl mcT msT (cells + mc) (slots + ms) q lo (r.toList ++ rest) n' h') : J G z cc nL own lvl mcT msT cells slots pc lo (rest) n h := g_callSN (As := []) hV hlv hro hst rfl hC d hq kk
theorem r_callSN_0 (hV : CSNok own idx y host cb L ret 0) (hlv : lv2 + 1 ≤ lvl) (hst : (rest.map fun v => v.category).sum ≤ 8) (hro : cells ≤ mcT ∧ slots ≤ msT) (hC : CtE G y cb L ret lv2 [] n h (some v0) h0) (d : decode cc pc = .ok (.invokestatic idx, 3)) (hq : pc + 3 = q) (kk : J G z cc nL own lvl mcT msT cells slots q lo (v0 :: rest) n h0) : J G z cc nL own lvl mcT msT cells slots pc lo (rest) n h := g_callSN (As := []) hV hlv hro hst rfl hC d hq (fun r n' h' hp => by obtain ⟨rfl, rfl, rfl⟩ := hp; exact kk)
theorem r_callSNv_0 (hV : CSNok own idx y host cb L ret 0) (hlv : lv2 + 1 ≤ lvl) (hst : (rest.map fun v => v.category).sum ≤ 8) (hro : cells ≤ mcT ∧ slots ≤ msT) (hC : CtE G y cb L ret lv2 [] n h (none) h0) (d : decode cc pc = .ok (.invokestatic idx, 3)) (hq : pc + 3 = q) (kk : J G z cc nL own lvl mcT msT cells slots q lo (rest) n h0) : J G z cc nL own lvl mcT msT cells slots pc lo (rest) n h := g_callSN (As := []) hV hlv hro hst rfl hC d hq (fun r n' h' hp => by obtain ⟨rfl, rfl, rfl⟩ := hp; exact kk)
theorem r_callSNp_1 {b0 : Value} (hV : CSNok own idx y host cb L ret 1) (hlv : lv2 + 1 ≤ lvl) (hst : (rest.map fun v => v.category).sum ≤ 8) (hro : cells + mc ≤ mcT ∧ slots + ms ≤ msT) (hC : Ct G y cb L ret lv2 mc ms [b0] n h Post) (d : decode cc pc = .ok (.invokestatic idx, 3)) (hq : pc + 3 = q) (kk : ∀ (r : Option Value) (n' : Nat) (h' : RH), Post r n' h' → J G z cc nL own lvl mcT msT (cells + mc) (slots + ms) q lo (r.toList ++ rest) n' h') : J G z cc nL own lvl mcT msT cells slots pc lo (b0 :: rest) n h := g_callSN (As := [b0]) hV hlv hro hst rfl hC d hq kk
theorem r_callSN_1 {b0 : Value} (hV : CSNok own idx y host cb L ret 1) (hlv : lv2 + 1 ≤ lvl) (hst : (rest.map fun v => v.category).sum ≤ 8) (hro : cells ≤ mcT ∧ slots ≤ msT) (hC : CtE G y cb L ret lv2 [b0] n h (some v0) h0) (d : decode cc pc = .ok (.invokestatic idx, 3)) (hq : pc + 3 = q) (kk : J G z cc nL own lvl mcT msT cells slots q lo (v0 :: rest) n h0) : J G z cc nL own lvl mcT msT cells slots pc lo (b0 :: rest) n h := g_callSN (As := [b0]) hV hlv hro hst rfl hC d hq (fun r n' h' hp => by obtain ⟨rfl, rfl, rfl⟩ := hp; exact kk)
theorem r_callSNv_1 {b0 : Value} (hV : CSNok own idx y host cb L ret 1) (hlv : lv2 + 1 ≤ lvl) (hst : (rest.map fun v => v.category).sum ≤ 8) (hro : cells ≤ mcT ∧ slots ≤ msT) (hC : CtE G y cb L ret lv2 [b0] n h (none) h0) (d : decode cc pc = .ok (.invokestatic idx, 3)) (hq : pc + 3 = q) (kk : J G z cc nL own lvl mcT msT cells slots q lo (rest) n h0) : J G z cc nL own lvl mcT msT cells slots pc lo (b0 :: rest) n h := g_callSN (As := [b0]) hV hlv hro hst rfl hC d hq (fun r n' h' hp => by obtain ⟨rfl, rfl, rfl⟩ := hp; exact kk)
theorem r_callSNp_2 {b0 b1 : Value} (hV : CSNok own idx y host cb L ret 2) (hlv : lv2 + 1 ≤ lvl) (hst : (rest.map fun v => v.category).sum ≤ 8) (hro : cells + mc ≤ mcT ∧ slots + ms ≤ msT) (hC : Ct G y cb L ret lv2 mc ms [b0, b1] n h Post) (d : decode cc pc = .ok (.invokestatic idx, 3)) (hq : pc + 3 = q) (kk : ∀ (r : Option Value) (n' : Nat) (h' : RH), Post r n' h' → J G z cc nL own lvl mcT msT (cells + mc) (slots + ms) q lo (r.toList ++ rest) n' h') : J G z cc nL own lvl mcT msT cells slots pc lo (b1 :: b0 :: rest) n h := g_callSN (As := [b0, b1]) hV hlv hro hst rfl hC d hq kk
theorem r_callSN_2 {b0 b1 : Value} (hV : CSNok own idx y host cb L ret 2) (hlv : lv2 + 1 ≤ lvl) (hst : (rest.map fun v => v.category).sum ≤ 8) (hro : cells ≤ mcT ∧ slots ≤ msT) (hC : CtE G y cb L ret lv2 [b0, b1] n h (some v0) h0) (d : decode cc pc = .ok (.invokestatic idx, 3)) (hq : pc + 3 = q) (kk : J G z cc nL own lvl mcT msT cells slots q lo (v0 :: rest) n h0) : J G z cc nL own lvl mcT msT cells slots pc lo (b1 :: b0 :: rest) n h := g_callSN (As := [b0, b1]) hV hlv hro hst rfl hC d hq (fun r n' h' hp => by obtain ⟨rfl, rfl, rfl⟩ := hp; exact kk)
theorem r_callSNv_2 {b0 b1 : Value} (hV : CSNok own idx y host cb L ret 2) (hlv : lv2 + 1 ≤ lvl) (hst : (rest.map fun v => v.category).sum ≤ 8) (hro : cells ≤ mcT ∧ slots ≤ msT) (hC : CtE G y cb L ret lv2 [b0, b1] n h (none) h0) (d : decode cc pc = .ok (.invokestatic idx, 3)) (hq : pc + 3 = q) (kk : J G z cc nL own lvl mcT msT cells slots q lo (rest) n h0) : J G z cc nL own lvl mcT msT cells slots pc lo (b1 :: b0 :: rest) n h := g_callSN (As := [b0, b1]) hV hlv hro hst rfl hC d hq (fun r n' h' hp => by obtain ⟨rfl, rfl, rfl⟩ := hp; exact kk)
theorem r_callSNp_3 {b0 b1 b2 : Value} (hV : CSNok own idx y host cb L ret 3) (hlv : lv2 + 1 ≤ lvl) (hst : (rest.map fun v => v.category).sum ≤ 8) (hro : cells + mc ≤ mcT ∧ slots + ms ≤ msT) (hC : Ct G y cb L ret lv2 mc ms [b0, b1, b2] n h Post) (d : decode cc pc = .ok (.invokestatic idx, 3)) (hq : pc + 3 = q) (kk : ∀ (r : Option Value) (n' : Nat) (h' : RH), Post r n' h' → J G z cc nL own lvl mcT msT (cells + mc) (slots + ms) q lo (r.toList ++ rest) n' h') : J G z cc nL own lvl mcT msT cells slots pc lo (b2 :: b1 :: b0 :: rest) n h := g_callSN (As := [b0, b1, b2]) hV hlv hro hst rfl hC d hq kk
theorem r_callSN_3 {b0 b1 b2 : Value} (hV : CSNok own idx y host cb L ret 3) (hlv : lv2 + 1 ≤ lvl) (hst : (rest.map fun v => v.category).sum ≤ 8) (hro : cells ≤ mcT ∧ slots ≤ msT) (hC : CtE G y cb L ret lv2 [b0, b1, b2] n h (some v0) h0) (d : decode cc pc = .ok (.invokestatic idx, 3)) (hq : pc + 3 = q) (kk : J G z cc nL own lvl mcT msT cells slots q lo (v0 :: rest) n h0) : J G z cc nL own lvl mcT msT cells slots pc lo (b2 :: b1 :: b0 :: rest) n h := g_callSN (As := [b0, b1, b2]) hV hlv hro hst rfl hC d hq (fun r n' h' hp => by obtain ⟨rfl, rfl, rfl⟩ := hp; exact kk)
theorem r_callSNv_3 {b0 b1 b2 : Value} (hV : CSNok own idx y host cb L ret 3) (hlv : lv2 + 1 ≤ lvl) (hst : (rest.map fun v => v.category).sum ≤ 8) (hro : cells ≤ mcT ∧ slots ≤ msT) (hC : CtE G y cb L ret lv2 [b0, b1, b2] n h (none) h0) (d : decode cc pc = .ok (.invokestatic idx, 3)) (hq : pc + 3 = q) (kk : J G z cc nL own lvl mcT msT cells slots q lo (rest) n h0) : J G z cc nL own lvl mcT msT cells slots pc lo (b2 :: b1 :: b0 :: rest) n h := g_callSN (As := [b0, b1, b2]) hV hlv hro hst rfl hC d hq (fun r n' h' hp => by obtain ⟨rfl, rfl, rfl⟩ := hp; exact kk)
theorem r_callSNp_4 {b0 b1 b2 b3 : Value} (hV : CSNok own idx y host cb L ret 4) (hlv : lv2 + 1 ≤ lvl) (hst : (rest.map fun v => v.category).sum ≤ 8) (hro : cells + mc ≤ mcT ∧ slots + ms ≤ msT) (hC : Ct G y cb L ret lv2 mc ms [b0, b1, b2, b3] n h Post) (d : decode cc pc = .ok (.invokestatic idx, 3)) (hq : pc + 3 = q) (kk : ∀ (r : Option Value) (n' : Nat) (h' : RH), Post r n' h' → J G z cc nL own lvl mcT msT (cells + mc) (slots + ms) q lo (r.toList ++ rest) n' h') : J G z cc nL own lvl mcT msT cells slots pc lo (b3 :: b2 :: b1 :: b0 :: rest) n h := g_callSN (As := [b0, b1, b2, b3]) hV hlv hro hst rfl hC d hq kk
theorem r_callSN_4 {b0 b1 b2 b3 : Value} (hV : CSNok own idx y host cb L ret 4) (hlv : lv2 + 1 ≤ lvl) (hst : (rest.map fun v => v.category).sum ≤ 8) (hro : cells ≤ mcT ∧ slots ≤ msT) (hC : CtE G y cb L ret lv2 [b0, b1, b2, b3] n h (some v0) h0) (d : decode cc pc = .ok (.invokestatic idx, 3)) (hq : pc + 3 = q) (kk : J G z cc nL own lvl mcT msT cells slots q lo (v0 :: rest) n h0) : J G z cc nL own lvl mcT msT cells slots pc lo (b3 :: b2 :: b1 :: b0 :: rest) n h := g_callSN (As := [b0, b1, b2, b3]) hV hlv hro hst rfl hC d hq (fun r n' h' hp => by obtain ⟨rfl, rfl, rfl⟩ := hp; exact kk)
theorem r_callSNv_4 {b0 b1 b2 b3 : Value} (hV : CSNok own idx y host cb L ret 4) (hlv : lv2 + 1 ≤ lvl) (hst : (rest.map fun v => v.category).sum ≤ 8) (hro : cells ≤ mcT ∧ slots ≤ msT) (hC : CtE G y cb L ret lv2 [b0, b1, b2, b3] n h (none) h0) (d : decode cc pc = .ok (.invokestatic idx, 3)) (hq : pc + 3 = q) (kk : J G z cc nL own lvl mcT msT cells slots q lo (rest) n h0) : J G z cc nL own lvl mcT msT cells slots pc lo (b3 :: b2 :: b1 :: b0 :: rest) n h := g_callSN (As := [b0, b1, b2, b3]) hV hlv hro hst rfl hC d hq (fun r n' h' hp => by obtain ⟨rfl, rfl, rfl⟩ := hp; exact kk)
theorem r_callUp_0 (hV : CUok own idx C x y cb L ret 0) (ho : h o = some (.inr (.inr (ci, fs)))) (hcl : dcl[ci]? = some (C, T, N)) (hlv : lv2 + 1 ≤ lvl) (hst : (rest.map fun v => v.category).sum ≤ 8) (hro : cells + mc ≤ mcT ∧ slots + ms ≤ msT) (hC : Ct G y cb L ret lv2 mc ms [.ref o] n h Post) (d : decode cc pc = .ok (.invokevirtual idx, 3)) (hq : pc + 3 = q) (kk : ∀ (r : Option Value) (n' : Nat) (h' : RH), Post r n' h' → J G z cc nL own lvl mcT msT (cells + mc) (slots + ms) q lo (r.toList ++ rest) n' h') : J G z cc nL own lvl mcT msT cells slots pc lo (.ref o :: rest) n h := g_callU (As := []) hV ho hcl hlv hro hst rfl hC d hq kk
theorem r_callU_0 (hV : CUok own idx C x y cb L ret 0) (ho : h o = some (.inr (.inr (ci, fs)))) (hcl : dcl[ci]? = some (C, T, N)) (hlv : lv2 + 1 ≤ lvl) (hst : (rest.map fun v => v.category).sum ≤ 8) (hro : cells ≤ mcT ∧ slots ≤ msT) (hC : CtE G y cb L ret lv2 [.ref o] n h (some v0) h0) (d : decode cc pc = .ok (.invokevirtual idx, 3)) (hq : pc + 3 = q) (kk : J G z cc nL own lvl mcT msT cells slots q lo (v0 :: rest) n h0) : J G z cc nL own lvl mcT msT cells slots pc lo (.ref o :: rest) n h := g_callU (As := []) hV ho hcl hlv hro hst rfl hC d hq (fun r n' h' hp => by obtain ⟨rfl, rfl, rfl⟩ := hp; exact kk)
theorem r_callUv_0 (hV : CUok own idx C x y cb L ret 0) (ho : h o = some (.inr (.inr (ci, fs)))) (hcl : dcl[ci]? = some (C, T, N)) (hlv : lv2 + 1 ≤ lvl) (hst : (rest.map fun v => v.category).sum ≤ 8) (hro : cells ≤ mcT ∧ slots ≤ msT) (hC : CtE G y cb L ret lv2 [.ref o] n h (none) h0) (d : decode cc pc = .ok (.invokevirtual idx, 3)) (hq : pc + 3 = q) (kk : J G z cc nL own lvl mcT msT cells slots q lo (rest) n h0) : J G z cc nL own lvl mcT msT cells slots pc lo (.ref o :: rest) n h := g_callU (As := []) hV ho hcl hlv hro hst rfl hC d hq (fun r n' h' hp => by obtain ⟨rfl, rfl, rfl⟩ := hp; exact kk)
theorem r_callSUp_0 (hV : CSUok own idx y cb L ret 0) (ho : h o = some (.inr (.inr (ci, fs)))) (hcl : dcl[ci]? = some (C, T, N)) (hlv : lv2 + 1 ≤ lvl) (hst : (rest.map fun v => v.category).sum ≤ 8) (hro : cells + mc ≤ mcT ∧ slots + ms ≤ msT) (hC : Ct G y cb L ret lv2 mc ms [.ref o] n h Post) (d : decode cc pc = .ok (.invokespecial idx, 3)) (hq : pc + 3 = q) (kk : ∀ (r : Option Value) (n' : Nat) (h' : RH), Post r n' h' → J G z cc nL own lvl mcT msT (cells + mc) (slots + ms) q lo (r.toList ++ rest) n' h') : J G z cc nL own lvl mcT msT cells slots pc lo (.ref o :: rest) n h := g_callSU (As := []) hV ho hcl hlv hro hst rfl hC d hq kk
theorem r_callSU_0 (hV : CSUok own idx y cb L ret 0) (ho : h o = some (.inr (.inr (ci, fs)))) (hcl : dcl[ci]? = some (C, T, N)) (hlv : lv2 + 1 ≤ lvl) (hst : (rest.map fun v => v.category).sum ≤ 8) (hro : cells ≤ mcT ∧ slots ≤ msT) (hC : CtE G y cb L ret lv2 [.ref o] n h (some v0) h0) (d : decode cc pc = .ok (.invokespecial idx, 3)) (hq : pc + 3 = q) (kk : J G z cc nL own lvl mcT msT cells slots q lo (v0 :: rest) n h0) : J G z cc nL own lvl mcT msT cells slots pc lo (.ref o :: rest) n h := g_callSU (As := []) hV ho hcl hlv hro hst rfl hC d hq (fun r n' h' hp => by obtain ⟨rfl, rfl, rfl⟩ := hp; exact kk)
theorem r_callSUv_0 (hV : CSUok own idx y cb L ret 0) (ho : h o = some (.inr (.inr (ci, fs)))) (hcl : dcl[ci]? = some (C, T, N)) (hlv : lv2 + 1 ≤ lvl) (hst : (rest.map fun v => v.category).sum ≤ 8) (hro : cells ≤ mcT ∧ slots ≤ msT) (hC : CtE G y cb L ret lv2 [.ref o] n h (none) h0) (d : decode cc pc = .ok (.invokespecial idx, 3)) (hq : pc + 3 = q) (kk : J G z cc nL own lvl mcT msT cells slots q lo (rest) n h0) : J G z cc nL own lvl mcT msT cells slots pc lo (.ref o :: rest) n h := g_callSU (As := []) hV ho hcl hlv hro hst rfl hC d hq (fun r n' h' hp => by obtain ⟨rfl, rfl, rfl⟩ := hp; exact kk)
end JC

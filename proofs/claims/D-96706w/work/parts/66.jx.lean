/-! ===== methods that may throw ===== -/
set_option maxRecDepth 100000
/-- thrown is the Refused object at q -/
def QXR (G : GD) (PX : Nat → Nat → RH → Prop) : Addr → String → State → State → Prop := fun q E st t => E = RX4 ∧ (∃ h' : RH, PX q t.heap.size h' ∧ RepH G h' t.heap) ∧ va_F (fun q => G.2.2.2 ≤ q) st t
/-- a contract of a method that returns with Post or throws q with PX -/
def CtX (G : GD) (y : MethodName) (cb : ByteArray) (maxL : Nat) (ret : Option FieldType) (lvl mc ms : Nat) (av : List Value) (n : Nat) (h : RH) (Post : Option Value → Nat → RH → Prop) (PX : Nat → Nat → RH → Prop) : Prop :=
  vx_Met G.1 y (ws_ y cb maxL ret) ({ frames := lvl, cells := mc, slots := ms, locals := 40 * lvl } : Room) (va_Pc av (fun U => U.heap.size = n ∧ RepH G h U.heap ∧ KG G U ∧ G.2.2.2 ≤ n)) (QP G Post) (QXR G PX) mc ms (fun q => G.2.2.2 ≤ q)
/-- over the frame at pc q is thrown -/
def JT (G : GD) (z : MZ) (cc : ByteArray) (nL : Nat) (own : String) (lvl mcT msT cells slots pc : Nat) (lo : List (Option Value)) (n : Nat) (h : RH) (q : Nat) : Prop :=
  match z with
  | (p, e, R, s, m, args, below, meth, c, Q) =>
    CallFix p m c cc nL s args lw_all own → KG G s → (∀ q, s.heap.size ≤ q → G.2.2.2 ≤ q) → meth.locks = false → (lvl ≤ R.frames ∧ 40 * lvl ≤ R.locals ∧ R.cells = mcT ∧ R.slots = msT) →
    ∀ (ls : Array Slot) (H : Heap) (locs : List Loc) (rest : List Value), LV ls nL lo → H.size = n → RepH G h H → va_S (fun q => G.2.2.2 ≤ q) s.heap H locs →
    vx_W p G.1 e R s m args below meth c H locs cells slots Q (F0 m pc ls rest) q
/-- what a method that may throw says of its ends -/
def ZX (G : GD) (z : MZ) (ret : Option FieldType) (mcT msT : Nat) (Post : Option Value → Nat → RH → Prop) (PX : Nat → Nat → RH → Prop) : Prop :=
  ZQ G z ret mcT msT Post ∧ ∀ (cc : ByteArray) (nL : Nat) (own : String) (lvl cells slots pc : Nat) (lo : List (Option Value)) (n : Nat) (h : RH) (q : Nat) (fs : List Value), PX q n h → h q = some (.inr (.inr (4, fs))) → cells ≤ mcT → slots ≤ msT → JT G z cc nL own lvl mcT msT cells slots pc lo n h q
theorem RepH.cell4 {G : GD} {h : RH} {H : Heap} {q : Nat} {fs : List Value} {s : State} (hR : RepH G h H) (K : KG G s) (hq : h q = some (.inr (.inr (4, fs)))) : ∃ ce : Cell, H[q]? = some ce ∧ ce.vm = .none ∧ s.vm.findClass RX4 = some ce.cls := by
  obtain ⟨r', hr', ce, g1, g2, g3, -⟩ := (hR q _ hq).2
  have hcl : dcl[4]? = some (RX4, TX4, 7) := rfl
  cases hr'.symm.trans hcl
  have hcls := (K.1.1 4 _ hcl).2
  exact ⟨ce, g1, g3, by rw [g2]; exact hcls.1⟩
theorem CtX.intro {G : GD} {y : MethodName} {cb : ByteArray} {maxL : Nat} {ret : Option FieldType} {lvl mc ms : Nat} {av : List Value} {n : Nat} {h : RH} {Post : Option Value → Nat → RH → Prop} {PX : Nat → Nat → RH → Prop} {k : Nat} (lo0 : List (Option Value)) (hy : plainName y.cls = true) (hlen : (lg_sl av).length ≤ maxL) (hlo : elo av ++ List.replicate k none = lo0)
    (body : ∀ z : MZ, ZX G z ret mc ms Post PX → zname z = y.name → J G z cb maxL y.cls lvl mc ms 0 0 0 lo0 [] n h) : CtX G y cb maxL ret lvl mc ms av n h Post PX := by
  refine vx_ofW (cc := cb) (maxL := maxL) (ret := ret) hy rfl ?_
  intro p e s m args below meth c s₁ B hml ht hv
  obtain ⟨rfl, hn, hP, hK, hb⟩ := hv
  have hts := atoms_spec (ws := ws_ y cb maxL ret) B.pre
  have hts : ∀ w ∈ lw_all, w.before _ s = true := fun w h => hts w (List.mem_cons_of_mem _ h)
  have hown : s.vm.findClass y.cls = some m.cls := findClass_of_methodNamed B.named
  have hl := LV.entry (av := av) (nL := maxL) (k := k) hlen
  rw [hlo] at hl
  rw [lg_entry_eq]
  subst hn
  exact body (p, e, (headSpec (ws_ y cb maxL ret) ({ frames := lvl, cells := mc, slots := ms, locals := 40 * lvl } : Room)).room, s, m, av.toArray, below, meth, c, vx_MQ below (QP G Post) (QXR G PX) av.toArray s mc ms (fun q => G.2.2.2 ≤ q))
    ⟨⟨B.returns, fun _ _ _ _ _ k => vx_ret k⟩, fun cc nL own lvl cells slots pc lo n h q fs hpx hq hc hs => by
      intro S K hA hL hR ls H locs rest hl hn hP hS
      obtain ⟨ce, g1, g2, g3⟩ := hP.cell4 K hq
      exact vx_out (fun x hx => (ht x hx).elim) hL g1 g2 g3 (fun t e1 hW => ⟨rfl, ⟨h, by rw [e1, hn]; exact hpx, by rw [e1]; exact hP⟩, hS.F e1⟩) hS.2.2 hc hs⟩ (name_of_methodNamed B.named B.method).1
    ⟨B.exec, B.bytes, hml, hown, hts⟩ hK (fun q hq => Nat.le_trans hb hq) B.notSynchronized ⟨Nat.le_refl _, Nat.le_refl _, rfl, rfl⟩ _ s.heap [] hl rfl hP va_S.rf
/-- a method with handlers, that throws nothing -/
def CtW (G : GD) (y : MethodName) (cb : ByteArray) (maxL : Nat) (ret : Option FieldType) (hh : List (Nat × Nat × Nat × Nat)) (lvl mc ms : Nat) (av : List Value) (n : Nat) (h : RH) (Post : Option Value → Nat → RH → Prop) : Prop :=
  Met G.1 y (wsW_ y cb maxL ret hh) ({ frames := lvl, cells := mc, slots := ms, locals := 40 * lvl } : Room) (va_Pc av (fun U => U.heap.size = n ∧ RepH G h U.heap ∧ KG G U ∧ G.2.2.2 ≤ n)) (QP G Post) mc ms (fun q => G.2.2.2 ≤ q)
def ztab (z : MZ) (hh : List (Nat × Nat × Nat × Nat)) : Prop := z.2.2.2.2.2.2.2.2.1.exceptionTable.toList = tableOf hh
theorem CtW.intro {G : GD} {y : MethodName} {cb : ByteArray} {maxL : Nat} {ret : Option FieldType} {hh : List (Nat × Nat × Nat × Nat)} {lvl mc ms : Nat} {av : List Value} {n : Nat} {h : RH} {Post : Option Value → Nat → RH → Prop} {k : Nat} (lo0 : List (Option Value)) (hy : plainName y.cls = true) (hlen : (lg_sl av).length ≤ maxL) (hlo : elo av ++ List.replicate k none = lo0)
    (body : ∀ z : MZ, ZQ G z ret mc ms Post → zname z = y.name → ztab z hh → J G z cb maxL y.cls lvl mc ms 0 0 0 lo0 [] n h) : CtW G y cb maxL ret hh lvl mc ms av n h Post := by
  refine met_ofWH (cc := cb) (maxL := maxL) (ret := ret) (hh := hh) hy rfl ?_
  intro p e s m args below meth c s₁ B hml hv
  obtain ⟨rfl, hn, hP, hK, hb⟩ := hv
  have hts0 := atoms_spec (ws := wsW_ y cb maxL ret hh) B.pre
  have htab := vx_table (x := y) B (hts0 _ List.mem_cons_self)
  have hts : ∀ w ∈ lw_all, w.before _ s = true := fun w h => hts0 w (List.mem_cons_of_mem _ h)
  have hown : s.vm.findClass y.cls = some m.cls := findClass_of_methodNamed B.named
  have hl := LV.entry (av := av) (nL := maxL) (k := k) hlen
  rw [hlo] at hl
  rw [lg_entry_eq]
  subst hn
  exact body (p, e, (headSpec (wsW_ y cb maxL ret hh) ({ frames := lvl, cells := mc, slots := ms, locals := 40 * lvl } : Room)).room, s, m, av.toArray, below, meth, c, MQ below (QP G Post) av.toArray s mc ms (fun q => G.2.2.2 ≤ q))
    ⟨B.returns, fun _ _ _ _ _ k => k⟩ (name_of_methodNamed B.named B.method).1 htab
    ⟨B.exec, B.bytes, hml, hown, hts⟩ hK (fun q hq => Nat.le_trans hb hq) B.notSynchronized ⟨Nat.le_refl _, Nat.le_refl _, rfl, rfl⟩ _ s.heap [] hl rfl hP va_S.rf
section JX
variable {G : GD} {z : MZ} {cc : ByteArray} {nL : Nat} {own : String} {lvl mcT msT cells slots pc q n : Nat} {lo : List (Option Value)} {stk : List Value} {h : RH}
variable {y x : MethodName} {cb : ByteArray} {L lv2 mc ms idx nA o ci : Nat} {ret : Option FieldType} {C : String} {T : u_T} {N : Nat} {fs As rest : List Value} {Post : Option Value → Nat → RH → Prop} {PX : Nat → Nat → RH → Prop}
theorem r_athrow {a : Nat} (d : decode cc pc = .ok (.athrow, 1)) (k : JT G z cc nL own lvl mcT msT cells slots pc lo n h a) : J G z cc nL own lvl mcT msT cells slots pc lo (.ref a :: stk) n h := by
  obtain ⟨p, e, R, s, m, args, below, meth, c, Q⟩ := z
  intro S K hA hL hR ls H locs hl hn hP hS
  exact vx_athrow S.1 S.2.1 d (k S K hA hL hR ls H locs stk hl hn hP hS)
theorem J.callx {R : Room} {p : Program} {e : Env} {s : State} {m : MethodId} {args : Array Value} {below : List Frame} {meth : Method} {c : Code} {Q : State → Prop} {H : Heap} {locs : List Loc} {ls : Array Slot} {st0 : List Value} {a : Array Value} (hr : vx_Run p G.1 e R s m args below meth c H locs cells slots mc ms (F0 m pc ls st0) rest (QP G Post a) (QXR G PX) (fun q => G.2.2.2 ≤ q)) (hS : va_S (fun q => G.2.2.2 ≤ q) s.heap H locs)
    (kx : ∀ (q : Nat) (h' : RH) (H1 : Heap) (locs1 : List Loc), PX q H1.size h' → RepH G h' H1 → va_S (fun q => G.2.2.2 ≤ q) s.heap H1 locs1 → vx_W p G.1 e R s m args below meth c H1 locs1 (cells + mc) (slots + ms) Q (F0 m pc ls rest) q)
    (kk : ∀ (r : Option Value) (h' : RH) (H1 : Heap) (locs1 : List Loc), Post r H1.size h' → RepH G h' H1 → va_S (fun q => G.2.2.2 ≤ q) s.heap H1 locs1 → W p G.1 e R s m args below meth c H1 locs1 (cells + mc) (slots + ms) Q (F0 m (pc + 3) ls (r.toList ++ rest))) : W p G.1 e R s m args below meth c H locs cells slots Q (F0 m pc ls st0) := by
  intro T hT X
  rcases hr T hT X with ⟨v, st₀, t, T', L, h0, X', hL, e1, e2, ⟨⟨r, h', hv, hp, hRp⟩, hz, hk⟩, st⟩ | ⟨q, st₀, t, T', L, E, ce, h0, X', hL, e1, e2, ⟨hE, ⟨h', hp, hRp⟩, hz, hk⟩, hce, hcv, hcl, st⟩
  · cases hv
    rw [h0] at hz hk
    obtain ⟨t2, a1, b1⟩ := kk v h' T'.heap (locs ++ L) (by rw [e1]; exact hp) (by rw [e1]; exact hRp)
      ⟨Nat.le_trans hS.1 (by rw [e1]; exact hz), fun q h1 h2 => by rw [e1, hk q (Nat.lt_of_lt_of_le h1 hS.1) h2]; exact hS.2.1 q h1 h2, fun q hq => by
        rcases List.mem_append.mp hq with h | h
        · exact hS.2.2 q h
        · exact hL q h⟩ T' rfl X'
    exact ⟨t2, st t2 a1, b1⟩
  · rw [h0] at hz hk
    obtain ⟨t2, a1, b1⟩ := kx q h' T'.heap (locs ++ L) (by rw [e1]; exact hp) (by rw [e1]; exact hRp)
      ⟨Nat.le_trans hS.1 (by rw [e1]; exact hz), fun q h1 h2 => by rw [e1, hk q (Nat.lt_of_lt_of_le h1 hS.1) h2]; exact hS.2.1 q h1 h2, fun q hq => by
        rcases List.mem_append.mp hq with h | h
        · exact hS.2.2 q h
        · exact hL q h⟩ T' rfl X'
    exact ⟨t2, st.trans a1, b1⟩
theorem g_callXV (hV : CVok own idx C y cb L ret nA) (ho : h o = some (.inr (.inr (ci, fs)))) (hcl : dcl[ci]? = some (C, T, N)) (hlv : lv2 + 1 ≤ lvl) (hst : (rest.map fun v => v.category).sum ≤ 8) (hro : cells + mc ≤ mcT ∧ slots + ms ≤ msT) (hAs : As.length = nA) (hC : CtX G y cb L ret lv2 mc ms (.ref o :: As) n h Post PX) (d : decode cc pc = .ok (.invokevirtual idx, 3)) (hq : pc + 3 = q) (kx : ∀ (q9 n' : Nat) (h' : RH), PX q9 n' h' → JT G z cc nL own lvl mcT msT (cells + mc) (slots + ms) pc lo n' h' q9) (kk : ∀ (r : Option Value) (n' : Nat) (h' : RH), Post r n' h' → J G z cc nL own lvl mcT msT (cells + mc) (slots + ms) q lo (r.toList ++ rest) n' h') : J G z cc nL own lvl mcT msT cells slots pc lo (As.reverse ++ .ref o :: rest) n h := by
  obtain ⟨p, e, R, s, m, args, below, meth, c, Q⟩ := z
  subst hq
  intro S K hA hL hR ls H locs hl hn hP hS
  obtain ⟨v1, v2, v3⟩ := hV
  exact J.callx (vx_runV (As := As) (rest := rest) S hC (cwV nA S.2.2.2.2 v1 rfl rfl rfl ⟨v2.1, v2.2⟩ ⟨Nat.le_trans hlv hR.1, by show 8 + (L + 11) + 40 * lv2 ≤ R.locals; have := hR.2.1; omega⟩) ⟨Ct.blind, va_recv (D := G.2.1) (cl := dcl) (q := (C, T, N)) (q0 := 0) (fs := fs) K.1 (hP.one ho) hcl rfl, fun U hU hW => ⟨rfl, by rw [hU]; exact hn, by rw [hU]; exact hP, K.warm hS hU hW, by rw [← hn]; exact hA _ hS.1⟩⟩ rfl hAs hl.1 rfl (by show 2 * 0 + _ ≤ 8; omega) d ⟨by rw [hR.2.2.1]; exact hro.1, by rw [hR.2.2.2]; exact hro.2⟩) hS (fun q9 h' H1 locs1 hp hRp hS1 => kx q9 _ h' hp S K hA hL hR ls H1 locs1 rest hl rfl hRp hS1) (fun r h' H1 locs1 hp hRp hS1 => kk r _ h' hp S K hA hL hR ls H1 locs1 hl rfl hRp hS1)
theorem g_callXSN {host : String} (hV : CSNok own idx y host cb L ret nA) (hlv : lv2 + 1 ≤ lvl) (hst : (rest.map fun v => v.category).sum ≤ 8) (hro : cells + mc ≤ mcT ∧ slots + ms ≤ msT) (hAs : As.length = nA) (hC : CtX G y cb L ret lv2 mc ms As n h Post PX) (d : decode cc pc = .ok (.invokestatic idx, 3)) (hq : pc + 3 = q) (kx : ∀ (q9 n' : Nat) (h' : RH), PX q9 n' h' → JT G z cc nL own lvl mcT msT (cells + mc) (slots + ms) pc lo n' h' q9) (kk : ∀ (r : Option Value) (n' : Nat) (h' : RH), Post r n' h' → J G z cc nL own lvl mcT msT (cells + mc) (slots + ms) q lo (r.toList ++ rest) n' h') : J G z cc nL own lvl mcT msT cells slots pc lo (As.reverse ++ rest) n h := by
  obtain ⟨p, e, R, s, m, args, below, meth, c, Q⟩ := z
  subst hq
  intro S K hA hL hR ls H locs hl hn hP hS
  obtain ⟨⟨w1, w2, w3, w4⟩, v2, v3⟩ := hV
  exact J.callx (vx_runSN (As := As) (rest := rest) S hC ⟨va_cnB nA S.2.2.2.2 (lw_meth w1) rfl rfl rfl (K.2.1 _ w3 rfl) (S.2.2.2.2 _ w2) v2 ⟨Nat.le_trans hlv hR.1, by show 8 + (L + 11) + 40 * lv2 ≤ R.locals; have := hR.2.1; omega⟩, S.2.2.2.2 _ w4, trivial⟩ ⟨Ct.blind, fun U hU hW => ⟨rfl, by rw [hU]; exact hn, by rw [hU]; exact hP, K.warm hS hU hW, by rw [← hn]; exact hA _ hS.1⟩⟩ rfl hAs hl.1 rfl (by show 2 * 0 + _ ≤ 8; omega) d ⟨by rw [hR.2.2.1]; exact hro.1, by rw [hR.2.2.2]; exact hro.2⟩) hS (fun q9 h' H1 locs1 hp hRp hS1 => kx q9 _ h' hp S K hA hL hR ls H1 locs1 rest hl rfl hRp hS1) (fun r h' H1 locs1 hp hRp hS1 => kk r _ h' hp S K hA hL hR ls H1 locs1 hl rfl hRp hS1)
theorem r_callXV_0 (hV : CVok own idx C y cb L ret 0) (ho : h o = some (.inr (.inr (ci, fs)))) (hcl : dcl[ci]? = some (C, T, N)) (hlv : lv2 + 1 ≤ lvl) (hst : (rest.map fun v => v.category).sum ≤ 8) (hro : cells + mc ≤ mcT ∧ slots + ms ≤ msT) (hC : CtX G y cb L ret lv2 mc ms [.ref o] n h Post PX) (d : decode cc pc = .ok (.invokevirtual idx, 3)) (hq : pc + 3 = q) (kx : ∀ (q9 n' : Nat) (h' : RH), PX q9 n' h' → JT G z cc nL own lvl mcT msT (cells + mc) (slots + ms) pc lo n' h' q9) (kk : ∀ (r : Option Value) (n' : Nat) (h' : RH), Post r n' h' → J G z cc nL own lvl mcT msT (cells + mc) (slots + ms) q lo (r.toList ++ rest) n' h') : J G z cc nL own lvl mcT msT cells slots pc lo (.ref o :: rest) n h := g_callXV (As := []) hV ho hcl hlv hst hro rfl hC d hq kx kk
theorem r_callXV_1 {b0 : Value} (hV : CVok own idx C y cb L ret 1) (ho : h o = some (.inr (.inr (ci, fs)))) (hcl : dcl[ci]? = some (C, T, N)) (hlv : lv2 + 1 ≤ lvl) (hst : (rest.map fun v => v.category).sum ≤ 8) (hro : cells + mc ≤ mcT ∧ slots + ms ≤ msT) (hC : CtX G y cb L ret lv2 mc ms [.ref o, b0] n h Post PX) (d : decode cc pc = .ok (.invokevirtual idx, 3)) (hq : pc + 3 = q) (kx : ∀ (q9 n' : Nat) (h' : RH), PX q9 n' h' → JT G z cc nL own lvl mcT msT (cells + mc) (slots + ms) pc lo n' h' q9) (kk : ∀ (r : Option Value) (n' : Nat) (h' : RH), Post r n' h' → J G z cc nL own lvl mcT msT (cells + mc) (slots + ms) q lo (r.toList ++ rest) n' h') : J G z cc nL own lvl mcT msT cells slots pc lo (b0 :: .ref o :: rest) n h := g_callXV (As := [b0]) hV ho hcl hlv hst hro rfl hC d hq kx kk
theorem r_callXV_2 {b0 b1 : Value} (hV : CVok own idx C y cb L ret 2) (ho : h o = some (.inr (.inr (ci, fs)))) (hcl : dcl[ci]? = some (C, T, N)) (hlv : lv2 + 1 ≤ lvl) (hst : (rest.map fun v => v.category).sum ≤ 8) (hro : cells + mc ≤ mcT ∧ slots + ms ≤ msT) (hC : CtX G y cb L ret lv2 mc ms [.ref o, b0, b1] n h Post PX) (d : decode cc pc = .ok (.invokevirtual idx, 3)) (hq : pc + 3 = q) (kx : ∀ (q9 n' : Nat) (h' : RH), PX q9 n' h' → JT G z cc nL own lvl mcT msT (cells + mc) (slots + ms) pc lo n' h' q9) (kk : ∀ (r : Option Value) (n' : Nat) (h' : RH), Post r n' h' → J G z cc nL own lvl mcT msT (cells + mc) (slots + ms) q lo (r.toList ++ rest) n' h') : J G z cc nL own lvl mcT msT cells slots pc lo (b1 :: b0 :: .ref o :: rest) n h := g_callXV (As := [b0, b1]) hV ho hcl hlv hst hro rfl hC d hq kx kk
theorem r_callXSN_0 {host : String} (hV : CSNok own idx y host cb L ret 0) (hlv : lv2 + 1 ≤ lvl) (hst : (rest.map fun v => v.category).sum ≤ 8) (hro : cells + mc ≤ mcT ∧ slots + ms ≤ msT) (hC : CtX G y cb L ret lv2 mc ms [] n h Post PX) (d : decode cc pc = .ok (.invokestatic idx, 3)) (hq : pc + 3 = q) (kx : ∀ (q9 n' : Nat) (h' : RH), PX q9 n' h' → JT G z cc nL own lvl mcT msT (cells + mc) (slots + ms) pc lo n' h' q9) (kk : ∀ (r : Option Value) (n' : Nat) (h' : RH), Post r n' h' → J G z cc nL own lvl mcT msT (cells + mc) (slots + ms) q lo (r.toList ++ rest) n' h') : J G z cc nL own lvl mcT msT cells slots pc lo (rest) n h := g_callXSN (As := []) hV hlv hst hro rfl hC d hq kx kk
theorem r_callXSN_1 {b0 : Value} {host : String} (hV : CSNok own idx y host cb L ret 1) (hlv : lv2 + 1 ≤ lvl) (hst : (rest.map fun v => v.category).sum ≤ 8) (hro : cells + mc ≤ mcT ∧ slots + ms ≤ msT) (hC : CtX G y cb L ret lv2 mc ms [b0] n h Post PX) (d : decode cc pc = .ok (.invokestatic idx, 3)) (hq : pc + 3 = q) (kx : ∀ (q9 n' : Nat) (h' : RH), PX q9 n' h' → JT G z cc nL own lvl mcT msT (cells + mc) (slots + ms) pc lo n' h' q9) (kk : ∀ (r : Option Value) (n' : Nat) (h' : RH), Post r n' h' → J G z cc nL own lvl mcT msT (cells + mc) (slots + ms) q lo (r.toList ++ rest) n' h') : J G z cc nL own lvl mcT msT cells slots pc lo (b0 :: rest) n h := g_callXSN (As := [b0]) hV hlv hst hro rfl hC d hq kx kk
theorem r_callXSN_2 {b0 b1 : Value} {host : String} (hV : CSNok own idx y host cb L ret 2) (hlv : lv2 + 1 ≤ lvl) (hst : (rest.map fun v => v.category).sum ≤ 8) (hro : cells + mc ≤ mcT ∧ slots + ms ≤ msT) (hC : CtX G y cb L ret lv2 mc ms [b0, b1] n h Post PX) (d : decode cc pc = .ok (.invokestatic idx, 3)) (hq : pc + 3 = q) (kx : ∀ (q9 n' : Nat) (h' : RH), PX q9 n' h' → JT G z cc nL own lvl mcT msT (cells + mc) (slots + ms) pc lo n' h' q9) (kk : ∀ (r : Option Value) (n' : Nat) (h' : RH), Post r n' h' → J G z cc nL own lvl mcT msT (cells + mc) (slots + ms) q lo (r.toList ++ rest) n' h') : J G z cc nL own lvl mcT msT cells slots pc lo (b1 :: b0 :: rest) n h := g_callXSN (As := [b0, b1]) hV hlv hst hro rfl hC d hq kx kk
/-- a call of a method with handlers -/
def CWok (own : String) (idx : Nat) (C : String) (y : MethodName) (cb : ByteArray) (L : Nat) (ret : Option FieldType) (hh : List (Nat × Nat × Nat × Nat)) (k : Nat) : Prop := GoodIn lw_all (wsV own idx C y (wsW_ y cb L ret hh)) ∧ (y.cls = C ∧ nMH y k) ∧ L ≤ 20
theorem r_callW_0 {hh : List (Nat × Nat × Nat × Nat)} (hV : CWok own idx C y cb L ret hh 0) (ho : h o = some (.inr (.inr (ci, fs)))) (hcl : dcl[ci]? = some (C, T, N)) (hlv : lv2 + 1 ≤ lvl) (hst : (rest.map fun v => v.category).sum ≤ 8) (hro : cells + mc ≤ mcT ∧ slots + ms ≤ msT) (hC : CtW G y cb L ret hh lv2 mc ms [.ref o] n h Post) (d : decode cc pc = .ok (.invokevirtual idx, 3)) (hq : pc + 3 = q) (kk : ∀ (r : Option Value) (n' : Nat) (h' : RH), Post r n' h' → J G z cc nL own lvl mcT msT (cells + mc) (slots + ms) q lo (r.toList ++ rest) n' h') : J G z cc nL own lvl mcT msT cells slots pc lo (.ref o :: rest) n h := by
  obtain ⟨p, e, R, s, m, args, below, meth, c, Q⟩ := z
  subst hq
  intro S K hA hL hR ls H locs hl hn hP hS
  obtain ⟨v1, v2, v3⟩ := hV
  exact J.call (vx_runVW (As := []) (rest := rest) S hC (vx_cwVW 0 S.2.2.2.2 v1 rfl rfl rfl ⟨v2.1, v2.2⟩ ⟨Nat.le_trans hlv hR.1, by show 8 + (L + 11) + 40 * lv2 ≤ R.locals; have := hR.2.1; omega⟩) ⟨Ct.blind, va_recv (D := G.2.1) (cl := dcl) (q := (C, T, N)) (q0 := 0) (fs := fs) K.1 (hP.one ho) hcl rfl, fun U hU hW => ⟨rfl, by rw [hU]; exact hn, by rw [hU]; exact hP, K.warm hS hU hW, by rw [← hn]; exact hA _ hS.1⟩⟩ rfl rfl hl.1 rfl (by show 2 * 0 + _ ≤ 8; omega) d ⟨by rw [hR.2.2.1]; exact hro.1, by rw [hR.2.2.2]; exact hro.2⟩) hS (fun r h' H1 locs1 hp hRp hS1 => kk r _ h' hp S K hA hL hR ls H1 locs1 hl rfl hRp hS1)
/-- caught by the first row of the table -/
theorem r_catch {a b hp9 ct : Nat} {hh : List (Nat × Nat × Nat × Nat)} {a9 : Nat} {fs : List Value} (htab : ztab z ((a, b, hp9, ct) :: hh)) (hx : a ≤ pc ∧ pc < b) (h0 : ct ≠ 0) (hlink : Cond.classLink own ct RX4 ∈ lw_all) (hcast : Cond.castable RX4 RX4 ∈ lw_tbl) (hq : h a9 = some (.inr (.inr (4, fs)))) (kk : J G z cc nL own lvl mcT msT cells slots hp9 lo [.ref a9] n h) : JT G z cc nL own lvl mcT msT cells slots pc lo n h a9 := by
  obtain ⟨p, e, R, s, m, args, below, meth, c, Q⟩ := z
  intro S K hA hL hR ls H locs rest hl hn hP hS
  obtain ⟨ce, g1, g2, g3⟩ := hP.cell4 K hq
  refine vx_catch S.2.2.2.1 [] { startPc := a, endPc := b, handlerPc := hp9, catchType := ct } (tableOf hh) htab (fun z hz => nomatch hz) ?_ h0 (S.2.2.2.2 _ hlink) (va_Nw.use rfl (K.2.1 _ hcast rfl)) g1 g2 g3 (kk S K hA hL hR ls H locs hl hn hP hS)
  simp [covers, hx.1, hx.2]
end JX

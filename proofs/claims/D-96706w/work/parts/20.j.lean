/-! ===== J: an abstract heap under the machine; one rule an instruction ===== -/
set_option maxRecDepth 100000
abbrev RC : Type := (List Int32) ⊕ ((Nat × List (Option Nat)) ⊕ (Nat × List Value))
abbrev RH : Type := Nat → Option RC
abbrev dcl : List vw_C := [(RX0, TX0, 17), (RX1, TX1, 5), (RX2, TX2, 33), (RX3, TX3, 4), (RX4, TX4, 7), (RX5, TX5, 2), (RX6, TX6, 2), (RX7, TX7, 2), (RX8, TX8, 2), (RX9, TX9, 2), (RX10, TX10, 2), (RJ2, TJ2, 3)]
/-- launch; class ids and field slots; the ids of int[], Object[], Quarter[]; the first address that is ours -/
abbrev GD : Type := Launch × va_G × (ClassId × ClassId × ClassId) × Nat
abbrev MZ : Type := Program × Env × Room × State × MethodId × Array Value × List Frame × Method × Code × (State → Prop)
def rc_e (t : ClassId × ClassId × ClassId) : RC → va_E
  | .inl l => .inl (t.1, l.length, .inl (fun j => l.getD j 0))
  | .inr (.inl (k, l)) => .inl (if k = 0 then t.2.1 else t.2.2, l.length, .inr (.inr (.inr (.inr (fun j => l.getD j none)))))
  | .inr (.inr o) => .inr o
def RepH (G : GD) (h : RH) (H : Heap) : Prop := ∀ (a : Nat) (c : RC), h a = some c → G.2.2.2 ≤ a ∧ va_at G.2.1 dcl (a, rc_e G.2.2.1 c) H
abbrev gtys (G : GD) : List (ClassId × FieldType) := [(G.2.2.1.1, .int), (G.2.2.1.2.1, .object "java/lang/Object"), (G.2.2.1.2.2, .object "PrayerMatsFace$Quarter")]
def hset (h : RH) (a : Nat) (c : RC) : RH := fun q => if q = a then some c else h q
theorem hset_eq (h : RH) (a : Nat) (c : RC) : hset h a c a = some c := if_pos rfl
theorem hset_ne (h : RH) {a q : Nat} (c : RC) (hq : q ≠ a) : hset h a c q = h q := if_neg hq
theorem RepH.one {G : GD} {h : RH} {H : Heap} {a : Nat} {c : RC} (hR : RepH G h H) (ha : h a = some c) : va_P G.2.1 dcl [(a, rc_e G.2.2.1 c)] H := by
  intro k q hk
  cases k with
  | zero => cases hk; exact (hR a c ha).2
  | succ k => simp at hk
theorem RepH.lt {G : GD} {h : RH} {H : Heap} {a : Nat} {c : RC} (hR : RepH G h H) (ha : h a = some c) : a < H.size := (hR a c ha).2.lt
theorem RepH.put {G : GD} {h : RH} {H H1 : Heap} {a : Nat} {c : RC} (hR : RepH G h H) (hb : G.2.2.2 ≤ a) (he : va_at G.2.1 dcl (a, rc_e G.2.2.1 c) H1) (oq : ∀ q : Nat, q ≠ a → H1[q]? = H[q]?) : RepH G (hset h a c) H1 := by
  intro q c1 hq
  by_cases hqa : q = a
  · subst hqa
    rw [hset_eq] at hq
    cases hq
    exact ⟨hb, he⟩
  · rw [hset_ne h c hqa] at hq
    exact ⟨(hR q c1 hq).1, (hR q c1 hq).2.kept (oq q hqa)⟩
theorem RepH.new {G : GD} {h : RH} {H H1 : Heap} {c : RC} (hR : RepH G h H) (hb : G.2.2.2 ≤ H.size) (he : va_at G.2.1 dcl (H.size, rc_e G.2.2.1 c) H1) (oq : ∀ q : Nat, q < H.size → H1[q]? = H[q]?) : RepH G (hset h H.size c) H1 := by
  intro q c1 hq
  by_cases hqa : q = H.size
  · subst hqa
    rw [hset_eq] at hq
    cases hq
    exact ⟨hb, he⟩
  · rw [hset_ne h c hqa] at hq
    exact ⟨(hR q c1 hq).1, (hR q c1 hq).2.kept (oq q (hR.lt hq))⟩
/-! words of nest mates and casts -/
def nwWord : Cond → Bool
  | .fieldLinkNest .. => true
  | .methodLinkNest .. => true
  | .castable .. => true
  | _ => false
def NWs (U : State) : Prop := ∀ w : Cond, w ∈ lw_tbl → nwWord w = true → va_Nw w U
theorem NWs.warm {s U : State} (hW : s.WarmedH U.vm) (h : NWs s) : NWs U := by
  intro w hw hn
  have h1 := h w hw hn
  cases w <;> first | exact va_Nw.warmF hW h1 | exact va_Nw.warmM hW h1 | exact va_Nw.warmC hW h1 | exact absurd hn Bool.false_ne_true
theorem NWs.same {u U : State} (hv : u.vm = U.vm) (h : NWs u) : NWs U := by
  intro w hw hn
  have h1 := h w hw hn
  cases w <;> first | exact absurd hn Bool.false_ne_true | exact va_Nw.same rfl hv h1
theorem NWs.of {A : Array Value} {s : State} (h : ∀ w ∈ lw_tbl, w.before A s = true) : NWs s := by
  intro w hw hn
  have h1 := h w hw
  cases w <;> first | exact absurd hn Bool.false_ne_true | exact va_Nw.of rfl h1
/-- Throwable's two statics: a reference or null, nobody asks which -/
def ZT (b : Nat) (U : State) (H : Heap) : Prop := va_Zq "java/lang/Throwable" "UNASSIGNED_STACK" "[Ljava/lang/StackTraceElement;" (fun q => b ≤ q) U H ∧ va_Zq "java/lang/Throwable" "SUPPRESSED_SENTINEL" "Ljava/util/List;" (fun q => b ≤ q) U H
def KG (G : GD) (U : State) : Prop := va_K G.2.1 dcl (gtys G) U ∧ NWs U ∧ va_AO "java/lang/Object" U ∧ va_AO "PrayerMatsFace$Quarter" U ∧ ZT G.2.2.2 U U.heap
theorem KG.warm {G : GD} {s U : State} {H : Heap} {locs : List Loc} (hK : KG G s) (hS : va_S (fun q => G.2.2.2 ≤ q) s.heap H locs) (hU : U.heap = H) (hW : s.WarmedH U.vm) : KG G U := by
  obtain ⟨k1, k2, k3, k4, k5, k6⟩ := hK
  refine ⟨va_K.moved hW.alike k1, k2.warm hW, k3.moved hW.alike, k4.moved hW.alike, ?_, ?_⟩
  · exact va_Zq.moved hW.alike (k5.kept (fun a h1 h2 => by rw [hU]; exact hS.2.1 a h1 h2))
  · exact va_Zq.moved hW.alike (k6.kept (fun a h1 h2 => by rw [hU]; exact hS.2.1 a h1 h2))
theorem KG.calling {G : GD} {U : State} {g : JFrame} {mk : MethodId} {a : Array Value} (hK : KG G U) : KG G (U.calling g mk a) := by
  obtain ⟨k1, k2, k3, k4, k5, k6⟩ := hK
  exact ⟨va_K.moved (u := U) (U := U.calling g mk a) (Vm.Alike.refl U.vm) k1, NWs.same (u := U) (U := U.calling g mk a) rfl k2, va_AO.moved (u := U) (U := U.calling g mk a) (Vm.Alike.refl U.vm) k3, va_AO.moved (u := U) (U := U.calling g mk a) (Vm.Alike.refl U.vm) k4, va_Zq.moved (u := U) (U := U.calling g mk a) (Vm.Alike.refl U.vm) k5, va_Zq.moved (u := U) (U := U.calling g mk a) (Vm.Alike.refl U.vm) k6⟩
/-! locals by a list -/
def LV (ls : Array Slot) (nL : Nat) (lo : List (Option Value)) : Prop := ls.size = nL ∧ lv_wf ls ∧ ∀ (i : Nat) (v : Value), lo[i]? = some (some v) → ls[i]? = some (.val v)
def lo_al (lo : List (Option Value)) : List (Nat × Value) := lo.zipIdx.filterMap (fun q => q.1.map (fun v => (q.2, v)))
theorem lo_al_iff {lo : List (Option Value)} {i : Nat} {v : Value} : (i, v) ∈ lo_al lo ↔ lo[i]? = some (some v) := by
  unfold lo_al
  rw [List.mem_filterMap]
  constructor
  · rintro ⟨⟨o, j⟩, h1, h2⟩
    have h3 := List.mem_zipIdx_iff_getElem?.mp h1
    cases o with
    | none => simp at h2
    | some w =>
      simp at h2
      obtain ⟨rfl, rfl⟩ := h2
      exact h3
  · intro h
    exact ⟨(some v, i), List.mem_zipIdx_iff_getElem?.mpr h, rfl⟩
theorem LV.has {ls : Array Slot} {nL : Nat} {lo : List (Option Value)} (h : LV ls nL lo) : lv_has ls nL (lo_al lo) := ⟨h.1, h.2.1, fun q hq => h.2.2 q.1 q.2 (lo_al_iff.mp hq)⟩
def lc2 : Option Value → Bool
  | some (.long _) => true
  | some (.double _) => true
  | _ => false
theorem lc2_ok {o : Option Value} (h : lc2 o = false) {w : Value} (e : o = some w) : w.category ≠ 2 := by
  subst e
  cases w <;> simp_all [lc2, Value.category]
theorem LV.st1 {ls' : Array Slot} {nL i : Nat} {v : Value} {lo : List (Option Value)} (h : lv_has ls' nL ((i, v) :: (lo_al lo).filter (fun q => !(q.1 == i) && !(q.1 + 1 == i && q.2.category == 2)))) (hp : ∀ (j : Nat) (w : Value), j + 1 = i → lo[j]? = some (some w) → w.category ≠ 2) : LV ls' nL (lo.set i (some v)) := by
  refine ⟨h.1, h.2.1, fun j w hj => ?_⟩
  by_cases hji : j = i
  · subst hji
    rw [List.getElem?_set] at hj
    simp at hj
    have hw : w = v := by
      by_cases hl : j < lo.length
      · simp [hl] at hj; exact hj.symm
      · simp [hl] at hj
    rw [hw]
    exact h.2.2 (j, v) List.mem_cons_self
  · rw [List.getElem?_set_ne (Ne.symm hji)] at hj
    refine h.2.2 (j, w) (List.mem_cons_of_mem _ (List.mem_filter.mpr ⟨lo_al_iff.mpr hj, ?_⟩))
    have h2 : ¬ (j + 1 = i ∧ w.category = 2) := fun q => hp j w q.1 hj q.2
    simp only [Bool.and_eq_true, Bool.not_eq_true', beq_eq_false_iff_ne, ne_eq, Bool.and_eq_false_iff]
    refine ⟨hji, ?_⟩
    by_cases h3 : j + 1 = i
    · exact Or.inr (fun q => h2 ⟨h3, q⟩)
    · exact Or.inl h3
theorem LV.st2 {ls' : Array Slot} {nL i : Nat} {v : Value} {lo : List (Option Value)} (h : lv_has ls' nL ((i, v) :: (lo_al lo).filter (fun q => !(q.1 == i) && (!(q.1 == i + 1) && !(q.1 + 1 == i && q.2.category == 2))))) (hp : ∀ (j : Nat) (w : Value), j + 1 = i → lo[j]? = some (some w) → w.category ≠ 2) : LV ls' nL ((lo.set i (some v)).set (i + 1) none) := by
  refine ⟨h.1, h.2.1, fun j w hj => ?_⟩
  by_cases hj1 : j = i + 1
  · subst hj1
    rw [List.getElem?_set] at hj
    simp at hj
  · rw [List.getElem?_set_ne (Ne.symm hj1)] at hj
    by_cases hji : j = i
    · subst hji
      rw [List.getElem?_set] at hj
      simp at hj
      have hw : w = v := by
        by_cases hl : j < lo.length
        · simp [hl] at hj; exact hj.symm
        · simp [hl] at hj
      rw [hw]
      exact h.2.2 (j, v) List.mem_cons_self
    · rw [List.getElem?_set_ne (Ne.symm hji)] at hj
      refine h.2.2 (j, w) (List.mem_cons_of_mem _ (List.mem_filter.mpr ⟨lo_al_iff.mpr hj, ?_⟩))
      have h2 : ¬ (j + 1 = i ∧ w.category = 2) := fun q => hp j w q.1 hj q.2
      simp only [Bool.and_eq_true, Bool.not_eq_true', beq_eq_false_iff_ne, ne_eq, Bool.and_eq_false_iff]
      refine ⟨hji, hj1, ?_⟩
      by_cases h3 : j + 1 = i
      · exact Or.inr (fun q => h2 ⟨h3, q⟩)
      · exact Or.inl h3
def elo : List Value → List (Option Value)
  | [] => []
  | v :: vs => if v.category = 2 then some v :: none :: elo vs else some v :: elo vs
theorem elo_mem : ∀ (vs : List Value) (k i : Nat) (v : Value), (elo vs)[i]? = some (some v) → (k + i, v) ∈ lv_args k vs
  | [], k, i, v, h => by simp [elo] at h
  | w :: vs, k, i, v, h => by
    unfold elo at h
    unfold lv_args
    by_cases hc : w.category = 2
    · rw [if_pos hc] at h
      rw [if_pos hc]
      match i, h with
      | 0, h => simp at h; subst h; exact List.mem_cons_self
      | 1, h => simp at h
      | i + 2, h =>
        have := elo_mem vs (k + 2) i v (by simpa using h)
        rw [show k + (i + 2) = k + 2 + i by omega]
        exact List.mem_cons_of_mem _ this
    · rw [if_neg hc] at h
      rw [if_neg hc]
      match i, h with
      | 0, h => simp at h; subst h; exact List.mem_cons_self
      | i + 1, h =>
        have := elo_mem vs (k + 1) i v (by simpa using h)
        rw [show k + (i + 1) = k + 1 + i by omega]
        exact List.mem_cons_of_mem _ this
theorem LV.entry {av : List Value} {nL k : Nat} (hlen : (lg_sl av).length ≤ nL) : LV ((lg_sl av ++ List.replicate (nL - (lg_sl av).length) Slot.unset).toArray) nL (elo av ++ List.replicate k none) := by
  obtain ⟨h1, h2, h3⟩ := lv_entry av hlen
  refine ⟨h1, h2, fun i v hi => ?_⟩
  have h4 : (elo av)[i]? = some (some v) := by
    by_cases hl : i < (elo av).length
    · rw [List.getElem?_append_left hl] at hi; exact hi
    · rw [List.getElem?_append_right (by omega)] at hi
      have := List.eq_of_mem_replicate (List.mem_of_getElem? hi)
      cases this
  have h5 := elo_mem av 0 i v h4
  rw [Nat.zero_add] at h5
  exact h3 _ h5
/-! the judgement -/
def J (G : GD) (z : MZ) (cc : ByteArray) (nL : Nat) (own : String) (lvl mcT msT cells slots pc : Nat) (lo : List (Option Value)) (stk : List Value) (n : Nat) (h : RH) : Prop :=
  match z with
  | (p, e, R, s, m, args, below, meth, c, Q) =>
    CallFix p m c cc nL s args lw_all own → KG G s → (∀ q, s.heap.size ≤ q → G.2.2.2 ≤ q) → meth.locks = false → (lvl ≤ R.frames ∧ 40 * lvl ≤ R.locals ∧ R.cells = mcT ∧ R.slots = msT) →
    ∀ (ls : Array Slot) (H : Heap) (locs : List Loc), LV ls nL lo → H.size = n → RepH G h H → va_S (fun q => G.2.2.2 ≤ q) s.heap H locs →
    W p G.1 e R s m args below meth c H locs cells slots Q (F0 m pc ls stk)
/-- what a method says of its end -/
def QP (G : GD) (Post : Option Value → Nat → RH → Prop) : Array Value → State → Outcome → State → Prop := fun _ st oc t =>
  (∃ (r : Option Value) (h' : RH), oc = .returned r ∧ Post r t.heap.size h' ∧ RepH G h' t.heap) ∧ va_F (fun q => G.2.2.2 ≤ q) st t
def ZQ (G : GD) (z : MZ) (ret : Option FieldType) (mcT msT : Nat) (Post : Option Value → Nat → RH → Prop) : Prop :=
  match z with
  | (p, e, R, s, m, args, below, meth, c, Q) =>
    meth.sig.returnType = ret ∧ ∀ (H : Heap) (locs : List Loc) (cells slots : Nat) (g : JFrame), W p G.1 e R s m args below meth c H locs cells slots (MQ below (QP G Post) args s mcT msT (fun q => G.2.2.2 ≤ q)) g → W p G.1 e R s m args below meth c H locs cells slots Q g
def zname (z : MZ) : String := z.2.2.2.2.2.2.2.1.name
/-- a contract: from the abstract heap h (n cells in all) with these arguments the method returns, and Post holds of its answer, the number of cells and the heap -/
def Ct (G : GD) (y : MethodName) (cb : ByteArray) (maxL : Nat) (ret : Option FieldType) (lvl mc ms : Nat) (av : List Value) (n : Nat) (h : RH) (Post : Option Value → Nat → RH → Prop) : Prop :=
  Met G.1 y (ws_ y cb maxL ret) ({ frames := lvl, cells := mc, slots := ms, locals := 40 * lvl } : Room) (va_Pc av (fun U => U.heap.size = n ∧ RepH G h U.heap ∧ KG G U ∧ G.2.2.2 ≤ n)) (QP G Post) mc ms (fun q => G.2.2.2 ≤ q)
/-- a contract of a method that makes nothing: its answer and heap -/
abbrev CtE (G : GD) (y : MethodName) (cb : ByteArray) (maxL : Nat) (ret : Option FieldType) (lvl : Nat) (av : List Value) (n : Nat) (h : RH) (r0 : Option Value) (h0 : RH) : Prop :=
  Ct G y cb maxL ret lvl 0 0 av n h (fun r n' h' => r = r0 ∧ n' = n ∧ h' = h0)
theorem Ct.blind {G : GD} {av : List Value} {n : Nat} {h : RH} : FrameBlind (va_Pc av (fun U => U.heap.size = n ∧ RepH G h U.heap ∧ KG G U ∧ G.2.2.2 ≤ n)) := by
  intro a U g mk q
  obtain ⟨q0, q1, q2, q3, q4⟩ := q
  exact ⟨q0, q1, q2, q3.calling, q4⟩
theorem Ct.intro {G : GD} {y : MethodName} {cb : ByteArray} {maxL : Nat} {ret : Option FieldType} {lvl mc ms : Nat} {av : List Value} {n : Nat} {h : RH} {Post : Option Value → Nat → RH → Prop} {k : Nat} (lo0 : List (Option Value)) (hy : plainName y.cls = true) (hlen : (lg_sl av).length ≤ maxL) (hlo : elo av ++ List.replicate k none = lo0)
    (body : ∀ z : MZ, ZQ G z ret mc ms Post → zname z = y.name → J G z cb maxL y.cls lvl mc ms 0 0 0 lo0 [] n h) : Ct G y cb maxL ret lvl mc ms av n h Post := by
  refine Met.ofW (cc := cb) (maxL := maxL) (ret := ret) hy rfl ?_
  intro p e s m args below meth c s₁ B hml hv
  obtain ⟨rfl, hn, hP, hK, hb⟩ := hv
  have hts := atoms_spec (ws := ws_ y cb maxL ret) B.pre
  have hts : ∀ w ∈ lw_all, w.before _ s = true := fun w h => hts w (List.mem_cons_of_mem _ h)
  have hown : s.vm.findClass y.cls = some m.cls := findClass_of_methodNamed B.named
  have hl := LV.entry (av := av) (nL := maxL) (k := k) hlen
  rw [hlo] at hl
  rw [lg_entry_eq]
  subst hn
  exact body (p, e, (headSpec (ws_ y cb maxL ret) ({ frames := lvl, cells := mc, slots := ms, locals := 40 * lvl } : Room)).room, s, m, av.toArray, below, meth, c, MQ below (QP G Post) av.toArray s mc ms (fun q => G.2.2.2 ≤ q))
    ⟨B.returns, fun _ _ _ _ _ k => k⟩ (name_of_methodNamed B.named B.method).1
    ⟨B.exec, B.bytes, hml, hown, hts⟩ hK (fun q hq => Nat.le_trans hb hq) B.notSynchronized ⟨Nat.le_refl _, Nat.le_refl _, rfl, rfl⟩ _ s.heap [] hl rfl hP va_S.rf
section JR
variable {G : GD} {z : MZ} {cc : ByteArray} {nL : Nat} {own : String} {lvl mcT msT cells slots pc q n : Nat} {lo : List (Option Value)} {stk : List Value} {h : RH}

theorem r_iadd {x y : Int32} (d : decode cc pc = .ok (.iadd, 1)) (hq : pc + 1 = q) (k : J G z cc nL own lvl mcT msT cells slots q lo (.int (x + y) :: stk) n h) : J G z cc nL own lvl mcT msT cells slots pc lo (.int y :: .int x :: stk) n h := by
  obtain ⟨p, e, R, s, m, args, below, meth, c, Q⟩ := z
  subst hq
  intro S K hA hL hR ls H locs hl hn hP hS
  exact lv_iadd S.1 S.2.1 d (k S K hA hL hR ls H locs hl hn hP hS)
theorem r_isub {x y : Int32} (d : decode cc pc = .ok (.isub, 1)) (hq : pc + 1 = q) (k : J G z cc nL own lvl mcT msT cells slots q lo (.int (x - y) :: stk) n h) : J G z cc nL own lvl mcT msT cells slots pc lo (.int y :: .int x :: stk) n h := by
  obtain ⟨p, e, R, s, m, args, below, meth, c, Q⟩ := z
  subst hq
  intro S K hA hL hR ls H locs hl hn hP hS
  exact lv_isub S.1 S.2.1 d (k S K hA hL hR ls H locs hl hn hP hS)
theorem r_imul {x y : Int32} (d : decode cc pc = .ok (.imul, 1)) (hq : pc + 1 = q) (k : J G z cc nL own lvl mcT msT cells slots q lo (.int (x * y) :: stk) n h) : J G z cc nL own lvl mcT msT cells slots pc lo (.int y :: .int x :: stk) n h := by
  obtain ⟨p, e, R, s, m, args, below, meth, c, Q⟩ := z
  subst hq
  intro S K hA hL hR ls H locs hl hn hP hS
  exact lv_imul S.1 S.2.1 d (k S K hA hL hR ls H locs hl hn hP hS)
theorem r_iand {x y : Int32} (d : decode cc pc = .ok (.iand, 1)) (hq : pc + 1 = q) (k : J G z cc nL own lvl mcT msT cells slots q lo (.int (x &&& y) :: stk) n h) : J G z cc nL own lvl mcT msT cells slots pc lo (.int y :: .int x :: stk) n h := by
  obtain ⟨p, e, R, s, m, args, below, meth, c, Q⟩ := z
  subst hq
  intro S K hA hL hR ls H locs hl hn hP hS
  exact lv_iand S.1 S.2.1 d (k S K hA hL hR ls H locs hl hn hP hS)
theorem r_ior {x y : Int32} (d : decode cc pc = .ok (.ior, 1)) (hq : pc + 1 = q) (k : J G z cc nL own lvl mcT msT cells slots q lo (.int (x ||| y) :: stk) n h) : J G z cc nL own lvl mcT msT cells slots pc lo (.int y :: .int x :: stk) n h := by
  obtain ⟨p, e, R, s, m, args, below, meth, c, Q⟩ := z
  subst hq
  intro S K hA hL hR ls H locs hl hn hP hS
  exact lv_ior S.1 S.2.1 d (k S K hA hL hR ls H locs hl hn hP hS)
theorem r_ixor {x y : Int32} (d : decode cc pc = .ok (.ixor, 1)) (hq : pc + 1 = q) (k : J G z cc nL own lvl mcT msT cells slots q lo (.int (x ^^^ y) :: stk) n h) : J G z cc nL own lvl mcT msT cells slots pc lo (.int y :: .int x :: stk) n h := by
  obtain ⟨p, e, R, s, m, args, below, meth, c, Q⟩ := z
  subst hq
  intro S K hA hL hR ls H locs hl hn hP hS
  exact lv_ixor S.1 S.2.1 d (k S K hA hL hR ls H locs hl hn hP hS)
theorem r_ishl {x y : Int32} (d : decode cc pc = .ok (.ishl, 1)) (hq : pc + 1 = q) (k : J G z cc nL own lvl mcT msT cells slots q lo (.int (x <<< (y &&& 31)) :: stk) n h) : J G z cc nL own lvl mcT msT cells slots pc lo (.int y :: .int x :: stk) n h := by
  obtain ⟨p, e, R, s, m, args, below, meth, c, Q⟩ := z
  subst hq
  intro S K hA hL hR ls H locs hl hn hP hS
  exact lv_ishl S.1 S.2.1 d (k S K hA hL hR ls H locs hl hn hP hS)
theorem r_ishr {x y : Int32} (d : decode cc pc = .ok (.ishr, 1)) (hq : pc + 1 = q) (k : J G z cc nL own lvl mcT msT cells slots q lo (.int (x >>> (y &&& 31)) :: stk) n h) : J G z cc nL own lvl mcT msT cells slots pc lo (.int y :: .int x :: stk) n h := by
  obtain ⟨p, e, R, s, m, args, below, meth, c, Q⟩ := z
  subst hq
  intro S K hA hL hR ls H locs hl hn hP hS
  exact lv_ishr S.1 S.2.1 d (k S K hA hL hR ls H locs hl hn hP hS)
theorem r_ladd {x y : Int64} (d : decode cc pc = .ok (.ladd, 1)) (hq : pc + 1 = q) (k : J G z cc nL own lvl mcT msT cells slots q lo (.long (x + y) :: stk) n h) : J G z cc nL own lvl mcT msT cells slots pc lo (.long y :: .long x :: stk) n h := by
  obtain ⟨p, e, R, s, m, args, below, meth, c, Q⟩ := z
  subst hq
  intro S K hA hL hR ls H locs hl hn hP hS
  exact lv_ladd S.1 S.2.1 d (k S K hA hL hR ls H locs hl hn hP hS)
theorem r_lsub {x y : Int64} (d : decode cc pc = .ok (.lsub, 1)) (hq : pc + 1 = q) (k : J G z cc nL own lvl mcT msT cells slots q lo (.long (x - y) :: stk) n h) : J G z cc nL own lvl mcT msT cells slots pc lo (.long y :: .long x :: stk) n h := by
  obtain ⟨p, e, R, s, m, args, below, meth, c, Q⟩ := z
  subst hq
  intro S K hA hL hR ls H locs hl hn hP hS
  exact lv_lsub S.1 S.2.1 d (k S K hA hL hR ls H locs hl hn hP hS)
theorem r_lmul {x y : Int64} (d : decode cc pc = .ok (.lmul, 1)) (hq : pc + 1 = q) (k : J G z cc nL own lvl mcT msT cells slots q lo (.long (x * y) :: stk) n h) : J G z cc nL own lvl mcT msT cells slots pc lo (.long y :: .long x :: stk) n h := by
  obtain ⟨p, e, R, s, m, args, below, meth, c, Q⟩ := z
  subst hq
  intro S K hA hL hR ls H locs hl hn hP hS
  exact lv_lmul S.1 S.2.1 d (k S K hA hL hR ls H locs hl hn hP hS)
theorem r_idiv {x y : Int32} (hne : ¬ y = 0) (d : decode cc pc = .ok (.idiv, 1)) (hq : pc + 1 = q) (k : J G z cc nL own lvl mcT msT cells slots q lo (.int (x / y) :: stk) n h) : J G z cc nL own lvl mcT msT cells slots pc lo (.int y :: .int x :: stk) n h := by
  obtain ⟨p, e, R, s, m, args, below, meth, c, Q⟩ := z
  subst hq
  intro S K hA hL hR ls H locs hl hn hP hS
  exact lv_idiv S.1 S.2.1 d hne (k S K hA hL hR ls H locs hl hn hP hS)
theorem r_irem {x y : Int32} (hne : ¬ y = 0) (d : decode cc pc = .ok (.irem, 1)) (hq : pc + 1 = q) (k : J G z cc nL own lvl mcT msT cells slots q lo (.int (x - x / y * y) :: stk) n h) : J G z cc nL own lvl mcT msT cells slots pc lo (.int y :: .int x :: stk) n h := by
  obtain ⟨p, e, R, s, m, args, below, meth, c, Q⟩ := z
  subst hq
  intro S K hA hL hR ls H locs hl hn hP hS
  exact lv_irem S.1 S.2.1 d hne (k S K hA hL hR ls H locs hl hn hP hS)
theorem r_ldiv {x y : Int64} (hne : ¬ y = 0) (d : decode cc pc = .ok (.ldiv, 1)) (hq : pc + 1 = q) (k : J G z cc nL own lvl mcT msT cells slots q lo (.long (x / y) :: stk) n h) : J G z cc nL own lvl mcT msT cells slots pc lo (.long y :: .long x :: stk) n h := by
  obtain ⟨p, e, R, s, m, args, below, meth, c, Q⟩ := z
  subst hq
  intro S K hA hL hR ls H locs hl hn hP hS
  exact lv_ldiv S.1 S.2.1 d hne (k S K hA hL hR ls H locs hl hn hP hS)
theorem r_lrem {x y : Int64} (hne : ¬ y = 0) (d : decode cc pc = .ok (.lrem, 1)) (hq : pc + 1 = q) (k : J G z cc nL own lvl mcT msT cells slots q lo (.long (x - x / y * y) :: stk) n h) : J G z cc nL own lvl mcT msT cells slots pc lo (.long y :: .long x :: stk) n h := by
  obtain ⟨p, e, R, s, m, args, below, meth, c, Q⟩ := z
  subst hq
  intro S K hA hL hR ls H locs hl hn hP hS
  exact lv_lrem S.1 S.2.1 d hne (k S K hA hL hR ls H locs hl hn hP hS)
theorem r_ineg {x : Int32} (d : decode cc pc = .ok (.ineg, 1)) (hq : pc + 1 = q) (k : J G z cc nL own lvl mcT msT cells slots q lo (.int (-x) :: stk) n h) : J G z cc nL own lvl mcT msT cells slots pc lo (.int x :: stk) n h := by
  obtain ⟨p, e, R, s, m, args, below, meth, c, Q⟩ := z
  subst hq
  intro S K hA hL hR ls H locs hl hn hP hS
  exact lv_ineg S.1 S.2.1 d (k S K hA hL hR ls H locs hl hn hP hS)
theorem r_i2l {x : Int32} (d : decode cc pc = .ok (.i2l, 1)) (hq : pc + 1 = q) (k : J G z cc nL own lvl mcT msT cells slots q lo (.long x.toInt64 :: stk) n h) : J G z cc nL own lvl mcT msT cells slots pc lo (.int x :: stk) n h := by
  obtain ⟨p, e, R, s, m, args, below, meth, c, Q⟩ := z
  subst hq
  intro S K hA hL hR ls H locs hl hn hP hS
  exact lv_i2l S.1 S.2.1 d rfl (k S K hA hL hR ls H locs hl hn hP hS)
theorem r_lcmp {x y : Int64} (d : decode cc pc = .ok (.lcmp, 1)) (hq : pc + 1 = q) (k : J G z cc nL own lvl mcT msT cells slots q lo (.int (lg_cmp x y) :: stk) n h) : J G z cc nL own lvl mcT msT cells slots pc lo (.long y :: .long x :: stk) n h := by
  obtain ⟨p, e, R, s, m, args, below, meth, c, Q⟩ := z
  subst hq
  intro S K hA hL hR ls H locs hl hn hP hS
  exact W.lcmp S.1 S.2.1 d (k S K hA hL hR ls H locs hl hn hP hS)
theorem r_iconst {i : Int} (v : Int32) (hv : Int32.ofInt i = v) (d : decode cc pc = .ok (.iconst i, 1)) (hq : pc + 1 = q) (k : J G z cc nL own lvl mcT msT cells slots q lo (.int v :: stk) n h) : J G z cc nL own lvl mcT msT cells slots pc lo (stk) n h := by
  obtain ⟨p, e, R, s, m, args, below, meth, c, Q⟩ := z
  subst hq
  intro S K hA hL hR ls H locs hl hn hP hS
  exact lv_iconst S.1 S.2.1 d hv (k S K hA hL hR ls H locs hl hn hP hS)
theorem r_bipush {i : Int} (v : Int32) (hv : (Int8.ofInt i).toInt32 = v) (d : decode cc pc = .ok (.bipush i, 2)) (hq : pc + 2 = q) (k : J G z cc nL own lvl mcT msT cells slots q lo (.int v :: stk) n h) : J G z cc nL own lvl mcT msT cells slots pc lo (stk) n h := by
  obtain ⟨p, e, R, s, m, args, below, meth, c, Q⟩ := z
  subst hq
  intro S K hA hL hR ls H locs hl hn hP hS
  exact lv_bipush S.1 S.2.1 d hv (k S K hA hL hR ls H locs hl hn hP hS)
theorem r_sipush {i : Int} (v : Int32) (hv : (Int16.ofInt i).toInt32 = v) (d : decode cc pc = .ok (.sipush i, 3)) (hq : pc + 3 = q) (k : J G z cc nL own lvl mcT msT cells slots q lo (.int v :: stk) n h) : J G z cc nL own lvl mcT msT cells slots pc lo (stk) n h := by
  obtain ⟨p, e, R, s, m, args, below, meth, c, Q⟩ := z
  subst hq
  intro S K hA hL hR ls H locs hl hn hP hS
  exact lv_sipush S.1 S.2.1 d hv (k S K hA hL hR ls H locs hl hn hP hS)
theorem r_lconst {i : Fin 2} (v : Int64) (hv : Int64.ofNat (i : Nat) = v) (d : decode cc pc = .ok (.lconst i, 1)) (hq : pc + 1 = q) (k : J G z cc nL own lvl mcT msT cells slots q lo (.long v :: stk) n h) : J G z cc nL own lvl mcT msT cells slots pc lo (stk) n h := by
  obtain ⟨p, e, R, s, m, args, below, meth, c, Q⟩ := z
  subst hq
  intro S K hA hL hR ls H locs hl hn hP hS
  exact lv_lconst S.1 S.2.1 d hv (k S K hA hL hR ls H locs hl hn hP hS)
theorem r_ldc {i : Nat} {v : Int32} (hw : Cond.constant own i v ∈ lw_all) (d : decode cc pc = .ok (.ldc i, 2)) (hq : pc + 2 = q) (k : J G z cc nL own lvl mcT msT cells slots q lo (.int v :: stk) n h) : J G z cc nL own lvl mcT msT cells slots pc lo (stk) n h := by
  obtain ⟨p, e, R, s, m, args, below, meth, c, Q⟩ := z
  subst hq
  intro S K hA hL hR ls H locs hl hn hP hS
  exact lv_ldc S.1 S.2.1 S.2.2.2.1 (S.2.2.2.2 _ hw) d (k S K hA hL hR ls H locs hl hn hP hS)
theorem r_ldcw {i : Nat} {v : Int32} (hw : Cond.constant own i v ∈ lw_all) (d : decode cc pc = .ok (.ldc_w i, 3)) (hq : pc + 3 = q) (k : J G z cc nL own lvl mcT msT cells slots q lo (.int v :: stk) n h) : J G z cc nL own lvl mcT msT cells slots pc lo (stk) n h := by
  obtain ⟨p, e, R, s, m, args, below, meth, c, Q⟩ := z
  subst hq
  intro S K hA hL hR ls H locs hl hn hP hS
  exact lv_ldcw S.1 S.2.1 S.2.2.2.1 (S.2.2.2.2 _ hw) d (k S K hA hL hR ls H locs hl hn hP hS)
theorem r_ldc2 {i : Nat} {v : Int64} (hw : Cond.constantLong own i v ∈ lw_all) (d : decode cc pc = .ok (.ldc2_w i, 3)) (hq : pc + 3 = q) (k : J G z cc nL own lvl mcT msT cells slots q lo (.long v :: stk) n h) : J G z cc nL own lvl mcT msT cells slots pc lo (stk) n h := by
  obtain ⟨p, e, R, s, m, args, below, meth, c, Q⟩ := z
  subst hq
  intro S K hA hL hR ls H locs hl hn hP hS
  exact lv_ldc2 S.1 S.2.1 S.2.2.2.1 (S.2.2.2.2 _ hw) d (k S K hA hL hR ls H locs hl hn hP hS)
theorem r_null  (d : decode cc pc = .ok (.aconst_null, 1)) (hq : pc + 1 = q) (k : J G z cc nL own lvl mcT msT cells slots q lo (.null :: stk) n h) : J G z cc nL own lvl mcT msT cells slots pc lo (stk) n h := by
  obtain ⟨p, e, R, s, m, args, below, meth, c, Q⟩ := z
  subst hq
  intro S K hA hL hR ls H locs hl hn hP hS
  exact lv_null S.1 S.2.1 d (k S K hA hL hR ls H locs hl hn hP hS)
theorem r_dup {v : Value} (hv : v.category = 1) (d : decode cc pc = .ok (.dup, 1)) (hq : pc + 1 = q) (k : J G z cc nL own lvl mcT msT cells slots q lo (v :: v :: stk) n h) : J G z cc nL own lvl mcT msT cells slots pc lo (v :: stk) n h := by
  obtain ⟨p, e, R, s, m, args, below, meth, c, Q⟩ := z
  subst hq
  intro S K hA hL hR ls H locs hl hn hP hS
  exact lv_dup S.1 S.2.1 d hv (k S K hA hL hR ls H locs hl hn hP hS)
theorem r_pop {v : Value} (hv : v.category = 1) (d : decode cc pc = .ok (.pop, 1)) (hq : pc + 1 = q) (k : J G z cc nL own lvl mcT msT cells slots q lo (stk) n h) : J G z cc nL own lvl mcT msT cells slots pc lo (v :: stk) n h := by
  obtain ⟨p, e, R, s, m, args, below, meth, c, Q⟩ := z
  subst hq
  intro S K hA hL hR ls H locs hl hn hP hS
  exact lv_pop S.1 S.2.1 d hv (k S K hA hL hR ls H locs hl hn hP hS)
theorem r_dup_x1 {v w : Value} (hv : v.category = 1) (hw : w.category = 1) (d : decode cc pc = .ok (.dup_x1, 1)) (hq : pc + 1 = q) (k : J G z cc nL own lvl mcT msT cells slots q lo (v :: w :: v :: stk) n h) : J G z cc nL own lvl mcT msT cells slots pc lo (v :: w :: stk) n h := by
  obtain ⟨p, e, R, s, m, args, below, meth, c, Q⟩ := z
  subst hq
  intro S K hA hL hR ls H locs hl hn hP hS
  exact lv_dup_x1 S.1 S.2.1 d hv hw (k S K hA hL hR ls H locs hl hn hP hS)
theorem r_dup2 {v w : Value} (hv : v.category = 1) (hw : w.category = 1) (d : decode cc pc = .ok (.dup2, 1)) (hq : pc + 1 = q) (k : J G z cc nL own lvl mcT msT cells slots q lo (v :: w :: v :: w :: stk) n h) : J G z cc nL own lvl mcT msT cells slots pc lo (v :: w :: stk) n h := by
  obtain ⟨p, e, R, s, m, args, below, meth, c, Q⟩ := z
  subst hq
  intro S K hA hL hR ls H locs hl hn hP hS
  exact lv_dup2_11 S.1 S.2.1 d hv hw (k S K hA hL hR ls H locs hl hn hP hS)
theorem r_goto {off : Int} (d : decode cc pc = .ok (.goto off, 3)) (hq : (pc : Int) + off = (q : Int)) (k : J G z cc nL own lvl mcT msT cells slots q lo stk n h) : J G z cc nL own lvl mcT msT cells slots pc lo stk n h := by
  obtain ⟨p, e, R, s, m, args, below, meth, c, Q⟩ := z
  intro S K hA hL hR ls H locs hl hn hP hS
  exact lv_goto S.1 S.2.1 d hq (k S K hA hL hR ls H locs hl hn hP hS)
theorem r_if_eq {x : Int32} {off : Int} {tgt : Nat} (d : decode cc pc = .ok (.ifCond .eq off, 3)) (hq : pc + 3 = q) (ht : (pc : Int) + off = (tgt : Int)) (kt : x = 0 → J G z cc nL own lvl mcT msT cells slots tgt lo stk n h) (kf : ¬ x = 0 → J G z cc nL own lvl mcT msT cells slots q lo stk n h) : J G z cc nL own lvl mcT msT cells slots pc lo (.int x :: stk) n h := by
  obtain ⟨p, e, R, s, m, args, below, meth, c, Q⟩ := z
  subst hq
  intro S K hA hL hR ls H locs hl hn hP hS
  exact lv_if_eq S.1 S.2.1 d ht (fun g => kt g S K hA hL hR ls H locs hl hn hP hS) (fun g => kf g S K hA hL hR ls H locs hl hn hP hS)
theorem r_if_ne {x : Int32} {off : Int} {tgt : Nat} (d : decode cc pc = .ok (.ifCond .ne off, 3)) (hq : pc + 3 = q) (ht : (pc : Int) + off = (tgt : Int)) (kt : ¬ x = 0 → J G z cc nL own lvl mcT msT cells slots tgt lo stk n h) (kf : x = 0 → J G z cc nL own lvl mcT msT cells slots q lo stk n h) : J G z cc nL own lvl mcT msT cells slots pc lo (.int x :: stk) n h := by
  obtain ⟨p, e, R, s, m, args, below, meth, c, Q⟩ := z
  subst hq
  intro S K hA hL hR ls H locs hl hn hP hS
  exact lv_if_ne S.1 S.2.1 d ht (fun g => kt g S K hA hL hR ls H locs hl hn hP hS) (fun g => kf g S K hA hL hR ls H locs hl hn hP hS)
theorem r_if_lt {x : Int32} {off : Int} {tgt : Nat} (d : decode cc pc = .ok (.ifCond .lt off, 3)) (hq : pc + 3 = q) (ht : (pc : Int) + off = (tgt : Int)) (kt : x < 0 → J G z cc nL own lvl mcT msT cells slots tgt lo stk n h) (kf : ¬ x < 0 → J G z cc nL own lvl mcT msT cells slots q lo stk n h) : J G z cc nL own lvl mcT msT cells slots pc lo (.int x :: stk) n h := by
  obtain ⟨p, e, R, s, m, args, below, meth, c, Q⟩ := z
  subst hq
  intro S K hA hL hR ls H locs hl hn hP hS
  exact lv_if_lt S.1 S.2.1 d ht (fun g => kt g S K hA hL hR ls H locs hl hn hP hS) (fun g => kf g S K hA hL hR ls H locs hl hn hP hS)
theorem r_if_ge {x : Int32} {off : Int} {tgt : Nat} (d : decode cc pc = .ok (.ifCond .ge off, 3)) (hq : pc + 3 = q) (ht : (pc : Int) + off = (tgt : Int)) (kt : 0 ≤ x → J G z cc nL own lvl mcT msT cells slots tgt lo stk n h) (kf : ¬ 0 ≤ x → J G z cc nL own lvl mcT msT cells slots q lo stk n h) : J G z cc nL own lvl mcT msT cells slots pc lo (.int x :: stk) n h := by
  obtain ⟨p, e, R, s, m, args, below, meth, c, Q⟩ := z
  subst hq
  intro S K hA hL hR ls H locs hl hn hP hS
  exact lv_if_ge S.1 S.2.1 d ht (fun g => kt g S K hA hL hR ls H locs hl hn hP hS) (fun g => kf g S K hA hL hR ls H locs hl hn hP hS)
theorem r_if_gt {x : Int32} {off : Int} {tgt : Nat} (d : decode cc pc = .ok (.ifCond .gt off, 3)) (hq : pc + 3 = q) (ht : (pc : Int) + off = (tgt : Int)) (kt : 0 < x → J G z cc nL own lvl mcT msT cells slots tgt lo stk n h) (kf : ¬ 0 < x → J G z cc nL own lvl mcT msT cells slots q lo stk n h) : J G z cc nL own lvl mcT msT cells slots pc lo (.int x :: stk) n h := by
  obtain ⟨p, e, R, s, m, args, below, meth, c, Q⟩ := z
  subst hq
  intro S K hA hL hR ls H locs hl hn hP hS
  exact lv_if_gt S.1 S.2.1 d ht (fun g => kt g S K hA hL hR ls H locs hl hn hP hS) (fun g => kf g S K hA hL hR ls H locs hl hn hP hS)
theorem r_if_le {x : Int32} {off : Int} {tgt : Nat} (d : decode cc pc = .ok (.ifCond .le off, 3)) (hq : pc + 3 = q) (ht : (pc : Int) + off = (tgt : Int)) (kt : x ≤ 0 → J G z cc nL own lvl mcT msT cells slots tgt lo stk n h) (kf : ¬ x ≤ 0 → J G z cc nL own lvl mcT msT cells slots q lo stk n h) : J G z cc nL own lvl mcT msT cells slots pc lo (.int x :: stk) n h := by
  obtain ⟨p, e, R, s, m, args, below, meth, c, Q⟩ := z
  subst hq
  intro S K hA hL hR ls H locs hl hn hP hS
  exact lv_if_le S.1 S.2.1 d ht (fun g => kt g S K hA hL hR ls H locs hl hn hP hS) (fun g => kf g S K hA hL hR ls H locs hl hn hP hS)
theorem r_icmp_eq {x y : Int32} {off : Int} {tgt : Nat} (d : decode cc pc = .ok (.if_icmp .eq off, 3)) (hq : pc + 3 = q) (ht : (pc : Int) + off = (tgt : Int)) (kt : x = y → J G z cc nL own lvl mcT msT cells slots tgt lo stk n h) (kf : ¬ x = y → J G z cc nL own lvl mcT msT cells slots q lo stk n h) : J G z cc nL own lvl mcT msT cells slots pc lo (.int y :: .int x :: stk) n h := by
  obtain ⟨p, e, R, s, m, args, below, meth, c, Q⟩ := z
  subst hq
  intro S K hA hL hR ls H locs hl hn hP hS
  exact lv_icmp_eq S.1 S.2.1 d ht (fun g => kt g S K hA hL hR ls H locs hl hn hP hS) (fun g => kf g S K hA hL hR ls H locs hl hn hP hS)
theorem r_icmp_ne {x y : Int32} {off : Int} {tgt : Nat} (d : decode cc pc = .ok (.if_icmp .ne off, 3)) (hq : pc + 3 = q) (ht : (pc : Int) + off = (tgt : Int)) (kt : ¬ x = y → J G z cc nL own lvl mcT msT cells slots tgt lo stk n h) (kf : x = y → J G z cc nL own lvl mcT msT cells slots q lo stk n h) : J G z cc nL own lvl mcT msT cells slots pc lo (.int y :: .int x :: stk) n h := by
  obtain ⟨p, e, R, s, m, args, below, meth, c, Q⟩ := z
  subst hq
  intro S K hA hL hR ls H locs hl hn hP hS
  exact lv_icmp_ne S.1 S.2.1 d ht (fun g => kt g S K hA hL hR ls H locs hl hn hP hS) (fun g => kf g S K hA hL hR ls H locs hl hn hP hS)
theorem r_icmp_lt {x y : Int32} {off : Int} {tgt : Nat} (d : decode cc pc = .ok (.if_icmp .lt off, 3)) (hq : pc + 3 = q) (ht : (pc : Int) + off = (tgt : Int)) (kt : x < y → J G z cc nL own lvl mcT msT cells slots tgt lo stk n h) (kf : ¬ x < y → J G z cc nL own lvl mcT msT cells slots q lo stk n h) : J G z cc nL own lvl mcT msT cells slots pc lo (.int y :: .int x :: stk) n h := by
  obtain ⟨p, e, R, s, m, args, below, meth, c, Q⟩ := z
  subst hq
  intro S K hA hL hR ls H locs hl hn hP hS
  exact lv_icmp_lt S.1 S.2.1 d ht (fun g => kt g S K hA hL hR ls H locs hl hn hP hS) (fun g => kf g S K hA hL hR ls H locs hl hn hP hS)
theorem r_icmp_ge {x y : Int32} {off : Int} {tgt : Nat} (d : decode cc pc = .ok (.if_icmp .ge off, 3)) (hq : pc + 3 = q) (ht : (pc : Int) + off = (tgt : Int)) (kt : y ≤ x → J G z cc nL own lvl mcT msT cells slots tgt lo stk n h) (kf : ¬ y ≤ x → J G z cc nL own lvl mcT msT cells slots q lo stk n h) : J G z cc nL own lvl mcT msT cells slots pc lo (.int y :: .int x :: stk) n h := by
  obtain ⟨p, e, R, s, m, args, below, meth, c, Q⟩ := z
  subst hq
  intro S K hA hL hR ls H locs hl hn hP hS
  exact lv_icmp_ge S.1 S.2.1 d ht (fun g => kt g S K hA hL hR ls H locs hl hn hP hS) (fun g => kf g S K hA hL hR ls H locs hl hn hP hS)
theorem r_icmp_gt {x y : Int32} {off : Int} {tgt : Nat} (d : decode cc pc = .ok (.if_icmp .gt off, 3)) (hq : pc + 3 = q) (ht : (pc : Int) + off = (tgt : Int)) (kt : y < x → J G z cc nL own lvl mcT msT cells slots tgt lo stk n h) (kf : ¬ y < x → J G z cc nL own lvl mcT msT cells slots q lo stk n h) : J G z cc nL own lvl mcT msT cells slots pc lo (.int y :: .int x :: stk) n h := by
  obtain ⟨p, e, R, s, m, args, below, meth, c, Q⟩ := z
  subst hq
  intro S K hA hL hR ls H locs hl hn hP hS
  exact lv_icmp_gt S.1 S.2.1 d ht (fun g => kt g S K hA hL hR ls H locs hl hn hP hS) (fun g => kf g S K hA hL hR ls H locs hl hn hP hS)
theorem r_icmp_le {x y : Int32} {off : Int} {tgt : Nat} (d : decode cc pc = .ok (.if_icmp .le off, 3)) (hq : pc + 3 = q) (ht : (pc : Int) + off = (tgt : Int)) (kt : x ≤ y → J G z cc nL own lvl mcT msT cells slots tgt lo stk n h) (kf : ¬ x ≤ y → J G z cc nL own lvl mcT msT cells slots q lo stk n h) : J G z cc nL own lvl mcT msT cells slots pc lo (.int y :: .int x :: stk) n h := by
  obtain ⟨p, e, R, s, m, args, below, meth, c, Q⟩ := z
  subst hq
  intro S K hA hL hR ls H locs hl hn hP hS
  exact lv_icmp_le S.1 S.2.1 d ht (fun g => kt g S K hA hL hR ls H locs hl hn hP hS) (fun g => kf g S K hA hL hR ls H locs hl hn hP hS)
theorem r_tableIn {dflt lo9 hi : Int} {offs : Array Int} {len : Nat} {x : Int32} {off : Int} (d : decode cc pc = .ok (.tableswitch dflt lo9 hi offs, len)) (h1 : ¬ x.toInt < lo9) (h2 : ¬ hi < x.toInt) (ho : offs[(x.toInt - lo9).toNat]? = some off) (hq : (pc : Int) + off = (q : Int)) (k : J G z cc nL own lvl mcT msT cells slots q lo stk n h) : J G z cc nL own lvl mcT msT cells slots pc lo (.int x :: stk) n h := by
  obtain ⟨p, e, R, s, m, args, below, meth, c, Q⟩ := z
  intro S K hA hL hR ls H locs hl hn hP hS
  exact lv_tableIn S.1 S.2.1 d h1 h2 ho hq (k S K hA hL hR ls H locs hl hn hP hS)
theorem r_tableOut {dflt lo9 hi : Int} {offs : Array Int} {len : Nat} {x : Int32} (d : decode cc pc = .ok (.tableswitch dflt lo9 hi offs, len)) (h1 : x.toInt < lo9 ∨ hi < x.toInt) (hq : (pc : Int) + dflt = (q : Int)) (k : J G z cc nL own lvl mcT msT cells slots q lo stk n h) : J G z cc nL own lvl mcT msT cells slots pc lo (.int x :: stk) n h := by
  obtain ⟨p, e, R, s, m, args, below, meth, c, Q⟩ := z
  intro S K hA hL hR ls H locs hl hn hP hS
  exact lv_tableOut S.1 S.2.1 d h1 hq (k S K hA hL hR ls H locs hl hn hP hS)
theorem r_lookup {dflt : Int} {ps : Array (Int × Int)} {len : Nat} {x : Int32} {off : Int} (d : decode cc pc = .ok (.lookupswitch dflt ps, len)) (hp : (ps.toList.zip (ps.toList.drop 1)).all (fun (a, next) => a.1 < next.1) = true) (ho : Op.lookupswitch.offset ps.toList dflt x.toInt = off) (hq : (pc : Int) + off = (q : Int)) (k : J G z cc nL own lvl mcT msT cells slots q lo stk n h) : J G z cc nL own lvl mcT msT cells slots pc lo (.int x :: stk) n h := by
  obtain ⟨p, e, R, s, m, args, below, meth, c, Q⟩ := z
  intro S K hA hL hR ls H locs hl hn hP hS
  exact lv_lookup S.1 S.2.1 d hp ho hq (k S K hA hL hR ls H locs hl hn hP hS)
theorem g_iload_n {i : Fin 4} {x : Int32} (hv : lo[(i : Nat)]? = some (some (.int x))) (d : decode cc pc = .ok (.iload_n i, 1)) (hq : pc + 1 = q) (k : J G z cc nL own lvl mcT msT cells slots q lo (.int x :: stk) n h) : J G z cc nL own lvl mcT msT cells slots pc lo stk n h := by
  obtain ⟨p, e, R, s, m, args, below, meth, c, Q⟩ := z
  subst hq
  intro S K hA hL hR ls H locs hl hn hP hS
  exact lv_iload_n S.1 S.2.1 d rfl (hl.2.2 _ _ hv) (k S K hA hL hR ls H locs hl hn hP hS)
theorem g_iload {i : Nat} {x : Int32} (hv : lo[i]? = some (some (.int x))) (d : decode cc pc = .ok (.iload i, 2)) (hq : pc + 2 = q) (k : J G z cc nL own lvl mcT msT cells slots q lo (.int x :: stk) n h) : J G z cc nL own lvl mcT msT cells slots pc lo stk n h := by
  obtain ⟨p, e, R, s, m, args, below, meth, c, Q⟩ := z
  subst hq
  intro S K hA hL hR ls H locs hl hn hP hS
  exact lv_iload S.1 S.2.1 d (hl.2.2 _ _ hv) (k S K hA hL hR ls H locs hl hn hP hS)
theorem g_aload_n {i : Fin 4} {x : Nat} (hv : lo[(i : Nat)]? = some (some (.ref x))) (d : decode cc pc = .ok (.aload_n i, 1)) (hq : pc + 1 = q) (k : J G z cc nL own lvl mcT msT cells slots q lo (.ref x :: stk) n h) : J G z cc nL own lvl mcT msT cells slots pc lo stk n h := by
  obtain ⟨p, e, R, s, m, args, below, meth, c, Q⟩ := z
  subst hq
  intro S K hA hL hR ls H locs hl hn hP hS
  exact lv_aload_n S.1 S.2.1 d rfl (hl.2.2 _ _ hv) (k S K hA hL hR ls H locs hl hn hP hS)
theorem g_aload_nN {i : Fin 4} (hv : lo[(i : Nat)]? = some (some .null)) (d : decode cc pc = .ok (.aload_n i, 1)) (hq : pc + 1 = q) (k : J G z cc nL own lvl mcT msT cells slots q lo (.null :: stk) n h) : J G z cc nL own lvl mcT msT cells slots pc lo stk n h := by
  obtain ⟨p, e, R, s, m, args, below, meth, c, Q⟩ := z
  subst hq
  intro S K hA hL hR ls H locs hl hn hP hS
  exact lv_aload_nN S.1 S.2.1 d rfl (hl.2.2 _ _ hv) (k S K hA hL hR ls H locs hl hn hP hS)
theorem g_aload {i : Nat} {x : Nat} (hv : lo[i]? = some (some (.ref x))) (d : decode cc pc = .ok (.aload i, 2)) (hq : pc + 2 = q) (k : J G z cc nL own lvl mcT msT cells slots q lo (.ref x :: stk) n h) : J G z cc nL own lvl mcT msT cells slots pc lo stk n h := by
  obtain ⟨p, e, R, s, m, args, below, meth, c, Q⟩ := z
  subst hq
  intro S K hA hL hR ls H locs hl hn hP hS
  exact lv_aload S.1 S.2.1 d (hl.2.2 _ _ hv) (k S K hA hL hR ls H locs hl hn hP hS)
theorem g_lload_n {i : Fin 4} {x : Int64} (hv : lo[(i : Nat)]? = some (some (.long x))) (d : decode cc pc = .ok (.lload_n i, 1)) (hq : pc + 1 = q) (k : J G z cc nL own lvl mcT msT cells slots q lo (.long x :: stk) n h) : J G z cc nL own lvl mcT msT cells slots pc lo stk n h := by
  obtain ⟨p, e, R, s, m, args, below, meth, c, Q⟩ := z
  subst hq
  intro S K hA hL hR ls H locs hl hn hP hS
  exact lv_lload_n S.1 S.2.1 d rfl (hl.2.2 _ _ hv) (k S K hA hL hR ls H locs hl hn hP hS)
theorem g_lload {i : Nat} {x : Int64} (hv : lo[i]? = some (some (.long x))) (d : decode cc pc = .ok (.lload i, 2)) (hq : pc + 2 = q) (k : J G z cc nL own lvl mcT msT cells slots q lo (.long x :: stk) n h) : J G z cc nL own lvl mcT msT cells slots pc lo stk n h := by
  obtain ⟨p, e, R, s, m, args, below, meth, c, Q⟩ := z
  subst hq
  intro S K hA hL hR ls H locs hl hn hP hS
  exact lv_lload S.1 S.2.1 d (hl.2.2 _ _ hv) (k S K hA hL hR ls H locs hl hn hP hS)
theorem g_istore_n {i : Fin 4} {x : Int32} (hi : (i : Nat) < nL) (hp : ∀ (j : Nat) (w : Value), j + 1 = (i : Nat) → lo[j]? = some (some w) → w.category ≠ 2) (d : decode cc pc = .ok (.istore_n i, 1)) (hq : pc + 1 = q) (k : J G z cc nL own lvl mcT msT cells slots q (lo.set (i : Nat) (some (.int x))) stk n h) : J G z cc nL own lvl mcT msT cells slots pc lo (.int x :: stk) n h := by
  obtain ⟨p, e, R, s, m, args, below, meth, c, Q⟩ := z
  subst hq
  intro S K hA hL hR ls H locs hl hn hP hS
  exact lv_istore_n S.1 S.2.1 d rfl hl.has hi rfl (fun ls' hl' => k S K hA hL hR ls' H locs (LV.st1 hl' hp) hn hP hS)
theorem g_istore {i : Nat} {x : Int32} (hi : i < nL) (hp : ∀ (j : Nat) (w : Value), j + 1 = i → lo[j]? = some (some w) → w.category ≠ 2) (d : decode cc pc = .ok (.istore i, 2)) (hq : pc + 2 = q) (k : J G z cc nL own lvl mcT msT cells slots q (lo.set i (some (.int x))) stk n h) : J G z cc nL own lvl mcT msT cells slots pc lo (.int x :: stk) n h := by
  obtain ⟨p, e, R, s, m, args, below, meth, c, Q⟩ := z
  subst hq
  intro S K hA hL hR ls H locs hl hn hP hS
  exact lv_istore S.1 S.2.1 d hl.has hi rfl (fun ls' hl' => k S K hA hL hR ls' H locs (LV.st1 hl' hp) hn hP hS)
theorem g_astore_n {i : Fin 4} {x : Nat} (hi : (i : Nat) < nL) (hp : ∀ (j : Nat) (w : Value), j + 1 = (i : Nat) → lo[j]? = some (some w) → w.category ≠ 2) (d : decode cc pc = .ok (.astore_n i, 1)) (hq : pc + 1 = q) (k : J G z cc nL own lvl mcT msT cells slots q (lo.set (i : Nat) (some (.ref x))) stk n h) : J G z cc nL own lvl mcT msT cells slots pc lo (.ref x :: stk) n h := by
  obtain ⟨p, e, R, s, m, args, below, meth, c, Q⟩ := z
  subst hq
  intro S K hA hL hR ls H locs hl hn hP hS
  exact lv_astore_n S.1 S.2.1 d rfl hl.has hi rfl (fun ls' hl' => k S K hA hL hR ls' H locs (LV.st1 hl' hp) hn hP hS)
theorem g_astore {i : Nat} {x : Nat} (hi : i < nL) (hp : ∀ (j : Nat) (w : Value), j + 1 = i → lo[j]? = some (some w) → w.category ≠ 2) (d : decode cc pc = .ok (.astore i, 2)) (hq : pc + 2 = q) (k : J G z cc nL own lvl mcT msT cells slots q (lo.set i (some (.ref x))) stk n h) : J G z cc nL own lvl mcT msT cells slots pc lo (.ref x :: stk) n h := by
  obtain ⟨p, e, R, s, m, args, below, meth, c, Q⟩ := z
  subst hq
  intro S K hA hL hR ls H locs hl hn hP hS
  exact lv_astore S.1 S.2.1 d hl.has hi rfl (fun ls' hl' => k S K hA hL hR ls' H locs (LV.st1 hl' hp) hn hP hS)
theorem g_lstore_n {i : Fin 4} {x : Int64} (hi : (i : Nat) + 1 < nL) (hp : ∀ (j : Nat) (w : Value), j + 1 = (i : Nat) → lo[j]? = some (some w) → w.category ≠ 2) (d : decode cc pc = .ok (.lstore_n i, 1)) (hq : pc + 1 = q) (k : J G z cc nL own lvl mcT msT cells slots q ((lo.set (i : Nat) (some (.long x))).set ((i : Nat) + 1) none) stk n h) : J G z cc nL own lvl mcT msT cells slots pc lo (.long x :: stk) n h := by
  obtain ⟨p, e, R, s, m, args, below, meth, c, Q⟩ := z
  subst hq
  intro S K hA hL hR ls H locs hl hn hP hS
  exact lv_lstore_n S.1 S.2.1 d rfl hl.has hi rfl (fun ls' hl' => k S K hA hL hR ls' H locs (LV.st2 hl' hp) hn hP hS)
theorem g_lstore {i : Nat} {x : Int64} (hi : i + 1 < nL) (hp : ∀ (j : Nat) (w : Value), j + 1 = i → lo[j]? = some (some w) → w.category ≠ 2) (d : decode cc pc = .ok (.lstore i, 2)) (hq : pc + 2 = q) (k : J G z cc nL own lvl mcT msT cells slots q ((lo.set i (some (.long x))).set (i + 1) none) stk n h) : J G z cc nL own lvl mcT msT cells slots pc lo (.long x :: stk) n h := by
  obtain ⟨p, e, R, s, m, args, below, meth, c, Q⟩ := z
  subst hq
  intro S K hA hL hR ls H locs hl hn hP hS
  exact lv_lstore S.1 S.2.1 d hl.has hi rfl (fun ls' hl' => k S K hA hL hR ls' H locs (LV.st2 hl' hp) hn hP hS)
theorem lo_al_at {lo : List (Option Value)} {i : Nat} {v : Value} (h : lo[i]? = some (some v)) : ∃ k : Nat, (lo_al lo)[k]? = some (i, v) := List.getElem?_of_mem (lo_al_iff.mpr h)
theorem g_iinc {i : Nat} {a : Int} {x v : Int32} (hv0 : lo[i]? = some (some (.int x))) (hi : i < nL) (hp : ∀ (j : Nat) (w : Value), j + 1 = i → lo[j]? = some (some w) → w.category ≠ 2) (hv : x + Int32.ofInt a = v) (d : decode cc pc = .ok (.iinc i a, 3)) (hq : pc + 3 = q) (k : J G z cc nL own lvl mcT msT cells slots q (lo.set i (some (.int v))) stk n h) : J G z cc nL own lvl mcT msT cells slots pc lo stk n h := by
  obtain ⟨p, e, R, s, m, args, below, meth, c, Q⟩ := z
  subst hq
  intro S K hA hL hR ls H locs hl hn hP hS
  obtain ⟨k9, hk9⟩ := lo_al_at hv0
  exact lv_iinc S.1 S.2.1 d hl.has hk9 hv hi rfl (fun ls' hl' => k S K hA hL hR ls' H locs (LV.st1 hl' hp) hn hP hS)
theorem r_iload_0 {t : List (Option Value)} {x : Int32} (d : decode cc pc = .ok (.iload_n 0, 1)) (hq : pc + 1 = q) (k : J G z cc nL own lvl mcT msT cells slots q (some (.int x) :: t) (.int x :: stk) n h) : J G z cc nL own lvl mcT msT cells slots pc (some (.int x) :: t) stk n h := g_iload_n rfl d hq k
theorem r_iload_1 {a0 : Option Value} {t : List (Option Value)} {x : Int32} (d : decode cc pc = .ok (.iload_n 1, 1)) (hq : pc + 1 = q) (k : J G z cc nL own lvl mcT msT cells slots q (a0 :: some (.int x) :: t) (.int x :: stk) n h) : J G z cc nL own lvl mcT msT cells slots pc (a0 :: some (.int x) :: t) stk n h := g_iload_n rfl d hq k
theorem r_iload_2 {a0 a1 : Option Value} {t : List (Option Value)} {x : Int32} (d : decode cc pc = .ok (.iload_n 2, 1)) (hq : pc + 1 = q) (k : J G z cc nL own lvl mcT msT cells slots q (a0 :: a1 :: some (.int x) :: t) (.int x :: stk) n h) : J G z cc nL own lvl mcT msT cells slots pc (a0 :: a1 :: some (.int x) :: t) stk n h := g_iload_n rfl d hq k
theorem r_iload_3 {a0 a1 a2 : Option Value} {t : List (Option Value)} {x : Int32} (d : decode cc pc = .ok (.iload_n 3, 1)) (hq : pc + 1 = q) (k : J G z cc nL own lvl mcT msT cells slots q (a0 :: a1 :: a2 :: some (.int x) :: t) (.int x :: stk) n h) : J G z cc nL own lvl mcT msT cells slots pc (a0 :: a1 :: a2 :: some (.int x) :: t) stk n h := g_iload_n rfl d hq k
theorem r_iload_4 {a0 a1 a2 a3 : Option Value} {t : List (Option Value)} {x : Int32} (d : decode cc pc = .ok (.iload 4, 2)) (hq : pc + 2 = q) (k : J G z cc nL own lvl mcT msT cells slots q (a0 :: a1 :: a2 :: a3 :: some (.int x) :: t) (.int x :: stk) n h) : J G z cc nL own lvl mcT msT cells slots pc (a0 :: a1 :: a2 :: a3 :: some (.int x) :: t) stk n h := g_iload rfl d hq k
theorem r_iload_5 {a0 a1 a2 a3 a4 : Option Value} {t : List (Option Value)} {x : Int32} (d : decode cc pc = .ok (.iload 5, 2)) (hq : pc + 2 = q) (k : J G z cc nL own lvl mcT msT cells slots q (a0 :: a1 :: a2 :: a3 :: a4 :: some (.int x) :: t) (.int x :: stk) n h) : J G z cc nL own lvl mcT msT cells slots pc (a0 :: a1 :: a2 :: a3 :: a4 :: some (.int x) :: t) stk n h := g_iload rfl d hq k
theorem r_iload_6 {a0 a1 a2 a3 a4 a5 : Option Value} {t : List (Option Value)} {x : Int32} (d : decode cc pc = .ok (.iload 6, 2)) (hq : pc + 2 = q) (k : J G z cc nL own lvl mcT msT cells slots q (a0 :: a1 :: a2 :: a3 :: a4 :: a5 :: some (.int x) :: t) (.int x :: stk) n h) : J G z cc nL own lvl mcT msT cells slots pc (a0 :: a1 :: a2 :: a3 :: a4 :: a5 :: some (.int x) :: t) stk n h := g_iload rfl d hq k
theorem r_iload_7 {a0 a1 a2 a3 a4 a5 a6 : Option Value} {t : List (Option Value)} {x : Int32} (d : decode cc pc = .ok (.iload 7, 2)) (hq : pc + 2 = q) (k : J G z cc nL own lvl mcT msT cells slots q (a0 :: a1 :: a2 :: a3 :: a4 :: a5 :: a6 :: some (.int x) :: t) (.int x :: stk) n h) : J G z cc nL own lvl mcT msT cells slots pc (a0 :: a1 :: a2 :: a3 :: a4 :: a5 :: a6 :: some (.int x) :: t) stk n h := g_iload rfl d hq k
theorem r_iload_8 {a0 a1 a2 a3 a4 a5 a6 a7 : Option Value} {t : List (Option Value)} {x : Int32} (d : decode cc pc = .ok (.iload 8, 2)) (hq : pc + 2 = q) (k : J G z cc nL own lvl mcT msT cells slots q (a0 :: a1 :: a2 :: a3 :: a4 :: a5 :: a6 :: a7 :: some (.int x) :: t) (.int x :: stk) n h) : J G z cc nL own lvl mcT msT cells slots pc (a0 :: a1 :: a2 :: a3 :: a4 :: a5 :: a6 :: a7 :: some (.int x) :: t) stk n h := g_iload rfl d hq k
theorem r_iload_9 {a0 a1 a2 a3 a4 a5 a6 a7 a8 : Option Value} {t : List (Option Value)} {x : Int32} (d : decode cc pc = .ok (.iload 9, 2)) (hq : pc + 2 = q) (k : J G z cc nL own lvl mcT msT cells slots q (a0 :: a1 :: a2 :: a3 :: a4 :: a5 :: a6 :: a7 :: a8 :: some (.int x) :: t) (.int x :: stk) n h) : J G z cc nL own lvl mcT msT cells slots pc (a0 :: a1 :: a2 :: a3 :: a4 :: a5 :: a6 :: a7 :: a8 :: some (.int x) :: t) stk n h := g_iload rfl d hq k
theorem r_iload_10 {a0 a1 a2 a3 a4 a5 a6 a7 a8 a9 : Option Value} {t : List (Option Value)} {x : Int32} (d : decode cc pc = .ok (.iload 10, 2)) (hq : pc + 2 = q) (k : J G z cc nL own lvl mcT msT cells slots q (a0 :: a1 :: a2 :: a3 :: a4 :: a5 :: a6 :: a7 :: a8 :: a9 :: some (.int x) :: t) (.int x :: stk) n h) : J G z cc nL own lvl mcT msT cells slots pc (a0 :: a1 :: a2 :: a3 :: a4 :: a5 :: a6 :: a7 :: a8 :: a9 :: some (.int x) :: t) stk n h := g_iload rfl d hq k
theorem r_iload_11 {a0 a1 a2 a3 a4 a5 a6 a7 a8 a9 a10 : Option Value} {t : List (Option Value)} {x : Int32} (d : decode cc pc = .ok (.iload 11, 2)) (hq : pc + 2 = q) (k : J G z cc nL own lvl mcT msT cells slots q (a0 :: a1 :: a2 :: a3 :: a4 :: a5 :: a6 :: a7 :: a8 :: a9 :: a10 :: some (.int x) :: t) (.int x :: stk) n h) : J G z cc nL own lvl mcT msT cells slots pc (a0 :: a1 :: a2 :: a3 :: a4 :: a5 :: a6 :: a7 :: a8 :: a9 :: a10 :: some (.int x) :: t) stk n h := g_iload rfl d hq k
theorem r_iload_12 {a0 a1 a2 a3 a4 a5 a6 a7 a8 a9 a10 a11 : Option Value} {t : List (Option Value)} {x : Int32} (d : decode cc pc = .ok (.iload 12, 2)) (hq : pc + 2 = q) (k : J G z cc nL own lvl mcT msT cells slots q (a0 :: a1 :: a2 :: a3 :: a4 :: a5 :: a6 :: a7 :: a8 :: a9 :: a10 :: a11 :: some (.int x) :: t) (.int x :: stk) n h) : J G z cc nL own lvl mcT msT cells slots pc (a0 :: a1 :: a2 :: a3 :: a4 :: a5 :: a6 :: a7 :: a8 :: a9 :: a10 :: a11 :: some (.int x) :: t) stk n h := g_iload rfl d hq k
theorem r_iload_13 {a0 a1 a2 a3 a4 a5 a6 a7 a8 a9 a10 a11 a12 : Option Value} {t : List (Option Value)} {x : Int32} (d : decode cc pc = .ok (.iload 13, 2)) (hq : pc + 2 = q) (k : J G z cc nL own lvl mcT msT cells slots q (a0 :: a1 :: a2 :: a3 :: a4 :: a5 :: a6 :: a7 :: a8 :: a9 :: a10 :: a11 :: a12 :: some (.int x) :: t) (.int x :: stk) n h) : J G z cc nL own lvl mcT msT cells slots pc (a0 :: a1 :: a2 :: a3 :: a4 :: a5 :: a6 :: a7 :: a8 :: a9 :: a10 :: a11 :: a12 :: some (.int x) :: t) stk n h := g_iload rfl d hq k
theorem r_iload_14 {a0 a1 a2 a3 a4 a5 a6 a7 a8 a9 a10 a11 a12 a13 : Option Value} {t : List (Option Value)} {x : Int32} (d : decode cc pc = .ok (.iload 14, 2)) (hq : pc + 2 = q) (k : J G z cc nL own lvl mcT msT cells slots q (a0 :: a1 :: a2 :: a3 :: a4 :: a5 :: a6 :: a7 :: a8 :: a9 :: a10 :: a11 :: a12 :: a13 :: some (.int x) :: t) (.int x :: stk) n h) : J G z cc nL own lvl mcT msT cells slots pc (a0 :: a1 :: a2 :: a3 :: a4 :: a5 :: a6 :: a7 :: a8 :: a9 :: a10 :: a11 :: a12 :: a13 :: some (.int x) :: t) stk n h := g_iload rfl d hq k
theorem r_iload_15 {a0 a1 a2 a3 a4 a5 a6 a7 a8 a9 a10 a11 a12 a13 a14 : Option Value} {t : List (Option Value)} {x : Int32} (d : decode cc pc = .ok (.iload 15, 2)) (hq : pc + 2 = q) (k : J G z cc nL own lvl mcT msT cells slots q (a0 :: a1 :: a2 :: a3 :: a4 :: a5 :: a6 :: a7 :: a8 :: a9 :: a10 :: a11 :: a12 :: a13 :: a14 :: some (.int x) :: t) (.int x :: stk) n h) : J G z cc nL own lvl mcT msT cells slots pc (a0 :: a1 :: a2 :: a3 :: a4 :: a5 :: a6 :: a7 :: a8 :: a9 :: a10 :: a11 :: a12 :: a13 :: a14 :: some (.int x) :: t) stk n h := g_iload rfl d hq k
theorem r_aload_0 {t : List (Option Value)} {x : Nat} (d : decode cc pc = .ok (.aload_n 0, 1)) (hq : pc + 1 = q) (k : J G z cc nL own lvl mcT msT cells slots q (some (.ref x) :: t) (.ref x :: stk) n h) : J G z cc nL own lvl mcT msT cells slots pc (some (.ref x) :: t) stk n h := g_aload_n rfl d hq k
theorem r_aload_1 {a0 : Option Value} {t : List (Option Value)} {x : Nat} (d : decode cc pc = .ok (.aload_n 1, 1)) (hq : pc + 1 = q) (k : J G z cc nL own lvl mcT msT cells slots q (a0 :: some (.ref x) :: t) (.ref x :: stk) n h) : J G z cc nL own lvl mcT msT cells slots pc (a0 :: some (.ref x) :: t) stk n h := g_aload_n rfl d hq k
theorem r_aload_2 {a0 a1 : Option Value} {t : List (Option Value)} {x : Nat} (d : decode cc pc = .ok (.aload_n 2, 1)) (hq : pc + 1 = q) (k : J G z cc nL own lvl mcT msT cells slots q (a0 :: a1 :: some (.ref x) :: t) (.ref x :: stk) n h) : J G z cc nL own lvl mcT msT cells slots pc (a0 :: a1 :: some (.ref x) :: t) stk n h := g_aload_n rfl d hq k
theorem r_aload_3 {a0 a1 a2 : Option Value} {t : List (Option Value)} {x : Nat} (d : decode cc pc = .ok (.aload_n 3, 1)) (hq : pc + 1 = q) (k : J G z cc nL own lvl mcT msT cells slots q (a0 :: a1 :: a2 :: some (.ref x) :: t) (.ref x :: stk) n h) : J G z cc nL own lvl mcT msT cells slots pc (a0 :: a1 :: a2 :: some (.ref x) :: t) stk n h := g_aload_n rfl d hq k
theorem r_aload_4 {a0 a1 a2 a3 : Option Value} {t : List (Option Value)} {x : Nat} (d : decode cc pc = .ok (.aload 4, 2)) (hq : pc + 2 = q) (k : J G z cc nL own lvl mcT msT cells slots q (a0 :: a1 :: a2 :: a3 :: some (.ref x) :: t) (.ref x :: stk) n h) : J G z cc nL own lvl mcT msT cells slots pc (a0 :: a1 :: a2 :: a3 :: some (.ref x) :: t) stk n h := g_aload rfl d hq k
theorem r_aload_5 {a0 a1 a2 a3 a4 : Option Value} {t : List (Option Value)} {x : Nat} (d : decode cc pc = .ok (.aload 5, 2)) (hq : pc + 2 = q) (k : J G z cc nL own lvl mcT msT cells slots q (a0 :: a1 :: a2 :: a3 :: a4 :: some (.ref x) :: t) (.ref x :: stk) n h) : J G z cc nL own lvl mcT msT cells slots pc (a0 :: a1 :: a2 :: a3 :: a4 :: some (.ref x) :: t) stk n h := g_aload rfl d hq k
theorem r_aload_6 {a0 a1 a2 a3 a4 a5 : Option Value} {t : List (Option Value)} {x : Nat} (d : decode cc pc = .ok (.aload 6, 2)) (hq : pc + 2 = q) (k : J G z cc nL own lvl mcT msT cells slots q (a0 :: a1 :: a2 :: a3 :: a4 :: a5 :: some (.ref x) :: t) (.ref x :: stk) n h) : J G z cc nL own lvl mcT msT cells slots pc (a0 :: a1 :: a2 :: a3 :: a4 :: a5 :: some (.ref x) :: t) stk n h := g_aload rfl d hq k
theorem r_aload_7 {a0 a1 a2 a3 a4 a5 a6 : Option Value} {t : List (Option Value)} {x : Nat} (d : decode cc pc = .ok (.aload 7, 2)) (hq : pc + 2 = q) (k : J G z cc nL own lvl mcT msT cells slots q (a0 :: a1 :: a2 :: a3 :: a4 :: a5 :: a6 :: some (.ref x) :: t) (.ref x :: stk) n h) : J G z cc nL own lvl mcT msT cells slots pc (a0 :: a1 :: a2 :: a3 :: a4 :: a5 :: a6 :: some (.ref x) :: t) stk n h := g_aload rfl d hq k
theorem r_aload_8 {a0 a1 a2 a3 a4 a5 a6 a7 : Option Value} {t : List (Option Value)} {x : Nat} (d : decode cc pc = .ok (.aload 8, 2)) (hq : pc + 2 = q) (k : J G z cc nL own lvl mcT msT cells slots q (a0 :: a1 :: a2 :: a3 :: a4 :: a5 :: a6 :: a7 :: some (.ref x) :: t) (.ref x :: stk) n h) : J G z cc nL own lvl mcT msT cells slots pc (a0 :: a1 :: a2 :: a3 :: a4 :: a5 :: a6 :: a7 :: some (.ref x) :: t) stk n h := g_aload rfl d hq k
theorem r_aload_9 {a0 a1 a2 a3 a4 a5 a6 a7 a8 : Option Value} {t : List (Option Value)} {x : Nat} (d : decode cc pc = .ok (.aload 9, 2)) (hq : pc + 2 = q) (k : J G z cc nL own lvl mcT msT cells slots q (a0 :: a1 :: a2 :: a3 :: a4 :: a5 :: a6 :: a7 :: a8 :: some (.ref x) :: t) (.ref x :: stk) n h) : J G z cc nL own lvl mcT msT cells slots pc (a0 :: a1 :: a2 :: a3 :: a4 :: a5 :: a6 :: a7 :: a8 :: some (.ref x) :: t) stk n h := g_aload rfl d hq k
theorem r_aload_10 {a0 a1 a2 a3 a4 a5 a6 a7 a8 a9 : Option Value} {t : List (Option Value)} {x : Nat} (d : decode cc pc = .ok (.aload 10, 2)) (hq : pc + 2 = q) (k : J G z cc nL own lvl mcT msT cells slots q (a0 :: a1 :: a2 :: a3 :: a4 :: a5 :: a6 :: a7 :: a8 :: a9 :: some (.ref x) :: t) (.ref x :: stk) n h) : J G z cc nL own lvl mcT msT cells slots pc (a0 :: a1 :: a2 :: a3 :: a4 :: a5 :: a6 :: a7 :: a8 :: a9 :: some (.ref x) :: t) stk n h := g_aload rfl d hq k
theorem r_aload_11 {a0 a1 a2 a3 a4 a5 a6 a7 a8 a9 a10 : Option Value} {t : List (Option Value)} {x : Nat} (d : decode cc pc = .ok (.aload 11, 2)) (hq : pc + 2 = q) (k : J G z cc nL own lvl mcT msT cells slots q (a0 :: a1 :: a2 :: a3 :: a4 :: a5 :: a6 :: a7 :: a8 :: a9 :: a10 :: some (.ref x) :: t) (.ref x :: stk) n h) : J G z cc nL own lvl mcT msT cells slots pc (a0 :: a1 :: a2 :: a3 :: a4 :: a5 :: a6 :: a7 :: a8 :: a9 :: a10 :: some (.ref x) :: t) stk n h := g_aload rfl d hq k
theorem r_aload_12 {a0 a1 a2 a3 a4 a5 a6 a7 a8 a9 a10 a11 : Option Value} {t : List (Option Value)} {x : Nat} (d : decode cc pc = .ok (.aload 12, 2)) (hq : pc + 2 = q) (k : J G z cc nL own lvl mcT msT cells slots q (a0 :: a1 :: a2 :: a3 :: a4 :: a5 :: a6 :: a7 :: a8 :: a9 :: a10 :: a11 :: some (.ref x) :: t) (.ref x :: stk) n h) : J G z cc nL own lvl mcT msT cells slots pc (a0 :: a1 :: a2 :: a3 :: a4 :: a5 :: a6 :: a7 :: a8 :: a9 :: a10 :: a11 :: some (.ref x) :: t) stk n h := g_aload rfl d hq k
theorem r_aload_13 {a0 a1 a2 a3 a4 a5 a6 a7 a8 a9 a10 a11 a12 : Option Value} {t : List (Option Value)} {x : Nat} (d : decode cc pc = .ok (.aload 13, 2)) (hq : pc + 2 = q) (k : J G z cc nL own lvl mcT msT cells slots q (a0 :: a1 :: a2 :: a3 :: a4 :: a5 :: a6 :: a7 :: a8 :: a9 :: a10 :: a11 :: a12 :: some (.ref x) :: t) (.ref x :: stk) n h) : J G z cc nL own lvl mcT msT cells slots pc (a0 :: a1 :: a2 :: a3 :: a4 :: a5 :: a6 :: a7 :: a8 :: a9 :: a10 :: a11 :: a12 :: some (.ref x) :: t) stk n h := g_aload rfl d hq k
theorem r_aload_14 {a0 a1 a2 a3 a4 a5 a6 a7 a8 a9 a10 a11 a12 a13 : Option Value} {t : List (Option Value)} {x : Nat} (d : decode cc pc = .ok (.aload 14, 2)) (hq : pc + 2 = q) (k : J G z cc nL own lvl mcT msT cells slots q (a0 :: a1 :: a2 :: a3 :: a4 :: a5 :: a6 :: a7 :: a8 :: a9 :: a10 :: a11 :: a12 :: a13 :: some (.ref x) :: t) (.ref x :: stk) n h) : J G z cc nL own lvl mcT msT cells slots pc (a0 :: a1 :: a2 :: a3 :: a4 :: a5 :: a6 :: a7 :: a8 :: a9 :: a10 :: a11 :: a12 :: a13 :: some (.ref x) :: t) stk n h := g_aload rfl d hq k
theorem r_aload_15 {a0 a1 a2 a3 a4 a5 a6 a7 a8 a9 a10 a11 a12 a13 a14 : Option Value} {t : List (Option Value)} {x : Nat} (d : decode cc pc = .ok (.aload 15, 2)) (hq : pc + 2 = q) (k : J G z cc nL own lvl mcT msT cells slots q (a0 :: a1 :: a2 :: a3 :: a4 :: a5 :: a6 :: a7 :: a8 :: a9 :: a10 :: a11 :: a12 :: a13 :: a14 :: some (.ref x) :: t) (.ref x :: stk) n h) : J G z cc nL own lvl mcT msT cells slots pc (a0 :: a1 :: a2 :: a3 :: a4 :: a5 :: a6 :: a7 :: a8 :: a9 :: a10 :: a11 :: a12 :: a13 :: a14 :: some (.ref x) :: t) stk n h := g_aload rfl d hq k
theorem r_lload_0 {t : List (Option Value)} {x : Int64} (d : decode cc pc = .ok (.lload_n 0, 1)) (hq : pc + 1 = q) (k : J G z cc nL own lvl mcT msT cells slots q (some (.long x) :: t) (.long x :: stk) n h) : J G z cc nL own lvl mcT msT cells slots pc (some (.long x) :: t) stk n h := g_lload_n rfl d hq k
theorem r_lload_1 {a0 : Option Value} {t : List (Option Value)} {x : Int64} (d : decode cc pc = .ok (.lload_n 1, 1)) (hq : pc + 1 = q) (k : J G z cc nL own lvl mcT msT cells slots q (a0 :: some (.long x) :: t) (.long x :: stk) n h) : J G z cc nL own lvl mcT msT cells slots pc (a0 :: some (.long x) :: t) stk n h := g_lload_n rfl d hq k
theorem r_lload_2 {a0 a1 : Option Value} {t : List (Option Value)} {x : Int64} (d : decode cc pc = .ok (.lload_n 2, 1)) (hq : pc + 1 = q) (k : J G z cc nL own lvl mcT msT cells slots q (a0 :: a1 :: some (.long x) :: t) (.long x :: stk) n h) : J G z cc nL own lvl mcT msT cells slots pc (a0 :: a1 :: some (.long x) :: t) stk n h := g_lload_n rfl d hq k
theorem r_lload_3 {a0 a1 a2 : Option Value} {t : List (Option Value)} {x : Int64} (d : decode cc pc = .ok (.lload_n 3, 1)) (hq : pc + 1 = q) (k : J G z cc nL own lvl mcT msT cells slots q (a0 :: a1 :: a2 :: some (.long x) :: t) (.long x :: stk) n h) : J G z cc nL own lvl mcT msT cells slots pc (a0 :: a1 :: a2 :: some (.long x) :: t) stk n h := g_lload_n rfl d hq k
theorem r_lload_4 {a0 a1 a2 a3 : Option Value} {t : List (Option Value)} {x : Int64} (d : decode cc pc = .ok (.lload 4, 2)) (hq : pc + 2 = q) (k : J G z cc nL own lvl mcT msT cells slots q (a0 :: a1 :: a2 :: a3 :: some (.long x) :: t) (.long x :: stk) n h) : J G z cc nL own lvl mcT msT cells slots pc (a0 :: a1 :: a2 :: a3 :: some (.long x) :: t) stk n h := g_lload rfl d hq k
theorem r_lload_5 {a0 a1 a2 a3 a4 : Option Value} {t : List (Option Value)} {x : Int64} (d : decode cc pc = .ok (.lload 5, 2)) (hq : pc + 2 = q) (k : J G z cc nL own lvl mcT msT cells slots q (a0 :: a1 :: a2 :: a3 :: a4 :: some (.long x) :: t) (.long x :: stk) n h) : J G z cc nL own lvl mcT msT cells slots pc (a0 :: a1 :: a2 :: a3 :: a4 :: some (.long x) :: t) stk n h := g_lload rfl d hq k
theorem r_lload_6 {a0 a1 a2 a3 a4 a5 : Option Value} {t : List (Option Value)} {x : Int64} (d : decode cc pc = .ok (.lload 6, 2)) (hq : pc + 2 = q) (k : J G z cc nL own lvl mcT msT cells slots q (a0 :: a1 :: a2 :: a3 :: a4 :: a5 :: some (.long x) :: t) (.long x :: stk) n h) : J G z cc nL own lvl mcT msT cells slots pc (a0 :: a1 :: a2 :: a3 :: a4 :: a5 :: some (.long x) :: t) stk n h := g_lload rfl d hq k
theorem r_lload_7 {a0 a1 a2 a3 a4 a5 a6 : Option Value} {t : List (Option Value)} {x : Int64} (d : decode cc pc = .ok (.lload 7, 2)) (hq : pc + 2 = q) (k : J G z cc nL own lvl mcT msT cells slots q (a0 :: a1 :: a2 :: a3 :: a4 :: a5 :: a6 :: some (.long x) :: t) (.long x :: stk) n h) : J G z cc nL own lvl mcT msT cells slots pc (a0 :: a1 :: a2 :: a3 :: a4 :: a5 :: a6 :: some (.long x) :: t) stk n h := g_lload rfl d hq k
theorem r_lload_8 {a0 a1 a2 a3 a4 a5 a6 a7 : Option Value} {t : List (Option Value)} {x : Int64} (d : decode cc pc = .ok (.lload 8, 2)) (hq : pc + 2 = q) (k : J G z cc nL own lvl mcT msT cells slots q (a0 :: a1 :: a2 :: a3 :: a4 :: a5 :: a6 :: a7 :: some (.long x) :: t) (.long x :: stk) n h) : J G z cc nL own lvl mcT msT cells slots pc (a0 :: a1 :: a2 :: a3 :: a4 :: a5 :: a6 :: a7 :: some (.long x) :: t) stk n h := g_lload rfl d hq k
theorem r_lload_9 {a0 a1 a2 a3 a4 a5 a6 a7 a8 : Option Value} {t : List (Option Value)} {x : Int64} (d : decode cc pc = .ok (.lload 9, 2)) (hq : pc + 2 = q) (k : J G z cc nL own lvl mcT msT cells slots q (a0 :: a1 :: a2 :: a3 :: a4 :: a5 :: a6 :: a7 :: a8 :: some (.long x) :: t) (.long x :: stk) n h) : J G z cc nL own lvl mcT msT cells slots pc (a0 :: a1 :: a2 :: a3 :: a4 :: a5 :: a6 :: a7 :: a8 :: some (.long x) :: t) stk n h := g_lload rfl d hq k
theorem r_lload_10 {a0 a1 a2 a3 a4 a5 a6 a7 a8 a9 : Option Value} {t : List (Option Value)} {x : Int64} (d : decode cc pc = .ok (.lload 10, 2)) (hq : pc + 2 = q) (k : J G z cc nL own lvl mcT msT cells slots q (a0 :: a1 :: a2 :: a3 :: a4 :: a5 :: a6 :: a7 :: a8 :: a9 :: some (.long x) :: t) (.long x :: stk) n h) : J G z cc nL own lvl mcT msT cells slots pc (a0 :: a1 :: a2 :: a3 :: a4 :: a5 :: a6 :: a7 :: a8 :: a9 :: some (.long x) :: t) stk n h := g_lload rfl d hq k
theorem r_lload_11 {a0 a1 a2 a3 a4 a5 a6 a7 a8 a9 a10 : Option Value} {t : List (Option Value)} {x : Int64} (d : decode cc pc = .ok (.lload 11, 2)) (hq : pc + 2 = q) (k : J G z cc nL own lvl mcT msT cells slots q (a0 :: a1 :: a2 :: a3 :: a4 :: a5 :: a6 :: a7 :: a8 :: a9 :: a10 :: some (.long x) :: t) (.long x :: stk) n h) : J G z cc nL own lvl mcT msT cells slots pc (a0 :: a1 :: a2 :: a3 :: a4 :: a5 :: a6 :: a7 :: a8 :: a9 :: a10 :: some (.long x) :: t) stk n h := g_lload rfl d hq k
theorem r_lload_12 {a0 a1 a2 a3 a4 a5 a6 a7 a8 a9 a10 a11 : Option Value} {t : List (Option Value)} {x : Int64} (d : decode cc pc = .ok (.lload 12, 2)) (hq : pc + 2 = q) (k : J G z cc nL own lvl mcT msT cells slots q (a0 :: a1 :: a2 :: a3 :: a4 :: a5 :: a6 :: a7 :: a8 :: a9 :: a10 :: a11 :: some (.long x) :: t) (.long x :: stk) n h) : J G z cc nL own lvl mcT msT cells slots pc (a0 :: a1 :: a2 :: a3 :: a4 :: a5 :: a6 :: a7 :: a8 :: a9 :: a10 :: a11 :: some (.long x) :: t) stk n h := g_lload rfl d hq k
theorem r_lload_13 {a0 a1 a2 a3 a4 a5 a6 a7 a8 a9 a10 a11 a12 : Option Value} {t : List (Option Value)} {x : Int64} (d : decode cc pc = .ok (.lload 13, 2)) (hq : pc + 2 = q) (k : J G z cc nL own lvl mcT msT cells slots q (a0 :: a1 :: a2 :: a3 :: a4 :: a5 :: a6 :: a7 :: a8 :: a9 :: a10 :: a11 :: a12 :: some (.long x) :: t) (.long x :: stk) n h) : J G z cc nL own lvl mcT msT cells slots pc (a0 :: a1 :: a2 :: a3 :: a4 :: a5 :: a6 :: a7 :: a8 :: a9 :: a10 :: a11 :: a12 :: some (.long x) :: t) stk n h := g_lload rfl d hq k
theorem r_lload_14 {a0 a1 a2 a3 a4 a5 a6 a7 a8 a9 a10 a11 a12 a13 : Option Value} {t : List (Option Value)} {x : Int64} (d : decode cc pc = .ok (.lload 14, 2)) (hq : pc + 2 = q) (k : J G z cc nL own lvl mcT msT cells slots q (a0 :: a1 :: a2 :: a3 :: a4 :: a5 :: a6 :: a7 :: a8 :: a9 :: a10 :: a11 :: a12 :: a13 :: some (.long x) :: t) (.long x :: stk) n h) : J G z cc nL own lvl mcT msT cells slots pc (a0 :: a1 :: a2 :: a3 :: a4 :: a5 :: a6 :: a7 :: a8 :: a9 :: a10 :: a11 :: a12 :: a13 :: some (.long x) :: t) stk n h := g_lload rfl d hq k
theorem r_lload_15 {a0 a1 a2 a3 a4 a5 a6 a7 a8 a9 a10 a11 a12 a13 a14 : Option Value} {t : List (Option Value)} {x : Int64} (d : decode cc pc = .ok (.lload 15, 2)) (hq : pc + 2 = q) (k : J G z cc nL own lvl mcT msT cells slots q (a0 :: a1 :: a2 :: a3 :: a4 :: a5 :: a6 :: a7 :: a8 :: a9 :: a10 :: a11 :: a12 :: a13 :: a14 :: some (.long x) :: t) (.long x :: stk) n h) : J G z cc nL own lvl mcT msT cells slots pc (a0 :: a1 :: a2 :: a3 :: a4 :: a5 :: a6 :: a7 :: a8 :: a9 :: a10 :: a11 :: a12 :: a13 :: a14 :: some (.long x) :: t) stk n h := g_lload rfl d hq k
theorem r_aloadN_0 {t : List (Option Value)} (d : decode cc pc = .ok (.aload_n 0, 1)) (hq : pc + 1 = q) (k : J G z cc nL own lvl mcT msT cells slots q (some .null :: t) (.null :: stk) n h) : J G z cc nL own lvl mcT msT cells slots pc (some .null :: t) stk n h := g_aload_nN rfl d hq k
theorem r_aloadN_1 {a0 : Option Value} {t : List (Option Value)} (d : decode cc pc = .ok (.aload_n 1, 1)) (hq : pc + 1 = q) (k : J G z cc nL own lvl mcT msT cells slots q (a0 :: some .null :: t) (.null :: stk) n h) : J G z cc nL own lvl mcT msT cells slots pc (a0 :: some .null :: t) stk n h := g_aload_nN rfl d hq k
theorem r_aloadN_2 {a0 a1 : Option Value} {t : List (Option Value)} (d : decode cc pc = .ok (.aload_n 2, 1)) (hq : pc + 1 = q) (k : J G z cc nL own lvl mcT msT cells slots q (a0 :: a1 :: some .null :: t) (.null :: stk) n h) : J G z cc nL own lvl mcT msT cells slots pc (a0 :: a1 :: some .null :: t) stk n h := g_aload_nN rfl d hq k
theorem r_aloadN_3 {a0 a1 a2 : Option Value} {t : List (Option Value)} (d : decode cc pc = .ok (.aload_n 3, 1)) (hq : pc + 1 = q) (k : J G z cc nL own lvl mcT msT cells slots q (a0 :: a1 :: a2 :: some .null :: t) (.null :: stk) n h) : J G z cc nL own lvl mcT msT cells slots pc (a0 :: a1 :: a2 :: some .null :: t) stk n h := g_aload_nN rfl d hq k
theorem r_istore_0 {a0 : Option Value} {t : List (Option Value)} {x : Int32} (hi : 0 < nL) (d : decode cc pc = .ok (.istore_n 0, 1)) (hq : pc + 1 = q) (k : J G z cc nL own lvl mcT msT cells slots q (some (.int x) :: t) stk n h) : J G z cc nL own lvl mcT msT cells slots pc (a0 :: t) (.int x :: stk) n h := g_istore_n (lo := a0 :: t) hi (fun j w e => absurd e (Nat.succ_ne_zero j)) d hq k
theorem r_istore_1 {a0 a1 : Option Value} {t : List (Option Value)} {x : Int32} (hi : 1 < nL) (hp : lc2 a0 = false) (d : decode cc pc = .ok (.istore_n 1, 1)) (hq : pc + 1 = q) (k : J G z cc nL own lvl mcT msT cells slots q (a0 :: some (.int x) :: t) stk n h) : J G z cc nL own lvl mcT msT cells slots pc (a0 :: a1 :: t) (.int x :: stk) n h := g_istore_n (lo := a0 :: a1 :: t) hi (fun j w e hj => lc2_ok hp (by obtain rfl : j = 0 := (by omega : j = 0); exact Option.some.inj hj)) d hq k
theorem r_istore_2 {a0 a1 a2 : Option Value} {t : List (Option Value)} {x : Int32} (hi : 2 < nL) (hp : lc2 a1 = false) (d : decode cc pc = .ok (.istore_n 2, 1)) (hq : pc + 1 = q) (k : J G z cc nL own lvl mcT msT cells slots q (a0 :: a1 :: some (.int x) :: t) stk n h) : J G z cc nL own lvl mcT msT cells slots pc (a0 :: a1 :: a2 :: t) (.int x :: stk) n h := g_istore_n (lo := a0 :: a1 :: a2 :: t) hi (fun j w e hj => lc2_ok hp (by obtain rfl : j = 1 := (by omega : j = 1); exact Option.some.inj hj)) d hq k
theorem r_istore_3 {a0 a1 a2 a3 : Option Value} {t : List (Option Value)} {x : Int32} (hi : 3 < nL) (hp : lc2 a2 = false) (d : decode cc pc = .ok (.istore_n 3, 1)) (hq : pc + 1 = q) (k : J G z cc nL own lvl mcT msT cells slots q (a0 :: a1 :: a2 :: some (.int x) :: t) stk n h) : J G z cc nL own lvl mcT msT cells slots pc (a0 :: a1 :: a2 :: a3 :: t) (.int x :: stk) n h := g_istore_n (lo := a0 :: a1 :: a2 :: a3 :: t) hi (fun j w e hj => lc2_ok hp (by obtain rfl : j = 2 := (by omega : j = 2); exact Option.some.inj hj)) d hq k
theorem r_istore_4 {a0 a1 a2 a3 a4 : Option Value} {t : List (Option Value)} {x : Int32} (hi : 4 < nL) (hp : lc2 a3 = false) (d : decode cc pc = .ok (.istore 4, 2)) (hq : pc + 2 = q) (k : J G z cc nL own lvl mcT msT cells slots q (a0 :: a1 :: a2 :: a3 :: some (.int x) :: t) stk n h) : J G z cc nL own lvl mcT msT cells slots pc (a0 :: a1 :: a2 :: a3 :: a4 :: t) (.int x :: stk) n h := g_istore (lo := a0 :: a1 :: a2 :: a3 :: a4 :: t) hi (fun j w e hj => lc2_ok hp (by obtain rfl : j = 3 := (by omega : j = 3); exact Option.some.inj hj)) d hq k
theorem r_istore_5 {a0 a1 a2 a3 a4 a5 : Option Value} {t : List (Option Value)} {x : Int32} (hi : 5 < nL) (hp : lc2 a4 = false) (d : decode cc pc = .ok (.istore 5, 2)) (hq : pc + 2 = q) (k : J G z cc nL own lvl mcT msT cells slots q (a0 :: a1 :: a2 :: a3 :: a4 :: some (.int x) :: t) stk n h) : J G z cc nL own lvl mcT msT cells slots pc (a0 :: a1 :: a2 :: a3 :: a4 :: a5 :: t) (.int x :: stk) n h := g_istore (lo := a0 :: a1 :: a2 :: a3 :: a4 :: a5 :: t) hi (fun j w e hj => lc2_ok hp (by obtain rfl : j = 4 := (by omega : j = 4); exact Option.some.inj hj)) d hq k
theorem r_istore_6 {a0 a1 a2 a3 a4 a5 a6 : Option Value} {t : List (Option Value)} {x : Int32} (hi : 6 < nL) (hp : lc2 a5 = false) (d : decode cc pc = .ok (.istore 6, 2)) (hq : pc + 2 = q) (k : J G z cc nL own lvl mcT msT cells slots q (a0 :: a1 :: a2 :: a3 :: a4 :: a5 :: some (.int x) :: t) stk n h) : J G z cc nL own lvl mcT msT cells slots pc (a0 :: a1 :: a2 :: a3 :: a4 :: a5 :: a6 :: t) (.int x :: stk) n h := g_istore (lo := a0 :: a1 :: a2 :: a3 :: a4 :: a5 :: a6 :: t) hi (fun j w e hj => lc2_ok hp (by obtain rfl : j = 5 := (by omega : j = 5); exact Option.some.inj hj)) d hq k
theorem r_istore_7 {a0 a1 a2 a3 a4 a5 a6 a7 : Option Value} {t : List (Option Value)} {x : Int32} (hi : 7 < nL) (hp : lc2 a6 = false) (d : decode cc pc = .ok (.istore 7, 2)) (hq : pc + 2 = q) (k : J G z cc nL own lvl mcT msT cells slots q (a0 :: a1 :: a2 :: a3 :: a4 :: a5 :: a6 :: some (.int x) :: t) stk n h) : J G z cc nL own lvl mcT msT cells slots pc (a0 :: a1 :: a2 :: a3 :: a4 :: a5 :: a6 :: a7 :: t) (.int x :: stk) n h := g_istore (lo := a0 :: a1 :: a2 :: a3 :: a4 :: a5 :: a6 :: a7 :: t) hi (fun j w e hj => lc2_ok hp (by obtain rfl : j = 6 := (by omega : j = 6); exact Option.some.inj hj)) d hq k
theorem r_istore_8 {a0 a1 a2 a3 a4 a5 a6 a7 a8 : Option Value} {t : List (Option Value)} {x : Int32} (hi : 8 < nL) (hp : lc2 a7 = false) (d : decode cc pc = .ok (.istore 8, 2)) (hq : pc + 2 = q) (k : J G z cc nL own lvl mcT msT cells slots q (a0 :: a1 :: a2 :: a3 :: a4 :: a5 :: a6 :: a7 :: some (.int x) :: t) stk n h) : J G z cc nL own lvl mcT msT cells slots pc (a0 :: a1 :: a2 :: a3 :: a4 :: a5 :: a6 :: a7 :: a8 :: t) (.int x :: stk) n h := g_istore (lo := a0 :: a1 :: a2 :: a3 :: a4 :: a5 :: a6 :: a7 :: a8 :: t) hi (fun j w e hj => lc2_ok hp (by obtain rfl : j = 7 := (by omega : j = 7); exact Option.some.inj hj)) d hq k
theorem r_istore_9 {a0 a1 a2 a3 a4 a5 a6 a7 a8 a9 : Option Value} {t : List (Option Value)} {x : Int32} (hi : 9 < nL) (hp : lc2 a8 = false) (d : decode cc pc = .ok (.istore 9, 2)) (hq : pc + 2 = q) (k : J G z cc nL own lvl mcT msT cells slots q (a0 :: a1 :: a2 :: a3 :: a4 :: a5 :: a6 :: a7 :: a8 :: some (.int x) :: t) stk n h) : J G z cc nL own lvl mcT msT cells slots pc (a0 :: a1 :: a2 :: a3 :: a4 :: a5 :: a6 :: a7 :: a8 :: a9 :: t) (.int x :: stk) n h := g_istore (lo := a0 :: a1 :: a2 :: a3 :: a4 :: a5 :: a6 :: a7 :: a8 :: a9 :: t) hi (fun j w e hj => lc2_ok hp (by obtain rfl : j = 8 := (by omega : j = 8); exact Option.some.inj hj)) d hq k
theorem r_istore_10 {a0 a1 a2 a3 a4 a5 a6 a7 a8 a9 a10 : Option Value} {t : List (Option Value)} {x : Int32} (hi : 10 < nL) (hp : lc2 a9 = false) (d : decode cc pc = .ok (.istore 10, 2)) (hq : pc + 2 = q) (k : J G z cc nL own lvl mcT msT cells slots q (a0 :: a1 :: a2 :: a3 :: a4 :: a5 :: a6 :: a7 :: a8 :: a9 :: some (.int x) :: t) stk n h) : J G z cc nL own lvl mcT msT cells slots pc (a0 :: a1 :: a2 :: a3 :: a4 :: a5 :: a6 :: a7 :: a8 :: a9 :: a10 :: t) (.int x :: stk) n h := g_istore (lo := a0 :: a1 :: a2 :: a3 :: a4 :: a5 :: a6 :: a7 :: a8 :: a9 :: a10 :: t) hi (fun j w e hj => lc2_ok hp (by obtain rfl : j = 9 := (by omega : j = 9); exact Option.some.inj hj)) d hq k
theorem r_istore_11 {a0 a1 a2 a3 a4 a5 a6 a7 a8 a9 a10 a11 : Option Value} {t : List (Option Value)} {x : Int32} (hi : 11 < nL) (hp : lc2 a10 = false) (d : decode cc pc = .ok (.istore 11, 2)) (hq : pc + 2 = q) (k : J G z cc nL own lvl mcT msT cells slots q (a0 :: a1 :: a2 :: a3 :: a4 :: a5 :: a6 :: a7 :: a8 :: a9 :: a10 :: some (.int x) :: t) stk n h) : J G z cc nL own lvl mcT msT cells slots pc (a0 :: a1 :: a2 :: a3 :: a4 :: a5 :: a6 :: a7 :: a8 :: a9 :: a10 :: a11 :: t) (.int x :: stk) n h := g_istore (lo := a0 :: a1 :: a2 :: a3 :: a4 :: a5 :: a6 :: a7 :: a8 :: a9 :: a10 :: a11 :: t) hi (fun j w e hj => lc2_ok hp (by obtain rfl : j = 10 := (by omega : j = 10); exact Option.some.inj hj)) d hq k
theorem r_istore_12 {a0 a1 a2 a3 a4 a5 a6 a7 a8 a9 a10 a11 a12 : Option Value} {t : List (Option Value)} {x : Int32} (hi : 12 < nL) (hp : lc2 a11 = false) (d : decode cc pc = .ok (.istore 12, 2)) (hq : pc + 2 = q) (k : J G z cc nL own lvl mcT msT cells slots q (a0 :: a1 :: a2 :: a3 :: a4 :: a5 :: a6 :: a7 :: a8 :: a9 :: a10 :: a11 :: some (.int x) :: t) stk n h) : J G z cc nL own lvl mcT msT cells slots pc (a0 :: a1 :: a2 :: a3 :: a4 :: a5 :: a6 :: a7 :: a8 :: a9 :: a10 :: a11 :: a12 :: t) (.int x :: stk) n h := g_istore (lo := a0 :: a1 :: a2 :: a3 :: a4 :: a5 :: a6 :: a7 :: a8 :: a9 :: a10 :: a11 :: a12 :: t) hi (fun j w e hj => lc2_ok hp (by obtain rfl : j = 11 := (by omega : j = 11); exact Option.some.inj hj)) d hq k
theorem r_istore_13 {a0 a1 a2 a3 a4 a5 a6 a7 a8 a9 a10 a11 a12 a13 : Option Value} {t : List (Option Value)} {x : Int32} (hi : 13 < nL) (hp : lc2 a12 = false) (d : decode cc pc = .ok (.istore 13, 2)) (hq : pc + 2 = q) (k : J G z cc nL own lvl mcT msT cells slots q (a0 :: a1 :: a2 :: a3 :: a4 :: a5 :: a6 :: a7 :: a8 :: a9 :: a10 :: a11 :: a12 :: some (.int x) :: t) stk n h) : J G z cc nL own lvl mcT msT cells slots pc (a0 :: a1 :: a2 :: a3 :: a4 :: a5 :: a6 :: a7 :: a8 :: a9 :: a10 :: a11 :: a12 :: a13 :: t) (.int x :: stk) n h := g_istore (lo := a0 :: a1 :: a2 :: a3 :: a4 :: a5 :: a6 :: a7 :: a8 :: a9 :: a10 :: a11 :: a12 :: a13 :: t) hi (fun j w e hj => lc2_ok hp (by obtain rfl : j = 12 := (by omega : j = 12); exact Option.some.inj hj)) d hq k
theorem r_istore_14 {a0 a1 a2 a3 a4 a5 a6 a7 a8 a9 a10 a11 a12 a13 a14 : Option Value} {t : List (Option Value)} {x : Int32} (hi : 14 < nL) (hp : lc2 a13 = false) (d : decode cc pc = .ok (.istore 14, 2)) (hq : pc + 2 = q) (k : J G z cc nL own lvl mcT msT cells slots q (a0 :: a1 :: a2 :: a3 :: a4 :: a5 :: a6 :: a7 :: a8 :: a9 :: a10 :: a11 :: a12 :: a13 :: some (.int x) :: t) stk n h) : J G z cc nL own lvl mcT msT cells slots pc (a0 :: a1 :: a2 :: a3 :: a4 :: a5 :: a6 :: a7 :: a8 :: a9 :: a10 :: a11 :: a12 :: a13 :: a14 :: t) (.int x :: stk) n h := g_istore (lo := a0 :: a1 :: a2 :: a3 :: a4 :: a5 :: a6 :: a7 :: a8 :: a9 :: a10 :: a11 :: a12 :: a13 :: a14 :: t) hi (fun j w e hj => lc2_ok hp (by obtain rfl : j = 13 := (by omega : j = 13); exact Option.some.inj hj)) d hq k
theorem r_istore_15 {a0 a1 a2 a3 a4 a5 a6 a7 a8 a9 a10 a11 a12 a13 a14 a15 : Option Value} {t : List (Option Value)} {x : Int32} (hi : 15 < nL) (hp : lc2 a14 = false) (d : decode cc pc = .ok (.istore 15, 2)) (hq : pc + 2 = q) (k : J G z cc nL own lvl mcT msT cells slots q (a0 :: a1 :: a2 :: a3 :: a4 :: a5 :: a6 :: a7 :: a8 :: a9 :: a10 :: a11 :: a12 :: a13 :: a14 :: some (.int x) :: t) stk n h) : J G z cc nL own lvl mcT msT cells slots pc (a0 :: a1 :: a2 :: a3 :: a4 :: a5 :: a6 :: a7 :: a8 :: a9 :: a10 :: a11 :: a12 :: a13 :: a14 :: a15 :: t) (.int x :: stk) n h := g_istore (lo := a0 :: a1 :: a2 :: a3 :: a4 :: a5 :: a6 :: a7 :: a8 :: a9 :: a10 :: a11 :: a12 :: a13 :: a14 :: a15 :: t) hi (fun j w e hj => lc2_ok hp (by obtain rfl : j = 14 := (by omega : j = 14); exact Option.some.inj hj)) d hq k
theorem r_astore_0 {a0 : Option Value} {t : List (Option Value)} {x : Nat} (hi : 0 < nL) (d : decode cc pc = .ok (.astore_n 0, 1)) (hq : pc + 1 = q) (k : J G z cc nL own lvl mcT msT cells slots q (some (.ref x) :: t) stk n h) : J G z cc nL own lvl mcT msT cells slots pc (a0 :: t) (.ref x :: stk) n h := g_astore_n (lo := a0 :: t) hi (fun j w e => absurd e (Nat.succ_ne_zero j)) d hq k
theorem r_astore_1 {a0 a1 : Option Value} {t : List (Option Value)} {x : Nat} (hi : 1 < nL) (hp : lc2 a0 = false) (d : decode cc pc = .ok (.astore_n 1, 1)) (hq : pc + 1 = q) (k : J G z cc nL own lvl mcT msT cells slots q (a0 :: some (.ref x) :: t) stk n h) : J G z cc nL own lvl mcT msT cells slots pc (a0 :: a1 :: t) (.ref x :: stk) n h := g_astore_n (lo := a0 :: a1 :: t) hi (fun j w e hj => lc2_ok hp (by obtain rfl : j = 0 := (by omega : j = 0); exact Option.some.inj hj)) d hq k
theorem r_astore_2 {a0 a1 a2 : Option Value} {t : List (Option Value)} {x : Nat} (hi : 2 < nL) (hp : lc2 a1 = false) (d : decode cc pc = .ok (.astore_n 2, 1)) (hq : pc + 1 = q) (k : J G z cc nL own lvl mcT msT cells slots q (a0 :: a1 :: some (.ref x) :: t) stk n h) : J G z cc nL own lvl mcT msT cells slots pc (a0 :: a1 :: a2 :: t) (.ref x :: stk) n h := g_astore_n (lo := a0 :: a1 :: a2 :: t) hi (fun j w e hj => lc2_ok hp (by obtain rfl : j = 1 := (by omega : j = 1); exact Option.some.inj hj)) d hq k
theorem r_astore_3 {a0 a1 a2 a3 : Option Value} {t : List (Option Value)} {x : Nat} (hi : 3 < nL) (hp : lc2 a2 = false) (d : decode cc pc = .ok (.astore_n 3, 1)) (hq : pc + 1 = q) (k : J G z cc nL own lvl mcT msT cells slots q (a0 :: a1 :: a2 :: some (.ref x) :: t) stk n h) : J G z cc nL own lvl mcT msT cells slots pc (a0 :: a1 :: a2 :: a3 :: t) (.ref x :: stk) n h := g_astore_n (lo := a0 :: a1 :: a2 :: a3 :: t) hi (fun j w e hj => lc2_ok hp (by obtain rfl : j = 2 := (by omega : j = 2); exact Option.some.inj hj)) d hq k
theorem r_astore_4 {a0 a1 a2 a3 a4 : Option Value} {t : List (Option Value)} {x : Nat} (hi : 4 < nL) (hp : lc2 a3 = false) (d : decode cc pc = .ok (.astore 4, 2)) (hq : pc + 2 = q) (k : J G z cc nL own lvl mcT msT cells slots q (a0 :: a1 :: a2 :: a3 :: some (.ref x) :: t) stk n h) : J G z cc nL own lvl mcT msT cells slots pc (a0 :: a1 :: a2 :: a3 :: a4 :: t) (.ref x :: stk) n h := g_astore (lo := a0 :: a1 :: a2 :: a3 :: a4 :: t) hi (fun j w e hj => lc2_ok hp (by obtain rfl : j = 3 := (by omega : j = 3); exact Option.some.inj hj)) d hq k
theorem r_astore_5 {a0 a1 a2 a3 a4 a5 : Option Value} {t : List (Option Value)} {x : Nat} (hi : 5 < nL) (hp : lc2 a4 = false) (d : decode cc pc = .ok (.astore 5, 2)) (hq : pc + 2 = q) (k : J G z cc nL own lvl mcT msT cells slots q (a0 :: a1 :: a2 :: a3 :: a4 :: some (.ref x) :: t) stk n h) : J G z cc nL own lvl mcT msT cells slots pc (a0 :: a1 :: a2 :: a3 :: a4 :: a5 :: t) (.ref x :: stk) n h := g_astore (lo := a0 :: a1 :: a2 :: a3 :: a4 :: a5 :: t) hi (fun j w e hj => lc2_ok hp (by obtain rfl : j = 4 := (by omega : j = 4); exact Option.some.inj hj)) d hq k
theorem r_astore_6 {a0 a1 a2 a3 a4 a5 a6 : Option Value} {t : List (Option Value)} {x : Nat} (hi : 6 < nL) (hp : lc2 a5 = false) (d : decode cc pc = .ok (.astore 6, 2)) (hq : pc + 2 = q) (k : J G z cc nL own lvl mcT msT cells slots q (a0 :: a1 :: a2 :: a3 :: a4 :: a5 :: some (.ref x) :: t) stk n h) : J G z cc nL own lvl mcT msT cells slots pc (a0 :: a1 :: a2 :: a3 :: a4 :: a5 :: a6 :: t) (.ref x :: stk) n h := g_astore (lo := a0 :: a1 :: a2 :: a3 :: a4 :: a5 :: a6 :: t) hi (fun j w e hj => lc2_ok hp (by obtain rfl : j = 5 := (by omega : j = 5); exact Option.some.inj hj)) d hq k
theorem r_astore_7 {a0 a1 a2 a3 a4 a5 a6 a7 : Option Value} {t : List (Option Value)} {x : Nat} (hi : 7 < nL) (hp : lc2 a6 = false) (d : decode cc pc = .ok (.astore 7, 2)) (hq : pc + 2 = q) (k : J G z cc nL own lvl mcT msT cells slots q (a0 :: a1 :: a2 :: a3 :: a4 :: a5 :: a6 :: some (.ref x) :: t) stk n h) : J G z cc nL own lvl mcT msT cells slots pc (a0 :: a1 :: a2 :: a3 :: a4 :: a5 :: a6 :: a7 :: t) (.ref x :: stk) n h := g_astore (lo := a0 :: a1 :: a2 :: a3 :: a4 :: a5 :: a6 :: a7 :: t) hi (fun j w e hj => lc2_ok hp (by obtain rfl : j = 6 := (by omega : j = 6); exact Option.some.inj hj)) d hq k
theorem r_astore_8 {a0 a1 a2 a3 a4 a5 a6 a7 a8 : Option Value} {t : List (Option Value)} {x : Nat} (hi : 8 < nL) (hp : lc2 a7 = false) (d : decode cc pc = .ok (.astore 8, 2)) (hq : pc + 2 = q) (k : J G z cc nL own lvl mcT msT cells slots q (a0 :: a1 :: a2 :: a3 :: a4 :: a5 :: a6 :: a7 :: some (.ref x) :: t) stk n h) : J G z cc nL own lvl mcT msT cells slots pc (a0 :: a1 :: a2 :: a3 :: a4 :: a5 :: a6 :: a7 :: a8 :: t) (.ref x :: stk) n h := g_astore (lo := a0 :: a1 :: a2 :: a3 :: a4 :: a5 :: a6 :: a7 :: a8 :: t) hi (fun j w e hj => lc2_ok hp (by obtain rfl : j = 7 := (by omega : j = 7); exact Option.some.inj hj)) d hq k
theorem r_astore_9 {a0 a1 a2 a3 a4 a5 a6 a7 a8 a9 : Option Value} {t : List (Option Value)} {x : Nat} (hi : 9 < nL) (hp : lc2 a8 = false) (d : decode cc pc = .ok (.astore 9, 2)) (hq : pc + 2 = q) (k : J G z cc nL own lvl mcT msT cells slots q (a0 :: a1 :: a2 :: a3 :: a4 :: a5 :: a6 :: a7 :: a8 :: some (.ref x) :: t) stk n h) : J G z cc nL own lvl mcT msT cells slots pc (a0 :: a1 :: a2 :: a3 :: a4 :: a5 :: a6 :: a7 :: a8 :: a9 :: t) (.ref x :: stk) n h := g_astore (lo := a0 :: a1 :: a2 :: a3 :: a4 :: a5 :: a6 :: a7 :: a8 :: a9 :: t) hi (fun j w e hj => lc2_ok hp (by obtain rfl : j = 8 := (by omega : j = 8); exact Option.some.inj hj)) d hq k
theorem r_astore_10 {a0 a1 a2 a3 a4 a5 a6 a7 a8 a9 a10 : Option Value} {t : List (Option Value)} {x : Nat} (hi : 10 < nL) (hp : lc2 a9 = false) (d : decode cc pc = .ok (.astore 10, 2)) (hq : pc + 2 = q) (k : J G z cc nL own lvl mcT msT cells slots q (a0 :: a1 :: a2 :: a3 :: a4 :: a5 :: a6 :: a7 :: a8 :: a9 :: some (.ref x) :: t) stk n h) : J G z cc nL own lvl mcT msT cells slots pc (a0 :: a1 :: a2 :: a3 :: a4 :: a5 :: a6 :: a7 :: a8 :: a9 :: a10 :: t) (.ref x :: stk) n h := g_astore (lo := a0 :: a1 :: a2 :: a3 :: a4 :: a5 :: a6 :: a7 :: a8 :: a9 :: a10 :: t) hi (fun j w e hj => lc2_ok hp (by obtain rfl : j = 9 := (by omega : j = 9); exact Option.some.inj hj)) d hq k
theorem r_astore_11 {a0 a1 a2 a3 a4 a5 a6 a7 a8 a9 a10 a11 : Option Value} {t : List (Option Value)} {x : Nat} (hi : 11 < nL) (hp : lc2 a10 = false) (d : decode cc pc = .ok (.astore 11, 2)) (hq : pc + 2 = q) (k : J G z cc nL own lvl mcT msT cells slots q (a0 :: a1 :: a2 :: a3 :: a4 :: a5 :: a6 :: a7 :: a8 :: a9 :: a10 :: some (.ref x) :: t) stk n h) : J G z cc nL own lvl mcT msT cells slots pc (a0 :: a1 :: a2 :: a3 :: a4 :: a5 :: a6 :: a7 :: a8 :: a9 :: a10 :: a11 :: t) (.ref x :: stk) n h := g_astore (lo := a0 :: a1 :: a2 :: a3 :: a4 :: a5 :: a6 :: a7 :: a8 :: a9 :: a10 :: a11 :: t) hi (fun j w e hj => lc2_ok hp (by obtain rfl : j = 10 := (by omega : j = 10); exact Option.some.inj hj)) d hq k
theorem r_astore_12 {a0 a1 a2 a3 a4 a5 a6 a7 a8 a9 a10 a11 a12 : Option Value} {t : List (Option Value)} {x : Nat} (hi : 12 < nL) (hp : lc2 a11 = false) (d : decode cc pc = .ok (.astore 12, 2)) (hq : pc + 2 = q) (k : J G z cc nL own lvl mcT msT cells slots q (a0 :: a1 :: a2 :: a3 :: a4 :: a5 :: a6 :: a7 :: a8 :: a9 :: a10 :: a11 :: some (.ref x) :: t) stk n h) : J G z cc nL own lvl mcT msT cells slots pc (a0 :: a1 :: a2 :: a3 :: a4 :: a5 :: a6 :: a7 :: a8 :: a9 :: a10 :: a11 :: a12 :: t) (.ref x :: stk) n h := g_astore (lo := a0 :: a1 :: a2 :: a3 :: a4 :: a5 :: a6 :: a7 :: a8 :: a9 :: a10 :: a11 :: a12 :: t) hi (fun j w e hj => lc2_ok hp (by obtain rfl : j = 11 := (by omega : j = 11); exact Option.some.inj hj)) d hq k
theorem r_astore_13 {a0 a1 a2 a3 a4 a5 a6 a7 a8 a9 a10 a11 a12 a13 : Option Value} {t : List (Option Value)} {x : Nat} (hi : 13 < nL) (hp : lc2 a12 = false) (d : decode cc pc = .ok (.astore 13, 2)) (hq : pc + 2 = q) (k : J G z cc nL own lvl mcT msT cells slots q (a0 :: a1 :: a2 :: a3 :: a4 :: a5 :: a6 :: a7 :: a8 :: a9 :: a10 :: a11 :: a12 :: some (.ref x) :: t) stk n h) : J G z cc nL own lvl mcT msT cells slots pc (a0 :: a1 :: a2 :: a3 :: a4 :: a5 :: a6 :: a7 :: a8 :: a9 :: a10 :: a11 :: a12 :: a13 :: t) (.ref x :: stk) n h := g_astore (lo := a0 :: a1 :: a2 :: a3 :: a4 :: a5 :: a6 :: a7 :: a8 :: a9 :: a10 :: a11 :: a12 :: a13 :: t) hi (fun j w e hj => lc2_ok hp (by obtain rfl : j = 12 := (by omega : j = 12); exact Option.some.inj hj)) d hq k
theorem r_astore_14 {a0 a1 a2 a3 a4 a5 a6 a7 a8 a9 a10 a11 a12 a13 a14 : Option Value} {t : List (Option Value)} {x : Nat} (hi : 14 < nL) (hp : lc2 a13 = false) (d : decode cc pc = .ok (.astore 14, 2)) (hq : pc + 2 = q) (k : J G z cc nL own lvl mcT msT cells slots q (a0 :: a1 :: a2 :: a3 :: a4 :: a5 :: a6 :: a7 :: a8 :: a9 :: a10 :: a11 :: a12 :: a13 :: some (.ref x) :: t) stk n h) : J G z cc nL own lvl mcT msT cells slots pc (a0 :: a1 :: a2 :: a3 :: a4 :: a5 :: a6 :: a7 :: a8 :: a9 :: a10 :: a11 :: a12 :: a13 :: a14 :: t) (.ref x :: stk) n h := g_astore (lo := a0 :: a1 :: a2 :: a3 :: a4 :: a5 :: a6 :: a7 :: a8 :: a9 :: a10 :: a11 :: a12 :: a13 :: a14 :: t) hi (fun j w e hj => lc2_ok hp (by obtain rfl : j = 13 := (by omega : j = 13); exact Option.some.inj hj)) d hq k
theorem r_astore_15 {a0 a1 a2 a3 a4 a5 a6 a7 a8 a9 a10 a11 a12 a13 a14 a15 : Option Value} {t : List (Option Value)} {x : Nat} (hi : 15 < nL) (hp : lc2 a14 = false) (d : decode cc pc = .ok (.astore 15, 2)) (hq : pc + 2 = q) (k : J G z cc nL own lvl mcT msT cells slots q (a0 :: a1 :: a2 :: a3 :: a4 :: a5 :: a6 :: a7 :: a8 :: a9 :: a10 :: a11 :: a12 :: a13 :: a14 :: some (.ref x) :: t) stk n h) : J G z cc nL own lvl mcT msT cells slots pc (a0 :: a1 :: a2 :: a3 :: a4 :: a5 :: a6 :: a7 :: a8 :: a9 :: a10 :: a11 :: a12 :: a13 :: a14 :: a15 :: t) (.ref x :: stk) n h := g_astore (lo := a0 :: a1 :: a2 :: a3 :: a4 :: a5 :: a6 :: a7 :: a8 :: a9 :: a10 :: a11 :: a12 :: a13 :: a14 :: a15 :: t) hi (fun j w e hj => lc2_ok hp (by obtain rfl : j = 14 := (by omega : j = 14); exact Option.some.inj hj)) d hq k
theorem r_lstore_0 {a0 a1 : Option Value} {t : List (Option Value)} {x : Int64} (hi : 0 + 1 < nL) (d : decode cc pc = .ok (.lstore_n 0, 1)) (hq : pc + 1 = q) (k : J G z cc nL own lvl mcT msT cells slots q (some (.long x) :: none :: t) stk n h) : J G z cc nL own lvl mcT msT cells slots pc (a0 :: a1 :: t) (.long x :: stk) n h := g_lstore_n (lo := a0 :: a1 :: t) hi (fun j w e => absurd e (Nat.succ_ne_zero j)) d hq k
theorem r_lstore_1 {a0 a1 a2 : Option Value} {t : List (Option Value)} {x : Int64} (hi : 1 + 1 < nL) (hp : lc2 a0 = false) (d : decode cc pc = .ok (.lstore_n 1, 1)) (hq : pc + 1 = q) (k : J G z cc nL own lvl mcT msT cells slots q (a0 :: some (.long x) :: none :: t) stk n h) : J G z cc nL own lvl mcT msT cells slots pc (a0 :: a1 :: a2 :: t) (.long x :: stk) n h := g_lstore_n (lo := a0 :: a1 :: a2 :: t) hi (fun j w e hj => lc2_ok hp (by obtain rfl : j = 0 := (by omega : j = 0); exact Option.some.inj hj)) d hq k
theorem r_lstore_2 {a0 a1 a2 a3 : Option Value} {t : List (Option Value)} {x : Int64} (hi : 2 + 1 < nL) (hp : lc2 a1 = false) (d : decode cc pc = .ok (.lstore_n 2, 1)) (hq : pc + 1 = q) (k : J G z cc nL own lvl mcT msT cells slots q (a0 :: a1 :: some (.long x) :: none :: t) stk n h) : J G z cc nL own lvl mcT msT cells slots pc (a0 :: a1 :: a2 :: a3 :: t) (.long x :: stk) n h := g_lstore_n (lo := a0 :: a1 :: a2 :: a3 :: t) hi (fun j w e hj => lc2_ok hp (by obtain rfl : j = 1 := (by omega : j = 1); exact Option.some.inj hj)) d hq k
theorem r_lstore_3 {a0 a1 a2 a3 a4 : Option Value} {t : List (Option Value)} {x : Int64} (hi : 3 + 1 < nL) (hp : lc2 a2 = false) (d : decode cc pc = .ok (.lstore_n 3, 1)) (hq : pc + 1 = q) (k : J G z cc nL own lvl mcT msT cells slots q (a0 :: a1 :: a2 :: some (.long x) :: none :: t) stk n h) : J G z cc nL own lvl mcT msT cells slots pc (a0 :: a1 :: a2 :: a3 :: a4 :: t) (.long x :: stk) n h := g_lstore_n (lo := a0 :: a1 :: a2 :: a3 :: a4 :: t) hi (fun j w e hj => lc2_ok hp (by obtain rfl : j = 2 := (by omega : j = 2); exact Option.some.inj hj)) d hq k
theorem r_lstore_4 {a0 a1 a2 a3 a4 a5 : Option Value} {t : List (Option Value)} {x : Int64} (hi : 4 + 1 < nL) (hp : lc2 a3 = false) (d : decode cc pc = .ok (.lstore 4, 2)) (hq : pc + 2 = q) (k : J G z cc nL own lvl mcT msT cells slots q (a0 :: a1 :: a2 :: a3 :: some (.long x) :: none :: t) stk n h) : J G z cc nL own lvl mcT msT cells slots pc (a0 :: a1 :: a2 :: a3 :: a4 :: a5 :: t) (.long x :: stk) n h := g_lstore (lo := a0 :: a1 :: a2 :: a3 :: a4 :: a5 :: t) hi (fun j w e hj => lc2_ok hp (by obtain rfl : j = 3 := (by omega : j = 3); exact Option.some.inj hj)) d hq k
theorem r_lstore_5 {a0 a1 a2 a3 a4 a5 a6 : Option Value} {t : List (Option Value)} {x : Int64} (hi : 5 + 1 < nL) (hp : lc2 a4 = false) (d : decode cc pc = .ok (.lstore 5, 2)) (hq : pc + 2 = q) (k : J G z cc nL own lvl mcT msT cells slots q (a0 :: a1 :: a2 :: a3 :: a4 :: some (.long x) :: none :: t) stk n h) : J G z cc nL own lvl mcT msT cells slots pc (a0 :: a1 :: a2 :: a3 :: a4 :: a5 :: a6 :: t) (.long x :: stk) n h := g_lstore (lo := a0 :: a1 :: a2 :: a3 :: a4 :: a5 :: a6 :: t) hi (fun j w e hj => lc2_ok hp (by obtain rfl : j = 4 := (by omega : j = 4); exact Option.some.inj hj)) d hq k
theorem r_lstore_6 {a0 a1 a2 a3 a4 a5 a6 a7 : Option Value} {t : List (Option Value)} {x : Int64} (hi : 6 + 1 < nL) (hp : lc2 a5 = false) (d : decode cc pc = .ok (.lstore 6, 2)) (hq : pc + 2 = q) (k : J G z cc nL own lvl mcT msT cells slots q (a0 :: a1 :: a2 :: a3 :: a4 :: a5 :: some (.long x) :: none :: t) stk n h) : J G z cc nL own lvl mcT msT cells slots pc (a0 :: a1 :: a2 :: a3 :: a4 :: a5 :: a6 :: a7 :: t) (.long x :: stk) n h := g_lstore (lo := a0 :: a1 :: a2 :: a3 :: a4 :: a5 :: a6 :: a7 :: t) hi (fun j w e hj => lc2_ok hp (by obtain rfl : j = 5 := (by omega : j = 5); exact Option.some.inj hj)) d hq k
theorem r_lstore_7 {a0 a1 a2 a3 a4 a5 a6 a7 a8 : Option Value} {t : List (Option Value)} {x : Int64} (hi : 7 + 1 < nL) (hp : lc2 a6 = false) (d : decode cc pc = .ok (.lstore 7, 2)) (hq : pc + 2 = q) (k : J G z cc nL own lvl mcT msT cells slots q (a0 :: a1 :: a2 :: a3 :: a4 :: a5 :: a6 :: some (.long x) :: none :: t) stk n h) : J G z cc nL own lvl mcT msT cells slots pc (a0 :: a1 :: a2 :: a3 :: a4 :: a5 :: a6 :: a7 :: a8 :: t) (.long x :: stk) n h := g_lstore (lo := a0 :: a1 :: a2 :: a3 :: a4 :: a5 :: a6 :: a7 :: a8 :: t) hi (fun j w e hj => lc2_ok hp (by obtain rfl : j = 6 := (by omega : j = 6); exact Option.some.inj hj)) d hq k
theorem r_lstore_8 {a0 a1 a2 a3 a4 a5 a6 a7 a8 a9 : Option Value} {t : List (Option Value)} {x : Int64} (hi : 8 + 1 < nL) (hp : lc2 a7 = false) (d : decode cc pc = .ok (.lstore 8, 2)) (hq : pc + 2 = q) (k : J G z cc nL own lvl mcT msT cells slots q (a0 :: a1 :: a2 :: a3 :: a4 :: a5 :: a6 :: a7 :: some (.long x) :: none :: t) stk n h) : J G z cc nL own lvl mcT msT cells slots pc (a0 :: a1 :: a2 :: a3 :: a4 :: a5 :: a6 :: a7 :: a8 :: a9 :: t) (.long x :: stk) n h := g_lstore (lo := a0 :: a1 :: a2 :: a3 :: a4 :: a5 :: a6 :: a7 :: a8 :: a9 :: t) hi (fun j w e hj => lc2_ok hp (by obtain rfl : j = 7 := (by omega : j = 7); exact Option.some.inj hj)) d hq k
theorem r_lstore_9 {a0 a1 a2 a3 a4 a5 a6 a7 a8 a9 a10 : Option Value} {t : List (Option Value)} {x : Int64} (hi : 9 + 1 < nL) (hp : lc2 a8 = false) (d : decode cc pc = .ok (.lstore 9, 2)) (hq : pc + 2 = q) (k : J G z cc nL own lvl mcT msT cells slots q (a0 :: a1 :: a2 :: a3 :: a4 :: a5 :: a6 :: a7 :: a8 :: some (.long x) :: none :: t) stk n h) : J G z cc nL own lvl mcT msT cells slots pc (a0 :: a1 :: a2 :: a3 :: a4 :: a5 :: a6 :: a7 :: a8 :: a9 :: a10 :: t) (.long x :: stk) n h := g_lstore (lo := a0 :: a1 :: a2 :: a3 :: a4 :: a5 :: a6 :: a7 :: a8 :: a9 :: a10 :: t) hi (fun j w e hj => lc2_ok hp (by obtain rfl : j = 8 := (by omega : j = 8); exact Option.some.inj hj)) d hq k
theorem r_lstore_10 {a0 a1 a2 a3 a4 a5 a6 a7 a8 a9 a10 a11 : Option Value} {t : List (Option Value)} {x : Int64} (hi : 10 + 1 < nL) (hp : lc2 a9 = false) (d : decode cc pc = .ok (.lstore 10, 2)) (hq : pc + 2 = q) (k : J G z cc nL own lvl mcT msT cells slots q (a0 :: a1 :: a2 :: a3 :: a4 :: a5 :: a6 :: a7 :: a8 :: a9 :: some (.long x) :: none :: t) stk n h) : J G z cc nL own lvl mcT msT cells slots pc (a0 :: a1 :: a2 :: a3 :: a4 :: a5 :: a6 :: a7 :: a8 :: a9 :: a10 :: a11 :: t) (.long x :: stk) n h := g_lstore (lo := a0 :: a1 :: a2 :: a3 :: a4 :: a5 :: a6 :: a7 :: a8 :: a9 :: a10 :: a11 :: t) hi (fun j w e hj => lc2_ok hp (by obtain rfl : j = 9 := (by omega : j = 9); exact Option.some.inj hj)) d hq k
theorem r_lstore_11 {a0 a1 a2 a3 a4 a5 a6 a7 a8 a9 a10 a11 a12 : Option Value} {t : List (Option Value)} {x : Int64} (hi : 11 + 1 < nL) (hp : lc2 a10 = false) (d : decode cc pc = .ok (.lstore 11, 2)) (hq : pc + 2 = q) (k : J G z cc nL own lvl mcT msT cells slots q (a0 :: a1 :: a2 :: a3 :: a4 :: a5 :: a6 :: a7 :: a8 :: a9 :: a10 :: some (.long x) :: none :: t) stk n h) : J G z cc nL own lvl mcT msT cells slots pc (a0 :: a1 :: a2 :: a3 :: a4 :: a5 :: a6 :: a7 :: a8 :: a9 :: a10 :: a11 :: a12 :: t) (.long x :: stk) n h := g_lstore (lo := a0 :: a1 :: a2 :: a3 :: a4 :: a5 :: a6 :: a7 :: a8 :: a9 :: a10 :: a11 :: a12 :: t) hi (fun j w e hj => lc2_ok hp (by obtain rfl : j = 10 := (by omega : j = 10); exact Option.some.inj hj)) d hq k
theorem r_lstore_12 {a0 a1 a2 a3 a4 a5 a6 a7 a8 a9 a10 a11 a12 a13 : Option Value} {t : List (Option Value)} {x : Int64} (hi : 12 + 1 < nL) (hp : lc2 a11 = false) (d : decode cc pc = .ok (.lstore 12, 2)) (hq : pc + 2 = q) (k : J G z cc nL own lvl mcT msT cells slots q (a0 :: a1 :: a2 :: a3 :: a4 :: a5 :: a6 :: a7 :: a8 :: a9 :: a10 :: a11 :: some (.long x) :: none :: t) stk n h) : J G z cc nL own lvl mcT msT cells slots pc (a0 :: a1 :: a2 :: a3 :: a4 :: a5 :: a6 :: a7 :: a8 :: a9 :: a10 :: a11 :: a12 :: a13 :: t) (.long x :: stk) n h := g_lstore (lo := a0 :: a1 :: a2 :: a3 :: a4 :: a5 :: a6 :: a7 :: a8 :: a9 :: a10 :: a11 :: a12 :: a13 :: t) hi (fun j w e hj => lc2_ok hp (by obtain rfl : j = 11 := (by omega : j = 11); exact Option.some.inj hj)) d hq k
theorem r_lstore_13 {a0 a1 a2 a3 a4 a5 a6 a7 a8 a9 a10 a11 a12 a13 a14 : Option Value} {t : List (Option Value)} {x : Int64} (hi : 13 + 1 < nL) (hp : lc2 a12 = false) (d : decode cc pc = .ok (.lstore 13, 2)) (hq : pc + 2 = q) (k : J G z cc nL own lvl mcT msT cells slots q (a0 :: a1 :: a2 :: a3 :: a4 :: a5 :: a6 :: a7 :: a8 :: a9 :: a10 :: a11 :: a12 :: some (.long x) :: none :: t) stk n h) : J G z cc nL own lvl mcT msT cells slots pc (a0 :: a1 :: a2 :: a3 :: a4 :: a5 :: a6 :: a7 :: a8 :: a9 :: a10 :: a11 :: a12 :: a13 :: a14 :: t) (.long x :: stk) n h := g_lstore (lo := a0 :: a1 :: a2 :: a3 :: a4 :: a5 :: a6 :: a7 :: a8 :: a9 :: a10 :: a11 :: a12 :: a13 :: a14 :: t) hi (fun j w e hj => lc2_ok hp (by obtain rfl : j = 12 := (by omega : j = 12); exact Option.some.inj hj)) d hq k
theorem r_lstore_14 {a0 a1 a2 a3 a4 a5 a6 a7 a8 a9 a10 a11 a12 a13 a14 a15 : Option Value} {t : List (Option Value)} {x : Int64} (hi : 14 + 1 < nL) (hp : lc2 a13 = false) (d : decode cc pc = .ok (.lstore 14, 2)) (hq : pc + 2 = q) (k : J G z cc nL own lvl mcT msT cells slots q (a0 :: a1 :: a2 :: a3 :: a4 :: a5 :: a6 :: a7 :: a8 :: a9 :: a10 :: a11 :: a12 :: a13 :: some (.long x) :: none :: t) stk n h) : J G z cc nL own lvl mcT msT cells slots pc (a0 :: a1 :: a2 :: a3 :: a4 :: a5 :: a6 :: a7 :: a8 :: a9 :: a10 :: a11 :: a12 :: a13 :: a14 :: a15 :: t) (.long x :: stk) n h := g_lstore (lo := a0 :: a1 :: a2 :: a3 :: a4 :: a5 :: a6 :: a7 :: a8 :: a9 :: a10 :: a11 :: a12 :: a13 :: a14 :: a15 :: t) hi (fun j w e hj => lc2_ok hp (by obtain rfl : j = 13 := (by omega : j = 13); exact Option.some.inj hj)) d hq k
theorem r_lstore_15 {a0 a1 a2 a3 a4 a5 a6 a7 a8 a9 a10 a11 a12 a13 a14 a15 a16 : Option Value} {t : List (Option Value)} {x : Int64} (hi : 15 + 1 < nL) (hp : lc2 a14 = false) (d : decode cc pc = .ok (.lstore 15, 2)) (hq : pc + 2 = q) (k : J G z cc nL own lvl mcT msT cells slots q (a0 :: a1 :: a2 :: a3 :: a4 :: a5 :: a6 :: a7 :: a8 :: a9 :: a10 :: a11 :: a12 :: a13 :: a14 :: some (.long x) :: none :: t) stk n h) : J G z cc nL own lvl mcT msT cells slots pc (a0 :: a1 :: a2 :: a3 :: a4 :: a5 :: a6 :: a7 :: a8 :: a9 :: a10 :: a11 :: a12 :: a13 :: a14 :: a15 :: a16 :: t) (.long x :: stk) n h := g_lstore (lo := a0 :: a1 :: a2 :: a3 :: a4 :: a5 :: a6 :: a7 :: a8 :: a9 :: a10 :: a11 :: a12 :: a13 :: a14 :: a15 :: a16 :: t) hi (fun j w e hj => lc2_ok hp (by obtain rfl : j = 14 := (by omega : j = 14); exact Option.some.inj hj)) d hq k
theorem r_iinc_0 {t : List (Option Value)} {b : Int} {x : Int32} (v : Int32) (hv : x + Int32.ofInt b = v) (hi : 0 < nL) (d : decode cc pc = .ok (.iinc 0 b, 3)) (hq : pc + 3 = q) (k : J G z cc nL own lvl mcT msT cells slots q (some (.int v) :: t) stk n h) : J G z cc nL own lvl mcT msT cells slots pc (some (.int x) :: t) stk n h := g_iinc (lo := some (.int x) :: t) rfl hi (fun j w e => absurd e (Nat.succ_ne_zero j)) hv d hq k
theorem r_inc_0 {t : List (Option Value)} {x : Nat} (hi : 0 < nL) (d : decode cc pc = .ok (.iinc 0 1, 3)) (hq : pc + 3 = q) (k : J G z cc nL own lvl mcT msT cells slots q (some (.int (nI (x + 1))) :: t) stk n h) : J G z cc nL own lvl mcT msT cells slots pc (some (.int (nI x)) :: t) stk n h := g_iinc (lo := some (.int (nI x)) :: t) rfl hi (fun j w e => absurd e (Nat.succ_ne_zero j)) (nI_succ x).symm d hq k
theorem r_iinc_1 {a0 : Option Value} {t : List (Option Value)} {b : Int} {x : Int32} (v : Int32) (hv : x + Int32.ofInt b = v) (hi : 1 < nL) (hp : lc2 a0 = false) (d : decode cc pc = .ok (.iinc 1 b, 3)) (hq : pc + 3 = q) (k : J G z cc nL own lvl mcT msT cells slots q (a0 :: some (.int v) :: t) stk n h) : J G z cc nL own lvl mcT msT cells slots pc (a0 :: some (.int x) :: t) stk n h := g_iinc (lo := a0 :: some (.int x) :: t) rfl hi (fun j w e hj => lc2_ok hp (by obtain rfl : j = 0 := (by omega : j = 0); exact Option.some.inj hj)) hv d hq k
theorem r_inc_1 {a0 : Option Value} {t : List (Option Value)} {x : Nat} (hi : 1 < nL) (hp : lc2 a0 = false) (d : decode cc pc = .ok (.iinc 1 1, 3)) (hq : pc + 3 = q) (k : J G z cc nL own lvl mcT msT cells slots q (a0 :: some (.int (nI (x + 1))) :: t) stk n h) : J G z cc nL own lvl mcT msT cells slots pc (a0 :: some (.int (nI x)) :: t) stk n h := g_iinc (lo := a0 :: some (.int (nI x)) :: t) rfl hi (fun j w e hj => lc2_ok hp (by obtain rfl : j = 0 := (by omega : j = 0); exact Option.some.inj hj)) (nI_succ x).symm d hq k
theorem r_iinc_2 {a0 a1 : Option Value} {t : List (Option Value)} {b : Int} {x : Int32} (v : Int32) (hv : x + Int32.ofInt b = v) (hi : 2 < nL) (hp : lc2 a1 = false) (d : decode cc pc = .ok (.iinc 2 b, 3)) (hq : pc + 3 = q) (k : J G z cc nL own lvl mcT msT cells slots q (a0 :: a1 :: some (.int v) :: t) stk n h) : J G z cc nL own lvl mcT msT cells slots pc (a0 :: a1 :: some (.int x) :: t) stk n h := g_iinc (lo := a0 :: a1 :: some (.int x) :: t) rfl hi (fun j w e hj => lc2_ok hp (by obtain rfl : j = 1 := (by omega : j = 1); exact Option.some.inj hj)) hv d hq k
theorem r_inc_2 {a0 a1 : Option Value} {t : List (Option Value)} {x : Nat} (hi : 2 < nL) (hp : lc2 a1 = false) (d : decode cc pc = .ok (.iinc 2 1, 3)) (hq : pc + 3 = q) (k : J G z cc nL own lvl mcT msT cells slots q (a0 :: a1 :: some (.int (nI (x + 1))) :: t) stk n h) : J G z cc nL own lvl mcT msT cells slots pc (a0 :: a1 :: some (.int (nI x)) :: t) stk n h := g_iinc (lo := a0 :: a1 :: some (.int (nI x)) :: t) rfl hi (fun j w e hj => lc2_ok hp (by obtain rfl : j = 1 := (by omega : j = 1); exact Option.some.inj hj)) (nI_succ x).symm d hq k
theorem r_iinc_3 {a0 a1 a2 : Option Value} {t : List (Option Value)} {b : Int} {x : Int32} (v : Int32) (hv : x + Int32.ofInt b = v) (hi : 3 < nL) (hp : lc2 a2 = false) (d : decode cc pc = .ok (.iinc 3 b, 3)) (hq : pc + 3 = q) (k : J G z cc nL own lvl mcT msT cells slots q (a0 :: a1 :: a2 :: some (.int v) :: t) stk n h) : J G z cc nL own lvl mcT msT cells slots pc (a0 :: a1 :: a2 :: some (.int x) :: t) stk n h := g_iinc (lo := a0 :: a1 :: a2 :: some (.int x) :: t) rfl hi (fun j w e hj => lc2_ok hp (by obtain rfl : j = 2 := (by omega : j = 2); exact Option.some.inj hj)) hv d hq k
theorem r_inc_3 {a0 a1 a2 : Option Value} {t : List (Option Value)} {x : Nat} (hi : 3 < nL) (hp : lc2 a2 = false) (d : decode cc pc = .ok (.iinc 3 1, 3)) (hq : pc + 3 = q) (k : J G z cc nL own lvl mcT msT cells slots q (a0 :: a1 :: a2 :: some (.int (nI (x + 1))) :: t) stk n h) : J G z cc nL own lvl mcT msT cells slots pc (a0 :: a1 :: a2 :: some (.int (nI x)) :: t) stk n h := g_iinc (lo := a0 :: a1 :: a2 :: some (.int (nI x)) :: t) rfl hi (fun j w e hj => lc2_ok hp (by obtain rfl : j = 2 := (by omega : j = 2); exact Option.some.inj hj)) (nI_succ x).symm d hq k
theorem r_iinc_4 {a0 a1 a2 a3 : Option Value} {t : List (Option Value)} {b : Int} {x : Int32} (v : Int32) (hv : x + Int32.ofInt b = v) (hi : 4 < nL) (hp : lc2 a3 = false) (d : decode cc pc = .ok (.iinc 4 b, 3)) (hq : pc + 3 = q) (k : J G z cc nL own lvl mcT msT cells slots q (a0 :: a1 :: a2 :: a3 :: some (.int v) :: t) stk n h) : J G z cc nL own lvl mcT msT cells slots pc (a0 :: a1 :: a2 :: a3 :: some (.int x) :: t) stk n h := g_iinc (lo := a0 :: a1 :: a2 :: a3 :: some (.int x) :: t) rfl hi (fun j w e hj => lc2_ok hp (by obtain rfl : j = 3 := (by omega : j = 3); exact Option.some.inj hj)) hv d hq k
theorem r_inc_4 {a0 a1 a2 a3 : Option Value} {t : List (Option Value)} {x : Nat} (hi : 4 < nL) (hp : lc2 a3 = false) (d : decode cc pc = .ok (.iinc 4 1, 3)) (hq : pc + 3 = q) (k : J G z cc nL own lvl mcT msT cells slots q (a0 :: a1 :: a2 :: a3 :: some (.int (nI (x + 1))) :: t) stk n h) : J G z cc nL own lvl mcT msT cells slots pc (a0 :: a1 :: a2 :: a3 :: some (.int (nI x)) :: t) stk n h := g_iinc (lo := a0 :: a1 :: a2 :: a3 :: some (.int (nI x)) :: t) rfl hi (fun j w e hj => lc2_ok hp (by obtain rfl : j = 3 := (by omega : j = 3); exact Option.some.inj hj)) (nI_succ x).symm d hq k
theorem r_iinc_5 {a0 a1 a2 a3 a4 : Option Value} {t : List (Option Value)} {b : Int} {x : Int32} (v : Int32) (hv : x + Int32.ofInt b = v) (hi : 5 < nL) (hp : lc2 a4 = false) (d : decode cc pc = .ok (.iinc 5 b, 3)) (hq : pc + 3 = q) (k : J G z cc nL own lvl mcT msT cells slots q (a0 :: a1 :: a2 :: a3 :: a4 :: some (.int v) :: t) stk n h) : J G z cc nL own lvl mcT msT cells slots pc (a0 :: a1 :: a2 :: a3 :: a4 :: some (.int x) :: t) stk n h := g_iinc (lo := a0 :: a1 :: a2 :: a3 :: a4 :: some (.int x) :: t) rfl hi (fun j w e hj => lc2_ok hp (by obtain rfl : j = 4 := (by omega : j = 4); exact Option.some.inj hj)) hv d hq k
theorem r_inc_5 {a0 a1 a2 a3 a4 : Option Value} {t : List (Option Value)} {x : Nat} (hi : 5 < nL) (hp : lc2 a4 = false) (d : decode cc pc = .ok (.iinc 5 1, 3)) (hq : pc + 3 = q) (k : J G z cc nL own lvl mcT msT cells slots q (a0 :: a1 :: a2 :: a3 :: a4 :: some (.int (nI (x + 1))) :: t) stk n h) : J G z cc nL own lvl mcT msT cells slots pc (a0 :: a1 :: a2 :: a3 :: a4 :: some (.int (nI x)) :: t) stk n h := g_iinc (lo := a0 :: a1 :: a2 :: a3 :: a4 :: some (.int (nI x)) :: t) rfl hi (fun j w e hj => lc2_ok hp (by obtain rfl : j = 4 := (by omega : j = 4); exact Option.some.inj hj)) (nI_succ x).symm d hq k
theorem r_iinc_6 {a0 a1 a2 a3 a4 a5 : Option Value} {t : List (Option Value)} {b : Int} {x : Int32} (v : Int32) (hv : x + Int32.ofInt b = v) (hi : 6 < nL) (hp : lc2 a5 = false) (d : decode cc pc = .ok (.iinc 6 b, 3)) (hq : pc + 3 = q) (k : J G z cc nL own lvl mcT msT cells slots q (a0 :: a1 :: a2 :: a3 :: a4 :: a5 :: some (.int v) :: t) stk n h) : J G z cc nL own lvl mcT msT cells slots pc (a0 :: a1 :: a2 :: a3 :: a4 :: a5 :: some (.int x) :: t) stk n h := g_iinc (lo := a0 :: a1 :: a2 :: a3 :: a4 :: a5 :: some (.int x) :: t) rfl hi (fun j w e hj => lc2_ok hp (by obtain rfl : j = 5 := (by omega : j = 5); exact Option.some.inj hj)) hv d hq k
theorem r_inc_6 {a0 a1 a2 a3 a4 a5 : Option Value} {t : List (Option Value)} {x : Nat} (hi : 6 < nL) (hp : lc2 a5 = false) (d : decode cc pc = .ok (.iinc 6 1, 3)) (hq : pc + 3 = q) (k : J G z cc nL own lvl mcT msT cells slots q (a0 :: a1 :: a2 :: a3 :: a4 :: a5 :: some (.int (nI (x + 1))) :: t) stk n h) : J G z cc nL own lvl mcT msT cells slots pc (a0 :: a1 :: a2 :: a3 :: a4 :: a5 :: some (.int (nI x)) :: t) stk n h := g_iinc (lo := a0 :: a1 :: a2 :: a3 :: a4 :: a5 :: some (.int (nI x)) :: t) rfl hi (fun j w e hj => lc2_ok hp (by obtain rfl : j = 5 := (by omega : j = 5); exact Option.some.inj hj)) (nI_succ x).symm d hq k
theorem r_iinc_7 {a0 a1 a2 a3 a4 a5 a6 : Option Value} {t : List (Option Value)} {b : Int} {x : Int32} (v : Int32) (hv : x + Int32.ofInt b = v) (hi : 7 < nL) (hp : lc2 a6 = false) (d : decode cc pc = .ok (.iinc 7 b, 3)) (hq : pc + 3 = q) (k : J G z cc nL own lvl mcT msT cells slots q (a0 :: a1 :: a2 :: a3 :: a4 :: a5 :: a6 :: some (.int v) :: t) stk n h) : J G z cc nL own lvl mcT msT cells slots pc (a0 :: a1 :: a2 :: a3 :: a4 :: a5 :: a6 :: some (.int x) :: t) stk n h := g_iinc (lo := a0 :: a1 :: a2 :: a3 :: a4 :: a5 :: a6 :: some (.int x) :: t) rfl hi (fun j w e hj => lc2_ok hp (by obtain rfl : j = 6 := (by omega : j = 6); exact Option.some.inj hj)) hv d hq k
theorem r_inc_7 {a0 a1 a2 a3 a4 a5 a6 : Option Value} {t : List (Option Value)} {x : Nat} (hi : 7 < nL) (hp : lc2 a6 = false) (d : decode cc pc = .ok (.iinc 7 1, 3)) (hq : pc + 3 = q) (k : J G z cc nL own lvl mcT msT cells slots q (a0 :: a1 :: a2 :: a3 :: a4 :: a5 :: a6 :: some (.int (nI (x + 1))) :: t) stk n h) : J G z cc nL own lvl mcT msT cells slots pc (a0 :: a1 :: a2 :: a3 :: a4 :: a5 :: a6 :: some (.int (nI x)) :: t) stk n h := g_iinc (lo := a0 :: a1 :: a2 :: a3 :: a4 :: a5 :: a6 :: some (.int (nI x)) :: t) rfl hi (fun j w e hj => lc2_ok hp (by obtain rfl : j = 6 := (by omega : j = 6); exact Option.some.inj hj)) (nI_succ x).symm d hq k
theorem r_iinc_8 {a0 a1 a2 a3 a4 a5 a6 a7 : Option Value} {t : List (Option Value)} {b : Int} {x : Int32} (v : Int32) (hv : x + Int32.ofInt b = v) (hi : 8 < nL) (hp : lc2 a7 = false) (d : decode cc pc = .ok (.iinc 8 b, 3)) (hq : pc + 3 = q) (k : J G z cc nL own lvl mcT msT cells slots q (a0 :: a1 :: a2 :: a3 :: a4 :: a5 :: a6 :: a7 :: some (.int v) :: t) stk n h) : J G z cc nL own lvl mcT msT cells slots pc (a0 :: a1 :: a2 :: a3 :: a4 :: a5 :: a6 :: a7 :: some (.int x) :: t) stk n h := g_iinc (lo := a0 :: a1 :: a2 :: a3 :: a4 :: a5 :: a6 :: a7 :: some (.int x) :: t) rfl hi (fun j w e hj => lc2_ok hp (by obtain rfl : j = 7 := (by omega : j = 7); exact Option.some.inj hj)) hv d hq k
theorem r_inc_8 {a0 a1 a2 a3 a4 a5 a6 a7 : Option Value} {t : List (Option Value)} {x : Nat} (hi : 8 < nL) (hp : lc2 a7 = false) (d : decode cc pc = .ok (.iinc 8 1, 3)) (hq : pc + 3 = q) (k : J G z cc nL own lvl mcT msT cells slots q (a0 :: a1 :: a2 :: a3 :: a4 :: a5 :: a6 :: a7 :: some (.int (nI (x + 1))) :: t) stk n h) : J G z cc nL own lvl mcT msT cells slots pc (a0 :: a1 :: a2 :: a3 :: a4 :: a5 :: a6 :: a7 :: some (.int (nI x)) :: t) stk n h := g_iinc (lo := a0 :: a1 :: a2 :: a3 :: a4 :: a5 :: a6 :: a7 :: some (.int (nI x)) :: t) rfl hi (fun j w e hj => lc2_ok hp (by obtain rfl : j = 7 := (by omega : j = 7); exact Option.some.inj hj)) (nI_succ x).symm d hq k
theorem r_iinc_9 {a0 a1 a2 a3 a4 a5 a6 a7 a8 : Option Value} {t : List (Option Value)} {b : Int} {x : Int32} (v : Int32) (hv : x + Int32.ofInt b = v) (hi : 9 < nL) (hp : lc2 a8 = false) (d : decode cc pc = .ok (.iinc 9 b, 3)) (hq : pc + 3 = q) (k : J G z cc nL own lvl mcT msT cells slots q (a0 :: a1 :: a2 :: a3 :: a4 :: a5 :: a6 :: a7 :: a8 :: some (.int v) :: t) stk n h) : J G z cc nL own lvl mcT msT cells slots pc (a0 :: a1 :: a2 :: a3 :: a4 :: a5 :: a6 :: a7 :: a8 :: some (.int x) :: t) stk n h := g_iinc (lo := a0 :: a1 :: a2 :: a3 :: a4 :: a5 :: a6 :: a7 :: a8 :: some (.int x) :: t) rfl hi (fun j w e hj => lc2_ok hp (by obtain rfl : j = 8 := (by omega : j = 8); exact Option.some.inj hj)) hv d hq k
theorem r_inc_9 {a0 a1 a2 a3 a4 a5 a6 a7 a8 : Option Value} {t : List (Option Value)} {x : Nat} (hi : 9 < nL) (hp : lc2 a8 = false) (d : decode cc pc = .ok (.iinc 9 1, 3)) (hq : pc + 3 = q) (k : J G z cc nL own lvl mcT msT cells slots q (a0 :: a1 :: a2 :: a3 :: a4 :: a5 :: a6 :: a7 :: a8 :: some (.int (nI (x + 1))) :: t) stk n h) : J G z cc nL own lvl mcT msT cells slots pc (a0 :: a1 :: a2 :: a3 :: a4 :: a5 :: a6 :: a7 :: a8 :: some (.int (nI x)) :: t) stk n h := g_iinc (lo := a0 :: a1 :: a2 :: a3 :: a4 :: a5 :: a6 :: a7 :: a8 :: some (.int (nI x)) :: t) rfl hi (fun j w e hj => lc2_ok hp (by obtain rfl : j = 8 := (by omega : j = 8); exact Option.some.inj hj)) (nI_succ x).symm d hq k
theorem r_iinc_10 {a0 a1 a2 a3 a4 a5 a6 a7 a8 a9 : Option Value} {t : List (Option Value)} {b : Int} {x : Int32} (v : Int32) (hv : x + Int32.ofInt b = v) (hi : 10 < nL) (hp : lc2 a9 = false) (d : decode cc pc = .ok (.iinc 10 b, 3)) (hq : pc + 3 = q) (k : J G z cc nL own lvl mcT msT cells slots q (a0 :: a1 :: a2 :: a3 :: a4 :: a5 :: a6 :: a7 :: a8 :: a9 :: some (.int v) :: t) stk n h) : J G z cc nL own lvl mcT msT cells slots pc (a0 :: a1 :: a2 :: a3 :: a4 :: a5 :: a6 :: a7 :: a8 :: a9 :: some (.int x) :: t) stk n h := g_iinc (lo := a0 :: a1 :: a2 :: a3 :: a4 :: a5 :: a6 :: a7 :: a8 :: a9 :: some (.int x) :: t) rfl hi (fun j w e hj => lc2_ok hp (by obtain rfl : j = 9 := (by omega : j = 9); exact Option.some.inj hj)) hv d hq k
theorem r_inc_10 {a0 a1 a2 a3 a4 a5 a6 a7 a8 a9 : Option Value} {t : List (Option Value)} {x : Nat} (hi : 10 < nL) (hp : lc2 a9 = false) (d : decode cc pc = .ok (.iinc 10 1, 3)) (hq : pc + 3 = q) (k : J G z cc nL own lvl mcT msT cells slots q (a0 :: a1 :: a2 :: a3 :: a4 :: a5 :: a6 :: a7 :: a8 :: a9 :: some (.int (nI (x + 1))) :: t) stk n h) : J G z cc nL own lvl mcT msT cells slots pc (a0 :: a1 :: a2 :: a3 :: a4 :: a5 :: a6 :: a7 :: a8 :: a9 :: some (.int (nI x)) :: t) stk n h := g_iinc (lo := a0 :: a1 :: a2 :: a3 :: a4 :: a5 :: a6 :: a7 :: a8 :: a9 :: some (.int (nI x)) :: t) rfl hi (fun j w e hj => lc2_ok hp (by obtain rfl : j = 9 := (by omega : j = 9); exact Option.some.inj hj)) (nI_succ x).symm d hq k
theorem r_iinc_11 {a0 a1 a2 a3 a4 a5 a6 a7 a8 a9 a10 : Option Value} {t : List (Option Value)} {b : Int} {x : Int32} (v : Int32) (hv : x + Int32.ofInt b = v) (hi : 11 < nL) (hp : lc2 a10 = false) (d : decode cc pc = .ok (.iinc 11 b, 3)) (hq : pc + 3 = q) (k : J G z cc nL own lvl mcT msT cells slots q (a0 :: a1 :: a2 :: a3 :: a4 :: a5 :: a6 :: a7 :: a8 :: a9 :: a10 :: some (.int v) :: t) stk n h) : J G z cc nL own lvl mcT msT cells slots pc (a0 :: a1 :: a2 :: a3 :: a4 :: a5 :: a6 :: a7 :: a8 :: a9 :: a10 :: some (.int x) :: t) stk n h := g_iinc (lo := a0 :: a1 :: a2 :: a3 :: a4 :: a5 :: a6 :: a7 :: a8 :: a9 :: a10 :: some (.int x) :: t) rfl hi (fun j w e hj => lc2_ok hp (by obtain rfl : j = 10 := (by omega : j = 10); exact Option.some.inj hj)) hv d hq k
theorem r_inc_11 {a0 a1 a2 a3 a4 a5 a6 a7 a8 a9 a10 : Option Value} {t : List (Option Value)} {x : Nat} (hi : 11 < nL) (hp : lc2 a10 = false) (d : decode cc pc = .ok (.iinc 11 1, 3)) (hq : pc + 3 = q) (k : J G z cc nL own lvl mcT msT cells slots q (a0 :: a1 :: a2 :: a3 :: a4 :: a5 :: a6 :: a7 :: a8 :: a9 :: a10 :: some (.int (nI (x + 1))) :: t) stk n h) : J G z cc nL own lvl mcT msT cells slots pc (a0 :: a1 :: a2 :: a3 :: a4 :: a5 :: a6 :: a7 :: a8 :: a9 :: a10 :: some (.int (nI x)) :: t) stk n h := g_iinc (lo := a0 :: a1 :: a2 :: a3 :: a4 :: a5 :: a6 :: a7 :: a8 :: a9 :: a10 :: some (.int (nI x)) :: t) rfl hi (fun j w e hj => lc2_ok hp (by obtain rfl : j = 10 := (by omega : j = 10); exact Option.some.inj hj)) (nI_succ x).symm d hq k
theorem r_iinc_12 {a0 a1 a2 a3 a4 a5 a6 a7 a8 a9 a10 a11 : Option Value} {t : List (Option Value)} {b : Int} {x : Int32} (v : Int32) (hv : x + Int32.ofInt b = v) (hi : 12 < nL) (hp : lc2 a11 = false) (d : decode cc pc = .ok (.iinc 12 b, 3)) (hq : pc + 3 = q) (k : J G z cc nL own lvl mcT msT cells slots q (a0 :: a1 :: a2 :: a3 :: a4 :: a5 :: a6 :: a7 :: a8 :: a9 :: a10 :: a11 :: some (.int v) :: t) stk n h) : J G z cc nL own lvl mcT msT cells slots pc (a0 :: a1 :: a2 :: a3 :: a4 :: a5 :: a6 :: a7 :: a8 :: a9 :: a10 :: a11 :: some (.int x) :: t) stk n h := g_iinc (lo := a0 :: a1 :: a2 :: a3 :: a4 :: a5 :: a6 :: a7 :: a8 :: a9 :: a10 :: a11 :: some (.int x) :: t) rfl hi (fun j w e hj => lc2_ok hp (by obtain rfl : j = 11 := (by omega : j = 11); exact Option.some.inj hj)) hv d hq k
theorem r_inc_12 {a0 a1 a2 a3 a4 a5 a6 a7 a8 a9 a10 a11 : Option Value} {t : List (Option Value)} {x : Nat} (hi : 12 < nL) (hp : lc2 a11 = false) (d : decode cc pc = .ok (.iinc 12 1, 3)) (hq : pc + 3 = q) (k : J G z cc nL own lvl mcT msT cells slots q (a0 :: a1 :: a2 :: a3 :: a4 :: a5 :: a6 :: a7 :: a8 :: a9 :: a10 :: a11 :: some (.int (nI (x + 1))) :: t) stk n h) : J G z cc nL own lvl mcT msT cells slots pc (a0 :: a1 :: a2 :: a3 :: a4 :: a5 :: a6 :: a7 :: a8 :: a9 :: a10 :: a11 :: some (.int (nI x)) :: t) stk n h := g_iinc (lo := a0 :: a1 :: a2 :: a3 :: a4 :: a5 :: a6 :: a7 :: a8 :: a9 :: a10 :: a11 :: some (.int (nI x)) :: t) rfl hi (fun j w e hj => lc2_ok hp (by obtain rfl : j = 11 := (by omega : j = 11); exact Option.some.inj hj)) (nI_succ x).symm d hq k
theorem r_iinc_13 {a0 a1 a2 a3 a4 a5 a6 a7 a8 a9 a10 a11 a12 : Option Value} {t : List (Option Value)} {b : Int} {x : Int32} (v : Int32) (hv : x + Int32.ofInt b = v) (hi : 13 < nL) (hp : lc2 a12 = false) (d : decode cc pc = .ok (.iinc 13 b, 3)) (hq : pc + 3 = q) (k : J G z cc nL own lvl mcT msT cells slots q (a0 :: a1 :: a2 :: a3 :: a4 :: a5 :: a6 :: a7 :: a8 :: a9 :: a10 :: a11 :: a12 :: some (.int v) :: t) stk n h) : J G z cc nL own lvl mcT msT cells slots pc (a0 :: a1 :: a2 :: a3 :: a4 :: a5 :: a6 :: a7 :: a8 :: a9 :: a10 :: a11 :: a12 :: some (.int x) :: t) stk n h := g_iinc (lo := a0 :: a1 :: a2 :: a3 :: a4 :: a5 :: a6 :: a7 :: a8 :: a9 :: a10 :: a11 :: a12 :: some (.int x) :: t) rfl hi (fun j w e hj => lc2_ok hp (by obtain rfl : j = 12 := (by omega : j = 12); exact Option.some.inj hj)) hv d hq k
theorem r_inc_13 {a0 a1 a2 a3 a4 a5 a6 a7 a8 a9 a10 a11 a12 : Option Value} {t : List (Option Value)} {x : Nat} (hi : 13 < nL) (hp : lc2 a12 = false) (d : decode cc pc = .ok (.iinc 13 1, 3)) (hq : pc + 3 = q) (k : J G z cc nL own lvl mcT msT cells slots q (a0 :: a1 :: a2 :: a3 :: a4 :: a5 :: a6 :: a7 :: a8 :: a9 :: a10 :: a11 :: a12 :: some (.int (nI (x + 1))) :: t) stk n h) : J G z cc nL own lvl mcT msT cells slots pc (a0 :: a1 :: a2 :: a3 :: a4 :: a5 :: a6 :: a7 :: a8 :: a9 :: a10 :: a11 :: a12 :: some (.int (nI x)) :: t) stk n h := g_iinc (lo := a0 :: a1 :: a2 :: a3 :: a4 :: a5 :: a6 :: a7 :: a8 :: a9 :: a10 :: a11 :: a12 :: some (.int (nI x)) :: t) rfl hi (fun j w e hj => lc2_ok hp (by obtain rfl : j = 12 := (by omega : j = 12); exact Option.some.inj hj)) (nI_succ x).symm d hq k
theorem r_iinc_14 {a0 a1 a2 a3 a4 a5 a6 a7 a8 a9 a10 a11 a12 a13 : Option Value} {t : List (Option Value)} {b : Int} {x : Int32} (v : Int32) (hv : x + Int32.ofInt b = v) (hi : 14 < nL) (hp : lc2 a13 = false) (d : decode cc pc = .ok (.iinc 14 b, 3)) (hq : pc + 3 = q) (k : J G z cc nL own lvl mcT msT cells slots q (a0 :: a1 :: a2 :: a3 :: a4 :: a5 :: a6 :: a7 :: a8 :: a9 :: a10 :: a11 :: a12 :: a13 :: some (.int v) :: t) stk n h) : J G z cc nL own lvl mcT msT cells slots pc (a0 :: a1 :: a2 :: a3 :: a4 :: a5 :: a6 :: a7 :: a8 :: a9 :: a10 :: a11 :: a12 :: a13 :: some (.int x) :: t) stk n h := g_iinc (lo := a0 :: a1 :: a2 :: a3 :: a4 :: a5 :: a6 :: a7 :: a8 :: a9 :: a10 :: a11 :: a12 :: a13 :: some (.int x) :: t) rfl hi (fun j w e hj => lc2_ok hp (by obtain rfl : j = 13 := (by omega : j = 13); exact Option.some.inj hj)) hv d hq k
theorem r_inc_14 {a0 a1 a2 a3 a4 a5 a6 a7 a8 a9 a10 a11 a12 a13 : Option Value} {t : List (Option Value)} {x : Nat} (hi : 14 < nL) (hp : lc2 a13 = false) (d : decode cc pc = .ok (.iinc 14 1, 3)) (hq : pc + 3 = q) (k : J G z cc nL own lvl mcT msT cells slots q (a0 :: a1 :: a2 :: a3 :: a4 :: a5 :: a6 :: a7 :: a8 :: a9 :: a10 :: a11 :: a12 :: a13 :: some (.int (nI (x + 1))) :: t) stk n h) : J G z cc nL own lvl mcT msT cells slots pc (a0 :: a1 :: a2 :: a3 :: a4 :: a5 :: a6 :: a7 :: a8 :: a9 :: a10 :: a11 :: a12 :: a13 :: some (.int (nI x)) :: t) stk n h := g_iinc (lo := a0 :: a1 :: a2 :: a3 :: a4 :: a5 :: a6 :: a7 :: a8 :: a9 :: a10 :: a11 :: a12 :: a13 :: some (.int (nI x)) :: t) rfl hi (fun j w e hj => lc2_ok hp (by obtain rfl : j = 13 := (by omega : j = 13); exact Option.some.inj hj)) (nI_succ x).symm d hq k
theorem r_iinc_15 {a0 a1 a2 a3 a4 a5 a6 a7 a8 a9 a10 a11 a12 a13 a14 : Option Value} {t : List (Option Value)} {b : Int} {x : Int32} (v : Int32) (hv : x + Int32.ofInt b = v) (hi : 15 < nL) (hp : lc2 a14 = false) (d : decode cc pc = .ok (.iinc 15 b, 3)) (hq : pc + 3 = q) (k : J G z cc nL own lvl mcT msT cells slots q (a0 :: a1 :: a2 :: a3 :: a4 :: a5 :: a6 :: a7 :: a8 :: a9 :: a10 :: a11 :: a12 :: a13 :: a14 :: some (.int v) :: t) stk n h) : J G z cc nL own lvl mcT msT cells slots pc (a0 :: a1 :: a2 :: a3 :: a4 :: a5 :: a6 :: a7 :: a8 :: a9 :: a10 :: a11 :: a12 :: a13 :: a14 :: some (.int x) :: t) stk n h := g_iinc (lo := a0 :: a1 :: a2 :: a3 :: a4 :: a5 :: a6 :: a7 :: a8 :: a9 :: a10 :: a11 :: a12 :: a13 :: a14 :: some (.int x) :: t) rfl hi (fun j w e hj => lc2_ok hp (by obtain rfl : j = 14 := (by omega : j = 14); exact Option.some.inj hj)) hv d hq k
theorem r_inc_15 {a0 a1 a2 a3 a4 a5 a6 a7 a8 a9 a10 a11 a12 a13 a14 : Option Value} {t : List (Option Value)} {x : Nat} (hi : 15 < nL) (hp : lc2 a14 = false) (d : decode cc pc = .ok (.iinc 15 1, 3)) (hq : pc + 3 = q) (k : J G z cc nL own lvl mcT msT cells slots q (a0 :: a1 :: a2 :: a3 :: a4 :: a5 :: a6 :: a7 :: a8 :: a9 :: a10 :: a11 :: a12 :: a13 :: a14 :: some (.int (nI (x + 1))) :: t) stk n h) : J G z cc nL own lvl mcT msT cells slots pc (a0 :: a1 :: a2 :: a3 :: a4 :: a5 :: a6 :: a7 :: a8 :: a9 :: a10 :: a11 :: a12 :: a13 :: a14 :: some (.int (nI x)) :: t) stk n h := g_iinc (lo := a0 :: a1 :: a2 :: a3 :: a4 :: a5 :: a6 :: a7 :: a8 :: a9 :: a10 :: a11 :: a12 :: a13 :: a14 :: some (.int (nI x)) :: t) rfl hi (fun j w e hj => lc2_ok hp (by obtain rfl : j = 14 := (by omega : j = 14); exact Option.some.inj hj)) (nI_succ x).symm d hq k
theorem r_iret {v : Int32} {Post : Option Value → Nat → RH → Prop} (hz : ZQ G z (some .int) mcT msT Post) (d : decode cc pc = .ok (.ireturn, 1)) (hc : cells ≤ mcT) (hs : slots ≤ msT) (hp : Post (some (.int v)) n h) : J G z cc nL own lvl mcT msT cells slots pc lo [.int v] n h := by
  obtain ⟨p, e, R, s, m, args, below, meth, c, Q⟩ := z
  obtain ⟨hr, hz⟩ := hz
  intro S K hA hL hR ls H locs hl hn hP hS
  refine hz _ _ _ _ _ (W.widen hc hs ?_)
  exact W.iret (v := v) S.1 S.2.1 hr (fun t ht hW => ⟨⟨_, h, rfl, by rw [ht, hn]; exact hp, by rw [ht]; exact hP⟩, hS.F ht⟩) hS.2.2 d hL
theorem r_lret {v : Int64} {Post : Option Value → Nat → RH → Prop} (hz : ZQ G z (some .long) mcT msT Post) (d : decode cc pc = .ok (.lreturn, 1)) (hc : cells ≤ mcT) (hs : slots ≤ msT) (hp : Post (some (.long v)) n h) : J G z cc nL own lvl mcT msT cells slots pc lo [.long v] n h := by
  obtain ⟨p, e, R, s, m, args, below, meth, c, Q⟩ := z
  obtain ⟨hr, hz⟩ := hz
  intro S K hA hL hR ls H locs hl hn hP hS
  refine hz _ _ _ _ _ (W.widen hc hs ?_)
  exact W.lret (v := v) S.1 S.2.1 hr (fun t ht hW => ⟨⟨_, h, rfl, by rw [ht, hn]; exact hp, by rw [ht]; exact hP⟩, hS.F ht⟩) hS.2.2 d hL
theorem r_zret {v : Int32} {Post : Option Value → Nat → RH → Prop} (hz : ZQ G z (some .boolean) mcT msT Post) (hv : narrow .boolean (.int v) = .int v) (d : decode cc pc = .ok (.ireturn, 1)) (hc : cells ≤ mcT) (hs : slots ≤ msT) (hp : Post (some (.int v)) n h) : J G z cc nL own lvl mcT msT cells slots pc lo [.int v] n h := by
  obtain ⟨p, e, R, s, m, args, below, meth, c, Q⟩ := z
  obtain ⟨hr, hz⟩ := hz
  intro S K hA hL hR ls H locs hl hn hP hS
  refine hz _ _ _ _ _ (W.widen hc hs ?_)
  exact W.zret (v := v) S.1 S.2.1 hr hv (fun t ht hW => ⟨⟨_, h, rfl, by rw [ht, hn]; exact hp, by rw [ht]; exact hP⟩, hS.F ht⟩) hS.2.2 d hL
theorem r_vret {Post : Option Value → Nat → RH → Prop} (hz : ZQ G z none mcT msT Post) (d : decode cc pc = .ok (.return_, 1)) (hc : cells ≤ mcT) (hs : slots ≤ msT) (hp : Post none n h) : J G z cc nL own lvl mcT msT cells slots pc lo [] n h := by
  obtain ⟨p, e, R, s, m, args, below, meth, c, Q⟩ := z
  obtain ⟨hr, hz⟩ := hz
  intro S K hA hL hR ls H locs hl hn hP hS
  refine hz _ _ _ _ _ (W.widen hc hs ?_)
  exact W.vret S.1 S.2.1 hr (fun t ht hW => ⟨⟨_, h, rfl, by rw [ht, hn]; exact hp, by rw [ht]; exact hP⟩, hS.F ht⟩) hS.2.2 d hL
theorem r_aret {v : Value} {C : String} {Post : Option Value → Nat → RH → Prop} (hz : ZQ G z (some (.object C)) mcT msT Post) (hv : v = .null ∨ ∃ a, v = .ref a) (d : decode cc pc = .ok (.areturn, 1)) (hc : cells ≤ mcT) (hs : slots ≤ msT) (hp : Post (some v) n h) : J G z cc nL own lvl mcT msT cells slots pc lo [v] n h := by
  obtain ⟨p, e, R, s, m, args, below, meth, c, Q⟩ := z
  obtain ⟨hr, hz⟩ := hz
  intro S K hA hL hR ls H locs hl hn hP hS
  refine hz _ _ _ _ _ (W.widen hc hs ?_)
  exact W.aret S.1 S.2.1 hr (Or.inl ⟨_, rfl⟩) hv (fun t ht hW => ⟨⟨_, h, rfl, by rw [ht, hn]; exact hp, by rw [ht]; exact hP⟩, hS.F ht⟩) hS.2.2 d hL
end JR

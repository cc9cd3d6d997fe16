/-! ===== persons and small static methods ===== -/
abbrev PP : Type := Nat × Nat
def softN (k f : Nat) : Nat := if k = 1 then f / 5 else if k = 2 then 3 else if k = 3 then 2 else if k = 4 then f / 5 + 1 else if k = 5 then 4 else 1
def soreN (k f : Nat) : Nat := if k = 1 then 3 else if k = 2 then 0 else if k = 3 then f / 3 else if k = 4 then 1 else if k = 5 then f / 3 else 1
def charmN (k f : Nat) : Nat := if k = 1 then f / 2 else if k = 2 then f + 3 else if k = 3 then 0 else if k = 4 then f / 2 + 4 else if k = 5 then 9 else f
def pcell (p : PP) : RC := .inr (.inr (5 + p.1, [.int (nI p.1), .int (nI p.2)]))
def bI : Bool → Int32
  | true => 1
  | false => 0
theorem bI_0 {b : Bool} : bI b = 0 ↔ b = false := by cases b <;> decide
theorem bI_n0 {b : Bool} : ¬ bI b = 0 ↔ b = true := by cases b <;> decide
theorem bI_z (b : Bool) : narrow .boolean (.int (bI b)) = .int (bI b) := by cases b <;> rfl
theorem dv {a d : Nat} (ha : a < 100) (h0 : 0 < d) (hd : d < 100) : nI a / nI d = nI (a / d) := pk_div (by omega) h0 (by omega)
section PERS
variable {G : GD} {n : Nat} {h : RH}
/-! what each kind answers, by the class numbers 5 .. 10 -/
theorem k_X5_charm_5 {a f : Nat} {x : Value} (ho : h a = some (.inr (.inr (5, [x, .int (nI f)])))) : CtE G yX5_charm cX5_charm 1 (some .int) 1 [.ref a] n h (some (.int (nI f))) h := by
  refine Ct.intro (k := 0) [some (.ref a)] (by decide) (Nat.le_of_ble_eq_true rfl) rfl fun z hz hin => ?_
  refine r_aload_0 (q := 1) dX5_charm_0 rfl ?_
  refine r_get gf_X5_13_5 ho rfl (q := 4) dX5_charm_1 rfl ?_
  exact r_iret hz dX5_charm_4 (Nat.le_refl _) (Nat.le_refl _) ⟨rfl, rfl, rfl⟩
theorem k_X5_init_5 {a : Nat} {x y : Int32} (ho : h a = some (.inr (.inr (5, [.int 0, .int 0])))) : CtE G yX5_init cX5_init 3 none 1 [.ref a, .int x, .int y] n h none (hset h a (.inr (.inr (5, [.int x, .int y])))) := by
  refine Ct.intro (k := 0) [some (.ref a), some (.int x), some (.int y)] (by decide) (Nat.le_of_ble_eq_true rfl) rfl fun z hz hin => ?_
  refine r_aload_0 (q := 1) dX5_init_0 rfl ?_
  refine r_objInit q466 (by decide) (Nat.le_of_ble_eq_true rfl) (q := 4) dX5_init_1 rfl ?_
  refine r_aload_0 (q := 5) dX5_init_4 rfl ?_
  refine r_iload_1 (q := 6) dX5_init_5 rfl ?_
  refine r_putF hin gf_X5_7_5 cl_ok_5 ft_5_0 dc_5_0 ho (Nat.le_of_ble_eq_true rfl) rfl rfl (q := 9) dX5_init_6 rfl ?_
  refine r_aload_0 (q := 10) dX5_init_9 rfl ?_
  refine r_iload_2 (q := 11) dX5_init_10 rfl ?_
  refine r_putF hin gf_X5_13_5 cl_ok_5 ft_5_1 dc_5_1 (hset_eq _ _ _) (Nat.le_of_ble_eq_true rfl) rfl rfl (q := 14) dX5_init_11 rfl ?_
  rw [hset_hset]
  exact r_vret hz dX5_init_14 (Nat.le_refl _) (Nat.le_refl _) ⟨rfl, rfl, rfl⟩
theorem k_X5_charm_6 {a f : Nat} {x : Value} (ho : h a = some (.inr (.inr (6, [x, .int (nI f)])))) : CtE G yX5_charm cX5_charm 1 (some .int) 1 [.ref a] n h (some (.int (nI f))) h := by
  refine Ct.intro (k := 0) [some (.ref a)] (by decide) (Nat.le_of_ble_eq_true rfl) rfl fun z hz hin => ?_
  refine r_aload_0 (q := 1) dX5_charm_0 rfl ?_
  refine r_get gf_X5_13_6 ho rfl (q := 4) dX5_charm_1 rfl ?_
  exact r_iret hz dX5_charm_4 (Nat.le_refl _) (Nat.le_refl _) ⟨rfl, rfl, rfl⟩
theorem k_X5_init_6 {a : Nat} {x y : Int32} (ho : h a = some (.inr (.inr (6, [.int 0, .int 0])))) : CtE G yX5_init cX5_init 3 none 1 [.ref a, .int x, .int y] n h none (hset h a (.inr (.inr (6, [.int x, .int y])))) := by
  refine Ct.intro (k := 0) [some (.ref a), some (.int x), some (.int y)] (by decide) (Nat.le_of_ble_eq_true rfl) rfl fun z hz hin => ?_
  refine r_aload_0 (q := 1) dX5_init_0 rfl ?_
  refine r_objInit q466 (by decide) (Nat.le_of_ble_eq_true rfl) (q := 4) dX5_init_1 rfl ?_
  refine r_aload_0 (q := 5) dX5_init_4 rfl ?_
  refine r_iload_1 (q := 6) dX5_init_5 rfl ?_
  refine r_putF hin gf_X5_7_6 cl_ok_6 ft_6_0 dc_6_0 ho (Nat.le_of_ble_eq_true rfl) rfl rfl (q := 9) dX5_init_6 rfl ?_
  refine r_aload_0 (q := 10) dX5_init_9 rfl ?_
  refine r_iload_2 (q := 11) dX5_init_10 rfl ?_
  refine r_putF hin gf_X5_13_6 cl_ok_6 ft_6_1 dc_6_1 (hset_eq _ _ _) (Nat.le_of_ble_eq_true rfl) rfl rfl (q := 14) dX5_init_11 rfl ?_
  rw [hset_hset]
  exact r_vret hz dX5_init_14 (Nat.le_refl _) (Nat.le_refl _) ⟨rfl, rfl, rfl⟩
theorem k_X5_charm_7 {a f : Nat} {x : Value} (ho : h a = some (.inr (.inr (7, [x, .int (nI f)])))) : CtE G yX5_charm cX5_charm 1 (some .int) 1 [.ref a] n h (some (.int (nI f))) h := by
  refine Ct.intro (k := 0) [some (.ref a)] (by decide) (Nat.le_of_ble_eq_true rfl) rfl fun z hz hin => ?_
  refine r_aload_0 (q := 1) dX5_charm_0 rfl ?_
  refine r_get gf_X5_13_7 ho rfl (q := 4) dX5_charm_1 rfl ?_
  exact r_iret hz dX5_charm_4 (Nat.le_refl _) (Nat.le_refl _) ⟨rfl, rfl, rfl⟩
theorem k_X5_init_7 {a : Nat} {x y : Int32} (ho : h a = some (.inr (.inr (7, [.int 0, .int 0])))) : CtE G yX5_init cX5_init 3 none 1 [.ref a, .int x, .int y] n h none (hset h a (.inr (.inr (7, [.int x, .int y])))) := by
  refine Ct.intro (k := 0) [some (.ref a), some (.int x), some (.int y)] (by decide) (Nat.le_of_ble_eq_true rfl) rfl fun z hz hin => ?_
  refine r_aload_0 (q := 1) dX5_init_0 rfl ?_
  refine r_objInit q466 (by decide) (Nat.le_of_ble_eq_true rfl) (q := 4) dX5_init_1 rfl ?_
  refine r_aload_0 (q := 5) dX5_init_4 rfl ?_
  refine r_iload_1 (q := 6) dX5_init_5 rfl ?_
  refine r_putF hin gf_X5_7_7 cl_ok_7 ft_7_0 dc_7_0 ho (Nat.le_of_ble_eq_true rfl) rfl rfl (q := 9) dX5_init_6 rfl ?_
  refine r_aload_0 (q := 10) dX5_init_9 rfl ?_
  refine r_iload_2 (q := 11) dX5_init_10 rfl ?_
  refine r_putF hin gf_X5_13_7 cl_ok_7 ft_7_1 dc_7_1 (hset_eq _ _ _) (Nat.le_of_ble_eq_true rfl) rfl rfl (q := 14) dX5_init_11 rfl ?_
  rw [hset_hset]
  exact r_vret hz dX5_init_14 (Nat.le_refl _) (Nat.le_refl _) ⟨rfl, rfl, rfl⟩
theorem k_X5_charm_8 {a f : Nat} {x : Value} (ho : h a = some (.inr (.inr (8, [x, .int (nI f)])))) : CtE G yX5_charm cX5_charm 1 (some .int) 1 [.ref a] n h (some (.int (nI f))) h := by
  refine Ct.intro (k := 0) [some (.ref a)] (by decide) (Nat.le_of_ble_eq_true rfl) rfl fun z hz hin => ?_
  refine r_aload_0 (q := 1) dX5_charm_0 rfl ?_
  refine r_get gf_X5_13_8 ho rfl (q := 4) dX5_charm_1 rfl ?_
  exact r_iret hz dX5_charm_4 (Nat.le_refl _) (Nat.le_refl _) ⟨rfl, rfl, rfl⟩
theorem k_X5_init_8 {a : Nat} {x y : Int32} (ho : h a = some (.inr (.inr (8, [.int 0, .int 0])))) : CtE G yX5_init cX5_init 3 none 1 [.ref a, .int x, .int y] n h none (hset h a (.inr (.inr (8, [.int x, .int y])))) := by
  refine Ct.intro (k := 0) [some (.ref a), some (.int x), some (.int y)] (by decide) (Nat.le_of_ble_eq_true rfl) rfl fun z hz hin => ?_
  refine r_aload_0 (q := 1) dX5_init_0 rfl ?_
  refine r_objInit q466 (by decide) (Nat.le_of_ble_eq_true rfl) (q := 4) dX5_init_1 rfl ?_
  refine r_aload_0 (q := 5) dX5_init_4 rfl ?_
  refine r_iload_1 (q := 6) dX5_init_5 rfl ?_
  refine r_putF hin gf_X5_7_8 cl_ok_8 ft_8_0 dc_8_0 ho (Nat.le_of_ble_eq_true rfl) rfl rfl (q := 9) dX5_init_6 rfl ?_
  refine r_aload_0 (q := 10) dX5_init_9 rfl ?_
  refine r_iload_2 (q := 11) dX5_init_10 rfl ?_
  refine r_putF hin gf_X5_13_8 cl_ok_8 ft_8_1 dc_8_1 (hset_eq _ _ _) (Nat.le_of_ble_eq_true rfl) rfl rfl (q := 14) dX5_init_11 rfl ?_
  rw [hset_hset]
  exact r_vret hz dX5_init_14 (Nat.le_refl _) (Nat.le_refl _) ⟨rfl, rfl, rfl⟩
theorem k_X5_charm_9 {a f : Nat} {x : Value} (ho : h a = some (.inr (.inr (9, [x, .int (nI f)])))) : CtE G yX5_charm cX5_charm 1 (some .int) 1 [.ref a] n h (some (.int (nI f))) h := by
  refine Ct.intro (k := 0) [some (.ref a)] (by decide) (Nat.le_of_ble_eq_true rfl) rfl fun z hz hin => ?_
  refine r_aload_0 (q := 1) dX5_charm_0 rfl ?_
  refine r_get gf_X5_13_9 ho rfl (q := 4) dX5_charm_1 rfl ?_
  exact r_iret hz dX5_charm_4 (Nat.le_refl _) (Nat.le_refl _) ⟨rfl, rfl, rfl⟩
theorem k_X5_init_9 {a : Nat} {x y : Int32} (ho : h a = some (.inr (.inr (9, [.int 0, .int 0])))) : CtE G yX5_init cX5_init 3 none 1 [.ref a, .int x, .int y] n h none (hset h a (.inr (.inr (9, [.int x, .int y])))) := by
  refine Ct.intro (k := 0) [some (.ref a), some (.int x), some (.int y)] (by decide) (Nat.le_of_ble_eq_true rfl) rfl fun z hz hin => ?_
  refine r_aload_0 (q := 1) dX5_init_0 rfl ?_
  refine r_objInit q466 (by decide) (Nat.le_of_ble_eq_true rfl) (q := 4) dX5_init_1 rfl ?_
  refine r_aload_0 (q := 5) dX5_init_4 rfl ?_
  refine r_iload_1 (q := 6) dX5_init_5 rfl ?_
  refine r_putF hin gf_X5_7_9 cl_ok_9 ft_9_0 dc_9_0 ho (Nat.le_of_ble_eq_true rfl) rfl rfl (q := 9) dX5_init_6 rfl ?_
  refine r_aload_0 (q := 10) dX5_init_9 rfl ?_
  refine r_iload_2 (q := 11) dX5_init_10 rfl ?_
  refine r_putF hin gf_X5_13_9 cl_ok_9 ft_9_1 dc_9_1 (hset_eq _ _ _) (Nat.le_of_ble_eq_true rfl) rfl rfl (q := 14) dX5_init_11 rfl ?_
  rw [hset_hset]
  exact r_vret hz dX5_init_14 (Nat.le_refl _) (Nat.le_refl _) ⟨rfl, rfl, rfl⟩
theorem k_X5_charm_10 {a f : Nat} {x : Value} (ho : h a = some (.inr (.inr (10, [x, .int (nI f)])))) : CtE G yX5_charm cX5_charm 1 (some .int) 1 [.ref a] n h (some (.int (nI f))) h := by
  refine Ct.intro (k := 0) [some (.ref a)] (by decide) (Nat.le_of_ble_eq_true rfl) rfl fun z hz hin => ?_
  refine r_aload_0 (q := 1) dX5_charm_0 rfl ?_
  refine r_get gf_X5_13_10 ho rfl (q := 4) dX5_charm_1 rfl ?_
  exact r_iret hz dX5_charm_4 (Nat.le_refl _) (Nat.le_refl _) ⟨rfl, rfl, rfl⟩
theorem k_X5_init_10 {a : Nat} {x y : Int32} (ho : h a = some (.inr (.inr (10, [.int 0, .int 0])))) : CtE G yX5_init cX5_init 3 none 1 [.ref a, .int x, .int y] n h none (hset h a (.inr (.inr (10, [.int x, .int y])))) := by
  refine Ct.intro (k := 0) [some (.ref a), some (.int x), some (.int y)] (by decide) (Nat.le_of_ble_eq_true rfl) rfl fun z hz hin => ?_
  refine r_aload_0 (q := 1) dX5_init_0 rfl ?_
  refine r_objInit q466 (by decide) (Nat.le_of_ble_eq_true rfl) (q := 4) dX5_init_1 rfl ?_
  refine r_aload_0 (q := 5) dX5_init_4 rfl ?_
  refine r_iload_1 (q := 6) dX5_init_5 rfl ?_
  refine r_putF hin gf_X5_7_10 cl_ok_10 ft_10_0 dc_10_0 ho (Nat.le_of_ble_eq_true rfl) rfl rfl (q := 9) dX5_init_6 rfl ?_
  refine r_aload_0 (q := 10) dX5_init_9 rfl ?_
  refine r_iload_2 (q := 11) dX5_init_10 rfl ?_
  refine r_putF hin gf_X5_13_10 cl_ok_10 ft_10_1 dc_10_1 (hset_eq _ _ _) (Nat.le_of_ble_eq_true rfl) rfl rfl (q := 14) dX5_init_11 rfl ?_
  rw [hset_hset]
  exact r_vret hz dX5_init_14 (Nat.le_refl _) (Nat.le_refl _) ⟨rfl, rfl, rfl⟩
theorem k_X5_soft {a : Nat} : CtE G yX5_soft cX5_soft 1 (some .int) 1 [.ref a] n h (some (.int 1)) h := by
  refine Ct.intro (k := 0) [some (.ref a)] (by decide) (Nat.le_of_ble_eq_true rfl) rfl fun z hz hin => ?_
  refine r_iconst 1 (by decide) (q := 1) dX5_soft_0 rfl ?_
  exact r_iret hz dX5_soft_1 (Nat.le_refl _) (Nat.le_refl _) ⟨rfl, rfl, rfl⟩
theorem k_X5_sore {a : Nat} : CtE G yX5_sore cX5_sore 1 (some .int) 1 [.ref a] n h (some (.int 1)) h := by
  refine Ct.intro (k := 0) [some (.ref a)] (by decide) (Nat.le_of_ble_eq_true rfl) rfl fun z hz hin => ?_
  refine r_iconst 1 (by decide) (q := 1) dX5_sore_0 rfl ?_
  exact r_iret hz dX5_sore_1 (Nat.le_refl _) (Nat.le_refl _) ⟨rfl, rfl, rfl⟩
theorem k_X6_soft_6 {a f : Nat} {x : Value} (hf : f < 10) (ho : h a = some (.inr (.inr (6, [x, .int (nI f)])))) : CtE G yX6_soft cX6_soft 1 (some .int) 1 [.ref a] n h (some (.int (nI (f / 5)))) h := by
  refine Ct.intro (k := 0) [some (.ref a)] (by decide) (Nat.le_of_ble_eq_true rfl) rfl fun z hz hin => ?_
  refine r_aload_0 (q := 1) dX6_soft_0 rfl ?_
  refine r_get gf_X6_7_6 ho rfl (q := 4) dX6_soft_1 rfl ?_
  refine r_iconst 5 (by decide) (q := 5) dX6_soft_4 rfl ?_
  refine r_idiv (by decide) (q := 6) dX6_soft_5 rfl ?_
  refine J.topi (dv (d := 5) (by omega) (by decide) (by decide)) ?_
  exact r_iret hz dX6_soft_6 (Nat.le_refl _) (Nat.le_refl _) ⟨rfl, rfl, rfl⟩
theorem k_X6_sore_6 {a : Nat} {fs : List Value} (ho : h a = some (.inr (.inr (6, fs)))) : CtE G yX6_sore cX6_sore 1 (some .int) 2 [.ref a] n h (some (.int 3)) h := by
  refine Ct.intro (k := 0) [some (.ref a)] (by decide) (Nat.le_of_ble_eq_true rfl) rfl fun z hz hin => ?_
  refine r_aload_0 (q := 1) dX6_sore_0 rfl ?_
  refine r_callSU_0 csu_X6_13 ho rfl (by decide) (Nat.le_of_ble_eq_true rfl) ⟨Nat.le_refl _, Nat.le_refl _⟩ k_X5_sore (q := 4) dX6_sore_1 rfl ?_
  refine r_iconst 2 (by decide) (q := 5) dX6_sore_4 rfl ?_
  refine r_iadd (q := 6) dX6_sore_5 rfl ?_
  exact r_iret hz dX6_sore_6 (Nat.le_refl _) (Nat.le_refl _) ⟨rfl, rfl, rfl⟩
theorem k_X6_charm_6 {a f : Nat} {x : Value} (hf : f < 10) (ho : h a = some (.inr (.inr (6, [x, .int (nI f)])))) : CtE G yX6_charm cX6_charm 1 (some .int) 2 [.ref a] n h (some (.int (nI (f / 2)))) h := by
  refine Ct.intro (k := 0) [some (.ref a)] (by decide) (Nat.le_of_ble_eq_true rfl) rfl fun z hz hin => ?_
  refine r_aload_0 (q := 1) dX6_charm_0 rfl ?_
  refine r_callSU_0 csu_X6_17 ho rfl (by decide) (Nat.le_of_ble_eq_true rfl) ⟨Nat.le_refl _, Nat.le_refl _⟩ (k_X5_charm_6 ho) (q := 4) dX6_charm_1 rfl ?_
  refine r_iconst 2 (by decide) (q := 5) dX6_charm_4 rfl ?_
  refine r_idiv (by decide) (q := 6) dX6_charm_5 rfl ?_
  refine J.topi (dv (d := 2) (by omega) (by decide) (by decide)) ?_
  exact r_iret hz dX6_charm_6 (Nat.le_refl _) (Nat.le_refl _) ⟨rfl, rfl, rfl⟩
theorem k_X6_init_6 {a : Nat} {x y : Int32} (ho : h a = some (.inr (.inr (6, [.int 0, .int 0])))) : CtE G yX6_init cX6_init 3 none 2 [.ref a, .int x, .int y] n h none (hset h a (.inr (.inr (6, [.int x, .int y])))) := by
  refine Ct.intro (k := 0) [some (.ref a), some (.int x), some (.int y)] (by decide) (Nat.le_of_ble_eq_true rfl) rfl fun z hz hin => ?_
  refine r_aload_0 (q := 1) dX6_init_0 rfl ?_
  refine r_iload_1 (q := 2) dX6_init_1 rfl ?_
  refine r_iload_2 (q := 3) dX6_init_2 rfl ?_
  refine r_callIv_2 ci_X6_1 (by decide) (Nat.le_of_ble_eq_true rfl) ⟨Nat.le_refl _, Nat.le_refl _⟩ (k_X5_init_6 ho) (q := 6) dX6_init_3 rfl ?_
  exact r_vret hz dX6_init_6 (Nat.le_refl _) (Nat.le_refl _) ⟨rfl, rfl, rfl⟩
theorem k_X6_soft_9 {a f : Nat} {x : Value} (hf : f < 10) (ho : h a = some (.inr (.inr (9, [x, .int (nI f)])))) : CtE G yX6_soft cX6_soft 1 (some .int) 1 [.ref a] n h (some (.int (nI (f / 5)))) h := by
  refine Ct.intro (k := 0) [some (.ref a)] (by decide) (Nat.le_of_ble_eq_true rfl) rfl fun z hz hin => ?_
  refine r_aload_0 (q := 1) dX6_soft_0 rfl ?_
  refine r_get gf_X6_7_9 ho rfl (q := 4) dX6_soft_1 rfl ?_
  refine r_iconst 5 (by decide) (q := 5) dX6_soft_4 rfl ?_
  refine r_idiv (by decide) (q := 6) dX6_soft_5 rfl ?_
  refine J.topi (dv (d := 5) (by omega) (by decide) (by decide)) ?_
  exact r_iret hz dX6_soft_6 (Nat.le_refl _) (Nat.le_refl _) ⟨rfl, rfl, rfl⟩
theorem k_X6_sore_9 {a : Nat} {fs : List Value} (ho : h a = some (.inr (.inr (9, fs)))) : CtE G yX6_sore cX6_sore 1 (some .int) 2 [.ref a] n h (some (.int 3)) h := by
  refine Ct.intro (k := 0) [some (.ref a)] (by decide) (Nat.le_of_ble_eq_true rfl) rfl fun z hz hin => ?_
  refine r_aload_0 (q := 1) dX6_sore_0 rfl ?_
  refine r_callSU_0 csu_X6_13 ho rfl (by decide) (Nat.le_of_ble_eq_true rfl) ⟨Nat.le_refl _, Nat.le_refl _⟩ k_X5_sore (q := 4) dX6_sore_1 rfl ?_
  refine r_iconst 2 (by decide) (q := 5) dX6_sore_4 rfl ?_
  refine r_iadd (q := 6) dX6_sore_5 rfl ?_
  exact r_iret hz dX6_sore_6 (Nat.le_refl _) (Nat.le_refl _) ⟨rfl, rfl, rfl⟩
theorem k_X6_charm_9 {a f : Nat} {x : Value} (hf : f < 10) (ho : h a = some (.inr (.inr (9, [x, .int (nI f)])))) : CtE G yX6_charm cX6_charm 1 (some .int) 2 [.ref a] n h (some (.int (nI (f / 2)))) h := by
  refine Ct.intro (k := 0) [some (.ref a)] (by decide) (Nat.le_of_ble_eq_true rfl) rfl fun z hz hin => ?_
  refine r_aload_0 (q := 1) dX6_charm_0 rfl ?_
  refine r_callSU_0 csu_X6_17 ho rfl (by decide) (Nat.le_of_ble_eq_true rfl) ⟨Nat.le_refl _, Nat.le_refl _⟩ (k_X5_charm_9 ho) (q := 4) dX6_charm_1 rfl ?_
  refine r_iconst 2 (by decide) (q := 5) dX6_charm_4 rfl ?_
  refine r_idiv (by decide) (q := 6) dX6_charm_5 rfl ?_
  refine J.topi (dv (d := 2) (by omega) (by decide) (by decide)) ?_
  exact r_iret hz dX6_charm_6 (Nat.le_refl _) (Nat.le_refl _) ⟨rfl, rfl, rfl⟩
theorem k_X6_init_9 {a : Nat} {x y : Int32} (ho : h a = some (.inr (.inr (9, [.int 0, .int 0])))) : CtE G yX6_init cX6_init 3 none 2 [.ref a, .int x, .int y] n h none (hset h a (.inr (.inr (9, [.int x, .int y])))) := by
  refine Ct.intro (k := 0) [some (.ref a), some (.int x), some (.int y)] (by decide) (Nat.le_of_ble_eq_true rfl) rfl fun z hz hin => ?_
  refine r_aload_0 (q := 1) dX6_init_0 rfl ?_
  refine r_iload_1 (q := 2) dX6_init_1 rfl ?_
  refine r_iload_2 (q := 3) dX6_init_2 rfl ?_
  refine r_callIv_2 ci_X6_1 (by decide) (Nat.le_of_ble_eq_true rfl) ⟨Nat.le_refl _, Nat.le_refl _⟩ (k_X5_init_9 ho) (q := 6) dX6_init_3 rfl ?_
  exact r_vret hz dX6_init_6 (Nat.le_refl _) (Nat.le_refl _) ⟨rfl, rfl, rfl⟩
theorem k_X7_soft {a : Nat} : CtE G yX7_soft cX7_soft 1 (some .int) 1 [.ref a] n h (some (.int 3)) h := by
  refine Ct.intro (k := 0) [some (.ref a)] (by decide) (Nat.le_of_ble_eq_true rfl) rfl fun z hz hin => ?_
  refine r_iconst 3 (by decide) (q := 1) dX7_soft_0 rfl ?_
  exact r_iret hz dX7_soft_1 (Nat.le_refl _) (Nat.le_refl _) ⟨rfl, rfl, rfl⟩
theorem k_X7_sore {a : Nat} : CtE G yX7_sore cX7_sore 1 (some .int) 1 [.ref a] n h (some (.int 0)) h := by
  refine Ct.intro (k := 0) [some (.ref a)] (by decide) (Nat.le_of_ble_eq_true rfl) rfl fun z hz hin => ?_
  refine r_iconst 0 (by decide) (q := 1) dX7_sore_0 rfl ?_
  exact r_iret hz dX7_sore_1 (Nat.le_refl _) (Nat.le_refl _) ⟨rfl, rfl, rfl⟩
theorem k_X7_charm {a f : Nat} {x : Value} (ho : h a = some (.inr (.inr (7, [x, .int (nI f)])))) : CtE G yX7_charm cX7_charm 1 (some .int) 2 [.ref a] n h (some (.int (nI (f + 3)))) h := by
  refine Ct.intro (k := 0) [some (.ref a)] (by decide) (Nat.le_of_ble_eq_true rfl) rfl fun z hz hin => ?_
  refine r_aload_0 (q := 1) dX7_charm_0 rfl ?_
  refine r_callSU_0 csu_X7_7 ho rfl (by decide) (Nat.le_of_ble_eq_true rfl) ⟨Nat.le_refl _, Nat.le_refl _⟩ (k_X5_charm_7 ho) (q := 4) dX7_charm_1 rfl ?_
  refine r_iconst 3 (by decide) (q := 5) dX7_charm_4 rfl ?_
  refine r_iadd (q := 6) dX7_charm_5 rfl ?_
  refine J.topi (nI_add f 3) ?_
  exact r_iret hz dX7_charm_6 (Nat.le_refl _) (Nat.le_refl _) ⟨rfl, rfl, rfl⟩
theorem k_X7_init {a : Nat} {x y : Int32} (ho : h a = some (.inr (.inr (7, [.int 0, .int 0])))) : CtE G yX7_init cX7_init 3 none 2 [.ref a, .int x, .int y] n h none (hset h a (.inr (.inr (7, [.int x, .int y])))) := by
  refine Ct.intro (k := 0) [some (.ref a), some (.int x), some (.int y)] (by decide) (Nat.le_of_ble_eq_true rfl) rfl fun z hz hin => ?_
  refine r_aload_0 (q := 1) dX7_init_0 rfl ?_
  refine r_iload_1 (q := 2) dX7_init_1 rfl ?_
  refine r_iload_2 (q := 3) dX7_init_2 rfl ?_
  refine r_callIv_2 ci_X7_1 (by decide) (Nat.le_of_ble_eq_true rfl) ⟨Nat.le_refl _, Nat.le_refl _⟩ (k_X5_init_7 ho) (q := 6) dX7_init_3 rfl ?_
  exact r_vret hz dX7_init_6 (Nat.le_refl _) (Nat.le_refl _) ⟨rfl, rfl, rfl⟩
theorem k_X8_soft_8 {a : Nat} {fs : List Value} (ho : h a = some (.inr (.inr (8, fs)))) : CtE G yX8_soft cX8_soft 1 (some .int) 2 [.ref a] n h (some (.int 2)) h := by
  refine Ct.intro (k := 0) [some (.ref a)] (by decide) (Nat.le_of_ble_eq_true rfl) rfl fun z hz hin => ?_
  refine r_aload_0 (q := 1) dX8_soft_0 rfl ?_
  refine r_callSU_0 csu_X8_7 ho rfl (by decide) (Nat.le_of_ble_eq_true rfl) ⟨Nat.le_refl _, Nat.le_refl _⟩ k_X5_soft (q := 4) dX8_soft_1 rfl ?_
  refine r_iconst 1 (by decide) (q := 5) dX8_soft_4 rfl ?_
  refine r_iadd (q := 6) dX8_soft_5 rfl ?_
  exact r_iret hz dX8_soft_6 (Nat.le_refl _) (Nat.le_refl _) ⟨rfl, rfl, rfl⟩
theorem k_X8_sore_8 {a f : Nat} {x : Value} (hf : f < 10) (ho : h a = some (.inr (.inr (8, [x, .int (nI f)])))) : CtE G yX8_sore cX8_sore 1 (some .int) 1 [.ref a] n h (some (.int (nI (f / 3)))) h := by
  refine Ct.intro (k := 0) [some (.ref a)] (by decide) (Nat.le_of_ble_eq_true rfl) rfl fun z hz hin => ?_
  refine r_aload_0 (q := 1) dX8_sore_0 rfl ?_
  refine r_get gf_X8_11_8 ho rfl (q := 4) dX8_sore_1 rfl ?_
  refine r_iconst 3 (by decide) (q := 5) dX8_sore_4 rfl ?_
  refine r_idiv (by decide) (q := 6) dX8_sore_5 rfl ?_
  refine J.topi (dv (d := 3) (by omega) (by decide) (by decide)) ?_
  exact r_iret hz dX8_sore_6 (Nat.le_refl _) (Nat.le_refl _) ⟨rfl, rfl, rfl⟩
theorem k_X8_init_8 {a : Nat} {x y : Int32} (ho : h a = some (.inr (.inr (8, [.int 0, .int 0])))) : CtE G yX8_init cX8_init 3 none 2 [.ref a, .int x, .int y] n h none (hset h a (.inr (.inr (8, [.int x, .int y])))) := by
  refine Ct.intro (k := 0) [some (.ref a), some (.int x), some (.int y)] (by decide) (Nat.le_of_ble_eq_true rfl) rfl fun z hz hin => ?_
  refine r_aload_0 (q := 1) dX8_init_0 rfl ?_
  refine r_iload_1 (q := 2) dX8_init_1 rfl ?_
  refine r_iload_2 (q := 3) dX8_init_2 rfl ?_
  refine r_callIv_2 ci_X8_1 (by decide) (Nat.le_of_ble_eq_true rfl) ⟨Nat.le_refl _, Nat.le_refl _⟩ (k_X5_init_8 ho) (q := 6) dX8_init_3 rfl ?_
  exact r_vret hz dX8_init_6 (Nat.le_refl _) (Nat.le_refl _) ⟨rfl, rfl, rfl⟩
theorem k_X8_soft_10 {a : Nat} {fs : List Value} (ho : h a = some (.inr (.inr (10, fs)))) : CtE G yX8_soft cX8_soft 1 (some .int) 2 [.ref a] n h (some (.int 2)) h := by
  refine Ct.intro (k := 0) [some (.ref a)] (by decide) (Nat.le_of_ble_eq_true rfl) rfl fun z hz hin => ?_
  refine r_aload_0 (q := 1) dX8_soft_0 rfl ?_
  refine r_callSU_0 csu_X8_7 ho rfl (by decide) (Nat.le_of_ble_eq_true rfl) ⟨Nat.le_refl _, Nat.le_refl _⟩ k_X5_soft (q := 4) dX8_soft_1 rfl ?_
  refine r_iconst 1 (by decide) (q := 5) dX8_soft_4 rfl ?_
  refine r_iadd (q := 6) dX8_soft_5 rfl ?_
  exact r_iret hz dX8_soft_6 (Nat.le_refl _) (Nat.le_refl _) ⟨rfl, rfl, rfl⟩
theorem k_X8_sore_10 {a f : Nat} {x : Value} (hf : f < 10) (ho : h a = some (.inr (.inr (10, [x, .int (nI f)])))) : CtE G yX8_sore cX8_sore 1 (some .int) 1 [.ref a] n h (some (.int (nI (f / 3)))) h := by
  refine Ct.intro (k := 0) [some (.ref a)] (by decide) (Nat.le_of_ble_eq_true rfl) rfl fun z hz hin => ?_
  refine r_aload_0 (q := 1) dX8_sore_0 rfl ?_
  refine r_get gf_X8_11_10 ho rfl (q := 4) dX8_sore_1 rfl ?_
  refine r_iconst 3 (by decide) (q := 5) dX8_sore_4 rfl ?_
  refine r_idiv (by decide) (q := 6) dX8_sore_5 rfl ?_
  refine J.topi (dv (d := 3) (by omega) (by decide) (by decide)) ?_
  exact r_iret hz dX8_sore_6 (Nat.le_refl _) (Nat.le_refl _) ⟨rfl, rfl, rfl⟩
theorem k_X8_init_10 {a : Nat} {x y : Int32} (ho : h a = some (.inr (.inr (10, [.int 0, .int 0])))) : CtE G yX8_init cX8_init 3 none 2 [.ref a, .int x, .int y] n h none (hset h a (.inr (.inr (10, [.int x, .int y])))) := by
  refine Ct.intro (k := 0) [some (.ref a), some (.int x), some (.int y)] (by decide) (Nat.le_of_ble_eq_true rfl) rfl fun z hz hin => ?_
  refine r_aload_0 (q := 1) dX8_init_0 rfl ?_
  refine r_iload_1 (q := 2) dX8_init_1 rfl ?_
  refine r_iload_2 (q := 3) dX8_init_2 rfl ?_
  refine r_callIv_2 ci_X8_1 (by decide) (Nat.le_of_ble_eq_true rfl) ⟨Nat.le_refl _, Nat.le_refl _⟩ (k_X5_init_10 ho) (q := 6) dX8_init_3 rfl ?_
  exact r_vret hz dX8_init_6 (Nat.le_refl _) (Nat.le_refl _) ⟨rfl, rfl, rfl⟩
theorem k_X8_charm {a : Nat} : CtE G yX8_charm cX8_charm 1 (some .int) 1 [.ref a] n h (some (.int 0)) h := by
  refine Ct.intro (k := 0) [some (.ref a)] (by decide) (Nat.le_of_ble_eq_true rfl) rfl fun z hz hin => ?_
  refine r_iconst 0 (by decide) (q := 1) dX8_charm_0 rfl ?_
  exact r_iret hz dX8_charm_1 (Nat.le_refl _) (Nat.le_refl _) ⟨rfl, rfl, rfl⟩
theorem k_X9_soft {a f : Nat} {x : Value} (hf : f < 10) (ho : h a = some (.inr (.inr (9, [x, .int (nI f)])))) : CtE G yX9_soft cX9_soft 1 (some .int) 2 [.ref a] n h (some (.int (nI (f / 5 + 1)))) h := by
  refine Ct.intro (k := 0) [some (.ref a)] (by decide) (Nat.le_of_ble_eq_true rfl) rfl fun z hz hin => ?_
  refine r_aload_0 (q := 1) dX9_soft_0 rfl ?_
  refine r_callSU_0 csu_X9_7 ho rfl (by decide) (Nat.le_of_ble_eq_true rfl) ⟨Nat.le_refl _, Nat.le_refl _⟩ (k_X6_soft_9 hf ho) (q := 4) dX9_soft_1 rfl ?_
  refine r_iconst 1 (by decide) (q := 5) dX9_soft_4 rfl ?_
  refine r_iadd (q := 6) dX9_soft_5 rfl ?_
  refine J.topi (nI_add _ 1) ?_
  exact r_iret hz dX9_soft_6 (Nat.le_refl _) (Nat.le_refl _) ⟨rfl, rfl, rfl⟩
theorem k_X9_sore {a : Nat} {fs : List Value} (ho : h a = some (.inr (.inr (9, fs)))) : CtE G yX9_sore cX9_sore 1 (some .int) 3 [.ref a] n h (some (.int 1)) h := by
  refine Ct.intro (k := 0) [some (.ref a)] (by decide) (Nat.le_of_ble_eq_true rfl) rfl fun z hz hin => ?_
  refine r_aload_0 (q := 1) dX9_sore_0 rfl ?_
  refine r_callSU_0 csu_X9_11 ho rfl (by decide) (Nat.le_of_ble_eq_true rfl) ⟨Nat.le_refl _, Nat.le_refl _⟩ (k_X6_sore_9 ho) (q := 4) dX9_sore_1 rfl ?_
  refine r_iconst 2 (by decide) (q := 5) dX9_sore_4 rfl ?_
  refine r_idiv (by decide) (q := 6) dX9_sore_5 rfl ?_
  exact r_iret hz dX9_sore_6 (Nat.le_refl _) (Nat.le_refl _) ⟨rfl, rfl, rfl⟩
theorem k_X9_charm {a f : Nat} {x : Value} (hf : f < 10) (ho : h a = some (.inr (.inr (9, [x, .int (nI f)])))) : CtE G yX9_charm cX9_charm 1 (some .int) 3 [.ref a] n h (some (.int (nI (f / 2 + 4)))) h := by
  refine Ct.intro (k := 0) [some (.ref a)] (by decide) (Nat.le_of_ble_eq_true rfl) rfl fun z hz hin => ?_
  refine r_aload_0 (q := 1) dX9_charm_0 rfl ?_
  refine r_callSU_0 csu_X9_14 ho rfl (by decide) (Nat.le_of_ble_eq_true rfl) ⟨Nat.le_refl _, Nat.le_refl _⟩ (k_X6_charm_9 hf ho) (q := 4) dX9_charm_1 rfl ?_
  refine r_iconst 4 (by decide) (q := 5) dX9_charm_4 rfl ?_
  refine r_iadd (q := 6) dX9_charm_5 rfl ?_
  refine J.topi (nI_add _ 4) ?_
  exact r_iret hz dX9_charm_6 (Nat.le_refl _) (Nat.le_refl _) ⟨rfl, rfl, rfl⟩
theorem k_X9_init {a : Nat} {x y : Int32} (ho : h a = some (.inr (.inr (9, [.int 0, .int 0])))) : CtE G yX9_init cX9_init 3 none 3 [.ref a, .int x, .int y] n h none (hset h a (.inr (.inr (9, [.int x, .int y])))) := by
  refine Ct.intro (k := 0) [some (.ref a), some (.int x), some (.int y)] (by decide) (Nat.le_of_ble_eq_true rfl) rfl fun z hz hin => ?_
  refine r_aload_0 (q := 1) dX9_init_0 rfl ?_
  refine r_iload_1 (q := 2) dX9_init_1 rfl ?_
  refine r_iload_2 (q := 3) dX9_init_2 rfl ?_
  refine r_callIv_2 ci_X9_1 (by decide) (Nat.le_of_ble_eq_true rfl) ⟨Nat.le_refl _, Nat.le_refl _⟩ (k_X6_init_9 ho) (q := 6) dX9_init_3 rfl ?_
  exact r_vret hz dX9_init_6 (Nat.le_refl _) (Nat.le_refl _) ⟨rfl, rfl, rfl⟩
theorem k_X10_soft {a : Nat} {fs : List Value} (ho : h a = some (.inr (.inr (10, fs)))) : CtE G yX10_soft cX10_soft 1 (some .int) 3 [.ref a] n h (some (.int 4)) h := by
  refine Ct.intro (k := 0) [some (.ref a)] (by decide) (Nat.le_of_ble_eq_true rfl) rfl fun z hz hin => ?_
  refine r_iconst 2 (by decide) (q := 1) dX10_soft_0 rfl ?_
  refine r_aload_0 (q := 2) dX10_soft_1 rfl ?_
  refine r_callSU_0 csu_X10_7 ho rfl (by decide) (Nat.le_of_ble_eq_true rfl) ⟨Nat.le_refl _, Nat.le_refl _⟩ (k_X8_soft_10 ho) (q := 5) dX10_soft_2 rfl ?_
  refine r_imul (q := 6) dX10_soft_5 rfl ?_
  exact r_iret hz dX10_soft_6 (Nat.le_refl _) (Nat.le_refl _) ⟨rfl, rfl, rfl⟩
theorem k_X10_charm {a : Nat} : CtE G yX10_charm cX10_charm 1 (some .int) 1 [.ref a] n h (some (.int 9)) h := by
  refine Ct.intro (k := 0) [some (.ref a)] (by decide) (Nat.le_of_ble_eq_true rfl) rfl fun z hz hin => ?_
  refine r_bipush 9 (by decide) (q := 2) dX10_charm_0 rfl ?_
  exact r_iret hz dX10_charm_2 (Nat.le_refl _) (Nat.le_refl _) ⟨rfl, rfl, rfl⟩
theorem k_X10_init {a : Nat} {x y : Int32} (ho : h a = some (.inr (.inr (10, [.int 0, .int 0])))) : CtE G yX10_init cX10_init 3 none 3 [.ref a, .int x, .int y] n h none (hset h a (.inr (.inr (10, [.int x, .int y])))) := by
  refine Ct.intro (k := 0) [some (.ref a), some (.int x), some (.int y)] (by decide) (Nat.le_of_ble_eq_true rfl) rfl fun z hz hin => ?_
  refine r_aload_0 (q := 1) dX10_init_0 rfl ?_
  refine r_iload_1 (q := 2) dX10_init_1 rfl ?_
  refine r_iload_2 (q := 3) dX10_init_2 rfl ?_
  refine r_callIv_2 ci_X10_1 (by decide) (Nat.le_of_ble_eq_true rfl) ⟨Nat.le_refl _, Nat.le_refl _⟩ (k_X8_init_10 ho) (q := 6) dX10_init_3 rfl ?_
  exact r_vret hz dX10_init_6 (Nat.le_refl _) (Nat.le_refl _) ⟨rfl, rfl, rfl⟩
/-! calls through a Person: by its kind -/
variable {z : MZ} {cc : ByteArray} {nL lvl mcT msT cells slots pc q : Nat} {lo : List (Option Value)} {stk : List Value}
theorem r_soft_X0 {p k f : Nat} (hk : k < 6) (hf : f < 10) (hp : h p = some (pcell (k, f))) (hlv : 4 ≤ lvl) (hst : (stk.map fun v => v.category).sum ≤ 8) (hro : cells ≤ mcT ∧ slots ≤ msT) (d : decode cc pc = .ok (.invokevirtual 137, 3)) (hq : pc + 3 = q) (kk : J G z cc nL RX0 lvl mcT msT cells slots q lo (.int (nI (softN k f)) :: stk) n h) : J G z cc nL RX0 lvl mcT msT cells slots pc lo (.ref p :: stk) n h := by
  match k, hk with
  | 0, _ => exact r_callU_0 cu_X0_137_5 hp rfl (Nat.le_trans (by decide) hlv) hst hro k_X5_soft d hq kk
  | 1, _ => exact r_callU_0 cu_X0_137_6 hp rfl (Nat.le_trans (by decide) hlv) hst hro (k_X6_soft_6 hf hp) d hq kk
  | 2, _ => exact r_callU_0 cu_X0_137_7 hp rfl (Nat.le_trans (by decide) hlv) hst hro k_X7_soft d hq kk
  | 3, _ => exact r_callU_0 cu_X0_137_8 hp rfl (Nat.le_trans (by decide) hlv) hst hro (k_X8_soft_8 hp) d hq kk
  | 4, _ => exact r_callU_0 cu_X0_137_9 hp rfl (Nat.le_trans (by decide) hlv) hst hro (k_X9_soft hf hp) d hq kk
  | 5, _ => exact r_callU_0 cu_X0_137_10 hp rfl (Nat.le_trans (by decide) hlv) hst hro (k_X10_soft hp) d hq kk
theorem r_soft_X1 {p k f : Nat} (hk : k < 6) (hf : f < 10) (hp : h p = some (pcell (k, f))) (hlv : 4 ≤ lvl) (hst : (stk.map fun v => v.category).sum ≤ 8) (hro : cells ≤ mcT ∧ slots ≤ msT) (d : decode cc pc = .ok (.invokevirtual 79, 3)) (hq : pc + 3 = q) (kk : J G z cc nL RX1 lvl mcT msT cells slots q lo (.int (nI (softN k f)) :: stk) n h) : J G z cc nL RX1 lvl mcT msT cells slots pc lo (.ref p :: stk) n h := by
  match k, hk with
  | 0, _ => exact r_callU_0 cu_X1_79_5 hp rfl (Nat.le_trans (by decide) hlv) hst hro k_X5_soft d hq kk
  | 1, _ => exact r_callU_0 cu_X1_79_6 hp rfl (Nat.le_trans (by decide) hlv) hst hro (k_X6_soft_6 hf hp) d hq kk
  | 2, _ => exact r_callU_0 cu_X1_79_7 hp rfl (Nat.le_trans (by decide) hlv) hst hro k_X7_soft d hq kk
  | 3, _ => exact r_callU_0 cu_X1_79_8 hp rfl (Nat.le_trans (by decide) hlv) hst hro (k_X8_soft_8 hp) d hq kk
  | 4, _ => exact r_callU_0 cu_X1_79_9 hp rfl (Nat.le_trans (by decide) hlv) hst hro (k_X9_soft hf hp) d hq kk
  | 5, _ => exact r_callU_0 cu_X1_79_10 hp rfl (Nat.le_trans (by decide) hlv) hst hro (k_X10_soft hp) d hq kk
theorem r_sore_X0 {p k f : Nat} (hk : k < 6) (hf : f < 10) (hp : h p = some (pcell (k, f))) (hlv : 4 ≤ lvl) (hst : (stk.map fun v => v.category).sum ≤ 8) (hro : cells ≤ mcT ∧ slots ≤ msT) (d : decode cc pc = .ok (.invokevirtual 140, 3)) (hq : pc + 3 = q) (kk : J G z cc nL RX0 lvl mcT msT cells slots q lo (.int (nI (soreN k f)) :: stk) n h) : J G z cc nL RX0 lvl mcT msT cells slots pc lo (.ref p :: stk) n h := by
  match k, hk with
  | 0, _ => exact r_callU_0 cu_X0_140_5 hp rfl (Nat.le_trans (by decide) hlv) hst hro k_X5_sore d hq kk
  | 1, _ => exact r_callU_0 cu_X0_140_6 hp rfl (Nat.le_trans (by decide) hlv) hst hro (k_X6_sore_6 hp) d hq kk
  | 2, _ => exact r_callU_0 cu_X0_140_7 hp rfl (Nat.le_trans (by decide) hlv) hst hro k_X7_sore d hq kk
  | 3, _ => exact r_callU_0 cu_X0_140_8 hp rfl (Nat.le_trans (by decide) hlv) hst hro (k_X8_sore_8 hf hp) d hq kk
  | 4, _ => exact r_callU_0 cu_X0_140_9 hp rfl (Nat.le_trans (by decide) hlv) hst hro (k_X9_sore hp) d hq kk
  | 5, _ => exact r_callU_0 cu_X0_140_10 hp rfl (Nat.le_trans (by decide) hlv) hst hro (k_X8_sore_10 hf hp) d hq kk
theorem r_sore_X1 {p k f : Nat} (hk : k < 6) (hf : f < 10) (hp : h p = some (pcell (k, f))) (hlv : 4 ≤ lvl) (hst : (stk.map fun v => v.category).sum ≤ 8) (hro : cells ≤ mcT ∧ slots ≤ msT) (d : decode cc pc = .ok (.invokevirtual 87, 3)) (hq : pc + 3 = q) (kk : J G z cc nL RX1 lvl mcT msT cells slots q lo (.int (nI (soreN k f)) :: stk) n h) : J G z cc nL RX1 lvl mcT msT cells slots pc lo (.ref p :: stk) n h := by
  match k, hk with
  | 0, _ => exact r_callU_0 cu_X1_87_5 hp rfl (Nat.le_trans (by decide) hlv) hst hro k_X5_sore d hq kk
  | 1, _ => exact r_callU_0 cu_X1_87_6 hp rfl (Nat.le_trans (by decide) hlv) hst hro (k_X6_sore_6 hp) d hq kk
  | 2, _ => exact r_callU_0 cu_X1_87_7 hp rfl (Nat.le_trans (by decide) hlv) hst hro k_X7_sore d hq kk
  | 3, _ => exact r_callU_0 cu_X1_87_8 hp rfl (Nat.le_trans (by decide) hlv) hst hro (k_X8_sore_8 hf hp) d hq kk
  | 4, _ => exact r_callU_0 cu_X1_87_9 hp rfl (Nat.le_trans (by decide) hlv) hst hro (k_X9_sore hp) d hq kk
  | 5, _ => exact r_callU_0 cu_X1_87_10 hp rfl (Nat.le_trans (by decide) hlv) hst hro (k_X8_sore_10 hf hp) d hq kk
theorem r_charm_X0 {p k f : Nat} (hk : k < 6) (hf : f < 10) (hp : h p = some (pcell (k, f))) (hlv : 4 ≤ lvl) (hst : (stk.map fun v => v.category).sum ≤ 8) (hro : cells ≤ mcT ∧ slots ≤ msT) (d : decode cc pc = .ok (.invokevirtual 143, 3)) (hq : pc + 3 = q) (kk : J G z cc nL RX0 lvl mcT msT cells slots q lo (.int (nI (charmN k f)) :: stk) n h) : J G z cc nL RX0 lvl mcT msT cells slots pc lo (.ref p :: stk) n h := by
  match k, hk with
  | 0, _ => exact r_callU_0 cu_X0_143_5 hp rfl (Nat.le_trans (by decide) hlv) hst hro (k_X5_charm_5 hp) d hq kk
  | 1, _ => exact r_callU_0 cu_X0_143_6 hp rfl (Nat.le_trans (by decide) hlv) hst hro (k_X6_charm_6 hf hp) d hq kk
  | 2, _ => exact r_callU_0 cu_X0_143_7 hp rfl (Nat.le_trans (by decide) hlv) hst hro (k_X7_charm hp) d hq kk
  | 3, _ => exact r_callU_0 cu_X0_143_8 hp rfl (Nat.le_trans (by decide) hlv) hst hro k_X8_charm d hq kk
  | 4, _ => exact r_callU_0 cu_X0_143_9 hp rfl (Nat.le_trans (by decide) hlv) hst hro (k_X9_charm hf hp) d hq kk
  | 5, _ => exact r_callU_0 cu_X0_143_10 hp rfl (Nat.le_trans (by decide) hlv) hst hro k_X10_charm d hq kk
theorem r_charm_X1 {p k f : Nat} (hk : k < 6) (hf : f < 10) (hp : h p = some (pcell (k, f))) (hlv : 4 ≤ lvl) (hst : (stk.map fun v => v.category).sum ≤ 8) (hro : cells ≤ mcT ∧ slots ≤ msT) (d : decode cc pc = .ok (.invokevirtual 106, 3)) (hq : pc + 3 = q) (kk : J G z cc nL RX1 lvl mcT msT cells slots q lo (.int (nI (charmN k f)) :: stk) n h) : J G z cc nL RX1 lvl mcT msT cells slots pc lo (.ref p :: stk) n h := by
  match k, hk with
  | 0, _ => exact r_callU_0 cu_X1_106_5 hp rfl (Nat.le_trans (by decide) hlv) hst hro (k_X5_charm_5 hp) d hq kk
  | 1, _ => exact r_callU_0 cu_X1_106_6 hp rfl (Nat.le_trans (by decide) hlv) hst hro (k_X6_charm_6 hf hp) d hq kk
  | 2, _ => exact r_callU_0 cu_X1_106_7 hp rfl (Nat.le_trans (by decide) hlv) hst hro (k_X7_charm hp) d hq kk
  | 3, _ => exact r_callU_0 cu_X1_106_8 hp rfl (Nat.le_trans (by decide) hlv) hst hro k_X8_charm d hq kk
  | 4, _ => exact r_callU_0 cu_X1_106_9 hp rfl (Nat.le_trans (by decide) hlv) hst hro (k_X9_charm hf hp) d hq kk
  | 5, _ => exact r_callU_0 cu_X1_106_10 hp rfl (Nat.le_trans (by decide) hlv) hst hro k_X10_charm d hq kk
end PERS


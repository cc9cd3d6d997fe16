/-! ===== lots ===== -/
def seedS (s : Int32) : Int32 := s * 1103515245 + 12345
def drawS (s : Int32) (k : Nat) : Int32 := (s &&& 2147483647) / 65536 - (s &&& 2147483647) / 65536 / nI k * nI k
section XLO
variable {G : GD} {n x : Nat} {w w' : XW} {g : RH}
theorem k_X0_drawn {k : Nat} (hk : 0 < k) (hk6 : k ≤ 6) : CtE G yX0_drawn cX0_drawn 2 (some FieldType.int) 1 [.ref x, .int (nI k)] n (xh x w g) (some (.int (drawS (seedS (w.2.2.2 16)) k))) (xh x (setf w 16 (seedS (w.2.2.2 16))) g) := by
  refine Ct.intro (k := 0) [some (.ref x), some (.int (nI k))] (by decide) (Nat.le_of_ble_eq_true rfl) rfl fun z hz hin => ?_
  refine r_aload_0 (q := 1) dX0_drawn_0 rfl ?_
  refine r_aload_0 (q := 2) dX0_drawn_1 rfl ?_
  refine r_get gf_X0_331_0 xh_x rfl (q := 5) dX0_drawn_2 rfl ?_
  refine r_ldcw q984 (q := 8) dX0_drawn_5 rfl ?_
  refine r_imul (q := 9) dX0_drawn_8 rfl ?_
  refine r_sipush 12345 (by decide) (q := 12) dX0_drawn_9 rfl ?_
  refine r_iadd (q := 13) dX0_drawn_12 rfl ?_
  refine r_put gf_X0_331_0 cl_ok_0 ft_0_16 xh_x (Nat.le_of_ble_eq_true rfl) rfl rfl (q := 16) dX0_drawn_13 rfl ?_
  refine J.heap (xset_f rfl) ?_
  refine r_aload_0 (q := 17) dX0_drawn_16 rfl ?_
  refine r_get gf_X0_331_0 xh_x rfl (q := 20) dX0_drawn_17 rfl ?_
  refine r_ldcw q985 (q := 23) dX0_drawn_20 rfl ?_
  refine r_iand (q := 24) dX0_drawn_23 rfl ?_
  refine r_ldcw q986 (q := 27) dX0_drawn_24 rfl ?_
  refine r_idiv (by decide) (q := 28) dX0_drawn_27 rfl ?_
  refine r_iload_1 (q := 29) dX0_drawn_28 rfl ?_
  refine r_irem (nI_ne0 hk (by omega)) (q := 30) dX0_drawn_29 rfl ?_
  exact r_iret hz dX0_drawn_30 (Nat.le_refl _) (Nat.le_refl _) ⟨rfl, rfl, rfl⟩
end XLO


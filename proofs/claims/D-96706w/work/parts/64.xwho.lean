/-! ===== who it was ===== -/
def setPr (S : SQ) (a : Nat) (p : PP) : SQ := (S.1.set a p, S.2)
section XW1
variable {G : GD} {n x : Nat} {w w' : XW} {g : RH} {X : QX}
theorem xs_p {a o : Nat} {p : PP} (i : Nat) (hi : i < 12) : hset (xh x (setq w i X) g) (x + qo i + 2) (.inr (.inl (0, elems (X.2.1.set a o)))) = xh x (setq w i (setPr X.1 a p, X.2.1.set a o, X.2.2)) g := by
  refine (xset_q (w := setq w i X) (X := (setPr X.1 a p, X.2.1.set a o, X.2.2)) i 2 hi ?_).trans (by rw [setq_setq])
  rw [setq_at]
  exact qh_set 2 (by decide) rfl (fun j h1 h2 => by match j, h1, h2 with | 0, _, _ => rfl | 1, _, _ => (simp [qcell]) | 2, _, h => exact absurd rfl h | 3, _, _ => rfl | 4, _, _ => rfl | 5, _, _ => rfl)
end XW1


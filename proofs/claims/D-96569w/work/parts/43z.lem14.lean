/-! steps of plants -/
theorem plsG_p {q k n m : Nat} {a c : Int32} {β : mS} (h : ¬ (a < 0 ∨ β 40 q - nI (3 * k) - 3 < a)) (hm : tn a = m) (hc : plaR β (β 41 (40 * q + m + 3 * k)) (β 41 (40 * q + m + 3 * k + 1)) (β 41 (40 * q + m + 3 * k + 2)) < 0) : plsG q a (n + 1) k β c = plsG q a n (k + 1) (plaS β (β 41 (40 * q + m + 3 * k)) (β 41 (40 * q + m + 3 * k + 1)) (β 41 (40 * q + m + 3 * k + 2))) (c + 0) := by
  rw [plsG_s h hm, if_pos hc]
theorem plsG_n {q k n m : Nat} {a c : Int32} {β : mS} (h : ¬ (a < 0 ∨ β 40 q - nI (3 * k) - 3 < a)) (hm : tn a = m) (hc : ¬ plaR β (β 41 (40 * q + m + 3 * k)) (β 41 (40 * q + m + 3 * k + 1)) (β 41 (40 * q + m + 3 * k + 2)) < 0) : plsG q a (n + 1) k β c = plsG q a n (k + 1) (plaS β (β 41 (40 * q + m + 3 * k)) (β 41 (40 * q + m + 3 * k + 1)) (β 41 (40 * q + m + 3 * k + 2))) (c + 1) := by
  rw [plsG_s h hm, if_neg hc]
theorem mostV_3 : mostV 3 = 9 := by unfold mostV; rw [if_neg (by decide), if_neg (by decide), if_neg (by decide)]
theorem mostV_4 : mostV 4 = 7 := by unfold mostV; rw [if_neg (by decide), if_pos (by decide)]

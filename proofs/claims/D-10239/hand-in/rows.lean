section
/-! sums, saturation, running least, count -/
/-- a sum under saturation: from 50000 on it is 'never' -/
def wn_sat (s : Nat) : Nat := if s < 50000 then s else 100000
def wn_ok (B s : Nat) : Prop := s ≤ B ∨ 100000 ≤ s
def wn_e (B s : Nat) : Prop := s ≤ B ∨ s = 100000
def wn_more (a b : Nat) : Nat := if a < 50000 then (if b < 50000 then a + b else 100000) else 100000
def wn_less (c m : Nat) : Nat := if c < 50000 then c - m else 100000
def wn_sm (f : Nat → Nat) : Nat → Nat
  | 0 => 0
  | k + 1 => wn_sm f k + f k
def wn_bst (V : Nat → Nat) : Nat → Nat
  | 0 => 100000
  | k + 1 => if V k < wn_bst V k then V k else wn_bst V k
def wn_arg (V : Nat → Nat) : Nat → Nat
  | 0 => 0
  | k + 1 => if V k < wn_bst V k then k else wn_arg V k
def wn_cnt (V : Nat → Nat) (b : Nat) : Nat → Nat
  | 0 => 0
  | k + 1 => wn_cnt V b k + (if V k ≤ b then 1 else 0)
def wn_up (f : Nat → Nat) (k x : Nat) : Nat → Nat := fun j => if j = k then x else f j
theorem wn_ups {f : Nat → Nat} {k x : Nat} : wn_up f k x k = x := if_pos rfl
theorem wn_upn {f : Nat → Nat} {k j x : Nat} (h : j ≠ k) : wn_up f k x j = f j := if_neg h
theorem wn_sat_lt {s : Nat} (h : s < 50000) : wn_sat s = s := if_pos h
theorem wn_sat_ge {s : Nat} (h : 50000 ≤ s) : wn_sat s = 100000 := if_neg (by omega)
theorem wn_sat_le (s : Nat) : wn_sat s ≤ 100000 := by
  unfold wn_sat; split <;> omega
theorem wn_sat_two (s : Nat) : wn_sat s < 50000 ∨ wn_sat s = 100000 := by
  unfold wn_sat; split <;> omega
theorem wn_ok_e {B s : Nat} (h : wn_e B s) : wn_ok B s := by
  unfold wn_e at h; unfold wn_ok; omega
theorem wn_ok_mono {B B' s : Nat} (h : wn_ok B s) (hB : B ≤ B') : wn_ok B' s := by
  unfold wn_ok at h; unfold wn_ok; omega
theorem wn_e_mono {B B' s : Nat} (h : wn_e B s) (hB : B ≤ B') : wn_e B' s := by
  unfold wn_e at h; unfold wn_e; omega
theorem wn_ok_add {B B' s t : Nat} (h : wn_ok B s) (h' : wn_ok B' t) : wn_ok (B + B') (s + t) := by
  unfold wn_ok at h h'; unfold wn_ok; omega
theorem wn_ok_0 {B : Nat} : wn_ok B 0 := Or.inl (Nat.zero_le _)
theorem wn_sat_ok {B s : Nat} (h : wn_ok B s) (hB : B < 50000) : wn_sat s ≤ s := by
  unfold wn_ok at h; unfold wn_sat; split <;> omega
theorem wn_sat_oe {B s : Nat} (h : wn_ok B s) (hB : B < 50000) : wn_e B (wn_sat s) := by
  unfold wn_ok at h; unfold wn_sat; unfold wn_e; split <;> omega
theorem wn_sat_e {B s : Nat} (h : wn_e B s) (hB : B < 50000) : wn_sat s = s := by
  unfold wn_e at h; unfold wn_sat; split <;> omega
theorem wn_more_sat {B B' s t : Nat} (h : wn_ok B s) (h' : wn_ok B' t) (hB : B + B' < 50000) : wn_more (wn_sat s) (wn_sat t) = wn_sat (s + t) := by
  unfold wn_ok at h h'
  rcases Nat.lt_or_ge s 50000 with hs | hs
  · rcases Nat.lt_or_ge t 50000 with ht | ht
    · rw [wn_sat_lt hs, wn_sat_lt ht, wn_sat_lt (by omega)]
      unfold wn_more
      rw [if_pos hs, if_pos ht]
    · rw [wn_sat_lt hs, wn_sat_ge ht, wn_sat_ge (by omega)]
      unfold wn_more
      rw [if_pos hs, if_neg (by omega)]
  · rw [wn_sat_ge hs, wn_sat_ge (show 50000 ≤ s + t by omega)]
    unfold wn_more
    rw [if_neg (by omega)]
theorem wn_more_e {B B' s t : Nat} (h : wn_e B s) (h' : wn_e B' t) : wn_e (B + B') (wn_more s t) := by
  unfold wn_e at h h'; unfold wn_e wn_more
  split
  · split <;> omega
  · omega
theorem wn_less_e {B c m : Nat} (h : wn_e B c) : wn_e B (wn_less c m) := by
  unfold wn_e at h; unfold wn_e wn_less
  split <;> omega
theorem wn_sm_ok {f : Nat → Nat} {k B : Nat} (h : ∀ i, i < k → wn_ok B (f i)) : wn_ok (B * k) (wn_sm f k) := by
  induction k with
  | zero => exact wn_ok_0
  | succ k ih =>
    rw [Nat.mul_succ]
    exact wn_ok_add (ih (fun i hi => h i (by omega))) (h k (by omega))
theorem wn_sm_cong {f g : Nat → Nat} {k : Nat} (h : ∀ i, i < k → f i = g i) : wn_sm f k = wn_sm g k := by
  induction k with
  | zero => rfl
  | succ k ih =>
    show wn_sm f k + f k = wn_sm g k + g k
    rw [ih (fun i hi => h i (by omega)), h k (by omega)]
theorem wn_sm_zero {f : Nat → Nat} {k : Nat} (h : ∀ i, i < k → f i = 0) : wn_sm f k = 0 := by
  induction k with
  | zero => rfl
  | succ k ih =>
    show wn_sm f k + f k = 0
    rw [ih (fun i hi => h i (by omega)), h k (by omega)]
theorem wn_sm_add (f g : Nat → Nat) (k : Nat) : wn_sm (fun i => f i + g i) k = wn_sm f k + wn_sm g k := by
  induction k with
  | zero => rfl
  | succ k ih =>
    show wn_sm (fun i => f i + g i) k + (f k + g k) = (wn_sm f k + f k) + (wn_sm g k + g k)
    rw [ih]; omega
theorem wn_sm_le {f g : Nat → Nat} {k : Nat} (h : ∀ i, i < k → f i ≤ g i) : wn_sm f k ≤ wn_sm g k := by
  induction k with
  | zero => exact Nat.le_refl _
  | succ k ih =>
    show wn_sm f k + f k ≤ wn_sm g k + g k
    exact Nat.add_le_add (ih (fun i hi => h i (by omega))) (h k (by omega))
theorem wn_sm_one {f g : Nat → Nat} {k j : Nat} (hj : j < k) (h : ∀ i, i < k → i ≠ j → f i = g i) : wn_sm f k + g j = wn_sm g k + f j := by
  induction k with
  | zero => omega
  | succ k ih =>
    show wn_sm f k + f k + g j = wn_sm g k + g k + f j
    by_cases e : j = k
    · subst e
      rw [wn_sm_cong (f := f) (g := g) (fun i hi => h i (by omega) (by omega))]
      omega
    · have h1 := ih (by omega) (fun i hi hn => h i (by omega) hn)
      have h2 := h k (by omega) (by omega)
      omega
theorem wn_sm_mem {f : Nat → Nat} {k j : Nat} (hj : j < k) : f j ≤ wn_sm f k := by
  induction k with
  | zero => omega
  | succ k ih =>
    show f j ≤ wn_sm f k + f k
    by_cases e : j = k
    · rw [e]; omega
    · have := ih (by omega)
      omega
theorem wn_bst_max (V : Nat → Nat) (k : Nat) : wn_bst V k ≤ 100000 := by
  induction k with
  | zero => exact Nat.le_refl _
  | succ k ih =>
    show (if V k < wn_bst V k then V k else wn_bst V k) ≤ 100000
    split <;> omega
theorem wn_bst_le {V : Nat → Nat} {k j : Nat} (h : j < k) : wn_bst V k ≤ V j := by
  induction k with
  | zero => omega
  | succ k ih =>
    show (if V k < wn_bst V k then V k else wn_bst V k) ≤ V j
    by_cases e : j = k
    · subst e
      split <;> omega
    · have := ih (by omega)
      split <;> omega
theorem wn_bst_e {V : Nat → Nat} {k B : Nat} (h : ∀ j, j < k → wn_e B (V j)) : wn_e B (wn_bst V k) := by
  induction k with
  | zero => exact Or.inr rfl
  | succ k ih =>
    show wn_e B (if V k < wn_bst V k then V k else wn_bst V k)
    split
    · exact h k (by omega)
    · exact ih (fun j hj => h j (by omega))
theorem wn_arg_at {V : Nat → Nat} {k : Nat} (h : wn_bst V k < 100000) : wn_arg V k < k ∧ V (wn_arg V k) = wn_bst V k := by
  induction k with
  | zero => exact absurd h (Nat.lt_irrefl _)
  | succ k ih =>
    have h' : (if V k < wn_bst V k then V k else wn_bst V k) < 100000 := h
    show (if V k < wn_bst V k then k else wn_arg V k) < k + 1 ∧ V (if V k < wn_bst V k then k else wn_arg V k) = (if V k < wn_bst V k then V k else wn_bst V k)
    by_cases e : V k < wn_bst V k
    · rw [if_pos e, if_pos e]
      exact ⟨by omega, rfl⟩
    · rw [if_neg e] at h'
      rw [if_neg e, if_neg e]
      have := ih h'
      exact ⟨by omega, this.2⟩
theorem wn_bst_skip {V : Nat → Nat} {p q : Nat} (hpq : p ≤ q) (h : ∀ k, p ≤ k → k < q → wn_bst V p ≤ V k) : wn_bst V q = wn_bst V p ∧ wn_arg V q = wn_arg V p := by
  induction q with
  | zero => rw [show p = 0 by omega]; exact ⟨rfl, rfl⟩
  | succ q ih =>
    by_cases e : p = q + 1
    · rw [e]; exact ⟨rfl, rfl⟩
    · have h1 := ih (by omega) (fun k a b => h k a (by omega))
      have h2 := h q (by omega) (by omega)
      show (if V q < wn_bst V q then V q else wn_bst V q) = wn_bst V p ∧ (if V q < wn_bst V q then q else wn_arg V q) = wn_arg V p
      rw [if_neg (by omega), if_neg (by omega)]
      exact h1
theorem wn_cnt_skip {V : Nat → Nat} {b p q : Nat} (hpq : p ≤ q) (h : ∀ k, p ≤ k → k < q → b < V k) : wn_cnt V b q = wn_cnt V b p := by
  induction q with
  | zero => rw [show p = 0 by omega]
  | succ q ih =>
    by_cases e : p = q + 1
    · rw [e]
    · have h1 := ih (by omega) (fun k a b => h k a (by omega))
      have h2 := h q (by omega) (by omega)
      show wn_cnt V b q + (if V q ≤ b then 1 else 0) = _
      rw [if_neg (by omega), h1, Nat.add_zero]
theorem wn_cnt_le (V : Nat → Nat) (b k : Nat) : wn_cnt V b k ≤ k := by
  induction k with
  | zero => exact Nat.le_refl _
  | succ k ih =>
    show wn_cnt V b k + (if V k ≤ b then 1 else 0) ≤ k + 1
    split <;> omega
theorem wn_cnt_cong {V W : Nat → Nat} {b c k : Nat} (h : ∀ j, j < k → (V j ≤ b ↔ W j ≤ c)) : wn_cnt V b k = wn_cnt W c k := by
  induction k with
  | zero => rfl
  | succ k ih =>
    show wn_cnt V b k + (if V k ≤ b then 1 else 0) = wn_cnt W c k + (if W k ≤ c then 1 else 0)
    rw [ih (fun j hj => h j (by omega))]
    have := h k (by omega)
    by_cases e : V k ≤ b
    · rw [if_pos e, if_pos (this.mp e)]
    · rw [if_neg e, if_neg (fun z => e (this.mpr z))]
theorem wn_cnt_mono {V W : Nat → Nat} {b c k : Nat} (h : ∀ j, j < k → (V j ≤ b → W j ≤ c)) : wn_cnt V b k ≤ wn_cnt W c k := by
  induction k with
  | zero => exact Nat.le_refl _
  | succ k ih =>
    show wn_cnt V b k + (if V k ≤ b then 1 else 0) ≤ wn_cnt W c k + (if W k ≤ c then 1 else 0)
    have h1 := ih (fun j hj => h j (by omega))
    have h2 := h k (by omega)
    by_cases e : V k ≤ b
    · rw [if_pos e, if_pos (h2 e)]; omega
    · rw [if_neg e]; omega
theorem wn_cnt_0 {V : Nat → Nat} {b k : Nat} (h : ∀ j, j < k → b < V j) : wn_cnt V b k = 0 :=
  wn_cnt_skip (p := 0) (Nat.zero_le _) (fun j _ hj => h j hj)
theorem wn_cnt_pos {V : Nat → Nat} {b k j : Nat} (hj : j < k) (h : V j ≤ b) : 1 ≤ wn_cnt V b k := by
  induction k with
  | zero => omega
  | succ k ih =>
    show 1 ≤ wn_cnt V b k + (if V k ≤ b then 1 else 0)
    by_cases e : j = k
    · subst e
      rw [if_pos h]; omega
    · have := ih (by omega)
      omega
theorem wn_bst_ge {V : Nat → Nat} {k x : Nat} (hx : x ≤ 100000) (h : ∀ j, j < k → x ≤ V j) : x ≤ wn_bst V k := by
  induction k with
  | zero => exact hx
  | succ k ih =>
    show x ≤ (if V k < wn_bst V k then V k else wn_bst V k)
    have h1 := ih (fun j hj => h j (by omega))
    have h2 := h k (by omega)
    split <;> omega
end
section
/-! what a value costs, what an assignment costs; the lower bound -/
def wn_xy (n : Nat) (X Y : Nat → Nat) : Prop := n ≤ 8 ∧ ∀ t, t < n → X t < 6 ∧ Y t < 6 ∧ X t ≠ Y t
def wn_tw (X Y w A : Nat → Nat) (v a fr t : Nat) : Nat :=
  if X t = v then (if Y t < fr then w (t * 9 + a + 3 * A (Y t)) else 0)
  else (if Y t = v then (if X t < fr then w (t * 9 + A (X t) + 3 * a) else 0) else 0)
def wn_wt (n : Nat) (X Y o w A : Nat → Nat) (v a fr : Nat) : Nat := o (v * 3 + a) + wn_sm (wn_tw X Y w A v a fr) n
def wn_S (n : Nat) (X Y : Nat → Nat) (fl : Nat) (o w A : Nat → Nat) (l : Nat) : Nat := fl + wn_sm (fun v => wn_wt n X Y o w A v (A v) v) l
def wn_T (n : Nat) (X Y : Nat → Nat) (fl : Nat) (o w A : Nat → Nat) : Nat :=
  fl + wn_sm (fun v => o (v * 3 + A v)) 6 + wn_sm (fun t => w (t * 9 + A (X t) + 3 * A (Y t))) n
def wn_bd (n fl : Nat) (o w : Nat → Nat) : Prop := wn_e 5586 fl ∧ (∀ i, i < 18 → wn_e 931 (o i)) ∧ (∀ j, j < n * 9 → wn_e 19 (w j))
theorem wn_ex {n : Nat} {X Y w A : Nat → Nat} (h : wn_xy n X Y) (l : Nat) :
    wn_sm (fun v => wn_sm (wn_tw X Y w A v (A v) v) n) l = wn_sm (fun t => if X t < l ∧ Y t < l then w (t * 9 + A (X t) + 3 * A (Y t)) else 0) n := by
  induction l with
  | zero =>
    rw [wn_sm_zero (k := n) (fun i _ => if_neg (fun z => absurd z.1 (Nat.not_lt_zero _)))]
    rfl
  | succ l ih =>
    show wn_sm (fun v => wn_sm (wn_tw X Y w A v (A v) v) n) l + wn_sm (wn_tw X Y w A l (A l) l) n = _
    rw [ih, ← wn_sm_add]
    refine (wn_sm_cong (fun t ht => ?_)).symm
    have hn := (h.2 t ht).2.2
    show (if X t < l + 1 ∧ Y t < l + 1 then w (t * 9 + A (X t) + 3 * A (Y t)) else 0) = (if X t < l ∧ Y t < l then w (t * 9 + A (X t) + 3 * A (Y t)) else 0) + wn_tw X Y w A l (A l) l t
    unfold wn_tw
    by_cases hx : X t = l
    · rw [if_pos hx, if_neg (show ¬ (X t < l ∧ Y t < l) by omega)]
      by_cases hy : Y t < l
      · rw [if_pos hy, if_pos (show X t < l + 1 ∧ Y t < l + 1 by omega), hx, Nat.zero_add]
      · rw [if_neg hy, if_neg (show ¬ (X t < l + 1 ∧ Y t < l + 1) by omega)]
    · rw [if_neg hx]
      by_cases hy : Y t = l
      · rw [if_pos hy, if_neg (show ¬ (X t < l ∧ Y t < l) by omega)]
        by_cases hz : X t < l
        · rw [if_pos hz, if_pos (show X t < l + 1 ∧ Y t < l + 1 by omega), hy, Nat.zero_add]
        · rw [if_neg hz, if_neg (show ¬ (X t < l + 1 ∧ Y t < l + 1) by omega)]
      · rw [if_neg hy]
        by_cases hz : X t < l ∧ Y t < l
        · rw [if_pos hz, if_pos (show X t < l + 1 ∧ Y t < l + 1 by omega)]
          rfl
        · rw [if_neg hz, if_neg (show ¬ (X t < l + 1 ∧ Y t < l + 1) by omega)]
theorem wn_S6 {n fl : Nat} {X Y o w A : Nat → Nat} (h : wn_xy n X Y) : wn_S n X Y fl o w A 6 = wn_T n X Y fl o w A := by
  have e : wn_sm (fun v => wn_wt n X Y o w A v (A v) v) 6 = wn_sm (fun v => o (v * 3 + A v)) 6 + wn_sm (fun v => wn_sm (wn_tw X Y w A v (A v) v) n) 6 :=
    wn_sm_add (fun v => o (v * 3 + A v)) (fun v => wn_sm (wn_tw X Y w A v (A v) v) n) 6
  have e2 : wn_sm (fun t => if X t < 6 ∧ Y t < 6 then w (t * 9 + A (X t) + 3 * A (Y t)) else 0) n = wn_sm (fun t => w (t * 9 + A (X t) + 3 * A (Y t))) n :=
    wn_sm_cong (fun t ht => if_pos ⟨(h.2 t ht).1, (h.2 t ht).2.1⟩)
  unfold wn_S wn_T
  rw [e, wn_ex h 6, e2]
  omega
theorem wn_wt_cong {n : Nat} {X Y o w A B : Nat → Nat} {v a fr : Nat} (h : ∀ j, j < fr → A j = B j) : wn_wt n X Y o w A v a fr = wn_wt n X Y o w B v a fr := by
  unfold wn_wt
  rw [wn_sm_cong (f := wn_tw X Y w A v a fr) (g := wn_tw X Y w B v a fr)]
  intro t _
  unfold wn_tw
  by_cases hx : X t = v
  · rw [if_pos hx, if_pos hx]
    by_cases hy : Y t < fr
    · rw [if_pos hy, if_pos hy, h _ hy]
    · rw [if_neg hy, if_neg hy]
  · rw [if_neg hx, if_neg hx]
    by_cases hy : Y t = v
    · rw [if_pos hy, if_pos hy]
      by_cases hz : X t < fr
      · rw [if_pos hz, if_pos hz, h _ hz]
      · rw [if_neg hz, if_neg hz]
    · rw [if_neg hy, if_neg hy]
theorem wn_S_cong {n fl : Nat} {X Y o w A B : Nat → Nat} {l : Nat} (h : ∀ j, j < l → A j = B j) : wn_S n X Y fl o w A l = wn_S n X Y fl o w B l := by
  unfold wn_S
  rw [wn_sm_cong (f := fun v => wn_wt n X Y o w A v (A v) v) (g := fun v => wn_wt n X Y o w B v (B v) v)]
  intro v hv
  show wn_wt n X Y o w A v (A v) v = wn_wt n X Y o w B v (B v) v
  rw [h v hv]
  exact wn_wt_cong (fun j hj => h j (by omega))
theorem wn_S_succ {n fl : Nat} {X Y o w A : Nat → Nat} {l : Nat} : wn_S n X Y fl o w A (l + 1) = wn_S n X Y fl o w A l + wn_wt n X Y o w A l (A l) l :=
  (Nat.add_assoc _ _ _).symm
theorem wn_wt_mono {n : Nat} {X Y o w A : Nat → Nat} {v a fr fr' : Nat} (h : fr ≤ fr') : wn_wt n X Y o w A v a fr ≤ wn_wt n X Y o w A v a fr' := by
  unfold wn_wt
  refine Nat.add_le_add_left (wn_sm_le (fun t _ => ?_)) _
  unfold wn_tw
  by_cases hx : X t = v
  · rw [if_pos hx, if_pos hx]
    by_cases hy : Y t < fr
    · rw [if_pos hy, if_pos (show Y t < fr' by omega)]
      exact Nat.le_refl _
    · rw [if_neg hy]
      exact Nat.zero_le _
  · rw [if_neg hx, if_neg hx]
    by_cases hy : Y t = v
    · rw [if_pos hy, if_pos hy]
      by_cases hz : X t < fr
      · rw [if_pos hz, if_pos (show X t < fr' by omega)]
        exact Nat.le_refl _
      · rw [if_neg hz]
        exact Nat.zero_le _
    · rw [if_neg hy]
      exact Nat.zero_le _
theorem wn_tw_ok {n fl : Nat} {X Y o w A : Nat → Nat} {v a fr t : Nat} (hb : wn_bd n fl o w) (ha : a < 3) (hA : ∀ j, j < fr → A j < 3) (ht : t < n) : wn_ok 19 (wn_tw X Y w A v a fr t) := by
  unfold wn_tw
  split
  · split
    · rename_i hy
      have := hA _ hy
      exact wn_ok_e (hb.2.2 _ (by omega))
    · exact wn_ok_0
  · split
    · split
      · rename_i hy
        have := hA _ hy
        exact wn_ok_e (hb.2.2 _ (by omega))
      · exact wn_ok_0
    · exact wn_ok_0
theorem wn_tws_ok {n fl : Nat} {X Y o w A : Nat → Nat} {v a fr k : Nat} (hb : wn_bd n fl o w) (hn : n ≤ 8) (ha : a < 3) (hv : v < 6) (hA : ∀ j, j < fr → A j < 3) (hk : k ≤ n) : wn_ok 1083 (o (v * 3 + a) + wn_sm (wn_tw X Y w A v a fr) k) := by
  have h1 : wn_ok (19 * k) (wn_sm (wn_tw X Y w A v a fr) k) := wn_sm_ok (fun t ht => wn_tw_ok hb ha hA (by omega))
  exact wn_ok_mono (wn_ok_add (wn_ok_e (hb.2.1 _ (by omega))) h1) (by omega)
theorem wn_wt_ok {n fl : Nat} {X Y o w A : Nat → Nat} {v a fr : Nat} (hb : wn_bd n fl o w) (hn : n ≤ 8) (ha : a < 3) (hv : v < 6) (hA : ∀ j, j < fr → A j < 3) : wn_ok 1083 (wn_wt n X Y o w A v a fr) :=
  wn_tws_ok hb hn ha hv hA (Nat.le_refl _)
theorem wn_S_ok {n fl : Nat} {X Y o w A : Nat → Nat} {l : Nat} (hb : wn_bd n fl o w) (hn : n ≤ 8) (hl : l ≤ 6) (hA : ∀ j, j < l → A j < 3) : wn_ok 12084 (wn_S n X Y fl o w A l) := by
  have h1 : wn_ok (1083 * l) (wn_sm (fun v => wn_wt n X Y o w A v (A v) v) l) := wn_sm_ok (fun v hv => wn_wt_ok hb hn (hA v hv) (by omega) (fun j hj => hA j (by omega)))
  exact wn_ok_mono (wn_ok_add (wn_ok_e hb.1) h1) (by omega)
/-- a value that may be taken: its cost with those taken before fr -/
def wn_av (n : Nat) (X Y o w A lo hi : Nat → Nat) (fr v a : Nat) : Nat := if lo v ≤ a ∧ a ≤ hi v then wn_sat (wn_wt n X Y o w A v a fr) else 100000
def wn_m (n : Nat) (X Y o w A lo hi : Nat → Nat) (fr v : Nat) : Nat := wn_bst (wn_av n X Y o w A lo hi fr v) 3
def wn_ah (n : Nat) (X Y o w A lo hi : Nat → Nat) (fr k : Nat) : Nat := wn_sm (fun v => if v < fr then 0 else wn_m n X Y o w A lo hi fr v) k
theorem wn_av_e {n fl : Nat} {X Y o w A lo hi : Nat → Nat} {v a fr : Nat} (hb : wn_bd n fl o w) (hn : n ≤ 8) (ha : a < 3) (hv : v < 6) (hA : ∀ j, j < fr → A j < 3) : wn_e 1083 (wn_av n X Y o w A lo hi fr v a) := by
  unfold wn_av
  split
  · exact wn_sat_oe (wn_wt_ok hb hn ha hv hA) (by omega)
  · exact Or.inr rfl
theorem wn_m_e {n fl : Nat} {X Y o w A lo hi : Nat → Nat} {v fr : Nat} (hb : wn_bd n fl o w) (hn : n ≤ 8) (hv : v < 6) (hA : ∀ j, j < fr → A j < 3) : wn_e 1083 (wn_m n X Y o w A lo hi fr v) :=
  wn_bst_e (fun _ hj => wn_av_e hb hn hj hv hA)
theorem wn_ah_ok {n fl : Nat} {X Y o w A lo hi : Nat → Nat} {k fr : Nat} (hb : wn_bd n fl o w) (hn : n ≤ 8) (hk : k ≤ 6) (hA : ∀ j, j < fr → A j < 3) : wn_ok 6498 (wn_ah n X Y o w A lo hi fr k) := by
  have h1 : wn_ok (1083 * k) (wn_ah n X Y o w A lo hi fr k) := by
    refine wn_sm_ok (fun v hv => ?_)
    show wn_ok 1083 (if v < fr then 0 else wn_m n X Y o w A lo hi fr v)
    split
    · exact wn_ok_0
    · exact wn_ok_e (wn_m_e hb hn (by omega) hA)
  exact wn_ok_mono h1 (by omega)
theorem wn_lb {n fl : Nat} {X Y o w A B lo hi : Nat → Nat} {fr k : Nat} (hb : wn_bd n fl o w) (hn : n ≤ 8) (hAB : ∀ j, j < fr → A j = B j)
    (hB : ∀ v, v < 6 → B v < 3 ∧ lo v ≤ B v ∧ B v ≤ hi v) (hf : fr ≤ k) (hk : k ≤ 6) : wn_S n X Y fl o w B fr + wn_ah n X Y o w A lo hi fr k ≤ wn_S n X Y fl o w B k := by
  induction k with
  | zero =>
    rw [show fr = 0 by omega]
    exact Nat.le_refl _
  | succ k ih =>
    by_cases e : fr = k + 1
    · have h0 : wn_ah n X Y o w A lo hi fr (k + 1) = 0 := wn_sm_zero (fun i hi => if_pos (by omega))
      rw [h0, e]
      exact Nat.le_refl _
    · have h1 := ih (by omega) (by omega)
      have h2 : wn_ah n X Y o w A lo hi fr (k + 1) = wn_ah n X Y o w A lo hi fr k + wn_m n X Y o w A lo hi fr k := by
        show wn_ah n X Y o w A lo hi fr k + (if k < fr then 0 else wn_m n X Y o w A lo hi fr k) = _
        rw [if_neg (by omega)]
      have hBk := hB k (by omega)
      have h3 : wn_m n X Y o w A lo hi fr k ≤ wn_av n X Y o w A lo hi fr k (B k) := wn_bst_le hBk.1
      have h4 : wn_av n X Y o w A lo hi fr k (B k) = wn_sat (wn_wt n X Y o w B k (B k) fr) := by
        unfold wn_av
        rw [if_pos hBk.2, wn_wt_cong hAB]
      have h5 : wn_sat (wn_wt n X Y o w B k (B k) fr) ≤ wn_wt n X Y o w B k (B k) fr :=
        wn_sat_ok (wn_wt_ok hb hn hBk.1 (by omega) (fun j hj => (hB j (by omega)).1)) (by omega)
      have h6 : wn_wt n X Y o w B k (B k) fr ≤ wn_wt n X Y o w B k (B k) k := wn_wt_mono (by omega)
      rw [h2, wn_S_succ]
      omega
/-! positions: an assignment is a number below 729, its digits base 3 -/
def wn_pw : Nat → Nat
  | 0 => 243
  | 1 => 81
  | 2 => 27
  | 3 => 9
  | 4 => 3
  | _ => 1
def wn_dg (k v : Nat) : Nat := k / wn_pw v % 3
def wn_ps (A : Nat → Nat) (l : Nat) : Nat := wn_sm (fun v => A v * wn_pw v) l
theorem wn_dg_lt (k v : Nat) : wn_dg k v < 3 := Nat.mod_lt _ (by decide)
theorem wn_pw_pos (l : Nat) : 1 ≤ wn_pw l := by
  unfold wn_pw; split <;> omega
theorem wn_pw_s {l : Nat} (h : l < 5) : wn_pw l = 3 * wn_pw (l + 1) := by
  have e : l = 0 ∨ l = 1 ∨ l = 2 ∨ l = 3 ∨ l = 4 := by omega
  rcases e with rfl | rfl | rfl | rfl | rfl <;> rfl
theorem wn_ps_cong {A B : Nat → Nat} {l : Nat} (h : ∀ v, v < l → A v = B v) : wn_ps A l = wn_ps B l :=
  wn_sm_cong (fun v hv => by rw [h v hv])
theorem wn_ps_s {A : Nat → Nat} {l : Nat} : wn_ps A (l + 1) = wn_ps A l + A l * wn_pw l := rfl
theorem wn_dgs {A : Nat → Nat} {l k r : Nat} (hl : l < 6) (hA : ∀ v, v < l → A v < 3) (hk : k = wn_ps A l + r) (hr : r < 3 * wn_pw l) : (∀ v, v < l → wn_dg k v = A v) ∧ wn_dg k l = r / wn_pw l := by
  have e : l = 0 ∨ l = 1 ∨ l = 2 ∨ l = 3 ∨ l = 4 ∨ l = 5 := by omega
  rcases e with rfl | rfl | rfl | rfl | rfl | rfl
  · have hk' : k = 0 + r := hk
    have hr' : r < 3 * 243 := hr
    refine ⟨fun v hv => ?_, ?_⟩
    · omega
    · show k / 243 % 3 = r / 243
      omega
  · have hk' : k = 0 + A 0 * 243 + r := hk
    have hr' : r < 3 * 81 := hr
    have h0 := hA 0 (by omega)
    refine ⟨fun v hv => ?_, ?_⟩
    · have ev : v = 0 := by omega
      subst ev
      show k / 243 % 3 = A 0
      omega
    · show k / 81 % 3 = r / 81
      omega
  · have hk' : k = 0 + A 0 * 243 + A 1 * 81 + r := hk
    have hr' : r < 3 * 27 := hr
    have h0 := hA 0 (by omega)
    have h1 := hA 1 (by omega)
    refine ⟨fun v hv => ?_, ?_⟩
    · have ev : v = 0 ∨ v = 1 := by omega
      rcases ev with rfl | rfl
      · show k / 243 % 3 = A 0
        omega
      · show k / 81 % 3 = A 1
        omega
    · show k / 27 % 3 = r / 27
      omega
  · have hk' : k = 0 + A 0 * 243 + A 1 * 81 + A 2 * 27 + r := hk
    have hr' : r < 3 * 9 := hr
    have h0 := hA 0 (by omega)
    have h1 := hA 1 (by omega)
    have h2 := hA 2 (by omega)
    refine ⟨fun v hv => ?_, ?_⟩
    · have ev : v = 0 ∨ v = 1 ∨ v = 2 := by omega
      rcases ev with rfl | rfl | rfl
      · show k / 243 % 3 = A 0
        omega
      · show k / 81 % 3 = A 1
        omega
      · show k / 27 % 3 = A 2
        omega
    · show k / 9 % 3 = r / 9
      omega
  · have hk' : k = 0 + A 0 * 243 + A 1 * 81 + A 2 * 27 + A 3 * 9 + r := hk
    have hr' : r < 3 * 3 := hr
    have h0 := hA 0 (by omega)
    have h1 := hA 1 (by omega)
    have h2 := hA 2 (by omega)
    have h3 := hA 3 (by omega)
    refine ⟨fun v hv => ?_, ?_⟩
    · have ev : v = 0 ∨ v = 1 ∨ v = 2 ∨ v = 3 := by omega
      rcases ev with rfl | rfl | rfl | rfl
      · show k / 243 % 3 = A 0
        omega
      · show k / 81 % 3 = A 1
        omega
      · show k / 27 % 3 = A 2
        omega
      · show k / 9 % 3 = A 3
        omega
    · show k / 3 % 3 = r / 3
      omega
  · have hk' : k = 0 + A 0 * 243 + A 1 * 81 + A 2 * 27 + A 3 * 9 + A 4 * 3 + r := hk
    have hr' : r < 3 * 1 := hr
    have h0 := hA 0 (by omega)
    have h1 := hA 1 (by omega)
    have h2 := hA 2 (by omega)
    have h3 := hA 3 (by omega)
    have h4 := hA 4 (by omega)
    refine ⟨fun v hv => ?_, ?_⟩
    · have ev : v = 0 ∨ v = 1 ∨ v = 2 ∨ v = 3 ∨ v = 4 := by omega
      rcases ev with rfl | rfl | rfl | rfl | rfl
      · show k / 243 % 3 = A 0
        omega
      · show k / 81 % 3 = A 1
        omega
      · show k / 27 % 3 = A 2
        omega
      · show k / 9 % 3 = A 3
        omega
      · show k / 3 % 3 = A 4
        omega
    · show k / 1 % 3 = r / 1
      omega
theorem wn_ps_lt {A : Nat → Nat} {l : Nat} (hl : l < 6) (hA : ∀ v, v < l → A v < 3) : wn_ps A l + 3 * wn_pw l ≤ 729 := by
  have e : l = 0 ∨ l = 1 ∨ l = 2 ∨ l = 3 ∨ l = 4 ∨ l = 5 := by omega
  rcases e with rfl | rfl | rfl | rfl | rfl | rfl
  · show 0 + 3 * 243 ≤ 729
    omega
  · show 0 + A 0 * 243 + 3 * 81 ≤ 729
    have h0 := hA 0 (by omega)
    omega
  · show 0 + A 0 * 243 + A 1 * 81 + 3 * 27 ≤ 729
    have h0 := hA 0 (by omega)
    have h1 := hA 1 (by omega)
    omega
  · show 0 + A 0 * 243 + A 1 * 81 + A 2 * 27 + 3 * 9 ≤ 729
    have h0 := hA 0 (by omega)
    have h1 := hA 1 (by omega)
    have h2 := hA 2 (by omega)
    omega
  · show 0 + A 0 * 243 + A 1 * 81 + A 2 * 27 + A 3 * 9 + 3 * 3 ≤ 729
    have h0 := hA 0 (by omega)
    have h1 := hA 1 (by omega)
    have h2 := hA 2 (by omega)
    have h3 := hA 3 (by omega)
    omega
  · show 0 + A 0 * 243 + A 1 * 81 + A 2 * 27 + A 3 * 9 + A 4 * 3 + 3 * 1 ≤ 729
    have h0 := hA 0 (by omega)
    have h1 := hA 1 (by omega)
    have h2 := hA 2 (by omega)
    have h3 := hA 3 (by omega)
    have h4 := hA 4 (by omega)
    omega
/-! the steps that are left, at most -/
def wn_ph (A : Nat → Nat) (l nx : Nat) : Nat := wn_sm (fun j => (2 - A j) * (2 * wn_pw j - 1) + 1) l + (3 - nx) * (2 * wn_pw l - 1) + 1
theorem wn_ph_leave {A : Nat → Nat} {l nx : Nat} : wn_ph A l (A l + 1) < wn_ph A (l + 1) nx := by
  show wn_sm (fun j => (2 - A j) * (2 * wn_pw j - 1) + 1) l + (3 - (A l + 1)) * (2 * wn_pw l - 1) + 1 < wn_sm (fun j => (2 - A j) * (2 * wn_pw j - 1) + 1) l + ((2 - A l) * (2 * wn_pw l - 1) + 1) + (3 - nx) * (2 * wn_pw (l + 1) - 1) + 1
  rw [show 3 - (A l + 1) = 2 - A l by omega]
  omega
theorem wn_ph_cong {A B : Nat → Nat} {l nx : Nat} (h : ∀ v, v < l → A v = B v) : wn_ph A l nx = wn_ph B l nx := by
  unfold wn_ph
  rw [wn_sm_cong (f := fun j => (2 - A j) * (2 * wn_pw j - 1) + 1) (g := fun j => (2 - B j) * (2 * wn_pw j - 1) + 1)]
  intro i hi
  show (2 - A i) * (2 * wn_pw i - 1) + 1 = (2 - B i) * (2 * wn_pw i - 1) + 1
  rw [h i hi]
theorem wn_ph_stay {A : Nat → Nat} {l nx : Nat} (h : nx ≤ 2) : wn_ph A l (nx + 1) < wn_ph A l nx := by
  have hp := wn_pw_pos l
  unfold wn_ph
  rw [show 3 - nx = Nat.succ (3 - (nx + 1)) by omega, Nat.succ_mul (3 - (nx + 1)) (2 * wn_pw l - 1)]
  omega
theorem wn_ph_down {A : Nat → Nat} {l lo' : Nat} (hl : l < 5) (h : A l ≤ 2) : wn_ph A (l + 1) lo' < wn_ph A l (A l) := by
  have hp := wn_pw_pos (l + 1)
  have hs := wn_pw_s hl
  show wn_sm (fun j => (2 - A j) * (2 * wn_pw j - 1) + 1) l + ((2 - A l) * (2 * wn_pw l - 1) + 1) + (3 - lo') * (2 * wn_pw (l + 1) - 1) + 1 < wn_sm (fun j => (2 - A j) * (2 * wn_pw j - 1) + 1) l + (3 - A l) * (2 * wn_pw l - 1) + 1
  have h3 : (3 - lo') * (2 * wn_pw (l + 1) - 1) ≤ 3 * (2 * wn_pw (l + 1) - 1) := Nat.mul_le_mul_right _ (by omega)
  rw [show 3 - A l = Nat.succ (2 - A l) by omega, Nat.succ_mul (2 - A l) (2 * wn_pw l - 1)]
  omega
theorem wn_ph_0 {A : Nat → Nat} {nx : Nat} : wn_ph A 0 nx ≤ 1456 := by
  show 0 + (3 - nx) * (2 * 243 - 1) + 1 ≤ 1456
  omega
end
section
/-! arrays as functions of naturals -/
def wn_nf (f : Nat → Nat) : Nat → Int32 := fun j => nI (f j)
theorem wn_unf {f : Nat → Nat} {x : Int32} {r : Nat} (k : Nat) (hx : x = nI k) (hk : k < 2 ^ 31) : upd (wn_nf f) x.toNatClampNeg (nI r) = wn_nf (wn_up f k r) := by
  rw [hx, nI_clamp hk]
  funext j
  show (if j = k then nI r else nI (f j)) = nI (if j = k then r else f j)
  split <;> rfl
theorem wn_rd {f : Nat → Nat} {x : Int32} (k : Nat) (hx : x = nI k) (hk : k < 2 ^ 31) : wn_nf f x.toNatClampNeg = nI (f k) := by
  rw [hx, nI_clamp hk]; rfl
theorem wn_nf_of (a : Nat → Int32) : ∃ f : Nat → Nat, a = wn_nf f := by
  refine ⟨fun j => (a j).toBitVec.toNat, ?_⟩
  funext j
  show a j = nI (a j).toBitVec.toNat
  apply Int32.toBitVec_inj.mp
  show (a j).toBitVec = BitVec.ofNat 32 (a j).toBitVec.toNat
  rw [BitVec.ofNat_toNat, BitVec.setWidth_eq]
theorem wn_i3 (v a : Nat) : nI v * 3 + nI a = nI (v * 3 + a) := by
  rw [← nI_add, ← pk_mul]; rfl
theorem wn_i9 (v a : Nat) : nI v * 9 + nI a = nI (v * 9 + a) := by
  rw [← nI_add, ← pk_mul]; rfl
theorem wn_px (t a b : Nat) : nI t * 9 + nI a + 3 * nI b = nI (t * 9 + a + 3 * b) := by
  rw [← nI_add, ← nI_add, ← pk_mul, ← pk_mul]; rfl
theorem wn_wmore {post : Int32 → Prop} {u : St2} {p0 p1 : Int32} (a b : Nat) (e0 : p0 = nI a) (e1 : p1 = nI b) (ha : a < 2 ^ 31) (hb : b < 2 ^ 31) (h : post (nI (wn_more a b))) : wpX_more post u p0 p1 := by
  subst e0 e1
  unfold wn_more at h
  refine pk_le 50000 a (fun z => ?_) (fun z => pk_lt b 50000 (fun y => ?_) (fun y => ?_))
  · rw [if_neg (by omega)] at h
    exact h
  · rw [if_pos z, if_pos y, ← nI_add] at h
    exact h
  · rw [if_pos z, if_neg (by omega)] at h
    exact h
theorem wn_wless {post : Int32 → Prop} {u : St2} {p0 p1 : Int32} (c m : Nat) (e0 : p0 = nI c) (e1 : p1 = nI m) (hc : c < 2 ^ 31) (hm : c < 50000 → m ≤ c) (h : post (nI (wn_less c m))) : wpX_less post u p0 p1 := by
  subst e0 e1
  unfold wn_less at h
  refine pk_lt c 50000 (fun z => ?_) (fun z => ?_)
  · rw [if_pos z, ← pk_sub (hm z)] at h
    exact h
  · rw [if_neg (by omega)] at h
    exact h
/-- the place of a pair, seen from the second (0) or the first (1) end -/
def wn_ix (s t a b : Nat) : Nat := if s = 0 then t * 9 + b + 3 * a else t * 9 + a + 3 * b
theorem wn_wpair {post : Int32 → Prop} {u : St2} {s t a b : Nat} (hs : s < 2) (h : post (nI (wn_ix s t a b))) : wpX_pairAt post u (nI t) (nI a) (nI b) (nI s) := by
  unfold wn_ix at h
  refine pk_eq s 0 (fun z => ?_) (fun z => ?_)
  · rw [if_pos z, ← wn_px] at h
    exact h
  · rw [if_neg z, ← wn_px] at h
    exact h
theorem wn_ix_lt {s t a b n : Nat} (ht : t < n) (ha : a < 3) (hb : b < 3) : wn_ix s t a b < n * 9 := by
  unfold wn_ix; split <;> omega
theorem wn_ix_inj {s t a b b' : Nat} (h : wn_ix s t a b = wn_ix s t a b') : b = b' := by
  unfold wn_ix at h
  split at h <;> omega
def wn_cut (ls c : Nat) : Nat := if ls < 50000 then wn_less c ls else 0
theorem wn_cut_e {B ls c : Nat} (h : wn_e B c) : wn_e B (wn_cut ls c) := by
  unfold wn_cut
  split
  · exact wn_less_e h
  · exact Or.inl (Nat.zero_le _)
section
variable {post : St1 → Prop} {tb rdy flr fnd bs : Int32} {a1 a2 a3 a4 a5 a6 a7 a8 a9 a10 a11 : Nat → Int32} {o w X Y : Nat → Nat} {v t a s ls fl : Nat}
theorem wn_mf55 (hv : v < 6) (hls : ls ≤ 100000) (ho : ∀ b, b < 3 → ls ≤ o (v * 3 + b) ∧ o (v * 3 + b) < 2 ^ 31)
    (H : ∀ o', (∀ b, b < 3 → o' (v * 3 + b) = wn_cut ls (o (v * 3 + b))) → (∀ j, (∀ b, b < 3 → j ≠ v * 3 + b) → o' j = o j) → post (tb, rdy, flr, fnd, bs, a1, a2, a3, a4, wn_nf o', a6, a7, a8, a9, a10, a11)) :
    ∃ n, wX_moveToFloor_55 post (nI v) (nI ls) tb rdy flr fnd bs n 0 a1 a2 a3 a4 (wn_nf o) a6 a7 a8 a9 a10 a11 := by
  refine pk_loop (fun n i s => wX_moveToFloor_55 post (nI v) (nI ls) tb rdy flr fnd bs n (nI i) a1 a2 a3 a4 s a6 a7 a8 a9 a10 a11)
    (fun i s => ∃ o', s = wn_nf o' ∧ (∀ b, b < i → o' (v * 3 + b) = wn_cut ls (o (v * 3 + b))) ∧ (∀ j, (∀ b, b < i → j ≠ v * 3 + b) → o' j = o j)) 3 0 (wn_nf o) (by omega) ⟨o, rfl, fun b hb => absurd hb (by omega), fun j _ => rfl⟩ ?_ ?_
  · rintro n s ⟨o', rfl, h1, h2⟩
    exact pk_le 3 3 (fun _ => H o' h1 h2) (fun z => absurd z (by omega))
  · rintro n i s hi ⟨o', rfl, h1, h2⟩ hw
    have ei := wn_i3 v i
    have hoi : o' (v * 3 + i) = o (v * 3 + i) := h2 _ (fun b hb => by omega)
    have hn := ho i hi
    have key : ∀ r, r = wn_cut ls (o (v * 3 + i)) → wX_moveToFloor_55 post (nI v) (nI ls) tb rdy flr fnd bs n (nI (i + 1)) a1 a2 a3 a4 (wn_nf (wn_up o' (v * 3 + i) r)) a6 a7 a8 a9 a10 a11 := by
      intro r hr
      refine hw _ ⟨_, rfl, fun b hb => ?_, fun j hj => ?_⟩
      · by_cases e : b = i
        · subst e
          rw [wn_ups, hr]
        · rw [wn_upn (by omega)]
          exact h1 b (by omega)
      · rw [wn_upn (hj i (by omega))]
        exact h2 j (fun b hb => hj b (by omega))
    refine pk_le 3 i (fun z => absurd z (by omega)) (fun _ => pk_lt ls 50000 (fun z => ⟨pk_in (v * 3 + i) 18 (by omega) ei, ?_⟩) (fun z => ⟨pk_in (v * 3 + i) 18 (by omega) ei, ?_⟩))
    · refine wn_wless (o' (v * 3 + i)) ls (wn_rd _ ei (by omega)) rfl (by omega) (fun _ => by omega) ⟨pk_in (v * 3 + i) 18 (by omega) ei, nm_r (wn_unf _ ei (by omega)) (nm_r (nI_1 i) (key _ ?_))⟩
      unfold wn_cut
      rw [if_pos z, hoi]
    · refine nm_r (wn_unf (r := 0) _ ei (by omega)) (nm_r (nI_1 i) (key _ ?_))
      unfold wn_cut
      rw [if_neg (by omega)]
def wn_MF (v fl : Nat) (o : Nat → Nat) (fl' : Nat) (o' : Nat → Nat) : Prop :=
  fl' = wn_more fl (wn_bst (fun b => o (v * 3 + b)) 3) ∧ (∀ b, b < 3 → o' (v * 3 + b) = wn_cut (wn_bst (fun b => o (v * 3 + b)) 3) (o (v * 3 + b))) ∧ (∀ j, (∀ b, b < 3 → j ≠ v * 3 + b) → o' j = o j)
theorem wn_mf (hv : v < 6) (ho : ∀ b, b < 3 → o (v * 3 + b) < 2 ^ 31) (hf : fl < 2 ^ 31)
    (H : ∀ fl' o', wn_MF v fl o fl' o' → post (tb, rdy, nI fl', fnd, bs, a1, a2, a3, a4, wn_nf o', a6, a7, a8, a9, a10, a11)) :
    wpX_moveToFloor post (tb, rdy, nI fl, fnd, bs, a1, a2, a3, a4, wn_nf o, a6, a7, a8, a9, a10, a11) (nI v) := by
  have hm := wn_bst_max (fun b => o (v * 3 + b))
  refine pk_loop (fun n i s => wX_moveToFloor_5 post (nI v) tb rdy (nI fl) fnd bs a1 a2 a3 a4 (wn_nf o) a6 a7 a8 a9 a10 a11 n s (nI i))
    (fun i s => s = nI (wn_bst (fun b => o (v * 3 + b)) i)) 3 0 100000 (by omega) rfl ?_ ?_
  · rintro n s rfl
    have h3 := hm 3
    refine pk_le 3 3 (fun _ => wn_wmore fl _ rfl rfl hf (by omega) (wn_mf55 hv h3 (fun b hb => ⟨wn_bst_le (V := fun b => o (v * 3 + b)) hb, ho b hb⟩) (fun o' h1 h2 => H _ o' ⟨rfl, h1, h2⟩))) (fun z => absurd z (by omega))
  · rintro n i s hi rfl hw
    have ei := wn_i3 v i
    have h3 := hm i
    have hoi := ho i hi
    refine pk_le 3 i (fun z => absurd z (by omega)) (fun _ => ⟨pk_in (v * 3 + i) 18 (by omega) ei, pk_le _ (o (v * 3 + i)) (fun z => ?_) (fun z => ?_) rfl (wn_rd _ ei (by omega)) (by omega) hoi⟩)
    · refine nm_r (nI_1 i) (hw _ ?_)
      show _ = nI (if o (v * 3 + i) < wn_bst (fun b => o (v * 3 + b)) i then _ else _)
      rw [if_neg (by omega)]
    · refine ⟨pk_in (v * 3 + i) 18 (by omega) ei, nm_r (wn_rd _ ei (by omega)) (nm_r (nI_1 i) (hw _ ?_))⟩
      show _ = nI (if o (v * 3 + i) < wn_bst (fun b => o (v * 3 + b)) i then _ else _)
      rw [if_pos z]
theorem wn_mv102 (ht : t < 8) (ha : a < 3) (hs : s < 2) (hls : ls ≤ 100000) (hw : ∀ b, b < 3 → ls ≤ w (wn_ix s t a b) ∧ w (wn_ix s t a b) < 2 ^ 31)
    (H : ∀ w', (∀ b, b < 3 → w' (wn_ix s t a b) = wn_cut ls (w (wn_ix s t a b))) → (∀ j, (∀ b, b < 3 → j ≠ wn_ix s t a b) → w' j = w j) → post (tb, rdy, flr, fnd, bs, a1, a2, a3, a4, a5, wn_nf w', a7, a8, a9, a10, a11)) :
    ∃ n, wX_moveToValue_102 post (nI t) (nI a) (nI s) (nI ls) tb rdy flr fnd bs n 0 a1 a2 a3 a4 a5 (wn_nf w) a7 a8 a9 a10 a11 := by
  refine pk_loop (fun n i q => wX_moveToValue_102 post (nI t) (nI a) (nI s) (nI ls) tb rdy flr fnd bs n (nI i) a1 a2 a3 a4 a5 q a7 a8 a9 a10 a11)
    (fun i q => ∃ w', q = wn_nf w' ∧ (∀ b, b < i → w' (wn_ix s t a b) = wn_cut ls (w (wn_ix s t a b))) ∧ (∀ j, (∀ b, b < i → j ≠ wn_ix s t a b) → w' j = w j)) 3 0 (wn_nf w) (by omega) ⟨w, rfl, fun b hb => absurd hb (by omega), fun j _ => rfl⟩ ?_ ?_
  · rintro n q ⟨w', rfl, h1, h2⟩
    exact pk_le 3 3 (fun _ => H w' h1 h2) (fun z => absurd z (by omega))
  · rintro n i q hi ⟨w', rfl, h1, h2⟩ hk
    have hoi : w' (wn_ix s t a i) = w (wn_ix s t a i) := h2 _ (fun b hb e => by have := wn_ix_inj e; omega)
    have hn := hw i hi
    have hx : wn_ix s t a i < 8 * 9 := wn_ix_lt ht ha hi
    have key : ∀ r, r = wn_cut ls (w (wn_ix s t a i)) → wX_moveToValue_102 post (nI t) (nI a) (nI s) (nI ls) tb rdy flr fnd bs n (nI (i + 1)) a1 a2 a3 a4 a5 (wn_nf (wn_up w' (wn_ix s t a i) r)) a7 a8 a9 a10 a11 := by
      intro r hr
      refine hk _ ⟨_, rfl, fun b hb => ?_, fun j hj => ?_⟩
      · by_cases e : b = i
        · subst e
          rw [wn_ups, hr]
        · rw [wn_upn (fun z => e (wn_ix_inj z))]
          exact h1 b (by omega)
      · rw [wn_upn (hj i (by omega))]
        exact h2 j (fun b hb => hj b (by omega))
    refine pk_le 3 i (fun z => absurd z (by omega)) (fun _ => wn_wpair hs (pk_lt ls 50000 (fun z => ⟨pk_in (wn_ix s t a i) 72 (by omega), ?_⟩) (fun z => ⟨pk_in (wn_ix s t a i) 72 (by omega), ?_⟩)))
    · refine wn_wless (w' (wn_ix s t a i)) ls (wn_rd _ rfl (by omega)) rfl (by omega) (fun _ => by omega) ⟨pk_in (wn_ix s t a i) 72 (by omega), nm_r (wn_unf _ rfl (by omega)) (nm_r (nI_1 i) (key _ ?_))⟩
      unfold wn_cut
      rw [if_pos z, hoi]
    · refine nm_r (wn_unf (r := 0) _ rfl (by omega)) (nm_r (nI_1 i) (key _ ?_))
      unfold wn_cut
      rw [if_neg (by omega)]
def wn_MV (v s t a : Nat) (o w o' w' : Nat → Nat) : Prop :=
  (wn_bst (fun b => w (wn_ix s t a b)) 3 = 0 ∧ o' = o ∧ w' = w) ∨
  (o' = wn_up o (v * 3 + a) (wn_more (o (v * 3 + a)) (wn_bst (fun b => w (wn_ix s t a b)) 3)) ∧ (∀ b, b < 3 → w' (wn_ix s t a b) = wn_cut (wn_bst (fun b => w (wn_ix s t a b)) 3) (w (wn_ix s t a b))) ∧ (∀ j, (∀ b, b < 3 → j ≠ wn_ix s t a b) → w' j = w j))
theorem wn_mv70 {z0 : Int32} (hz : z0 = nI v) (hv : v < 6) (ht : t < 8) (ha : a < 3) (hs : s < 2) (hw : ∀ b, b < 3 → w (wn_ix s t a b) < 2 ^ 31) (ho : o (v * 3 + a) < 2 ^ 31)
    (H : ∀ o' w', wn_MV v s t a o w o' w' → post (tb, rdy, flr, fnd, bs, a1, a2, a3, a4, wn_nf o', wn_nf w', a7, a8, a9, a10, a11)) :
    wX_moveToValue_70 post (nI t) (nI a) (nI s) (nI (wn_bst (fun b => w (wn_ix s t a b)) 3)) z0 tb rdy flr fnd bs a1 a2 a3 a4 (wn_nf o) (wn_nf w) a7 a8 a9 a10 a11 := by
  subst hz
  have hm := wn_bst_max (fun b => w (wn_ix s t a b)) 3
  have ei := wn_i3 v a
  refine ⟨pk_in (v * 3 + a) 18 (by omega) ei, wn_wmore (o (v * 3 + a)) _ (wn_rd _ ei (by omega)) rfl ho (by omega) ⟨pk_in (v * 3 + a) 18 (by omega) ei, nm_r (wn_unf _ ei (by omega)) ?_⟩⟩
  exact wn_mv102 ht ha hs hm (fun b hb => ⟨wn_bst_le (V := fun b => w (wn_ix s t a b)) hb, hw b hb⟩) (fun w' h1 h2 => H _ w' (Or.inr ⟨rfl, h1, h2⟩))
theorem wn_mv (hv : v < 6) (hvx : v = if s = 0 then Y t else X t) (ht : t < 8) (ha : a < 3) (hs : s < 2) (hw : ∀ b, b < 3 → w (wn_ix s t a b) < 2 ^ 31) (ho : o (v * 3 + a) < 2 ^ 31)
    (H : ∀ o' w', wn_MV v s t a o w o' w' → post (tb, rdy, flr, fnd, bs, a1, wn_nf X, wn_nf Y, a4, wn_nf o', wn_nf w', a7, a8, a9, a10, a11)) :
    wpX_moveToValue post (tb, rdy, flr, fnd, bs, a1, wn_nf X, wn_nf Y, a4, wn_nf o, wn_nf w, a7, a8, a9, a10, a11) (nI t) (nI a) (nI s) := by
  have hm := wn_bst_max (fun b => w (wn_ix s t a b))
  refine pk_loop (fun n i q => wX_moveToValue_7 post (nI t) (nI a) (nI s) tb rdy flr fnd bs a1 (wn_nf X) (wn_nf Y) a4 (wn_nf o) (wn_nf w) a7 a8 a9 a10 a11 n q (nI i))
    (fun i q => q = nI (wn_bst (fun b => w (wn_ix s t a b)) i)) 3 0 100000 (by omega) rfl ?_ ?_
  · rintro n q rfl
    have h3 := hm 3
    refine pk_le 3 3 (fun _ => pk_eq _ 0 (fun z => H o w (Or.inl ⟨z, rfl, rfl⟩)) (fun z => pk_eq s 0 (fun y => ⟨pk_in t 8 ht, ?_⟩) (fun y => ⟨pk_in t 8 ht, ?_⟩))) (fun z => absurd z (by omega))
    · rw [if_pos y] at hvx
      exact wn_mv70 (by rw [hvx]; exact wn_rd t rfl (by omega)) hv ht ha hs hw ho H
    · rw [if_neg y] at hvx
      exact wn_mv70 (by rw [hvx]; exact wn_rd t rfl (by omega)) hv ht ha hs hw ho H
  · rintro n i q hi rfl hk
    have h3 := hm i
    have hoi := hw i hi
    have hx : wn_ix s t a i < 8 * 9 := wn_ix_lt ht ha hi
    refine pk_le 3 i (fun z => absurd z (by omega)) (fun _ => wn_wpair hs ⟨pk_in (wn_ix s t a i) 72 (by omega), nm_r (wn_rd _ rfl (by omega)) (pk_le _ (w (wn_ix s t a i)) (fun z => ?_) (fun z => ?_) rfl rfl (by omega) hoi)⟩)
    · refine nm_r (nI_1 i) (hk _ ?_)
      show _ = nI (if w (wn_ix s t a i) < wn_bst (fun b => w (wn_ix s t a b)) i then _ else _)
      rw [if_neg (by omega)]
    · refine nm_r (nI_1 i) (hk _ ?_)
      show _ = nI (if w (wn_ix s t a i) < wn_bst (fun b => w (wn_ix s t a b)) i then _ else _)
      rw [if_pos z]
end
end
section
/-! moving costs keeps what every assignment costs -/
def wn_mvd (c : Nat) : Nat := if c = 20 then 100000 else c
def wn_R (n : Nat) (C X Y P A : Nat → Nat) : Nat := wn_T n X Y 0 (fun i => wn_mvd (C i)) (fun j => wn_mvd (P j)) A
def wn_N (n : Nat) (C X Y P : Nat → Nat) : Prop := wn_xy n X Y ∧ (∀ i, C i ≤ 20) ∧ (∀ j, P j ≤ 20)
def wn_PI (n : Nat) (C X Y P : Nat → Nat) (F B fl : Nat) (o w : Nat → Nat) : Prop :=
  wn_e F fl ∧ (∀ i, i < 18 → wn_e B (o i)) ∧ (∀ j, j < n * 9 → wn_e 19 (w j)) ∧ ∀ A, (∀ v, v < 6 → A v < 3) → wn_sat (wn_T n X Y fl o w A) = wn_sat (wn_R n C X Y P A)
def wn_Pd (n : Nat) (C X Y P : Nat → Nat) (fl : Nat) (o w : Nat → Nat) : Prop :=
  wn_bd n fl o w ∧ ∀ A, (∀ v, v < 6 → A v < 3) → wn_sat (wn_T n X Y fl o w A) = wn_sat (wn_R n C X Y P A)
theorem wn_mvd_e {c : Nat} (h : c ≤ 20) : wn_e 19 (wn_mvd c) := by
  unfold wn_mvd wn_e
  split <;> omega
theorem wn_cut_lo {ls c : Nat} (h : ls < 50000) (h2 : c < 50000) : wn_cut ls c = c - ls := by
  unfold wn_cut wn_less
  rw [if_pos h, if_pos h2]
theorem wn_cut_hi {ls c : Nat} (h : ls < 50000) (h2 : 50000 ≤ c) : wn_cut ls c = 100000 := by
  unfold wn_cut wn_less
  rw [if_pos h, if_neg (by omega)]
theorem wn_more_lo {a b : Nat} (h : a < 50000) (h2 : b < 50000) : wn_more a b = a + b := by
  unfold wn_more
  rw [if_pos h, if_pos h2]
theorem wn_more_hi {a b : Nat} (h : 50000 ≤ a ∨ 50000 ≤ b) : wn_more a b = 100000 := by
  unfold wn_more
  split
  · rw [if_neg (by omega)]
  · rfl
theorem wn_mvar {fl so sw so' sw' oo ww ls : Nat} (h1 : so' + oo = so + wn_more oo ls) (h2 : sw' + ww = sw + wn_cut ls ww) (hl : ls ≤ ww) (ho : oo ≤ so) (hw : ww ≤ sw)
    (eo : oo < 50000 ∨ oo = 100000) (ew : ww < 50000 ∨ ww = 100000) : wn_sat (fl + so' + sw') = wn_sat (fl + so + sw) := by
  rcases Nat.lt_or_ge ls 50000 with h | h
  · rcases Nat.lt_or_ge ww 50000 with h3 | h3
    · rw [wn_cut_lo h h3] at h2
      rcases Nat.lt_or_ge oo 50000 with h4 | h4
      · rw [wn_more_lo h4 h] at h1
        rw [show fl + so' + sw' = fl + so + sw by omega]
      · rw [wn_more_hi (Or.inl h4)] at h1
        rw [wn_sat_ge (show 50000 ≤ fl + so' + sw' by omega), wn_sat_ge (show 50000 ≤ fl + so + sw by omega)]
    · rw [wn_cut_hi h h3] at h2
      rw [wn_sat_ge (show 50000 ≤ fl + so' + sw' by omega), wn_sat_ge (show 50000 ≤ fl + so + sw by omega)]
  · rw [wn_more_hi (Or.inr h)] at h1
    rw [wn_sat_ge (show 50000 ≤ fl + so' + sw' by omega), wn_sat_ge (show 50000 ≤ fl + so + sw by omega)]
theorem wn_mfar {fl so sw so' oo ls : Nat} (h1 : so' + oo = so + wn_cut ls oo) (hl : ls ≤ oo) (ho : oo ≤ so)
    (eo : oo < 50000 ∨ oo = 100000) (ef : fl < 50000 ∨ fl = 100000) : wn_sat (wn_more fl ls + so' + sw) = wn_sat (fl + so + sw) := by
  rcases Nat.lt_or_ge ls 50000 with h | h
  · rcases Nat.lt_or_ge oo 50000 with h3 | h3
    · rw [wn_cut_lo h h3] at h1
      rcases Nat.lt_or_ge fl 50000 with h4 | h4
      · rw [wn_more_lo h4 h]
        rw [show fl + ls + so' + sw = fl + so + sw by omega]
      · rw [wn_more_hi (Or.inl h4)]
        rw [wn_sat_ge (show 50000 ≤ 100000 + so' + sw by omega), wn_sat_ge (show 50000 ≤ fl + so + sw by omega)]
    · rw [wn_cut_hi h h3] at h1
      rw [wn_sat_ge (show 50000 ≤ wn_more fl ls + so' + sw by omega), wn_sat_ge (show 50000 ≤ fl + so + sw by omega)]
  · rw [wn_more_hi (Or.inr h)]
    rw [wn_sat_ge (show 50000 ≤ 100000 + so' + sw by omega), wn_sat_ge (show 50000 ≤ fl + so + sw by omega)]
theorem wn_e_two {B s : Nat} (h : wn_e B s) (hB : B < 50000) : s < 50000 ∨ s = 100000 := by
  unfold wn_e at h
  omega
section
variable {n F B fl v s t a : Nat} {C X Y P o w o' w' : Nat → Nat}
theorem wn_MF_PI (hv : v < 6) (hB : B < 50000) (hF : F < 50000) (h : wn_PI n C X Y P F B fl o w) {fl' : Nat} (hm : wn_MF v fl o fl' o') : wn_PI n C X Y P (F + B) B fl' o' w := by
  obtain ⟨hf, ho, hw, hT⟩ := h
  obtain ⟨m1, m2, m3⟩ := hm
  have hle : wn_e B (wn_bst (fun b => o (v * 3 + b)) 3) := wn_bst_e (fun j hj => ho _ (by omega))
  refine ⟨by rw [m1]; exact wn_more_e hf hle, fun i hi => ?_, hw, fun A hA => ?_⟩
  · by_cases e : i / 3 = v
    · have e2 : i = v * 3 + i % 3 := by omega
      rw [e2, m2 _ (by omega), ← e2]
      exact wn_cut_e (ho i hi)
    · rw [m3 i (fun b hb => by omega)]
      exact ho i hi
  · have hAv := hA v hv
    rw [← hT A hA]
    unfold wn_T
    rw [m1]
    have h1 := wn_sm_one (f := fun v => o' (v * 3 + A v)) (g := fun v => o (v * 3 + A v)) hv (fun i hi hne => m3 _ (fun b hb => by have := hA i hi; omega))
    have h2 := m2 (A v) hAv
    have h3 : o (v * 3 + A v) ≤ wn_sm (fun v => o (v * 3 + A v)) 6 := wn_sm_mem (f := fun v => o (v * 3 + A v)) hv
    have h4 : wn_bst (fun b => o (v * 3 + b)) 3 ≤ o (v * 3 + A v) := wn_bst_le (V := fun b => o (v * 3 + b)) hAv
    refine wn_mfar (oo := o (v * 3 + A v)) ?_ h4 h3 (wn_e_two (ho _ (by omega)) hB) (wn_e_two hf hF)
    rw [← h2]
    exact h1
theorem wn_MV_PI (hxy : wn_xy n X Y) (hvx : v = if s = 0 then Y t else X t) (ht : t < n) (ha : a < 3) (hs : s < 2) (hB : B < 40000) (h : wn_PI n C X Y P F B fl o w) (hm : wn_MV v s t a o w o' w') : wn_PI n C X Y P F (B + 19) fl o' w' := by
  obtain ⟨hf, ho, hw, hT⟩ := h
  obtain ⟨hx6, hy6, hne⟩ := hxy.2 t ht
  have hv : v < 6 := by rw [hvx]; split <;> assumption
  rcases hm with ⟨_, rfl, rfl⟩ | ⟨m1, m2, m3⟩
  · exact ⟨hf, fun i hi => wn_e_mono (ho i hi) (by omega), hw, hT⟩
  have hle : wn_e 19 (wn_bst (fun b => w (wn_ix s t a b)) 3) := wn_bst_e (fun j hj => hw _ (wn_ix_lt ht ha hj))
  refine ⟨hf, fun i hi => ?_, fun j hj => ?_, fun A hA => ?_⟩
  · rw [m1]
    by_cases e : i = v * 3 + a
    · rw [e, wn_ups]
      exact wn_more_e (ho _ (by omega)) hle
    · rw [wn_upn e]
      exact wn_e_mono (ho i hi) (by omega)
  · by_cases e : ∃ b, b < 3 ∧ j = wn_ix s t a b
    · obtain ⟨b, hb, rfl⟩ := e
      rw [m2 b hb]
      exact wn_cut_e (hw _ hj)
    · rw [m3 j (fun b hb z => e ⟨b, hb, z⟩)]
      exact hw j hj
  · rw [← hT A hA]
    have hAv := hA v hv
    by_cases e : A v = a
    · have hq : ∃ b, b < 3 ∧ t * 9 + A (X t) + 3 * A (Y t) = wn_ix s t a b := by
        unfold wn_ix
        by_cases es : s = 0
        · rw [if_pos es] at hvx
          rw [hvx] at e
          exact ⟨A (X t), hA _ hx6, by rw [if_pos es, e]⟩
        · rw [if_neg es] at hvx
          rw [hvx] at e
          exact ⟨A (Y t), hA _ hy6, by rw [if_neg es, e]⟩
      obtain ⟨b, hb, hq⟩ := hq
      have h1 := wn_sm_one (f := fun v => o' (v * 3 + A v)) (g := fun v => o (v * 3 + A v)) hv (fun i hi hni => by
        show o' (i * 3 + A i) = o (i * 3 + A i)
        rw [m1, wn_upn (by have := hA i hi; omega)])
      have h2 := wn_sm_one (f := fun t => w' (t * 9 + A (X t) + 3 * A (Y t))) (g := fun t => w (t * 9 + A (X t) + 3 * A (Y t))) ht (fun i hi hni => m3 _ (fun c hc z => by
        have g1 := hA _ (hxy.2 i hi).1
        have g2 := hA _ (hxy.2 i hi).2.1
        unfold wn_ix at z
        split at z <;> omega))
      have h1' : wn_sm (fun v => o' (v * 3 + A v)) 6 + o (v * 3 + a) = wn_sm (fun v => o (v * 3 + A v)) 6 + o' (v * 3 + a) := by
        rw [← e]; exact h1
      have h2' : wn_sm (fun t => w' (t * 9 + A (X t) + 3 * A (Y t))) n + w (wn_ix s t a b) = wn_sm (fun t => w (t * 9 + A (X t) + 3 * A (Y t))) n + w' (wn_ix s t a b) := by
        rw [← hq]; exact h2
      rw [m2 b hb] at h2'
      rw [m1, wn_ups, ← m1] at h1'
      have h3 : o (v * 3 + a) ≤ wn_sm (fun v => o (v * 3 + A v)) 6 := by
        rw [← e]; exact wn_sm_mem (f := fun v => o (v * 3 + A v)) hv
      have h4 : w (wn_ix s t a b) ≤ wn_sm (fun t => w (t * 9 + A (X t) + 3 * A (Y t))) n := by
        rw [← hq]; exact wn_sm_mem (f := fun t => w (t * 9 + A (X t) + 3 * A (Y t))) ht
      exact wn_mvar h1' h2' (wn_bst_le (V := fun b => w (wn_ix s t a b)) hb) h3 h4 (wn_e_two (ho _ (by omega)) (by omega)) (wn_e_two (hw _ (wn_ix_lt ht ha hb)) (by omega))
    · have h1 : wn_sm (fun v => o' (v * 3 + A v)) 6 = wn_sm (fun v => o (v * 3 + A v)) 6 := wn_sm_cong (fun i hi => by
        show o' (i * 3 + A i) = o (i * 3 + A i)
        rw [m1, wn_upn]
        intro z
        have g := hA i hi
        have : i = v := by omega
        subst this
        omega)
      have h2 : wn_sm (fun t => w' (t * 9 + A (X t) + 3 * A (Y t))) n = wn_sm (fun t => w (t * 9 + A (X t) + 3 * A (Y t))) n := wn_sm_cong (fun i hi => m3 _ (fun c hc z => by
        have g1 := hA _ (hxy.2 i hi).1
        have g2 := hA _ (hxy.2 i hi).2.1
        unfold wn_ix at z
        by_cases es : s = 0
        · rw [if_pos es] at z hvx
          have : i = t := by omega
          subst this
          rw [hvx] at e
          omega
        · rw [if_neg es] at z hvx
          have : i = t := by omega
          subst this
          rw [hvx] at e
          omega))
      unfold wn_T
      rw [h1, h2]
end
section
variable {post : St1 → Prop} {fnd bs rdy flr : Int32} {a5 a6 a7 a8 a9 a10 a11 : Nat → Int32} {C X Y P o w : Nat → Nat} {n t fl B F : Nat}
theorem wn_p126 (hPI : wn_PI n C X Y P 0 931 0 o w)
    (H : ∀ fl o w, wn_Pd n C X Y P fl o w → post (nI n, 1, nI fl, fnd, bs, wn_nf C, wn_nf X, wn_nf Y, wn_nf P, wn_nf o, wn_nf w, a7, a8, a9, a10, a11)) :
    ∃ k, wX_prepare_126 post k 0 (nI n) 1 0 fnd bs (wn_nf C) (wn_nf X) (wn_nf Y) (wn_nf P) (wn_nf o) (wn_nf w) a7 a8 a9 a10 a11 := by
  refine pk_loop (σ := Int32 × (Nat → Int32)) (fun k i q => wX_prepare_126 post k (nI i) (nI n) 1 q.1 fnd bs (wn_nf C) (wn_nf X) (wn_nf Y) (wn_nf P) q.2 (wn_nf w) a7 a8 a9 a10 a11)
    (fun i q => ∃ fl o, q = (nI fl, wn_nf o) ∧ wn_PI n C X Y P (931 * i) 931 fl o w) 6 0 (0, wn_nf o) (by omega) ⟨0, o, rfl, hPI⟩ ?_ ?_
  · rintro k q ⟨fl, o, rfl, h⟩
    exact pk_le 6 6 (fun _ => H fl o w ⟨⟨h.1, h.2.1, h.2.2.1⟩, h.2.2.2⟩) (fun z => absurd z (by omega))
  · rintro k i q hi ⟨fl, o, rfl, h⟩ hk
    have hf : fl < 2 ^ 31 := by have := wn_e_two h.1 (by omega); omega
    refine pk_le 6 i (fun z => absurd z (by omega)) (fun _ => wn_mf hi (fun b hb => ?_) hf (fun fl' o' hm => nm_r (nI_1 i) (hk (nI fl', wn_nf o') ⟨fl', o', rfl, ?_⟩)))
    · have := wn_e_two (h.2.1 (i * 3 + b) (by omega)) (by omega)
      omega
    · exact wn_MF_PI hi (by omega) (by omega) h hm
theorem wn_p93 {J : Int32 → Int32 → Int32 → Int32 → Int32 → Int32 → (Nat → Int32) → (Nat → Int32) → (Nat → Int32) → (Nat → Int32) → (Nat → Int32) → (Nat → Int32) → (Nat → Int32) → (Nat → Int32) → (Nat → Int32) → (Nat → Int32) → (Nat → Int32) → Prop}
    (hxy : wn_xy n X Y) (ht : t < n) (hB : B ≤ 900) (hPI : wn_PI n C X Y P 0 B 0 o w)
    (H : ∀ o w, wn_PI n C X Y P 0 (B + 114) 0 o w → J (nI (t + 1)) (nI n) 1 0 fnd bs (wn_nf C) (wn_nf X) (wn_nf Y) (wn_nf P) (wn_nf o) (wn_nf w) a7 a8 a9 a10 a11) :
    ∃ k, wX_prepare_93 post J (nI t) k 0 (nI n) 1 0 fnd bs (wn_nf C) (wn_nf X) (wn_nf Y) (wn_nf P) (wn_nf o) (wn_nf w) a7 a8 a9 a10 a11 := by
  have ht8 : t < 8 := by have := hxy.1; omega
  obtain ⟨hx6, hy6, _⟩ := hxy.2 t ht
  refine pk_loop (σ := (Nat → Int32) × (Nat → Int32)) (fun k i q => wX_prepare_93 post J (nI t) k (nI i) (nI n) 1 0 fnd bs (wn_nf C) (wn_nf X) (wn_nf Y) (wn_nf P) q.1 q.2 a7 a8 a9 a10 a11)
    (fun i q => ∃ o w, q = (wn_nf o, wn_nf w) ∧ wn_PI n C X Y P 0 (B + 38 * i) 0 o w) 3 0 (wn_nf o, wn_nf w) (by omega) ⟨o, w, rfl, hPI⟩ ?_ ?_
  · rintro k q ⟨o, w, rfl, h⟩
    exact pk_le 3 3 (fun _ => nm_r (nI_1 t) (H o w h)) (fun z => absurd z (by omega))
  · rintro k i q hi ⟨o, w, rfl, h⟩ hk
    have hw1 : ∀ b, b < 3 → w (wn_ix 1 t i b) < 2 ^ 31 := fun b hb => by
      have := wn_e_two (h.2.2.1 _ (wn_ix_lt (s := 1) ht hi hb)) (by omega)
      omega
    have ho1 : o (X t * 3 + i) < 2 ^ 31 := by
      have := wn_e_two (h.2.1 (X t * 3 + i) (by omega)) (by omega)
      omega
    refine pk_le 3 i (fun z => absurd z (by omega)) (fun _ => wn_mv (v := X t) (s := 1) hx6 rfl ht8 hi (by omega) hw1 ho1 (fun o' w' hm => ?_))
    have h' : wn_PI n C X Y P 0 (B + 38 * i + 19) 0 o' w' := wn_MV_PI hxy rfl ht hi (by omega) (by omega) h hm
    have hw2 : ∀ b, b < 3 → w' (wn_ix 0 t i b) < 2 ^ 31 := fun b hb => by
      have := wn_e_two (h'.2.2.1 _ (wn_ix_lt (s := 0) ht hi hb)) (by omega)
      omega
    have ho2 : o' (Y t * 3 + i) < 2 ^ 31 := by
      have := wn_e_two (h'.2.1 (Y t * 3 + i) (by omega)) (by omega)
      omega
    refine wn_mv (v := Y t) (s := 0) hy6 rfl ht8 hi (by omega) hw2 ho2 (fun o2 w2 hm2 => ?_)
    have h2 : wn_PI n C X Y P 0 (B + 38 * i + 19 + 19) 0 o2 w2 := wn_MV_PI hxy rfl ht hi (by omega) (by omega) h' hm2
    exact nm_r (nI_1 i) (hk (wn_nf o2, wn_nf w2) ⟨o2, w2, rfl, h2⟩)
theorem wn_p83 (hxy : wn_xy n X Y) (hPI : wn_PI n C X Y P 0 19 0 o w)
    (H : ∀ fl o w, wn_Pd n C X Y P fl o w → post (nI n, 1, nI fl, fnd, bs, wn_nf C, wn_nf X, wn_nf Y, wn_nf P, wn_nf o, wn_nf w, a7, a8, a9, a10, a11)) :
    ∃ k, wX_prepare_83 post k 0 (nI n) 1 0 fnd bs (wn_nf C) (wn_nf X) (wn_nf Y) (wn_nf P) (wn_nf o) (wn_nf w) a7 a8 a9 a10 a11 := by
  have hn := hxy.1
  refine pk_loop (σ := (Nat → Int32) × (Nat → Int32)) (fun k i q => wX_prepare_83 post k (nI i) (nI n) 1 0 fnd bs (wn_nf C) (wn_nf X) (wn_nf Y) (wn_nf P) q.1 q.2 a7 a8 a9 a10 a11)
    (fun i q => ∃ o w, q = (wn_nf o, wn_nf w) ∧ wn_PI n C X Y P 0 (19 + 114 * i) 0 o w) n 0 (wn_nf o, wn_nf w) (by omega) ⟨o, w, rfl, hPI⟩ ?_ ?_
  · rintro k q ⟨o, w, rfl, h⟩
    exact pk_le n n (fun _ => wn_p126 ⟨h.1, fun i hi => wn_e_mono (h.2.1 i hi) (by omega), h.2.2.1, h.2.2.2⟩ H) (fun z => absurd z (by omega))
  · rintro k i q hi ⟨o, w, rfl, h⟩ hk
    exact pk_le n i (fun z => absurd z (by omega)) (fun _ => wn_p93 hxy hi (by omega) h (fun o' w' h' => hk (wn_nf o', wn_nf w') ⟨o', w', rfl, h'⟩))
theorem wn_wmvd {post : Int32 → Prop} {u : St2} {p0 : Int32} (c : Nat) (e : p0 = nI c) (hc : c < 2 ^ 31) (h : post (nI (wn_mvd c))) : wpX_asMoved post u p0 := by
  subst e
  unfold wn_mvd at h
  refine pk_eq c 20 (fun z => ?_) (fun z => ?_)
  · rw [if_pos z] at h
    exact h
  · rw [if_neg z] at h
    exact h
theorem wn_p49 (hN : wn_N n C X Y P) (ho : ∀ i, i < 18 → o i = wn_mvd (C i))
    (H : ∀ fl o w, wn_Pd n C X Y P fl o w → post (nI n, 1, nI fl, fnd, bs, wn_nf C, wn_nf X, wn_nf Y, wn_nf P, wn_nf o, wn_nf w, a7, a8, a9, a10, a11)) :
    ∃ k, wX_prepare_49 post (nI n) 1 0 fnd bs k 0 (wn_nf C) (wn_nf X) (wn_nf Y) (wn_nf P) (wn_nf o) a6 a7 a8 a9 a10 a11 := by
  obtain ⟨hxy, hC, hP⟩ := hN
  have hn := hxy.1
  obtain ⟨w0, rfl⟩ := wn_nf_of a6
  have e9 : nI n * 9 = nI (n * 9) := by rw [← pk_mul]; rfl
  refine pk_loop (fun k i q => wX_prepare_49 post (nI n) 1 0 fnd bs k (nI i) (wn_nf C) (wn_nf X) (wn_nf Y) (wn_nf P) (wn_nf o) q a7 a8 a9 a10 a11)
    (fun i q => ∃ w, q = wn_nf w ∧ ∀ j, j < i → w j = wn_mvd (P j)) (n * 9) 0 (wn_nf w0) (by omega) ⟨w0, rfl, fun j hj => absurd hj (by omega)⟩ ?_ ?_
  · rintro k q ⟨w, rfl, h⟩
    refine pk_le (n * 9) (n * 9) (fun _ => wn_p83 hxy ⟨Or.inl (Nat.le_refl _), fun i hi => ?_, fun j hj => ?_, fun A hA => ?_⟩ H) (fun z => absurd z (by omega)) e9
    · rw [ho i hi]
      exact wn_mvd_e (hC i)
    · rw [h j hj]
      exact wn_mvd_e (hP j)
    · have h1 : wn_sm (fun v => o (v * 3 + A v)) 6 = wn_sm (fun v => wn_mvd (C (v * 3 + A v))) 6 := wn_sm_cong (fun i hi => ho _ (by have := hA i hi; omega))
      have h2 : wn_sm (fun t => w (t * 9 + A (X t) + 3 * A (Y t))) n = wn_sm (fun t => wn_mvd (P (t * 9 + A (X t) + 3 * A (Y t)))) n := wn_sm_cong (fun i hi => h _ (by
        have g1 := hA _ (hxy.2 i hi).1
        have g2 := hA _ (hxy.2 i hi).2.1
        omega))
      unfold wn_R wn_T
      rw [h1, h2]
  · rintro k i q hi ⟨w, rfl, h⟩ hk
    have hPi := hP i
    refine pk_le (n * 9) i (fun z => absurd z (by omega)) (fun _ => ⟨pk_in i 72 (by omega), wn_wmvd (P i) (wn_rd i rfl (by omega)) (by omega) ⟨pk_in i 72 (by omega), nm_r (wn_unf i rfl (by omega)) (nm_r (nI_1 i) (hk _ ⟨_, rfl, fun j hj => ?_⟩))⟩⟩) e9
    by_cases e : j = i
    · rw [e, wn_ups]
    · rw [wn_upn e]
      exact h j (by omega)
theorem wn_p20 (hN : wn_N n C X Y P)
    (H : ∀ fl o w, wn_Pd n C X Y P fl o w → post (nI n, 1, nI fl, fnd, bs, wn_nf C, wn_nf X, wn_nf Y, wn_nf P, wn_nf o, wn_nf w, a7, a8, a9, a10, a11)) :
    ∃ k, wX_prepare_20 post (nI n) 1 0 fnd bs k 0 (wn_nf C) (wn_nf X) (wn_nf Y) (wn_nf P) a5 a6 a7 a8 a9 a10 a11 := by
  obtain ⟨o0, rfl⟩ := wn_nf_of a5
  refine pk_loop (fun k i q => wX_prepare_20 post (nI n) 1 0 fnd bs k (nI i) (wn_nf C) (wn_nf X) (wn_nf Y) (wn_nf P) q a6 a7 a8 a9 a10 a11)
    (fun i q => ∃ o, q = wn_nf o ∧ ∀ j, j < i → o j = wn_mvd (C j)) 18 0 (wn_nf o0) (by omega) ⟨o0, rfl, fun j hj => absurd hj (by omega)⟩ ?_ ?_
  · rintro k q ⟨o, rfl, h⟩
    exact pk_le 18 18 (fun _ => wn_p49 hN h H) (fun z => absurd z (by omega))
  · rintro k i q hi ⟨o, rfl, h⟩ hk
    have hCi := hN.2.1 i
    refine pk_le 18 i (fun z => absurd z (by omega)) (fun _ => ⟨pk_in i 18 (by omega), wn_wmvd (C i) (wn_rd i rfl (by omega)) (by omega) ⟨pk_in i 18 (by omega), nm_r (wn_unf i rfl (by omega)) (nm_r (nI_1 i) (hk _ ⟨_, rfl, fun j hj => ?_⟩))⟩⟩)
    by_cases e : j = i
    · rw [e, wn_ups]
    · rw [wn_upn e]
      exact h j (by omega)
/-- what the moved costs are, or that they are to be made -/
def wn_rd_ok (n : Nat) (C X Y P : Nat → Nat) (rdy flr : Int32) (a5 a6 : Nat → Int32) : Prop :=
  rdy = 0 ∨ (rdy = 1 ∧ ∃ fl o w, flr = nI fl ∧ a5 = wn_nf o ∧ a6 = wn_nf w ∧ wn_Pd n C X Y P fl o w)
theorem wn_prep (hN : wn_N n C X Y P) (hr : wn_rd_ok n C X Y P rdy flr a5 a6)
    (H : ∀ fl o w, wn_Pd n C X Y P fl o w → post (nI n, 1, nI fl, fnd, bs, wn_nf C, wn_nf X, wn_nf Y, wn_nf P, wn_nf o, wn_nf w, a7, a8, a9, a10, a11)) :
    wpX_prepare post (nI n, rdy, flr, fnd, bs, wn_nf C, wn_nf X, wn_nf Y, wn_nf P, a5, a6, a7, a8, a9, a10, a11) := by
  rcases hr with rfl | ⟨rfl, fl, o, w, rfl, rfl, rfl, h⟩
  · exact br_t rfl (wn_p20 hN H)
  · exact br_f (by decide) (H fl o w h)
end
end
section
/-! withTaken, ahead, wpX_open, lastValue, take, descend -/
def wn_fx (a7 : Nat → Int32) (lo hi : Nat → Nat) : Prop :=
  ∀ v, v < 6 → (a7 v = -1 ∧ lo v = 0 ∧ hi v = 2) ∨ (∃ a, a < 3 ∧ a7 v = nI a ∧ lo v = a ∧ hi v = a)
theorem wn_fx_hi {a7 : Nat → Int32} {lo hi : Nat → Nat} (h : wn_fx a7 lo hi) {v : Nat} (hv : v < 6) : lo v ≤ hi v ∧ hi v ≤ 2 := by
  rcases h v hv with ⟨_, h1, h2⟩ | ⟨a, ha, _, h1, h2⟩ <;> omega
theorem wn_rdA {f : Nat → Int32} {x y : Int32} (k : Nat) (hx : x = nI k) (hk : k < 2 ^ 31) (h : f k = y) : f x.toNatClampNeg = y := by
  rw [hx, nI_clamp hk, h]
section
variable {post : Int32 → Prop} {rdy flr fnd bs : Int32} {a1 a4 a7 a8 a9 a10 a11 : Nat → Int32} {X Y o w A lo hi : Nat → Nat} {n fl v a fr t s ot ac : Nat}
theorem wn_w82 {J : Int32 → Int32 → Prop} {p6 : Int32} (hb : wn_bd n fl o w) (hn : n ≤ 8) (ht : t < n) (ha : a < 3) (hs : s < 2) (hot : ot < 6) (hfr : fr ≤ 6) (hA : ∀ j, j < fr → a8 j = nI (A j) ∧ A j < 3) (hac : wn_ok 1083 ac) {z0 : Int32} (hz : z0 = nI ot) (h6 : p6 = nI s)
    (H : J (nI (wn_sat (ac + (if ot < fr then w (wn_ix s t a (A ot)) else 0)))) (nI (t + 1))) :
    wX_withTaken_82 post J (nI v) (nI a) (nI fr) (nI (wn_sat ac)) (nI t) p6 z0 (nI n) rdy flr fnd bs a1 (wn_nf X) (wn_nf Y) a4 (wn_nf o) (wn_nf w) a7 a8 a9 a10 a11 := by
  subst hz h6
  refine pk_le fr ot (fun z => nm_r (nI_1 t) ?_) (fun z => ⟨pk_in ot 6 hot, ?_⟩)
  · rw [if_neg (by omega), Nat.add_zero] at H
    exact H
  · obtain ⟨h8, h3⟩ := hA ot z
    rw [wn_rdA ot rfl (by omega) h8]
    rw [if_pos z] at H
    have hx := wn_ix_lt (s := s) ht ha h3
    have hw := hb.2.2 _ hx
    have hw2 := wn_e_two hw (by omega)
    have hsl := wn_sat_le ac
    refine wn_wpair hs ⟨pk_in (wn_ix s t a (A ot)) 72 (by omega), wn_wmore (wn_sat ac) (w (wn_ix s t a (A ot))) rfl (wn_rd _ rfl (by omega)) (by omega) (by omega) (nm_r (nI_1 t) ?_)⟩
    rw [← wn_sat_e hw (by omega), wn_more_sat hac (wn_ok_e hw) (by omega)]
    exact H
theorem wn_wT (hb : wn_bd n fl o w) (hxy : wn_xy n X Y) (hv : v < 6) (ha : a < 3) (hfr : fr ≤ 6) (hA : ∀ j, j < fr → a8 j = nI (A j) ∧ A j < 3)
    (H : post (nI (wn_sat (wn_wt n X Y o w A v a fr)))) :
    wpX_withTaken post (nI n, rdy, flr, fnd, bs, a1, wn_nf X, wn_nf Y, a4, wn_nf o, wn_nf w, a7, a8, a9, a10, a11) (nI v) (nI a) (nI fr) := by
  have hn := hxy.1
  have ei := wn_i3 v a
  refine ⟨pk_in (v * 3 + a) 18 (by omega) ei, nm_r (e' := nI (wn_sat (o (v * 3 + a)))) ?_ ?_⟩
  · rw [wn_sat_e (hb.2.1 _ (by omega)) (by omega)]
    exact wn_rd _ ei (by omega)
  · refine pk_loop (fun k i q => wX_withTaken_15 post (nI v) (nI a) (nI fr) (nI n) rdy flr fnd bs a1 (wn_nf X) (wn_nf Y) a4 (wn_nf o) (wn_nf w) a7 a8 a9 a10 a11 k q (nI i))
      (fun i q => q = nI (wn_sat (o (v * 3 + a) + wn_sm (wn_tw X Y w A v a fr) i))) n 0 (nI (wn_sat (o (v * 3 + a)))) (by omega) rfl ?_ ?_
    · rintro k q rfl
      exact pk_le n n (fun _ => H) (fun z => absurd z (by omega))
    · rintro k i q hi rfl hk
      have hac : wn_ok 1083 (o (v * 3 + a) + wn_sm (wn_tw X Y w A v a fr) i) := wn_tws_ok hb hn ha hv (fun j hj => (hA j hj).2) (by omega)
      obtain ⟨hx6, hy6, hne⟩ := hxy.2 i hi
      have key : ∀ d, d = wn_tw X Y w A v a fr i → wX_withTaken_15 post (nI v) (nI a) (nI fr) (nI n) rdy flr fnd bs a1 (wn_nf X) (wn_nf Y) a4 (wn_nf o) (wn_nf w) a7 a8 a9 a10 a11 k (nI (wn_sat (o (v * 3 + a) + wn_sm (wn_tw X Y w A v a fr) i + d))) (nI (i + 1)) := by
        intro d hd
        refine hk _ ?_
        rw [hd, Nat.add_assoc]
        rfl
      refine pk_le n i (fun z => absurd z (by omega)) (fun _ => ⟨pk_in i 8 (by omega), pk_eq (X i) v (fun z => ?_) (fun z => ?_) (wn_rd i rfl (by omega))⟩)
      · refine br_f (by decide) ⟨pk_in i 8 (by omega), br_f (by decide) (wn_w82 (s := 1) hb hn hi ha (by omega) hy6 hfr hA hac (wn_rd i rfl (by omega)) rfl (key _ ?_))⟩
        unfold wn_tw wn_ix
        rw [if_pos z, if_neg (show ¬ (1 = 0) by decide)]
      · refine br_t rfl ⟨pk_in i 8 (by omega), br_t rfl ⟨pk_in i 8 (by omega), pk_eq (Y i) v (fun y => ?_) (fun y => nm_r (nI_1 i) (key 0 ?_)) (wn_rd i rfl (by omega))⟩⟩
        · refine wn_w82 (s := 0) hb hn hi ha (by omega) hx6 hfr hA hac (wn_rd i rfl (by omega)) rfl (key _ ?_)
          unfold wn_tw wn_ix
          rw [if_neg z, if_pos y, if_pos rfl]
        · unfold wn_tw
          rw [if_neg z, if_neg y]
theorem wn_ah68 {J4 J17 : Int32 → Int32 → Prop} {x1 x2 x3 f1 : Int32} {a2 a3 a5 a6 : Nat → Int32} {V : Nat → Nat} {z0 : Int32} (hz : z0 = nI (V a)) (hV : V a ≤ 100000)
    (H : J17 (nI (wn_bst V (a + 1))) (nI (a + 1))) :
    wX_ahead_68 post J4 J17 x1 x2 x3 (nI (wn_bst V a)) (nI a) z0 f1 rdy flr fnd bs a1 a2 a3 a4 a5 a6 a7 a8 a9 a10 a11 := by
  subst hz
  have hm := wn_bst_max V a
  have H' : J17 (nI (if V a < wn_bst V a then V a else wn_bst V a)) (nI (a + 1)) := H
  refine pk_le (wn_bst V a) (V a) (fun z => nm_r (nI_1 a) ?_) (fun z => nm_r (nI_1 a) ?_)
  · rw [if_neg (by omega)] at H'
    exact H'
  · rw [if_pos z] at H'
    exact H'
theorem wn_ahd (hb : wn_bd n fl o w) (hxy : wn_xy n X Y) (hfx : wn_fx a7 lo hi) (hfr : fr ≤ 6) (hA : ∀ j, j < fr → a8 j = nI (A j) ∧ A j < 3)
    (H : post (nI (wn_sat (wn_ah n X Y o w A lo hi fr 6)))) :
    wpX_ahead post (nI n, rdy, flr, fnd, bs, a1, wn_nf X, wn_nf Y, a4, wn_nf o, wn_nf w, a7, a8, a9, a10, a11) (nI fr) := by
  have hn := hxy.1
  have hA2 : ∀ j, j < fr → A j < 3 := fun j hj => (hA j hj).2
  refine pk_loop (fun k i q => wX_ahead_4 post (nI fr) (nI n) rdy flr fnd bs a1 (wn_nf X) (wn_nf Y) a4 (wn_nf o) (wn_nf w) a7 a8 a9 a10 a11 k q (nI i))
    (fun i q => fr ≤ i ∧ q = nI (wn_sat (wn_ah n X Y o w A lo hi fr i))) 6 fr 0 hfr ⟨Nat.le_refl _, ?_⟩ ?_ ?_
  · rw [show wn_ah n X Y o w A lo hi fr fr = 0 from wn_sm_zero (fun i hi => if_pos hi)]
    rfl
  · rintro k q ⟨_, rfl⟩
    exact pk_le 6 6 (fun _ => H) (fun z => absurd z (by omega))
  · rintro k i q hi6 ⟨hfi, rfl⟩ hk
    refine pk_le 6 i (fun z => absurd z (by omega)) (fun _ => ?_)
    have hme := wn_m_e (lo := lo) (hi := hi) (X := X) (Y := Y) hb hn hi6 hA2
    have hok := wn_ah_ok (lo := lo) (hi := hi) (X := X) (Y := Y) hb hn (show i ≤ 6 by omega) hA2
    have hsl := wn_sat_le (wn_ah n X Y o w A lo hi fr i)
    refine pk_loop (fun k' j q' => wX_ahead_17 post (wX_ahead_4 post (nI fr) (nI n) rdy flr fnd bs a1 (wn_nf X) (wn_nf Y) a4 (wn_nf o) (wn_nf w) a7 a8 a9 a10 a11 k) (nI fr) (nI (wn_sat (wn_ah n X Y o w A lo hi fr i))) (nI i) (nI n) rdy flr fnd bs a1 (wn_nf X) (wn_nf Y) a4 (wn_nf o) (wn_nf w) a7 a8 a9 a10 a11 k' q' (nI j))
      (fun j q' => q' = nI (wn_bst (wn_av n X Y o w A lo hi fr i) j)) 3 0 100000 (by omega) rfl ?_ ?_
    · rintro k' q' rfl
      have hm2 := wn_e_two hme (by omega)
      refine pk_le 3 3 (fun _ => wn_wmore (wn_sat (wn_ah n X Y o w A lo hi fr i)) (wn_m n X Y o w A lo hi fr i) rfl rfl (by omega) (by omega) (nm_r (nI_1 i) (hk _ ⟨by omega, ?_⟩))) (fun z => absurd z (by omega))
      have e1 : wn_ah n X Y o w A lo hi fr (i + 1) = wn_ah n X Y o w A lo hi fr i + wn_m n X Y o w A lo hi fr i := by
        show wn_ah n X Y o w A lo hi fr i + (if i < fr then 0 else wn_m n X Y o w A lo hi fr i) = _
        rw [if_neg (by omega)]
      rw [e1, ← wn_more_sat hok (wn_ok_e hme) (by omega), wn_sat_e hme (by omega)]
    · rintro k' j q' hj rfl hk'
      have hav := wn_av_e (lo := lo) (hi := hi) (X := X) (Y := Y) hb hn hj hi6 hA2
      have hav2 := wn_e_two hav (by omega)
      have hle : wn_av n X Y o w A lo hi fr i j ≤ 100000 := by omega
      have opn : (lo i ≤ j ∧ j ≤ hi i) → wX_ahead_43 post (wX_ahead_4 post (nI fr) (nI n) rdy flr fnd bs a1 (wn_nf X) (wn_nf Y) a4 (wn_nf o) (wn_nf w) a7 a8 a9 a10 a11 k) (wX_ahead_17 post (wX_ahead_4 post (nI fr) (nI n) rdy flr fnd bs a1 (wn_nf X) (wn_nf Y) a4 (wn_nf o) (wn_nf w) a7 a8 a9 a10 a11 k) (nI fr) (nI (wn_sat (wn_ah n X Y o w A lo hi fr i))) (nI i) (nI n) rdy flr fnd bs a1 (wn_nf X) (wn_nf Y) a4 (wn_nf o) (wn_nf w) a7 a8 a9 a10 a11 k') (nI fr) (nI (wn_sat (wn_ah n X Y o w A lo hi fr i))) (nI i) (nI (wn_bst (wn_av n X Y o w A lo hi fr i) j)) (nI j) (nI n) rdy flr fnd bs a1 (wn_nf X) (wn_nf Y) a4 (wn_nf o) (wn_nf w) a7 a8 a9 a10 a11 := by
        intro ho
        refine br_f (by decide) (wn_wT hb hxy hi6 hj hfr hA (wn_ah68 ?_ hle (hk' _ rfl)))
        unfold wn_av
        rw [if_pos ho]
      refine pk_le 3 j (fun z => absurd z (by omega)) (fun _ => ⟨pk_in i 6 hi6, ?_⟩)
      rcases hfx i hi6 with ⟨h1, h2, h3⟩ | ⟨c, hc, h1, h2, h3⟩
      · exact br_t (by rw [wn_rdA i rfl (by omega) h1]; decide) (opn (by omega))
      · refine br_f (by rw [wn_rdA i rfl (by omega) h1]; exact nI_pos (by omega)) ⟨pk_in i 6 hi6, pk_eq c j (fun z => opn (by omega)) (fun z => ?_) (wn_rdA i rfl (by omega) h1)⟩
        refine br_t rfl (wn_ah68 ?_ hle (hk' _ rfl))
        unfold wn_av
        rw [if_neg (by omega)]
        rfl
end
section
variable {tb rdy flr fnd bs : Int32} {a1 a2 a3 a4 a5 a6 a7 a8 a9 a10 a11 : Nat → Int32} {lo hi : Nat → Nat} {l : Nat}
theorem wn_opn {post : St1 → Prop} (hl : l < 6) (hfx : wn_fx a7 lo hi) (H : post (tb, rdy, flr, fnd, bs, a1, a2, a3, a4, a5, a6, a7, a8, a9, upd a10 l (nI (lo l)), a11)) :
    wpX_open post (tb, rdy, flr, fnd, bs, a1, a2, a3, a4, a5, a6, a7, a8, a9, a10, a11) (nI l) := by
  refine ⟨pk_in l 6 hl, ?_⟩
  rcases hfx l hl with ⟨h1, h2, h3⟩ | ⟨c, hc, h1, h2, h3⟩
  · refine br_t (by rw [wn_rdA l rfl (by omega) h1]; decide) ⟨pk_in l 6 hl, nm_r (e' := upd a10 l (nI (lo l))) ?_ H⟩
    rw [nI_clamp (by omega), h2]
    rfl
  · refine br_f (by rw [wn_rdA l rfl (by omega) h1]; exact nI_pos (by omega)) ⟨pk_in l 6 hl, pk_in l 6 hl, nm_r (e' := upd a10 l (nI (lo l))) ?_ H⟩
    rw [nI_clamp (by omega), h2, h1]
theorem wn_lst {post : Int32 → Prop} (hl : l < 6) (hfx : wn_fx a7 lo hi) (H : post (nI (hi l))) :
    wpX_lastValue post (tb, rdy, flr, fnd, bs, a1, a2, a3, a4, a5, a6, a7, a8, a9, a10, a11) (nI l) := by
  refine ⟨pk_in l 6 hl, ?_⟩
  rcases hfx l hl with ⟨h1, h2, h3⟩ | ⟨c, hc, h1, h2, h3⟩
  · rw [h3] at H
    exact br_t (by rw [wn_rdA l rfl (by omega) h1]; decide) H
  · rw [h3, ← h1] at H
    refine br_f (by rw [wn_rdA l rfl (by omega) h1]; exact nI_pos (by omega)) ⟨pk_in l 6 hl, ?_⟩
    rw [nI_clamp (by omega)]
    exact H
theorem wn_tk25 {post : St1 → Prop} (H : ∀ a11', (∀ v, v < 6 → a11' v = a8 v) → post (tb, rdy, flr, fnd, bs, a1, a2, a3, a4, a5, a6, a7, a8, a9, a10, a11')) :
    ∃ k, wX_take_25 post tb rdy flr fnd bs k 0 a1 a2 a3 a4 a5 a6 a7 a8 a9 a10 a11 := by
  refine pk_loop (fun k i q => wX_take_25 post tb rdy flr fnd bs k (nI i) a1 a2 a3 a4 a5 a6 a7 a8 a9 a10 q) (fun i q => ∀ v, v < i → q v = a8 v) 6 0 a11 (by omega) (fun v hv => absurd hv (by omega)) ?_ ?_
  · intro k q h
    exact pk_le 6 6 (fun _ => H q h) (fun z => absurd z (by omega))
  · intro k i q hi h hk
    refine pk_le 6 i (fun z => absurd z (by omega)) (fun _ => ⟨pk_in i 6 hi, pk_in i 6 hi, nm_r (e' := upd q i (a8 i)) ?_ (nm_r (nI_1 i) (hk _ (fun v hv => ?_)))⟩)
    · rw [nI_clamp (by omega)]
    · by_cases e : v = i
      · rw [e, pk_us]
      · rw [pk_un e]
        exact h v (by omega)
theorem wn_tk {post : St1 → Prop} {c : Int32} (H1 : bs ≤ c → post (tb, rdy, flr, fnd + 1, bs, a1, a2, a3, a4, a5, a6, a7, a8, a9, a10, a11))
    (H2 : ¬ bs ≤ c → ∀ a11', (∀ v, v < 6 → a11' v = a8 v) → post (tb, rdy, flr, fnd + 1, c, a1, a2, a3, a4, a5, a6, a7, a8, a9, a10, a11')) :
    wpX_take post (tb, rdy, flr, fnd, bs, a1, a2, a3, a4, a5, a6, a7, a8, a9, a10, a11) c :=
  nm_e (br_c H1 (fun h => wn_tk25 (H2 h)))
end
section
variable {post : Int32 → St1 → Prop} {rdy flr fnd bs lim : Int32} {a1 a4 a7 a8 a9 a10 a11 : Nat → Int32} {X Y o w A lo hi : Nat → Nat} {n fl l Lm s1 : Nat}
theorem wn_d19 {z0 : Int32} {za : Nat} (hz : z0 = nI (wn_sat za)) (hl : l < 6) (hfx : wn_fx a7 lo hi) (h1 : wn_ok 12084 s1) (h2 : wn_ok 6498 za)
    (h9 : a9 (l + 1) = nI (wn_sat s1)) (hlim : ∀ r, r ≤ 100000 → (nI r ≤ lim ↔ r < Lm)) (hLm : Lm ≤ 50000)
    (H1 : Lm ≤ wn_sat (s1 + za) → post (nI l) (nI n, rdy, flr, fnd, bs, a1, wn_nf X, wn_nf Y, a4, wn_nf o, wn_nf w, a7, a8, a9, a10, a11))
    (H2 : wn_sat (s1 + za) < Lm → l = 5 → bs ≤ nI (wn_sat s1) → post (nI l) (nI n, rdy, flr, fnd + 1, bs, a1, wn_nf X, wn_nf Y, a4, wn_nf o, wn_nf w, a7, a8, a9, a10, a11))
    (H3 : wn_sat (s1 + za) < Lm → l = 5 → ¬ bs ≤ nI (wn_sat s1) → ∀ a11', (∀ v, v < 6 → a11' v = a8 v) → post (nI l) (nI n, rdy, flr, fnd + 1, nI (wn_sat s1), a1, wn_nf X, wn_nf Y, a4, wn_nf o, wn_nf w, a7, a8, a9, a10, a11'))
    (H4 : wn_sat (s1 + za) < Lm → l < 5 → post (nI (l + 1)) (nI n, rdy, flr, fnd, bs, a1, wn_nf X, wn_nf Y, a4, wn_nf o, wn_nf w, a7, a8, a9, upd a10 (l + 1) (nI (lo (l + 1))), a11)) :
    wX_descend_19 post (nI l) lim z0 (nI n) rdy flr fnd bs a1 (wn_nf X) (wn_nf Y) a4 (wn_nf o) (wn_nf w) a7 a8 a9 a10 a11 := by
  subst hz
  have g1 := wn_sat_le s1
  have g2 := wn_sat_le za
  have g3 := wn_sat_le (s1 + za)
  unfold wX_descend_19
  rw [nI_1]
  refine ⟨pk_in (l + 1) 7 (by omega), wn_wmore (wn_sat s1) (wn_sat za) (wn_rdA (l + 1) rfl (by omega) h9) rfl (by omega) (by omega) ?_⟩
  rw [wn_more_sat h1 h2 (by omega)]
  refine pk_le 50000 (wn_sat (s1 + za)) (fun z => H1 (by omega)) (fun z => ?_)
  by_cases hc : wn_sat (s1 + za) < Lm
  · refine br_t ((hlim _ g3).mpr hc) (pk_eq (l + 1) 6 (fun y => ?_) (fun y => ?_))
    · have e5 : l = 5 := by omega
      have e9 : a9 6 = nI (wn_sat s1) := by rw [← h9, e5]
      rw [e9]
      exact wn_tk (H2 hc e5) (H3 hc e5)
    · exact wn_opn (by omega) hfx (H4 hc (by omega))
  · exact br_f (fun q => hc ((hlim _ g3).mp q)) (H1 (by omega))
theorem wn_dsc (hb : wn_bd n fl o w) (hxy : wn_xy n X Y) (hl : l < 6) (hfx : wn_fx a7 lo hi) (hA : ∀ j, j < l + 1 → a8 j = nI (A j) ∧ A j < 3) (h1 : wn_ok 12084 s1)
    (h9 : a9 (l + 1) = nI (wn_sat s1)) (hlim : ∀ r, r ≤ 100000 → (nI r ≤ lim ↔ r < Lm)) (hLm : Lm ≤ 50000)
    (H1 : Lm ≤ wn_sat (s1 + wn_ah n X Y o w A lo hi (l + 1) 6) → post (nI l) (nI n, rdy, flr, fnd, bs, a1, wn_nf X, wn_nf Y, a4, wn_nf o, wn_nf w, a7, a8, a9, a10, a11))
    (H2 : wn_sat s1 < Lm → l = 5 → bs ≤ nI (wn_sat s1) → post (nI l) (nI n, rdy, flr, fnd + 1, bs, a1, wn_nf X, wn_nf Y, a4, wn_nf o, wn_nf w, a7, a8, a9, a10, a11))
    (H3 : wn_sat s1 < Lm → l = 5 → ¬ bs ≤ nI (wn_sat s1) → ∀ a11', (∀ v, v < 6 → a11' v = a8 v) → post (nI l) (nI n, rdy, flr, fnd + 1, nI (wn_sat s1), a1, wn_nf X, wn_nf Y, a4, wn_nf o, wn_nf w, a7, a8, a9, a10, a11'))
    (H4 : l < 5 → post (nI (l + 1)) (nI n, rdy, flr, fnd, bs, a1, wn_nf X, wn_nf Y, a4, wn_nf o, wn_nf w, a7, a8, a9, upd a10 (l + 1) (nI (lo (l + 1))), a11)) :
    wpX_descend post (nI n, rdy, flr, fnd, bs, a1, wn_nf X, wn_nf Y, a4, wn_nf o, wn_nf w, a7, a8, a9, a10, a11) (nI l) lim := by
  refine pk_le 6 (l + 1) (fun z => ?_) (fun z => ?_) rfl (nI_1 l)
  · have e5 : l = 5 := by omega
    have e0 : wn_ah n X Y o w A lo hi (l + 1) 6 = 0 := wn_sm_zero (fun i hi => if_pos (by omega))
    rw [e0] at H1
    exact wn_d19 (za := 0) rfl hl hfx h1 wn_ok_0 h9 hlim hLm H1 H2 H3 (fun _ => H4)
  · show wpX_ahead _ _ (nI l + 1)
    rw [nI_1]
    refine wn_ahd hb hxy hfx (by omega) hA (wn_d19 (za := wn_ah n X Y o w A lo hi (l + 1) 6) rfl hl hfx h1 (wn_ah_ok hb hxy.1 (by omega) (fun j hj => (hA j hj).2)) h9 hlim hLm H1 (fun _ e => absurd e (by omega)) (fun _ e => absurd e (by omega)) (fun _ => H4))
end
end
section
/-! the search -/
def wn_cs (lo hi : Nat → Nat) (k : Nat) : Prop := ∀ v, v < 6 → lo v ≤ wn_dg k v ∧ wn_dg k v ≤ hi v
def wn_Res (V : Nat → Nat) (b sh p : Nat) (fnd bs : Int32) (a11 : Nat → Int32) : Prop :=
  (sh = 0 → fnd = nI (wn_cnt V b p)) ∧ (sh ≠ 0 → bs = nI (wn_bst V p) ∧ (wn_bst V p < 50000 → ∀ v, v < 6 → a11 v = nI (wn_dg (wn_arg V p) v)))
def wn_cx (n : Nat) (X Y : Nat → Nat) (fl : Nat) (o w : Nat → Nat) (a7 : Nat → Int32) (lo hi V : Nat → Nat) : Prop :=
  wn_bd n fl o w ∧ wn_xy n X Y ∧ wn_fx a7 lo hi ∧ (∀ k, wn_cs lo hi k → V k = wn_sat (wn_S n X Y fl o w (wn_dg k) 6)) ∧ (∀ k, ¬ wn_cs lo hi k → V k = 100000)
theorem wn_sat_mono {x y : Nat} (h : x ≤ y) : wn_sat x ≤ wn_sat y := by
  unfold wn_sat
  split <;> split <;> omega
theorem wn_dgs1 {A : Nat → Nat} {l k : Nat} (hl : l < 6) (hA : ∀ v, v < l + 1 → A v < 3) (h1 : wn_ps A (l + 1) ≤ k) (h2 : k < wn_ps A (l + 1) + wn_pw l) : ∀ v, v < l + 1 → wn_dg k v = A v := by
  have hAl := hA l (by omega)
  have e : wn_ps A (l + 1) = wn_ps A l + A l * wn_pw l := rfl
  have hp := wn_pw_pos l
  have hm : A l * wn_pw l ≤ 2 * wn_pw l := Nat.mul_le_mul_right _ (by omega)
  have hd := wn_dgs (A := A) (l := l) (k := k) (r := (k - wn_ps A (l + 1)) + A l * wn_pw l) hl (fun v hv => hA v (by omega)) (by omega) (by omega)
  intro v hv
  by_cases ev : v = l
  · rw [ev, hd.2, Nat.add_mul_div_right _ _ (by omega), Nat.div_eq_of_lt (by omega), Nat.zero_add]
  · exact hd.1 v (by omega)
theorem wn_skip_lo {A lo hi : Nat → Nat} {l k : Nat} (hl : l < 6) (hA : ∀ v, v < l → A v < 3) (h3 : lo l ≤ 2) (h1 : wn_ps A l ≤ k) (h2 : k < wn_ps A l + lo l * wn_pw l) : ¬ wn_cs lo hi k := by
  intro hc
  have hp := wn_pw_pos l
  have hm : lo l * wn_pw l ≤ 2 * wn_pw l := Nat.mul_le_mul_right _ h3
  have hd := wn_dgs (A := A) (l := l) (k := k) (r := k - wn_ps A l) hl hA (by omega) (by omega)
  have h := (hc l hl).1
  rw [hd.2] at h
  have := (Nat.le_div_iff_mul_le (by omega)).mp h
  omega
theorem wn_skip_hi {A lo hi : Nat → Nat} {l k nx : Nat} (hl : l < 6) (hA : ∀ v, v < l → A v < 3) (hn : hi l < nx) (h1 : wn_ps A l + nx * wn_pw l ≤ k) (h2 : k < wn_ps A l + 3 * wn_pw l) : ¬ wn_cs lo hi k := by
  intro hc
  have hp := wn_pw_pos l
  have hd := wn_dgs (A := A) (l := l) (k := k) (r := k - wn_ps A l) hl hA (by omega) (by omega)
  have h := (hc l hl).2
  rw [hd.2] at h
  have : nx ≤ (k - wn_ps A l) / wn_pw l := (Nat.le_div_iff_mul_le (by omega)).mpr (by omega)
  omega
theorem wn_Res_skip {V : Nat → Nat} {b sh p q : Nat} {fnd bs : Int32} {a11 : Nat → Int32} (hpq : p ≤ q) (h : ∀ k, p ≤ k → k < q → (sh = 0 → b < V k) ∧ (sh ≠ 0 → wn_bst V p ≤ V k)) (hR : wn_Res V b sh p fnd bs a11) : wn_Res V b sh q fnd bs a11 := by
  refine ⟨fun e => ?_, fun e => ?_⟩
  · rw [wn_cnt_skip hpq (fun k x y => (h k x y).1 e)]
    exact hR.1 e
  · obtain ⟨h1, h2⟩ := wn_bst_skip hpq (fun k x y => (h k x y).2 e)
    rw [h1, h2]
    exact hR.2 e
theorem wn_Res_out {V : Nat → Nat} {b sh p q : Nat} {fnd bs : Int32} {a11 : Nat → Int32} (hb : b ≤ 49999) (hpq : p ≤ q) (h : ∀ k, p ≤ k → k < q → V k = 100000) (hR : wn_Res V b sh p fnd bs a11) : wn_Res V b sh q fnd bs a11 :=
  wn_Res_skip hpq (fun k x y => ⟨fun _ => by rw [h k x y]; omega, fun _ => by rw [h k x y]; exact wn_bst_max V p⟩) hR
section
variable {n fl b sh l s Lm : Nat} {X Y o w lo hi V A : Nat → Nat} {fnd bs lim : Int32} {a7 a8 a9 a10 a11 : Nat → Int32}
theorem wn_V_two (hcx : wn_cx n X Y fl o w a7 lo hi V) (k : Nat) : V k < 50000 ∨ V k = 100000 := by
  by_cases h : wn_cs lo hi k
  · rw [hcx.2.2.2.1 k h]
    exact wn_sat_two _
  · rw [hcx.2.2.2.2 k h]
    exact Or.inr rfl
theorem wn_prune (hcx : wn_cx n X Y fl o w a7 lo hi V) (hl : l < 6) (hA : ∀ v, v < l + 1 → A v < 3) (hL : Lm ≤ 50000)
    (hat : Lm ≤ wn_sat (wn_S n X Y fl o w A (l + 1) + wn_ah n X Y o w A lo hi (l + 1) 6)) {k : Nat} (h1 : wn_ps A (l + 1) ≤ k) (h2 : k < wn_ps A (l + 1) + wn_pw l) : Lm ≤ V k := by
  have hd := wn_dgs1 hl hA h1 h2
  by_cases h : wn_cs lo hi k
  · rw [hcx.2.2.2.1 k h]
    have e : wn_S n X Y fl o w A (l + 1) = wn_S n X Y fl o w (wn_dg k) (l + 1) := wn_S_cong (fun j hj => (hd j hj).symm)
    have hb := wn_lb (lo := lo) (hi := hi) (X := X) (Y := Y) (A := A) (B := wn_dg k) hcx.1 hcx.2.1.1 (fun j hj => (hd j hj).symm) (fun v hv => ⟨wn_dg_lt k v, h v hv⟩) (show l + 1 ≤ 6 by omega) (Nat.le_refl 6)
    rw [← e] at hb
    exact Nat.le_trans hat (wn_sat_mono hb)
  · rw [hcx.2.2.2.2 k h]
    omega
def wn_pre (n : Nat) (X Y : Nat → Nat) (fl : Nat) (o w lo hi A : Nat → Nat) (l : Nat) (a8 a9 a10 : Nat → Int32) : Prop :=
  (∀ v, v < l → a8 v = nI (A v) ∧ A v < 3 ∧ lo v ≤ A v ∧ A v ≤ hi v ∧ a10 v = nI (A v + 1)) ∧ (∀ v, v ≤ l → a9 v = nI (wn_sat (wn_S n X Y fl o w A v)))
def wn_run (n : Nat) (X Y : Nat → Nat) (fl : Nat) (o w lo hi V : Nat → Nat) (b sh s : Nat) (x3 fnd bs : Int32) (a8 a9 a10 a11 : Nat → Int32) : Prop :=
  ∃ (l : Nat) (A : Nat → Nat) (nx : Nat), l < 6 ∧ x3 = nI l ∧ s + wn_ph A l nx ≤ 1456 ∧ wn_pre n X Y fl o w lo hi A l a8 a9 a10 ∧ a10 l = nI nx ∧ lo l ≤ nx ∧ nx ≤ hi l + 1 ∧
    wn_Res V b sh (wn_ps A l + nx * wn_pw l) fnd bs a11
theorem wn_run_stay (hl : l < 6) (hp : wn_pre n X Y fl o w lo hi A (l + 1) a8 a9 a10) (hs : s + wn_ph A l (A l) ≤ 1456)
    (hR : wn_Res V b sh (wn_ps A (l + 1) + wn_pw l) fnd bs a11) : wn_run n X Y fl o w lo hi V b sh (s + 1) (nI l) fnd bs a8 a9 a10 a11 := by
  obtain ⟨h1, h2⟩ := hp
  obtain ⟨q1, q2, q3, q4, q5⟩ := h1 l (by omega)
  have g := wn_ph_stay (A := A) (l := l) (nx := A l) (by omega)
  refine ⟨l, A, A l + 1, hl, rfl, by omega, ⟨fun v hv => h1 v (by omega), fun v hv => h2 v (by omega)⟩, q5, by omega, by omega, ?_⟩
  rw [show wn_ps A l + (A l + 1) * wn_pw l = wn_ps A (l + 1) + wn_pw l from by rw [Nat.succ_mul, ← Nat.add_assoc]; rfl]
  exact hR
theorem wn_s146 {post : St1 → Prop} {J : Int32 → Int32 → Int32 → Int32 → Int32 → Int32 → Int32 → (Nat → Int32) → (Nat → Int32) → (Nat → Int32) → (Nat → Int32) → (Nat → Int32) → (Nat → Int32) → (Nat → Int32) → (Nat → Int32) → (Nat → Int32) → (Nat → Int32) → (Nat → Int32) → Prop}
    {x1 x2 : Int32} {c1 c4 : Nat → Int32} (hcx : wn_cx n X Y fl o w a7 lo hi V) (hb : b ≤ 49999) (hl : l < 6) (hp : wn_pre n X Y fl o w lo hi A (l + 1) a8 a9 a10) (hs : s + wn_ph A l (A l) ≤ 1456)
    (hR : wn_Res V b sh (wn_ps A (l + 1)) fnd bs a11) (hlim : ∀ r, r ≤ 100000 → (nI r ≤ lim ↔ r < Lm)) (hLm : Lm ≤ 50000)
    (hL0 : sh = 0 → Lm = b + 1) (hL1 : sh ≠ 0 → Lm = wn_bst V (wn_ps A (l + 1)) ∨ (Lm = 50000 ∧ 50000 ≤ wn_bst V (wn_ps A (l + 1))))
    (hJ : ∀ x3 fnd bs a8 a9 a10 a11, wn_run n X Y fl o w lo hi V b sh (s + 1) x3 fnd bs a8 a9 a10 a11 → J x3 (nI (s + 1)) (nI n) 1 (nI fl) fnd bs c1 (wn_nf X) (wn_nf Y) c4 (wn_nf o) (wn_nf w) a7 a8 a9 a10 a11) :
    wX_search_146 post J x1 x2 (nI s) lim (nI l) (nI n) 1 (nI fl) fnd bs c1 (wn_nf X) (wn_nf Y) c4 (wn_nf o) (wn_nf w) a7 a8 a9 a10 a11 := by
  obtain ⟨hbd, hxy, hfx, hV1, hV2⟩ := id hcx
  obtain ⟨h1, h2⟩ := id hp
  have hA3 : ∀ v, v < l + 1 → A v < 3 := fun v hv => (h1 v hv).2.1
  have hb100 : b < 100000 := by omega
  refine wn_dsc hbd hxy hl hfx (fun j hj => ⟨(h1 j hj).1, hA3 j hj⟩) (wn_S_ok hbd hxy.1 (by omega) hA3) (h2 (l + 1) (Nat.le_refl _)) hlim hLm (fun hat => ?_) (fun hlt e hle => ?_) (fun hlt e hle a11' h11 => ?_) (fun h5 => ?_)
  · refine nm_r (nI_1 s) (hJ _ _ _ _ _ _ _ (wn_run_stay hl hp hs (wn_Res_skip (Nat.le_add_right _ _) (fun k k1 k2 => ?_) hR)))
    have hk := wn_prune hcx hl hA3 hLm hat k1 k2
    have hm := wn_bst_max V (wn_ps A (l + 1))
    have ht := wn_V_two hcx k
    exact ⟨fun e => by have := hL0 e; omega, fun e => by have := hL1 e; omega⟩
  · subst e
    have hd := wn_dgs1 (k := wn_ps A 6) hl hA3 (Nat.le_refl _) (Nat.lt_succ_self _)
    have hVk : V (wn_ps A 6) = wn_sat (wn_S n X Y fl o w A 6) := by
      rw [hV1 _ (fun v hv => by rw [hd v hv]; exact ⟨(h1 v hv).2.2.1, (h1 v hv).2.2.2.1⟩), wn_S_cong (fun j hj => hd j hj)]
    have hm := wn_bst_max V (wn_ps A 6)
    have hsm := wn_sat_le (wn_S n X Y fl o w A 6)
    have hlt' : wn_sat (wn_S n X Y fl o w A 6) < Lm := hlt
    have hL1' : sh ≠ 0 → Lm = wn_bst V (wn_ps A 6) ∨ (Lm = 50000 ∧ 50000 ≤ wn_bst V (wn_ps A 6)) := hL1
    have hR' : wn_Res V b sh (wn_ps A 6) fnd bs a11 := hR
    refine nm_r (nI_1 s) (hJ _ _ _ _ _ _ _ (wn_run_stay hl hp hs ⟨fun e => ?_, fun e => ?_⟩))
    · show fnd + 1 = nI (wn_cnt V b (wn_ps A 6) + (if V (wn_ps A 6) ≤ b then 1 else 0))
      rw [if_pos (by have := hL0 e; omega), hR'.1 e, nI_1]
    · have hle' : bs ≤ nI (wn_sat (wn_S n X Y fl o w A 6)) := hle
      rw [(hR'.2 e).1] at hle'
      have := (nI_leI (by omega) (by omega)).mp hle'
      have := hL1' e
      exact absurd hlt' (by omega)
  · subst e
    have hd := wn_dgs1 (k := wn_ps A 6) hl hA3 (Nat.le_refl _) (Nat.lt_succ_self _)
    have hVk : V (wn_ps A 6) = wn_sat (wn_S n X Y fl o w A 6) := by
      rw [hV1 _ (fun v hv => by rw [hd v hv]; exact ⟨(h1 v hv).2.2.1, (h1 v hv).2.2.2.1⟩), wn_S_cong (fun j hj => hd j hj)]
    have hm := wn_bst_max V (wn_ps A 6)
    have hsm := wn_sat_le (wn_S n X Y fl o w A 6)
    have hlt' : wn_sat (wn_S n X Y fl o w A 6) < Lm := hlt
    have hL1' : sh ≠ 0 → Lm = wn_bst V (wn_ps A 6) ∨ (Lm = 50000 ∧ 50000 ≤ wn_bst V (wn_ps A 6)) := hL1
    have hR' : wn_Res V b sh (wn_ps A 6) fnd bs a11 := hR
    refine nm_r (nI_1 s) (hJ _ _ _ _ _ _ _ (wn_run_stay hl hp hs ⟨fun e => ?_, fun e => ?_⟩))
    · show fnd + 1 = nI (wn_cnt V b (wn_ps A 6) + (if V (wn_ps A 6) ≤ b then 1 else 0))
      rw [if_pos (by have := hL0 e; omega), hR'.1 e, nI_1]
    · have hlt2 : V (wn_ps A 6) < wn_bst V (wn_ps A 6) := by have := hL1' e; omega
      show nI (wn_sat (wn_S n X Y fl o w A 6)) = nI (if V (wn_ps A 6) < wn_bst V (wn_ps A 6) then V (wn_ps A 6) else wn_bst V (wn_ps A 6)) ∧ (_ → ∀ v, v < 6 → a11' v = nI (wn_dg (if V (wn_ps A 6) < wn_bst V (wn_ps A 6) then wn_ps A 6 else wn_arg V (wn_ps A 6)) v))
      rw [if_pos hlt2, if_pos hlt2, hVk]
      refine ⟨rfl, fun _ v hv => ?_⟩
      rw [h11 v hv, (h1 v hv).1, hd v hv]
  · obtain ⟨q1, q2, q3, q4, q5⟩ := h1 l (by omega)
    have hlh := wn_fx_hi hfx (show l + 1 < 6 by omega)
    have g := wn_ph_down (A := A) (lo' := lo (l + 1)) h5 (by omega)
    refine nm_r (nI_1 s) (hJ _ _ _ _ _ _ _ ⟨l + 1, A, lo (l + 1), by omega, rfl, by omega, ⟨fun v hv => ?_, h2⟩, pk_us, Nat.le_refl _, by omega, ?_⟩)
    · rw [pk_un (show v ≠ l + 1 by omega)]
      exact h1 v hv
    · exact wn_Res_out hb (Nat.le_add_right _ _) (fun k k1 k2 => hV2 k (wn_skip_lo (by omega) hA3 (by omega) k1 k2)) hR
theorem wn_lim0 {b r : Nat} (hb : b ≤ 49999) (hr : r ≤ 100000) : nI r ≤ nI b ↔ r < b + 1 := by
  rw [nI_leI (by omega) (by omega)]
  omega
theorem wn_lim1 {m r : Nat} (hm : m ≤ 100000) (hr : r ≤ 100000) : nI r ≤ nI m - 1 ↔ r < m := by
  rcases m with _ | m
  · constructor
    · intro h
      have e : (nI 0 - 1 : Int32) = -1 := by decide
      rw [e, Int32.le_iff_toInt_le, nI_toInt (by omega)] at h
      have e1 : (-1 : Int32).toInt = -1 := by decide
      rw [e1] at h
      omega
    · intro h
      omega
  · rw [nI_pred, nI_leI (by omega) (by omega)]
    omega
end
section
variable {post : St1 → Prop} {n fl b sh : Nat} {X Y o w lo hi V : Nat → Nat} {a7 c1 c4 : Nat → Int32}
theorem wn_s35 (hcx : wn_cx n X Y fl o w a7 lo hi V) (hb : b ≤ 49999) (hsh : sh < 2) (hsb : sh ≠ 0 → b = 49999)
    (H : ∀ fnd bs a8 a9 a10 a11, wn_Res V b sh 729 fnd bs a11 → post (nI n, 1, nI fl, fnd, bs, c1, wn_nf X, wn_nf Y, c4, wn_nf o, wn_nf w, a7, a8, a9, a10, a11))
    {x3 x4 fnd bs : Int32} {a8 a9 a10 a11 : Nat → Int32}
    (h0 : ∃ s, x4 = nI s ∧ s ≤ 1456 ∧ (wn_run n X Y fl o w lo hi V b sh s x3 fnd bs a8 a9 a10 a11 ∨ (x3 = -1 ∧ wn_Res V b sh 729 fnd bs a11))) :
    ∃ k, wX_search_35 post (nI b) (nI sh) k x3 x4 (nI n) 1 (nI fl) fnd bs c1 (wn_nf X) (wn_nf Y) c4 (wn_nf o) (wn_nf w) a7 a8 a9 a10 a11 := by
  obtain ⟨hbd, hxy, hfx, hV1, hV2⟩ := id hcx
  refine lp8 (fun k x3 x4 fnd bs a8 a9 a10 a11 => wX_search_35 post (nI b) (nI sh) k x3 x4 (nI n) 1 (nI fl) fnd bs c1 (wn_nf X) (wn_nf Y) c4 (wn_nf o) (wn_nf w) a7 a8 a9 a10 a11)
    (fun x3 x4 fnd bs a8 a9 a10 a11 => ∃ s, x4 = nI s ∧ s ≤ 1456 ∧ (wn_run n X Y fl o w lo hi V b sh s x3 fnd bs a8 a9 a10 a11 ∨ (x3 = -1 ∧ wn_Res V b sh 729 fnd bs a11)))
    (fun _ x4 _ _ _ _ _ _ => 3000 - x4.toNatClampNeg) ?_ x3 x4 fnd bs a8 a9 a10 a11 h0
  clear h0 x3 x4 fnd bs a8 a9 a10 a11
  rintro k x3 x4 fnd bs a8 a9 a10 a11 ⟨s, rfl, hs, hrun | ⟨rfl, hR⟩⟩ hk
  · obtain ⟨l, A, nx, hl, rfl, hph, hp, h10, hlo, hhi, hR⟩ := hrun
    obtain ⟨h1, h9⟩ := id hp
    have hph1 : 1 ≤ wn_ph A l nx := by unfold wn_ph; omega
    have hlh := wn_fx_hi hfx hl
    have mu : 3000 - (nI (s + 1)).toNatClampNeg < 3000 - (nI s).toNatClampNeg := by
      rw [nI_clamp (by omega), nI_clamp (by omega)]
      omega
    refine pk_le 3000 s (fun z => absurd z (by omega)) (fun _ => br_f (nI_pos (by omega)) ⟨pk_in l 6 hl, wn_lst hl hfx (pk_le nx (hi l) (fun z => ?_) (fun z => ?_) (wn_rdA l rfl (by omega) h10) rfl)⟩)
    · have hpre : wn_pre n X Y fl o w lo hi (wn_up A l nx) (l + 1) (upd a8 l (nI nx)) (upd a9 (l + 1) (nI (wn_sat (wn_S n X Y fl o w (wn_up A l nx) (l + 1))))) (upd a10 l (nI (nx + 1))) := by
        refine ⟨fun v hv => ?_, fun v hv => ?_⟩
        · by_cases e : v = l
          · rw [e, pk_us, pk_us, wn_ups]
            exact ⟨rfl, by omega, hlo, z, rfl⟩
          · rw [pk_un e, pk_un e, wn_upn e]
            exact h1 v (by omega)
        · by_cases e : v = l + 1
          · rw [e, pk_us]
          · rw [pk_un e, h9 v (by omega), wn_S_cong (fun j hj => (wn_upn (show j ≠ l by omega)).symm)]
      have hps : wn_ps (wn_up A l nx) (l + 1) = wn_ps A l + nx * wn_pw l := by
        rw [wn_ps_s, wn_ups, wn_ps_cong (fun v hv => wn_upn (show v ≠ l by omega))]
      have hS : wn_S n X Y fl o w (wn_up A l nx) (l + 1) = wn_S n X Y fl o w A l + wn_wt n X Y o w A l nx l := by
        rw [wn_S_succ, wn_ups, wn_S_cong (fun j hj => wn_upn (show j ≠ l by omega)), wn_wt_cong (fun j hj => wn_upn (show j ≠ l by omega))]
      have hph' : s + wn_ph (wn_up A l nx) l (wn_up A l nx l) ≤ 1456 := by
        rw [wn_ups, wn_ph_cong (fun v hv => wn_upn (show v ≠ l by omega))]
        exact hph
      rw [← hps] at hR
      have hA3 : ∀ j, j < l → A j < 3 := fun j hj => (h1 j hj).2.1
      have g1 := wn_sat_le (wn_S n X Y fl o w A l)
      have g2 := wn_sat_le (wn_wt n X Y o w A l nx l)
      have main : ∀ lim Lm, (∀ r, r ≤ 100000 → (nI r ≤ lim ↔ r < Lm)) → Lm ≤ 50000 → (sh = 0 → Lm = b + 1) → (sh ≠ 0 → Lm = wn_bst V (wn_ps (wn_up A l nx) (l + 1)) ∨ (Lm = 50000 ∧ 50000 ≤ wn_bst V (wn_ps (wn_up A l nx) (l + 1)))) →
          wX_search_146 post (wX_search_35 post (nI b) (nI sh) k) (nI b) (nI sh) (nI s) lim (nI l) (nI n) 1 (nI fl) fnd bs c1 (wn_nf X) (wn_nf Y) c4 (wn_nf o) (wn_nf w) a7 (upd a8 l (nI nx)) (upd a9 (l + 1) (nI (wn_sat (wn_S n X Y fl o w (wn_up A l nx) (l + 1))))) (upd a10 l (nI (nx + 1))) a11 := by
        intro lim Lm m1 m2 m3 m4
        refine wn_s146 hcx hb hl hpre hph' hR m1 m2 m3 m4 (fun x3' fnd' bs' a8' a9' a10' a11' hr => ?_)
        refine hk x3' (nI (s + 1)) fnd' bs' a8' a9' a10' a11' ⟨s + 1, rfl, ?_, Or.inl hr⟩ mu
        obtain ⟨_, _, _, _, _, q, _⟩ := hr
        omega
      refine ⟨pk_in l 6 hl, pk_in l 6 hl, nm_r (e' := upd a8 l (nI nx)) (by rw [nI_clamp (by omega), h10]) ⟨pk_in l 6 hl, pk_in l 6 hl, nm_r (e' := upd a10 l (nI (nx + 1))) (by rw [nI_clamp (by omega), h10, nI_1]) ⟨pk_in l 6 hl, ?_⟩⟩⟩
      have e8 : upd a8 l (nI nx) (nI l).toNatClampNeg = nI nx := wn_rdA l rfl (by omega) pk_us
      rw [e8]
      refine wn_wT (A := A) hbd hxy hl (by omega) (by omega) (fun j hj => ⟨by rw [pk_un (show j ≠ l by omega)]; exact (h1 j hj).1, hA3 j hj⟩) ⟨pk_in l 7 (by omega), ?_⟩
      refine wn_wmore (wn_sat (wn_S n X Y fl o w A l)) (wn_sat (wn_wt n X Y o w A l nx l)) (wn_rdA l rfl (by omega) (h9 l (Nat.le_refl _))) rfl (by omega) (by omega) ?_
      rw [wn_more_sat (wn_S_ok hbd hxy.1 (by omega) hA3) (wn_wt_ok hbd hxy.1 (by omega) hl hA3) (by omega), ← hS]
      refine ⟨pk_in (l + 1) 7 (by omega) (nI_1 l), nm_r (e' := upd a9 (l + 1) (nI (wn_sat (wn_S n X Y fl o w (wn_up A l nx) (l + 1))))) (by rw [nI_1, nI_clamp (by omega)]) ?_⟩
      refine pk_eq sh 0 (fun y => main (nI b) (b + 1) (fun r hr => wn_lim0 hb hr) (by omega) (fun _ => rfl) (fun y2 => absurd y y2)) (fun y => ?_)
      have hbs := (hR.2 y).1
      have hbm := wn_bst_max V (wn_ps (wn_up A l nx) (l + 1))
      have hbb := hsb y
      refine pk_lt b (wn_bst V (wn_ps (wn_up A l nx) (l + 1))) (fun q => ?_) (fun q => ?_) rfl hbs
      · exact main (nI b) (b + 1) (fun r hr => wn_lim0 hb hr) (by omega) (fun _ => rfl) (fun _ => Or.inr ⟨by omega, by omega⟩)
      · refine main (bs - 1) (wn_bst V (wn_ps (wn_up A l nx) (l + 1))) (fun r hr => ?_) (by omega) (fun y2 => absurd y2 y) (fun _ => Or.inl rfl)
        rw [hbs]
        exact wn_lim1 hbm hr
    · have hA3 : ∀ j, j < l → A j < 3 := fun j hj => (h1 j hj).2.1
      have hR' : wn_Res V b sh (wn_ps A l + 3 * wn_pw l) fnd bs a11 := by
        refine wn_Res_out hb ?_ (fun q q1 q2 => hV2 q (wn_skip_hi hl hA3 z q1 q2)) hR
        exact Nat.add_le_add_left (Nat.mul_le_mul_right _ (by omega)) _
      rcases l with _ | l
      · exact nm_r (e' := -1) (by decide) (nm_r (nI_1 s) (hk _ _ _ _ _ _ _ _ ⟨s + 1, rfl, by omega, Or.inr ⟨rfl, hR'⟩⟩ mu))
      · obtain ⟨q1, q2, q3, q4, q5⟩ := h1 l (by omega)
        have g := wn_ph_leave (A := A) (l := l) (nx := nx)
        refine nm_r (pk_m1 l) (nm_r (nI_1 s) (hk _ _ _ _ _ _ _ _ ⟨s + 1, rfl, by omega, Or.inl ⟨l, A, A l + 1, by omega, rfl, by omega, ⟨fun v hv => h1 v (by omega), fun v hv => h9 v (by omega)⟩, q5, by omega, by omega, ?_⟩⟩ mu))
        rw [Nat.succ_mul, ← Nat.add_assoc, wn_pw_s (show l < 5 by omega), ← wn_pw_s (show l < 5 by omega)]
        rw [← wn_pw_s (show l < 5 by omega)] at hR'
        exact hR'
  · exact pk_le 3000 s (fun _ => H _ _ _ _ _ _ hR) (fun _ => br_t (by decide) (H _ _ _ _ _ _ hR))
end
end
section
/-! the questions and the changes, over any state that holds the picture -/
noncomputable def wn_V (n : Nat) (C X Y P lo hi : Nat → Nat) (k : Nat) : Nat := @ite Nat (wn_cs lo hi k) (Classical.propDecidable _) (wn_sat (wn_R n C X Y P (wn_dg k))) 100000
/-- what assignment k costs -/
def wn_U (n : Nat) (C X Y P : Nat → Nat) (k : Nat) : Nat := wn_sat (wn_R n C X Y P (wn_dg k))
def wn_li (L : Nat) : Int32 := if L < 50000 then nI L else -6
def wn_St (n : Nat) (C X Y P : Nat → Nat) (u : St1) : Prop :=
  ∃ (rdy flr fnd bs : Int32) (a5 a6 a7 a8 a9 a10 a11 : Nat → Int32), u = (nI n, rdy, flr, fnd, bs, wn_nf C, wn_nf X, wn_nf Y, wn_nf P, a5, a6, a7, a8, a9, a10, a11) ∧ wn_rd_ok n C X Y P rdy flr a5 a6
theorem wn_li_ne {L : Nat} (h : L < 50000) : ¬ wn_li L = -6 := by
  unfold wn_li
  rw [if_pos h]
  intro e
  have e2 := congrArg Int32.toInt e
  rw [nI_toInt (by omega)] at e2
  have e3 : (-6 : Int32).toInt = -6 := by decide
  omega
theorem wn_li_lo {L : Nat} (h : L < 50000) : wn_li L = nI L := if_pos h
theorem wn_li_hi {L : Nat} (h : 50000 ≤ L) : wn_li L = -6 := if_neg (by omega)
section
variable {n b sh v a c t q : Nat} {C X Y P lo hi : Nat → Nat} {rdy flr fnd bs : Int32} {a5 a6 a7 a8 a9 a10 a11 : Nat → Int32} {u : St1}
theorem wn_srch {post : St1 → Prop} (hN : wn_N n C X Y P) (hr : wn_rd_ok n C X Y P rdy flr a5 a6) (hfx : wn_fx a7 lo hi) (hb : b ≤ 49999) (hsh : sh < 2) (hsb : sh ≠ 0 → b = 49999)
    (H : ∀ fl o w fnd bs a8 a9 a10 a11, wn_Pd n C X Y P fl o w → wn_Res (wn_V n C X Y P lo hi) b sh 729 fnd bs a11 → post (nI n, 1, nI fl, fnd, bs, wn_nf C, wn_nf X, wn_nf Y, wn_nf P, wn_nf o, wn_nf w, a7, a8, a9, a10, a11)) :
    wpX_search post (nI n, rdy, flr, fnd, bs, wn_nf C, wn_nf X, wn_nf Y, wn_nf P, a5, a6, a7, a8, a9, a10, a11) (nI b) (nI sh) := by
  refine wn_prep hN hr (fun fl o w hPd => nm_e ?_)
  refine wn_opn (l := 0) (by omega) hfx ?_
  have hcx : wn_cx n X Y fl o w a7 lo hi (wn_V n C X Y P lo hi) := by
    refine ⟨hPd.1, hN.1, hfx, fun k hk => ?_, fun k hk => ?_⟩
    · unfold wn_V
      rw [if_pos hk, wn_S6 hN.1, hPd.2 _ (fun v _ => wn_dg_lt k v)]
    · unfold wn_V
      rw [if_neg hk]
  have hlh := wn_fx_hi hfx (show 0 < 6 by omega)
  have hph : wn_ph (fun _ => 0) 0 (lo 0) ≤ 1456 := wn_ph_0
  refine wn_s35 hcx hb hsh hsb (fun fnd bs a8 a9 a10 a11 hR => H fl o w fnd bs a8 a9 a10 a11 hPd hR) ⟨0, rfl, by omega, Or.inl ⟨0, fun _ => 0, lo 0, by omega, rfl, by omega, ⟨fun v hv => absurd hv (by omega), fun v hv => ?_⟩, pk_us, Nat.le_refl _, by omega, ?_⟩⟩
  · rw [show v = 0 by omega, pk_us]
    show nI fl = nI (wn_sat (fl + 0))
    rw [Nat.add_zero, wn_sat_e hPd.1.1 (by omega)]
  · refine wn_Res_out (p := 0) hb (Nat.zero_le _) (fun k _ k2 => hcx.2.2.2.2 k (wn_skip_lo (A := fun _ => 0) (l := 0) (by omega) (fun v hv => absurd hv (by omega)) (by omega) (Nat.zero_le _) k2)) ⟨fun _ => rfl, fun _ => ⟨rfl, fun z => absurd z (show ¬ (100000 < 50000) by decide)⟩⟩
theorem wn_fa {post : St1 → Prop} {tb : Int32} {a1 a2 a3 a4 : Nat → Int32} (H : ∀ a7', (∀ v, v < 6 → a7' v = -1) → post (tb, rdy, flr, fnd, bs, a1, a2, a3, a4, a5, a6, a7', a8, a9, a10, a11)) :
    wpX_freeAll post (tb, rdy, flr, fnd, bs, a1, a2, a3, a4, a5, a6, a7, a8, a9, a10, a11) := by
  refine pk_loop (fun k i s => wX_freeAll_2 post tb rdy flr fnd bs k (nI i) a1 a2 a3 a4 a5 a6 s a8 a9 a10 a11) (fun i s => ∀ v, v < i → s v = -1) 6 0 a7 (by omega) (fun v hv => absurd hv (by omega)) ?_ ?_
  · intro k s h
    exact pk_le 6 6 (fun _ => H s h) (fun z => absurd z (by omega))
  · intro k i s hi h hk
    refine pk_le 6 i (fun z => absurd z (by omega)) (fun _ => ⟨pk_in i 6 hi, nm_r (e' := upd s i (-1)) (by rw [nI_clamp (by omega)]) (nm_r (nI_1 i) (hk _ (fun v hv => ?_)))⟩)
    by_cases e : v = i
    · rw [e, pk_us]
    · rw [pk_un e]
      exact h v (by omega)
theorem wn_fx0 {f : Nat → Int32} (h : ∀ v, v < 6 → f v = -1) : wn_fx f (fun _ => 0) (fun _ => 2) := fun v hv => Or.inl ⟨h v hv, rfl, rfl⟩
theorem wn_fx1 {f : Nat → Int32} (h : ∀ v, v < 6 → f v = -1) (ha : a < 3) : wn_fx (upd f v (nI a)) (wn_up (fun _ => 0) v a) (wn_up (fun _ => 2) v a) := by
  intro j hj
  by_cases e : j = v
  · rw [e, pk_us, wn_ups, wn_ups]
    exact Or.inr ⟨a, ha, rfl, rfl, rfl⟩
  · rw [pk_un e, wn_upn e, wn_upn e]
    exact Or.inl ⟨h j hj, rfl, rfl⟩
theorem wn_V0 : wn_V n C X Y P (fun _ => 0) (fun _ => 2) = wn_U n C X Y P := by
  funext k
  unfold wn_V wn_U
  exact if_pos (fun v _ => ⟨Nat.zero_le _, Nat.le_of_lt_succ (wn_dg_lt k v)⟩)
theorem wn_V1 (hv : v < 6) : wn_V n C X Y P (wn_up (fun _ => 0) v a) (wn_up (fun _ => 2) v a) = fun k => if wn_dg k v = a then wn_U n C X Y P k else 100000 := by
  funext k
  unfold wn_V wn_U
  by_cases e : wn_dg k v = a
  · rw [if_pos e, if_pos]
    intro j hj
    by_cases ej : j = v
    · rw [ej, wn_ups, wn_ups]
      omega
    · rw [wn_upn ej, wn_upn ej]
      have := wn_dg_lt k j
      omega
  · rw [if_neg e, if_neg]
    intro h
    have := h v hv
    rw [wn_ups, wn_ups] at this
    omega
theorem wn_lc {post : Int32 → St1 → Prop} (hN : wn_N n C X Y P) (hr : wn_rd_ok n C X Y P rdy flr a5 a6) (hfx : wn_fx a7 lo hi)
    (H : ∀ fl o w fnd bs a8 a9 a10 a11, wn_Pd n C X Y P fl o w → (wn_bst (wn_V n C X Y P lo hi) 729 < 50000 → ∀ v, v < 6 → a11 v = nI (wn_dg (wn_arg (wn_V n C X Y P lo hi) 729) v)) → post (wn_li (wn_bst (wn_V n C X Y P lo hi) 729)) (nI n, 1, nI fl, fnd, bs, wn_nf C, wn_nf X, wn_nf Y, wn_nf P, wn_nf o, wn_nf w, a7, a8, a9, a10, a11)) :
    wpX_leastCost post (nI n, rdy, flr, fnd, bs, wn_nf C, wn_nf X, wn_nf Y, wn_nf P, a5, a6, a7, a8, a9, a10, a11) := by
  refine wn_srch (b := 49999) (sh := 1) hN hr hfx (by omega) (by omega) (fun _ => rfl) (fun fl o w fnd bs a8 a9 a10 a11 hPd hR => ?_)
  obtain ⟨h1, h2⟩ := hR.2 (by decide)
  have hm := wn_bst_max (wn_V n C X Y P lo hi) 729
  have h := H fl o w fnd bs a8 a9 a10 a11 hPd h2
  refine pk_lt (wn_bst (wn_V n C X Y P lo hi) 729) 50000 (fun z => ?_) (fun z => ?_) h1
  · rw [wn_li_lo z, ← h1] at h
    exact h
  · rw [wn_li_hi z] at h
    exact h
theorem wn_cu {post : Int32 → St1 → Prop} (hN : wn_N n C X Y P) (hr : wn_rd_ok n C X Y P rdy flr a5 a6) (hfx : wn_fx a7 lo hi) (hb : b ≤ 49999)
    (H : ∀ u', wn_St n C X Y P u' → post (nI (wn_cnt (wn_V n C X Y P lo hi) b 729)) u') :
    wpX_countUpTo post (nI n, rdy, flr, fnd, bs, wn_nf C, wn_nf X, wn_nf Y, wn_nf P, a5, a6, a7, a8, a9, a10, a11) (nI b) := by
  refine wn_srch (sh := 0) hN hr hfx hb (by omega) (fun z => absurd rfl z) (fun fl o w fnd bs a8 a9 a10 a11 hPd hR => ?_)
  have h1 := hR.1 rfl
  subst h1
  exact H _ ⟨_, _, _, _, _, _, _, _, _, _, _, rfl, Or.inr ⟨rfl, fl, o, w, rfl, rfl, rfl, hPd⟩⟩
theorem wn_bad {post : Int32 → Prop} {u : St2} (hv : v < 6) (h : post 0) : wpX_badVariable post u (nI v) :=
  br_f (nI_pos (by omega)) (br_t (nI_lt (b := 6) hv (by omega)) h)
theorem wn_badc {post : Int32 → Prop} {u : St2} (hc : c ≤ 20) (h : post 0) : wpX_badCost post u (nI c) :=
  br_f (nI_pos (by omega)) (br_t (nI_le (b := 20) hc (by omega)) h)
theorem wn_least {post : Int32 → St1 → Prop} (hN : wn_N n C X Y P) (hu : wn_St n C X Y P u) (H : ∀ u', wn_St n C X Y P u' → post (wn_li (wn_bst (wn_U n C X Y P) 729)) u') : wpX_least post u := by
  obtain ⟨rdy, flr, fnd, bs, a5, a6, a7, a8, a9, a10, a11, rfl, hr⟩ := hu
  refine wn_fa (fun a7' h7 => wn_lc hN hr (wn_fx0 h7) (fun fl o w fnd bs a8 a9 a10 a11 hPd h => ?_))
  rw [wn_V0]
  exact H _ ⟨_, _, _, _, _, _, _, _, _, _, _, rfl, Or.inr ⟨rfl, fl, o, w, rfl, rfl, rfl, hPd⟩⟩
theorem wn_allowed {post : Int32 → St1 → Prop} (hN : wn_N n C X Y P) (hu : wn_St n C X Y P u) (H : ∀ u', wn_St n C X Y P u' → post (nI (wn_cnt (wn_U n C X Y P) 49999 729)) u') : wpX_allowed post u := by
  obtain ⟨rdy, flr, fnd, bs, a5, a6, a7, a8, a9, a10, a11, rfl, hr⟩ := hu
  refine wn_fa (fun a7' h7 => wn_cu (b := 49999) hN hr (wn_fx0 h7) (by omega) ?_)
  rw [wn_V0]
  intro u' hu'
  obtain ⟨_, _, _, _, _, _, _, _, _, _, _, rfl, _⟩ := id hu'
  exact H _ hu'
theorem wn_leastWith {post : Int32 → St1 → Prop} (hN : wn_N n C X Y P) (hu : wn_St n C X Y P u) (hv : v < 6) (ha : a < 3)
    (H : ∀ u', wn_St n C X Y P u' → post (wn_li (wn_bst (fun k => if wn_dg k v = a then wn_U n C X Y P k else 100000) 729)) u') : wpX_leastWith post u (nI v) (nI a) := by
  obtain ⟨rdy, flr, fnd, bs, a5, a6, a7, a8, a9, a10, a11, rfl, hr⟩ := hu
  unfold wpX_leastWith
  refine wn_bad hv ?_
  refine br_t rfl (br_f (nI_pos (by omega)) (br_t (nI_lt (b := 3) ha (by omega)) ?_))
  refine wn_fa (fun a7' h7 => ⟨pk_in v 6 hv, nm_r (e' := upd a7' v (nI a)) (by rw [nI_clamp (by omega)]) ?_⟩)
  refine wn_lc hN hr (wn_fx1 h7 ha) (fun fl o w fnd bs a8 a9 a10 a11 hPd h => ?_)
  rw [wn_V1 hv]
  exact H _ ⟨_, _, _, _, _, _, _, _, _, _, _, rfl, Or.inr ⟨rfl, fl, o, w, rfl, rfl, rfl, hPd⟩⟩
theorem wn_upTo {post : Int32 → St1 → Prop} (hN : wn_N n C X Y P) (hu : wn_St n C X Y P u) (hb : b ≤ 49999)
    (H : ∀ u', wn_St n C X Y P u' → post (nI (wn_cnt (wn_U n C X Y P) b 729)) u') : wpX_upTo post u (nI b) := by
  obtain ⟨rdy, flr, fnd, bs, a5, a6, a7, a8, a9, a10, a11, rfl, hr⟩ := hu
  refine br_t (nI_pos' (by omega)) (wn_fa (fun a7' h7 => br_f (nI_ge (b := 50000) (by omega) (by omega)) (wn_cu hN hr (wn_fx0 h7) hb ?_)))
  rw [wn_V0]
  intro u' hu'
  obtain ⟨_, _, _, _, _, _, _, _, _, _, _, rfl, _⟩ := id hu'
  exact H _ hu'
theorem wn_upTo_neg {post : Int32 → St1 → Prop} {x : Int32} (hu : wn_St n C X Y P u) (hx : ¬ 0 ≤ x) (H : post 0 u) : wpX_upTo post u x := by
  obtain ⟨rdy, flr, fnd, bs, a5, a6, a7, a8, a9, a10, a11, rfl, hr⟩ := hu
  exact br_f hx H
theorem wn_ties {post : Int32 → St1 → Prop} (hN : wn_N n C X Y P) (hu : wn_St n C X Y P u)
    (H0 : 50000 ≤ wn_bst (wn_U n C X Y P) 729 → ∀ u', wn_St n C X Y P u' → post 0 u')
    (H1 : wn_bst (wn_U n C X Y P) 729 < 50000 → ∀ u', wn_St n C X Y P u' → post (nI (wn_cnt (wn_U n C X Y P) (wn_bst (wn_U n C X Y P) 729) 729)) u') : wpX_ties post u := by
  obtain ⟨rdy, flr, fnd, bs, a5, a6, a7, a8, a9, a10, a11, rfl, hr⟩ := hu
  refine wn_fa (fun a7' h7 => wn_lc hN hr (wn_fx0 h7) (fun fl o w fnd bs a8 a9 a10 a11 hPd h => ?_))
  rw [wn_V0]
  have hr' : wn_rd_ok n C X Y P 1 (nI fl) (wn_nf o) (wn_nf w) := Or.inr ⟨rfl, fl, o, w, rfl, rfl, rfl, hPd⟩
  rcases Nat.lt_or_ge (wn_bst (wn_U n C X Y P) 729) 50000 with z | z
  · refine br_f (wn_li_ne z) ?_
    rw [wn_li_lo z]
    refine wn_cu hN hr' (wn_fx0 h7) (by omega) ?_
    rw [wn_V0]
    intro u' hu'
    obtain ⟨_, _, _, _, _, _, _, _, _, _, _, rfl, _⟩ := id hu'
    exact H1 z _ hu'
  · exact br_t (wn_li_hi z) (H0 z _ ⟨_, _, _, _, _, _, _, _, _, _, _, rfl, hr'⟩)
theorem wn_value {post : Int32 → St1 → Prop} (hN : wn_N n C X Y P) (hu : wn_St n C X Y P u) (hv : v < 6)
    (H0 : 50000 ≤ wn_bst (wn_U n C X Y P) 729 → ∀ u', wn_St n C X Y P u' → post (-6) u')
    (H1 : wn_bst (wn_U n C X Y P) 729 < 50000 → ∀ u', wn_St n C X Y P u' → post (nI (wn_dg (wn_arg (wn_U n C X Y P) 729) v)) u') : wpX_value post u (nI v) := by
  obtain ⟨rdy, flr, fnd, bs, a5, a6, a7, a8, a9, a10, a11, rfl, hr⟩ := hu
  unfold wpX_value
  refine wn_bad hv ?_
  refine br_t rfl ?_
  refine wn_fa (fun a7' h7 => wn_lc hN hr (wn_fx0 h7) (fun fl o w fnd bs a8 a9 a10 a11 hPd h => ?_))
  rw [wn_V0] at h ⊢
  have hr' : wn_rd_ok n C X Y P 1 (nI fl) (wn_nf o) (wn_nf w) := Or.inr ⟨rfl, fl, o, w, rfl, rfl, rfl, hPd⟩
  rcases Nat.lt_or_ge (wn_bst (wn_U n C X Y P) 729) 50000 with z | z
  · refine br_f (wn_li_ne z) ⟨pk_in v 6 hv, ?_⟩
    rw [wn_rdA v rfl (by omega) (h z v hv)]
    exact H1 z _ ⟨_, _, _, _, _, _, _, _, _, _, _, rfl, hr'⟩
  · exact br_t (wn_li_hi z) (H0 z _ ⟨_, _, _, _, _, _, _, _, _, _, _, rfl, hr'⟩)
theorem wn_cost {post : Int32 → St1 → Prop} (hu : wn_St n C X Y P u) (hv : v < 6) (ha : a < 3) (hc : c ≤ 20)
    (H : ∀ u', wn_St n (wn_up C (v * 3 + a) c) X Y P u' → post (nI (C (v * 3 + a))) u') : wpX_cost post u (nI v) (nI a) (nI c) := by
  obtain ⟨rdy, flr, fnd, bs, a5, a6, a7, a8, a9, a10, a11, rfl, hr⟩ := hu
  have ei := wn_i3 v a
  unfold wpX_cost
  refine wn_bad hv ?_
  refine br_t rfl (br_f (nI_pos (by omega)) (br_t (nI_lt (b := 3) ha (by omega)) ?_))
  refine wn_badc hc ?_
  refine br_t rfl ⟨pk_in (v * 3 + a) 18 (by omega) ei, nm_r (wn_rd _ ei (by omega)) ⟨pk_in (v * 3 + a) 18 (by omega) ei, nm_r (wn_unf _ ei (by omega)) ?_⟩⟩
  exact H _ ⟨_, _, _, _, _, _, _, _, _, _, _, rfl, Or.inl rfl⟩
theorem wn_pair {post : Int32 → St1 → Prop} (hn : n ≤ 8) (hu : wn_St n C X Y P u) (ht : t < n) (hq : q < 9) (hc : c ≤ 20)
    (H : ∀ u', wn_St n C X Y (wn_up P (t * 9 + q) c) u' → post (nI (P (t * 9 + q))) u') : wpX_pair post u (nI t) (nI q) (nI c) := by
  obtain ⟨rdy, flr, fnd, bs, a5, a6, a7, a8, a9, a10, a11, rfl, hr⟩ := hu
  have ei := wn_i9 t q
  refine br_f (nI_pos (by omega)) (br_t (nI_lt ht (by omega)) (br_f (nI_pos (by omega)) (br_t (nI_le (b := 8) (by omega) (by omega)) ?_)))
  refine wn_badc hc ?_
  refine br_t rfl ⟨pk_in (t * 9 + q) 72 (by omega) ei, nm_r (wn_rd _ ei (by omega)) ⟨pk_in (t * 9 + q) 72 (by omega) ei, nm_r (wn_unf _ ei (by omega)) ?_⟩⟩
  exact H _ ⟨_, _, _, _, _, _, _, _, _, _, _, rfl, Or.inl rfl⟩
theorem wn_drop0 {post : Int32 → St1 → Prop} (hu : wn_St 0 C X Y P u) (H : post (-4) u) : wpX_drop post u := by
  obtain ⟨rdy, flr, fnd, bs, a5, a6, a7, a8, a9, a10, a11, rfl, hr⟩ := hu
  exact br_t rfl H
theorem wn_drop {post : Int32 → St1 → Prop} (hn : n < 8) (hu : wn_St (n + 1) C X Y P u) (H : ∀ u', wn_St n C X Y P u' → post (nI n) u') : wpX_drop post u := by
  obtain ⟨rdy, flr, fnd, bs, a5, a6, a7, a8, a9, a10, a11, rfl, hr⟩ := hu
  exact br_f (nI_ne0 (by omega) (by omega)) (nm_r (nI_pred n) (H _ ⟨_, _, _, _, _, _, _, _, _, _, _, rfl, Or.inl rfl⟩))
def wn_clr (n : Nat) (P P' : Nat → Nat) : Prop := (∀ j, n * 9 ≤ j → j < n * 9 + 9 → P' j = 0) ∧ (∀ j, j < n * 9 ∨ n * 9 + 9 ≤ j → P' j = P j)
theorem wn_table8 {post : Int32 → St1 → Prop} {p : Nat} (hu : wn_St 8 C X Y P u) (hp : p < 6) (hq : q < 6) (hpq : p ≠ q) (H : post (-5) u) : wpX_table post u (nI p) (nI q) := by
  obtain ⟨rdy, flr, fnd, bs, a5, a6, a7, a8, a9, a10, a11, rfl, hr⟩ := hu
  unfold wpX_table
  refine wn_bad hp ?_
  refine br_t rfl ?_
  refine wn_bad hq ?_
  exact br_t rfl (br_f (fun e => hpq ((nI_eq (by omega) (by omega)).mp e)) (br_f (by decide) H))
theorem wn_table {post : Int32 → St1 → Prop} {p : Nat} (hn : n < 8) (hu : wn_St n C X Y P u) (hp : p < 6) (hq : q < 6) (hpq : p ≠ q)
    (H : ∀ P' u', wn_clr n P P' → wn_St (n + 1) C (wn_up X n p) (wn_up Y n q) P' u' → post (nI n) u') : wpX_table post u (nI p) (nI q) := by
  obtain ⟨rdy, flr, fnd, bs, a5, a6, a7, a8, a9, a10, a11, rfl, hr⟩ := hu
  unfold wpX_table
  refine wn_bad hp ?_
  refine br_t rfl ?_
  refine wn_bad hq ?_
  refine br_t rfl (br_f (fun e => hpq ((nI_eq (by omega) (by omega)).mp e)) (br_t (nI_lt (b := 8) hn (by omega)) ⟨pk_in n 8 hn, nm_r (wn_unf n rfl (by omega)) ⟨pk_in n 8 hn, nm_r (wn_unf n rfl (by omega)) ?_⟩⟩))
  refine pk_loop (fun k i s => wX_table_55 post (nI n) rdy flr fnd bs k (nI i) (wn_nf C) (wn_nf (wn_up X n p)) (wn_nf (wn_up Y n q)) s a5 a6 a7 a8 a9 a10 a11)
    (fun i s => ∃ P', s = wn_nf P' ∧ (∀ j, n * 9 ≤ j → j < n * 9 + i → P' j = 0) ∧ (∀ j, j < n * 9 ∨ n * 9 + i ≤ j → P' j = P j)) 9 0 (wn_nf P) (by omega) ⟨P, rfl, fun j h1 h2 => absurd h1 (by omega), fun j _ => rfl⟩ ?_ ?_
  · rintro k s ⟨P', rfl, h1, h2⟩
    refine pk_le 9 9 (fun _ => nm_r (nI_1 n) ?_) (fun z => absurd z (by omega))
    rw [nI_pred]
    exact H P' _ ⟨h1, h2⟩ ⟨_, _, _, _, _, _, _, _, _, _, _, rfl, Or.inl rfl⟩
  · rintro k i s hi ⟨P', rfl, h1, h2⟩ hk
    have ei := wn_i9 n i
    refine pk_le 9 i (fun z => absurd z (by omega)) (fun _ => ⟨pk_in (n * 9 + i) 72 (by omega) ei, nm_r (wn_unf (r := 0) _ ei (by omega)) (nm_r (nI_1 i) (hk _ ⟨_, rfl, fun j j1 j2 => ?_, fun j j1 => ?_⟩))⟩)
    · by_cases e : j = n * 9 + i
      · rw [e, wn_ups]
      · rw [wn_upn e]
        exact h1 j j1 (by omega)
    · rw [wn_upn (by omega)]
      exact h2 j (by omega)
end
end
section
/-! packed ends, packed values -/
def wn_E (e : Int64) (n : Nat) (X Y : Nat → Nat) : Prop :=
  ∀ t, t < n → ∀ i, i < 3 → e.toBitVec.getLsbD (6 * t + i) = (X t).testBit i ∧ e.toBitVec.getLsbD (6 * t + 3 + i) = (Y t).testBit i
theorem wn_K : ∀ t, t < 8 → (((6 * nI t).toInt64 &&& 63).toBitVec.smod 64).toNat = 6 * t := by decide +kernel
theorem wn_K3 : ∀ t, t < 8 → (((6 * nI t + 3).toInt64 &&& 63).toBitVec.smod 64).toNat = 6 * t + 3 := by decide +kernel
theorem wn_b7 : ∀ i, i < 32 → (7#32).getLsbD i = decide (i < 3) := by decide +kernel
theorem wn_b63 : ∀ i, i < 6 → (63#64).getLsbD i = true := by decide +kernel
theorem wn_pq : ∀ p, p < 6 → ∀ q, q < 6 → (nI p ||| (nI q <<< ((3 : Int32) &&& 31))) = nI (p + 8 * q) := by decide +kernel
theorem wn_pqb : ∀ p, p < 6 → ∀ q, q < 6 → ∀ i, i < 3 → (p + 8 * q).testBit i = p.testBit i ∧ (p + 8 * q).testBit (3 + i) = q.testBit i := by decide +kernel
theorem wn_E_read {e K : Int64} {k x : Nat} (hK : (K.toBitVec.smod 64).toNat = k) (hk : k < 60) (hx : x < 8) (h : ∀ i, i < 3 → e.toBitVec.getLsbD (k + i) = x.testBit i) : ((e >>> K).toInt32) &&& 7 = nI x := by
  apply Int32.toBitVec_inj.mp
  apply BitVec.eq_of_getLsbD_eq
  intro i hi
  show (((e.toBitVec.sshiftRight (K.toBitVec.smod 64).toNat).signExtend 32) &&& 7#32).getLsbD i = (BitVec.ofNat 32 x).getLsbD i
  rw [hK, BitVec.getLsbD_and, BitVec.getLsbD_signExtend, BitVec.getLsbD_sshiftRight, wn_b7 i hi, BitVec.getLsbD_ofNat]
  by_cases h3 : i < 3
  · have e1 : i < 64 := by omega
    have e2 : k + i < 64 := by omega
    have e3 : ¬ 64 ≤ i := by omega
    rw [if_pos e1, if_pos e2, h i h3, decide_eq_true hi, decide_eq_true h3, decide_eq_false e3]
    simp
  · have e1 : x.testBit i = false := Nat.testBit_lt_two_pow (Nat.lt_of_lt_of_le hx (Nat.pow_le_pow_right (n := 2) (i := 3) (by omega) (by omega)))
    simp [h3, e1]
theorem wn_E_bit {e K : Int64} {k m j : Nat} (hK : (K.toBitVec.smod 64).toNat = k) (hj : j < 64) (hm : m < 64) :
    ((e &&& (((63 : Int64) <<< K) ^^^ (-1))) ||| ((lN m) <<< K)).toBitVec.getLsbD j = if j < k then e.toBitVec.getLsbD j else (if j < k + 6 then m.testBit (j - k) else e.toBitVec.getLsbD j) := by
  have ha : (-1 : Int64).toBitVec = BitVec.allOnes 64 := by decide
  rw [Int64.toBitVec_or, Int64.toBitVec_and, Int64.toBitVec_xor, Int64.toBitVec_shiftLeft, Int64.toBitVec_shiftLeft, ha]
  show ((e.toBitVec &&& ((63#64 <<< (K.toBitVec.smod 64).toNat) ^^^ BitVec.allOnes 64)) ||| (BitVec.ofNat 64 m <<< (K.toBitVec.smod 64).toNat)).getLsbD j = _
  have h64 : j - k < 64 := by omega
  have hM : (BitVec.ofNat 64 m).getLsbD (j - k) = m.testBit (j - k) := by
    rw [BitVec.getLsbD_ofNat, decide_eq_true h64, Bool.true_and]
  rw [hK, BitVec.getLsbD_or, BitVec.getLsbD_and, BitVec.getLsbD_xor, BitVec.getLsbD_shiftLeft, BitVec.getLsbD_shiftLeft, BitVec.getLsbD_allOnes, hM]
  generalize e.toBitVec.getLsbD j = eb
  by_cases h1 : j < k
  · rw [if_pos h1]
    simp [h1, hj]
  · rw [if_neg h1]
    by_cases h2 : j < k + 6
    · have h63 := wn_b63 (j - k) (by omega)
      rw [if_pos h2, h63]
      simp [h1, hj]
    · have e1 : m.testBit (j - k) = false := Nat.testBit_lt_two_pow (Nat.lt_of_lt_of_le (show m < 2 ^ 6 by omega) (Nat.pow_le_pow_right (by omega) (by omega)))
      have e2 : (63#64).getLsbD (j - k) = false := by
        show (BitVec.ofNat 64 63).getLsbD (j - k) = false
        rw [BitVec.getLsbD_ofNat, Nat.testBit_lt_two_pow (Nat.lt_of_lt_of_le (show 63 < 2 ^ 6 by omega) (Nat.pow_le_pow_right (by omega) (by omega)))]
        simp
      rw [if_neg h2, e1, e2]
      simp [hj]
theorem wn_E_put {e : Int64} {n p q : Nat} {X Y : Nat → Nat} (h : wn_E e n X Y) (hn : n < 8) (hp : p < 6) (hq : q < 6) :
    wn_E ((e &&& (((63 : Int64) <<< ((6 * nI n).toInt64 &&& 63)) ^^^ (-1))) ||| (((nI p ||| (nI q <<< ((3 : Int32) &&& 31))).toInt64) <<< ((6 * nI n).toInt64 &&& 63))) (n + 1) (wn_up X n p) (wn_up Y n q) := by
  rw [wn_pq p hp q hq, nI_l (by omega)]
  intro t ht i hi
  rw [wn_E_bit (wn_K n hn) (show 6 * t + i < 64 by omega) (by omega), wn_E_bit (wn_K n hn) (show 6 * t + 3 + i < 64 by omega) (by omega)]
  by_cases e1 : t = n
  · subst e1
    rw [if_neg (by omega), if_pos (by omega), if_neg (by omega), if_pos (by omega), wn_ups, wn_ups, show 6 * t + i - 6 * t = i by omega, show 6 * t + 3 + i - 6 * t = 3 + i by omega]
    exact wn_pqb p hp q hq i hi
  · rw [if_pos (by omega), if_pos (by omega), wn_upn e1, wn_upn e1]
    exact h t (by omega) i hi
theorem wn_E_X {e : Int64} {n t : Nat} {X Y : Nat → Nat} (h : wn_E e n X Y) (hxy : wn_xy n X Y) (ht : t < n) : ((e >>> ((6 * nI t).toInt64 &&& 63)).toInt32) &&& 7 = nI (X t) :=
  wn_E_read (wn_K t (by have := hxy.1; omega)) (by have := hxy.1; omega) (by have := (hxy.2 t ht).1; omega) (fun i hi => (h t ht i hi).1)
theorem wn_E_Y {e : Int64} {n t : Nat} {X Y : Nat → Nat} (h : wn_E e n X Y) (hxy : wn_xy n X Y) (ht : t < n) : ((e >>> ((6 * nI t + 3).toInt64 &&& 63)).toInt32) &&& 7 = nI (Y t) :=
  wn_E_read (wn_K3 t (by have := hxy.1; omega)) (by have := hxy.1; omega) (by have := (hxy.2 t ht).2.1; omega) (fun i hi => (h t ht i hi).2)
def wn_vs (D : Nat → Nat) (i : Nat) : Nat := wn_sm (fun v => D v * 2 ^ (2 * v)) i
theorem wn_vs_lt {D : Nat → Nat} (hD : ∀ v, D v < 3) (i : Nat) : wn_vs D i < 2 ^ (2 * i) := by
  induction i with
  | zero => exact Nat.zero_lt_one
  | succ i ih =>
    show wn_vs D i + D i * 2 ^ (2 * i) < 2 ^ (2 * i + 2)
    have h1 : D i * 2 ^ (2 * i) ≤ 2 * 2 ^ (2 * i) := Nat.mul_le_mul_right _ (by have := hD i; omega)
    rw [Nat.pow_add]
    omega
theorem wn_sh : ∀ i, i < 6 → (((2 * nI i) &&& 31).toBitVec.smod 32).toNat = 2 * i := by decide +kernel
theorem wn_or {x d k : Nat} (hx : x < 2 ^ k) : nI x ||| nI (d * 2 ^ k) = nI (x + d * 2 ^ k) := by
  apply Int32.toBitVec_inj.1
  show BitVec.ofNat 32 x ||| BitVec.ofNat 32 (d * 2 ^ k) = BitVec.ofNat 32 (x + d * 2 ^ k)
  have e : x + d * 2 ^ k = x ||| d * 2 ^ k := by
    rw [Nat.or_comm, Nat.add_comm, ← Nat.shiftLeft_eq, Nat.shiftLeft_add_eq_or_of_lt hx]
  rw [e]
  apply BitVec.eq_of_getLsbD_eq
  intro i hi
  simp [hi]
theorem wn_vor {D : Nat → Nat} (hD : ∀ v, D v < 3) {i : Nat} (hi : i < 6) : nI (wn_vs D i) ||| (nI (D i) <<< ((2 * nI i) &&& 31)) = nI (wn_vs D (i + 1)) := by
  have h1 : D i * 2 ^ (2 * i) < 2 ^ 32 := by
    have h2 : D i * 2 ^ (2 * i) ≤ 2 * 2 ^ (2 * 5) := Nat.mul_le_mul (by have := hD i; omega) (Nat.pow_le_pow_right (by omega) (by omega))
    omega
  rw [pk_shlN _ (2 * i) (wn_sh i hi) h1, wn_or (wn_vs_lt hD i)]
  rfl
theorem wn_vdig {D : Nat → Nat} (hD : ∀ v, D v < 3) {i : Nat} (hi : i < 6) : wn_vs D 6 / 2 ^ (2 * i) % 2 ^ 2 = D i := by
  have e : wn_vs D 6 = 0 + D 0 * 1 + D 1 * 4 + D 2 * 16 + D 3 * 64 + D 4 * 256 + D 5 * 1024 := rfl
  have h0 := hD 0
  have h1 := hD 1
  have h2 := hD 2
  have h3 := hD 3
  have h4 := hD 4
  have h5 := hD 5
  have ei : i = 0 ∨ i = 1 ∨ i = 2 ∨ i = 3 ∨ i = 4 ∨ i = 5 := by omega
  rcases ei with rfl | rfl | rfl | rfl | rfl | rfl
  · show wn_vs D 6 / 1 % 4 = D 0
    omega
  · show wn_vs D 6 / 4 % 4 = D 1
    omega
  · show wn_vs D 6 / 16 % 4 = D 2
    omega
  · show wn_vs D 6 / 64 % 4 = D 3
    omega
  · show wn_vs D 6 / 256 % 4 = D 4
    omega
  · show wn_vs D 6 / 1024 % 4 = D 5
    omega
theorem wn_vget {D : Nat → Nat} (hD : ∀ v, D v < 3) {i : Nat} (hi : i < 6) : (nI (wn_vs D 6) >>> ((2 * nI i) &&& 31)) &&& 3 = nI (D i) := by
  have h := wn_vs_lt hD 6
  have h31 : wn_vs D 6 < 2 ^ 31 := Nat.lt_of_lt_of_le h (by decide)
  have hd : wn_vs D 6 / 2 ^ (2 * i) ≤ wn_vs D 6 := Nat.div_le_self _ _
  rw [pk_shrN h31 _ (2 * i) (wn_sh i hi), pk_andN (by omega) 2 (by decide), wn_vdig hD hi]
theorem wn_up_up {f : Nat → Nat} {k x : Nat} : wn_up (wn_up f k x) k (f k) = f := by
  funext j
  by_cases e : j = k
  · rw [e, wn_ups]
  · rw [wn_upn e, wn_upn e]
section
variable {n v a t q : Nat} {C X Y P : Nat → Nat} {u : St1} {post : Int32 → St1 → Prop} {p2 : Int32}
theorem wn_unary (hN : wn_N n C X Y P) (hu : wn_St n C X Y P u) (hv : v < 6) (ha : a < 3) (e2 : p2 = nI a)
    (H : ∀ u', wn_St n C X Y P u' → post (nI (C (v * 3 + a))) u') : wpL_unary post u (nI v) p2 := by
  subst e2
  obtain ⟨t1, t2, t3, t4, t5, t6, t7, t8, t9, t10, t11, t12, t13, t14, t15, t16⟩ := u
  unfold wpL_unary
  refine wn_cost (c := 0) hu hv ha (by omega) ?_
  rintro ⟨t1, t2, t3, t4, t5, t6, t7, t8, t9, t10, t11, t12, t13, t14, t15, t16⟩ hu1
  refine wn_cost (c := C (v * 3 + a)) hu1 hv ha (hN.2.1 _) ?_
  rw [wn_up_up]
  rintro ⟨t1, t2, t3, t4, t5, t6, t7, t8, t9, t10, t11, t12, t13, t14, t15, t16⟩ hu2
  exact H _ hu2
theorem wn_binary (hN : wn_N n C X Y P) (hu : wn_St n C X Y P u) (ht : t < n) (hq : q < 9) (e2 : p2 = nI q)
    (H : ∀ u', wn_St n C X Y P u' → post (nI (P (t * 9 + q))) u') : wpL_binary post u (nI t) p2 := by
  subst e2
  obtain ⟨t1, t2, t3, t4, t5, t6, t7, t8, t9, t10, t11, t12, t13, t14, t15, t16⟩ := u
  unfold wpL_binary
  refine wn_pair (c := 0) hN.1.1 hu ht hq (by omega) ?_
  rintro ⟨t1, t2, t3, t4, t5, t6, t7, t8, t9, t10, t11, t12, t13, t14, t15, t16⟩ hu1
  refine wn_pair (c := P (t * 9 + q)) hN.1.1 hu1 ht hq (hN.2.2 _) ?_
  rw [wn_up_up]
  rintro ⟨t1, t2, t3, t4, t5, t6, t7, t8, t9, t10, t11, t12, t13, t14, t15, t16⟩ hu2
  exact H _ hu2
theorem wn_mvd_lt {c : Nat} (h : wn_mvd c < 50000) : c ≠ 20 ∧ wn_mvd c = c := by
  unfold wn_mvd at h ⊢
  by_cases e : c = 20
  · rw [if_pos e] at h
    omega
  · rw [if_neg e]
    exact ⟨e, rfl⟩
theorem wn_t90 {A : Nat → Nat} {e : Int64} {x : Nat} (hN : wn_N n C X Y P) (hu : wn_St n C X Y P u) (hE : wn_E e n X Y) (hA : ∀ v, A v < 3) (hP : ∀ t, t < n → P (t * 9 + A (X t) + 3 * A (Y t)) ≠ 20)
    (H : ∀ u', wn_St n C X Y P u' → post (nI (x + wn_sm (fun t => P (t * 9 + A (X t) + 3 * A (Y t))) n)) u') :
    ∃ k, (fun k x s => wL_total_90 post e (nI n) (nI (wn_vs A 6)) k x 0 s.1 s.2.1 s.2.2.1 s.2.2.2.1 s.2.2.2.2.1 s.2.2.2.2.2.1 s.2.2.2.2.2.2.1 s.2.2.2.2.2.2.2.1 s.2.2.2.2.2.2.2.2.1 s.2.2.2.2.2.2.2.2.2.1 s.2.2.2.2.2.2.2.2.2.2.1 s.2.2.2.2.2.2.2.2.2.2.2.1 s.2.2.2.2.2.2.2.2.2.2.2.2.1 s.2.2.2.2.2.2.2.2.2.2.2.2.2.1 s.2.2.2.2.2.2.2.2.2.2.2.2.2.2.1 s.2.2.2.2.2.2.2.2.2.2.2.2.2.2.2) k (nI x) u := by
  have hn := hN.1.1
  refine pk_loop (σ := Int32 × St1) (fun k i s => wL_total_90 post e (nI n) (nI (wn_vs A 6)) k s.1 (nI i) s.2.1 s.2.2.1 s.2.2.2.1 s.2.2.2.2.1 s.2.2.2.2.2.1 s.2.2.2.2.2.2.1 s.2.2.2.2.2.2.2.1 s.2.2.2.2.2.2.2.2.1 s.2.2.2.2.2.2.2.2.2.1 s.2.2.2.2.2.2.2.2.2.2.1 s.2.2.2.2.2.2.2.2.2.2.2.1 s.2.2.2.2.2.2.2.2.2.2.2.2.1 s.2.2.2.2.2.2.2.2.2.2.2.2.2.1 s.2.2.2.2.2.2.2.2.2.2.2.2.2.2.1 s.2.2.2.2.2.2.2.2.2.2.2.2.2.2.2.1 s.2.2.2.2.2.2.2.2.2.2.2.2.2.2.2.2)
    (fun i s => s.1 = nI (x + wn_sm (fun t => P (t * 9 + A (X t) + 3 * A (Y t))) i) ∧ wn_St n C X Y P s.2) n 0 (nI x, u) (by omega) ⟨rfl, hu⟩ ?_ ?_
  · rintro k ⟨y, t1, t2, t3, t4, t5, t6, t7, t8, t9, t10, t11, t12, t13, t14, t15, t16⟩ ⟨rfl, hu⟩
    exact pk_le n n (fun _ => H _ hu) (fun z => absurd z (by omega))
  · rintro k i ⟨y, t1, t2, t3, t4, t5, t6, t7, t8, t9, t10, t11, t12, t13, t14, t15, t16⟩ hi ⟨rfl, hu⟩ hk
    obtain ⟨hx6, hy6, _⟩ := hN.1.2 i hi
    have h20 := hN.2.2 (i * 9 + (A (X i) + 3 * A (Y i)))
    have g1 := hA (X i)
    have g2 := hA (Y i)
    refine pk_le n i (fun z => absurd z (by omega)) (fun _ => nm_r (wn_E_X hE hN.1 hi) (nm_r (wn_E_Y hE hN.1 hi) ?_))
    refine wn_binary (q := A (X i) + 3 * A (Y i)) hN hu hi (by omega) ?_ ?_
    · rw [wn_vget hA hx6, wn_vget hA hy6, ← nI_add, ← pk_mul]
      rfl
    · rintro ⟨t1, t2, t3, t4, t5, t6, t7, t8, t9, t10, t11, t12, t13, t14, t15, t16⟩ hu1
      refine pk_eq (P (i * 9 + (A (X i) + 3 * A (Y i)))) 20 (fun z => absurd (by rw [Nat.add_assoc]; exact z) (hP i hi)) (fun z => nm_r (nI_add _ _) (nm_r (nI_1 i) (hk (_, (t1, t2, t3, t4, t5, t6, t7, t8, t9, t10, t11, t12, t13, t14, t15, t16)) ⟨?_, hu1⟩)))
      rw [← Nat.add_assoc, Nat.add_assoc x]
      rfl
theorem wn_t41 {A : Nat → Nat} {e : Int64} (hN : wn_N n C X Y P) (hu : wn_St n C X Y P u) (hE : wn_E e n X Y) (hA : ∀ v, A v < 3) (hC : ∀ v, v < 6 → C (v * 3 + A v) ≠ 20) (hP : ∀ t, t < n → P (t * 9 + A (X t) + 3 * A (Y t)) ≠ 20)
    (H : ∀ u', wn_St n C X Y P u' → post (nI (wn_sm (fun v => C (v * 3 + A v)) 6 + wn_sm (fun t => P (t * 9 + A (X t) + 3 * A (Y t))) n)) u') :
    ∃ k, (fun k s => wL_total_41 post e (nI n) (nI (wn_vs A 6)) k 0 0 s.1 s.2.1 s.2.2.1 s.2.2.2.1 s.2.2.2.2.1 s.2.2.2.2.2.1 s.2.2.2.2.2.2.1 s.2.2.2.2.2.2.2.1 s.2.2.2.2.2.2.2.2.1 s.2.2.2.2.2.2.2.2.2.1 s.2.2.2.2.2.2.2.2.2.2.1 s.2.2.2.2.2.2.2.2.2.2.2.1 s.2.2.2.2.2.2.2.2.2.2.2.2.1 s.2.2.2.2.2.2.2.2.2.2.2.2.2.1 s.2.2.2.2.2.2.2.2.2.2.2.2.2.2.1 s.2.2.2.2.2.2.2.2.2.2.2.2.2.2.2) k u := by
  refine pk_loop (σ := Int32 × St1) (fun k i s => wL_total_41 post e (nI n) (nI (wn_vs A 6)) k s.1 (nI i) s.2.1 s.2.2.1 s.2.2.2.1 s.2.2.2.2.1 s.2.2.2.2.2.1 s.2.2.2.2.2.2.1 s.2.2.2.2.2.2.2.1 s.2.2.2.2.2.2.2.2.1 s.2.2.2.2.2.2.2.2.2.1 s.2.2.2.2.2.2.2.2.2.2.1 s.2.2.2.2.2.2.2.2.2.2.2.1 s.2.2.2.2.2.2.2.2.2.2.2.2.1 s.2.2.2.2.2.2.2.2.2.2.2.2.2.1 s.2.2.2.2.2.2.2.2.2.2.2.2.2.2.1 s.2.2.2.2.2.2.2.2.2.2.2.2.2.2.2.1 s.2.2.2.2.2.2.2.2.2.2.2.2.2.2.2.2)
    (fun i s => s.1 = nI (wn_sm (fun v => C (v * 3 + A v)) i) ∧ wn_St n C X Y P s.2) 6 0 (0, u) (by omega) ⟨rfl, hu⟩ ?_ ?_
  · rintro k ⟨y, t1, t2, t3, t4, t5, t6, t7, t8, t9, t10, t11, t12, t13, t14, t15, t16⟩ ⟨rfl, hu⟩
    exact pk_le 6 6 (fun _ => wn_t90 hN hu hE hA hP H) (fun z => absurd z (by omega))
  · rintro k i ⟨y, t1, t2, t3, t4, t5, t6, t7, t8, t9, t10, t11, t12, t13, t14, t15, t16⟩ hi ⟨rfl, hu⟩ hk
    have h20 := hN.2.1 (i * 3 + A i)
    refine pk_le 6 i (fun z => absurd z (by omega)) (fun _ => ?_)
    refine wn_unary hN hu hi (hA i) (wn_vget hA hi) ?_
    rintro ⟨t1, t2, t3, t4, t5, t6, t7, t8, t9, t10, t11, t12, t13, t14, t15, t16⟩ hu1
    exact pk_eq (C (i * 3 + A i)) 20 (fun z => absurd z (hC i hi)) (fun z => nm_r (nI_add _ _) (nm_r (nI_1 i) (hk (_, (t1, t2, t3, t4, t5, t6, t7, t8, t9, t10, t11, t12, t13, t14, t15, t16)) ⟨rfl, hu1⟩)))
theorem wn_total {e : Int64} (hN : wn_N n C X Y P) (hu : wn_St n C X Y P u) (hE : wn_E e n X Y) (hL : wn_bst (wn_U n C X Y P) 729 < 50000)
    (H : ∀ u', wn_St n C X Y P u' → post (nI (wn_bst (wn_U n C X Y P) 729)) u') : wpL_total post u e (nI n) := by
  have hA : ∀ v, wn_dg (wn_arg (wn_U n C X Y P) 729) v < 3 := fun v => wn_dg_lt _ v
  have hU : wn_sat (wn_R n C X Y P (wn_dg (wn_arg (wn_U n C X Y P) 729))) = wn_bst (wn_U n C X Y P) 729 := (wn_arg_at (V := wn_U n C X Y P) (k := 729) (by omega)).2
  generalize hAe : wn_dg (wn_arg (wn_U n C X Y P) 729) = A at hA hU
  have hR : wn_R n C X Y P A = wn_bst (wn_U n C X Y P) 729 := by
    rcases Nat.lt_or_ge (wn_R n C X Y P A) 50000 with z | z
    · rw [← hU, wn_sat_lt z]
    · rw [wn_sat_ge z] at hU
      omega
  have hR2 : 0 + wn_sm (fun v => wn_mvd (C (v * 3 + A v))) 6 + wn_sm (fun t => wn_mvd (P (t * 9 + A (X t) + 3 * A (Y t)))) n = wn_bst (wn_U n C X Y P) 729 := hR
  have hC1 : ∀ v, v < 6 → C (v * 3 + A v) ≠ 20 ∧ wn_mvd (C (v * 3 + A v)) = C (v * 3 + A v) := fun v hv => by
    have := wn_sm_mem (f := fun v => wn_mvd (C (v * 3 + A v))) hv
    exact wn_mvd_lt (by omega)
  have hP1 : ∀ t, t < n → P (t * 9 + A (X t) + 3 * A (Y t)) ≠ 20 ∧ wn_mvd (P (t * 9 + A (X t) + 3 * A (Y t))) = P (t * 9 + A (X t) + 3 * A (Y t)) := fun t ht => by
    have := wn_sm_mem (f := fun t => wn_mvd (P (t * 9 + A (X t) + 3 * A (Y t)))) ht
    exact wn_mvd_lt (by omega)
  rw [wn_sm_cong (fun v hv => (hC1 v hv).2), wn_sm_cong (fun t ht => (hP1 t ht).2), Nat.zero_add] at hR2
  rw [← hR2] at H
  obtain ⟨t1, t2, t3, t4, t5, t6, t7, t8, t9, t10, t11, t12, t13, t14, t15, t16⟩ := u
  refine pk_loop (σ := Int32 × St1) (fun k i s => wL_total_9 post e (nI n) 0 k s.1 (nI i) s.2.1 s.2.2.1 s.2.2.2.1 s.2.2.2.2.1 s.2.2.2.2.2.1 s.2.2.2.2.2.2.1 s.2.2.2.2.2.2.2.1 s.2.2.2.2.2.2.2.2.1 s.2.2.2.2.2.2.2.2.2.1 s.2.2.2.2.2.2.2.2.2.2.1 s.2.2.2.2.2.2.2.2.2.2.2.1 s.2.2.2.2.2.2.2.2.2.2.2.2.1 s.2.2.2.2.2.2.2.2.2.2.2.2.2.1 s.2.2.2.2.2.2.2.2.2.2.2.2.2.2.1 s.2.2.2.2.2.2.2.2.2.2.2.2.2.2.2.1 s.2.2.2.2.2.2.2.2.2.2.2.2.2.2.2.2)
    (fun i s => s.1 = nI (wn_vs A i) ∧ wn_St n C X Y P s.2) 6 0 (0, (t1, t2, t3, t4, t5, t6, t7, t8, t9, t10, t11, t12, t13, t14, t15, t16)) (by omega) ⟨rfl, hu⟩ ?_ ?_
  · rintro k ⟨y, t1, t2, t3, t4, t5, t6, t7, t8, t9, t10, t11, t12, t13, t14, t15, t16⟩ ⟨rfl, hu⟩
    exact pk_le 6 6 (fun _ => wn_t41 hN hu hE hA (fun v hv => (hC1 v hv).1) (fun t ht => (hP1 t ht).1) H) (fun z => absurd z (by omega))
  · rintro k i ⟨y, t1, t2, t3, t4, t5, t6, t7, t8, t9, t10, t11, t12, t13, t14, t15, t16⟩ hi ⟨rfl, hu⟩ hk
    refine pk_le 6 i (fun z => absurd z (by omega)) (fun _ => ?_)
    refine wn_value hN hu hi (fun z => absurd z (by omega)) (fun _ => ?_)
    rw [hAe]
    rintro ⟨t1, t2, t3, t4, t5, t6, t7, t8, t9, t10, t11, t12, t13, t14, t15, t16⟩ hu1
    exact nm_r (wn_vor hA hi) (nm_r (nI_1 i) (hk (_, (t1, t2, t3, t4, t5, t6, t7, t8, t9, t10, t11, t12, t13, t14, t15, t16)) ⟨rfl, hu1⟩))
end
end
section
/-! the law's checks, in plain numbers; holds -/
theorem wn_U_two (n : Nat) (C X Y P : Nat → Nat) (k : Nat) : wn_U n C X Y P k < 50000 ∨ wn_U n C X Y P k = 100000 := wn_sat_two _
theorem wn_bst_two {V : Nat → Nat} {k : Nat} (h : ∀ j, V j < 50000 ∨ V j = 100000) : wn_bst V k < 50000 ∨ wn_bst V k = 100000 := by
  induction k with
  | zero => exact Or.inr rfl
  | succ k ih =>
    have := h k
    show (if V k < wn_bst V k then V k else wn_bst V k) < 50000 ∨ (if V k < wn_bst V k then V k else wn_bst V k) = 100000
    split <;> omega
theorem wn_U_300 {n : Nat} {C X Y P : Nat → Nat} (hN : wn_N n C X Y P) {k : Nat} (h : wn_U n C X Y P k ≤ 49999) : wn_U n C X Y P k ≤ 300 := by
  have hn := hN.1.1
  have h1 : wn_ok (19 * 6) (wn_sm (fun v => wn_mvd (C (v * 3 + wn_dg k v))) 6) := wn_sm_ok (fun v _ => wn_ok_e (wn_mvd_e (hN.2.1 _)))
  have h2 : wn_ok (19 * n) (wn_sm (fun t => wn_mvd (P (t * 9 + wn_dg k (X t) + 3 * wn_dg k (Y t)))) n) := wn_sm_ok (fun t _ => wn_ok_e (wn_mvd_e (hN.2.2 _)))
  have h3 : wn_ok 266 (wn_R n C X Y P (wn_dg k)) := wn_ok_mono (wn_ok_add (wn_ok_add (wn_ok_0 (B := 0)) h1) h2) (by omega)
  unfold wn_U at h ⊢
  unfold wn_ok at h3
  rcases Nat.lt_or_ge (wn_R n C X Y P (wn_dg k)) 50000 with z | z
  · rw [wn_sat_lt z]
    omega
  · rw [wn_sat_ge z] at h
    omega
/-- the least of those where variable v has value a -/
def wn_W (U : Nat → Nat) (v a k : Nat) : Nat := if wn_dg k v = a then U k else 100000
theorem wn_W_two {U : Nat → Nat} (h : ∀ j, U j < 50000 ∨ U j = 100000) {v a : Nat} (k : Nat) : wn_W U v a k < 50000 ∨ wn_W U v a k = 100000 := by
  unfold wn_W
  split
  · exact h k
  · exact Or.inr rfl
theorem wn_min3 {U : Nat → Nat} (h : ∀ j, U j < 50000 ∨ U j = 100000) (v : Nat) :
    min (min (wn_bst (wn_W U v 0) 729) (wn_bst (wn_W U v 1) 729)) (wn_bst (wn_W U v 2) 729) = wn_bst U 729 := by
  have g : ∀ a, wn_bst U 729 ≤ wn_bst (wn_W U v a) 729 := fun a => wn_bst_ge (wn_bst_max _ _) (fun j hj => by
    unfold wn_W
    split
    · exact wn_bst_le hj
    · exact wn_bst_max _ _)
  have g0 := g 0
  have g1 := g 1
  have g2 := g 2
  have m0 := wn_bst_max (wn_W U v 0) 729
  have m1 := wn_bst_max (wn_W U v 1) 729
  have m2 := wn_bst_max (wn_W U v 2) 729
  rcases Nat.lt_or_ge (wn_bst U 729) 100000 with z | z
  · obtain ⟨hk, hU⟩ := wn_arg_at z
    have hl : ∀ a, wn_dg (wn_arg U 729) v = a → wn_bst (wn_W U v a) 729 ≤ wn_bst U 729 := fun a ha => by
      have := wn_bst_le (V := wn_W U v a) hk
      have e : wn_W U v a (wn_arg U 729) = U (wn_arg U 729) := if_pos ha
      omega
    have hd := wn_dg_lt (wn_arg U 729) v
    have hc : wn_dg (wn_arg U 729) v = 0 ∨ wn_dg (wn_arg U 729) v = 1 ∨ wn_dg (wn_arg U 729) v = 2 := by omega
    rcases hc with hc | hc | hc
    · have := hl 0 hc
      omega
    · have := hl 1 hc
      omega
    · have := hl 2 hc
      omega
  · omega
theorem wn_pred {m : Nat} (h : 0 < m) : nI m - 1 = nI (m - 1) := by
  cases m with
  | zero => exact absurd h (Nat.lt_irrefl _)
  | succ m => exact nI_pred m
theorem wn_li_neg {x : Nat} (h : 50000 ≤ x) : wn_li x < 0 := by
  rw [wn_li_hi h]; decide
theorem wn_li_pos {x : Nat} (h : x < 50000) : ¬ wn_li x < 0 := by
  rw [wn_li_lo h]; exact nI_pos (by omega)
theorem wn_sml {post : Int32 → Prop} {u : St2} {a b : Nat} (ha : a < 50000 ∨ a = 100000) (hb : b < 50000 ∨ b = 100000) (h : post (wn_li (min a b))) : wpL_smaller post u (wn_li a) (wn_li b) := by
  unfold wpL_smaller
  rcases Nat.lt_or_ge a 50000 with z | z
  · refine br_f (wn_li_pos z) ?_
    rcases Nat.lt_or_ge b 50000 with y | y
    · refine br_f (wn_li_pos y) ?_
      refine pk_le a b (fun q => ?_) (fun q => ?_) (wn_li_lo z) (wn_li_lo y)
      · rw [show min a b = a by omega] at h
        exact h
      · rw [show min a b = b by omega] at h
        exact h
    · rw [show min a b = a by omega] at h
      exact br_t (wn_li_neg y) h
  · rw [show min a b = b by omega] at h
    exact br_t (wn_li_neg z) h
section
variable {n v : Nat} {C X Y P : Nat → Nat} {u : St1} {post : Int32 → St1 → Prop} {e : Int64}
theorem wn_holds (hN : wn_N n C X Y P) (hu : wn_St n C X Y P u) (hE : wn_E e n X Y) (hv : v < 6) (H : ∀ u', wn_St n C X Y P u' → post 1 u') : wpL_holds post u e (nI n) (nI v) := by
  have hU := wn_U_two n C X Y P
  have hL2 := wn_bst_two (k := 729) hU
  have hW0 := wn_bst_two (k := 729) (wn_W_two (v := v) (a := 0) hU)
  have hW1 := wn_bst_two (k := 729) (wn_W_two (v := v) (a := 1) hU)
  have hW2 := wn_bst_two (k := 729) (wn_W_two (v := v) (a := 2) hU)
  have hm := wn_min3 hU v
  have h300 : wn_cnt (wn_U n C X Y P) 300 729 = wn_cnt (wn_U n C X Y P) 49999 729 := wn_cnt_cong (fun j _ => ⟨fun h => by omega, fun h => wn_U_300 hN h⟩)
  obtain ⟨t1, t2, t3, t4, t5, t6, t7, t8, t9, t10, t11, t12, t13, t14, t15, t16⟩ := u
  unfold wpL_holds
  refine wn_least hN hu ?_
  rintro ⟨t1, t2, t3, t4, t5, t6, t7, t8, t9, t10, t11, t12, t13, t14, t15, t16⟩ hu
  refine wn_leastWith (a := 0) hN hu hv (by omega) ?_
  rintro ⟨t1, t2, t3, t4, t5, t6, t7, t8, t9, t10, t11, t12, t13, t14, t15, t16⟩ hu
  refine wn_leastWith (a := 1) hN hu hv (by omega) ?_
  rintro ⟨t1, t2, t3, t4, t5, t6, t7, t8, t9, t10, t11, t12, t13, t14, t15, t16⟩ hu
  refine wn_leastWith (a := 2) hN hu hv (by omega) ?_
  rintro ⟨t1, t2, t3, t4, t5, t6, t7, t8, t9, t10, t11, t12, t13, t14, t15, t16⟩ hu
  refine wn_sml hW0 hW1 ?_
  refine wn_sml (a := min (wn_bst (wn_W (wn_U n C X Y P) v 0) 729) (wn_bst (wn_W (wn_U n C X Y P) v 1) 729)) (by omega) hW2 ?_
  refine br_t (congrArg wn_li hm) ?_
  refine wn_upTo (b := 300) hN hu (by omega) ?_
  rintro ⟨t1, t2, t3, t4, t5, t6, t7, t8, t9, t10, t11, t12, t13, t14, t15, t16⟩ hu
  refine wn_allowed hN hu ?_
  rintro ⟨t1, t2, t3, t4, t5, t6, t7, t8, t9, t10, t11, t12, t13, t14, t15, t16⟩ hu
  rw [h300]
  refine br_t rfl ?_
  rcases Nat.lt_or_ge (wn_bst (wn_U n C X Y P) 729) 50000 with z | z
  · refine br_f (wn_li_ne z) ?_
    rw [wn_li_lo z]
    refine wn_upTo hN hu (by omega) ?_
    rintro ⟨t1, t2, t3, t4, t5, t6, t7, t8, t9, t10, t11, t12, t13, t14, t15, t16⟩ hu
    refine wn_ties hN hu (fun y => absurd y (by omega)) (fun _ => ?_)
    rintro ⟨t1, t2, t3, t4, t5, t6, t7, t8, t9, t10, t11, t12, t13, t14, t15, t16⟩ hu
    refine br_t rfl ?_
    obtain ⟨hk, hUk⟩ := wn_arg_at (V := wn_U n C X Y P) (k := 729) (by omega)
    have hpos : 1 ≤ wn_cnt (wn_U n C X Y P) (wn_bst (wn_U n C X Y P) 729) 729 := wn_cnt_pos hk (by omega)
    have hcl := wn_cnt_le (wn_U n C X Y P) (wn_bst (wn_U n C X Y P) 729) 729
    have fin : ∀ w, wn_St n C X Y P w → wpX_ties (fun r u => match u with | (t1, t2, t3, t4, t5, t6, t7, t8, t9, t10, t11, t12, t13, t14, t15, t16) => (r < 1 → post 0 (t1, t2, t3, t4, t5, t6, t7, t8, t9, t10, t11, t12, t13, t14, t15, t16)) ∧ (¬ r < 1 → wpL_total (fun r2 u => match u with | (t1, t2, t3, t4, t5, t6, t7, t8, t9, t10, t11, t12, t13, t14, t15, t16) => (r2 = nI (wn_bst (wn_U n C X Y P) 729) → post 1 (t1, t2, t3, t4, t5, t6, t7, t8, t9, t10, t11, t12, t13, t14, t15, t16)) ∧ (¬ r2 = nI (wn_bst (wn_U n C X Y P) 729) → post 0 (t1, t2, t3, t4, t5, t6, t7, t8, t9, t10, t11, t12, t13, t14, t15, t16))) (t1, t2, t3, t4, t5, t6, t7, t8, t9, t10, t11, t12, t13, t14, t15, t16) e (nI n))) w := by
      intro w hw
      refine wn_ties hN hw (fun y => absurd y (by omega)) (fun _ => ?_)
      rintro ⟨t1, t2, t3, t4, t5, t6, t7, t8, t9, t10, t11, t12, t13, t14, t15, t16⟩ hu
      refine br_f (nI_nlt (b := 1) hpos (by omega)) ?_
      refine wn_total hN hu hE z ?_
      rintro ⟨t1, t2, t3, t4, t5, t6, t7, t8, t9, t10, t11, t12, t13, t14, t15, t16⟩ hu
      exact br_t rfl (H _ hu)
    rcases Nat.eq_zero_or_pos (wn_bst (wn_U n C X Y P) 729) with y | y
    · refine wn_upTo_neg hu (by rw [y]; decide) ?_
      exact br_t rfl (fin _ hu)
    · have e1 : nI (wn_bst (wn_U n C X Y P) 729) - 1 = nI (wn_bst (wn_U n C X Y P) 729 - 1) := wn_pred y
      have h0 : wn_cnt (wn_U n C X Y P) (wn_bst (wn_U n C X Y P) 729 - 1) 729 = 0 := wn_cnt_0 (fun j hj => by
        have := wn_bst_le (V := wn_U n C X Y P) hj
        omega)
      rw [e1]
      refine wn_upTo hN hu (by omega) ?_
      rw [h0]
      rintro ⟨t1, t2, t3, t4, t5, t6, t7, t8, t9, t10, t11, t12, t13, t14, t15, t16⟩ hu
      exact br_t rfl (fin _ hu)
  · refine br_t (wn_li_hi z) ?_
    refine wn_allowed hN hu ?_
    rw [show wn_cnt (wn_U n C X Y P) 49999 729 = 0 from wn_cnt_0 (fun j hj => by
      have := wn_bst_le (V := wn_U n C X Y P) hj
      omega)]
    rintro ⟨t1, t2, t3, t4, t5, t6, t7, t8, t9, t10, t11, t12, t13, t14, t15, t16⟩ hu
    refine br_t rfl ?_
    refine wn_ties hN hu (fun _ => ?_) (fun y => absurd y (by omega))
    rintro ⟨t1, t2, t3, t4, t5, t6, t7, t8, t9, t10, t11, t12, t13, t14, t15, t16⟩ hu
    refine br_t rfl ?_
    refine wn_value hN hu hv (fun _ => ?_) (fun y => absurd y (by omega))
    rintro ⟨t1, t2, t3, t4, t5, t6, t7, t8, t9, t10, t11, t12, t13, t14, t15, t16⟩ hu
    exact br_t rfl (H _ hu)
end
end
section
/-! the law -/
theorem wn_mvd_mono {a b : Nat} (h : a ≤ b) (hb : b ≤ 20) : wn_mvd a ≤ wn_mvd b := by
  unfold wn_mvd
  split <;> split <;> omega
theorem wn_U_mono {n : Nat} {C X Y P C' P' : Nat → Nat} (hC : ∀ i, wn_mvd (C i) ≤ wn_mvd (C' i)) (hP : ∀ j, wn_mvd (P j) ≤ wn_mvd (P' j)) (k : Nat) : wn_U n C X Y P k ≤ wn_U n C' X Y P' k := by
  refine wn_sat_mono ?_
  refine Nat.add_le_add (Nat.add_le_add (Nat.le_refl _) (wn_sm_le (fun v _ => hC _))) (wn_sm_le (fun t _ => hP _))
theorem wn_up_mono {f : Nat → Nat} {k c : Nat} (h : f k ≤ c) (hc : c ≤ 20) (i : Nat) : wn_mvd (f i) ≤ wn_mvd (wn_up f k c i) := by
  by_cases e : i = k
  · rw [e, wn_ups]
    exact wn_mvd_mono h hc
  · rw [wn_upn e]
    exact Nat.le_refl _
theorem wn_mono2 {U V : Nat → Nat} (h : ∀ k, U k ≤ V k) : wn_cnt V 49999 729 ≤ wn_cnt U 49999 729 ∧ wn_bst U 729 ≤ wn_bst V 729 :=
  ⟨wn_cnt_mono (fun j _ hj => Nat.le_trans (h j) hj), wn_bst_ge (wn_bst_max _ _) (fun j hj => Nat.le_trans (wn_bst_le hj) (h j))⟩
theorem wn_up_20 {f : Nat → Nat} {k c : Nat} (h : ∀ i, f i ≤ 20) (hc : c ≤ 20) (i : Nat) : wn_up f k c i ≤ 20 := by
  by_cases e : i = k
  · rw [e, wn_ups]
    exact hc
  · rw [wn_upn e]
    exact h i
theorem wn_U_table {n p q : Nat} {C X Y P P' : Nat → Nat} (hxy : wn_xy n X Y) (hc : wn_clr n P P') (hp : p < 6) (hq : q < 6) : wn_U (n + 1) C (wn_up X n p) (wn_up Y n q) P' = wn_U n C X Y P := by
  funext k
  unfold wn_U wn_R wn_T
  have e1 : wn_sm (fun t => wn_mvd (P' (t * 9 + wn_dg k (wn_up X n p t) + 3 * wn_dg k (wn_up Y n q t)))) (n + 1) = wn_sm (fun t => wn_mvd (P (t * 9 + wn_dg k (X t) + 3 * wn_dg k (Y t)))) n := by
    show wn_sm (fun t => wn_mvd (P' (t * 9 + wn_dg k (wn_up X n p t) + 3 * wn_dg k (wn_up Y n q t)))) n + wn_mvd (P' (n * 9 + wn_dg k (wn_up X n p n) + 3 * wn_dg k (wn_up Y n q n))) = _
    have g1 := wn_dg_lt k (wn_up X n p n)
    have g2 := wn_dg_lt k (wn_up Y n q n)
    rw [hc.1 _ (by omega) (by omega)]
    show wn_sm (fun t => wn_mvd (P' (t * 9 + wn_dg k (wn_up X n p t) + 3 * wn_dg k (wn_up Y n q t)))) n = _
    refine wn_sm_cong (fun t ht => ?_)
    show wn_mvd (P' (t * 9 + wn_dg k (wn_up X n p t) + 3 * wn_dg k (wn_up Y n q t))) = wn_mvd (P (t * 9 + wn_dg k (X t) + 3 * wn_dg k (Y t)))
    have g3 := wn_dg_lt k (X t)
    have g4 := wn_dg_lt k (Y t)
    rw [wn_upn (show t ≠ n by omega), wn_upn (show t ≠ n by omega), hc.2 _ (by omega)]
  rw [e1]
theorem wn_N_table {n p q : Nat} {C X Y P P' : Nat → Nat} (hN : wn_N n C X Y P) (hn : n < 8) (hc : wn_clr n P P') (hp : p < 6) (hq : q < 6) (hpq : p ≠ q) : wn_N (n + 1) C (wn_up X n p) (wn_up Y n q) P' := by
  refine ⟨⟨by omega, fun t ht => ?_⟩, hN.2.1, fun j => ?_⟩
  · by_cases e : t = n
    · rw [e, wn_ups, wn_ups]
      exact ⟨hp, hq, hpq⟩
    · rw [wn_upn e, wn_upn e]
      exact hN.1.2 t (by omega)
  · rcases Nat.lt_or_ge j (n * 9) with z | z
    · rw [hc.2 j (Or.inl z)]
      exact hN.2.2 j
    · rcases Nat.lt_or_ge j (n * 9 + 9) with y | y
      · rw [hc.1 j z y]
        omega
      · rw [hc.2 j (Or.inr y)]
        exact hN.2.2 j
section
variable {post : Int32 → Prop} {L kc ks n a b c i op : Nat} {xs : Nat → Int32} {e : Int64} {C X Y P : Nat → Nat} {t1 t2 t3 t4 t5 : Int32} {t6 t7 t8 t9 t10 t11 t12 t13 t14 t15 t16 : Nat → Int32}
  {J : Int64 → Int32 → Int32 → Int32 → Int32 → Int32 → Int32 → Int32 → (Nat → Int32) → (Nat → Int32) → (Nat → Int32) → (Nat → Int32) → (Nat → Int32) → (Nat → Int32) → (Nat → Int32) → (Nat → Int32) → (Nat → Int32) → (Nat → Int32) → (Nat → Int32) → Prop}
theorem wn_398 (hN : wn_N n C X Y P) (hu : wn_St n C X Y P (t1, t2, t3, t4, t5, t6, t7, t8, t9, t10, t11, t12, t13, t14, t15, t16)) (hE : wn_E e n X Y) (ha : a < 2 ^ 20)
    (hJ : ∀ t1 t2 t3 t4 t5 t6 t7 t8 t9 t10 t11 t12 t13 t14 t15 t16, wn_St n C X Y P (t1, t2, t3, t4, t5, t6, t7, t8, t9, t10, t11, t12, t13, t14, t15, t16) → J e (nI n) (nI (i + 3)) t1 t2 t3 t4 t5 t6 t7 t8 t9 t10 t11 t12 t13 t14 t15 t16) : wL_law_398 post L xs J e (nI n) (nI i) (nI a) kc ks t1 t2 t3 t4 t5 t6 t7 t8 t9 t10 t11 t12 t13 t14 t15 t16 := by
  unfold wL_law_398
  refine ⟨by decide, ?_⟩
  have e6 : nI a - nI a / 6 * 6 = nI (a % 6) := pk_rem (d := 6) (by omega) (by omega) (by omega)
  rw [e6]
  refine wn_holds hN hu hE (Nat.mod_lt _ (by omega)) ?_
  rintro ⟨t1, t2, t3, t4, t5, t6, t7, t8, t9, t10, t11, t12, t13, t14, t15, t16⟩ hu
  exact br_f (by decide) (nm_r (nI_add i 3) (hJ _ _ _ _ _ _ _ _ _ _ _ _ _ _ _ _ hu))
theorem wn_380 {L0 : Nat} (hN : wn_N n C X Y P) (hu : wn_St n C X Y P (t1, t2, t3, t4, t5, t6, t7, t8, t9, t10, t11, t12, t13, t14, t15, t16)) (hE : wn_E e n X Y) (ha : a < 2 ^ 20) (hL : L0 ≤ wn_bst (wn_U n C X Y P) 729)
    (hJ : ∀ t1 t2 t3 t4 t5 t6 t7 t8 t9 t10 t11 t12 t13 t14 t15 t16, wn_St n C X Y P (t1, t2, t3, t4, t5, t6, t7, t8, t9, t10, t11, t12, t13, t14, t15, t16) → J e (nI n) (nI (i + 3)) t1 t2 t3 t4 t5 t6 t7 t8 t9 t10 t11 t12 t13 t14 t15 t16) : wL_law_380 post L xs J e (nI n) (nI i) (nI a) (wn_li L0) kc ks t1 t2 t3 t4 t5 t6 t7 t8 t9 t10 t11 t12 t13 t14 t15 t16 := by
  unfold wL_law_380
  rcases Nat.lt_or_ge L0 50000 with z | z
  · exact br_f (wn_li_ne z) (wn_398 hN hu hE ha hJ)
  · refine br_t (wn_li_hi z) ?_
    refine wn_least hN hu ?_
    rintro ⟨t1, t2, t3, t4, t5, t6, t7, t8, t9, t10, t11, t12, t13, t14, t15, t16⟩ hu
    exact br_t (wn_li_hi (by omega)) (wn_398 hN hu hE ha hJ)
theorem wn_343 {L0 c0 : Nat} {x9 x12 : Int32} (hN : wn_N n C X Y P) (hu : wn_St n C X Y P (t1, t2, t3, t4, t5, t6, t7, t8, t9, t10, t11, t12, t13, t14, t15, t16)) (hE : wn_E e n X Y) (ha : a < 2 ^ 20) (hc0 : c0 ≤ 729)
    (hm : x12 = -1 ∨ ∃ old c, x12 = nI old ∧ x9 = nI c ∧ old ≤ 20 ∧ c ≤ 20 ∧ (old ≤ c → wn_cnt (wn_U n C X Y P) 49999 729 ≤ c0 ∧ L0 ≤ wn_bst (wn_U n C X Y P) 729))
    (hJ : ∀ t1 t2 t3 t4 t5 t6 t7 t8 t9 t10 t11 t12 t13 t14 t15 t16, wn_St n C X Y P (t1, t2, t3, t4, t5, t6, t7, t8, t9, t10, t11, t12, t13, t14, t15, t16) → J e (nI n) (nI (i + 3)) t1 t2 t3 t4 t5 t6 t7 t8 t9 t10 t11 t12 t13 t14 t15 t16) : wL_law_343 post L xs J e (nI n) (nI i) (nI a) x9 (wn_li L0) (nI c0) x12 kc ks t1 t2 t3 t4 t5 t6 t7 t8 t9 t10 t11 t12 t13 t14 t15 t16 := by
  unfold wL_law_343
  rcases hm with rfl | ⟨old, c, rfl, rfl, ho, hc, hm⟩
  · exact br_t (by decide) (wn_398 hN hu hE ha hJ)
  · refine br_f (nI_pos (by omega)) (pk_lt c old (fun z => wn_398 hN hu hE ha hJ) (fun z => ?_))
    obtain ⟨m1, m2⟩ := hm z
    refine wn_allowed hN hu ?_
    rintro ⟨t1, t2, t3, t4, t5, t6, t7, t8, t9, t10, t11, t12, t13, t14, t15, t16⟩ hu
    refine br_f (nI_nlt m1 (by omega)) ?_
    refine wn_least hN hu ?_
    rintro ⟨t1, t2, t3, t4, t5, t6, t7, t8, t9, t10, t11, t12, t13, t14, t15, t16⟩ hu
    rcases Nat.lt_or_ge (wn_bst (wn_U n C X Y P) 729) 50000 with y | y
    · refine br_f (wn_li_pos y) ?_
      refine wn_least hN hu ?_
      rintro ⟨t1, t2, t3, t4, t5, t6, t7, t8, t9, t10, t11, t12, t13, t14, t15, t16⟩ hu
      refine br_f ?_ (wn_380 hN hu hE ha m2 hJ)
      rw [wn_li_lo y, wn_li_lo (show L0 < 50000 by omega)]
      exact nI_nlt m2 (by omega)
    · exact br_t (wn_li_neg y) (wn_380 hN hu hE ha m2 hJ)
theorem wn_235 {x9 : Int32} (hN : wn_N n C X Y P) (hu : wn_St n C X Y P (t1, t2, t3, t4, t5, t6, t7, t8, t9, t10, t11, t12, t13, t14, t15, t16)) (hE : wn_E e n X Y) (ha : a < 2 ^ 20)
    (hJ : ∀ t1 t2 t3 t4 t5 t6 t7 t8 t9 t10 t11 t12 t13 t14 t15 t16, wn_St n C X Y P (t1, t2, t3, t4, t5, t6, t7, t8, t9, t10, t11, t12, t13, t14, t15, t16) → J e (nI n) (nI (i + 3)) t1 t2 t3 t4 t5 t6 t7 t8 t9 t10 t11 t12 t13 t14 t15 t16) : wL_law_235 post L xs J e (nI n) (nI i) (nI a) x9 (wn_li (wn_bst (wn_U n C X Y P) 729)) (nI (wn_cnt (wn_U n C X Y P) 49999 729)) (-1) kc ks t1 t2 t3 t4 t5 t6 t7 t8 t9 t10 t11 t12 t13 t14 t15 t16 := by
  unfold wL_law_235
  refine wn_least hN hu ?_
  rintro ⟨t1, t2, t3, t4, t5, t6, t7, t8, t9, t10, t11, t12, t13, t14, t15, t16⟩ hu
  refine br_t rfl ?_
  refine wn_allowed hN hu ?_
  rintro ⟨t1, t2, t3, t4, t5, t6, t7, t8, t9, t10, t11, t12, t13, t14, t15, t16⟩ hu
  exact br_t rfl (wn_343 hN hu hE ha (wn_cnt_le _ _ _) (Or.inl rfl) hJ)
theorem wn_298 {L0 c0 : Nat} {x9 : Int32} (hN : wn_N n C X Y P) (hu : wn_St n C X Y P (t1, t2, t3, t4, t5, t6, t7, t8, t9, t10, t11, t12, t13, t14, t15, t16)) (hE : wn_E e n X Y) (ha : a < 2 ^ 20) (hop : op < 8) (hc0 : c0 ≤ 729)
    (hJ : ∀ n C X Y P t1 t2 t3 t4 t5 t6 t7 t8 t9 t10 t11 t12 t13 t14 t15 t16, wn_N n C X Y P → wn_E e n X Y → wn_St n C X Y P (t1, t2, t3, t4, t5, t6, t7, t8, t9, t10, t11, t12, t13, t14, t15, t16) → J e (nI n) (nI (i + 3)) t1 t2 t3 t4 t5 t6 t7 t8 t9 t10 t11 t12 t13 t14 t15 t16) : wL_law_298 post L xs J e (nI n) (nI i) (nI op) (nI a) (nI b) x9 (wn_li L0) (nI c0) (-1) kc ks t1 t2 t3 t4 t5 t6 t7 t8 t9 t10 t11 t12 t13 t14 t15 t16 := by
  have hn := hN.1.1
  have hJ1 : ∀ t1 t2 t3 t4 t5 t6 t7 t8 t9 t10 t11 t12 t13 t14 t15 t16, wn_St n C X Y P (t1, t2, t3, t4, t5, t6, t7, t8, t9, t10, t11, t12, t13, t14, t15, t16) → J e (nI n) (nI (i + 3)) t1 t2 t3 t4 t5 t6 t7 t8 t9 t10 t11 t12 t13 t14 t15 t16 := fun t1 t2 t3 t4 t5 t6 t7 t8 t9 t10 t11 t12 t13 t14 t15 t16 h => hJ n C X Y P t1 t2 t3 t4 t5 t6 t7 t8 t9 t10 t11 t12 t13 t14 t15 t16 hN hE h
  unfold wL_law_298
  refine pk_eq op 7 (fun z => br_c (fun _ => ?_) (fun _ => wn_343 hN hu hE ha hc0 (Or.inl rfl) hJ1)) (fun z => wn_343 hN hu hE ha hc0 (Or.inl rfl) hJ1)
  rcases n with _ | n
  · refine wn_drop0 hu ?_
    refine br_t rfl (br_t rfl (br_t (by decide) (wn_343 hN hu hE ha hc0 (Or.inl rfl) hJ1)))
  · refine wn_drop (by omega) hu ?_
    rintro ⟨t1, t2, t3, t4, t5, t6, t7, t8, t9, t10, t11, t12, t13, t14, t15, t16⟩ hu
    have hN' : wn_N n C X Y P := ⟨⟨by omega, fun t ht => hN.1.2 t (by omega)⟩, hN.2⟩
    have hE' : wn_E e n X Y := fun t ht => hE t (by omega)
    refine br_f (nI_ne0 (by omega) (by omega)) (br_t (nI_pred n).symm (br_f (nI_nle (by omega) (by omega)) (nm_r (pk_m1 n) (wn_343 hN' hu hE' ha hc0 (Or.inl rfl) (fun t1 t2 t3 t4 t5 t6 t7 t8 t9 t10 t11 t12 t13 t14 t15 t16 h => hJ n C X Y P t1 t2 t3 t4 t5 t6 t7 t8 t9 t10 t11 t12 t13 t14 t15 t16 hN' hE' h)))))
theorem wn_83 (hN : wn_N n C X Y P) (hu : wn_St n C X Y P (t1, t2, t3, t4, t5, t6, t7, t8, t9, t10, t11, t12, t13, t14, t15, t16)) (hE : wn_E e n X Y) (ha : a < 2 ^ 20) (hb : b < 2 ^ 20) (hc : c ≤ 20) (hop : op < 8)
    (hJ : ∀ e n C X Y P t1 t2 t3 t4 t5 t6 t7 t8 t9 t10 t11 t12 t13 t14 t15 t16, wn_N n C X Y P → wn_E e n X Y → wn_St n C X Y P (t1, t2, t3, t4, t5, t6, t7, t8, t9, t10, t11, t12, t13, t14, t15, t16) → J e (nI n) (nI (i + 3)) t1 t2 t3 t4 t5 t6 t7 t8 t9 t10 t11 t12 t13 t14 t15 t16) : wL_law_83 post L xs J e (nI n) (nI i) (nI op) (nI a) (nI b) (nI c) kc ks t1 t2 t3 t4 t5 t6 t7 t8 t9 t10 t11 t12 t13 t14 t15 t16 := by
  have hn := hN.1.1
  have hcl := wn_cnt_le (wn_U n C X Y P) 49999 729
  have e6 : nI a - nI a / 6 * 6 = nI (a % 6) := pk_rem (d := 6) (by omega) (by omega) (by omega)
  have e8 : nI a >>> ((8 : Int32) &&& 31) = nI (a / 2 ^ 8) := pk_shrN (by omega) _ 8 (by decide)
  have h6 : a % 6 < 6 := Nat.mod_lt _ (by omega)
  unfold wL_law_83
  refine wn_least hN hu ?_
  rintro ⟨t1, t2, t3, t4, t5, t6, t7, t8, t9, t10, t11, t12, t13, t14, t15, t16⟩ hu
  refine wn_allowed hN hu ?_
  rintro ⟨t1, t2, t3, t4, t5, t6, t7, t8, t9, t10, t11, t12, t13, t14, t15, t16⟩ hu
  refine pk_lt 2 op (fun z => pk_eq op 3 (fun y => ?_) (fun y => pk_lt 6 op (fun x => wn_298 hN hu hE ha hop hcl (hJ e)) (fun x => pk_le n 0 (fun w => wn_298 hN hu hE ha hop hcl (hJ e)) (fun w => ?_)))) (fun z => ?_)
  · have e5 : nI b - nI b / 5 * 5 = nI (b % 5) := pk_rem (d := 5) (by omega) (by omega) (by omega)
    have h5 : b % 5 < 5 := Nat.mod_lt _ (by omega)
    have eq : ((nI (a % 6) + 1) + (nI b - nI b / 5 * 5)) - ((nI (a % 6) + 1) + (nI b - nI b / 5 * 5)) / 6 * 6 = nI ((a % 6 + 1 + b % 5) % 6) := by
      rw [e5, nI_1, nI_add]
      exact pk_rem (d := 6) (by omega) (by omega) (by omega)
    have hq : (a % 6 + 1 + b % 5) % 6 < 6 := Nat.mod_lt _ (by omega)
    have hpq : a % 6 ≠ (a % 6 + 1 + b % 5) % 6 := by omega
    refine ⟨by decide, nm_r e6 ⟨by decide, by decide, nm_r eq ?_⟩⟩
    generalize a % 6 = p at *
    generalize (p + 1 + b % 5) % 6 = q at *
    rcases Nat.lt_or_ge n 8 with x | x
    · refine wn_table x hu h6 hq hpq ?_
      rintro P' ⟨t1, t2, t3, t4, t5, t6, t7, t8, t9, t10, t11, t12, t13, t14, t15, t16⟩ hclr hu'
      have hN' := wn_N_table hN x hclr h6 hq hpq
      have hU := wn_U_table (C := C) hN.1 hclr h6 hq
      have hE' := wn_E_put hE x h6 hq
      refine br_f (fun z => absurd ((nI_eq (b := 8) (by omega) (by omega)).mp z) (by omega)) (br_t rfl (br_f (nI_ge (b := 8) x (by omega)) (nm_e (br_f (nI_ge (b := 8) x (by omega)) (nm_r (nI_1 n) ?_)))))
      rw [← hU]
      exact wn_235 hN' hu' hE' ha (fun t1 t2 t3 t4 t5 t6 t7 t8 t9 t10 t11 t12 t13 t14 t15 t16 h => hJ _ _ _ _ _ _ t1 t2 t3 t4 t5 t6 t7 t8 t9 t10 t11 t12 t13 t14 t15 t16 hN' hE' h)
    · have en : n = 8 := by omega
      subst en
      refine wn_table8 hu h6 hq hpq ?_
      exact br_t rfl (br_t rfl (br_t (by decide) (br_t (by decide) (wn_235 hN hu hE ha (fun t1 t2 t3 t4 t5 t6 t7 t8 t9 t10 t11 t12 t13 t14 t15 t16 h => hJ _ _ _ _ _ _ t1 t2 t3 t4 t5 t6 t7 t8 t9 t10 t11 t12 t13 t14 t15 t16 hN hE h)))))
  · have en : nI a - nI a / nI n * nI n = nI (a % n) := pk_rem (by omega) w (by omega)
    have e9 : nI (a / 2 ^ 8) - nI (a / 2 ^ 8) / 9 * 9 = nI (a / 2 ^ 8 % 9) := pk_rem (d := 9) (by have := Nat.div_le_self a (2 ^ 8); omega) (by omega) (by omega)
    refine ⟨nI_ne0 w (by omega), by decide, ?_⟩
    rw [en, e8, e9]
    refine wn_pair hn hu (Nat.mod_lt _ w) (Nat.mod_lt _ (by omega)) hc ?_
    rintro ⟨t1, t2, t3, t4, t5, t6, t7, t8, t9, t10, t11, t12, t13, t14, t15, t16⟩ hu'
    have h20 := hN.2.2 (a % n * 9 + a / 2 ^ 8 % 9)
    have hN' : wn_N n C X Y (wn_up P (a % n * 9 + a / 2 ^ 8 % 9) c) := ⟨hN.1, hN.2.1, wn_up_20 hN.2.2 hc⟩
    refine br_t (nI_pos' (by omega)) (wn_343 hN' hu' hE ha hcl (Or.inr ⟨_, c, rfl, rfl, h20, hc, fun g => ?_⟩) (fun t1 t2 t3 t4 t5 t6 t7 t8 t9 t10 t11 t12 t13 t14 t15 t16 h => hJ _ _ _ _ _ _ t1 t2 t3 t4 t5 t6 t7 t8 t9 t10 t11 t12 t13 t14 t15 t16 hN' hE h))
    exact wn_mono2 (wn_U_mono (fun _ => Nat.le_refl _) (wn_up_mono g hc))
  · have e3 : nI (a / 2 ^ 8) - nI (a / 2 ^ 8) / 3 * 3 = nI (a / 2 ^ 8 % 3) := pk_rem (d := 3) (by have := Nat.div_le_self a (2 ^ 8); omega) (by omega) (by omega)
    refine ⟨by decide, by decide, ?_⟩
    rw [e6, e8, e3]
    refine wn_cost hu h6 (Nat.mod_lt _ (by omega)) hc ?_
    rintro ⟨t1, t2, t3, t4, t5, t6, t7, t8, t9, t10, t11, t12, t13, t14, t15, t16⟩ hu'
    have h20 := hN.2.1 (a % 6 * 3 + a / 2 ^ 8 % 3)
    have hN' : wn_N n (wn_up C (a % 6 * 3 + a / 2 ^ 8 % 3) c) X Y P := ⟨hN.1, wn_up_20 hN.2.1 hc, hN.2.2⟩
    refine br_t (nI_pos' (by omega)) (wn_343 hN' hu' hE ha hcl (Or.inr ⟨_, c, rfl, rfl, h20, hc, fun g => ?_⟩) (fun t1 t2 t3 t4 t5 t6 t7 t8 t9 t10 t11 t12 t13 t14 t15 t16 h => hJ _ _ _ _ _ _ t1 t2 t3 t4 t5 t6 t7 t8 t9 t10 t11 t12 t13 t14 t15 t16 hN' hE h))
    exact wn_mono2 (wn_U_mono (wn_up_mono g hc) (fun _ => Nat.le_refl _))
end
end
section
/-! the law's loop -/
theorem wn_law {post : Int32 → Prop} {L kc ks : Nat} {xs : Nat → Int32} (hL : L ≤ 260) (H : post 1) {e : Int64} {n : Nat} {C X Y P : Nat → Nat} {u : St1} (hN : wn_N n C X Y P) (hE : wn_E e n X Y) (hu : wn_St n C X Y P u) :
    ∃ k, (fun k s => wL_law_16 post L xs kc ks k e (nI n) 0 s.1 s.2.1 s.2.2.1 s.2.2.2.1 s.2.2.2.2.1 s.2.2.2.2.2.1 s.2.2.2.2.2.2.1 s.2.2.2.2.2.2.2.1 s.2.2.2.2.2.2.2.2.1 s.2.2.2.2.2.2.2.2.2.1 s.2.2.2.2.2.2.2.2.2.2.1 s.2.2.2.2.2.2.2.2.2.2.2.1 s.2.2.2.2.2.2.2.2.2.2.2.2.1 s.2.2.2.2.2.2.2.2.2.2.2.2.2.1 s.2.2.2.2.2.2.2.2.2.2.2.2.2.2.1 s.2.2.2.2.2.2.2.2.2.2.2.2.2.2.2) k u := by
  refine loop_m (σ := Int64 × Int32 × Int32 × St1) (fun k s => wL_law_16 post L xs kc ks k s.1 s.2.1 s.2.2.1 s.2.2.2.1 s.2.2.2.2.1 s.2.2.2.2.2.1 s.2.2.2.2.2.2.1 s.2.2.2.2.2.2.2.1 s.2.2.2.2.2.2.2.2.1 s.2.2.2.2.2.2.2.2.2.1 s.2.2.2.2.2.2.2.2.2.2.1 s.2.2.2.2.2.2.2.2.2.2.2.1 s.2.2.2.2.2.2.2.2.2.2.2.2.1 s.2.2.2.2.2.2.2.2.2.2.2.2.2.1 s.2.2.2.2.2.2.2.2.2.2.2.2.2.2.1 s.2.2.2.2.2.2.2.2.2.2.2.2.2.2.2.1 s.2.2.2.2.2.2.2.2.2.2.2.2.2.2.2.2.1 s.2.2.2.2.2.2.2.2.2.2.2.2.2.2.2.2.2.1 s.2.2.2.2.2.2.2.2.2.2.2.2.2.2.2.2.2.2)
    (fun s => ∃ n C X Y P i, s.2.1 = nI n ∧ s.2.2.1 = nI i ∧ i ≤ 130 ∧ wn_N n C X Y P ∧ wn_E s.1 n X Y ∧ wn_St n C X Y P s.2.2.2)
    (fun s => 200 - s.2.2.1.toNatClampNeg) ?_ (e, nI n, 0, u) ⟨n, C, X, Y, P, 0, rfl, rfl, by omega, hN, hE, hu⟩
  rintro k ⟨e, x4, x5, t1, t2, t3, t4, t5, t6, t7, t8, t9, t10, t11, t12, t13, t14, t15, t16⟩ ⟨n, C, X, Y, P, i, rfl, rfl, hi, hN, hE, hu⟩ hk
  rcases Nat.lt_or_ge L (i + 3) with z | z
  · refine br_t ?_ H
    show nI L - nI 3 < nI i
    rcases Nat.lt_or_ge L 3 with y | y
    · have h1 := pk_sneg (a := L) (b := 3) (by omega) y
      rw [Int32.lt_iff_toInt_lt] at h1 ⊢
      rw [nI_toInt (show i < 2 ^ 31 by omega)]
      have h0 : (0 : Int32).toInt = 0 := by decide
      omega
    · rw [pk_sub y]
      exact nI_lt (by omega) (by omega)
  · refine br_f ?_ ?_
    · show ¬ nI L - nI 3 < nI i
      rw [pk_sub (by omega)]
      exact nI_nlt (by omega) (by omega)
    · refine pk_le 120 i (fun _ => H) (fun y => ?_)
      obtain ⟨op, hop, eop⟩ := pk_andE (xs (nI i).toNatClampNeg) (m := 7) 3 (by decide)
      obtain ⟨a, ha, ea⟩ := pk_andE (xs (nI i + 1).toNatClampNeg) (m := 1048575) 20 (by decide)
      obtain ⟨b, hb, eb⟩ := pk_andE (xs (nI i + 2).toNatClampNeg) (m := 1048575) 20 (by decide)
      refine ⟨pk_in i L (by omega), nm_r eop ⟨pk_in (i + 1) L (by omega) (nI_1 i), nm_r ea ⟨pk_in (i + 2) L (by omega) (nI_add i 2), nm_r eb ?_⟩⟩⟩
      have hJ : ∀ e n C X Y P t1 t2 t3 t4 t5 t6 t7 t8 t9 t10 t11 t12 t13 t14 t15 t16, wn_N n C X Y P → wn_E e n X Y → wn_St n C X Y P (t1, t2, t3, t4, t5, t6, t7, t8, t9, t10, t11, t12, t13, t14, t15, t16) → wL_law_16 post L xs kc ks k e (nI n) (nI (i + 3)) t1 t2 t3 t4 t5 t6 t7 t8 t9 t10 t11 t12 t13 t14 t15 t16 := by
        intro e n C X Y P t1 t2 t3 t4 t5 t6 t7 t8 t9 t10 t11 t12 t13 t14 t15 t16 h1 h2 h3
        refine hk (e, nI n, nI (i + 3), (t1, t2, t3, t4, t5, t6, t7, t8, t9, t10, t11, t12, t13, t14, t15, t16)) ⟨n, C, X, Y, P, i + 3, rfl, rfl, by omega, h1, h2, h3⟩ ?_
        show 200 - (nI (i + 3)).toNatClampNeg < 200 - (nI i).toNatClampNeg
        rw [nI_clamp (by omega), nI_clamp (by omega)]
        omega
      refine br_c (fun _ => wn_83 (c := 20) hN hu hE ha hb (by omega) (by omega) hJ) (fun _ => ⟨by decide, ?_⟩)
      have e2 : nI b >>> ((2 : Int32) &&& 31) = nI (b / 2 ^ 2) := pk_shrN (by omega) _ 2 (by decide)
      have e20 : nI (b / 2 ^ 2) - nI (b / 2 ^ 2) / 20 * 20 = nI (b / 2 ^ 2 % 20) := pk_rem (d := 20) (by have := Nat.div_le_self b (2 ^ 2); omega) (by omega) (by omega)
      rw [e2, e20]
      exact wn_83 hN hu hE ha hb (Nat.le_of_lt (Nat.mod_lt _ (by omega))) (by omega) hJ
theorem i_vc (xs : Nat → Int32) (L : Nat) (hL : L ≤ 260) : wpL_law (fun r => r = 1) L xs := by
  refine ⟨11, 227, by omega, by omega, ?_⟩
  have hN : wn_N 0 (fun _ => 0) (fun _ => 0) (fun _ => 0) (fun _ => 0) := ⟨⟨by omega, fun t ht => absurd ht (by omega)⟩, fun _ => Nat.zero_le _, fun _ => Nat.zero_le _⟩
  have hE : wn_E 0 0 (fun _ => 0) (fun _ => 0) := fun t ht => absurd ht (by omega)
  refine ⟨by omega, by omega, by omega, by omega, by omega, by omega, by omega, by omega, by omega, by omega, by omega, by omega, by omega, by omega, by omega, by omega, by omega, by omega, by omega, by omega, by omega, by omega, ?_⟩
  have hu : wn_St 0 (fun _ => 0) (fun _ => 0) (fun _ => 0) (fun _ => 0) (0, 0, 0, 0, 0, fun _ => 0, fun _ => 0, fun _ => 0, fun _ => 0, fun _ => 0, fun _ => 0, fun _ => 0, fun _ => 0, fun _ => 0, fun _ => 0, fun _ => 0) :=
    ⟨0, 0, 0, 0, fun _ => 0, fun _ => 0, fun _ => 0, fun _ => 0, fun _ => 0, fun _ => 0, fun _ => 0, rfl, Or.inl rfl⟩
  obtain ⟨k, hk⟩ := wn_law (post := fun r => r = 1) (L := L) (kc := 1 + 11) (ks := 16 + 227) (xs := xs) hL rfl hN hE hu
  exact ⟨k, hk⟩
end

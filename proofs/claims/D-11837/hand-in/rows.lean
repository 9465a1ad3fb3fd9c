section
/-! sums, least values, products over the first k numbers -/
def bt_mn (f : Nat → Nat) : Nat → Nat
  | 0 => 100000
  | k + 1 => min (bt_mn f k) (f k)
def bt_sm (f : Nat → Nat) : Nat → Nat
  | 0 => 0
  | k + 1 => bt_sm f k + f k
def bt_pr (f : Nat → Nat) : Nat → Nat
  | 0 => 1
  | k + 1 => bt_pr f k * f k
def bt_ex (f : Nat → Bool) : Nat → Bool
  | 0 => false
  | k + 1 => bt_ex f k || f k
theorem bt_mn_le (f : Nat → Nat) {j k : Nat} (h : j < k) : bt_mn f k ≤ f j := by
  induction k with
  | zero => omega
  | succ k ih =>
    show min (bt_mn f k) (f k) ≤ f j
    by_cases e : j = k
    · rw [e]; omega
    · have := ih (by omega)
      omega
theorem bt_mn_cap (f : Nat → Nat) (k : Nat) : bt_mn f k ≤ 100000 := by
  induction k with
  | zero => exact Nat.le_refl _
  | succ k ih =>
    show min (bt_mn f k) (f k) ≤ 100000
    omega
theorem bt_mn_at (f : Nat → Nat) (k : Nat) (h : bt_mn f k < 100000) : ∃ j, j < k ∧ f j = bt_mn f k := by
  induction k with
  | zero => exact absurd h (Nat.lt_irrefl _)
  | succ k ih =>
    have e : bt_mn f (k + 1) = min (bt_mn f k) (f k) := rfl
    by_cases c : f k ≤ bt_mn f k
    · exact ⟨k, by omega, by omega⟩
    · obtain ⟨j, h1, h2⟩ := ih (by omega)
      exact ⟨j, by omega, by omega⟩
theorem bt_mn_4 (f : Nat → Nat) (h : f 0 < 100000) : ∃ j, j < 4 ∧ f j = bt_mn f 4 :=
  bt_mn_at f 4 (Nat.lt_of_le_of_lt (bt_mn_le f (by omega)) h)
theorem bt_mn_lt (f : Nat → Nat) (h : f 0 < 100000) : bt_mn f 4 < 100000 := Nat.lt_of_le_of_lt (bt_mn_le f (by omega)) h
theorem bt_mn_cg {f g : Nat → Nat} {k : Nat} (h : ∀ j, j < k → f j = g j) : bt_mn f k = bt_mn g k := by
  induction k with
  | zero => rfl
  | succ k ih =>
    show min (bt_mn f k) (f k) = min (bt_mn g k) (g k)
    rw [ih (fun j hj => h j (by omega)), h k (by omega)]
theorem bt_sm_cg {f g : Nat → Nat} {k : Nat} (h : ∀ j, j < k → f j = g j) : bt_sm f k = bt_sm g k := by
  induction k with
  | zero => rfl
  | succ k ih =>
    show bt_sm f k + f k = bt_sm g k + g k
    rw [ih (fun j hj => h j (by omega)), h k (by omega)]
theorem bt_sm_0 {f : Nat → Nat} {k : Nat} (h : ∀ j, j < k → f j = 0) : bt_sm f k = 0 := by
  induction k with
  | zero => rfl
  | succ k ih =>
    show bt_sm f k + f k = 0
    rw [ih (fun j hj => h j (by omega)), h k (by omega)]
theorem bt_sm_ad (f g : Nat → Nat) (k : Nat) : bt_sm (fun j => f j + g j) k = bt_sm f k + bt_sm g k := by
  induction k with
  | zero => rfl
  | succ k ih =>
    show bt_sm (fun j => f j + g j) k + (f k + g k) = (bt_sm f k + f k) + (bt_sm g k + g k)
    rw [ih]; omega
theorem bt_sm_mr (f : Nat → Nat) (a k : Nat) : bt_sm (fun j => f j * a) k = bt_sm f k * a := by
  induction k with
  | zero => show 0 = 0 * a; omega
  | succ k ih =>
    show bt_sm (fun j => f j * a) k + f k * a = (bt_sm f k + f k) * a
    rw [ih, Nat.add_mul]
theorem bt_sm_ml (f : Nat → Nat) (a k : Nat) : bt_sm (fun j => a * f j) k = a * bt_sm f k := by
  rw [Nat.mul_comm, ← bt_sm_mr]
  exact bt_sm_cg (fun j _ => Nat.mul_comm _ _)
theorem bt_sm_sw (g : Nat → Nat → Nat) (m n : Nat) : bt_sm (fun a => bt_sm (fun b => g a b) n) m = bt_sm (fun b => bt_sm (fun a => g a b) m) n := by
  induction m with
  | zero => exact (bt_sm_0 (fun j _ => rfl)).symm
  | succ m ih =>
    show bt_sm (fun a => bt_sm (fun b => g a b) n) m + bt_sm (fun b => g m b) n = bt_sm (fun b => bt_sm (fun a => g a b) m + g m b) n
    rw [ih, bt_sm_ad]
theorem bt_sm_bk (g : Nat → Nat) (k : Nat) : bt_sm g (4 * k) = bt_sm (fun u => bt_sm (fun s => g (4 * u + s)) 4) k := by
  induction k with
  | zero => rfl
  | succ k ih =>
    show bt_sm g (4 * k + 4) = bt_sm (fun u => bt_sm (fun s => g (4 * u + s)) 4) k + bt_sm (fun s => g (4 * k + s)) 4
    rw [← ih]
    show bt_sm g (4 * k) + g (4 * k) + g (4 * k + 1) + g (4 * k + 2) + g (4 * k + 3) = bt_sm g (4 * k) + (0 + g (4 * k + 0) + g (4 * k + 1) + g (4 * k + 2) + g (4 * k + 3))
    simp only [Nat.add_zero]
    omega
theorem bt_sm_64 (g : Nat → Nat) : bt_sm g 64 = bt_sm (fun s => bt_sm (fun t => bt_sm (fun u => g (s + 4 * t + 16 * u)) 4) 4) 4 := by
  have e1 : bt_sm g 64 = bt_sm (fun w => bt_sm (fun s => g (4 * w + s)) 4) 16 := bt_sm_bk g 16
  have e2 : bt_sm (fun w => bt_sm (fun s => g (4 * w + s)) 4) 16 = bt_sm (fun u => bt_sm (fun t => bt_sm (fun s => g (4 * (4 * u + t) + s)) 4) 4) 4 := bt_sm_bk (fun w => bt_sm (fun s => g (4 * w + s)) 4) 4
  have e3 : bt_sm (fun u => bt_sm (fun t => bt_sm (fun s => g (4 * (4 * u + t) + s)) 4) 4) 4 = bt_sm (fun u => bt_sm (fun s => bt_sm (fun t => g (4 * (4 * u + t) + s)) 4) 4) 4 :=
    bt_sm_cg (fun u _ => bt_sm_sw (fun t s => g (4 * (4 * u + t) + s)) 4 4)
  have e4 : bt_sm (fun u => bt_sm (fun s => bt_sm (fun t => g (4 * (4 * u + t) + s)) 4) 4) 4 = bt_sm (fun s => bt_sm (fun u => bt_sm (fun t => g (4 * (4 * u + t) + s)) 4) 4) 4 :=
    bt_sm_sw (fun u s => bt_sm (fun t => g (4 * (4 * u + t) + s)) 4) 4 4
  rw [e1, e2, e3, e4]
  refine bt_sm_cg (fun s _ => ?_)
  rw [bt_sm_sw (fun u t => g (4 * (4 * u + t) + s)) 4 4]
  refine bt_sm_cg (fun t _ => bt_sm_cg (fun u _ => ?_))
  rw [show 4 * (4 * u + t) + s = s + 4 * t + 16 * u by omega]
theorem bt_ex_iff (f : Nat → Bool) (k : Nat) : bt_ex f k = true ↔ ∃ j, j < k ∧ f j = true := by
  induction k with
  | zero => exact ⟨fun h => absurd (show false = true from h) (by decide), fun h => by obtain ⟨j, h, _⟩ := h; omega⟩
  | succ k ih =>
    show (bt_ex f k || f k) = true ↔ _
    rw [Bool.or_eq_true, ih]
    constructor
    · intro h
      rcases h with ⟨j, h1, h2⟩ | h
      · exact ⟨j, by omega, h2⟩
      · exact ⟨k, by omega, h⟩
    · intro h
      obtain ⟨j, h1, h2⟩ := h
      by_cases e : j = k
      · exact Or.inr (e ▸ h2)
      · exact Or.inl ⟨j, by omega, h2⟩
/-- a count of what is least: with a weight w, beside a fixed A -/
theorem bt_cnt {A m : Nat} {g w : Nat → Nat} (h : m ≤ A + bt_mn g 4) : bt_sm (fun u => if A + g u = m then w u else 0) 4 = if A + bt_mn g 4 = m then bt_sm (fun u => if g u = bt_mn g 4 then w u else 0) 4 else 0 := by
  by_cases e : A + bt_mn g 4 = m
  · rw [if_pos e]
    refine bt_sm_cg (fun u _ => ?_)
    by_cases c : g u = bt_mn g 4
    · rw [if_pos c, if_pos (by omega)]
    · rw [if_neg c, if_neg (by omega)]
  · rw [if_neg e]
    refine bt_sm_0 (fun u hu => ?_)
    have := bt_mn_le g hu
    exact if_neg (by omega)
/-! what BranchTrees works out, node by node -/
def bt_lu (C : Nat → Nat → Nat) (b : Nat → Nat) (s : Nat) : Nat := bt_mn (fun t => C s t + b t) 4
def bt_nu (C : Nat → Nat → Nat) (b m : Nat → Nat) (s : Nat) : Nat := bt_sm (fun t => if C s t + b t = bt_lu C b s then m t else 0) 4
def bt_su (R : Nat → Nat → Nat) (w : Nat → Nat) (s : Nat) : Nat := bt_sm (fun t => R s t * w t) 4
def bt_ac (C : Nat → Nat → Nat) (ap bo : Nat → Nat) (s : Nat) : Nat := bt_mn (fun t => ap t + bt_lu C bo t + C t s) 4
def bt_bl (v s : Nat) : Nat := if v = s then 0 else 100000
def bt_ml (v s : Nat) : Nat := if v = s then 1 else 0
def bt_bc (C : Nat → Nat → Nat) (p q : Nat → Nat) (s : Nat) : Nat := bt_lu C p s + bt_lu C q s
def bt_mc (C : Nat → Nat → Nat) (p pm q qm : Nat → Nat) (s : Nat) : Nat := bt_nu C p pm s * bt_nu C q qm s
def bt_wc (R : Nat → Nat → Nat) (p q : Nat → Nat) (s : Nat) : Nat := bt_su R p s * bt_su R q s
theorem bt_lu_cap (C : Nat → Nat → Nat) (b : Nat → Nat) (s : Nat) : bt_lu C b s ≤ 100000 := bt_mn_cap _ _
theorem bt_lu_l {C : Nat → Nat → Nat} (hC : ∀ s t, C s t ≤ 7) {v : Nat} (hv : v < 4) (s : Nat) : bt_lu C (bt_bl v) s = C s v := by
  have h := hC s v
  have : v = 0 ∨ v = 1 ∨ v = 2 ∨ v = 3 := by omega
  rcases this with e | e | e | e <;> subst e <;> simp [bt_lu, bt_mn, bt_bl] <;> omega
theorem bt_nu_l {C : Nat → Nat → Nat} (hC : ∀ s t, C s t ≤ 7) {v : Nat} (hv : v < 4) (s : Nat) : bt_nu C (bt_bl v) (bt_ml v) s = 1 := by
  unfold bt_nu
  rw [bt_lu_l hC hv]
  have h := hC s v
  have : v = 0 ∨ v = 1 ∨ v = 2 ∨ v = 3 := by omega
  rcases this with e | e | e | e <;> subst e <;> simp [bt_sm, bt_bl, bt_ml]
theorem bt_su_l {R : Nat → Nat → Nat} {v : Nat} (hv : v < 4) (s : Nat) : bt_su R (bt_ml v) s = R s v := by
  have : v = 0 ∨ v = 1 ∨ v = 2 ∨ v = 3 := by omega
  rcases this with e | e | e | e <;> subst e <;> simp [bt_su, bt_sm, bt_ml]
/-! the two trees: b true is the flat one -/
def bt_or (b : Bool) (i : Nat) : Nat := if b then [8, 9, 10, 0, 1, 2, 3].getD i 0 else [8, 0, 9, 1, 10, 2, 3].getD i 0
def bt_ln (b : Bool) (i : Nat) : Nat := if b then [1, 3, 5, 7, 7, 7, 7, 7].getD i 0 else [1, 3, 3, 5, 5, 7, 7, 7].getD i 0
def bt_c1 (b : Bool) (x : Nat) : Nat := if b then [0, 0, 0, 0, 0, 0, 0, 0, 9, 0, 2].getD x 0 else [0, 0, 0, 0, 0, 0, 0, 0, 0, 1, 2].getD x 0
def bt_c2 (b : Bool) (x : Nat) : Nat := if b then [0, 0, 0, 0, 0, 0, 0, 0, 10, 1, 3].getD x 0 else [0, 0, 0, 0, 0, 0, 0, 0, 9, 10, 3].getD x 0
def bt_pa (b : Bool) (x : Nat) : Nat := if b then [9, 9, 10, 10, 0, 0, 0, 0, 0, 8, 8].getD x 0 else [8, 9, 10, 10, 0, 0, 0, 0, 0, 8, 9].getD x 0
def bt_si (b : Bool) (x : Nat) : Nat := if b then [1, 0, 3, 2, 0, 0, 0, 0, 0, 10, 9].getD x 0 else [9, 10, 3, 2, 0, 0, 0, 0, 0, 0, 1].getD x 0
theorem bt_tr1 (b : Bool) : ∀ i, i < 7 → bt_or b i < 11 ∧ i < bt_ln b i ∧ bt_ln b i ≤ 7 ∧ (bt_or b i < 8 → bt_or b i < 4 ∧ bt_ln b (i + 1) = bt_ln b i) ∧ (8 ≤ bt_or b i → bt_ln b i + 2 ≤ 7 ∧ bt_ln b (i + 1) = bt_ln b i + 2 ∧ bt_or b (bt_ln b i) = bt_c1 b (bt_or b i) ∧ bt_or b (bt_ln b i + 1) = bt_c2 b (bt_or b i)) := by
  cases b <;> decide
theorem bt_tr2 (b : Bool) : ∀ i, i < 7 → ∀ j, j < 7 → bt_or b i = bt_or b j → i = j := by
  cases b <;> decide
theorem bt_tr3 (b : Bool) : ∀ i, i < 7 → 1 ≤ i → bt_pa b (bt_or b i) < 11 ∧ 8 ≤ bt_pa b (bt_or b i) ∧ bt_si b (bt_or b i) < 11 ∧ (bt_c1 b (bt_pa b (bt_or b i)) = bt_or b i → bt_c2 b (bt_pa b (bt_or b i)) = bt_si b (bt_or b i)) ∧ (¬ bt_c1 b (bt_pa b (bt_or b i)) = bt_or b i → bt_c1 b (bt_pa b (bt_or b i)) = bt_si b (bt_or b i)) := by
  cases b <;> decide
theorem bt_tr4 (b : Bool) : ∀ i, i < 7 → 1 ≤ i → ∃ k, k < i ∧ bt_or b k = bt_pa b (bt_or b i) := by
  cases b <;> decide
theorem bt_tr5 (b : Bool) : ∀ i, i < 7 → 1 ≤ i → ∃ k, k < 7 ∧ bt_or b k = bt_si b (bt_or b i) := by
  cases b <;> decide
def bt_b10 (C : Nat → Nat → Nat) (v : Nat → Nat) : Nat → Nat := bt_bc C (bt_bl (v 2)) (bt_bl (v 3))
def bt_b9 (b : Bool) (C : Nat → Nat → Nat) (v : Nat → Nat) : Nat → Nat := if b then bt_bc C (bt_bl (v 0)) (bt_bl (v 1)) else bt_bc C (bt_bl (v 1)) (bt_b10 C v)
def bt_b8 (b : Bool) (C : Nat → Nat → Nat) (v : Nat → Nat) : Nat → Nat := if b then bt_bc C (bt_b9 b C v) (bt_b10 C v) else bt_bc C (bt_bl (v 0)) (bt_b9 b C v)
def bt_Be (b : Bool) (C : Nat → Nat → Nat) (v : Nat → Nat) (x : Nat) : Nat → Nat := if x < 8 then bt_bl (v x) else if x = 8 then bt_b8 b C v else if x = 9 then bt_b9 b C v else bt_b10 C v
def bt_m10 (C : Nat → Nat → Nat) (v : Nat → Nat) : Nat → Nat := bt_mc C (bt_bl (v 2)) (bt_ml (v 2)) (bt_bl (v 3)) (bt_ml (v 3))
def bt_m9 (b : Bool) (C : Nat → Nat → Nat) (v : Nat → Nat) : Nat → Nat := if b then bt_mc C (bt_bl (v 0)) (bt_ml (v 0)) (bt_bl (v 1)) (bt_ml (v 1)) else bt_mc C (bt_bl (v 1)) (bt_ml (v 1)) (bt_b10 C v) (bt_m10 C v)
def bt_m8 (b : Bool) (C : Nat → Nat → Nat) (v : Nat → Nat) : Nat → Nat := if b then bt_mc C (bt_b9 b C v) (bt_m9 b C v) (bt_b10 C v) (bt_m10 C v) else bt_mc C (bt_bl (v 0)) (bt_ml (v 0)) (bt_b9 b C v) (bt_m9 b C v)
def bt_Ma (b : Bool) (C : Nat → Nat → Nat) (v : Nat → Nat) (x : Nat) : Nat → Nat := if x < 8 then bt_ml (v x) else if x = 8 then bt_m8 b C v else if x = 9 then bt_m9 b C v else bt_m10 C v
def bt_w10 (R : Nat → Nat → Nat) (v : Nat → Nat) : Nat → Nat := bt_wc R (bt_ml (v 2)) (bt_ml (v 3))
def bt_w9 (b : Bool) (R : Nat → Nat → Nat) (v : Nat → Nat) : Nat → Nat := if b then bt_wc R (bt_ml (v 0)) (bt_ml (v 1)) else bt_wc R (bt_ml (v 1)) (bt_w10 R v)
def bt_w8 (b : Bool) (R : Nat → Nat → Nat) (v : Nat → Nat) : Nat → Nat := if b then bt_wc R (bt_w9 b R v) (bt_w10 R v) else bt_wc R (bt_ml (v 0)) (bt_w9 b R v)
def bt_We (b : Bool) (R : Nat → Nat → Nat) (v : Nat → Nat) (x : Nat) : Nat → Nat := if x < 8 then bt_ml (v x) else if x = 8 then bt_w8 b R v else if x = 9 then bt_w9 b R v else bt_w10 R v
def bt_a8 : Nat → Nat := fun _ => 0
def bt_a9 (b : Bool) (C : Nat → Nat → Nat) (v : Nat → Nat) : Nat → Nat := bt_ac C bt_a8 (bt_Be b C v (bt_si b 9))
def bt_a10 (b : Bool) (C : Nat → Nat → Nat) (v : Nat → Nat) : Nat → Nat := bt_ac C (if b then bt_a8 else bt_a9 b C v) (bt_Be b C v (bt_si b 10))
def bt_ai (b : Bool) (C : Nat → Nat → Nat) (v : Nat → Nat) (x : Nat) : Nat → Nat := if x = 8 then bt_a8 else if x = 9 then bt_a9 b C v else bt_a10 b C v
def bt_Ab (b : Bool) (C : Nat → Nat → Nat) (v : Nat → Nat) (x : Nat) : Nat → Nat := if x < 8 then bt_ac C (bt_ai b C v (bt_pa b x)) (bt_Be b C v (bt_si b x)) else bt_ai b C v x
theorem bt_Be_l (b : Bool) (C : Nat → Nat → Nat) (v : Nat → Nat) {x : Nat} (h : x < 8) : bt_Be b C v x = bt_bl (v x) := if_pos h
theorem bt_Ma_l (b : Bool) (C : Nat → Nat → Nat) (v : Nat → Nat) {x : Nat} (h : x < 8) : bt_Ma b C v x = bt_ml (v x) := if_pos h
theorem bt_We_l (b : Bool) (R : Nat → Nat → Nat) (v : Nat → Nat) {x : Nat} (h : x < 8) : bt_We b R v x = bt_ml (v x) := if_pos h
theorem bt_in3 {x : Nat} (h : 8 ≤ x) (h2 : x < 11) : x = 8 ∨ x = 9 ∨ x = 10 := by omega
theorem bt_Be_i (b : Bool) (C : Nat → Nat → Nat) (v : Nat → Nat) {x : Nat} (h : 8 ≤ x) (h2 : x < 11) : bt_Be b C v x = bt_bc C (bt_Be b C v (bt_c1 b x)) (bt_Be b C v (bt_c2 b x)) := by
  rcases bt_in3 h h2 with e | e | e <;> subst e <;> cases b <;> rfl
theorem bt_Ma_i (b : Bool) (C : Nat → Nat → Nat) (v : Nat → Nat) {x : Nat} (h : 8 ≤ x) (h2 : x < 11) : bt_Ma b C v x = bt_mc C (bt_Be b C v (bt_c1 b x)) (bt_Ma b C v (bt_c1 b x)) (bt_Be b C v (bt_c2 b x)) (bt_Ma b C v (bt_c2 b x)) := by
  rcases bt_in3 h h2 with e | e | e <;> subst e <;> cases b <;> rfl
theorem bt_We_i (b : Bool) (R : Nat → Nat → Nat) (v : Nat → Nat) {x : Nat} (h : 8 ≤ x) (h2 : x < 11) : bt_We b R v x = bt_wc R (bt_We b R v (bt_c1 b x)) (bt_We b R v (bt_c2 b x)) := by
  rcases bt_in3 h h2 with e | e | e <;> subst e <;> cases b <;> rfl
theorem bt_Ab_i (b : Bool) (C : Nat → Nat → Nat) (v : Nat → Nat) : ∀ i, i < 7 → 1 ≤ i → bt_Ab b C v (bt_or b i) = bt_ac C (bt_Ab b C v (bt_pa b (bt_or b i))) (bt_Be b C v (bt_si b (bt_or b i))) := by
  intro i h h1
  have : i = 1 ∨ i = 2 ∨ i = 3 ∨ i = 4 ∨ i = 5 ∨ i = 6 := by omega
  rcases this with e | e | e | e | e | e <;> subst e <;> cases b <;> rfl
theorem bt_Be_cap (b : Bool) (C : Nat → Nat → Nat) (v : Nat → Nat) {x : Nat} (h2 : x < 11) (s : Nat) : bt_Be b C v x s ≤ 200000 := by
  by_cases h : x < 8
  · rw [bt_Be_l b C v h]
    unfold bt_bl
    split <;> omega
  · rw [bt_Be_i b C v (by omega) h2]
    have e1 := bt_lu_cap C (bt_Be b C v (bt_c1 b x)) s
    have e2 := bt_lu_cap C (bt_Be b C v (bt_c2 b x)) s
    unfold bt_bc
    omega
theorem bt_ac_cap (C : Nat → Nat → Nat) (p q : Nat → Nat) (s : Nat) : bt_ac C p q s ≤ 100000 := bt_mn_cap _ _
theorem bt_Ab_cap (b : Bool) (C : Nat → Nat → Nat) (v : Nat → Nat) (x s : Nat) : bt_Ab b C v x s ≤ 100000 := by
  unfold bt_Ab
  split
  · exact bt_ac_cap _ _ _ _
  · unfold bt_ai
    split
    · exact Nat.zero_le _
    · split
      · exact bt_ac_cap _ _ _ _
      · exact bt_ac_cap _ _ _ _
theorem bt_tr6 (b : Bool) : ∀ x, x < 11 → bt_c1 b x < 11 ∧ bt_c2 b x < 11 := by
  cases b <;> decide
end
section
/-! what the law works out: all 64 ways to fill the three inner nodes -/
def bt_ls (f : Nat → Nat) : Nat → Nat
  | 0 => 9999
  | k + 1 => min (bt_ls f k) (f k)
theorem bt_ls_le (f : Nat → Nat) {j k : Nat} (h : j < k) : bt_ls f k ≤ f j := by
  induction k with
  | zero => omega
  | succ k ih =>
    show min (bt_ls f k) (f k) ≤ f j
    by_cases e : j = k
    · rw [e]; omega
    · have := ih (by omega)
      omega
theorem bt_ls_cap (f : Nat → Nat) (k : Nat) : bt_ls f k ≤ 9999 := by
  induction k with
  | zero => exact Nat.le_refl _
  | succ k ih =>
    show min (bt_ls f k) (f k) ≤ 9999
    omega
theorem bt_ls_at (f : Nat → Nat) (k : Nat) (h : bt_ls f k < 9999) : ∃ j, j < k ∧ f j = bt_ls f k := by
  induction k with
  | zero => exact absurd h (Nat.lt_irrefl _)
  | succ k ih =>
    have e : bt_ls f (k + 1) = min (bt_ls f k) (f k) := rfl
    by_cases c : f k ≤ bt_ls f k
    · exact ⟨k, by omega, by omega⟩
    · obtain ⟨j, h1, h2⟩ := ih (by omega)
      exact ⟨j, by omega, by omega⟩
def bt_up (b : Bool) (k : Nat) : Nat := if b then [1, 1, 2, 2, 0, 0].getD k 0 else [0, 1, 2, 2, 0, 1].getD k 0
def bt_nt (v : Nat → Nat) (j k : Nat) : Nat := if k < 4 then v k else if k = 4 then j / 4 % 4 else j / 16 % 4
def bt_ns (b : Bool) (j k : Nat) : Nat := j / 4 ^ (bt_up b k) % 4
def bt_S (b : Bool) (C : Nat → Nat → Nat) (v : Nat → Nat) (j : Nat) : Nat := bt_sm (fun k => C (bt_ns b j k) (bt_nt v j k)) 6
def bt_P (b : Bool) (R : Nat → Nat → Nat) (v : Nat → Nat) (j : Nat) : Nat := bt_pr (fun k => R (bt_ns b j k) (bt_nt v j k)) 6
theorem bt_dg {s t u : Nat} (hs : s < 4) (ht : t < 4) (hu : u < 4) : (s + 4 * t + 16 * u) / 1 % 4 = s ∧ (s + 4 * t + 16 * u) / 4 % 4 = t ∧ (s + 4 * t + 16 * u) / 16 % 4 = u := by omega
theorem bt_S_t (C : Nat → Nat → Nat) (v : Nat → Nat) {s t u : Nat} (hs : s < 4) (ht : t < 4) (hu : u < 4) : bt_S true C v (s + 4 * t + 16 * u) = (C s t + (C t (v 0) + C t (v 1))) + (C s u + (C u (v 2) + C u (v 3))) := by
  obtain ⟨e1, e2, e3⟩ := bt_dg hs ht hu
  have e : bt_S true C v (s + 4 * t + 16 * u) = 0 + C ((s + 4 * t + 16 * u) / 4 % 4) (v 0) + C ((s + 4 * t + 16 * u) / 4 % 4) (v 1) + C ((s + 4 * t + 16 * u) / 16 % 4) (v 2) + C ((s + 4 * t + 16 * u) / 16 % 4) (v 3) + C ((s + 4 * t + 16 * u) / 1 % 4) ((s + 4 * t + 16 * u) / 4 % 4) + C ((s + 4 * t + 16 * u) / 1 % 4) ((s + 4 * t + 16 * u) / 16 % 4) := rfl
  rw [e, e1, e2, e3]
  omega
theorem bt_S_f (C : Nat → Nat → Nat) (v : Nat → Nat) {s t u : Nat} (hs : s < 4) (ht : t < 4) (hu : u < 4) : bt_S false C v (s + 4 * t + 16 * u) = C s (v 0) + (C s t + (C t (v 1) + (C t u + (C u (v 2) + C u (v 3))))) := by
  obtain ⟨e1, e2, e3⟩ := bt_dg hs ht hu
  have e : bt_S false C v (s + 4 * t + 16 * u) = 0 + C ((s + 4 * t + 16 * u) / 1 % 4) (v 0) + C ((s + 4 * t + 16 * u) / 4 % 4) (v 1) + C ((s + 4 * t + 16 * u) / 16 % 4) (v 2) + C ((s + 4 * t + 16 * u) / 16 % 4) (v 3) + C ((s + 4 * t + 16 * u) / 1 % 4) ((s + 4 * t + 16 * u) / 4 % 4) + C ((s + 4 * t + 16 * u) / 4 % 4) ((s + 4 * t + 16 * u) / 16 % 4) := rfl
  rw [e, e1, e2, e3]
  omega
theorem bt_P_t (R : Nat → Nat → Nat) (v : Nat → Nat) {s t u : Nat} (hs : s < 4) (ht : t < 4) (hu : u < 4) : bt_P true R v (s + 4 * t + 16 * u) = (R s t * (R t (v 0) * R t (v 1))) * (R s u * (R u (v 2) * R u (v 3))) := by
  obtain ⟨e1, e2, e3⟩ := bt_dg hs ht hu
  have e : bt_P true R v (s + 4 * t + 16 * u) = 1 * R ((s + 4 * t + 16 * u) / 4 % 4) (v 0) * R ((s + 4 * t + 16 * u) / 4 % 4) (v 1) * R ((s + 4 * t + 16 * u) / 16 % 4) (v 2) * R ((s + 4 * t + 16 * u) / 16 % 4) (v 3) * R ((s + 4 * t + 16 * u) / 1 % 4) ((s + 4 * t + 16 * u) / 4 % 4) * R ((s + 4 * t + 16 * u) / 1 % 4) ((s + 4 * t + 16 * u) / 16 % 4) := rfl
  rw [e, e1, e2, e3, Nat.one_mul]
  ac_rfl
theorem bt_P_f (R : Nat → Nat → Nat) (v : Nat → Nat) {s t u : Nat} (hs : s < 4) (ht : t < 4) (hu : u < 4) : bt_P false R v (s + 4 * t + 16 * u) = R s (v 0) * (R s t * (R t (v 1) * (R t u * (R u (v 2) * R u (v 3))))) := by
  obtain ⟨e1, e2, e3⟩ := bt_dg hs ht hu
  have e : bt_P false R v (s + 4 * t + 16 * u) = 1 * R ((s + 4 * t + 16 * u) / 1 % 4) (v 0) * R ((s + 4 * t + 16 * u) / 4 % 4) (v 1) * R ((s + 4 * t + 16 * u) / 16 % 4) (v 2) * R ((s + 4 * t + 16 * u) / 16 % 4) (v 3) * R ((s + 4 * t + 16 * u) / 1 % 4) ((s + 4 * t + 16 * u) / 4 % 4) * R ((s + 4 * t + 16 * u) / 4 % 4) ((s + 4 * t + 16 * u) / 16 % 4) := rfl
  rw [e, e1, e2, e3, Nat.one_mul]
  ac_rfl
theorem bt_lu_le (C : Nat → Nat → Nat) (b : Nat → Nat) (s : Nat) {t : Nat} (h : t < 4) : bt_lu C b s ≤ C s t + b t := bt_mn_le _ h
theorem bt_lu_at (C : Nat → Nat → Nat) (b : Nat → Nat) (s : Nat) (h : C s 0 + b 0 < 100000) : ∃ t, t < 4 ∧ C s t + b t = bt_lu C b s := bt_mn_4 _ h
theorem bt_b10_v {C : Nat → Nat → Nat} (hC : ∀ s t, C s t ≤ 7) {v : Nat → Nat} (hv : ∀ i, i < 4 → v i < 4) (s : Nat) : bt_b10 C v s = C s (v 2) + C s (v 3) := by
  show bt_lu C (bt_bl (v 2)) s + bt_lu C (bt_bl (v 3)) s = _
  rw [bt_lu_l hC (hv 2 (by omega)), bt_lu_l hC (hv 3 (by omega))]
theorem bt_b9_t {C : Nat → Nat → Nat} (hC : ∀ s t, C s t ≤ 7) {v : Nat → Nat} (hv : ∀ i, i < 4 → v i < 4) (s : Nat) : bt_b9 true C v s = C s (v 0) + C s (v 1) := by
  show bt_lu C (bt_bl (v 0)) s + bt_lu C (bt_bl (v 1)) s = _
  rw [bt_lu_l hC (hv 0 (by omega)), bt_lu_l hC (hv 1 (by omega))]
theorem bt_b9_f {C : Nat → Nat → Nat} (hC : ∀ s t, C s t ≤ 7) {v : Nat → Nat} (hv : ∀ i, i < 4 → v i < 4) (s : Nat) : bt_b9 false C v s = C s (v 1) + bt_lu C (bt_b10 C v) s := by
  show bt_lu C (bt_bl (v 1)) s + bt_lu C (bt_b10 C v) s = _
  rw [bt_lu_l hC (hv 1 (by omega))]
theorem bt_b8_f {C : Nat → Nat → Nat} (hC : ∀ s t, C s t ≤ 7) {v : Nat → Nat} (hv : ∀ i, i < 4 → v i < 4) (s : Nat) : bt_b8 false C v s = C s (v 0) + bt_lu C (bt_b9 false C v) s := by
  show bt_lu C (bt_bl (v 0)) s + bt_lu C (bt_b9 false C v) s = _
  rw [bt_lu_l hC (hv 0 (by omega))]
theorem bt_m10_v {C : Nat → Nat → Nat} (hC : ∀ s t, C s t ≤ 7) {v : Nat → Nat} (hv : ∀ i, i < 4 → v i < 4) (s : Nat) : bt_m10 C v s = 1 := by
  show bt_nu C (bt_bl (v 2)) (bt_ml (v 2)) s * bt_nu C (bt_bl (v 3)) (bt_ml (v 3)) s = 1
  rw [bt_nu_l hC (hv 2 (by omega)), bt_nu_l hC (hv 3 (by omega))]
theorem bt_m9_t {C : Nat → Nat → Nat} (hC : ∀ s t, C s t ≤ 7) {v : Nat → Nat} (hv : ∀ i, i < 4 → v i < 4) (s : Nat) : bt_m9 true C v s = 1 := by
  show bt_nu C (bt_bl (v 0)) (bt_ml (v 0)) s * bt_nu C (bt_bl (v 1)) (bt_ml (v 1)) s = 1
  rw [bt_nu_l hC (hv 0 (by omega)), bt_nu_l hC (hv 1 (by omega))]
theorem bt_m9_f {C : Nat → Nat → Nat} (hC : ∀ s t, C s t ≤ 7) {v : Nat → Nat} (hv : ∀ i, i < 4 → v i < 4) (s : Nat) : bt_m9 false C v s = bt_nu C (bt_b10 C v) (bt_m10 C v) s := by
  show bt_nu C (bt_bl (v 1)) (bt_ml (v 1)) s * bt_nu C (bt_b10 C v) (bt_m10 C v) s = _
  rw [bt_nu_l hC (hv 1 (by omega)), Nat.one_mul]
theorem bt_m8_f {C : Nat → Nat → Nat} (hC : ∀ s t, C s t ≤ 7) {v : Nat → Nat} (hv : ∀ i, i < 4 → v i < 4) (s : Nat) : bt_m8 false C v s = bt_nu C (bt_b9 false C v) (bt_m9 false C v) s := by
  show bt_nu C (bt_bl (v 0)) (bt_ml (v 0)) s * bt_nu C (bt_b9 false C v) (bt_m9 false C v) s = _
  rw [bt_nu_l hC (hv 0 (by omega)), Nat.one_mul]
theorem bt_lu10_at {C : Nat → Nat → Nat} (hC : ∀ s t, C s t ≤ 7) {v : Nat → Nat} (hv : ∀ i, i < 4 → v i < 4) (s : Nat) : ∃ u, u < 4 ∧ C s u + (C u (v 2) + C u (v 3)) = bt_lu C (bt_b10 C v) s := by
  have h1 := hC s 0
  have h2 := hC 0 (v 2)
  have h3 := hC 0 (v 3)
  obtain ⟨u, h, e⟩ := bt_lu_at C (bt_b10 C v) s (by rw [bt_b10_v hC hv]; omega)
  exact ⟨u, h, by rw [← e, bt_b10_v hC hv]⟩
theorem bt_lu10_le {C : Nat → Nat → Nat} (hC : ∀ s t, C s t ≤ 7) {v : Nat → Nat} (hv : ∀ i, i < 4 → v i < 4) (s : Nat) {u : Nat} (hu : u < 4) : bt_lu C (bt_b10 C v) s ≤ C s u + (C u (v 2) + C u (v 3)) := by
  have e := bt_lu_le C (bt_b10 C v) s hu
  rw [bt_b10_v hC hv] at e
  exact e
theorem bt_lu9t_at {C : Nat → Nat → Nat} (hC : ∀ s t, C s t ≤ 7) {v : Nat → Nat} (hv : ∀ i, i < 4 → v i < 4) (s : Nat) : ∃ t, t < 4 ∧ C s t + (C t (v 0) + C t (v 1)) = bt_lu C (bt_b9 true C v) s := by
  have h1 := hC s 0
  have h2 := hC 0 (v 0)
  have h3 := hC 0 (v 1)
  obtain ⟨u, h, e⟩ := bt_lu_at C (bt_b9 true C v) s (by rw [bt_b9_t hC hv]; omega)
  exact ⟨u, h, by rw [← e, bt_b9_t hC hv]⟩
theorem bt_lu9t_le {C : Nat → Nat → Nat} (hC : ∀ s t, C s t ≤ 7) {v : Nat → Nat} (hv : ∀ i, i < 4 → v i < 4) (s : Nat) {t : Nat} (ht : t < 4) : bt_lu C (bt_b9 true C v) s ≤ C s t + (C t (v 0) + C t (v 1)) := by
  have e := bt_lu_le C (bt_b9 true C v) s ht
  rw [bt_b9_t hC hv] at e
  exact e
theorem bt_lu10_sm {C : Nat → Nat → Nat} (hC : ∀ s t, C s t ≤ 7) {v : Nat → Nat} (hv : ∀ i, i < 4 → v i < 4) (s : Nat) : bt_lu C (bt_b10 C v) s ≤ 21 := by
  have h1 := hC s 0
  have h2 := hC 0 (v 2)
  have h3 := hC 0 (v 3)
  have := bt_lu10_le hC hv s (u := 0) (by omega)
  omega
theorem bt_lu9t_sm {C : Nat → Nat → Nat} (hC : ∀ s t, C s t ≤ 7) {v : Nat → Nat} (hv : ∀ i, i < 4 → v i < 4) (s : Nat) : bt_lu C (bt_b9 true C v) s ≤ 21 := by
  have h1 := hC s 0
  have h2 := hC 0 (v 0)
  have h3 := hC 0 (v 1)
  have := bt_lu9t_le hC hv s (t := 0) (by omega)
  omega
theorem bt_lu9f_at {C : Nat → Nat → Nat} (hC : ∀ s t, C s t ≤ 7) {v : Nat → Nat} (hv : ∀ i, i < 4 → v i < 4) (s : Nat) : ∃ t, t < 4 ∧ C s t + (C t (v 1) + bt_lu C (bt_b10 C v) t) = bt_lu C (bt_b9 false C v) s := by
  have h1 := hC s 0
  have h2 := hC 0 (v 1)
  have h3 := bt_lu10_sm hC hv 0
  obtain ⟨u, h, e⟩ := bt_lu_at C (bt_b9 false C v) s (by rw [bt_b9_f hC hv]; omega)
  exact ⟨u, h, by rw [← e, bt_b9_f hC hv]⟩
theorem bt_lu9f_le {C : Nat → Nat → Nat} (hC : ∀ s t, C s t ≤ 7) {v : Nat → Nat} (hv : ∀ i, i < 4 → v i < 4) (s : Nat) {t : Nat} (ht : t < 4) : bt_lu C (bt_b9 false C v) s ≤ C s t + (C t (v 1) + bt_lu C (bt_b10 C v) t) := by
  have e := bt_lu_le C (bt_b9 false C v) s ht
  rw [bt_b9_f hC hv] at e
  exact e
/-! the root's least costs are the least sums with that state at the root -/
theorem bt_8_le {C : Nat → Nat → Nat} (hC : ∀ s t, C s t ≤ 7) {v : Nat → Nat} (hv : ∀ i, i < 4 → v i < 4) (b : Bool) {s t u : Nat} (hs : s < 4) (ht : t < 4) (hu : u < 4) : bt_b8 b C v s ≤ bt_S b C v (s + 4 * t + 16 * u) := by
  cases b
  · rw [bt_S_f C v hs ht hu, bt_b8_f hC hv]
    have h1 := bt_lu9f_le hC hv s ht
    have h2 := bt_lu10_le hC hv t hu
    omega
  · rw [bt_S_t C v hs ht hu]
    show bt_lu C (bt_b9 true C v) s + bt_lu C (bt_b10 C v) s ≤ _
    have h1 := bt_lu9t_le hC hv s ht
    have h2 := bt_lu10_le hC hv s hu
    omega
theorem bt_8_at {C : Nat → Nat → Nat} (hC : ∀ s t, C s t ≤ 7) {v : Nat → Nat} (hv : ∀ i, i < 4 → v i < 4) (b : Bool) {s : Nat} (hs : s < 4) : ∃ t u, t < 4 ∧ u < 4 ∧ bt_b8 b C v s = bt_S b C v (s + 4 * t + 16 * u) := by
  cases b
  · obtain ⟨t, ht, e1⟩ := bt_lu9f_at hC hv s
    obtain ⟨u, hu, e2⟩ := bt_lu10_at hC hv t
    refine ⟨t, u, ht, hu, ?_⟩
    rw [bt_S_f C v hs ht hu, bt_b8_f hC hv]
    omega
  · obtain ⟨t, ht, e1⟩ := bt_lu9t_at hC hv s
    obtain ⟨u, hu, e2⟩ := bt_lu10_at hC hv s
    refine ⟨t, u, ht, hu, ?_⟩
    rw [bt_S_t C v hs ht hu]
    show bt_lu C (bt_b9 true C v) s + bt_lu C (bt_b10 C v) s = _
    omega
/-! node 10: what is below and what is not sum up to the least sums with that state there -/
theorem bt_a10_tv {C : Nat → Nat → Nat} {v : Nat → Nat} (u : Nat) : bt_a10 true C v u = bt_mn (fun s => 0 + bt_lu C (bt_b9 true C v) s + C s u) 4 := rfl
theorem bt_a9_fv {C : Nat → Nat → Nat} (hC : ∀ s t, C s t ≤ 7) {v : Nat → Nat} (hv : ∀ i, i < 4 → v i < 4) (t : Nat) : bt_a9 false C v t = bt_mn (fun s => 0 + C s (v 0) + C s t) 4 := by
  show bt_mn (fun s => 0 + bt_lu C (bt_bl (v 0)) s + C s t) 4 = _
  refine bt_mn_cg (fun s _ => ?_)
  rw [bt_lu_l hC (hv 0 (by omega))]
theorem bt_a10_fv {C : Nat → Nat → Nat} (hC : ∀ s t, C s t ≤ 7) {v : Nat → Nat} (hv : ∀ i, i < 4 → v i < 4) (u : Nat) : bt_a10 false C v u = bt_mn (fun t => bt_a9 false C v t + C t (v 1) + C t u) 4 := by
  show bt_mn (fun t => bt_a9 false C v t + bt_lu C (bt_bl (v 1)) t + C t u) 4 = _
  refine bt_mn_cg (fun s _ => ?_)
  rw [bt_lu_l hC (hv 1 (by omega))]
theorem bt_10_le {C : Nat → Nat → Nat} (hC : ∀ s t, C s t ≤ 7) {v : Nat → Nat} (hv : ∀ i, i < 4 → v i < 4) (b : Bool) {s t u : Nat} (hs : s < 4) (ht : t < 4) (hu : u < 4) : bt_b10 C v u + bt_a10 b C v u ≤ bt_S b C v (s + 4 * t + 16 * u) := by
  rw [bt_b10_v hC hv]
  cases b
  · rw [bt_S_f C v hs ht hu, bt_a10_fv hC hv]
    have h1 := bt_mn_le (fun t => bt_a9 false C v t + C t (v 1) + C t u) ht
    have h2 := bt_mn_le (fun s => 0 + C s (v 0) + C s t) hs
    have h3 := bt_a9_fv hC hv t
    try dsimp only at h1 h2
    omega
  · rw [bt_S_t C v hs ht hu, bt_a10_tv]
    have h1 := bt_mn_le (fun s => 0 + bt_lu C (bt_b9 true C v) s + C s u) hs
    have h2 := bt_lu9t_le hC hv s ht
    try dsimp only at h1
    omega
theorem bt_10_at {C : Nat → Nat → Nat} (hC : ∀ s t, C s t ≤ 7) {v : Nat → Nat} (hv : ∀ i, i < 4 → v i < 4) (b : Bool) {u : Nat} (hu : u < 4) : ∃ s t, s < 4 ∧ t < 4 ∧ bt_b10 C v u + bt_a10 b C v u = bt_S b C v (s + 4 * t + 16 * u) := by
  rw [bt_b10_v hC hv]
  cases b
  · have h0 : bt_a9 false C v 0 ≤ 14 := by
      have h2 := bt_mn_le (fun s => 0 + C s (v 0) + C s 0) (show 0 < 4 by omega)
      have h3 := bt_a9_fv hC hv 0
      have h4 := hC 0 (v 0)
      have h5 := hC 0 0
      try dsimp only at h2
      omega
    have h1 := hC 0 (v 1)
    have h2 := hC 0 u
    obtain ⟨t, ht, e1⟩ := bt_mn_4 (fun t => bt_a9 false C v t + C t (v 1) + C t u) (by omega)
    have h3 := hC 0 (v 0)
    have h4 := hC 0 t
    obtain ⟨s, hs, e2⟩ := bt_mn_4 (fun s => 0 + C s (v 0) + C s t) (by omega)
    refine ⟨s, t, hs, ht, ?_⟩
    rw [bt_S_f C v hs ht hu, bt_a10_fv hC hv]
    have h5 := bt_a9_fv hC hv t
    try dsimp only at e1 e2
    omega
  · have h1 := bt_lu9t_sm hC hv 0
    have h2 := hC 0 u
    obtain ⟨s, hs, e1⟩ := bt_mn_4 (fun s => 0 + bt_lu C (bt_b9 true C v) s + C s u) (by omega)
    obtain ⟨t, ht, e2⟩ := bt_lu9t_at hC hv s
    refine ⟨s, t, hs, ht, ?_⟩
    rw [bt_S_t C v hs ht hu, bt_a10_tv]
    try dsimp only at e1
    omega
/-! the ways -/
theorem bt_ways {C : Nat → Nat → Nat} (hC : ∀ s t, C s t ≤ 7) {v : Nat → Nat} (hv : ∀ i, i < 4 → v i < 4) (b : Bool) {m : Nat} (hm : ∀ s, s < 4 → m ≤ bt_b8 b C v s) : bt_sm (fun s => if bt_b8 b C v s = m then bt_m8 b C v s else 0) 4 = bt_sm (fun j => if bt_S b C v j = m then 1 else 0) 64 := by
  rw [bt_sm_64]
  refine bt_sm_cg (fun s hs => ?_)
  have hm' := hm s hs
  cases b
  · have e1 : bt_sm (fun t => bt_sm (fun u => if bt_S false C v (s + 4 * t + 16 * u) = m then 1 else 0) 4) 4 = bt_sm (fun t => if C s (v 0) + (C s t + bt_b9 false C v t) = m then bt_m9 false C v t else 0) 4 := by
      refine bt_sm_cg (fun t ht => ?_)
      have e2 : bt_sm (fun u => if bt_S false C v (s + 4 * t + 16 * u) = m then 1 else 0) 4 = bt_sm (fun u => if (C s (v 0) + (C s t + C t (v 1))) + (C t u + bt_b10 C v u) = m then bt_m10 C v u else 0) 4 := by
        refine bt_sm_cg (fun u hu => ?_)
        rw [bt_S_f C v hs ht hu, bt_m10_v hC hv, bt_b10_v hC hv, show C s (v 0) + (C s t + (C t (v 1) + (C t u + (C u (v 2) + C u (v 3))))) = (C s (v 0) + (C s t + C t (v 1))) + (C t u + (C u (v 2) + C u (v 3))) by omega]
      have h1 := bt_lu9f_le hC hv s ht
      rw [bt_b8_f hC hv] at hm'
      rw [e2, bt_cnt (g := fun u => C t u + bt_b10 C v u) (show m ≤ (C s (v 0) + (C s t + C t (v 1))) + bt_lu C (bt_b10 C v) t by omega), bt_m9_f hC hv, bt_b9_f hC hv]
      show (if C s (v 0) + (C s t + C t (v 1)) + bt_lu C (bt_b10 C v) t = m then bt_nu C (bt_b10 C v) (bt_m10 C v) t else 0) = _
      rw [show C s (v 0) + (C s t + C t (v 1)) + bt_lu C (bt_b10 C v) t = C s (v 0) + (C s t + (C t (v 1) + bt_lu C (bt_b10 C v) t)) by omega]
    rw [e1, bt_b8_f hC hv, bt_m8_f hC hv]
    rw [bt_b8_f hC hv] at hm'
    exact (bt_cnt (g := fun t => C s t + bt_b9 false C v t) hm').symm
  · have hm2 : m ≤ bt_lu C (bt_b9 true C v) s + bt_lu C (bt_b10 C v) s := hm'
    have e1 : bt_sm (fun t => bt_sm (fun u => if bt_S true C v (s + 4 * t + 16 * u) = m then 1 else 0) 4) 4 = bt_sm (fun t => if bt_lu C (bt_b10 C v) s + (C s t + bt_b9 true C v t) = m then bt_nu C (bt_b10 C v) (bt_m10 C v) s else 0) 4 := by
      refine bt_sm_cg (fun t ht => ?_)
      have e2 : bt_sm (fun u => if bt_S true C v (s + 4 * t + 16 * u) = m then 1 else 0) 4 = bt_sm (fun u => if (C s t + bt_b9 true C v t) + (C s u + bt_b10 C v u) = m then bt_m10 C v u else 0) 4 := by
        refine bt_sm_cg (fun u hu => ?_)
        rw [bt_S_t C v hs ht hu, bt_m10_v hC hv, bt_b10_v hC hv, bt_b9_t hC hv]
      have h1 := bt_lu_le C (bt_b9 true C v) s ht
      rw [e2, bt_cnt (g := fun u => C s u + bt_b10 C v u) (show m ≤ (C s t + bt_b9 true C v t) + bt_lu C (bt_b10 C v) s by omega)]
      show (if C s t + bt_b9 true C v t + bt_lu C (bt_b10 C v) s = m then bt_nu C (bt_b10 C v) (bt_m10 C v) s else 0) = _
      rw [Nat.add_comm (C s t + bt_b9 true C v t)]
    rw [e1, bt_cnt (g := fun t => C s t + bt_b9 true C v t) (show m ≤ bt_lu C (bt_b10 C v) s + bt_lu C (bt_b9 true C v) s by omega)]
    show (if bt_lu C (bt_b9 true C v) s + bt_lu C (bt_b10 C v) s = m then bt_nu C (bt_b9 true C v) (bt_m9 true C v) s * bt_nu C (bt_b10 C v) (bt_m10 C v) s else 0) = (if bt_lu C (bt_b10 C v) s + bt_lu C (bt_b9 true C v) s = m then bt_sm (fun t => if C s t + bt_b9 true C v t = bt_lu C (bt_b9 true C v) s then bt_nu C (bt_b10 C v) (bt_m10 C v) s else 0) 4 else 0)
    have e3 : bt_sm (fun t => if C s t + bt_b9 true C v t = bt_lu C (bt_b9 true C v) s then bt_nu C (bt_b10 C v) (bt_m10 C v) s else 0) 4 = bt_nu C (bt_b9 true C v) (bt_m9 true C v) s * bt_nu C (bt_b10 C v) (bt_m10 C v) s := by
      unfold bt_nu
      rw [← bt_sm_mr]
      refine bt_sm_cg (fun t ht => ?_)
      try dsimp only
      rw [bt_m9_t hC hv]
      split
      · rw [Nat.one_mul]
      · rw [Nat.zero_mul]
    rw [e3, Nat.add_comm (bt_lu C (bt_b10 C v) s)]
theorem bt_w10_v {R : Nat → Nat → Nat} {v : Nat → Nat} (hv : ∀ i, i < 4 → v i < 4) (s : Nat) : bt_w10 R v s = R s (v 2) * R s (v 3) := by
  show bt_su R (bt_ml (v 2)) s * bt_su R (bt_ml (v 3)) s = _
  rw [bt_su_l (hv 2 (by omega)), bt_su_l (hv 3 (by omega))]
theorem bt_w9_t {R : Nat → Nat → Nat} {v : Nat → Nat} (hv : ∀ i, i < 4 → v i < 4) (s : Nat) : bt_w9 true R v s = R s (v 0) * R s (v 1) := by
  show bt_su R (bt_ml (v 0)) s * bt_su R (bt_ml (v 1)) s = _
  rw [bt_su_l (hv 0 (by omega)), bt_su_l (hv 1 (by omega))]
theorem bt_w9_f {R : Nat → Nat → Nat} {v : Nat → Nat} (hv : ∀ i, i < 4 → v i < 4) (s : Nat) : bt_w9 false R v s = R s (v 1) * bt_su R (bt_w10 R v) s := by
  show bt_su R (bt_ml (v 1)) s * bt_su R (bt_w10 R v) s = _
  rw [bt_su_l (hv 1 (by omega))]
theorem bt_w8_f {R : Nat → Nat → Nat} {v : Nat → Nat} (hv : ∀ i, i < 4 → v i < 4) (s : Nat) : bt_w8 false R v s = R s (v 0) * bt_su R (bt_w9 false R v) s := by
  show bt_su R (bt_ml (v 0)) s * bt_su R (bt_w9 false R v) s = _
  rw [bt_su_l (hv 0 (by omega))]
theorem bt_wgt {R : Nat → Nat → Nat} {v : Nat → Nat} (hv : ∀ i, i < 4 → v i < 4) (b : Bool) : bt_sm (fun s => bt_w8 b R v s) 4 = bt_sm (bt_P b R v) 64 := by
  rw [bt_sm_64]
  refine bt_sm_cg (fun s hs => ?_)
  cases b
  · rw [bt_w8_f hv]
    unfold bt_su
    rw [← bt_sm_ml]
    refine bt_sm_cg (fun t ht => ?_)
    try dsimp only
    rw [bt_w9_f hv]
    unfold bt_su
    rw [← bt_sm_ml, ← bt_sm_ml, ← bt_sm_ml]
    refine bt_sm_cg (fun u hu => ?_)
    try dsimp only
    rw [bt_w10_v hv, bt_P_f R v hs ht hu]
  · show bt_su R (bt_w9 true R v) s * bt_su R (bt_w10 R v) s = _
    unfold bt_su
    rw [← bt_sm_mr]
    refine bt_sm_cg (fun t ht => ?_)
    try dsimp only
    rw [← bt_sm_ml]
    refine bt_sm_cg (fun u hu => ?_)
    try dsimp only
    rw [bt_w9_t hv, bt_w10_v hv, bt_P_t R v hs ht hu]
end
section
/-! the pure end: least, ways, the two sets of states -/
theorem bt_j64 {j : Nat} (h : j < 64) : ∃ s t u, s < 4 ∧ t < 4 ∧ u < 4 ∧ j = s + 4 * t + 16 * u ∧ j % 4 = s ∧ j / 16 = u :=
  ⟨j % 4, j / 4 % 4, j / 16, by omega, by omega, by omega, by omega, rfl, rfl⟩
theorem bt_best_le {C : Nat → Nat → Nat} (hC : ∀ s t, C s t ≤ 7) {v : Nat → Nat} (hv : ∀ i, i < 4 → v i < 4) (b : Bool) {j : Nat} (h : j < 64) : bt_mn (bt_b8 b C v) 4 ≤ bt_S b C v j := by
  obtain ⟨s, t, u, hs, ht, hu, e, _, _⟩ := bt_j64 h
  have h1 := bt_8_le hC hv b hs ht hu
  have h2 := bt_mn_le (bt_b8 b C v) hs
  rw [e]
  omega
theorem bt_b8_sm {C : Nat → Nat → Nat} (hC : ∀ s t, C s t ≤ 7) {v : Nat → Nat} (hv : ∀ i, i < 4 → v i < 4) (b : Bool) (s : Nat) (hs : s < 4) : bt_b8 b C v s ≤ 42 := by
  have h := bt_8_le hC hv b hs (t := 0) (u := 0) (by omega) (by omega)
  refine Nat.le_trans h ?_
  cases b
  · rw [bt_S_f C v hs (by omega) (by omega)]
    have := hC s (v 0)
    have := hC s 0
    have := hC 0 (v 1)
    have := hC 0 0
    have := hC 0 (v 2)
    have := hC 0 (v 3)
    omega
  · rw [bt_S_t C v hs (by omega) (by omega)]
    have := hC s 0
    have := hC 0 (v 0)
    have := hC 0 (v 1)
    have := hC 0 (v 2)
    have := hC 0 (v 3)
    omega
theorem bt_best_sm {C : Nat → Nat → Nat} (hC : ∀ s t, C s t ≤ 7) {v : Nat → Nat} (hv : ∀ i, i < 4 → v i < 4) (b : Bool) : bt_mn (bt_b8 b C v) 4 ≤ 42 :=
  Nat.le_trans (bt_mn_le (bt_b8 b C v) (show 0 < 4 by omega)) (bt_b8_sm hC hv b 0 (by omega))
theorem bt_best_at {C : Nat → Nat → Nat} (hC : ∀ s t, C s t ≤ 7) {v : Nat → Nat} (hv : ∀ i, i < 4 → v i < 4) (b : Bool) : ∃ j, j < 64 ∧ bt_S b C v j = bt_mn (bt_b8 b C v) 4 := by
  obtain ⟨s, hs, e⟩ := bt_mn_at (bt_b8 b C v) 4 (Nat.lt_of_le_of_lt (bt_best_sm hC hv b) (by omega))
  obtain ⟨t, u, ht, hu, e2⟩ := bt_8_at hC hv b hs
  exact ⟨s + 4 * t + 16 * u, by omega, by rw [← e2, e]⟩
theorem bt_f_least {C : Nat → Nat → Nat} (hC : ∀ s t, C s t ≤ 7) {v : Nat → Nat} (hv : ∀ i, i < 4 → v i < 4) (b : Bool) : bt_mn (bt_b8 b C v) 4 = bt_ls (bt_S b C v) 64 := by
  obtain ⟨j, hj, e⟩ := bt_best_at hC hv b
  have h1 := bt_ls_le (bt_S b C v) hj
  have h2 := bt_best_sm hC hv b
  obtain ⟨k, hk, e2⟩ := bt_ls_at (bt_S b C v) 64 (by omega)
  have h3 := bt_best_le hC hv b hk
  omega
theorem bt_f_ways {C : Nat → Nat → Nat} (hC : ∀ s t, C s t ≤ 7) {v : Nat → Nat} (hv : ∀ i, i < 4 → v i < 4) (b : Bool) : bt_sm (fun s => if bt_b8 b C v s = bt_mn (bt_b8 b C v) 4 then bt_m8 b C v s else 0) 4 = bt_sm (fun j => if bt_S b C v j = bt_ls (bt_S b C v) 64 then 1 else 0) 64 := by
  rw [← bt_f_least hC hv b]
  exact bt_ways hC hv b (fun s hs => bt_mn_le _ hs)
theorem bt_f_root {C : Nat → Nat → Nat} (hC : ∀ s t, C s t ≤ 7) {v : Nat → Nat} (hv : ∀ i, i < 4 → v i < 4) (b : Bool) (s : Nat) (hs : s < 4) : decide (bt_b8 b C v s + 0 = bt_mn (bt_b8 b C v) 4) = bt_ex (fun j => decide (bt_S b C v j = bt_ls (bt_S b C v) 64) && decide (j % 4 = s)) 64 := by
  rw [← bt_f_least hC hv b, Nat.add_zero]
  apply Bool.eq_iff_iff.mpr
  rw [decide_eq_true_iff, bt_ex_iff]
  constructor
  · intro e
    obtain ⟨t, u, ht, hu, e2⟩ := bt_8_at hC hv b hs
    refine ⟨s + 4 * t + 16 * u, by omega, ?_⟩
    rw [Bool.and_eq_true, decide_eq_true_iff, decide_eq_true_iff]
    exact ⟨by rw [← e2, e], by omega⟩
  · intro h
    obtain ⟨j, hj, h⟩ := h
    rw [Bool.and_eq_true, decide_eq_true_iff, decide_eq_true_iff] at h
    obtain ⟨s', t, u, hs', ht, hu, e, es, eu⟩ := bt_j64 hj
    have e3 : s' = s := by omega
    subst e3
    have h1 := bt_8_le hC hv b hs' ht hu
    have h2 := bt_mn_le (bt_b8 b C v) hs'
    rw [← e, h.1] at h1
    omega
theorem bt_f_tens {C : Nat → Nat → Nat} (hC : ∀ s t, C s t ≤ 7) {v : Nat → Nat} (hv : ∀ i, i < 4 → v i < 4) (b : Bool) (u : Nat) (hu : u < 4) : decide (bt_b10 C v u + bt_a10 b C v u = bt_mn (bt_b8 b C v) 4) = bt_ex (fun j => decide (bt_S b C v j = bt_ls (bt_S b C v) 64) && decide (j / 16 = u)) 64 := by
  rw [← bt_f_least hC hv b]
  apply Bool.eq_iff_iff.mpr
  rw [decide_eq_true_iff, bt_ex_iff]
  constructor
  · intro e
    obtain ⟨s, t, hs, ht, e2⟩ := bt_10_at hC hv b hu
    refine ⟨s + 4 * t + 16 * u, by omega, ?_⟩
    rw [Bool.and_eq_true, decide_eq_true_iff, decide_eq_true_iff]
    exact ⟨by rw [← e2, e], by omega⟩
  · intro h
    obtain ⟨j, hj, h⟩ := h
    rw [Bool.and_eq_true, decide_eq_true_iff, decide_eq_true_iff] at h
    obtain ⟨s, t, u', hs, ht, hu', e, es, eu⟩ := bt_j64 hj
    have e3 : u' = u := by omega
    subst e3
    have h1 := bt_10_le hC hv b hs ht hu'
    obtain ⟨s2, t2, hs2, ht2, e2⟩ := bt_10_at hC hv b hu'
    have h2 := bt_best_le hC hv b (show s2 + 4 * t2 + 16 * u' < 64 by omega)
    rw [← e, h.1] at h1
    omega
/-! sets of states as masks -/
def bt_bi (p : Nat → Bool) : Nat := (if p 0 then 1 else 0) + (if p 1 then 2 else 0) + (if p 2 then 4 else 0) + (if p 3 then 8 else 0)
theorem bt_bi_cg {p q : Nat → Bool} (h : ∀ k, k < 4 → p k = q k) : bt_bi p = bt_bi q := by
  unfold bt_bi
  rw [h 0 (by omega), h 1 (by omega), h 2 (by omega), h 3 (by omega)]
theorem bt_bi_tab : ∀ b0 b1 b2 b3 : Bool, ∀ r, r < 4 → nI ((if b0 then 1 else 0) + (if b1 then 2 else 0) + (if b2 then 4 else 0) + (if b3 then 8 else 0)) ||| ((1 : Int32) <<< (nI r &&& 31)) = nI ((if (b0 || decide (r = 0)) then 1 else 0) + (if (b1 || decide (r = 1)) then 2 else 0) + (if (b2 || decide (r = 2)) then 4 else 0) + (if (b3 || decide (r = 3)) then 8 else 0)) := by
  decide +kernel
theorem bt_bi_or (p : Nat → Bool) {r : Nat} (hr : r < 4) : nI (bt_bi p) ||| ((1 : Int32) <<< (nI r &&& 31)) = nI (bt_bi (fun k => p k || decide (r = k))) :=
  bt_bi_tab (p 0) (p 1) (p 2) (p 3) r hr
theorem bt_bi_0 : bt_bi (fun _ => false) = 0 := rfl
theorem bt_ex_0 {f : Nat → Bool} {k : Nat} (h : ∀ j, j < k → f j = false) : bt_ex f k = false := by
  induction k with
  | zero => rfl
  | succ k ih =>
    show (bt_ex f k || f k) = false
    rw [ih (fun j hj => h j (by omega)), h k (by omega)]
    rfl
theorem bt_ex_cg {f g : Nat → Bool} {k : Nat} (h : ∀ j, j < k → f j = g j) : bt_ex f k = bt_ex g k := by
  induction k with
  | zero => rfl
  | succ k ih =>
    show (bt_ex f k || f k) = (bt_ex g k || g k)
    rw [ih (fun j hj => h j (by omega)), h k (by omega)]
/-! the law's running values behind N of the 64 ways -/
def bt_ct (S : Nat → Nat) (N : Nat) : Nat := bt_sm (fun i => if S i = bt_ls S N then 1 else 0) N
def bt_mk (S h : Nat → Nat) (N : Nat) : Nat := bt_bi (fun s => bt_ex (fun i => decide (S i = bt_ls S N) && decide (h i = s)) N)
theorem bt_lsS (S : Nat → Nat) (N : Nat) : bt_ls S (N + 1) = min (bt_ls S N) (S N) := rfl
theorem bt_st_hi {S : Nat → Nat} {N : Nat} (h : bt_ls S N < S N) : bt_ls S (N + 1) = bt_ls S N ∧ bt_ct S (N + 1) = bt_ct S N ∧ ∀ g, bt_mk S g (N + 1) = bt_mk S g N := by
  have e : bt_ls S (N + 1) = bt_ls S N := by rw [bt_lsS]; omega
  refine ⟨e, ?_, fun g => ?_⟩
  · unfold bt_ct
    rw [e]
    show bt_sm (fun i => if S i = bt_ls S N then 1 else 0) N + (if S N = bt_ls S N then 1 else 0) = _
    rw [if_neg (by omega)]
    rfl
  · unfold bt_mk
    rw [e]
    refine bt_bi_cg (fun s hs => ?_)
    show (bt_ex (fun i => decide (S i = bt_ls S N) && decide (g i = s)) N || (decide (S N = bt_ls S N) && decide (g N = s))) = _
    rw [decide_eq_false (show ¬ S N = bt_ls S N by omega), Bool.false_and, Bool.or_false]
theorem bt_st_eq {S : Nat → Nat} {N : Nat} (h : S N = bt_ls S N) : bt_ls S (N + 1) = bt_ls S N ∧ bt_ct S (N + 1) = bt_ct S N + 1 ∧ ∀ g, g N < 4 → nI (bt_mk S g N) ||| ((1 : Int32) <<< (nI (g N) &&& 31)) = nI (bt_mk S g (N + 1)) := by
  have e : bt_ls S (N + 1) = bt_ls S N := by rw [bt_lsS]; omega
  refine ⟨e, ?_, fun g hg => ?_⟩
  · unfold bt_ct
    rw [e]
    show bt_sm (fun i => if S i = bt_ls S N then 1 else 0) N + (if S N = bt_ls S N then 1 else 0) = _
    rw [if_pos h]
  · unfold bt_mk
    rw [e, bt_bi_or _ hg]
    refine congrArg nI (bt_bi_cg (fun s hs => ?_))
    show _ = (bt_ex (fun i => decide (S i = bt_ls S N) && decide (g i = s)) N || (decide (S N = bt_ls S N) && decide (g N = s)))
    rw [decide_eq_true h, Bool.true_and]
theorem bt_st_lo {S : Nat → Nat} {N : Nat} (h : S N < bt_ls S N) : bt_ls S (N + 1) = S N ∧ bt_ct S (N + 1) = 1 ∧ ∀ g, g N < 4 → (0 : Int32) ||| ((1 : Int32) <<< (nI (g N) &&& 31)) = nI (bt_mk S g (N + 1)) := by
  have e : bt_ls S (N + 1) = S N := by rw [bt_lsS]; omega
  have hn : ∀ i, i < N → ¬ S i = S N := fun i hi => by
    have := bt_ls_le S hi
    omega
  refine ⟨e, ?_, fun g hg => ?_⟩
  · unfold bt_ct
    rw [e]
    show bt_sm (fun i => if S i = S N then 1 else 0) N + (if S N = S N then 1 else 0) = _
    rw [if_pos rfl, bt_sm_0 (fun i hi => if_neg (hn i hi))]
  · unfold bt_mk
    rw [e]
    have e2 : (0 : Int32) ||| ((1 : Int32) <<< (nI (g N) &&& 31)) = nI (bt_bi (fun k => false || decide (g N = k))) := bt_bi_or (fun _ => false) hg
    rw [e2]
    refine congrArg nI (bt_bi_cg (fun s hs => ?_))
    show _ = (bt_ex (fun i => decide (S i = S N) && decide (g i = s)) N || (decide (S N = S N) && decide (g N = s)))
    rw [decide_eq_true (rfl : S N = S N), Bool.true_and, bt_ex_0 (fun i hi => by rw [decide_eq_false (hn i hi), Bool.false_and])]
end
section
/-! the law's numbers: costs and rates out of the script, the leaves' bytes, their states at a site -/
def bt_C (p q : Int32) (s t : Nat) : Nat := if s < 2 then ((p >>> (((12 * nI s) + (3 * nI t)) &&& 31)) &&& 7).toNatClampNeg else ((q >>> ((((12 * nI s) - 24) + (3 * nI t)) &&& 31)) &&& 7).toNatClampNeg
theorem bt_and7 (x : Int32) : nI (x &&& 7).toNatClampNeg = x &&& 7 ∧ (x &&& 7).toNatClampNeg ≤ 7 := by
  obtain ⟨j, h, e⟩ := pk_andE x (m := 7) 3 (by decide)
  rw [e, nI_clamp (by omega)]
  exact ⟨rfl, by omega⟩
theorem bt_C_le (p q : Int32) (s t : Nat) : bt_C p q s t ≤ 7 := by
  unfold bt_C
  split
  · exact (bt_and7 _).2
  · exact (bt_and7 _).2
theorem bt_wcost {post : Int32 → Prop} {p q : Int32} {s t : Nat} (hs : s < 4) (H : post (nI (bt_C p q s t))) : wpL_cost post () p q (nI s) (nI t) := by
  unfold bt_C at H
  refine pk_le 2 s (fun z => ?_) (fun z => ?_)
  · rw [if_neg (by omega), (bt_and7 _).1] at H
    exact H
  · rw [if_pos (by omega), (bt_and7 _).1] at H
    exact H
def bt_R (c : Int32) (s t : Nat) : Nat := 1 + ((c >>> ((nI s ^^^ nI t) &&& 31)) &&& 1).toNatClampNeg + (if t ≤ s then 0 else 1)
theorem bt_and1 (x : Int32) : nI (x &&& 1).toNatClampNeg = x &&& 1 ∧ (x &&& 1).toNatClampNeg ≤ 1 := by
  obtain ⟨j, h, e⟩ := pk_andE x (m := 1) 1 (by decide)
  rw [e, nI_clamp (by omega)]
  exact ⟨rfl, by omega⟩
theorem bt_R_le (c : Int32) (s t : Nat) : bt_R c s t ≤ 3 := by
  have h := (bt_and1 (c >>> ((nI s ^^^ nI t) &&& 31))).2
  unfold bt_R
  split <;> omega
theorem bt_R_n0 (c : Int32) (s t : Nat) {d : Nat} : nI (1 + ((c >>> ((nI s ^^^ nI t) &&& 31)) &&& 1).toNatClampNeg + d) = (1 + ((c >>> ((nI s ^^^ nI t) &&& 31)) &&& 1)) + nI d := by
  rw [← nI_add, ← nI_add, (bt_and1 _).1]
  rfl
theorem bt_wrate {post : Int32 → Prop} {c : Int32} {s t : Nat} (hs : s < 4) (ht : t < 4) (H : post (nI (bt_R c s t))) : wpL_rate post () (nI s) (nI t) c := by
  unfold bt_R at H
  refine pk_le t s (fun z => ?_) (fun z => ?_)
  · rw [if_pos (by omega), bt_R_n0] at H
    exact H
  · rw [if_neg (by omega), bt_R_n0] at H
    exact H
def bt_nm (x : Int32) (i : Nat) : Int32 := if i = 0 then x else if i = 1 then x >>> ((16 : Int32) &&& 31) else if i = 2 then x >>> ((8 : Int32) &&& 31) else x >>> ((24 : Int32) &&& 31)
def bt_ow (x : Int32) (i : Nat) : Nat := (bt_nm x i).toBitVec.toNat % 256
def bt_vv (own : Nat → Nat) (site i : Nat) : Nat := own i / 4 ^ (3 - site) % 4
theorem bt_ow_e (x : Int32) (i : Nat) : bt_nm x i &&& 255 = nI (bt_ow x i) := pk_and (bt_nm x i) (m := 255) 8 (by decide)
theorem bt_ow_lt (x : Int32) (i : Nat) : bt_ow x i < 256 := Nat.mod_lt _ (by omega)
theorem bt_vv_lt (own : Nat → Nat) (site : Nat) : ∀ i, i < 4 → bt_vv own site i < 4 := fun _ _ => Nat.mod_lt _ (by omega)
theorem bt_toI (y : Int32) : y.toInt = if 2 * y.toBitVec.toNat < 4294967296 then (y.toBitVec.toNat : Int) else (y.toBitVec.toNat : Int) - 4294967296 := BitVec.toInt_eq_toNat_cond y.toBitVec
theorem bt_shn (y c : Int32) (k : Nat) (hk : k = 0 ∨ k = 2 ∨ k = 4 ∨ k = 6) (hc : (c.toBitVec.smod 32).toNat = k) : (y >>> c).toBitVec.toNat % 4 = y.toBitVec.toNat % 256 / 2 ^ k % 4 := by
  have h := pk_shr y c k hc
  rw [Int.shiftRight_eq_div_pow, bt_toI, bt_toI] at h
  have h1 : y.toBitVec.toNat < 4294967296 := y.toBitVec.isLt
  have h2 : (y >>> c).toBitVec.toNat < 4294967296 := (y >>> c).toBitVec.isLt
  generalize y.toBitVec.toNat = a at *
  generalize (y >>> c).toBitVec.toNat = d at *
  rcases hk with e | e | e | e <;> subst e <;> split at h <;> split at h <;> omega
theorem bt_dig (y : Int32) {site : Nat} (h : site < 4) : (y >>> ((6 - 2 * nI site) &&& 31)) &&& 3 = nI (y.toBitVec.toNat % 256 / 4 ^ (3 - site) % 4) := by
  rw [pk_and _ (m := 3) 2 (by decide)]
  have : site = 0 ∨ site = 1 ∨ site = 2 ∨ site = 3 := by omega
  rcases this with e | e | e | e <;> subst e
  · rw [show (2 : Nat) ^ 2 = 4 from rfl, bt_shn y _ 6 (by omega) (by decide)]
  · rw [show (2 : Nat) ^ 2 = 4 from rfl, bt_shn y _ 4 (by omega) (by decide)]
  · rw [show (2 : Nat) ^ 2 = 4 from rfl, bt_shn y _ 2 (by omega) (by decide)]
  · rw [show (2 : Nat) ^ 2 = 4 from rfl, bt_shn y _ 0 (by omega) (by decide)]
theorem bt_digv (x : Int32) {site : Nat} (h : site < 4) (i : Nat) : (bt_nm x i >>> ((6 - 2 * nI site) &&& 31)) &&& 3 = nI (bt_vv (bt_ow x) site i) := bt_dig (bt_nm x i) h
/-! indices -/
theorem bt_ix (s i : Nat) : (4 * nI s) + nI i = nI (4 * s + i) := by
  rw [show (4 : Int32) = nI 4 from rfl, pk_mul, nI_add]
theorem bt_ic {s i : Nat} (h : 4 * s + i < 2 ^ 31) : ((4 * nI s) + nI i).toNatClampNeg = 4 * s + i := by
  rw [bt_ix, nI_clamp h]
theorem bt_ii (s i N : Nat) (h : 4 * s + i < N) (hN : N < 2 ^ 31 := by omega) : vp_in ((4 * nI s) + nI i) N := pk_in (4 * s + i) N h (bt_ix s i) hN
end
section
/-! small methods -/
theorem bt_isState {post : Int32 → Prop} {s : Nat} (h : s < 4) (H : post 1) : wpX_isState post () (nI s) :=
  br_f (nI_pos (by omega)) (br_f (nI_nlt (a := 3) (b := s) (by omega) (by omega)) H)
theorem bt_mb19 {post : Int32 → Prop} {lc ic tp ls : Int32} {a1 a2 a3 a4 a5 a6 a7 a8 a9 a10 a11 : Nat → Int32} {a12 : Nat → Int64} {a13 : Nat → Int32} {w site s : Nat} (hw : w < 2 ^ 31) (hs : s < 4) {x4 x5 : Int32} (h4 : x4 = nI w) (h5 : x5 ≤ nI site) (H : post (if w % 4 = s then 1 else 0)) (n : Nat) : wX_mayBe_19 post (nI site) (nI s) lc ic tp ls a1 a2 a3 a4 a5 a6 a7 a8 a9 a10 a11 a12 a13 (n + 1) x4 x5 := by
  subst h4
  refine br_t h5 ⟨by decide, ?_⟩
  have e : nI w - nI w / 4 * 4 = nI (w % 4) := pk_rem (d := 4) hw (by omega) (by omega)
  rw [e]
  refine pk_eq (w % 4) s (fun z => ?_) (fun z => ?_)
  · rw [if_pos z] at H
    exact H
  · rw [if_neg z] at H
    exact H
theorem bt_mb19s {post : Int32 → Prop} {lc ic tp ls : Int32} {a1 a2 a3 a4 a5 a6 a7 a8 a9 a10 a11 : Nat → Int32} {a12 : Nat → Int64} {a13 : Nat → Int32} {w site s : Nat} (hw : w < 2 ^ 31) {x5 : Int32} (h5 : ¬ x5 ≤ nI site) {n : Nat} (H : wX_mayBe_19 post (nI site) (nI s) lc ic tp ls a1 a2 a3 a4 a5 a6 a7 a8 a9 a10 a11 a12 a13 n (nI (w / 4)) (x5 + (-1))) : wX_mayBe_19 post (nI site) (nI s) lc ic tp ls a1 a2 a3 a4 a5 a6 a7 a8 a9 a10 a11 a12 a13 (n + 1) (nI w) x5 :=
  br_f h5 ⟨by decide, nm_r (pk_div (d := 4) hw (by omega) (by omega)) (nm_e H)⟩
theorem bt_mayBe_l {post : Int32 → Prop} {lc ic tp ls : Int32} {a1 a2 a3 a4 a5 a6 a7 a8 a9 a10 a11 : Nat → Int32} {a12 : Nat → Int64} {a13 : Nat → Int32} {x w site s : Nat} (hx : x < 7) (ha : a4 x = nI w) (hw : w < 256) (hsi : site < 4) (hs : s < 4) (H : post (if w / 4 ^ (3 - site) % 4 = s then 1 else 0)) : wpX_mayBe post (lc, ic, tp, ls, a1, a2, a3, a4, a5, a6, a7, a8, a9, a10, a11, a12, a13) (nI x) (nI site) (nI s) := by
  refine pk_lt x 8 (fun _ => ⟨pk_in x 7 hx, nm_r (e' := nI w) (by rw [nI_clamp (by omega)]; exact ha) ?_⟩) (fun z => absurd z (by omega))
  have : site = 0 ∨ site = 1 ∨ site = 2 ∨ site = 3 := by omega
  rcases this with e | e | e | e <;> subst e
  · refine ⟨4, bt_mb19s (by omega) (by decide) (bt_mb19s (by omega) (by decide) (bt_mb19s (by omega) (by decide) (bt_mb19 (by omega) hs rfl (by decide) ?_ 0)))⟩
    rw [show w / 4 / 4 / 4 = w / 4 ^ (3 - 0) by show w / 4 / 4 / 4 = w / 64; omega]
    exact H
  · refine ⟨3, bt_mb19s (by omega) (by decide) (bt_mb19s (by omega) (by decide) (bt_mb19 (by omega) hs rfl (by decide) ?_ 0))⟩
    rw [show w / 4 / 4 = w / 4 ^ (3 - 1) by show w / 4 / 4 = w / 16; omega]
    exact H
  · refine ⟨2, bt_mb19s (by omega) (by decide) (bt_mb19 (by omega) hs rfl (by decide) ?_ 0)⟩
    rw [show w / 4 = w / 4 ^ (3 - 2) by show w / 4 = w / 4; omega]
    exact H
  · refine ⟨1, bt_mb19 (by omega) hs rfl (by decide) ?_ 0⟩
    rw [show w / 4 ^ (3 - 3) = w by show w / 1 = w; omega] at H
    exact H
theorem bt_mayBe_i {post : Int32 → Prop} {lc ic tp ls : Int32} {a1 a2 a3 a4 a5 a6 a7 a8 a9 a10 a11 : Nat → Int32} {a12 : Nat → Int64} {a13 : Nat → Int32} {x : Nat} {p1 p2 : Int32} (hx : 8 ≤ x) (hx2 : x < 14) (H : post 1) : wpX_mayBe post (lc, ic, tp, ls, a1, a2, a3, a4, a5, a6, a7, a8, a9, a10, a11, a12, a13) (nI x) p1 p2 :=
  pk_lt x 8 (fun z => absurd z (by omega)) (fun _ => H)
/-! leastUnder: the child's costs are at a9, the costs of changes at a5 -/
theorem bt_leastUnder {post : Int32 → Prop} {lc ic tp ls : Int32} {a1 a2 a3 a4 a5 a6 a7 a8 a9 a10 a11 : Nat → Int32} {a12 : Nat → Int64} {a13 : Nat → Int32} {C : Nat → Nat → Nat} {bo : Nat → Nat} {y s : Nat} (hy : y < 14) (hs : s < 4)
    (h5 : ∀ t, t < 4 → a5 (4 * s + t) = nI (C s t)) (h9 : ∀ t, t < 4 → a9 (4 * y + t) = nI (bo t)) (hC : ∀ s t, C s t ≤ 7) (hb : ∀ t, bo t ≤ 200000)
    (H : post (nI (bt_lu C bo s))) : wpX_leastUnder post (lc, ic, tp, ls, a1, a2, a3, a4, a5, a6, a7, a8, a9, a10, a11, a12, a13) (nI y) (nI s) :=
  pk_loop (σ := Unit) (fun n i _ => wX_leastUnder_6 post (nI y) (nI s) lc ic tp ls a1 a2 a3 a4 a5 a6 a7 a8 a9 a10 a11 a12 a13 n (nI (bt_mn (fun t => C s t + bo t) i)) (nI i)) (fun _ _ => True) 4 0 () (by omega) trivial
    (fun n _ _ => pk_le 4 4 (fun _ => H) (fun z => absurd z (by omega)))
    (fun n i _ hi _ hw => pk_le 4 i (fun z => absurd z (by omega)) (fun _ => ⟨bt_ii s i 16 (by omega), bt_ii y i 56 (by omega), nm_r (e' := nI (C s i + bo i)) (by rw [bt_ic (by omega), bt_ic (by omega), h5 i hi, h9 i hi, nI_add]) (by
      have e : bt_mn (fun t => C s t + bo t) (i + 1) = min (bt_mn (fun t => C s t + bo t) i) (C s i + bo i) := rfl
      have h1 := hC s i
      have h2 := hb i
      have h3 := bt_mn_cap (fun t => C s t + bo t) i
      have t := hw () trivial
      try dsimp only at t
      rw [e] at t
      refine pk_le (bt_mn (fun t => C s t + bo t) i) (C s i + bo i) (fun z => nm_r (nI_1 i) ?_) (fun z => nm_r (nI_1 i) ?_)
      · rw [Nat.min_eq_left z] at t
        exact t
      · rw [Nat.min_eq_right (by omega)] at t
        exact t)⟩))
/-! addChild -/
theorem bt_addChild {post : St2 → Prop} {lc ic tp ls : Int32} {a1 a2 a3 a4 a5 a6 a7 a8 a9 a10 a11 : Nat → Int32} {a12 : Nat → Int64} {a13 : Nat → Int32} {C : Nat → Nat → Nat} {bo mo : Nat → Nat} {x y s : Nat} (hx : x < 14) (hy : y < 14) (hs : s < 4)
    (h5 : ∀ t, t < 4 → a5 (4 * s + t) = nI (C s t)) (h9 : ∀ t, t < 4 → a9 (4 * y + t) = nI (bo t)) (h10 : ∀ t, t < 4 → a10 (4 * y + t) = nI (mo t)) (hC : ∀ s t, C s t ≤ 7) (hb : ∀ t, bo t ≤ 200000)
    (H : post (lc, ic, tp, ls, a1, a2, a3, a4, a5, a6, a7, a8, upd a9 (4 * x + s) (a9 (4 * x + s) + nI (bt_lu C bo s)), upd a10 (4 * x + s) (a10 (4 * x + s) * nI (bt_nu C bo mo s)), a11, a12, a13)) : wpX_addChild post (lc, ic, tp, ls, a1, a2, a3, a4, a5, a6, a7, a8, a9, a10, a11, a12, a13) (nI x) (nI s) (nI y) := by
  unfold wpX_addChild
  refine bt_leastUnder hy hs h5 h9 hC hb ?_
  refine pk_loop (σ := Unit) (fun n i _ => wX_addChild_14 post (nI x) (nI s) (nI y) (nI (bt_lu C bo s)) lc ic tp ls a1 a2 a3 a4 a5 a6 a7 a8 a9 a10 a11 a12 a13 n (nI (bt_sm (fun t => if C s t + bo t = bt_lu C bo s then mo t else 0) i)) (nI i)) (fun _ _ => True) 4 0 () (by omega) trivial
    (fun n _ _ => pk_le 4 4 (fun _ => ⟨bt_ii x s 56 (by omega), bt_ii x s 56 (by omega), ?_⟩) (fun z => absurd z (by omega)))
    (fun n i _ hi _ hw => pk_le 4 i (fun z => absurd z (by omega)) (fun _ => ⟨bt_ii s i 16 (by omega), bt_ii y i 56 (by omega), ?_⟩))
  · rw [bt_ic (by omega)]
    exact nm_e ⟨bt_ii x s 56 (by omega), bt_ii x s 56 (by omega), nm_e H⟩
  · have e : bt_sm (fun t => if C s t + bo t = bt_lu C bo s then mo t else 0) (i + 1) = bt_sm (fun t => if C s t + bo t = bt_lu C bo s then mo t else 0) i + (if C s i + bo i = bt_lu C bo s then mo i else 0) := rfl
    have h1 := hC s i
    have h2 := hb i
    have h3 := bt_lu_cap C bo s
    have t := hw () trivial
    try dsimp only at t
    rw [e] at t
    rw [bt_ic (by omega), bt_ic (by omega), h5 i hi, h9 i hi, h10 i hi]
    refine pk_eq (C s i + bo i) (bt_lu C bo s) (fun z => ⟨bt_ii y i 56 (by omega), nm_r (nI_add _ _) (nm_r (nI_1 i) ?_)⟩) (fun z => nm_r (nI_add _ 0) (nm_r (nI_1 i) ?_)) (nI_add _ _)
    · rw [if_pos z] at t
      exact t
    · rw [if_neg z] at t
      exact t
/-! listNodes -/
def bt_T (b : Bool) (a1 a2 a3 : Nat → Int32) : Prop := (∀ x, x < 11 → (x < 4 ∨ 9 ≤ x) → a1 x = nI (bt_pa b x)) ∧ (∀ x, 8 ≤ x → x < 11 → a2 x = nI (bt_c1 b x) ∧ a3 x = nI (bt_c2 b x))
def bt_O (b : Bool) (a7 : Nat → Int32) : Prop := ∀ i, i < 7 → a7 i = nI (bt_or b i)
theorem bt_ln0 (b : Bool) : bt_ln b 0 = 1 ∧ bt_ln b 7 = 7 ∧ bt_or b 0 = 8 := by cases b <;> decide
theorem bt_listNodes {post : St2 → Prop} {lc ic ls : Int32} {a1 a2 a3 a4 a5 a6 a7 a8 a9 a10 a11 : Nat → Int32} {a12 : Nat → Int64} {a13 : Nat → Int32} (b : Bool) (hT : bt_T b a1 a2 a3) (H : ∀ b7, bt_O b b7 → post (lc, ic, nI 8, nI 7, a1, a2, a3, a4, a5, a6, b7, a8, a9, a10, a11, a12, a13)) : wpX_listNodes post (lc, ic, nI 8, ls, a1, a2, a3, a4, a5, a6, a7, a8, a9, a10, a11, a12, a13) := by
  refine nm_e ?_
  have h0 := bt_ln0 b
  have key := pk_loop (fun n i s => wX_listNodes_17 post lc ic (nI 8) n (nI i) (nI (bt_ln b i)) a1 a2 a3 a4 a5 a6 s a8 a9 a10 a11 a12 a13) (fun i s => ∀ j, j < bt_ln b i → s j = nI (bt_or b j)) 7 0 (upd a7 0 (nI 8)) (by omega) ?_ ?_ ?_
  · try dsimp only at key
    rw [h0.1] at key
    exact key
  · intro j hj
    rw [h0.1] at hj
    have e : j = 0 := by omega
    rw [e, pk_us, h0.2.2]
  · intro n s hs
    try dsimp only
    rw [h0.2.1] at hs ⊢
    exact pk_le 14 7 (fun z => absurd z (by omega)) (fun _ => pk_le 7 7 (fun _ => H s (fun i hi => hs i hi)) (fun z => absurd z (by omega)))
  · intro n i s hi hs hw
    try dsimp only at hw ⊢
    obtain ⟨o1, o2, o3, o4, o5⟩ := bt_tr1 b i hi
    refine pk_le 14 i (fun z => absurd z (by omega)) (fun _ => pk_le (bt_ln b i) i (fun z => absurd z (by omega)) (fun _ => ⟨pk_in i 14 (by omega), nm_r (e' := nI (bt_or b i)) (by rw [nI_clamp (by omega)]; exact hs i o2) ?_⟩))
    refine pk_lt (bt_or b i) 8 (fun z => nm_r (nI_1 i) ?_) (fun z => ?_)
    · have t := hw s (by rw [(o4 z).2]; exact hs)
      rw [(o4 z).2] at t
      exact t
    · obtain ⟨p1, p2, p3, p4⟩ := o5 z
      have c := hT.2 (bt_or b i) z o1
      refine ⟨pk_in (bt_or b i) 14 (by omega), pk_in (bt_ln b i) 14 (by omega), nm_r (e' := upd s (bt_ln b i) (nI (bt_or b (bt_ln b i)))) (by rw [nI_clamp (by omega), nI_clamp (by omega), c.1, p3]) ⟨pk_in (bt_or b i) 14 (by omega), pk_in (bt_ln b i + 1) 14 (by omega) (nI_1 _), nm_r (e' := upd (upd s (bt_ln b i) (nI (bt_or b (bt_ln b i)))) (bt_ln b i + 1) (nI (bt_or b (bt_ln b i + 1)))) (by rw [nI_1, nI_clamp (by omega), nI_clamp (by omega), c.2, p4]) (nm_r (e' := nI (bt_ln b i + 2)) (nI_add _ 2) (nm_r (nI_1 i) ?_))⟩⟩
      have t := hw (upd (upd s (bt_ln b i) (nI (bt_or b (bt_ln b i)))) (bt_ln b i + 1) (nI (bt_or b (bt_ln b i + 1)))) (by
        intro j hj
        rw [p2] at hj
        by_cases e1 : j = bt_ln b i + 1
        · rw [e1, pk_us]
        · rw [pk_un e1]
          by_cases e2 : j = bt_ln b i
          · rw [e2, pk_us]
          · rw [pk_un e2]
            exact hs j (by omega))
      rw [p2] at t
      exact t
end
section
/-! a node's four places in a table: filled up to i, all else as before -/
def bt_tb {α : Type} (x i : Nat) (B : Nat → α) (a s : Nat → α) : Prop := (∀ t, t < i → s (4 * x + t) = B t) ∧ (∀ j, (j < 4 * x ∨ 4 * x + 4 ≤ j) → s j = a j)
theorem bt_tb_0 {α : Type} (x : Nat) (B a : Nat → α) : bt_tb x 0 B a a := ⟨fun t h => absurd h (by omega), fun j _ => rfl⟩
theorem bt_tb_s {α : Type} {x i : Nat} {B a s s' : Nat → α} (hi : i < 4) (h : bt_tb x i B a s) (h1 : s' (4 * x + i) = B i) (h2 : ∀ j, j ≠ 4 * x + i → s' j = s j) : bt_tb x (i + 1) B a s' := by
  refine ⟨fun t ht => ?_, fun j hj => ?_⟩
  · by_cases e : t = i
    · rw [e]; exact h1
    · rw [h2 _ (by omega)]
      exact h.1 t (by omega)
  · rw [h2 j (by omega)]
    exact h.2 j hj
theorem bt_tb_o {α : Type} {x i y t : Nat} {B a s : Nat → α} (h : bt_tb x i B a s) (hy : y ≠ x) (ht : t < 4) : s (4 * y + t) = a (4 * y + t) := h.2 _ (by omega)
/-! leastFor, one state of one node -/
theorem bt_85l {post : Int32 → St2 → Prop} {J11 J25 : Int32 → Int32 → Int32 → Int32 → Int32 → (Nat → Int32) → (Nat → Int32) → (Nat → Int32) → (Nat → Int32) → (Nat → Int32) → (Nat → Int32) → (Nat → Int32) → (Nat → Int32) → (Nat → Int32) → (Nat → Int32) → (Nat → Int32) → (Nat → Int64) → (Nat → Int32) → Prop} {x1 x2 z0 : Int32} {x s : Nat} {lc ic tp ls : Int32} {a1 a2 a3 a4 a5 a6 a7 a8 a9 a10 a11 : Nat → Int32} {a12 : Nat → Int64} {a13 : Nat → Int32} (hx : x < 8) (hs : s < 4)
    (H : J25 (nI (s + 1)) lc ic tp ls a1 a2 a3 a4 a5 a6 a7 a8 a9 (upd a10 (4 * x + s) z0) a11 a12 a13) : wX_leastFor_85 post J11 J25 x1 x2 (nI x) (nI s) z0 ((4 * nI x) + nI s) lc ic tp ls a1 a2 a3 a4 a5 a6 a7 a8 a9 a10 a11 a12 a13 := by
  unfold wX_leastFor_85
  rw [bt_ic (by omega)]
  exact ⟨bt_ii x s 56 (by omega), nm_e (pk_lt x 8 (fun _ => nm_r (nI_1 s) H) (fun z => absurd z (by omega)))⟩
theorem bt_85i {post : Int32 → St2 → Prop} {J11 J25 : Int32 → Int32 → Int32 → Int32 → Int32 → (Nat → Int32) → (Nat → Int32) → (Nat → Int32) → (Nat → Int32) → (Nat → Int32) → (Nat → Int32) → (Nat → Int32) → (Nat → Int32) → (Nat → Int32) → (Nat → Int32) → (Nat → Int32) → (Nat → Int64) → (Nat → Int32) → Prop} {x1 x2 z0 : Int32} {x s y1 y2 : Nat} {lc ic tp ls : Int32} {a1 a2 a3 a4 a5 a6 a7 a8 a9 a10 a11 : Nat → Int32} {a12 : Nat → Int64} {a13 : Nat → Int32} {C : Nat → Nat → Nat} {b1 m1 b2 m2 : Nat → Nat}
    (hx8 : 8 ≤ x) (hx : x < 14) (hy1 : y1 < 14) (hy2 : y2 < 14) (n1 : y1 ≠ x) (n2 : y2 ≠ x) (hs : s < 4) (h2 : a2 x = nI y1) (h3 : a3 x = nI y2)
    (h5 : ∀ t, t < 4 → a5 (4 * s + t) = nI (C s t)) (h91 : ∀ t, t < 4 → a9 (4 * y1 + t) = nI (b1 t)) (h101 : ∀ t, t < 4 → a10 (4 * y1 + t) = nI (m1 t)) (h92 : ∀ t, t < 4 → a9 (4 * y2 + t) = nI (b2 t)) (h102 : ∀ t, t < 4 → a10 (4 * y2 + t) = nI (m2 t))
    (hC : ∀ s t, C s t ≤ 7) (hb1 : ∀ t, b1 t ≤ 200000) (hb2 : ∀ t, b2 t ≤ 200000)
    (H : ∀ b9 b10, b9 (4 * x + s) = a9 (4 * x + s) + nI (bt_lu C b1 s) + nI (bt_lu C b2 s) → b10 (4 * x + s) = z0 * nI (bt_nu C b1 m1 s) * nI (bt_nu C b2 m2 s) → (∀ j, j ≠ 4 * x + s → b9 j = a9 j ∧ b10 j = a10 j) → J25 (nI (s + 1)) lc ic tp ls a1 a2 a3 a4 a5 a6 a7 a8 b9 b10 a11 a12 a13) :
    wX_leastFor_85 post J11 J25 x1 x2 (nI x) (nI s) z0 ((4 * nI x) + nI s) lc ic tp ls a1 a2 a3 a4 a5 a6 a7 a8 a9 a10 a11 a12 a13 := by
  unfold wX_leastFor_85
  rw [bt_ic (by omega), nI_clamp (show x < 2 ^ 31 by omega), h2]
  refine ⟨bt_ii x s 56 (by omega), nm_e (pk_lt x 8 (fun z => absurd z (by omega)) (fun _ => ⟨pk_in x 14 hx, ?_⟩))⟩
  refine bt_addChild (mo := m1) hx hy1 hs h5 h91 (fun t ht => ?_) hC hb1 ?_
  · rw [pk_un (by omega)]
    exact h101 t ht
  try dsimp only
  rw [h3]
  refine ⟨pk_in x 14 hx, bt_addChild (bo := b2) (mo := m2) hx hy2 hs h5 (fun t ht => ?_) (fun t ht => ?_) hC hb2 ?_⟩
  · rw [pk_un (by omega)]
    exact h92 t ht
  · rw [pk_un (by omega), pk_un (by omega)]
    exact h102 t ht
  try dsimp only
  refine nm_r (nI_1 s) (H _ _ ?_ ?_ ?_)
  · rw [pk_us, pk_us]
  · rw [pk_us, pk_us, pk_us]
  · intro j hj
    exact ⟨by rw [pk_un hj, pk_un hj], by rw [pk_un hj, pk_un hj, pk_un hj]⟩
/-! leastFor, one node -/
theorem bt_25l {post : Int32 → St2 → Prop} {J11 : Int32 → Int32 → Int32 → Int32 → Int32 → (Nat → Int32) → (Nat → Int32) → (Nat → Int32) → (Nat → Int32) → (Nat → Int32) → (Nat → Int32) → (Nat → Int32) → (Nat → Int32) → (Nat → Int32) → (Nat → Int32) → (Nat → Int32) → (Nat → Int64) → (Nat → Int32) → Prop} {x2 : Int32} {x site w : Nat} {lc ic tp ls : Int32} {a1 a2 a3 a4 a5 a6 a7 a8 a9 a10 a11 : Nat → Int32} {a12 : Nat → Int64} {a13 : Nat → Int32} (hx : x < 7) (hsi : site < 4) (ha : a4 x = nI w) (hw : w < 256)
    (H : ∀ b9 b10, bt_tb x 4 (fun t => nI (bt_bl (w / 4 ^ (3 - site) % 4) t)) a9 b9 → bt_tb x 4 (fun t => nI (bt_ml (w / 4 ^ (3 - site) % 4) t)) a10 b10 → J11 (x2 + (-1)) lc ic tp ls a1 a2 a3 a4 a5 a6 a7 a8 b9 b10 a11 a12 a13) :
    ∃ n, wX_leastFor_25 post J11 (nI site) x2 (nI x) n 0 lc ic tp ls a1 a2 a3 a4 a5 a6 a7 a8 a9 a10 a11 a12 a13 := by
  refine pk_loop (fun n i s => wX_leastFor_25 post J11 (nI site) x2 (nI x) n (nI i) lc ic tp ls a1 a2 a3 a4 a5 a6 a7 a8 (s.1) (s.2) a11 a12 a13) (fun i s => bt_tb x i (fun t => nI (bt_bl (w / 4 ^ (3 - site) % 4) t)) a9 s.1 ∧ bt_tb x i (fun t => nI (bt_ml (w / 4 ^ (3 - site) % 4) t)) a10 s.2) 4 0 (a9, a10) (by omega) ⟨bt_tb_0 _ _ _, bt_tb_0 _ _ _⟩
    (fun n s hI => pk_le 4 4 (fun _ => nm_e (H s.1 s.2 hI.1 hI.2)) (fun z => absurd z (by omega))) (fun n i s hi hI hn => pk_le 4 i (fun z => absurd z (by omega)) (fun _ => bt_mayBe_l hx ha hw hsi hi ?_))
  by_cases e : w / 4 ^ (3 - site) % 4 = i
  · rw [if_pos e]
    refine br_f (by decide) ?_
    unfold wX_leastFor_58
    rw [bt_ic (by omega)]
    refine ⟨bt_ii x i 56 (by omega), nm_e (bt_mayBe_l hx ha hw hsi hi ?_)⟩
    rw [if_pos e]
    refine br_f (by decide) (bt_85l (by omega) hi (hn (upd s.1 (4 * x + i) 0, upd s.2 (4 * x + i) 1) ⟨bt_tb_s hi hI.1 ?_ (fun j hj => pk_un hj), bt_tb_s hi hI.2 ?_ (fun j hj => pk_un hj)⟩))
    · show upd s.1 (4 * x + i) 0 (4 * x + i) = nI (if _ then 0 else 100000)
      rw [pk_us, if_pos e]
      rfl
    · show upd s.2 (4 * x + i) 1 (4 * x + i) = nI (if _ then 1 else 0)
      rw [pk_us, if_pos e]
      rfl
  · rw [if_neg e]
    refine br_t rfl ?_
    unfold wX_leastFor_58
    rw [bt_ic (by omega)]
    refine ⟨bt_ii x i 56 (by omega), nm_e (bt_mayBe_l hx ha hw hsi hi ?_)⟩
    rw [if_neg e]
    refine br_t rfl (bt_85l (by omega) hi (hn (upd s.1 (4 * x + i) 100000, upd s.2 (4 * x + i) 0) ⟨bt_tb_s hi hI.1 ?_ (fun j hj => pk_un hj), bt_tb_s hi hI.2 ?_ (fun j hj => pk_un hj)⟩))
    · show upd s.1 (4 * x + i) 100000 (4 * x + i) = nI (if _ then 0 else 100000)
      rw [pk_us, if_neg e]
      rfl
    · show upd s.2 (4 * x + i) 0 (4 * x + i) = nI (if _ then 1 else 0)
      rw [pk_us, if_neg e]
      rfl
theorem bt_25i {post : Int32 → St2 → Prop} {J11 : Int32 → Int32 → Int32 → Int32 → Int32 → (Nat → Int32) → (Nat → Int32) → (Nat → Int32) → (Nat → Int32) → (Nat → Int32) → (Nat → Int32) → (Nat → Int32) → (Nat → Int32) → (Nat → Int32) → (Nat → Int32) → (Nat → Int32) → (Nat → Int64) → (Nat → Int32) → Prop} {x1 x2 : Int32} {x y1 y2 : Nat} {lc ic tp ls : Int32} {a1 a2 a3 a4 a5 a6 a7 a8 a9 a10 a11 : Nat → Int32} {a12 : Nat → Int64} {a13 : Nat → Int32} {C : Nat → Nat → Nat} {b1 m1 b2 m2 : Nat → Nat}
    (hx8 : 8 ≤ x) (hx : x < 14) (hy1 : y1 < 14) (hy2 : y2 < 14) (n1 : y1 ≠ x) (n2 : y2 ≠ x) (h2 : a2 x = nI y1) (h3 : a3 x = nI y2)
    (h5 : ∀ s, s < 4 → ∀ t, t < 4 → a5 (4 * s + t) = nI (C s t)) (h91 : ∀ t, t < 4 → a9 (4 * y1 + t) = nI (b1 t)) (h101 : ∀ t, t < 4 → a10 (4 * y1 + t) = nI (m1 t)) (h92 : ∀ t, t < 4 → a9 (4 * y2 + t) = nI (b2 t)) (h102 : ∀ t, t < 4 → a10 (4 * y2 + t) = nI (m2 t))
    (hC : ∀ s t, C s t ≤ 7) (hb1 : ∀ t, b1 t ≤ 200000) (hb2 : ∀ t, b2 t ≤ 200000)
    (H : ∀ b9 b10, bt_tb x 4 (fun t => nI (bt_bc C b1 b2 t)) a9 b9 → bt_tb x 4 (fun t => nI (bt_mc C b1 m1 b2 m2 t)) a10 b10 → J11 (x2 + (-1)) lc ic tp ls a1 a2 a3 a4 a5 a6 a7 a8 b9 b10 a11 a12 a13) :
    ∃ n, wX_leastFor_25 post J11 x1 x2 (nI x) n 0 lc ic tp ls a1 a2 a3 a4 a5 a6 a7 a8 a9 a10 a11 a12 a13 := by
  refine pk_loop (fun n i s => wX_leastFor_25 post J11 x1 x2 (nI x) n (nI i) lc ic tp ls a1 a2 a3 a4 a5 a6 a7 a8 (s.1) (s.2) a11 a12 a13) (fun i s => bt_tb x i (fun t => nI (bt_bc C b1 b2 t)) a9 s.1 ∧ bt_tb x i (fun t => nI (bt_mc C b1 m1 b2 m2 t)) a10 s.2) 4 0 (a9, a10) (by omega) ⟨bt_tb_0 _ _ _, bt_tb_0 _ _ _⟩
    (fun n s hI => pk_le 4 4 (fun _ => nm_e (H s.1 s.2 hI.1 hI.2)) (fun z => absurd z (by omega))) (fun n i s hi hI hn => pk_le 4 i (fun z => absurd z (by omega)) (fun _ => bt_mayBe_i hx8 hx (br_f (by decide) ?_)))
  unfold wX_leastFor_58
  rw [bt_ic (by omega)]
  refine ⟨bt_ii x i 56 (by omega), nm_e (bt_mayBe_i hx8 hx (br_f (by decide) ?_))⟩
  refine bt_85i (C := C) (b1 := b1) (m1 := m1) (b2 := b2) (m2 := m2) hx8 hx hy1 hy2 n1 n2 hi h2 h3 (h5 i hi) (fun t ht => ?_) (fun t ht => ?_) (fun t ht => ?_) (fun t ht => ?_) hC hb1 hb2 (fun b9 b10 e9 e10 eo => hn (b9, b10) ⟨bt_tb_s hi hI.1 ?_ (fun j hj => ?_), bt_tb_s hi hI.2 ?_ (fun j hj => ?_)⟩)
  · rw [pk_un (by omega), bt_tb_o hI.1 n1 ht, h91 t ht]
  · rw [bt_tb_o hI.2 n1 ht, h101 t ht]
  · rw [pk_un (by omega), bt_tb_o hI.1 n2 ht, h92 t ht]
  · rw [bt_tb_o hI.2 n2 ht, h102 t ht]
  · show b9 (4 * x + i) = nI (bt_lu C b1 i + bt_lu C b2 i)
    rw [e9, pk_us, ← nI_0, nI_add, nI_add, Nat.zero_add]
  · show b9 j = s.1 j
    rw [(eo j hj).1, pk_un hj]
  · show b10 (4 * x + i) = nI (bt_nu C b1 m1 i * bt_nu C b2 m2 i)
    rw [e10, show (1 : Int32) = nI 1 from rfl, pk_mul, pk_mul, Nat.one_mul]
  · exact (eo j hj).2
/-! leastFor -/
def bt_pic (b : Bool) (C : Nat → Nat → Nat) (own : Nat → Nat) (a1 a2 a3 a4 a5 : Nat → Int32) : Prop := bt_T b a1 a2 a3 ∧ (∀ i, i < 4 → a4 i = nI (own i) ∧ own i < 256) ∧ (∀ s, s < 4 → ∀ t, t < 4 → a5 (4 * s + t) = nI (C s t)) ∧ (∀ s t, C s t ≤ 7)
def bt_tab (b : Bool) (C : Nat → Nat → Nat) (v : Nat → Nat) (k0 : Nat) (a9 a10 : Nat → Int32) : Prop := ∀ k, k0 ≤ k → k < 7 → ∀ t, t < 4 → a9 (4 * bt_or b k + t) = nI (bt_Be b C v (bt_or b k) t) ∧ a10 (4 * bt_or b k + t) = nI (bt_Ma b C v (bt_or b k) t)
theorem bt_tab_s {b : Bool} {C : Nat → Nat → Nat} {v : Nat → Nat} {i : Nat} {a9 a10 b9 b10 : Nat → Int32} (hi : i < 7) (h : bt_tab b C v (i + 1) a9 a10) (h9 : bt_tb (bt_or b i) 4 (fun t => nI (bt_Be b C v (bt_or b i) t)) a9 b9) (h10 : bt_tb (bt_or b i) 4 (fun t => nI (bt_Ma b C v (bt_or b i) t)) a10 b10) : bt_tab b C v i b9 b10 := by
  intro k hk hk7 t ht
  by_cases e : k = i
  · subst e
    exact ⟨h9.1 t ht, h10.1 t ht⟩
  · have n : bt_or b k ≠ bt_or b i := fun z => e (bt_tr2 b k hk7 i hi z)
    rw [bt_tb_o h9 n ht, bt_tb_o h10 n ht]
    exact h k (by omega) hk7 t ht
theorem bt_135 {post : Int32 → St2 → Prop} {lc ic ls : Int32} {a1 a2 a3 a4 a5 a6 a7 a8 a9 a10 a11 : Nat → Int32} {a12 : Nat → Int64} {a13 : Nat → Int32} {B : Nat → Nat} (h9 : ∀ t, t < 4 → a9 (4 * 8 + t) = nI (B t)) (hB : ∀ t, B t ≤ 200000)
    (H : post (nI (bt_mn B 4)) (lc, ic, nI 8, ls, a1, a2, a3, a4, a5, a6, a7, a8, a9, a10, a11, a12, a13)) : ∃ n, wX_leastFor_135 post lc ic (nI 8) ls a1 a2 a3 a4 a5 a6 a7 a8 a9 a10 a11 a12 a13 n 100000 0 := by
  refine pk_loop (σ := Unit) (fun n i _ => wX_leastFor_135 post lc ic (nI 8) ls a1 a2 a3 a4 a5 a6 a7 a8 a9 a10 a11 a12 a13 n (nI (bt_mn B i)) (nI i)) (fun _ _ => True) 4 0 () (by omega) trivial
    (fun n _ _ => pk_le 4 4 (fun _ => H) (fun z => absurd z (by omega))) (fun n i _ hi _ hw => pk_le 4 i (fun z => absurd z (by omega)) (fun _ => ⟨bt_ii 8 i 56 (by omega), ?_⟩))
  have e : bt_mn B (i + 1) = min (bt_mn B i) (B i) := rfl
  have h2 := hB i
  have h3 := bt_mn_cap B i
  have t := hw () trivial
  try dsimp only at t
  rw [e] at t
  rw [bt_ic (by omega), h9 i hi]
  refine pk_le (bt_mn B i) (B i) (fun z => nm_r (nI_1 i) ?_) (fun z => ⟨bt_ii 8 i 56 (by omega), nm_e (nm_r (nI_1 i) ?_)⟩)
  · rw [Nat.min_eq_left z] at t
    exact t
  · rw [Nat.min_eq_right (by omega)] at t
    exact t
theorem bt_leastFor {post : Int32 → St2 → Prop} {lc ic ls : Int32} {a1 a2 a3 a4 a5 a6 a7 a8 a9 a10 a11 : Nat → Int32} {a12 : Nat → Int64} {a13 : Nat → Int32} {b : Bool} {C : Nat → Nat → Nat} {own : Nat → Nat} {site : Nat} (hsi : site < 4) (hp : bt_pic b C own a1 a2 a3 a4 a5)
    (H : ∀ b7 b9 b10, bt_O b b7 → bt_tab b C (bt_vv own site) 0 b9 b10 → post (nI (bt_mn (bt_Be b C (bt_vv own site) 8) 4)) (lc, ic, nI 8, nI 7, a1, a2, a3, a4, a5, a6, b7, a8, b9, b10, a11, a12, a13)) : wpX_leastFor post (lc, ic, nI 8, ls, a1, a2, a3, a4, a5, a6, a7, a8, a9, a10, a11, a12, a13) (nI site) := by
  obtain ⟨hT, h4, h5, hC⟩ := hp
  unfold wpX_leastFor
  refine bt_listNodes b hT (fun b7 hO => ?_)
  try dsimp only
  refine nm_r (e' := nI 7 + (-1)) (by decide) ⟨8, ?_⟩
  refine pk_loopD (fun n i s => wX_leastFor_11 post (nI site) n (nI i + (-1)) lc ic (nI 8) (nI 7) a1 a2 a3 a4 a5 a6 b7 a8 (s.1) (s.2) a11 a12 a13) (fun i s => i ≤ 7 ∧ bt_tab b C (bt_vv own site) i s.1 s.2) ?_ ?_ 7 (a9, a10) ⟨by omega, fun k h1 h2 => absurd h1 (by omega)⟩
  · intro n s hI
    refine br_t (by decide) (bt_135 (B := bt_Be b C (bt_vv own site) 8) (fun t ht => ?_) (bt_Be_cap b C _ (by omega)) (H b7 s.1 s.2 hO hI.2))
    have e := (hI.2 0 (by omega) (by omega) t ht).1
    rw [(bt_ln0 b).2.2] at e
    exact e
  · intro n i s hI hn
    obtain ⟨hi, hI⟩ := hI
    obtain ⟨o1, o2, o3, o4, o5⟩ := bt_tr1 b i (by omega)
    try dsimp only at hn ⊢
    rw [pk_m1]
    refine br_f (nI_pos (by omega)) ⟨pk_in i 14 (by omega), nm_r (e' := nI (bt_or b i)) (by rw [nI_clamp (by omega)]; exact hO i (by omega)) ?_⟩
    by_cases z : bt_or b i < 8
    · obtain ⟨p1, _⟩ := o4 z
      obtain ⟨q1, q2⟩ := h4 (bt_or b i) p1
      refine bt_25l (by omega) hsi q1 q2 (fun b9 b10 e9 e10 => hn (b9, b10) ⟨by omega, bt_tab_s (by omega) hI ?_ ?_⟩)
      · rw [bt_Be_l b C _ z]
        exact e9
      · rw [bt_Ma_l b C _ z]
        exact e10
    · obtain ⟨p1, _, p3, p4⟩ := o5 (by omega)
      have c := hT.2 (bt_or b i) (by omega) o1
      have t1 := hI (bt_ln b i) (by omega) (by omega)
      have t2 := hI (bt_ln b i + 1) (by omega) (by omega)
      have n1 : bt_or b (bt_ln b i) ≠ bt_or b i := fun z => absurd (bt_tr2 b _ (by omega) i (by omega) z) (by omega)
      have n2 : bt_or b (bt_ln b i + 1) ≠ bt_or b i := fun z => absurd (bt_tr2 b _ (by omega) i (by omega) z) (by omega)
      have l1 := (bt_tr1 b (bt_ln b i) (by omega)).1
      have l2 := (bt_tr1 b (bt_ln b i + 1) (by omega)).1
      rw [p3] at t1 n1 l1
      rw [p4] at t2 n2 l2
      refine bt_25i (by omega) (by omega) (by omega) (by omega) n1 n2 c.1 c.2 h5 (fun t ht => (t1 t ht).1) (fun t ht => (t1 t ht).2) (fun t ht => (t2 t ht).1) (fun t ht => (t2 t ht).2) hC (bt_Be_cap b C _ (by omega)) (bt_Be_cap b C _ (by omega)) (fun b9 b10 e9 e10 => hn (b9, b10) ⟨by omega, bt_tab_s (by omega) hI ?_ ?_⟩)
      · rw [bt_Be_i b C _ (by omega) o1]
        exact e9
      · rw [bt_Ma_i b C _ (by omega) o1]
        exact e10
end
section
/-! workDown -/
theorem bt_94 {post : St2 → Prop} {J29 J81 : Int32 → (Nat → Int32) → (Nat → Int32) → (Nat → Int32) → (Nat → Int32) → (Nat → Int32) → (Nat → Int32) → (Nat → Int32) → (Nat → Int32) → (Nat → Int32) → (Nat → Int32) → (Nat → Int32) → (Nat → Int64) → (Nat → Int32) → Prop} {x1 : Int32} {x p o s : Nat} {lc ic tp ls : Int32} {a1 a2 a3 a4 a5 a6 a7 a8 a9 a10 a11 : Nat → Int32} {a12 : Nat → Int64} {a13 : Nat → Int32} {C : Nat → Nat → Nat} {ap bo : Nat → Nat}
    (hx : x < 14) (hp : p < 14) (ho : o < 14) (hs : s < 4) (h5 : ∀ s, s < 4 → ∀ t, t < 4 → a5 (4 * s + t) = nI (C s t)) (h9 : ∀ t, t < 4 → a9 (4 * o + t) = nI (bo t)) (h11 : ∀ t, t < 4 → a11 (4 * p + t) = nI (ap t))
    (hC : ∀ s t, C s t ≤ 7) (hb : ∀ t, bo t ≤ 200000) (ha : ∀ t, ap t ≤ 100000)
    (H : J81 (nI (s + 1)) a1 a2 a3 a4 a5 a6 a7 a8 a9 a10 (upd a11 (4 * x + s) (nI (bt_ac C ap bo s))) a12 a13) : ∃ n, wX_workDown_94 post J29 J81 x1 (nI x) (nI p) (nI o) (nI s) lc ic tp ls a1 a2 a3 a4 a5 a6 a7 a8 a9 a10 a11 a12 a13 n 100000 0 := by
  refine pk_loop (σ := Unit) (fun n i _ => wX_workDown_94 post J29 J81 x1 (nI x) (nI p) (nI o) (nI s) lc ic tp ls a1 a2 a3 a4 a5 a6 a7 a8 a9 a10 a11 a12 a13 n (nI (bt_mn (fun t => ap t + bt_lu C bo t + C t s) i)) (nI i)) (fun _ _ => True) 4 0 () (by omega) trivial
    (fun n _ _ => pk_le 4 4 (fun _ => ⟨bt_ii x s 56 (by omega), nm_r (e' := upd a11 (4 * x + s) (nI (bt_ac C ap bo s))) (by rw [bt_ic (by omega)]; rfl) (nm_r (nI_1 s) H)⟩) (fun z => absurd z (by omega)))
    (fun n i _ hi _ hw => pk_le 4 i (fun z => absurd z (by omega)) (fun _ => bt_leastUnder ho hi (h5 i hi) h9 hC hb ⟨bt_ii p i 56 (by omega), bt_ii i s 16 (by omega), nm_r (e' := nI (ap i + bt_lu C bo i + C i s)) (by rw [bt_ic (by omega), bt_ic (by omega), h11 i hi, h5 i hi s hs, nI_add, nI_add]) ?_⟩))
  have e : bt_mn (fun t => ap t + bt_lu C bo t + C t s) (i + 1) = min (bt_mn (fun t => ap t + bt_lu C bo t + C t s) i) (ap i + bt_lu C bo i + C i s) := rfl
  have h1 := hC i s
  have h2 := ha i
  have h3 := bt_lu_cap C bo i
  have h4 := bt_mn_cap (fun t => ap t + bt_lu C bo t + C t s) i
  have t := hw () trivial
  try dsimp only at t
  rw [e] at t
  refine pk_le (bt_mn (fun t => ap t + bt_lu C bo t + C t s) i) (ap i + bt_lu C bo i + C i s) (fun z => nm_r (nI_1 i) ?_) (fun z => nm_r (nI_1 i) ?_)
  · rw [Nat.min_eq_left z] at t
    exact t
  · rw [Nat.min_eq_right (by omega)] at t
    exact t
theorem bt_81 {post : St2 → Prop} {J29 : Int32 → (Nat → Int32) → (Nat → Int32) → (Nat → Int32) → (Nat → Int32) → (Nat → Int32) → (Nat → Int32) → (Nat → Int32) → (Nat → Int32) → (Nat → Int32) → (Nat → Int32) → (Nat → Int32) → (Nat → Int64) → (Nat → Int32) → Prop} {x1 : Int32} {x p o : Nat} {lc ic tp ls : Int32} {a1 a2 a3 a4 a5 a6 a7 a8 a9 a10 a11 : Nat → Int32} {a12 : Nat → Int64} {a13 : Nat → Int32} {C : Nat → Nat → Nat} {ap bo : Nat → Nat}
    (hx : x < 14) (hp : p < 14) (ho : o < 14) (np : p ≠ x) (h5 : ∀ s, s < 4 → ∀ t, t < 4 → a5 (4 * s + t) = nI (C s t)) (h9 : ∀ t, t < 4 → a9 (4 * o + t) = nI (bo t)) (h11 : ∀ t, t < 4 → a11 (4 * p + t) = nI (ap t))
    (hC : ∀ s t, C s t ≤ 7) (hb : ∀ t, bo t ≤ 200000) (ha : ∀ t, ap t ≤ 100000)
    (H : ∀ b11, bt_tb x 4 (fun t => nI (bt_ac C ap bo t)) a11 b11 → J29 (x1 + 1) a1 a2 a3 a4 a5 a6 a7 a8 a9 a10 b11 a12 a13) : ∃ n, wX_workDown_81 post J29 x1 (nI x) (nI p) (nI o) lc ic tp ls n 0 a1 a2 a3 a4 a5 a6 a7 a8 a9 a10 a11 a12 a13 :=
  pk_loop (fun n i s => wX_workDown_81 post J29 x1 (nI x) (nI p) (nI o) lc ic tp ls n (nI i) a1 a2 a3 a4 a5 a6 a7 a8 a9 a10 s a12 a13) (fun i s => bt_tb x i (fun t => nI (bt_ac C ap bo t)) a11 s) 4 0 a11 (by omega) (bt_tb_0 _ _ _)
    (fun n s hI => pk_le 4 4 (fun _ => nm_e (H s hI)) (fun z => absurd z (by omega)))
    (fun n i s hi hI hw => pk_le 4 i (fun z => absurd z (by omega)) (fun _ => bt_94 hx hp ho hi h5 h9 (fun t ht => by rw [bt_tb_o hI np ht, h11 t ht]) hC hb ha (hw _ (bt_tb_s hi hI pk_us (fun j hj => pk_un hj)))))
def bt_abv (b : Bool) (C : Nat → Nat → Nat) (v : Nat → Nat) (i : Nat) (a11 : Nat → Int32) : Prop := ∀ k, k < i → ∀ t, t < 4 → a11 (4 * bt_or b k + t) = nI (bt_Ab b C v (bt_or b k) t)
theorem bt_abv_s {b : Bool} {C : Nat → Nat → Nat} {v : Nat → Nat} {i : Nat} {a11 b11 : Nat → Int32} (hi : i < 7) (h : bt_abv b C v i a11) (h1 : bt_tb (bt_or b i) 4 (fun t => nI (bt_Ab b C v (bt_or b i) t)) a11 b11) : bt_abv b C v (i + 1) b11 := by
  intro k hk t ht
  by_cases e : k = i
  · subst e
    exact h1.1 t ht
  · have n : bt_or b k ≠ bt_or b i := fun z => e (bt_tr2 b k (by omega) i hi z)
    rw [bt_tb_o h1 n ht]
    exact h k (by omega) t ht
theorem bt_29 {post : St2 → Prop} {lc ic tp : Int32} {a1 a2 a3 a4 a5 a6 a7 a8 a9 a10 a11 : Nat → Int32} {a12 : Nat → Int64} {a13 : Nat → Int32} {b : Bool} {C : Nat → Nat → Nat} {own v : Nat → Nat} (hp : bt_pic b C own a1 a2 a3 a4 a5) (hO : bt_O b a7) (ht : bt_tab b C v 0 a9 a10) (h0 : bt_abv b C v 1 a11)
    (H : ∀ b11, bt_abv b C v 7 b11 → post (lc, ic, tp, nI 7, a1, a2, a3, a4, a5, a6, a7, a8, a9, a10, b11, a12, a13)) : ∃ n, wX_workDown_29 post lc ic tp (nI 7) n 1 a1 a2 a3 a4 a5 a6 a7 a8 a9 a10 a11 a12 a13 := by
  obtain ⟨hT, h4, h5, hC⟩ := hp
  refine pk_loop (fun n i s => wX_workDown_29 post lc ic tp (nI 7) n (nI i) a1 a2 a3 a4 a5 a6 a7 a8 a9 a10 s a12 a13) (fun i s => 1 ≤ i ∧ bt_abv b C v i s) 7 1 a11 (by omega) ⟨by omega, h0⟩
    (fun n s hI => pk_le 7 7 (fun _ => H s hI.2) (fun z => absurd z (by omega))) ?_
  intro n i s hi hI hw
  obtain ⟨h1, hI⟩ := hI
  obtain ⟨o1, _, _, o4, _⟩ := bt_tr1 b i hi
  obtain ⟨p1, p2, p3, p4, p5⟩ := bt_tr3 b i hi h1
  obtain ⟨k, hk, ek⟩ := bt_tr4 b i hi h1
  obtain ⟨m, hm, em⟩ := bt_tr5 b i hi h1
  have c := hT.2 (bt_pa b (bt_or b i)) p2 p1
  have np : bt_pa b (bt_or b i) ≠ bt_or b i := fun z => absurd (bt_tr2 b k (by omega) i hi (by rw [ek, z])) (by omega)
  have hx : bt_or b i < 4 ∨ 9 ≤ bt_or b i := by
    by_cases z : bt_or b i < 8
    · exact Or.inl (o4 z).1
    · have n8 : bt_or b i ≠ 8 := fun z => absurd (bt_tr2 b i hi 0 (by omega) (by rw [z, (bt_ln0 b).2.2])) (by omega)
      omega
  have hb : ∀ t, t < 4 → a9 (4 * bt_si b (bt_or b i) + t) = nI (bt_Be b C v (bt_si b (bt_or b i)) t) := fun t h => by
    have := (ht m (by omega) hm t h).1
    rw [em] at this
    exact this
  have ha : ∀ t, t < 4 → s (4 * bt_pa b (bt_or b i) + t) = nI (bt_Ab b C v (bt_pa b (bt_or b i)) t) := fun t h => by
    have := hI k hk t h
    rw [ek] at this
    exact this
  have fin : ∃ n', wX_workDown_81 post (wX_workDown_29 post lc ic tp (nI 7) n) (nI i) (nI (bt_or b i)) (nI (bt_pa b (bt_or b i))) (nI (bt_si b (bt_or b i))) lc ic tp (nI 7) n' 0 a1 a2 a3 a4 a5 a6 a7 a8 a9 a10 s a12 a13 :=
    bt_81 (by omega) (by omega) (by omega) np h5 hb ha hC (bt_Be_cap b C v p3) (bt_Ab_cap b C v _) (fun b11 e => by
      rw [nI_1]
      refine hw b11 ⟨by omega, bt_abv_s hi hI ?_⟩
      rw [bt_Ab_i b C v i hi h1]
      exact e)
  refine pk_le 7 i (fun z => absurd z (by omega)) (fun _ => ⟨pk_in i 14 (by omega), nm_r (e' := nI (bt_or b i)) (by rw [nI_clamp (by omega)]; exact hO i hi) ⟨pk_in (bt_or b i) 14 (by omega), nm_r (e' := nI (bt_pa b (bt_or b i))) (by rw [nI_clamp (by omega)]; exact hT.1 _ o1 hx) ⟨pk_in (bt_pa b (bt_or b i)) 14 (by omega), ?_⟩⟩⟩)
  rw [nI_clamp (show bt_pa b (bt_or b i) < 2 ^ 31 by omega), c.1, c.2]
  have q1 := bt_tr6 b (bt_pa b (bt_or b i)) p1
  refine pk_eq (bt_c1 b (bt_pa b (bt_or b i))) (bt_or b i) (fun z => ⟨pk_in (bt_pa b (bt_or b i)) 14 (by omega), nm_r (e' := nI (bt_si b (bt_or b i))) (by rw [p4 z]) fin⟩) (fun z => ⟨pk_in (bt_pa b (bt_or b i)) 14 (by omega), nm_r (e' := nI (bt_si b (bt_or b i))) (by rw [p5 z]) fin⟩)
theorem bt_workDown {post : St2 → Prop} {lc ic : Int32} {a1 a2 a3 a4 a5 a6 a7 a8 a9 a10 a11 : Nat → Int32} {a12 : Nat → Int64} {a13 : Nat → Int32} {b : Bool} {C : Nat → Nat → Nat} {own v : Nat → Nat} (hp : bt_pic b C own a1 a2 a3 a4 a5) (hO : bt_O b a7) (ht : bt_tab b C v 0 a9 a10)
    (H : ∀ b11, bt_abv b C v 7 b11 → post (lc, ic, nI 8, nI 7, a1, a2, a3, a4, a5, a6, a7, a8, a9, a10, b11, a12, a13)) : wpX_workDown post (lc, ic, nI 8, nI 7, a1, a2, a3, a4, a5, a6, a7, a8, a9, a10, a11, a12, a13) :=
  pk_loop (fun n i s => wX_workDown_2 post lc ic (nI 8) (nI 7) n (nI i) a1 a2 a3 a4 a5 a6 a7 a8 a9 a10 s a12 a13) (fun i s => bt_tb 8 i (fun _ => nI 0) a11 s) 4 0 a11 (by omega) (bt_tb_0 _ _ _)
    (fun n s hI => pk_le 4 4 (fun _ => bt_29 hp hO ht (fun k hk t h => by
      have e : k = 0 := by omega
      rw [e, (bt_ln0 b).2.2]
      exact hI.1 t h) H) (fun z => absurd z (by omega)))
    (fun n i s hi hI hw => pk_le 4 i (fun z => absurd z (by omega)) (fun _ => ⟨bt_ii 8 i 56 (by omega), nm_r (e' := upd s (4 * 8 + i) (nI 0)) (by rw [bt_ic (by omega)]; rfl) (nm_r (nI_1 i) (hw _ (bt_tb_s hi hI pk_us (fun j hj => pk_un hj))))⟩))
/-! the questions -/
theorem bt_isNode {post : Int32 → Prop} {tp ls : Int32} {a1 a2 a3 a4 a5 a6 a7 a8 a9 a10 a11 : Nat → Int32} {a12 : Nat → Int64} {a13 : Nat → Int32} {x : Nat} (h8 : 8 ≤ x) (h : x < 11) (H : post 1) : wpX_isNode post (nI 4, nI 3, tp, ls, a1, a2, a3, a4, a5, a6, a7, a8, a9, a10, a11, a12, a13) (nI x) :=
  have q : wX_isNode_12 post (nI x) (nI 4) (nI 3) tp ls a1 a2 a3 a4 a5 a6 a7 a8 a9 a10 a11 a12 a13 := pk_lt x 8 (fun z => absurd z (by omega)) (fun _ => pk_le 11 x (fun z => absurd z (by omega)) (fun _ => H) (by decide))
  br_f (nI_pos (by omega)) (pk_lt x 4 (fun z => absurd z (by omega)) (fun _ => q))
theorem bt_least {post : Int32 → St2 → Prop} {lc ic ls : Int32} {a1 a2 a3 a4 a5 a6 a7 a8 a9 a10 a11 : Nat → Int32} {a12 : Nat → Int64} {a13 : Nat → Int32} {b : Bool} {C : Nat → Nat → Nat} {own : Nat → Nat} {site : Nat} (hsi : site < 4) (hp : bt_pic b C own a1 a2 a3 a4 a5)
    (H : ∀ b7 b9 b10, post (nI (bt_mn (bt_b8 b C (bt_vv own site)) 4)) (lc, ic, nI 8, nI 7, a1, a2, a3, a4, a5, a6, b7, a8, b9, b10, a11, a12, a13)) : wpX_least post (lc, ic, nI 8, ls, a1, a2, a3, a4, a5, a6, a7, a8, a9, a10, a11, a12, a13) (nI site) := by
  unfold wpX_least
  exact bt_isState hsi (br_f (by decide) (bt_leastFor hsi hp (fun b7 b9 b10 _ _ => H b7 b9 b10)))
theorem bt_20 {post : Int32 → St2 → Prop} {lc ic ls : Int32} {a1 a2 a3 a4 a5 a6 a7 a8 a9 a10 a11 : Nat → Int32} {a12 : Nat → Int64} {a13 : Nat → Int32} {B M : Nat → Nat} {m : Nat} (h9 : ∀ t, t < 4 → a9 (4 * 8 + t) = nI (B t)) (h10 : ∀ t, t < 4 → a10 (4 * 8 + t) = nI (M t)) (hB : ∀ t, B t ≤ 200000) (hm : m ≤ 100000)
    (H : post (nI (bt_sm (fun s => if B s = m then M s else 0) 4)) (lc, ic, nI 8, ls, a1, a2, a3, a4, a5, a6, a7, a8, a9, a10, a11, a12, a13)) : ∃ n, wX_ways_20 post (nI m) lc ic (nI 8) ls a1 a2 a3 a4 a5 a6 a7 a8 a9 a10 a11 a12 a13 n 0 0 := by
  refine pk_loop (σ := Unit) (fun n i _ => wX_ways_20 post (nI m) lc ic (nI 8) ls a1 a2 a3 a4 a5 a6 a7 a8 a9 a10 a11 a12 a13 n (nI (bt_sm (fun s => if B s = m then M s else 0) i)) (nI i)) (fun _ _ => True) 4 0 () (by omega) trivial
    (fun n _ _ => pk_le 4 4 (fun _ => H) (fun z => absurd z (by omega))) (fun n i _ hi _ hw => pk_le 4 i (fun z => absurd z (by omega)) (fun _ => ⟨bt_ii 8 i 56 (by omega), ?_⟩))
  have e : bt_sm (fun s => if B s = m then M s else 0) (i + 1) = bt_sm (fun s => if B s = m then M s else 0) i + (if B i = m then M i else 0) := rfl
  have h2 := hB i
  have t := hw () trivial
  try dsimp only at t
  rw [e] at t
  rw [bt_ic (by omega), h9 i hi, h10 i hi]
  refine pk_eq (B i) m (fun z => ⟨bt_ii 8 i 56 (by omega), nm_r (nI_add _ _) (nm_r (nI_1 i) ?_)⟩) (fun z => nm_r (nI_add _ 0) (nm_r (nI_1 i) ?_))
  · rw [if_pos z] at t
    exact t
  · rw [if_neg z] at t
    exact t
theorem bt_tab8 {b : Bool} {C : Nat → Nat → Nat} {v : Nat → Nat} {a9 a10 : Nat → Int32} (h : bt_tab b C v 0 a9 a10) : (∀ t, t < 4 → a9 (4 * 8 + t) = nI (bt_b8 b C v t)) ∧ (∀ t, t < 4 → a10 (4 * 8 + t) = nI (bt_m8 b C v t)) := by
  have e := h 0 (by omega) (by omega)
  rw [(bt_ln0 b).2.2] at e
  exact ⟨fun t ht => (e t ht).1, fun t ht => (e t ht).2⟩
theorem bt_wpways {post : Int32 → St2 → Prop} {lc ic ls : Int32} {a1 a2 a3 a4 a5 a6 a7 a8 a9 a10 a11 : Nat → Int32} {a12 : Nat → Int64} {a13 : Nat → Int32} {b : Bool} {C : Nat → Nat → Nat} {own : Nat → Nat} {site : Nat} (hsi : site < 4) (hp : bt_pic b C own a1 a2 a3 a4 a5)
    (H : ∀ b7 b9 b10, post (nI (bt_sm (fun s => if bt_b8 b C (bt_vv own site) s = bt_mn (bt_b8 b C (bt_vv own site)) 4 then bt_m8 b C (bt_vv own site) s else 0) 4)) (lc, ic, nI 8, nI 7, a1, a2, a3, a4, a5, a6, b7, a8, b9, b10, a11, a12, a13)) : wpX_ways post (lc, ic, nI 8, ls, a1, a2, a3, a4, a5, a6, a7, a8, a9, a10, a11, a12, a13) (nI site) := by
  unfold wpX_ways
  exact bt_isState hsi (br_f (by decide) (bt_leastFor hsi hp (fun b7 b9 b10 _ ht => bt_20 (bt_tab8 ht).1 (bt_tab8 ht).2 (bt_Be_cap b C _ (x := 8) (by omega)) (bt_mn_cap _ _) (H b7 b9 b10))))
theorem bt_36 {post : Int32 → St2 → Prop} {lc ic tp ls : Int32} {a1 a2 a3 a4 a5 a6 a7 a8 a9 a10 a11 : Nat → Int32} {a12 : Nat → Int64} {a13 : Nat → Int32} {B A : Nat → Nat} {x m : Nat} (hx : x < 14) (h9 : ∀ t, t < 4 → a9 (4 * x + t) = nI (B t)) (h11 : ∀ t, t < 4 → a11 (4 * x + t) = nI (A t)) (hB : ∀ t, B t ≤ 200000) (hA : ∀ t, A t ≤ 100000) (hm : m ≤ 100000)
    (H : post (nI (bt_bi (fun s => decide (B s + A s = m)))) (lc, ic, tp, ls, a1, a2, a3, a4, a5, a6, a7, a8, a9, a10, a11, a12, a13)) : ∃ n, wX_states_36 post (nI x) (nI m) lc ic tp ls a1 a2 a3 a4 a5 a6 a7 a8 a9 a10 a11 a12 a13 n 0 0 := by
  refine pk_loop (σ := Unit) (fun n i _ => wX_states_36 post (nI x) (nI m) lc ic tp ls a1 a2 a3 a4 a5 a6 a7 a8 a9 a10 a11 a12 a13 n (nI (bt_bi (fun s => decide (s < i) && decide (B s + A s = m)))) (nI i)) (fun _ _ => True) 4 0 () (by omega) trivial
    (fun n _ _ => pk_le 4 4 (fun _ => ?_) (fun z => absurd z (by omega))) (fun n i _ hi _ hw => pk_le 4 i (fun z => absurd z (by omega)) (fun _ => ⟨bt_ii x i 56 (by omega), bt_ii x i 56 (by omega), ?_⟩))
  · rw [bt_bi_cg (q := fun s => decide (B s + A s = m)) (fun k hk => by rw [decide_eq_true hk, Bool.true_and])]
    exact H
  · have h1 := hB i
    have h2 := hA i
    have t := hw () trivial
    try dsimp only at t
    rw [bt_ic (by omega), h9 i hi, h11 i hi]
    refine pk_eq (B i + A i) m (fun z => nm_r (bt_bi_or _ hi) (nm_r (nI_1 i) ?_)) (fun z => nm_r (nI_1 i) ?_) (nI_add _ _)
    · rw [bt_bi_cg (p := fun s => decide (s < i + 1) && decide (B s + A s = m)) (q := fun k => (decide (k < i) && decide (B k + A k = m)) || decide (i = k)) (fun k hk => ?_)] at t
      · exact t
      · by_cases e : i = k
        · subst e
          rw [decide_eq_true z, decide_eq_true (show i < i + 1 by omega), decide_eq_true (rfl : i = i), Bool.or_true]
          rfl
        · rw [decide_eq_false e, Bool.or_false]
          by_cases c : k < i
          · rw [decide_eq_true c, decide_eq_true (show k < i + 1 by omega)]
          · rw [decide_eq_false c, decide_eq_false (show ¬ k < i + 1 by omega)]
    · rw [bt_bi_cg (p := fun s => decide (s < i + 1) && decide (B s + A s = m)) (q := fun k => (decide (k < i) && decide (B k + A k = m))) (fun k hk => ?_)] at t
      · exact t
      · by_cases e : i = k
        · subst e
          rw [decide_eq_false z, Bool.and_false, Bool.and_false]
        · by_cases c : k < i
          · rw [decide_eq_true c, decide_eq_true (show k < i + 1 by omega)]
          · rw [decide_eq_false c, decide_eq_false (show ¬ k < i + 1 by omega)]
theorem bt_states {post : Int32 → St2 → Prop} {ls : Int32} {a1 a2 a3 a4 a5 a6 a7 a8 a9 a10 a11 : Nat → Int32} {a12 : Nat → Int64} {a13 : Nat → Int32} {b : Bool} {C : Nat → Nat → Nat} {own : Nat → Nat} {site k x : Nat} (hk : k < 7) (hx : bt_or b k = x) (hk8 : 8 ≤ x) (hsi : site < 4) (hp : bt_pic b C own a1 a2 a3 a4 a5)
    (H : ∀ b7 b9 b10 b11, post (nI (bt_bi (fun s => decide (bt_Be b C (bt_vv own site) x s + bt_Ab b C (bt_vv own site) x s = bt_mn (bt_b8 b C (bt_vv own site)) 4)))) (nI 4, nI 3, nI 8, nI 7, a1, a2, a3, a4, a5, a6, b7, a8, b9, b10, b11, a12, a13)) : wpX_states post (nI 4, nI 3, nI 8, ls, a1, a2, a3, a4, a5, a6, a7, a8, a9, a10, a11, a12, a13) (nI x) (nI site) := by
  unfold wpX_states
  have o1 := (bt_tr1 b k hk).1
  subst hx
  refine bt_isNode hk8 o1 (br_f (by decide) (bt_isState hsi (br_f (by decide) (bt_leastFor hsi hp (fun b7 b9 b10 hO ht => ?_)))))
  try dsimp only
  refine bt_workDown hp hO ht (fun b11 ha => ?_)
  try dsimp only
  exact bt_36 (by omega) (fun t h => (ht k (by omega) hk t h).1) (fun t h => ha k hk t h) (bt_Be_cap b C _ o1) (bt_Ab_cap b C _ _) (bt_mn_cap _ _) (H b7 b9 b10 b11)
end
section
/-! weight -/
theorem bt_sumOver {post : Int64 → Prop} {lc ic tp ls : Int32} {a1 a2 a3 a4 a5 a6 a7 a8 a9 a10 a11 : Nat → Int32} {a12 : Nat → Int64} {a13 : Nat → Int32} {R : Nat → Nat → Nat} {wo : Nat → Nat} {y s : Nat} (hy : y < 14) (hs : s < 4)
    (h6 : ∀ t, t < 4 → a6 (4 * s + t) = nI (R s t)) (h12 : ∀ t, t < 4 → a12 (4 * y + t) = lN (wo t)) (hR : ∀ s t, R s t ≤ 3)
    (H : post (lN (bt_su R wo s))) : wpX_sumOver post (lc, ic, tp, ls, a1, a2, a3, a4, a5, a6, a7, a8, a9, a10, a11, a12, a13) (nI y) (nI s) :=
  pk_loop (σ := Unit) (fun n i _ => wX_sumOver_5 post (nI y) (nI s) lc ic tp ls a1 a2 a3 a4 a5 a6 a7 a8 a9 a10 a11 a12 a13 n (lN (bt_sm (fun t => R s t * wo t) i)) (nI i)) (fun _ _ => True) 4 0 () (by omega) trivial
    (fun n _ _ => pk_le 4 4 (fun _ => H) (fun z => absurd z (by omega)))
    (fun n i _ hi _ hw => pk_le 4 i (fun z => absurd z (by omega)) (fun _ => ⟨bt_ii s i 16 (by omega), bt_ii y i 56 (by omega), nm_r (e' := lN (bt_sm (fun t => R s t * wo t) i + R s i * wo i)) (by
      have h1 := hR s i
      rw [bt_ic (by omega), bt_ic (by omega), h6 i hi, h12 i hi, nI_l (by omega), lN_mul, lN_add]) (nm_r (nI_1 i) (hw () trivial))⟩))
theorem bt_88 {post : Int64 → St2 → Prop} {J22 J36 : Int32 → (Nat → Int32) → (Nat → Int32) → (Nat → Int32) → (Nat → Int32) → (Nat → Int32) → (Nat → Int32) → (Nat → Int32) → (Nat → Int32) → (Nat → Int32) → (Nat → Int32) → (Nat → Int32) → (Nat → Int64) → (Nat → Int32) → Prop} {x1 x2 : Int32} {x5 z0 : Int64} {x s : Nat} {lc ic tp ls : Int32} {a1 a2 a3 a4 a5 a6 a7 a8 a9 a10 a11 : Nat → Int32} {a12 : Nat → Int64} {a13 : Nat → Int32} (hx8 : 8 ≤ x) (hx : x < 14) (hs : s < 4)
    (H : J36 (nI (s + 1)) a1 a2 a3 a4 a5 a6 a7 a8 a9 a10 a11 (vp_updL a12 (4 * x + s) (x5 * z0)) a13) : wX_weight_88 post J22 J36 x1 x2 (nI x) (nI s) x5 z0 lc ic tp ls a1 a2 a3 a4 a5 a6 a7 a8 a9 a10 a11 a12 a13 := by
  unfold wX_weight_88
  refine bt_mayBe_i hx8 hx ?_
  rw [bt_ic (by omega)]
  exact br_f (by decide) ⟨bt_ii x s 56 (by omega), nm_e (nm_r (nI_1 s) H)⟩
theorem bt_w36l {post : Int64 → St2 → Prop} {J22 : Int32 → (Nat → Int32) → (Nat → Int32) → (Nat → Int32) → (Nat → Int32) → (Nat → Int32) → (Nat → Int32) → (Nat → Int32) → (Nat → Int32) → (Nat → Int32) → (Nat → Int32) → (Nat → Int32) → (Nat → Int64) → (Nat → Int32) → Prop} {x2 : Int32} {x site w : Nat} {lc ic tp ls : Int32} {a1 a2 a3 a4 a5 a6 a7 a8 a9 a10 a11 : Nat → Int32} {a12 : Nat → Int64} {a13 : Nat → Int32} (hx : x < 7) (hsi : site < 4) (ha : a4 x = nI w) (hw : w < 256)
    (H : ∀ b12, bt_tb x 4 (fun t => lN (bt_ml (w / 4 ^ (3 - site) % 4) t)) a12 b12 → J22 (x2 + (-1)) a1 a2 a3 a4 a5 a6 a7 a8 a9 a10 a11 b12 a13) : ∃ n, wX_weight_36 post J22 (nI site) x2 (nI x) lc ic tp ls n 0 a1 a2 a3 a4 a5 a6 a7 a8 a9 a10 a11 a12 a13 := by
  refine pk_loop (fun n i s => wX_weight_36 post J22 (nI site) x2 (nI x) lc ic tp ls n (nI i) a1 a2 a3 a4 a5 a6 a7 a8 a9 a10 a11 s a13) (fun i s => bt_tb x i (fun t => lN (bt_ml (w / 4 ^ (3 - site) % 4) t)) a12 s) 4 0 a12 (by omega) (bt_tb_0 _ _ _)
    (fun n s hI => pk_le 4 4 (fun _ => nm_e (H s hI)) (fun z => absurd z (by omega))) (fun n i s hi hI hn => pk_le 4 i (fun z => absurd z (by omega)) (fun _ => pk_lt x 8 (fun _ => pk_lt x 8 (fun _ => bt_mayBe_l hx ha hw hsi hi ?_) (fun z => absurd z (by omega))) (fun z => absurd z (by omega))))
  try dsimp only
  rw [bt_ic (by omega)]
  by_cases e : w / 4 ^ (3 - site) % 4 = i
  · rw [if_pos e]
    refine br_f (by decide) ⟨bt_ii x i 56 (by omega), nm_e (nm_r (nI_1 i) (hn _ (bt_tb_s hi hI ?_ (fun j hj => pk_uLn hj))))⟩
    show vp_updL s (4 * x + i) (1 * 1) (4 * x + i) = lN (if _ then 1 else 0)
    rw [pk_uLs, if_pos e]
    rfl
  · rw [if_neg e]
    refine br_t rfl ⟨bt_ii x i 56 (by omega), nm_e (nm_r (nI_1 i) (hn _ (bt_tb_s hi hI ?_ (fun j hj => pk_uLn hj))))⟩
    show vp_updL s (4 * x + i) 0 (4 * x + i) = lN (if _ then 1 else 0)
    rw [pk_uLs, if_neg e]
    rfl
theorem bt_w36i {post : Int64 → St2 → Prop} {J22 : Int32 → (Nat → Int32) → (Nat → Int32) → (Nat → Int32) → (Nat → Int32) → (Nat → Int32) → (Nat → Int32) → (Nat → Int32) → (Nat → Int32) → (Nat → Int32) → (Nat → Int32) → (Nat → Int32) → (Nat → Int64) → (Nat → Int32) → Prop} {x1 x2 : Int32} {x y1 y2 : Nat} {lc ic tp ls : Int32} {a1 a2 a3 a4 a5 a6 a7 a8 a9 a10 a11 : Nat → Int32} {a12 : Nat → Int64} {a13 : Nat → Int32} {R : Nat → Nat → Nat} {w1 w2 : Nat → Nat}
    (hx8 : 8 ≤ x) (hx : x < 14) (hy1 : y1 < 14) (hy2 : y2 < 14) (n1 : y1 ≠ x) (n2 : y2 ≠ x) (h2 : a2 x = nI y1) (h3 : a3 x = nI y2)
    (h6 : ∀ s, s < 4 → ∀ t, t < 4 → a6 (4 * s + t) = nI (R s t)) (h1 : ∀ t, t < 4 → a12 (4 * y1 + t) = lN (w1 t)) (h12 : ∀ t, t < 4 → a12 (4 * y2 + t) = lN (w2 t)) (hR : ∀ s t, R s t ≤ 3)
    (H : ∀ b12, bt_tb x 4 (fun t => lN (bt_wc R w1 w2 t)) a12 b12 → J22 (x2 + (-1)) a1 a2 a3 a4 a5 a6 a7 a8 a9 a10 a11 b12 a13) : ∃ n, wX_weight_36 post J22 x1 x2 (nI x) lc ic tp ls n 0 a1 a2 a3 a4 a5 a6 a7 a8 a9 a10 a11 a12 a13 := by
  refine pk_loop (fun n i s => wX_weight_36 post J22 x1 x2 (nI x) lc ic tp ls n (nI i) a1 a2 a3 a4 a5 a6 a7 a8 a9 a10 a11 s a13) (fun i s => bt_tb x i (fun t => lN (bt_wc R w1 w2 t)) a12 s) 4 0 a12 (by omega) (bt_tb_0 _ _ _)
    (fun n s hI => pk_le 4 4 (fun _ => nm_e (H s hI)) (fun z => absurd z (by omega))) (fun n i s hi hI hn => pk_le 4 i (fun z => absurd z (by omega)) (fun _ => pk_lt x 8 (fun z => absurd z (by omega)) (fun _ => ⟨pk_in x 14 hx, ?_⟩)))
  rw [nI_clamp (show x < 2 ^ 31 by omega), h2]
  refine bt_sumOver (wo := w1) hy1 hi (h6 i hi) (fun t ht => by rw [bt_tb_o hI n1 ht, h1 t ht]) hR ?_
  unfold wX_weight_64
  rw [nI_clamp (show x < 2 ^ 31 by omega), h3]
  refine pk_lt x 8 (fun z => absurd z (by omega)) (fun _ => ⟨pk_in x 14 hx, bt_sumOver (wo := w2) hy2 hi (h6 i hi) (fun t ht => by rw [bt_tb_o hI n2 ht, h12 t ht]) hR (bt_88 hx8 hx hi (hn _ (bt_tb_s hi hI ?_ (fun j hj => pk_uLn hj))))⟩)
  show vp_updL s (4 * x + i) (lN (bt_su R w1 i) * lN (bt_su R w2 i)) (4 * x + i) = lN (bt_su R w1 i * bt_su R w2 i)
  rw [pk_uLs, lN_mul]
def bt_wt (b : Bool) (R : Nat → Nat → Nat) (v : Nat → Nat) (k0 : Nat) (a12 : Nat → Int64) : Prop := ∀ k, k0 ≤ k → k < 7 → ∀ t, t < 4 → a12 (4 * bt_or b k + t) = lN (bt_We b R v (bt_or b k) t)
theorem bt_wt_s {b : Bool} {R : Nat → Nat → Nat} {v : Nat → Nat} {i : Nat} {a12 b12 : Nat → Int64} (hi : i < 7) (h : bt_wt b R v (i + 1) a12) (h1 : bt_tb (bt_or b i) 4 (fun t => lN (bt_We b R v (bt_or b i) t)) a12 b12) : bt_wt b R v i b12 := by
  intro k hk hk7 t ht
  by_cases e : k = i
  · subst e
    exact h1.1 t ht
  · have n : bt_or b k ≠ bt_or b i := fun z => e (bt_tr2 b k hk7 i hi z)
    rw [bt_tb_o h1 n ht]
    exact h k (by omega) hk7 t ht
theorem bt_138 {post : Int64 → St2 → Prop} {lc ic ls : Int32} {a1 a2 a3 a4 a5 a6 a7 a8 a9 a10 a11 : Nat → Int32} {a12 : Nat → Int64} {a13 : Nat → Int32} {W : Nat → Nat} (h12 : ∀ t, t < 4 → a12 (4 * 8 + t) = lN (W t))
    (H : post (lN (bt_sm W 4)) (lc, ic, nI 8, ls, a1, a2, a3, a4, a5, a6, a7, a8, a9, a10, a11, a12, a13)) : ∃ n, wX_weight_138 post lc ic (nI 8) ls a1 a2 a3 a4 a5 a6 a7 a8 a9 a10 a11 a12 a13 n 0 0 :=
  pk_loop (σ := Unit) (fun n i _ => wX_weight_138 post lc ic (nI 8) ls a1 a2 a3 a4 a5 a6 a7 a8 a9 a10 a11 a12 a13 n (lN (bt_sm W i)) (nI i)) (fun _ _ => True) 4 0 () (by omega) trivial
    (fun n _ _ => pk_le 4 4 (fun _ => H) (fun z => absurd z (by omega)))
    (fun n i _ hi _ hw => pk_le 4 i (fun z => absurd z (by omega)) (fun _ => ⟨bt_ii 8 i 56 (by omega), nm_r (e' := lN (bt_sm W i + W i)) (by rw [bt_ic (by omega), h12 i hi, lN_add]) (nm_r (nI_1 i) (hw () trivial))⟩))
theorem bt_weight {post : Int64 → St2 → Prop} {lc ic ls : Int32} {a1 a2 a3 a4 a5 a6 a7 a8 a9 a10 a11 : Nat → Int32} {a12 : Nat → Int64} {a13 : Nat → Int32} {b : Bool} {C R : Nat → Nat → Nat} {own : Nat → Nat} {site : Nat} (hsi : site < 4) (hp : bt_pic b C own a1 a2 a3 a4 a5) (h6 : ∀ s, s < 4 → ∀ t, t < 4 → a6 (4 * s + t) = nI (R s t)) (hR : ∀ s t, R s t ≤ 3)
    (H : ∀ b7 b12, post (lN (bt_sm (fun s => bt_w8 b R (bt_vv own site) s) 4)) (lc, ic, nI 8, nI 7, a1, a2, a3, a4, a5, a6, b7, a8, a9, a10, a11, b12, a13)) : wpX_weight post (lc, ic, nI 8, ls, a1, a2, a3, a4, a5, a6, a7, a8, a9, a10, a11, a12, a13) (nI site) := by
  obtain ⟨hT, h4, h5, hC⟩ := hp
  unfold wpX_weight
  refine bt_isState hsi (br_f (by decide) (bt_listNodes b hT (fun b7 hO => ?_)))
  try dsimp only
  refine nm_r (e' := nI 7 + (-1)) (by decide) ⟨8, ?_⟩
  refine pk_loopD (fun n i s => wX_weight_22 post (nI site) lc ic (nI 8) (nI 7) n (nI i + (-1)) a1 a2 a3 a4 a5 a6 b7 a8 a9 a10 a11 s a13) (fun i s => i ≤ 7 ∧ bt_wt b R (bt_vv own site) i s) ?_ ?_ 7 a12 ⟨by omega, fun k h1 h2 => absurd h1 (by omega)⟩
  · intro n s hI
    refine br_t (by decide) (bt_138 (W := fun t => bt_w8 b R (bt_vv own site) t) (fun t ht => ?_) (H b7 s))
    have e := hI.2 0 (by omega) (by omega) t ht
    rw [(bt_ln0 b).2.2] at e
    exact e
  · intro n i s hI hn
    obtain ⟨hi, hI⟩ := hI
    obtain ⟨o1, o2, o3, o4, o5⟩ := bt_tr1 b i (by omega)
    try dsimp only at hn ⊢
    rw [pk_m1]
    refine br_f (nI_pos (by omega)) ⟨pk_in i 14 (by omega), nm_r (e' := nI (bt_or b i)) (by rw [nI_clamp (by omega)]; exact hO i (by omega)) ?_⟩
    by_cases z : bt_or b i < 8
    · obtain ⟨p1, _⟩ := o4 z
      obtain ⟨q1, q2⟩ := h4 (bt_or b i) p1
      refine bt_w36l (by omega) hsi q1 q2 (fun b12 e => hn b12 ⟨by omega, bt_wt_s (by omega) hI ?_⟩)
      rw [bt_We_l b R _ z]
      exact e
    · obtain ⟨p1, _, p3, p4⟩ := o5 (by omega)
      have c := hT.2 (bt_or b i) (by omega) o1
      have t1 := hI (bt_ln b i) (by omega) (by omega)
      have t2 := hI (bt_ln b i + 1) (by omega) (by omega)
      have n1 : bt_or b (bt_ln b i) ≠ bt_or b i := fun z => absurd (bt_tr2 b _ (by omega) i (by omega) z) (by omega)
      have n2 : bt_or b (bt_ln b i + 1) ≠ bt_or b i := fun z => absurd (bt_tr2 b _ (by omega) i (by omega) z) (by omega)
      have l1 := (bt_tr1 b (bt_ln b i) (by omega)).1
      have l2 := (bt_tr1 b (bt_ln b i + 1) (by omega)).1
      rw [p3] at t1 n1 l1
      rw [p4] at t2 n2 l2
      refine bt_w36i (by omega) (by omega) (by omega) (by omega) n1 n2 c.1 c.2 h6 t1 t2 hR (fun b12 e => hn b12 ⟨by omega, bt_wt_s (by omega) hI ?_⟩)
      rw [bt_We_i b R _ (by omega) o1]
      exact e
end
section
/-! making the object, and the tree -/
def bt_ini (k : Nat) : Nat := if k / 4 = k % 4 then 0 else 1
theorem bt_isStates {post : Int32 → Prop} {w : Nat} (h : w < 256) (H : post 1) : wpX_isStates post () (nI w) :=
  br_f (nI_pos (by omega)) (br_f (nI_nlt (a := 255) (b := w) (by omega) (by omega)) H)
theorem bt_init {post : St2 → Prop} {mc ms w : Nat} (h1 : 13 ≤ mc) (h2 : 347 ≤ ms) (hw : w < 256)
    (H : ∀ c5 c6 : Nat → Int32, (∀ k, k < 16 → c5 k = nI (bt_ini k) ∧ c6 k = nI 1) → post (nI 1, nI 0, nI 0, nI 0, upd (fun _ => 0) 0 (-1), (fun _ => 0), (fun _ => 0), upd (fun _ => 0) 0 (nI w), c5, c6, (fun _ => 0), (fun _ => 0), (fun _ => 0), (fun _ => 0), (fun _ => 0), (fun _ => 0), (fun _ => 0))) :
    wpX_init post mc ms (0, 0, 0, 0) (nI w) := by
  unfold wpX_init
  try dsimp only
  refine ⟨by omega, by omega, by omega, by omega, by omega, by omega, by omega, by omega, by omega, by omega, by omega, by omega, by omega, by omega, by omega, by omega, by omega, by omega, by omega, by omega, by omega, by omega, by omega, by omega, by omega, by omega, ?_⟩
  refine pk_loop (σ := (Nat → Int32) × (Nat → Int32)) (fun n i s => wX_init_110 post mc ms (nI w) 13 347 0 0 0 0 n (nI i) (fun _ => 0) (fun _ => 0) (fun _ => 0) (fun _ => 0) s.1 s.2 (fun _ => 0) (fun _ => 0) (fun _ => 0) (fun _ => 0) (fun _ => 0) (fun _ => 0) (fun _ => 0)) (fun i s => ∀ k, k < i → s.1 k = nI (bt_ini k) ∧ s.2 k = nI 1) 16 0 ((fun _ => 0), (fun _ => 0)) (by omega) (fun k hk => absurd hk (by omega))
    (fun n s hI => pk_le 16 16 (fun _ => bt_isStates hw (br_f (by decide) ⟨pk_in 0 7 (by omega), nm_e (nm_e (H s.1 s.2 hI))⟩)) (fun z => absurd z (by omega)))
    (fun n i s hi hI hn => pk_le 16 i (fun z => absurd z (by omega)) (fun _ => ⟨by decide, by decide, ?_⟩))
  have key : ∀ c : Nat, c = bt_ini i → wX_init_135 post mc ms (wX_init_110 post mc ms (nI w) 13 347 0 0 0 0 n) (nI w) (nI i) (nI c) (nI i) 13 347 0 0 0 0 (fun _ => 0) (fun _ => 0) (fun _ => 0) (fun _ => 0) s.1 s.2 (fun _ => 0) (fun _ => 0) (fun _ => 0) (fun _ => 0) (fun _ => 0) (fun _ => 0) (fun _ => 0) := by
    intro c hc
    unfold wX_init_135
    rw [nI_clamp (show i < 2 ^ 31 by omega)]
    refine ⟨pk_in i 16 hi, nm_e ⟨pk_in i 16 hi, nm_e (nm_r (nI_1 i) (hn (upd s.1 i (nI c), upd s.2 i 1) (fun k hk => ?_)))⟩⟩
    try dsimp only
    by_cases e : k = i
    · rw [e, pk_us, pk_us, hc]
      exact ⟨rfl, rfl⟩
    · rw [pk_un e, pk_un e]
      exact hI k (by omega)
  refine pk_eq (i / 4) (i % 4) (fun z => key 0 ?_) (fun z => key 1 ?_) (pk_div (d := 4) (by omega) (by omega) (by omega)) (pk_rem (d := 4) (by omega) (by omega) (by omega))
  · unfold bt_ini
    rw [if_pos z]
  · unfold bt_ini
    rw [if_neg z]
theorem bt_rep0 {post : St2 → Prop} {lc ic tp ls : Int32} {a1 a2 a3 a4 a5 a6 a7 a8 a9 a10 a11 : Nat → Int32} {a12 : Nat → Int64} {a13 : Nat → Int32} {x y : Nat} (hx : x < 14) (hy : y < 14) (h1 : a1 x = -1) (H : post (lc, ic, nI y, ls, upd a1 y (-1), a2, a3, a4, a5, a6, a7, a8, a9, a10, a11, a12, a13)) : wpX_replace post (lc, ic, tp, ls, a1, a2, a3, a4, a5, a6, a7, a8, a9, a10, a11, a12, a13) (nI x) (nI y) := by
  unfold wpX_replace
  try dsimp only
  rw [nI_clamp (show x < 2 ^ 31 by omega), nI_clamp (show y < 2 ^ 31 by omega)]
  exact ⟨pk_in x 14 hx, nm_r h1 ⟨pk_in y 14 hy, nm_e (br_t rfl H)⟩⟩
theorem bt_m1n {p : Nat} (h : p < 14) : ¬ nI p = -1 := by
  intro e
  have h1 : (nI p).toInt = (-1 : Int32).toInt := by rw [e]
  rw [nI_toInt (by omega)] at h1
  have h2 : (-1 : Int32).toInt = -1 := by decide
  omega
theorem bt_rep1 {post : St2 → Prop} {lc ic tp ls : Int32} {a1 a2 a3 a4 a5 a6 a7 a8 a9 a10 a11 : Nat → Int32} {a12 : Nat → Int64} {a13 : Nat → Int32} {x y p : Nat} (hx : x < 14) (hy : y < 14) (hp : p < 14) (h1 : a1 x = nI p) (h2 : a2 p = nI x) (H : post (lc, ic, tp, ls, upd a1 y (nI p), upd a2 p (nI y), a3, a4, a5, a6, a7, a8, a9, a10, a11, a12, a13)) : wpX_replace post (lc, ic, tp, ls, a1, a2, a3, a4, a5, a6, a7, a8, a9, a10, a11, a12, a13) (nI x) (nI y) := by
  unfold wpX_replace
  try dsimp only
  rw [nI_clamp (show x < 2 ^ 31 by omega), nI_clamp (show y < 2 ^ 31 by omega)]
  refine ⟨pk_in x 14 hx, nm_r h1 ⟨pk_in y 14 hy, nm_e (br_f (bt_m1n hp) ⟨pk_in p 14 hp, ?_⟩)⟩⟩
  rw [nI_clamp (show p < 2 ^ 31 by omega)]
  exact br_t h2 ⟨pk_in p 14 hp, nm_e H⟩
theorem bt_rep2 {post : St2 → Prop} {lc ic tp ls : Int32} {a1 a2 a3 a4 a5 a6 a7 a8 a9 a10 a11 : Nat → Int32} {a12 : Nat → Int64} {a13 : Nat → Int32} {x y p : Nat} (hx : x < 14) (hy : y < 14) (hp : p < 14) (h1 : a1 x = nI p) (h2 : ¬ a2 p = nI x) (H : post (lc, ic, tp, ls, upd a1 y (nI p), a2, upd a3 p (nI y), a4, a5, a6, a7, a8, a9, a10, a11, a12, a13)) : wpX_replace post (lc, ic, tp, ls, a1, a2, a3, a4, a5, a6, a7, a8, a9, a10, a11, a12, a13) (nI x) (nI y) := by
  unfold wpX_replace
  try dsimp only
  rw [nI_clamp (show x < 2 ^ 31 by omega), nI_clamp (show y < 2 ^ 31 by omega)]
  refine ⟨pk_in x 14 hx, nm_r h1 ⟨pk_in y 14 hy, nm_e (br_f (bt_m1n hp) ⟨pk_in p 14 hp, ?_⟩)⟩⟩
  rw [nI_clamp (show p < 2 ^ 31 by omega)]
  exact br_f h2 ⟨pk_in p 14 hp, nm_e H⟩
theorem bt_isLeaf {post : Int32 → Prop} {ic tp ls : Int32} {a1 a2 a3 a4 a5 a6 a7 a8 a9 a10 a11 : Nat → Int32} {a12 : Nat → Int64} {a13 : Nat → Int32} {x l : Nat} (hl : l < 8) (h : x < l) (H : post 1) : wpX_isNode post (nI l, ic, tp, ls, a1, a2, a3, a4, a5, a6, a7, a8, a9, a10, a11, a12, a13) (nI x) :=
  br_f (nI_pos (by omega)) (pk_lt x l (fun _ => H) (fun z => absurd z (by omega)))
/-- attach, up to the call of replace -/
theorem bt_att {post : Int32 → St2 → Prop} {tp ls : Int32} {a1 a2 a3 a4 a5 a6 a7 a8 a9 a10 a11 : Nat → Int32} {a12 : Nat → Int64} {a13 : Nat → Int32} {l i x w : Nat} (hl : l < 7) (hi : i < 6) (hx : x < l) (hw : w < 256)
    (H : ∀ q : St2 → Prop, (∀ tp ls a1 a2 a3 a4 a5 a6 a7 a8 a9 a10 a11 a12 a13, post (nI l) (nI (l + 1), nI (i + 1), tp, ls, upd (upd a1 x (nI (8 + i))) l (nI (8 + i)), upd a2 (8 + i) (nI x), upd a3 (8 + i) (nI l), a4, a5, a6, a7, a8, a9, a10, a11, a12, a13) → q (nI (l + 1), nI (i + 1), tp, ls, a1, a2, a3, a4, a5, a6, a7, a8, a9, a10, a11, a12, a13)) → wpX_replace q (nI (l + 1), nI (i + 1), tp, ls, a1, a2, a3, upd a4 l (nI w), a5, a6, a7, a8, a9, a10, a11, a12, a13) (nI x) (nI (8 + i))) :
    wpX_attach post (nI l, nI i, tp, ls, a1, a2, a3, a4, a5, a6, a7, a8, a9, a10, a11, a12, a13) (nI x) (nI w) := by
  unfold wpX_attach
  refine bt_isLeaf (by omega) hx (br_f (by decide) (bt_isStates hw (br_f (by decide) (pk_eq l 7 (fun z => absurd z (by omega)) (fun _ => ?_)))))
  unfold wpX_addLeaf
  try dsimp only
  rw [nI_clamp (show l < 2 ^ 31 by omega), nI_clamp (show x < 2 ^ 31 by omega)]
  refine nm_r (e' := nI (8 + i)) (nI_add 8 i) (nm_r (nI_1 l) (nm_r (nI_1 i) ⟨pk_in l 7 hl, nm_e (H _ ?_)⟩))
  intro tp ls a1 a2 a3 a4 a5 a6 a7 a8 a9 a10 a11 a12 a13 hq
  try dsimp only
  rw [nI_clamp (show 8 + i < 2 ^ 31 by omega), nI_pred]
  exact ⟨pk_in (8 + i) 14 (by omega), nm_e ⟨pk_in (8 + i) 14 (by omega), nm_e ⟨pk_in x 14 (by omega), nm_e ⟨pk_in l 14 (by omega), nm_e hq⟩⟩⟩⟩
/-- the one swap: leaves 1 and 2 under 8 and 9 -/
theorem bt_swap {post : Int32 → St2 → Prop} {tp ls : Int32} {a1 a2 a3 a4 a5 a6 a7 a8 a9 a10 a11 : Nat → Int32} {a12 : Nat → Int64} {a13 : Nat → Int32} (h1 : a1 1 = nI 8) (h2 : a1 2 = nI 9) (h8 : a1 8 = -1) (h9 : a1 9 = nI 8) (g8 : a2 8 = nI 9) (g9 : a2 9 = nI 0)
    (H : post 0 (nI 3, nI 2, tp, ls, upd (upd a1 1 (nI 9)) 2 (nI 8), a2, upd (upd a3 8 (nI 2)) 9 (nI 1), a4, a5, a6, a7, a8, a9, a10, a11, a12, a13)) : wpX_swap post (nI 3, nI 2, tp, ls, a1, a2, a3, a4, a5, a6, a7, a8, a9, a10, a11, a12, a13) (nI 1) (nI 2) := by
  have u1 : ∀ q : Int32 → Prop, q 0 → wpX_isUnder q (nI 3, nI 2, tp, ls, a1, a2, a3, a4, a5, a6, a7, a8, a9, a10, a11, a12, a13) (nI 1) (nI 2) := fun q hq =>
    ⟨2, br_f (by decide) ⟨pk_in 1 14 (by omega), br_f (by show ¬ a1 1 = -1; rw [h1]; decide) ⟨pk_in 1 14 (by omega), nm_r h1 (br_f (by decide) ⟨pk_in 8 14 (by omega), br_t h8 (br_f (by decide) hq)⟩)⟩⟩⟩
  have u2 : ∀ q : Int32 → Prop, q 0 → wpX_isUnder q (nI 3, nI 2, tp, ls, a1, a2, a3, a4, a5, a6, a7, a8, a9, a10, a11, a12, a13) (nI 2) (nI 1) := fun q hq =>
    ⟨3, br_f (by decide) ⟨pk_in 2 14 (by omega), br_f (by show ¬ a1 2 = -1; rw [h2]; decide) ⟨pk_in 2 14 (by omega), nm_r h2 (br_f (by decide) ⟨pk_in 9 14 (by omega), br_f (by show ¬ a1 9 = -1; rw [h9]; decide) ⟨pk_in 9 14 (by omega), nm_r h9 (br_f (by decide) ⟨pk_in 8 14 (by omega), br_t h8 (br_f (by decide) hq)⟩)⟩⟩)⟩⟩⟩
  unfold wpX_swap
  try dsimp only
  unfold wpX_swapRefusal
  try dsimp only
  refine bt_isLeaf (by omega) (by omega) (br_f (by decide) (bt_isLeaf (by omega) (by omega) (br_f (by decide) (u1 _ (br_t rfl (u2 _ (br_t rfl (br_t (by decide) ?_))))))))
  unfold wpX_exchange
  try dsimp only
  refine ⟨pk_in 1 14 (by omega), nm_r h1 ⟨pk_in 2 14 (by omega), nm_r h2 ⟨pk_in 8 14 (by omega), br_f (by show ¬ a2 8 = nI 1; rw [g8]; decide) ?_⟩⟩⟩
  refine ⟨pk_in 9 14 (by omega), br_f (by show ¬ a2 9 = nI 2; rw [g9]; decide) ?_⟩
  unfold wX_exchange_48
  refine br_t rfl ⟨pk_in 8 14 (by omega), nm_e (br_t rfl ⟨pk_in 9 14 (by omega), nm_e ⟨pk_in 1 14 (by omega), nm_e ⟨pk_in 2 14 (by omega), nm_e H⟩⟩⟩)⟩
end
section
/-! the law's costs and rates are put in -/
theorem bt_cost {post : Int32 → St2 → Prop} {lc ic tp ls : Int32} {a1 a2 a3 a4 a5 a6 a7 a8 a9 a10 a11 : Nat → Int32} {a12 : Nat → Int64} {a13 : Nat → Int32} {s t c : Nat} (hs : s < 4) (ht : t < 4) (hc : c ≤ 9) (H : post (a5 (4 * s + t)) (lc, ic, tp, ls, a1, a2, a3, a4, upd a5 (4 * s + t) (nI c), a6, a7, a8, a9, a10, a11, a12, a13)) : wpX_cost post (lc, ic, tp, ls, a1, a2, a3, a4, a5, a6, a7, a8, a9, a10, a11, a12, a13) (nI s) (nI t) (nI c) := by
  unfold wpX_cost
  try dsimp only
  rw [bt_ic (by omega)]
  exact bt_isState hs (br_f (by decide) (bt_isState ht (br_f (by decide) (br_f (nI_pos (by omega)) (pk_le c 9 (fun _ => ⟨bt_ii s t 16 (by omega), nm_e ⟨bt_ii s t 16 (by omega), nm_e H⟩⟩) (fun z => absurd z (by omega)))))))
theorem bt_rate {post : Int32 → St2 → Prop} {lc ic tp ls : Int32} {a1 a2 a3 a4 a5 a6 a7 a8 a9 a10 a11 : Nat → Int32} {a12 : Nat → Int64} {a13 : Nat → Int32} {s t c : Nat} (hs : s < 4) (ht : t < 4) (hc : c ≤ 9) (H : post (a6 (4 * s + t)) (lc, ic, tp, ls, a1, a2, a3, a4, a5, upd a6 (4 * s + t) (nI c), a7, a8, a9, a10, a11, a12, a13)) : wpX_rate post (lc, ic, tp, ls, a1, a2, a3, a4, a5, a6, a7, a8, a9, a10, a11, a12, a13) (nI s) (nI t) (nI c) := by
  unfold wpX_rate
  try dsimp only
  rw [bt_ic (by omega)]
  exact bt_isState hs (br_f (by decide) (bt_isState ht (br_f (by decide) (br_f (nI_pos (by omega)) (pk_le c 9 (fun _ => ⟨bt_ii s t 16 (by omega), nm_e ⟨bt_ii s t 16 (by omega), nm_e H⟩⟩) (fun z => absurd z (by omega)))))))
def bt_cs (C R : Nat → Nat → Nat) (N : Nat) (a5 a6 : Nat → Int32) : Prop := (∀ k, k < N → a5 k = nI (C (k / 4) (k % 4)) ∧ a6 k = nI (R (k / 4) (k % 4))) ∧ (∀ k, N ≤ k → k < 16 → a5 k = nI (bt_ini k) ∧ a6 k = nI 1)
theorem bt_cs_s {C R : Nat → Nat → Nat} {s t : Nat} {a5 a6 : Nat → Int32} (ht : t < 4) (h : bt_cs C R (4 * s + t) a5 a6) : bt_cs C R (4 * s + (t + 1)) (upd a5 (4 * s + t) (nI (C s t))) (upd a6 (4 * s + t) (nI (R s t))) := by
  refine ⟨fun k hk => ?_, fun k hk hk2 => ?_⟩
  · by_cases e : k = 4 * s + t
    · rw [e, pk_us, pk_us, show (4 * s + t) / 4 = s by omega, show (4 * s + t) % 4 = t by omega]
      exact ⟨rfl, rfl⟩
    · rw [pk_un e, pk_un e]
      exact h.1 k (by omega)
  · rw [pk_un (by omega), pk_un (by omega)]
    exact h.2 k (by omega) hk2
theorem bt_171 {post : Int32 → St0 → Prop} {mc ms kc ks : Nat} {J162 : Int32 → Int32 → Int32 → Int32 → Int32 → (Nat → Int32) → (Nat → Int32) → (Nat → Int32) → (Nat → Int32) → (Nat → Int32) → (Nat → Int32) → (Nat → Int32) → (Nat → Int32) → (Nat → Int32) → (Nat → Int32) → (Nat → Int32) → (Nat → Int64) → (Nat → Int32) → Prop} {x0 x1 x2 x4 x5 x6 : Int32} {s : Nat} {lc ic tp ls : Int32} {a1 a2 a3 a4 a5 a6 a7 a8 a9 a10 a11 : Nat → Int32} {a12 : Nat → Int64} {a13 : Nat → Int32} (hs : s < 4) (h : bt_cs (bt_C x1 x2) (bt_R x6) (4 * s) a5 a6)
    (H : ∀ b5 b6, bt_cs (bt_C x1 x2) (bt_R x6) (4 * (s + 1)) b5 b6 → J162 (nI (s + 1)) lc ic tp ls a1 a2 a3 a4 b5 b6 a7 a8 a9 a10 a11 a12 a13) : ∃ n, wL_lawOf_171 post mc ms J162 x0 x1 x2 x4 x5 x6 (nI s) kc ks n 0 lc ic tp ls a1 a2 a3 a4 a5 a6 a7 a8 a9 a10 a11 a12 a13 := by
  refine pk_loop (fun n i st => wL_lawOf_171 post mc ms J162 x0 x1 x2 x4 x5 x6 (nI s) kc ks n (nI i) lc ic tp ls a1 a2 a3 a4 (st.1) (st.2) a7 a8 a9 a10 a11 a12 a13) (fun i st => bt_cs (bt_C x1 x2) (bt_R x6) (4 * s + i) st.1 st.2) 4 0 (a5, a6) (by omega) h
    (fun n st hI => pk_le 4 4 (fun _ => nm_r (nI_1 s) (H st.1 st.2 hI)) (fun z => absurd z (by omega))) (fun n i st hi hI hn => pk_le 4 i (fun z => absurd z (by omega)) (fun _ => ?_))
  have c1 := bt_C_le x1 x2 s i
  have c2 := bt_R_le x6 s i
  have g := hI.2 (4 * s + i) (by omega) (by omega)
  refine bt_wcost hs (bt_wrate hs hi (bt_cost hs hi (by omega) ?_))
  try dsimp only
  rw [g.1]
  have fin : ∀ z0 : Nat, z0 = bt_ini (4 * s + i) → wL_lawOf_222 post mc ms J162 (wL_lawOf_171 post mc ms J162 x0 x1 x2 x4 x5 x6 (nI s) kc ks n) x0 x1 x2 x4 x5 x6 (nI s) (nI i) (nI (bt_R x6 s i)) (nI z0) (nI (bt_ini (4 * s + i))) kc ks lc ic tp ls a1 a2 a3 a4 (upd st.1 (4 * s + i) (nI (bt_C x1 x2 s i))) (st.2) a7 a8 a9 a10 a11 a12 a13 := by
    intro z0 hz
    unfold wL_lawOf_222
    refine br_t (by rw [hz]) (bt_rate hs hi (by omega) ?_)
    try dsimp only
    rw [g.2]
    exact br_t rfl (nm_r (nI_1 i) (hn (_, _) (bt_cs_s hi hI)))
  refine pk_eq s i (fun z => fin 0 ?_) (fun z => fin 1 ?_)
  · unfold bt_ini
    rw [if_pos (by omega)]
  · unfold bt_ini
    rw [if_neg (by omega)]
theorem bt_162 {post : Int32 → St0 → Prop} {mc ms kc ks : Nat} {x0 x1 x2 x4 x5 x6 : Int32} {lc ic tp ls : Int32} {a1 a2 a3 a4 a5 a6 a7 a8 a9 a10 a11 : Nat → Int32} {a12 : Nat → Int64} {a13 : Nat → Int32} (h : bt_cs (bt_C x1 x2) (bt_R x6) 0 a5 a6)
    (H : ∀ b5 b6, bt_cs (bt_C x1 x2) (bt_R x6) 16 b5 b6 → ∃ n, wL_lawOf_274 post mc ms x0 x1 x2 x4 x5 x6 kc ks lc ic tp ls a1 a2 a3 a4 b5 b6 a7 a8 a9 a10 a11 a12 a13 n 9999 0 0 0 0 0) : ∃ n, wL_lawOf_162 post mc ms x0 x1 x2 x4 x5 x6 kc ks n 0 lc ic tp ls a1 a2 a3 a4 a5 a6 a7 a8 a9 a10 a11 a12 a13 :=
  pk_loop (σ := (Nat → Int32) × (Nat → Int32)) (fun n i st => wL_lawOf_162 post mc ms x0 x1 x2 x4 x5 x6 kc ks n (nI i) lc ic tp ls a1 a2 a3 a4 (st.1) (st.2) a7 a8 a9 a10 a11 a12 a13) (fun i st => bt_cs (bt_C x1 x2) (bt_R x6) (4 * i) st.1 st.2) 4 0 (a5, a6) (by omega) h
    (fun n st hI => pk_le 4 4 (fun _ => H st.1 st.2 hI) (fun z => absurd z (by omega)))
    (fun n i st hi hI hn => pk_le 4 i (fun z => absurd z (by omega)) (fun _ => bt_171 hi hI (fun b5 b6 hb => hn (b5, b6) hb)))
/-! one of the 64 ways: the six edges -/
def bt_fl (b : Bool) : Int32 := if b then 1 else 0
def bt_nd (k : Nat) : Nat := if k < 4 then k else k + 5
theorem bt_k6 {k : Nat} (h : k < 6) : k = 0 ∨ k = 1 ∨ k = 2 ∨ k = 3 ∨ k = 4 ∨ k = 5 := by omega
theorem bt_wup {post : Int32 → Prop} (b : Bool) {k : Nat} (hk : k < 6) (H : post (nI (bt_up b k))) : wpL_up post () (bt_fl b) (nI (bt_nd k)) := by
  unfold wpL_up
  rcases bt_k6 hk with e | e | e | e | e | e <;> subst e <;> cases b
  · exact br_f (by decide) (br_f (by decide) (br_t (by decide) (br_t (by decide) H)))
  · exact br_f (by decide) (br_f (by decide) (br_f (by decide) (br_f (by decide) H)))
  · exact br_f (by decide) (br_f (by decide) (br_t (by decide) (br_f (by decide) (br_t (by decide) H))))
  · exact br_f (by decide) (br_f (by decide) (br_f (by decide) (br_f (by decide) H)))
  · exact br_f (by decide) (br_f (by decide) (br_t (by decide) (br_f (by decide) (br_f (by decide) H))))
  · exact br_f (by decide) (br_f (by decide) (br_f (by decide) (br_t (by decide) H)))
  · exact br_f (by decide) (br_f (by decide) (br_t (by decide) (br_f (by decide) (br_f (by decide) H))))
  · exact br_f (by decide) (br_f (by decide) (br_f (by decide) (br_t (by decide) H)))
  · exact br_t (by decide) H
  · exact br_t (by decide) H
  · exact br_f (by decide) (br_t (by decide) (br_t (by decide) H))
  · exact br_f (by decide) (br_t (by decide) (br_f (by decide) H))
theorem bt_sh2 : ∀ N, N < 64 → ∀ r, r < 3 → (nI N >>> ((2 * nI r) &&& 31)) &&& 3 = nI (N / 4 ^ r % 4) := by decide +kernel
theorem bt_sh9 : ∀ N, N < 64 → (nI N >>> (((2 * nI 9) - 16) &&& 31)) &&& 3 = nI (N / 4 % 4) := by decide +kernel
theorem bt_sh10 : ∀ N, N < 64 → (nI N >>> (((2 * nI 10) - 16) &&& 31)) &&& 3 = nI (N / 16 % 4) := by decide +kernel
theorem bt_up_lt (b : Bool) : ∀ k, k < 6 → bt_up b k < 3 := by cases b <;> decide
theorem bt_ns_lt (b : Bool) (N k : Nat) : bt_ns b N k < 4 := Nat.mod_lt _ (by omega)
theorem bt_408 {post : Int32 → St0 → Prop} {mc ms kc ks : Nat} {J274 J284 : Int32 → Int32 → Int32 → Int32 → Int64 → Int32 → Prop} {J310 : Int32 → Int64 → Int32 → Prop} {x0 x1 x2 x5 x6 x8 x9 x10 x11 x14 x15 x21 : Int32} {x12 : Int64} {lc ic tp ls : Int32} {a1 a2 a3 a4 a5 a6 a7 a8 a9 a10 a11 : Nat → Int32} {a12 : Nat → Int64} {a13 : Nat → Int32} {b : Bool} {N A B k t : Nat} (hN : N < 64) (hk : k < 6) (ht : t < 4) (h21 : x21 = nI (bt_nd k))
    (H : J310 (nI (A + bt_C x1 x2 (bt_ns b N k) t)) (lN (B * bt_R x6 (bt_ns b N k) t)) (nI (k + 1))) :
    wL_lawOf_408 post mc ms J274 J284 J310 x0 x1 x2 (bt_fl b) x5 x6 x8 x9 x10 x11 x12 x14 x15 (nI N) (nI A) (lN B) (nI k) x21 (nI t) kc ks lc ic tp ls a1 a2 a3 a4 a5 a6 a7 a8 a9 a10 a11 a12 a13 := by
  unfold wL_lawOf_408
  subst h21
  have r3 := bt_R_le x6 (bt_ns b N k) t
  exact bt_wup b hk (nm_r (e' := nI (bt_ns b N k)) (bt_sh2 N hN _ (bt_up_lt b k hk)) (bt_wcost (bt_ns_lt b N k) (nm_r (nI_add _ _) (bt_wrate (bt_ns_lt b N k) ht (nm_r (e' := lN (B * bt_R x6 (bt_ns b N k) t)) (by rw [nI_l (by omega), lN_mul]) (nm_r (nI_1 k) H))))))
theorem bt_373 {post : Int32 → St0 → Prop} {mc ms kc ks : Nat} {J274 J284 : Int32 → Int32 → Int32 → Int32 → Int64 → Int32 → Prop} {J310 : Int32 → Int64 → Int32 → Prop} {x0 x1 x2 x6 x8 x9 x10 x11 x14 x15 x21 : Int32} {x12 : Int64} {lc ic tp ls : Int32} {a1 a2 a3 a4 a5 a6 a7 a8 a9 a10 a11 : Nat → Int32} {a12 : Nat → Int64} {a13 : Nat → Int32} {b : Bool} {site N A B k : Nat} (hN : N < 64) (hk : k < 4) (hsi : site < 4) (h21 : x21 = nI k)
    (H : J310 (nI (A + bt_C x1 x2 (bt_ns b N k) (bt_nt (bt_vv (bt_ow x0) site) N k))) (lN (B * bt_R x6 (bt_ns b N k) (bt_nt (bt_vv (bt_ow x0) site) N k))) (nI (k + 1))) :
    wL_lawOf_373 post mc ms J274 J284 J310 x0 x1 x2 (bt_fl b) (nI site) x6 x8 x9 x10 x11 x12 x14 x15 (nI N) (nI A) (lN B) (nI k) x21 (bt_nm x0 k) kc ks lc ic tp ls a1 a2 a3 a4 a5 a6 a7 a8 a9 a10 a11 a12 a13 := by
  unfold wL_lawOf_373
  subst h21
  rw [bt_digv x0 hsi k]
  have e : bt_nt (bt_vv (bt_ow x0) site) N k = (bt_vv (bt_ow x0) site) k := if_pos hk
  rw [e] at H
  exact pk_le 4 k (fun z => absurd z (by omega)) (fun _ => bt_408 hN (by omega) (bt_vv_lt _ _ k hk) (congrArg nI (if_pos hk).symm) H)
theorem bt_332 {post : Int32 → St0 → Prop} {mc ms kc ks : Nat} {J274 J284 : Int32 → Int32 → Int32 → Int32 → Int64 → Int32 → Prop} {J310 : Int32 → Int64 → Int32 → Prop} {x0 x1 x2 x6 x8 x9 x10 x11 x14 x15 : Int32} {x12 : Int64} {lc ic tp ls : Int32} {a1 a2 a3 a4 a5 a6 a7 a8 a9 a10 a11 : Nat → Int32} {a12 : Nat → Int64} {a13 : Nat → Int32} {b : Bool} {site N A B k : Nat} (hN : N < 64) (hk : k < 6) (hsi : site < 4)
    (H : J310 (nI (A + bt_C x1 x2 (bt_ns b N k) (bt_nt (bt_vv (bt_ow x0) site) N k))) (lN (B * bt_R x6 (bt_ns b N k) (bt_nt (bt_vv (bt_ow x0) site) N k))) (nI (k + 1))) :
    wL_lawOf_332 post mc ms J274 J284 J310 x0 x1 x2 (bt_fl b) (nI site) x6 x8 x9 x10 x11 x12 x14 x15 (nI N) (nI A) (lN B) (nI k) (nI (bt_nd k)) kc ks lc ic tp ls a1 a2 a3 a4 a5 a6 a7 a8 a9 a10 a11 a12 a13 := by
  unfold wL_lawOf_332
  rcases bt_k6 hk with e | e | e | e | e | e <;> subst e
  · exact br_t (by decide) (bt_373 (k := 0) hN (by omega) hsi rfl H)
  · exact br_f (by decide) (br_t (by decide) (bt_373 (k := 1) hN (by omega) hsi rfl H))
  · exact br_f (by decide) (br_f (by decide) (br_t (by decide) (bt_373 (k := 2) hN (by omega) hsi rfl H)))
  · exact br_f (by decide) (br_f (by decide) (br_f (by decide) (bt_373 (k := 3) hN (by omega) hsi rfl H)))
  · refine br_f (by decide) (br_f (by decide) (br_f (by decide) ?_))
    unfold wL_lawOf_373
    rw [show bt_nd 4 = 9 from rfl, bt_sh9 N hN]
    exact br_t (by decide) (bt_408 (k := 4) hN (by omega) (Nat.mod_lt _ (by omega)) rfl H)
  · refine br_f (by decide) (br_f (by decide) (br_f (by decide) ?_))
    unfold wL_lawOf_373
    rw [show bt_nd 5 = 10 from rfl, bt_sh10 N hN]
    exact br_t (by decide) (bt_408 (k := 5) hN (by omega) (Nat.mod_lt _ (by omega)) rfl H)
theorem bt_S_le {C : Nat → Nat → Nat} (hC : ∀ s t, C s t ≤ 7) (b : Bool) (v : Nat → Nat) (j : Nat) : bt_S b C v j ≤ 42 := by
  have g : ∀ k, bt_sm (fun k => C (bt_ns b j k) (bt_nt v j k)) k ≤ 7 * k := by
    intro k
    induction k with
    | zero => exact Nat.le_refl _
    | succ k ih =>
      have h1 := hC (bt_ns b j k) (bt_nt v j k)
      show bt_sm (fun k => C (bt_ns b j k) (bt_nt v j k)) k + C (bt_ns b j k) (bt_nt v j k) ≤ 7 * (k + 1)
      omega
  exact g 6
theorem bt_310 {post : Int32 → St0 → Prop} {mc ms kc ks : Nat} {J274 J284 : Int32 → Int32 → Int32 → Int32 → Int64 → Int32 → Prop} {x0 x1 x2 x6 x14 x15 : Int32} {lc ic tp ls : Int32} {a1 a2 a3 a4 a5 a6 a7 a8 a9 a10 a11 : Nat → Int32} {a12 : Nat → Int64} {a13 : Nat → Int32} {b : Bool} {site N : Nat} (hN : N < 64) (hsi : site < 4)
    (H : J284 (nI (bt_ls (bt_S b (bt_C x1 x2) (bt_vv (bt_ow x0) site)) (N + 1))) (nI (bt_ct (bt_S b (bt_C x1 x2) (bt_vv (bt_ow x0) site)) (N + 1))) (nI (bt_mk (bt_S b (bt_C x1 x2) (bt_vv (bt_ow x0) site)) (fun i => i % 4) (N + 1))) (nI (bt_mk (bt_S b (bt_C x1 x2) (bt_vv (bt_ow x0) site)) (fun i => i / 16) (N + 1))) (lN (bt_sm (bt_P b (bt_R x6) (bt_vv (bt_ow x0) site)) (N + 1))) (x15 + 1)) :
    ∃ n, wL_lawOf_310 post mc ms J274 J284 x0 x1 x2 (bt_fl b) (nI site) x6 (nI (bt_ls (bt_S b (bt_C x1 x2) (bt_vv (bt_ow x0) site)) N)) (nI (bt_ct (bt_S b (bt_C x1 x2) (bt_vv (bt_ow x0) site)) N)) (nI (bt_mk (bt_S b (bt_C x1 x2) (bt_vv (bt_ow x0) site)) (fun i => i % 4) N)) (nI (bt_mk (bt_S b (bt_C x1 x2) (bt_vv (bt_ow x0) site)) (fun i => i / 16) N)) (lN (bt_sm (bt_P b (bt_R x6) (bt_vv (bt_ow x0) site)) N)) x14 x15 (nI N) kc ks lc ic tp ls a1 a2 a3 a4 a5 a6 a7 a8 a9 a10 a11 a12 a13 n 0 1 0 := by
  refine pk_loop (σ := Unit) (fun n i _ => wL_lawOf_310 post mc ms J274 J284 x0 x1 x2 (bt_fl b) (nI site) x6 (nI (bt_ls (bt_S b (bt_C x1 x2) (bt_vv (bt_ow x0) site)) N)) (nI (bt_ct (bt_S b (bt_C x1 x2) (bt_vv (bt_ow x0) site)) N)) (nI (bt_mk (bt_S b (bt_C x1 x2) (bt_vv (bt_ow x0) site)) (fun i => i % 4) N)) (nI (bt_mk (bt_S b (bt_C x1 x2) (bt_vv (bt_ow x0) site)) (fun i => i / 16) N)) (lN (bt_sm (bt_P b (bt_R x6) (bt_vv (bt_ow x0) site)) N)) x14 x15 (nI N) kc ks lc ic tp ls a1 a2 a3 a4 a5 a6 a7 a8 a9 a10 a11 a12 a13 n (nI (bt_sm (fun k => bt_C x1 x2 (bt_ns b N k) (bt_nt (bt_vv (bt_ow x0) site) N k)) i)) (lN (bt_pr (fun k => bt_R x6 (bt_ns b N k) (bt_nt (bt_vv (bt_ow x0) site) N k)) i)) (nI i)) (fun _ _ => True) 6 0 () (by omega) trivial
    (fun n _ _ => pk_le 6 6 (fun _ => nm_r (e' := lN (bt_sm (bt_P b (bt_R x6) (bt_vv (bt_ow x0) site)) (N + 1))) (lN_add _ _) ?_) (fun z => absurd z (by omega)))
    (fun n i _ hi _ hw => pk_le 6 i (fun z => absurd z (by omega)) (fun _ => pk_le 4 i (fun z => ?_) (fun z => ?_)))
  · have q1 := bt_S_le (bt_C_le x1 x2) b (bt_vv (bt_ow x0) site) N
    have q2 := bt_ls_cap (bt_S b (bt_C x1 x2) (bt_vv (bt_ow x0) site)) N
    have g4 : N % 4 < 4 := Nat.mod_lt _ (by omega)
    have g16 : N / 16 < 4 := by omega
    have e4 : nI N &&& 3 = nI (N % 4) := pk_andN (by omega) 2 (by decide)
    have e16 : nI N >>> ((4 : Int32) &&& 31) = nI (N / 16) := pk_shrN (by omega) _ 4 (by decide)
    show (nI (bt_ls (bt_S b (bt_C x1 x2) (bt_vv (bt_ow x0) site)) N) ≤ nI (bt_S b (bt_C x1 x2) (bt_vv (bt_ow x0) site) N) → _) ∧ (¬ nI (bt_ls (bt_S b (bt_C x1 x2) (bt_vv (bt_ow x0) site)) N) ≤ nI (bt_S b (bt_C x1 x2) (bt_vv (bt_ow x0) site) N) → _)
    refine pk_le (bt_ls (bt_S b (bt_C x1 x2) (bt_vv (bt_ow x0) site)) N) (bt_S b (bt_C x1 x2) (bt_vv (bt_ow x0) site) N) (fun z => ?_) (fun z => ?_)
    · unfold wL_lawOf_492
      rw [e4, e16]
      refine pk_eq (bt_S b (bt_C x1 x2) (bt_vv (bt_ow x0) site) N) (bt_ls (bt_S b (bt_C x1 x2) (bt_vv (bt_ow x0) site)) N) (fun w => ?_) (fun w => ?_)
      · obtain ⟨s1, s2, s3⟩ := bt_st_eq w
        rw [s1, s2] at H
        exact nm_r (nI_1 _) (nm_r (s3 (fun i => i % 4) g4) (nm_r (s3 (fun i => i / 16) g16) (nm_e H)))
      · obtain ⟨s1, s2, s3⟩ := bt_st_hi (S := (bt_S b (bt_C x1 x2) (bt_vv (bt_ow x0) site))) (N := N) (by omega)
        rw [s1, s2, s3, s3] at H
        exact nm_e H
    · obtain ⟨s1, s2, s3⟩ := bt_st_lo z
      rw [s1, s2] at H
      unfold wL_lawOf_492
      rw [e4, e16]
      exact br_t rfl (nm_r (e' := nI 1) rfl (nm_r (s3 (fun i => i % 4) g4) (nm_r (s3 (fun i => i / 16) g16) (nm_e H))))
  · have e : nI i + 5 = nI (bt_nd i) := by
      show nI i + nI 5 = _
      rw [nI_add]
      unfold bt_nd
      rw [if_neg (by omega)]
    rw [e]
    exact bt_332 hN hi hsi (hw () trivial)
  · have e : i = bt_nd i := by
      unfold bt_nd
      rw [if_pos (by omega)]
    have t := bt_332 (post := post) (mc := mc) (ms := ms) (kc := kc) (ks := ks) (J274 := J274) (J284 := J284) (x0 := x0) (x8 := nI (bt_ls (bt_S b (bt_C x1 x2) (bt_vv (bt_ow x0) site)) N)) (x9 := nI (bt_ct (bt_S b (bt_C x1 x2) (bt_vv (bt_ow x0) site)) N)) (x10 := nI (bt_mk (bt_S b (bt_C x1 x2) (bt_vv (bt_ow x0) site)) (fun i => i % 4) N)) (x11 := nI (bt_mk (bt_S b (bt_C x1 x2) (bt_vv (bt_ow x0) site)) (fun i => i / 16) N)) (x12 := lN (bt_sm (bt_P b (bt_R x6) (bt_vv (bt_ow x0) site)) N)) (x14 := x14) (x15 := x15) (lc := lc) (ic := ic) (tp := tp) (ls := ls) (a1 := a1) (a2 := a2) (a3 := a3) (a4 := a4) (a5 := a5) (a6 := a6) (a7 := a7) (a8 := a8) (a9 := a9) (a10 := a10) (a11 := a11) (a12 := a12) (a13 := a13) hN hi hsi (hw () trivial)
    rw [← e] at t
    exact t
end
section
/-! the law's own loops, and its end -/
theorem bt_284 {post : Int32 → St0 → Prop} {mc ms kc ks : Nat} {J274 : Int32 → Int32 → Int32 → Int32 → Int64 → Int32 → Prop} {x0 x1 x2 x6 : Int32} {lc ic tp ls : Int32} {a1 a2 a3 a4 a5 a6 a7 a8 a9 a10 a11 : Nat → Int32} {a12 : Nat → Int64} {a13 : Nat → Int32} {b : Bool} {site i : Nat} (hi : i < 8) (hsi : site < 4)
    (H : J274 (nI (bt_ls (bt_S b (bt_C x1 x2) (bt_vv (bt_ow x0) site)) (8 * (i + 1)))) (nI (bt_ct (bt_S b (bt_C x1 x2) (bt_vv (bt_ow x0) site)) (8 * (i + 1)))) (nI (bt_mk (bt_S b (bt_C x1 x2) (bt_vv (bt_ow x0) site)) (fun i => i % 4) (8 * (i + 1)))) (nI (bt_mk (bt_S b (bt_C x1 x2) (bt_vv (bt_ow x0) site)) (fun i => i / 16) (8 * (i + 1)))) (lN (bt_sm (bt_P b (bt_R x6) (bt_vv (bt_ow x0) site)) (8 * (i + 1)))) (nI (i + 1))) :
    ∃ n, wL_lawOf_284 post mc ms J274 x0 x1 x2 (bt_fl b) (nI site) x6 (nI i) kc ks lc ic tp ls a1 a2 a3 a4 a5 a6 a7 a8 a9 a10 a11 a12 a13 n (nI (bt_ls (bt_S b (bt_C x1 x2) (bt_vv (bt_ow x0) site)) (8 * i))) (nI (bt_ct (bt_S b (bt_C x1 x2) (bt_vv (bt_ow x0) site)) (8 * i))) (nI (bt_mk (bt_S b (bt_C x1 x2) (bt_vv (bt_ow x0) site)) (fun i => i % 4) (8 * i))) (nI (bt_mk (bt_S b (bt_C x1 x2) (bt_vv (bt_ow x0) site)) (fun i => i / 16) (8 * i))) (lN (bt_sm (bt_P b (bt_R x6) (bt_vv (bt_ow x0) site)) (8 * i))) 0 :=
  pk_loop (σ := Unit) (fun n j _ => wL_lawOf_284 post mc ms J274 x0 x1 x2 (bt_fl b) (nI site) x6 (nI i) kc ks lc ic tp ls a1 a2 a3 a4 a5 a6 a7 a8 a9 a10 a11 a12 a13 n (nI (bt_ls (bt_S b (bt_C x1 x2) (bt_vv (bt_ow x0) site)) (8 * i + j))) (nI (bt_ct (bt_S b (bt_C x1 x2) (bt_vv (bt_ow x0) site)) (8 * i + j))) (nI (bt_mk (bt_S b (bt_C x1 x2) (bt_vv (bt_ow x0) site)) (fun i => i % 4) (8 * i + j))) (nI (bt_mk (bt_S b (bt_C x1 x2) (bt_vv (bt_ow x0) site)) (fun i => i / 16) (8 * i + j))) (lN (bt_sm (bt_P b (bt_R x6) (bt_vv (bt_ow x0) site)) (8 * i + j))) (nI j)) (fun _ _ => True) 8 0 () (by omega) trivial
    (fun n _ _ => pk_le 8 8 (fun _ => nm_r (nI_1 i) H) (fun z => absurd z (by omega)))
    (fun n j _ hj _ hw => pk_le 8 j (fun z => absurd z (by omega)) (fun _ => nm_r (e' := nI (8 * i + j)) (by rw [show (8 : Int32) = nI 8 from rfl, pk_mul, nI_add]) (bt_310 (by omega) hsi (by rw [nI_1]; exact hw () trivial))))
theorem bt_k10 (b : Bool) : ∃ k, k < 7 ∧ bt_or b k = 10 := by
  cases b
  · exact ⟨4, by omega, rfl⟩
  · exact ⟨2, by omega, rfl⟩
theorem bt_end {post : Int32 → St0 → Prop} {mc ms kc ks : Nat} {x0 x1 x2 x6 : Int32} {ls : Int32} {a1 a2 a3 a4 a5 a6 a7 a8 a9 a10 a11 : Nat → Int32} {a12 : Nat → Int64} {a13 : Nat → Int32} {b : Bool} {site : Nat} (hsi : site < 4) (hp : bt_pic b (bt_C x1 x2) (bt_ow x0) a1 a2 a3 a4 a5) (h6 : ∀ s, s < 4 → ∀ t, t < 4 → a6 (4 * s + t) = nI (bt_R x6 s t)) (H : post 1 ()) (n : Nat) :
    wL_lawOf_274 post mc ms x0 x1 x2 (bt_fl b) (nI site) x6 kc ks (nI 4) (nI 3) (nI 8) ls a1 a2 a3 a4 a5 a6 a7 a8 a9 a10 a11 a12 a13 (n + 1) (nI (bt_ls (bt_S b (bt_C x1 x2) (bt_vv (bt_ow x0) site)) 64)) (nI (bt_ct (bt_S b (bt_C x1 x2) (bt_vv (bt_ow x0) site)) 64)) (nI (bt_mk (bt_S b (bt_C x1 x2) (bt_vv (bt_ow x0) site)) (fun i => i % 4) 64)) (nI (bt_mk (bt_S b (bt_C x1 x2) (bt_vv (bt_ow x0) site)) (fun i => i / 16) 64)) (lN (bt_sm (bt_P b (bt_R x6) (bt_vv (bt_ow x0) site)) 64)) (nI 8) := by
  have hC := bt_C_le x1 x2
  have hv := bt_vv_lt (bt_ow x0) site
  obtain ⟨k10, hk10, ek10⟩ := bt_k10 b
  refine pk_le 8 8 (fun _ => ?_) (fun z => absurd z (by omega))
  refine bt_least hsi hp (fun b7 b9 b10 => ?_)
  try dsimp only
  refine br_t (congrArg nI (bt_f_least hC hv b)) ?_
  refine bt_wpways hsi hp (fun b7 b9 b10 => ?_)
  try dsimp only
  refine br_t (congrArg nI (bt_f_ways hC hv b)) ?_
  refine bt_states (k := 0) (x := 8) (by omega) (bt_ln0 b).2.2 (by omega) hsi hp (fun b7 b9 b10 b11 => ?_)
  try dsimp only
  refine br_t (congrArg nI (bt_bi_cg (fun s hs => bt_f_root hC hv b s hs))) ?_
  refine bt_states (k := k10) (x := 10) hk10 ek10 (by omega) hsi hp (fun b7 b9 b10 b11 => ?_)
  try dsimp only
  refine br_t (congrArg nI (bt_bi_cg (fun s hs => bt_f_tens hC hv b s hs))) ?_
  refine bt_weight hsi hp h6 (bt_R_le x6) (fun b7 b12 => ?_)
  try dsimp only
  refine br_t (congrArg lN (bt_wgt hv b)) ?_
  exact br_t rfl (br_t rfl H)
theorem bt_274 {post : Int32 → St0 → Prop} {mc ms kc ks : Nat} {x0 x1 x2 x6 : Int32} {ls : Int32} {a1 a2 a3 a4 a5 a6 a7 a8 a9 a10 a11 : Nat → Int32} {a12 : Nat → Int64} {a13 : Nat → Int32} {b : Bool} {site : Nat} (hsi : site < 4) (hp : bt_pic b (bt_C x1 x2) (bt_ow x0) a1 a2 a3 a4 a5) (h6 : ∀ s, s < 4 → ∀ t, t < 4 → a6 (4 * s + t) = nI (bt_R x6 s t)) (H : post 1 ()) :
    ∃ n, wL_lawOf_274 post mc ms x0 x1 x2 (bt_fl b) (nI site) x6 kc ks (nI 4) (nI 3) (nI 8) ls a1 a2 a3 a4 a5 a6 a7 a8 a9 a10 a11 a12 a13 n 9999 0 0 0 0 0 :=
  pk_loop (σ := Unit) (fun n i _ => wL_lawOf_274 post mc ms x0 x1 x2 (bt_fl b) (nI site) x6 kc ks (nI 4) (nI 3) (nI 8) ls a1 a2 a3 a4 a5 a6 a7 a8 a9 a10 a11 a12 a13 n (nI (bt_ls (bt_S b (bt_C x1 x2) (bt_vv (bt_ow x0) site)) (8 * i))) (nI (bt_ct (bt_S b (bt_C x1 x2) (bt_vv (bt_ow x0) site)) (8 * i))) (nI (bt_mk (bt_S b (bt_C x1 x2) (bt_vv (bt_ow x0) site)) (fun i => i % 4) (8 * i))) (nI (bt_mk (bt_S b (bt_C x1 x2) (bt_vv (bt_ow x0) site)) (fun i => i / 16) (8 * i))) (lN (bt_sm (bt_P b (bt_R x6) (bt_vv (bt_ow x0) site)) (8 * i))) (nI i)) (fun _ _ => True) 8 0 () (by omega) trivial
    (fun n _ _ => bt_end hsi hp h6 H n)
    (fun n i _ hi _ hw => pk_le 8 i (fun z => absurd z (by omega)) (fun _ => bt_284 hi hsi (hw () trivial)))
/-- the costs, the loops, the questions, from any state with the tree made -/
theorem bt_rest {post : Int32 → St0 → Prop} {mc ms kc ks : Nat} {x0 x1 x2 x6 : Int32} {ls : Int32} {a1 a2 a3 a4 a5 a6 a7 a8 a9 a10 a11 : Nat → Int32} {a12 : Nat → Int64} {a13 : Nat → Int32} {b : Bool} {site : Nat} (hsi : site < 4) (hT : bt_T b a1 a2 a3) (h4 : ∀ i, i < 4 → a4 i = nI (bt_ow x0 i)) (h0 : ∀ k, k < 16 → a5 k = nI (bt_ini k) ∧ a6 k = nI 1) (H : post 1 ()) :
    ∃ n, wL_lawOf_162 post mc ms x0 x1 x2 (bt_fl b) (nI site) x6 kc ks n 0 (nI 4) (nI 3) (nI 8) ls a1 a2 a3 a4 a5 a6 a7 a8 a9 a10 a11 a12 a13 := by
  refine bt_162 ⟨fun k hk => absurd hk (by omega), fun k _ hk => h0 k hk⟩ (fun b5 b6 hb => bt_274 hsi ⟨hT, fun i hi => ⟨h4 i hi, bt_ow_lt x0 i⟩, fun s hs t ht => ?_, bt_C_le x1 x2⟩ (fun s hs t ht => ?_) H)
  · have e := (hb.1 (4 * s + t) (by omega)).1
    rw [show (4 * s + t) / 4 = s by omega, show (4 * s + t) % 4 = t by omega] at e
    exact e
  · have e := (hb.1 (4 * s + t) (by omega)).2
    rw [show (4 * s + t) / 4 = s by omega, show (4 * s + t) % 4 = t by omega] at e
    exact e
theorem bt_own4 {w0 w1 w2 w3 : Int32} {x0 : Int32} (h0 : w0 = nI (bt_ow x0 0)) (h1 : w1 = nI (bt_ow x0 1)) (h2 : w2 = nI (bt_ow x0 2)) (h3 : w3 = nI (bt_ow x0 3)) : ∀ i, i < 4 → upd (upd (upd (upd (fun _ => 0) 0 w0) 1 w1) 2 w2) 3 w3 i = nI (bt_ow x0 i) := by
  intro i hi
  have : i = 0 ∨ i = 1 ∨ i = 2 ∨ i = 3 := by omega
  rcases this with e | e | e | e <;> subst e
  · rw [pk_un (by decide), pk_un (by decide), pk_un (by decide), pk_us, h0]
  · rw [pk_un (by decide), pk_un (by decide), pk_us, h1]
  · rw [pk_un (by decide), pk_us, h2]
  · rw [pk_us, h3]
theorem bt_mkT {b : Bool} {a1 a2 a3 : Nat → Int32} (h1 : ∀ x, x < 11 → (x < 4 ∨ 9 ≤ x) → a1 x = nI (bt_pa b x)) (h2 : ∀ y, y < 3 → a2 (8 + y) = nI (bt_c1 b (8 + y)) ∧ a3 (8 + y) = nI (bt_c2 b (8 + y))) : bt_T b a1 a2 a3 := by
  refine ⟨h1, fun x h8 hx => ?_⟩
  have e := h2 (x - 8) (by omega)
  rw [show 8 + (x - 8) = x by omega] at e
  exact e
end
section
/-! the two trees are made; the law -/
theorem bt_116f {post : Int32 → St0 → Prop} {mc ms kc ks : Nat} {x0 x1 x2 x6 : Int32} {ls : Int32} {c5 c6 a7 a8 a9 a10 a11 : Nat → Int32} {a12 : Nat → Int64} {a13 : Nat → Int32} {site : Nat} (hsi : site < 4) (h0 : ∀ k, k < 16 → c5 k = nI (bt_ini k) ∧ c6 k = nI 1) (H : post 1 ()) :
    wL_lawOf_116 post mc ms x0 x1 x2 (bt_fl false) (nI site) x6 kc ks (nI 2) (nI 1) (nI 8) ls (upd (upd (upd (upd (fun _ => 0) 0 (-1)) 8 (-1)) 0 (nI 8)) 1 (nI 8)) (upd (fun _ => 0) 8 (nI 0)) (upd (fun _ => 0) 8 (nI 1)) (upd (upd (fun _ => 0) 0 (nI (bt_ow x0 0))) 1 (nI (bt_ow x0 1))) c5 c6 a7 a8 a9 a10 a11 a12 a13 := by
  unfold wL_lawOf_116
  refine br_t rfl ?_
  rw [show (x0 >>> ((8 : Int32) &&& 31)) &&& 255 = nI (bt_ow x0 2) from bt_ow_e x0 2, show (x0 >>> ((24 : Int32) &&& 31)) &&& 255 = nI (bt_ow x0 3) from bt_ow_e x0 3]
  refine bt_att (l := 2) (i := 1) (x := 1) (by omega) (by omega) (by omega) (bt_ow_lt x0 2) (fun q hq => bt_rep2 (p := 8) (by omega) (by omega) (by omega) (by decide) (by decide) (hq _ _ _ _ _ _ _ _ _ _ _ _ _ _ _ ?_))
  try dsimp only
  refine br_t rfl ?_
  refine bt_att (l := 3) (i := 2) (x := 2) (by omega) (by omega) (by omega) (bt_ow_lt x0 3) (fun q hq => bt_rep2 (p := 9) (by omega) (by omega) (by omega) (by decide) (by decide) (hq _ _ _ _ _ _ _ _ _ _ _ _ _ _ _ ?_))
  try dsimp only
  refine br_t rfl ?_
  exact bt_rest (b := false) hsi (bt_mkT (by decide) (by decide)) (bt_own4 rfl rfl rfl rfl) h0 H
theorem bt_12 {post : Int32 → St0 → Prop} (b : Bool) (x0 x1 x2 x3 : Int32) (H : post 1 ()) : wL_lawOf_12 post 14 364 x0 x1 x2 x3 (bt_fl b) 0 0 := by
  obtain ⟨site, hsi, es⟩ := pk_andE (x3 >>> ((1 : Int32) &&& 31)) (m := 3) 2 (by decide)
  unfold wL_lawOf_12
  rw [show (x0 >>> ((16 : Int32) &&& 31)) &&& 255 = nI (bt_ow x0 1) from bt_ow_e x0 1, show (x0 >>> ((8 : Int32) &&& 31)) &&& 255 = nI (bt_ow x0 2) from bt_ow_e x0 2, show (x0 >>> ((24 : Int32) &&& 31)) &&& 255 = nI (bt_ow x0 3) from bt_ow_e x0 3, show x0 &&& 255 = nI (bt_ow x0 0) from bt_ow_e x0 0]
  refine nm_r es (nm_e ⟨by omega, by omega, 13, 347, by omega, by omega, bt_init (by omega) (by omega) (bt_ow_lt x0 0) (fun c5 c6 h0 => ?_)⟩)
  try dsimp only
  refine bt_att (l := 1) (i := 0) (x := 0) (by omega) (by omega) (by omega) (bt_ow_lt x0 1) (fun q hq => bt_rep0 (by omega) (by omega) (by decide) (hq _ _ _ _ _ _ _ _ _ _ _ _ _ _ _ ?_))
  try dsimp only
  refine br_t rfl ?_
  cases b
  · exact br_t rfl (bt_116f hsi h0 H)
  · refine br_f (by decide) ?_
    refine bt_att (l := 2) (i := 1) (x := 0) (by omega) (by omega) (by omega) (bt_ow_lt x0 2) (fun q hq => bt_rep1 (p := 8) (by omega) (by omega) (by omega) (by decide) (by decide) (hq _ _ _ _ _ _ _ _ _ _ _ _ _ _ _ ?_))
    try dsimp only
    refine br_t rfl ?_
    refine bt_swap (by decide) (by decide) (by decide) (by decide) (by decide) (by decide) ?_
    try dsimp only
    refine br_t rfl ?_
    refine bt_att (l := 3) (i := 2) (x := 2) (by omega) (by omega) (by omega) (bt_ow_lt x0 3) (fun q hq => bt_rep2 (p := 8) (by omega) (by omega) (by omega) (by decide) (by decide) (hq _ _ _ _ _ _ _ _ _ _ _ _ _ _ _ ?_))
    try dsimp only
    refine br_t rfl ?_
    unfold wL_lawOf_116
    refine br_f (by decide) ?_
    exact bt_rest (b := true) hsi (bt_mkT (by decide) (by decide)) (bt_own4 rfl rfl rfl rfl) h0 H
theorem bt_cell {post : Int32 → Prop} {L : Nat} {xs : Nat → Int32} {i : Nat} (hL : L ≤ 4) (hi : i < 4) (H : ∀ r, post r) : wpL_cellAt post L xs () (nI i) :=
  pk_le L i (fun _ => H 0) (fun z => ⟨pk_in i L z, H _⟩)
theorem i_vc (xs : Nat → Int32) (L : Nat) (hL : L ≤ 4) : wpL_law (fun r => r = 1) L xs := by
  unfold wpL_law
  refine bt_cell (i := 0) hL (by omega) (fun r1 => bt_cell (i := 1) hL (by omega) (fun r2 => bt_cell (i := 2) hL (by omega) (fun r3 => bt_cell (i := 3) hL (by omega) (fun r4 => ⟨14, 364, by omega, by omega, ?_⟩))))
  unfold wpL_lawOf
  exact br_c (fun _ => bt_12 true r1 r2 r3 r4 rfl) (fun _ => bt_12 false r1 r2 r3 r4 rfl)
end

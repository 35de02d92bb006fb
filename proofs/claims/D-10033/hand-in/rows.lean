section
/-! ===== the cost of a pair of letters; one column out of another; the distances ===== -/
def nd_c (a b : Int32) : Nat := if a = b then 0 else 1
theorem nd_c_le (a b : Int32) : nd_c a b ≤ 1 := by
  unfold nd_c
  split <;> omega
theorem nd_c_eq {a b : Int32} (h : a = b) : nd_c a b = 0 := if_pos h
theorem nd_c_ne {a b : Int32} (h : ¬ a = b) : nd_c a b = 1 := if_neg h
theorem nd_c_iff (a b : Int32) : nd_c a b = 0 ↔ a = b := by
  by_cases h : a = b
  · exact ⟨fun _ => h, fun _ => nd_c_eq h⟩
  · refine ⟨fun z => ?_, fun z => absurd z h⟩
    rw [nd_c_ne h] at z
    omega
theorem nd_c_sym (a b : Int32) : nd_c a b = nd_c b a := by
  by_cases h : a = b
  · rw [nd_c_eq h, nd_c_eq h.symm]
  · rw [nd_c_ne h, nd_c_ne (fun z => h z.symm)]
theorem nd_c_tri (a b c : Int32) : nd_c a c ≤ nd_c a b + nd_c b c := by
  by_cases h : a = b
  · subst h
    omega
  · rw [nd_c_ne h]
    have := nd_c_le a c
    omega
def nd_col (x : Nat → Int32) (b : Int32) (t : Nat) (p : Nat → Nat) : Nat → Nat
  | 0 => t
  | i + 1 => min (min (p (i + 1) + 1) (p i + nd_c (x i) b)) (nd_col x b t p i + 1)
def nd_E (z : Nat → Nat) (x y : Nat → Int32) : Nat → Nat → Nat
  | 0 => fun i => i
  | j + 1 => nd_col x (y j) (z (j + 1)) (nd_E z x y j)
/-- the distance of x[0..i) and y[0..j), the column first -/
def nd_D (x y : Nat → Int32) (j i : Nat) : Nat := nd_E (fun j => j) x y j i
/-- the least distance of x[0..i) and a stretch of y that ends at j -/
def nd_S (x y : Nat → Int32) (j i : Nat) : Nat := nd_E (fun _ => 0) x y j i
theorem nd_D_0 (x y : Nat → Int32) (i : Nat) : nd_D x y 0 i = i := rfl
theorem nd_D_s0 (x y : Nat → Int32) (j : Nat) : nd_D x y (j + 1) 0 = j + 1 := rfl
theorem nd_D_ss (x y : Nat → Int32) (j i : Nat) : nd_D x y (j + 1) (i + 1) = min (min (nd_D x y j (i + 1) + 1) (nd_D x y j i + nd_c (x i) (y j))) (nd_D x y (j + 1) i + 1) := rfl
theorem nd_S_0 (x y : Nat → Int32) (i : Nat) : nd_S x y 0 i = i := rfl
theorem nd_S_s0 (x y : Nat → Int32) (j : Nat) : nd_S x y (j + 1) 0 = 0 := rfl
theorem nd_S_ss (x y : Nat → Int32) (j i : Nat) : nd_S x y (j + 1) (i + 1) = min (min (nd_S x y j (i + 1) + 1) (nd_S x y j i + nd_c (x i) (y j))) (nd_S x y (j + 1) i + 1) := rfl
theorem nd_D_j0 (x y : Nat → Int32) (j : Nat) : nd_D x y j 0 = j := by
  cases j with
  | zero => rfl
  | succ j => rfl
theorem nd_S_j0 (x y : Nat → Int32) (j : Nat) : nd_S x y j 0 = 0 := by
  cases j with
  | zero => rfl
  | succ j => rfl
theorem nd_min3 {e a b c : Nat} (h : e = min (min a b) c) : (e = a ∨ e = b ∨ e = c) ∧ e ≤ a ∧ e ≤ b ∧ e ≤ c := by omega
theorem nd_D_le (x y : Nat → Int32) : ∀ j i, nd_D x y j i ≤ i + j := by
  intro j
  induction j with
  | zero =>
    intro i
    rw [nd_D_0]
    omega
  | succ j ih =>
    intro i
    cases i with
    | zero =>
      rw [nd_D_s0]
      omega
    | succ i =>
      have h := nd_min3 (nd_D_ss x y j i)
      have h1 := ih (i + 1)
      omega
theorem nd_D_ge (x y : Nat → Int32) : ∀ j i, i ≤ nd_D x y j i + j ∧ j ≤ nd_D x y j i + i := by
  intro j
  induction j with
  | zero =>
    intro i
    rw [nd_D_0]
    omega
  | succ j ih =>
    intro i
    induction i with
    | zero =>
      rw [nd_D_s0]
      omega
    | succ i ih2 =>
      have h := nd_min3 (nd_D_ss x y j i)
      have h1 := ih (i + 1)
      have h2 := ih i
      omega
theorem nd_D_sym (x y : Nat → Int32) : ∀ j i, nd_D x y j i = nd_D y x i j := by
  intro j
  induction j with
  | zero =>
    intro i
    rw [nd_D_0, nd_D_j0]
  | succ j ih =>
    intro i
    induction i with
    | zero => rw [nd_D_s0, nd_D_0]
    | succ i ih2 =>
      have h := nd_D_ss x y j i
      have h' := nd_D_ss y x i j
      have h1 := ih (i + 1)
      have h2 := ih i
      have h3 := nd_c_sym (x i) (y j)
      omega
theorem nd_D_self (x : Nat → Int32) : ∀ i, nd_D x x i i = 0 := by
  intro i
  induction i with
  | zero => rfl
  | succ i ih =>
    have h := nd_min3 (nd_D_ss x x i i)
    have h3 : nd_c (x i) (x i) = 0 := nd_c_eq rfl
    omega
theorem nd_D_tri (x y z : Nat → Int32) : ∀ n i j k, i + j + k ≤ n → nd_D x z k i ≤ nd_D x y j i + nd_D y z k j := by
  intro n
  induction n with
  | zero =>
    intro i j k h
    have hk : k = 0 := by omega
    have hi : i = 0 := by omega
    subst hk hi
    rw [nd_D_0]
    omega
  | succ n ih =>
    intro i j k h
    cases i with
    | zero =>
      have h1 := nd_D_ge y z k j
      have h2 := nd_D_j0 x z k
      have h3 := nd_D_j0 x y j
      omega
    | succ i =>
      cases k with
      | zero =>
        have h1 := nd_D_ge x y j (i + 1)
        have h2 := nd_D_0 x z (i + 1)
        have h3 := nd_D_0 y z j
        omega
      | succ k =>
        cases j with
        | zero =>
          have h1 := nd_D_le x z (k + 1) (i + 1)
          have h2 := nd_D_0 x y (i + 1)
          have h3 := nd_D_s0 y z k
          omega
        | succ j =>
          have c1 := nd_c_tri (x i) (y j) (z k)
          have c2 := nd_c_le (x i) (z k)
          have l := (nd_min3 (nd_D_ss x z k i)).2
          have g1 := ih i (j + 1) (k + 1) (by omega)
          have g2 := ih (i + 1) (j + 1) k (by omega)
          have g3 := ih (i + 1) j (k + 1) (by omega)
          have g4 := ih (i + 1) j k (by omega)
          have g5 := ih i j (k + 1) (by omega)
          have g6 := ih i j k (by omega)
          rcases (nd_min3 (nd_D_ss x y j i)).1 with e2 | e2 | e2
          · rcases (nd_min3 (nd_D_ss y z k j)).1 with e3 | e3 | e3 <;> omega
          · rcases (nd_min3 (nd_D_ss y z k j)).1 with e3 | e3 | e3 <;> omega
          · omega
theorem nd_D_congr {x y x' y' : Nat → Int32} : ∀ j i, (∀ a, a < i → x a = x' a) → (∀ b, b < j → y b = y' b) → nd_D x y j i = nd_D x' y' j i := by
  intro j
  induction j with
  | zero =>
    intro i hx hy
    rw [nd_D_0, nd_D_0]
  | succ j ih =>
    intro i
    induction i with
    | zero =>
      intro hx hy
      rw [nd_D_s0, nd_D_s0]
    | succ i ih2 =>
      intro hx hy
      rw [nd_D_ss, nd_D_ss, ih (i + 1) hx (fun b hb => hy b (by omega)), ih i (fun a ha => hx a (by omega)) (fun b hb => hy b (by omega)), ih2 (fun a ha => hx a (by omega)) hy, hx i (by omega), hy j (by omega)]
theorem nd_S_le_D (x y : Nat → Int32) : ∀ j i, nd_S x y j i ≤ nd_D x y j i := by
  intro j
  induction j with
  | zero =>
    intro i
    rw [nd_D_0, nd_S_0]
    omega
  | succ j ih =>
    intro i
    induction i with
    | zero =>
      rw [nd_D_s0, nd_S_s0]
      omega
    | succ i ih2 =>
      have h := nd_min3 (nd_D_ss x y j i)
      have h' := nd_min3 (nd_S_ss x y j i)
      have h1 := ih (i + 1)
      have h2 := ih i
      omega
theorem nd_S_le (x y : Nat → Int32) (j : Nat) : ∀ i, nd_S x y j i ≤ i := by
  intro i
  induction i with
  | zero =>
    rw [nd_S_j0]
    omega
  | succ i ih =>
    cases j with
    | zero =>
      rw [nd_S_0]
      omega
    | succ j =>
      have h := nd_min3 (nd_S_ss x y j i)
      omega
/-- one cell between its three neighbours: what is new lies within one of what stands above and beside -/
theorem nd_cellB {a b c e t : Nat} (he : e = min (min (b + 1) (a + t)) (c + 1)) (ht : t ≤ 1) (h1 : b ≤ a + 1) (h2 : a ≤ b + 1) (h3 : c ≤ a + 1) (h4 : a ≤ c + 1) : e ≤ b + 1 ∧ b ≤ e + 1 ∧ e ≤ c + 1 ∧ c ≤ e + 1 := by omega
theorem nd_lipV (x y : Nat → Int32) : ∀ j, (∀ i, nd_S x y j (i + 1) ≤ nd_S x y j i + 1 ∧ nd_S x y j i ≤ nd_S x y j (i + 1) + 1) ∧ (∀ i, nd_S x y (j + 1) i ≤ nd_S x y j i + 1 ∧ nd_S x y j i ≤ nd_S x y (j + 1) i + 1) := by
  have step : ∀ j, (∀ i, nd_S x y j (i + 1) ≤ nd_S x y j i + 1 ∧ nd_S x y j i ≤ nd_S x y j (i + 1) + 1) → (∀ i, nd_S x y (j + 1) i ≤ nd_S x y j i + 1 ∧ nd_S x y j i ≤ nd_S x y (j + 1) i + 1) := by
    intro j hv i
    induction i with
    | zero =>
      rw [nd_S_j0, nd_S_j0]
      omega
    | succ i ih =>
      have h := nd_cellB (nd_S_ss x y j i) (nd_c_le _ _) (hv i).1 (hv i).2 ih.1 ih.2
      exact ⟨h.1, h.2.1⟩
  intro j
  induction j with
  | zero =>
    have hv : ∀ i, nd_S x y 0 (i + 1) ≤ nd_S x y 0 i + 1 ∧ nd_S x y 0 i ≤ nd_S x y 0 (i + 1) + 1 := by
      intro i
      rw [nd_S_0, nd_S_0]
      omega
    exact ⟨hv, step 0 hv⟩
  | succ j ih =>
    have hv : ∀ i, nd_S x y (j + 1) (i + 1) ≤ nd_S x y (j + 1) i + 1 ∧ nd_S x y (j + 1) i ≤ nd_S x y (j + 1) (i + 1) + 1 := by
      intro i
      have h := nd_cellB (nd_S_ss x y j i) (nd_c_le _ _) (ih.1 i).1 (ih.1 i).2 (ih.2 i).1 (ih.2 i).2
      exact ⟨h.2.2.1, h.2.2.2⟩
    exact ⟨hv, step (j + 1) hv⟩
/-- one cell, by the four differences about it -/
theorem nd_cell4 {a b c e t : Nat} (he : e = min (min (b + 1) (a + t)) (c + 1)) (ht : t ≤ 1) (h1 : b ≤ a + 1) (h2 : a ≤ b + 1) (h3 : c ≤ a + 1) (h4 : a ≤ c + 1) :
    (e = b + 1 ↔ (b + 1 = a ∨ ¬ ((t = 0 ∨ c + 1 = a) ∨ b = a + 1))) ∧ (e + 1 = b ↔ (b = a + 1 ∧ (t = 0 ∨ c + 1 = a))) ∧ (e = c + 1 ↔ (c + 1 = a ∨ ¬ ((t = 0 ∨ b + 1 = a) ∨ c = a + 1))) ∧ (e + 1 = c ↔ (c = a + 1 ∧ (t = 0 ∨ b + 1 = a))) := by
  refine ⟨?_, ?_, ?_, ?_⟩ <;> omega
/-! ===== the least of a row ===== -/
def nd_best (q y : Nat → Int32) (m : Nat) : Nat → Nat
  | 0 => m
  | j + 1 => min (nd_best q y m j) (nd_S q y (j + 1) m)
theorem nd_best_s (q y : Nat → Int32) (m j : Nat) : nd_best q y m (j + 1) = min (nd_best q y m j) (nd_S q y (j + 1) m) := rfl
theorem nd_best_le (q y : Nat → Int32) (m : Nat) : ∀ n, nd_best q y m n ≤ m := by
  intro n
  induction n with
  | zero => exact Nat.le_refl m
  | succ n ih =>
    rw [nd_best_s]
    omega
theorem nd_best_S (q y : Nat → Int32) (m n : Nat) : nd_best q y m n ≤ nd_S q y n m := by
  cases n with
  | zero => exact Nat.le_refl m
  | succ n =>
    rw [nd_best_s]
    omega
theorem nd_best_ex (q y : Nat → Int32) (m : Nat) : ∀ n, ∃ j, j ≤ n ∧ nd_best q y m n = nd_S q y j m := by
  intro n
  induction n with
  | zero => exact ⟨0, Nat.le_refl 0, rfl⟩
  | succ n ih =>
    obtain ⟨j, hj, e⟩ := ih
    rw [nd_best_s]
    by_cases h : nd_best q y m n ≤ nd_S q y (n + 1) m
    · exact ⟨j, by omega, by omega⟩
    · exact ⟨n + 1, by omega, by omega⟩
theorem nd_best_D (q y : Nat → Int32) (m n : Nat) : nd_best q y m n ≤ nd_D q y n m := Nat.le_trans (nd_best_S q y m n) (nd_S_le_D q y n m)
/-! ===== the band ===== -/
def nd_bcol (b j : Nat) (x : Nat → Int32) (c : Int32) (p : Nat → Nat) : Nat → Nat
  | 0 => if j ≤ b then p 0 + 1 else 100
  | i + 1 => if i + 1 ≤ j + b ∧ j ≤ i + 1 + b then min (min (p (i + 1) + 1) (p i + nd_c (x i) c)) (nd_bcol b j x c p i + 1) else 100
def nd_B (b : Nat) (x y : Nat → Int32) : Nat → Nat → Nat
  | 0 => fun i => if i ≤ b then i else 100
  | j + 1 => nd_bcol b (j + 1) x (y j) (nd_B b x y j)
theorem nd_B_0 (b : Nat) (x y : Nat → Int32) (i : Nat) : nd_B b x y 0 i = if i ≤ b then i else 100 := rfl
theorem nd_B_s0 (b : Nat) (x y : Nat → Int32) (j : Nat) : nd_B b x y (j + 1) 0 = if j + 1 ≤ b then nd_B b x y j 0 + 1 else 100 := rfl
theorem nd_B_ss (b : Nat) (x y : Nat → Int32) (j i : Nat) : nd_B b x y (j + 1) (i + 1) = if i + 1 ≤ (j + 1) + b ∧ (j + 1) ≤ i + 1 + b then min (min (nd_B b x y j (i + 1) + 1) (nd_B b x y j i + nd_c (x i) (y j))) (nd_B b x y (j + 1) i + 1) else 100 := rfl
theorem nd_B_le (b : Nat) (x y : Nat → Int32) : ∀ j i, nd_B b x y j i ≤ 100 + j + b := by
  intro j
  induction j with
  | zero =>
    intro i
    rw [nd_B_0]
    split <;> omega
  | succ j ih =>
    intro i
    cases i with
    | zero =>
      have h1 := ih 0
      rw [nd_B_s0]
      split <;> omega
    | succ i =>
      have h1 := ih (i + 1)
      rw [nd_B_ss]
      split <;> omega
theorem nd_B_ge (b : Nat) (x y : Nat → Int32) : ∀ j i, i + j ≤ 100 → nd_D x y j i ≤ nd_B b x y j i := by
  intro j
  induction j with
  | zero =>
    intro i h
    rw [nd_B_0, nd_D_0]
    split <;> omega
  | succ j ih =>
    intro i
    induction i with
    | zero =>
      intro h
      have h1 := ih 0 (by omega)
      rw [nd_D_j0] at h1
      rw [nd_B_s0, nd_D_s0]
      split <;> omega
    | succ i ih2 =>
      intro h
      have h1 := ih (i + 1) (by omega)
      have h2 := ih i (by omega)
      have h3 := ih2 (by omega)
      have h4 := nd_D_le x y (j + 1) (i + 1)
      have h5 := nd_min3 (nd_D_ss x y j i)
      rw [nd_B_ss]
      split <;> omega
theorem nd_B_eq (b : Nat) (x y : Nat → Int32) : ∀ j i, nd_D x y j i ≤ b → nd_B b x y j i ≤ nd_D x y j i := by
  intro j
  induction j with
  | zero =>
    intro i h
    rw [nd_D_0] at h
    rw [nd_B_0, nd_D_0, if_pos h]
    exact Nat.le_refl i
  | succ j ih =>
    intro i
    induction i with
    | zero =>
      intro h
      have h1 := ih 0
      rw [nd_D_j0] at h1
      rw [nd_D_s0] at h
      rw [nd_B_s0, nd_D_s0, if_pos h]
      have h2 := h1 (by omega)
      omega
    | succ i ih2 =>
      intro h
      have h1 := ih (i + 1)
      have h2 := ih i
      have h4 := nd_D_ge x y (j + 1) (i + 1)
      have h5 := nd_min3 (nd_D_ss x y j i)
      rw [nd_B_ss, if_pos (by omega)]
      omega
/-- an answer of the band that is at most the band is the distance -/
theorem nd_B_ok (b : Nat) (x y : Nat → Int32) {j i : Nat} (h : i + j ≤ 100) (hb : nd_B b x y j i ≤ b) : nd_B b x y j i = nd_D x y j i := by
  have h1 := nd_B_ge b x y j i h
  have h2 := nd_B_eq b x y j i (by omega)
  omega
theorem nd_B_32 (x y : Nat → Int32) {j i : Nat} (h : i + j ≤ 32) : nd_B 32 x y j i = nd_D x y j i := by
  have h0 := nd_D_le x y j i
  have h1 := nd_B_ge 32 x y j i (by omega)
  have h2 := nd_B_eq 32 x y j i (by omega)
  omega
end
section
/-! ===== pairs of letters, and how often each stands in a row ===== -/
def nd_key (x : Nat → Int32) (n : Nat) : Nat := 4 * (x (n - 1)).toNatClampNeg + (x n).toNatClampNeg
def nd_cnt (x : Nat → Int32) (k : Nat) : Nat → Nat
  | 0 => 0
  | n + 1 => nd_cnt x k n + (if 0 < n ∧ nd_key x n = k then 1 else 0)
theorem nd_cnt_s (x : Nat → Int32) (k n : Nat) : nd_cnt x k (n + 1) = nd_cnt x k n + (if 0 < n ∧ nd_key x n = k then 1 else 0) := rfl
theorem nd_cnt_s1 (x : Nat → Int32) (k n : Nat) : nd_cnt x k n ≤ nd_cnt x k (n + 1) := by
  rw [nd_cnt_s]
  omega
theorem nd_cnt_mono (x : Nat → Int32) (k : Nat) {a b : Nat} (h : a ≤ b) : nd_cnt x k a ≤ nd_cnt x k b := by
  induction b with
  | zero =>
    have e : a = 0 := by omega
    subst e
    exact Nat.le_refl _
  | succ b ih =>
    by_cases e : a = b + 1
    · subst e
      exact Nat.le_refl _
    · exact Nat.le_trans (ih (by omega)) (nd_cnt_s1 x k b)
theorem nd_cnt_le (x : Nat → Int32) (k : Nat) : ∀ n, nd_cnt x k n ≤ n := by
  intro n
  induction n with
  | zero => exact Nat.le_refl 0
  | succ n ih =>
    rw [nd_cnt_s]
    split <;> omega
theorem nd_cnt_congr {x x' : Nat → Int32} (k : Nat) : ∀ n, (∀ a, a < n → x a = x' a) → nd_cnt x k n = nd_cnt x' k n := by
  intro n
  induction n with
  | zero =>
    intro _
    rfl
  | succ n ih =>
    intro h
    have e : nd_key x n = nd_key x' n := by
      unfold nd_key
      rw [h (n - 1) (by omega), h n (by omega)]
    rw [nd_cnt_s, nd_cnt_s, ih (fun a ha => h a (by omega)), e]
def nd_sum (f : Nat → Nat) : Nat → Nat
  | 0 => 0
  | n + 1 => nd_sum f n + f n
theorem nd_sum_s (f : Nat → Nat) (n : Nat) : nd_sum f (n + 1) = nd_sum f n + f n := rfl
theorem nd_sum_le {f g : Nat → Nat} (h : ∀ k, f k ≤ g k) : ∀ n, nd_sum f n ≤ nd_sum g n := by
  intro n
  induction n with
  | zero => exact Nat.le_refl 0
  | succ n ih =>
    have := h n
    rw [nd_sum_s, nd_sum_s]
    omega
theorem nd_sum_lt {f g : Nat → Nat} (h : ∀ k, f k ≤ g k) (k0 : Nat) (h0 : f k0 + 1 ≤ g k0) : ∀ n, k0 < n → nd_sum f n + 1 ≤ nd_sum g n := by
  intro n
  induction n with
  | zero =>
    intro z
    omega
  | succ n ih =>
    intro z
    have h1 := h n
    rw [nd_sum_s, nd_sum_s]
    by_cases e : k0 = n
    · subst e
      have h2 := nd_sum_le h k0
      omega
    · have h2 := ih (by omega)
      omega
theorem nd_sum_b {f : Nat → Nat} {c : Nat} (h : ∀ k, f k ≤ c) : ∀ n, nd_sum f n ≤ n * c := by
  intro n
  induction n with
  | zero =>
    rw [Nat.zero_mul]
    exact Nat.le_refl 0
  | succ n ih =>
    have h1 := h n
    rw [nd_sum_s, Nat.succ_mul]
    omega
/-- how often y[0..j) and q[0..i) share pair k -/
def nd_mn (q y : Nat → Int32) (i j k : Nat) : Nat := min (nd_cnt y k j) (nd_cnt q k i)
def nd_sh (q y : Nat → Int32) (i j : Nat) : Nat := nd_sum (nd_mn q y i j) 16
theorem nd_mn_mono (q y : Nat → Int32) {i j i' j' : Nat} (hi : i ≤ i') (hj : j ≤ j') (k : Nat) : nd_mn q y i j k ≤ nd_mn q y i' j' k := by
  unfold nd_mn
  have h1 := nd_cnt_mono q k hi
  have h2 := nd_cnt_mono y k hj
  omega
theorem nd_sh_mono (q y : Nat → Int32) {i j i' j' : Nat} (hi : i ≤ i') (hj : j ≤ j') : nd_sh q y i j ≤ nd_sh q y i' j' := nd_sum_le (nd_mn_mono q y hi hj) 16
theorem nd_mn_le (q y : Nat → Int32) (i j k : Nat) : nd_mn q y i j k ≤ i := by
  unfold nd_mn
  have h := nd_cnt_le q k i
  omega
theorem nd_sh_le (q y : Nat → Int32) (i j n : Nat) : nd_sum (nd_mn q y i j) n ≤ n * i := nd_sum_b (nd_mn_le q y i j) n
def nd_L4 (x : Nat → Int32) : Prop := ∀ t, ∃ j, j < 4 ∧ x t = nI j
theorem nd_L4_lt {x : Nat → Int32} (h : nd_L4 x) (t : Nat) : (x t).toNatClampNeg < 4 := by
  obtain ⟨j, hj, e⟩ := h t
  rw [e, nI_clamp (by omega)]
  exact hj
theorem nd_L4_eq {x y : Nat → Int32} (hx : nd_L4 x) (hy : nd_L4 y) {s t : Nat} (h : (x s).toNatClampNeg = (y t).toNatClampNeg) : x s = y t := by
  obtain ⟨j, hj, e⟩ := hx s
  obtain ⟨j', hj', e'⟩ := hy t
  rw [e, e', nI_clamp (by omega), nI_clamp (by omega)] at h
  rw [e, e', h]
/-- two pairs matched: one more is shared -/
theorem nd_sh_s (q y : Nat → Int32) (hq : nd_L4 q) (i j : Nat) (h1 : q i = y j) (h2 : q (i + 1) = y (j + 1)) : nd_sh q y (i + 1) (j + 1) + 1 ≤ nd_sh q y (i + 1 + 1) (j + 1 + 1) := by
  have k1 : nd_key q (i + 1) = 4 * (q i).toNatClampNeg + (q (i + 1)).toNatClampNeg := rfl
  have k2 : nd_key y (j + 1) = 4 * (y j).toNatClampNeg + (y (j + 1)).toNatClampNeg := rfl
  have l1 := nd_L4_lt hq i
  have l2 := nd_L4_lt hq (i + 1)
  have ek : nd_key y (j + 1) = nd_key q (i + 1) := by rw [k1, k2, h1, h2]
  refine nd_sum_lt (nd_mn_mono q y (by omega) (by omega)) (nd_key q (i + 1)) ?_ 16 (by omega)
  have c1 : nd_cnt q (nd_key q (i + 1)) (i + 1 + 1) = nd_cnt q (nd_key q (i + 1)) (i + 1) + 1 := by
    rw [nd_cnt_s, if_pos ⟨by omega, rfl⟩]
  have c2 : nd_cnt y (nd_key q (i + 1)) (j + 1 + 1) = nd_cnt y (nd_key q (i + 1)) (j + 1) + 1 := by
    rw [nd_cnt_s, if_pos ⟨by omega, ek⟩]
  unfold nd_mn
  omega
/-- each error spoils at most two pairs: over the table, with one more in hand behind an error -/
theorem nd_qg (q y : Nat → Int32) (hq : nd_L4 q) : ∀ j i, i ≤ nd_sh q y i j + 2 * nd_S q y j i ∨ (∃ i' j', i = i' + 1 ∧ j = j' + 1 ∧ q i' = y j' ∧ i ≤ nd_sh q y i j + 1 + 2 * nd_S q y j i) := by
  intro j
  induction j with
  | zero =>
    intro i
    rw [nd_S_0]
    exact Or.inl (by omega)
  | succ j ih =>
    intro i
    induction i with
    | zero => exact Or.inl (by omega)
    | succ i ih2 =>
      have m1 : nd_sh q y (i + 1) j ≤ nd_sh q y (i + 1) (j + 1) := nd_sh_mono q y (by omega) (by omega)
      have m2 : nd_sh q y i (j + 1) ≤ nd_sh q y (i + 1) (j + 1) := nd_sh_mono q y (by omega) (by omega)
      have m3 : nd_sh q y i j ≤ nd_sh q y (i + 1) (j + 1) := nd_sh_mono q y (by omega) (by omega)
      have g1 : i + 1 ≤ nd_sh q y (i + 1) j + 1 + 2 * nd_S q y j (i + 1) := by
        rcases ih (i + 1) with h | ⟨_, _, _, _, _, h⟩ <;> omega
      have g2 : i ≤ nd_sh q y i (j + 1) + 1 + 2 * nd_S q y (j + 1) i := by
        rcases ih2 with h | ⟨_, _, _, _, _, h⟩ <;> omega
      have g3 : i ≤ nd_sh q y i j + 1 + 2 * nd_S q y j i := by
        rcases ih i with h | ⟨_, _, _, _, _, h⟩ <;> omega
      rcases (nd_min3 (nd_S_ss q y j i)).1 with e | e | e
      · exact Or.inl (by omega)
      · by_cases hc : q i = y j
        · rw [nd_c_eq hc] at e
          refine Or.inr ⟨i, j, rfl, rfl, hc, ?_⟩
          rcases ih i with h | ⟨i', j', rfl, rfl, hc', h⟩
          · omega
          · have h5 := nd_sh_s q y hq i' j' hc' hc
            omega
        · rw [nd_c_ne hc] at e
          exact Or.inl (by omega)
      · exact Or.inl (by omega)
theorem nd_qgB (q y : Nat → Int32) (hq : nd_L4 q) (m n : Nat) : m ≤ nd_sh q y m n + 1 + 2 * nd_best q y m n := by
  obtain ⟨j, hj, e⟩ := nd_best_ex q y m n
  have h1 := nd_sh_mono q y (Nat.le_refl m) hj
  rw [e]
  rcases nd_qg q y hq j m with h | ⟨_, _, _, _, _, h⟩ <;> omega
/-! ===== how many are at most k, how many are k, and the digits of their sum ===== -/
def nd_cl (f : Nat → Nat) (k : Nat) : Nat → Nat
  | 0 => 0
  | n + 1 => nd_cl f k n + (if f n ≤ k then 1 else 0)
def nd_ce (f : Nat → Nat) (k : Nat) : Nat → Nat
  | 0 => 0
  | n + 1 => nd_ce f k n + (if f n = k then 1 else 0)
theorem nd_cl_s (f : Nat → Nat) (k n : Nat) : nd_cl f k (n + 1) = nd_cl f k n + (if f n ≤ k then 1 else 0) := rfl
theorem nd_ce_s (f : Nat → Nat) (k n : Nat) : nd_ce f k (n + 1) = nd_ce f k n + (if f n = k then 1 else 0) := rfl
theorem nd_cl_le (f : Nat → Nat) (k : Nat) : ∀ n, nd_cl f k n ≤ n := by
  intro n
  induction n with
  | zero => exact Nat.le_refl 0
  | succ n ih =>
    rw [nd_cl_s]
    split <;> omega
theorem nd_ce_le (f : Nat → Nat) (k : Nat) : ∀ n, nd_ce f k n ≤ n := by
  intro n
  induction n with
  | zero => exact Nat.le_refl 0
  | succ n ih =>
    rw [nd_ce_s]
    split <;> omega
theorem nd_cl_k0 (f : Nat → Nat) : ∀ n, nd_cl f 0 n = nd_ce f 0 n := by
  intro n
  induction n with
  | zero => rfl
  | succ n ih =>
    rw [nd_cl_s, nd_ce_s, ih]
    split <;> split <;> omega
theorem nd_cl_ks (f : Nat → Nat) (k : Nat) : ∀ n, nd_cl f (k + 1) n = nd_cl f k n + nd_ce f (k + 1) n := by
  intro n
  induction n with
  | zero => rfl
  | succ n ih =>
    rw [nd_cl_s, nd_cl_s, nd_ce_s, ih]
    split <;> split <;> split <;> omega
def nd_near (f : Nat → Nat) : Nat → Nat
  | 0 => 0
  | n + 1 => nd_near f n + 2 ^ (4 * f n)
theorem nd_near_s (f : Nat → Nat) (n : Nat) : nd_near f (n + 1) = nd_near f n + 2 ^ (4 * f n) := rfl
theorem nd_near_le (f : Nat → Nat) (h : ∀ e, f e ≤ 8) : ∀ n, nd_near f n ≤ n * 2 ^ 32 := by
  intro n
  induction n with
  | zero =>
    rw [Nat.zero_mul]
    exact Nat.le_refl 0
  | succ n ih =>
    have h1 : 2 ^ (4 * f n) ≤ 2 ^ 32 := Nat.pow_le_pow_right (by decide) (by have := h n; omega)
    rw [nd_near_s, Nat.succ_mul n (2 ^ 32)]
    exact Nat.add_le_add ih h1
theorem nd_parts1 {N l P c h T n : Nat} (e1 : N = l + P * (c + 16 * h)) (e2 : 16 * l ≤ n * P) (p : 16 * T ≤ P) : N + T = (l + T) + P * (c + 0 + 16 * h) ∧ 16 * (l + T) ≤ (n + 1) * P := by
  rw [e1, Nat.succ_mul n P, Nat.add_zero]
  generalize P * (c + 16 * h) = X
  generalize n * P = Y at *
  omega
theorem nd_parts2 {N l P c h n : Nat} (e1 : N = l + P * (c + 16 * h)) (e2 : 16 * l ≤ n * P) : N + P = l + P * (c + 1 + 16 * h) ∧ 16 * l ≤ (n + 1) * P := by
  rw [e1, Nat.succ_mul n P, show c + 1 + 16 * h = c + 16 * h + 1 by omega, Nat.mul_add P _ 1, Nat.mul_one]
  generalize P * (c + 16 * h) = X
  generalize n * P = Y at *
  omega
theorem nd_parts3 {N l P c h n T : Nat} (e1 : N = l + P * (c + 16 * h)) (e2 : 16 * l ≤ n * P) : N + P * (16 * T) = l + P * (c + 0 + 16 * (h + T)) ∧ 16 * l ≤ (n + 1) * P := by
  rw [e1, Nat.succ_mul n P, show c + 0 + 16 * (h + T) = c + 16 * h + 16 * T by omega, Nat.mul_add P _ (16 * T)]
  generalize P * (c + 16 * h) = X
  generalize P * (16 * T) = Z
  generalize n * P = Y at *
  omega
theorem nd_parts (f : Nat → Nat) (k : Nat) : ∀ n, ∃ l h, nd_near f n = l + 2 ^ (4 * k) * (nd_ce f k n + 16 * h) ∧ 16 * l ≤ n * 2 ^ (4 * k) := by
  intro n
  induction n with
  | zero => exact ⟨0, 0, by rw [show nd_ce f k 0 = 0 from rfl, show nd_near f 0 = 0 from rfl]; simp, by simp⟩
  | succ n ih =>
    obtain ⟨l, h, e1, e2⟩ := ih
    rw [nd_near_s, nd_ce_s]
    rcases Nat.lt_trichotomy (f n) k with z | z | z
    · have p : 16 * 2 ^ (4 * f n) ≤ 2 ^ (4 * k) := by
        have p1 : 16 * 2 ^ (4 * f n) = 2 ^ (4 * f n + 4) := by rw [Nat.pow_add, Nat.mul_comm]
        rw [p1]
        exact Nat.pow_le_pow_right (by decide) (by omega)
      rw [if_neg (by omega)]
      exact ⟨l + 2 ^ (4 * f n), h, nd_parts1 e1 e2 p⟩
    · rw [if_pos z, z]
      exact ⟨l, h, nd_parts2 e1 e2⟩
    · have p : 2 ^ (4 * f n) = 2 ^ (4 * k) * (16 * 2 ^ (4 * (f n - k - 1))) := by
        rw [show (16 : Nat) = 2 ^ 4 from rfl, ← Nat.pow_add, ← Nat.pow_add]
        congr 1
        omega
      rw [if_neg (by omega), p]
      exact ⟨l, h + 2 ^ (4 * (f n - k - 1)), nd_parts3 e1 e2⟩
theorem nd_digit (f : Nat → Nat) (k n : Nat) (hn : n < 16) : nd_near f n / 2 ^ (4 * k) % 16 = nd_ce f k n := by
  obtain ⟨l, h, e1, e2⟩ := nd_parts f k n
  have hp : 0 < 2 ^ (4 * k) := Nat.two_pow_pos _
  have h1 : n * 2 ^ (4 * k) ≤ 15 * 2 ^ (4 * k) := Nat.mul_le_mul_right _ (by omega)
  have h2 := nd_ce_le f k n
  rw [e1]
  generalize 2 ^ (4 * k) = P at *
  rw [Nat.add_mul_div_left _ _ hp, Nat.div_eq_of_lt (by omega)]
  omega
end
section
/-! ===== an int by its bits (the rows of laws/BITS.to-paste, under other names) ===== -/
def nd_bt (x : Int32) (i : Nat) : Bool := x.toBitVec.getLsbD i
theorem nd_b_or (x y : Int32) (i : Nat) : nd_bt (x ||| y) i = (nd_bt x i || nd_bt y i) := by
  unfold nd_bt
  rw [Int32.toBitVec_or, BitVec.getLsbD_or]
theorem nd_b_and (x y : Int32) (i : Nat) : nd_bt (x &&& y) i = (nd_bt x i && nd_bt y i) := by
  unfold nd_bt
  rw [Int32.toBitVec_and, BitVec.getLsbD_and]
theorem nd_b_xor (x y : Int32) (i : Nat) : nd_bt (x ^^^ y) i = (nd_bt x i ^^ nd_bt y i) := by
  unfold nd_bt
  rw [Int32.toBitVec_xor, BitVec.getLsbD_xor]
theorem nd_b_add (x y : Int32) {i : Nat} (hi : i < 32) : nd_bt (x + y) i = (nd_bt x i ^^ (nd_bt y i ^^ BitVec.carry i x.toBitVec y.toBitVec false)) := by
  unfold nd_bt
  rw [Int32.toBitVec_add, BitVec.getLsbD_add hi]
theorem nd_b_m1 : ∀ i, i < 32 → nd_bt (-1) i = true := by decide +kernel
theorem nd_b_0 (i : Nat) : nd_bt 0 i = false := BitVec.getLsbD_zero
theorem nd_b_not (x : Int32) {i : Nat} (hi : i < 32) : nd_bt (x ^^^ (-1)) i = !nd_bt x i := by
  rw [nd_b_xor, nd_b_m1 i hi]
  cases nd_bt x i <;> rfl
theorem nd_s_l : ∀ n, n < 32 → ((nI n &&& 31).toBitVec.smod 32).toNat = n := by decide +kernel
theorem nd_b_shl (n : Nat) (hn : n < 32) (x : Int32) {i : Nat} (hi : i < 32) : nd_bt (x <<< (nI n &&& 31)) i = (decide (n ≤ i) && nd_bt x (i - n)) := by
  unfold nd_bt
  rw [Int32.toBitVec_shiftLeft]
  show (x.toBitVec <<< ((nI n &&& 31).toBitVec.smod 32).toNat).getLsbD i = _
  rw [nd_s_l n hn, BitVec.getLsbD_shiftLeft]
  rcases Nat.lt_or_ge i n with h | h
  · simp [h, Nat.not_le.mpr h]
  · simp [hi, h, Nat.not_lt.mpr h]
theorem nd_one : ∀ l, l < 32 → ((1 : Int32) <<< (nI l &&& 31)).toBitVec = BitVec.twoPow 32 l := by decide +kernel
theorem nd_tp : ∀ l, l < 32 → BitVec.twoPow 32 l ≠ 0#32 := by decide +kernel
theorem nd_top (x : Int32) {l : Nat} (hl : l < 32) : (x &&& ((1 : Int32) <<< (nI l &&& 31))) = 0 ↔ nd_bt x l = false := by
  rw [← Int32.toBitVec_inj, Int32.toBitVec_and, nd_one l hl, BitVec.and_twoPow]
  show (if x.toBitVec.getLsbD l = true then BitVec.twoPow 32 l else 0#32) = 0#32 ↔ x.toBitVec.getLsbD l = false
  cases hb : x.toBitVec.getLsbD l
  · exact ⟨fun _ => rfl, fun _ => if_neg (by decide)⟩
  · exact ⟨fun z => absurd ((if_pos rfl).symm.trans z) (nd_tp l hl), fun z => absurd z (by decide)⟩
theorem nd_b_one {l : Nat} (hl : l < 32) (i : Nat) : nd_bt ((1 : Int32) <<< (nI l &&& 31)) i = true ↔ l = i := by
  unfold nd_bt
  rw [nd_one l hl, BitVec.getLsbD_twoPow]
  simp [hl]
theorem nd_full : ∀ m, m < 9 → ∀ i, i < m → nd_bt (((1 : Int32) <<< (nI m &&& 31)) - 1) i = true := by decide +kernel
theorem nd_nt (b : Bool) : (!b) = true ↔ ¬ b = true := by cases b <;> decide
/-! ===== one step of the two words ===== -/
theorem nd_zero (E u : Int32) {i : Nat} (hi : i < 32) : nd_bt ((((E &&& u) + u) ^^^ u) ||| E) i = (nd_bt E i || BitVec.carry i (E &&& u).toBitVec u.toBitVec false) := by
  rw [nd_b_or, nd_b_xor, nd_b_add _ _ hi, nd_b_and]
  generalize BitVec.carry i (E &&& u).toBitVec u.toBitVec false = c
  cases nd_bt E i <;> cases nd_bt u i <;> cases c <;> rfl
theorem nd_carry1 (E u : Int32) (i : Nat) : BitVec.carry (i + 1) (E &&& u).toBitVec u.toBitVec false = (nd_bt u i && (nd_bt E i || BitVec.carry i (E &&& u).toBitVec u.toBitVec false)) := by
  have e1 : (E &&& u).toBitVec.getLsbD i = (nd_bt E i && nd_bt u i) := nd_b_and E u i
  have e2 : u.toBitVec.getLsbD i = nd_bt u i := rfl
  rw [BitVec.carry_succ, e1, e2]
  generalize BitVec.carry i (E &&& u).toBitVec u.toBitVec false = c
  cases nd_bt E i <;> cases nd_bt u i <;> cases c <;> rfl
def nd_Up (m : Nat) (q y : Nat → Int32) (j : Nat) (u : Int32) : Prop := ∀ i, i < m → (nd_bt u i = true ↔ nd_S q y j (i + 1) = nd_S q y j i + 1)
def nd_Dn (m : Nat) (q y : Nat → Int32) (j : Nat) (v : Int32) : Prop := ∀ i, i < m → (nd_bt v i = true ↔ nd_S q y j (i + 1) + 1 = nd_S q y j i)
def nd_Eq (m : Nat) (q y : Nat → Int32) (j : Nat) (e : Int32) : Prop := ∀ i, i < m → (nd_bt e i = true ↔ nd_c (q i) (y j) = 0)
theorem nd_c4 (q y : Nat → Int32) (j i : Nat) :
    (nd_S q y (j + 1) (i + 1) = nd_S q y j (i + 1) + 1 ↔ (nd_S q y j (i + 1) + 1 = nd_S q y j i ∨ ¬ ((nd_c (q i) (y j) = 0 ∨ nd_S q y (j + 1) i + 1 = nd_S q y j i) ∨ nd_S q y j (i + 1) = nd_S q y j i + 1)))
    ∧ (nd_S q y (j + 1) (i + 1) + 1 = nd_S q y j (i + 1) ↔ (nd_S q y j (i + 1) = nd_S q y j i + 1 ∧ (nd_c (q i) (y j) = 0 ∨ nd_S q y (j + 1) i + 1 = nd_S q y j i)))
    ∧ (nd_S q y (j + 1) (i + 1) = nd_S q y (j + 1) i + 1 ↔ (nd_S q y (j + 1) i + 1 = nd_S q y j i ∨ ¬ ((nd_c (q i) (y j) = 0 ∨ nd_S q y j (i + 1) + 1 = nd_S q y j i) ∨ nd_S q y (j + 1) i = nd_S q y j i + 1)))
    ∧ (nd_S q y (j + 1) (i + 1) + 1 = nd_S q y (j + 1) i ↔ (nd_S q y (j + 1) i = nd_S q y j i + 1 ∧ (nd_c (q i) (y j) = 0 ∨ nd_S q y j (i + 1) + 1 = nd_S q y j i))) :=
  nd_cell4 (nd_S_ss q y j i) (nd_c_le _ _) ((nd_lipV q y j).1 i).1 ((nd_lipV q y j).1 i).2 ((nd_lipV q y j).2 i).1 ((nd_lipV q y j).2 i).2
theorem nd_carry {m : Nat} {q y : Nat → Int32} {j : Nat} {E u : Int32} (hE : nd_Eq m q y j E) (hu : nd_Up m q y j u) : ∀ i, i ≤ m → (BitVec.carry i (E &&& u).toBitVec u.toBitVec false = true ↔ nd_S q y (j + 1) i + 1 = nd_S q y j i) := by
  intro i
  induction i with
  | zero =>
    intro _
    rw [BitVec.carry_zero, nd_S_j0, nd_S_j0]
    exact ⟨fun z => absurd z (by decide), fun z => absurd z (by decide)⟩
  | succ i ih =>
    intro hi
    rw [nd_carry1, Bool.and_eq_true, Bool.or_eq_true, hu i (by omega), hE i (by omega), ih (by omega)]
    exact (nd_c4 q y j i).2.1.symm
theorem nd_zeroI {m : Nat} (hm : m ≤ 31) {q y : Nat → Int32} {j : Nat} {E u : Int32} (hE : nd_Eq m q y j E) (hu : nd_Up m q y j u) (i : Nat) (hi : i < m) : nd_bt ((((E &&& u) + u) ^^^ u) ||| E) i = true ↔ (nd_c (q i) (y j) = 0 ∨ nd_S q y (j + 1) i + 1 = nd_S q y j i) := by
  rw [nd_zero E u (by omega), Bool.or_eq_true, hE i hi, nd_carry hE hu i (by omega)]
theorem nd_rise {m : Nat} (hm : m ≤ 31) {q y : Nat → Int32} {j : Nat} {E u v fu : Int32} (hE : nd_Eq m q y j E) (hu : nd_Up m q y j u) (hv : nd_Dn m q y j v) (hf : ∀ i, i < m → nd_bt fu i = true) (i : Nat) (hi : i < m) : nd_bt ((v ||| ((((((E &&& u) + u) ^^^ u) ||| E) ||| u) ^^^ (-1))) &&& fu) i = true ↔ nd_S q y (j + 1) (i + 1) = nd_S q y j (i + 1) + 1 := by
  rw [nd_b_and, hf i hi, Bool.and_true, nd_b_or, nd_b_not _ (by omega), nd_b_or _ u, Bool.or_eq_true, nd_nt, Bool.or_eq_true, nd_zeroI hm hE hu i hi, hv i hi, hu i hi]
  exact (nd_c4 q y j i).1.symm
theorem nd_fall {m : Nat} (hm : m ≤ 31) {q y : Nat → Int32} {j : Nat} {E u : Int32} (hE : nd_Eq m q y j E) (hu : nd_Up m q y j u) (i : Nat) (hi : i < m) : nd_bt (u &&& ((((E &&& u) + u) ^^^ u) ||| E)) i = true ↔ nd_S q y (j + 1) (i + 1) + 1 = nd_S q y j (i + 1) := by
  rw [nd_b_and, Bool.and_eq_true, nd_zeroI hm hE hu i hi, hu i hi]
  exact (nd_c4 q y j i).2.1.symm
theorem nd_shl1 {m : Nat} (hm : m ≤ 31) {x : Int32} {P : Nat → Prop} (h0 : ¬ P 0) (h : ∀ i, i < m → (nd_bt x i = true ↔ P (i + 1))) (i : Nat) (hi : i < m) : nd_bt (x <<< ((1 : Int32) &&& 31)) i = true ↔ P i := by
  have e : nd_bt (x <<< ((1 : Int32) &&& 31)) i = (decide (1 ≤ i) && nd_bt x (i - 1)) := nd_b_shl 1 (by omega) x (by omega)
  rw [e]
  cases i with
  | zero =>
    rw [show decide (1 ≤ 0) = false from rfl, Bool.false_and]
    exact ⟨fun z => absurd z (by decide), fun z => absurd z h0⟩
  | succ i =>
    rw [decide_eq_true (show 1 ≤ i + 1 by omega), Bool.true_and]
    exact h i (by omega)
theorem nd_up' {m : Nat} (hm : m ≤ 31) {q y : Nat → Int32} {j : Nat} {E v r f fu : Int32} (hE : nd_Eq m q y j E) (hv : nd_Dn m q y j v) (hf : ∀ i, i < m → nd_bt fu i = true)
    (hr : ∀ i, i < m → (nd_bt r i = true ↔ nd_S q y (j + 1) (i + 1) = nd_S q y j (i + 1) + 1)) (hl : ∀ i, i < m → (nd_bt f i = true ↔ nd_S q y (j + 1) (i + 1) + 1 = nd_S q y j (i + 1))) :
    nd_Up m q y (j + 1) (((f <<< ((1 : Int32) &&& 31)) ||| (((E ||| v) ||| (r <<< ((1 : Int32) &&& 31))) ^^^ (-1))) &&& fu) := by
  intro i hi
  have r1 := nd_shl1 (P := fun i => nd_S q y (j + 1) i = nd_S q y j i + 1) hm (by rw [nd_S_j0, nd_S_j0]; omega) hr i hi
  have f1 := nd_shl1 (P := fun i => nd_S q y (j + 1) i + 1 = nd_S q y j i) hm (by rw [nd_S_j0, nd_S_j0]; omega) hl i hi
  rw [nd_b_and, hf i hi, Bool.and_true, nd_b_or, nd_b_not _ (by omega), nd_b_or (E ||| v), nd_b_or E v, Bool.or_eq_true, nd_nt, Bool.or_eq_true, Bool.or_eq_true, r1, f1, hE i hi, hv i hi]
  exact (nd_c4 q y j i).2.2.1.symm
theorem nd_dn' {m : Nat} (hm : m ≤ 31) {q y : Nat → Int32} {j : Nat} {E v r fu : Int32} (hE : nd_Eq m q y j E) (hv : nd_Dn m q y j v) (hf : ∀ i, i < m → nd_bt fu i = true)
    (hr : ∀ i, i < m → (nd_bt r i = true ↔ nd_S q y (j + 1) (i + 1) = nd_S q y j (i + 1) + 1)) :
    nd_Dn m q y (j + 1) (((r <<< ((1 : Int32) &&& 31)) &&& (E ||| v)) &&& fu) := by
  intro i hi
  have r1 := nd_shl1 (P := fun i => nd_S q y (j + 1) i = nd_S q y j i + 1) hm (by rw [nd_S_j0, nd_S_j0]; omega) hr i hi
  rw [nd_b_and, hf i hi, Bool.and_true, nd_b_and, nd_b_or E v, Bool.and_eq_true, Bool.or_eq_true, r1, hE i hi, hv i hi]
  exact (nd_c4 q y j i).2.2.2.symm
end
section
/-! ===== the picture ===== -/
def nd_dl (a2 : Nat → Int32) (d : Nat) : Nat → Int32 := fun i => a2 (16 * d + i)
def nd_K (m : Nat) (ln : Nat → Nat) (a1 a2 a3 a4 a5 : Nat → Int32) : Prop :=
  m ≤ 8 ∧ nd_L4 a4 ∧ nd_L4 a2 ∧ (∀ d, d < 8 → ln d ≤ 16 ∧ a1 d = nI (ln d)) ∧ (∀ d, d < 8 → ∀ k, k < 16 → a3 (16 * d + k) = nI (nd_cnt (nd_dl a2 d) k (ln d))) ∧ (∀ k, k < 16 → a5 k = nI (nd_cnt a4 k m))
def nd_ds (m : Nat) (ln : Nat → Nat) (a2 a4 : Nat → Int32) (d : Nat) : Nat := nd_best a4 (nd_dl a2 d) m (ln d)
theorem nd_ds_le (m : Nat) (ln : Nat → Nat) (a2 a4 : Nat → Int32) (d : Nat) : nd_ds m ln a2 a4 d ≤ m := nd_best_le _ _ _ _
theorem nd_16 (d i : Nat) : (16 : Int32) * nI d + nI i = nI (16 * d + i) := by
  rw [show (16 : Int32) = nI 16 from rfl, pk_mul, nI_add]
theorem nd_16c {d i : Nat} (h : 16 * d + i < 2 ^ 31) : ((16 : Int32) * nI d + nI i).toNatClampNeg = 16 * d + i := by
  rw [nd_16, nI_clamp h]
/-! ===== search ===== -/
theorem nd_s206 {post : St1 → Prop} {J : Int32 → Int32 → Int32 → Int32 → Int32 → Int32 → Prop} {x1 fu tp x9 x11 x12 z0 z1 ql be xl yl : Int32} {a1 a2 a3 a4 a5 a6 a7 a8 a9 a10 : Nat → Int32} {j s b b' : Nat} (hz : z1 + z0 = nI s) (hs : s < 2 ^ 30) (hb : b < 2 ^ 30) (hb' : b' = min b s)
    (H : ∀ be', J (((x12 <<< ((1 : Int32) &&& 31)) ||| ((x9 ||| (x11 <<< ((1 : Int32) &&& 31))) ^^^ (-1))) &&& fu) (((x11 <<< ((1 : Int32) &&& 31)) &&& x9) &&& fu) (nI s) (nI (j + 1)) (nI b') be') :
    wX_search_206 post J x1 fu tp (nI j) x9 x11 x12 z0 z1 ql (nI b) be xl yl a1 a2 a3 a4 a5 a6 a7 a8 a9 a10 := by
  refine nm_r hz (nm_e (nm_e (nm_e (nm_e (pk_le b s (fun z => nm_r (nI_1 j) ?_) (fun z => nm_r (nI_1 j) (nm_r (nI_1 j) ?_)))))))
  · rw [show b' = b by omega] at H
    exact H _
  · rw [show b' = s by omega] at H
    exact H _
theorem nd_s107 {post : St1 → Prop} {m n d : Nat} {xl yl fu tp : Int32} {a1 a2 a3 a4 a5 a6 a7 a8 a9 a10 : Nat → Int32} (hm : m + 1 ≤ 8) (hd : d < 8) (hn : n ≤ 16) (h1 : a1 d = nI n) (h2 : nd_L4 a2) (h4 : nd_L4 a4)
    (h6 : ∀ l, l < 4 → ∀ i, i < m + 1 → (nd_bt (a6 l) i = true ↔ (a4 i).toNatClampNeg = l)) (hf : ∀ i, i < m + 1 → nd_bt fu i = true) (ht : tp = (1 : Int32) <<< (nI m &&& 31))
    (H : ∀ be, post (nI (m + 1), nI (nd_best a4 (nd_dl a2 d) (m + 1) n), be, xl, yl, a1, a2, a3, a4, a5, a6, a7, a8, a9, a10)) :
    ∃ f, wX_search_107 post (nI d) fu tp (nI (m + 1)) xl yl a1 a2 a3 a4 a5 a6 a7 a8 a9 a10 f fu 0 (nI (m + 1)) 0 (nI (m + 1)) 0 := by
  refine pk_loop (fun f j (s : Int32 × Int32 × Int32) => wX_search_107 post (nI d) fu tp (nI (m + 1)) xl yl a1 a2 a3 a4 a5 a6 a7 a8 a9 a10 f s.1 s.2.1 (nI (nd_S a4 (nd_dl a2 d) j (m + 1))) (nI j) (nI (nd_best a4 (nd_dl a2 d) (m + 1) j)) s.2.2)
    (fun j s => nd_Up (m + 1) a4 (nd_dl a2 d) j s.1 ∧ nd_Dn (m + 1) a4 (nd_dl a2 d) j s.2.1) n 0 (fu, 0, 0) (by omega) ?_ ?_ ?_
  · refine ⟨fun i hi => ?_, fun i hi => ?_⟩
    · rw [nd_S_0, nd_S_0]
      exact ⟨fun _ => rfl, fun _ => hf i hi⟩
    · rw [nd_S_0, nd_S_0]
      dsimp only
      rw [nd_b_0]
      exact ⟨fun z => absurd z (by decide), fun z => absurd z (by omega)⟩
  · intro f s _
    exact And.intro (pk_in d 8 hd) (pk_le n n (fun _ => H _) (fun z => absurd z (by omega)) (by rw [nI_clamp (by omega)]; exact h1))
  · intro f j s hj I hw
    obtain ⟨u, v, be⟩ := s
    obtain ⟨hu, hv⟩ := I
    dsimp only at hu hv hw ⊢
    obtain ⟨l, hl, el⟩ := h2 (16 * d + j)
    have ec : ((16 : Int32) * nI d + nI j).toNatClampNeg = 16 * d + j := nd_16c (by omega)
    have el' : a2 ((16 : Int32) * nI d + nI j).toNatClampNeg = nI l := by rw [ec, el]
    have e6 : a6 (a2 ((16 : Int32) * nI d + nI j).toNatClampNeg).toNatClampNeg = a6 l := by rw [el', nI_clamp (by omega)]
    have hE : nd_Eq (m + 1) a4 (nd_dl a2 d) j (a6 l) := by
      intro i hi
      rw [h6 l hl i hi, nd_c_iff]
      have ey : nd_dl a2 d j = nI l := el
      obtain ⟨l', hl', el2⟩ := h4 i
      rw [ey, el2, nI_clamp (by omega), nI_eq (by omega) (by omega)]
    have R := nd_rise (show m + 1 ≤ 31 by omega) hE hu hv hf
    have F := nd_fall (show m + 1 ≤ 31 by omega) hE hu
    have U' := nd_up' (show m + 1 ≤ 31 by omega) hE hv hf R F
    have D' := nd_dn' (show m + 1 ≤ 31 by omega) hE hv hf R
    have R1 := R m (by omega)
    have F1 := F m (by omega)
    have lip := (nd_lipV a4 (nd_dl a2 d) j).2 (m + 1)
    have b1 := nd_S_le a4 (nd_dl a2 d) j (m + 1)
    have b2 := nd_S_le a4 (nd_dl a2 d) (j + 1) (m + 1)
    have b3 := nd_best_le a4 (nd_dl a2 d) (m + 1) j
    have W' : ∀ be', wX_search_107 post (nI d) fu tp (nI (m + 1)) xl yl a1 a2 a3 a4 a5 a6 a7 a8 a9 a10 f _ _ (nI (nd_S a4 (nd_dl a2 d) (j + 1) (m + 1))) (nI (j + 1)) (nI (nd_best a4 (nd_dl a2 d) (m + 1) (j + 1))) be' := fun be' => hw (_, _, be') ⟨U', D'⟩
    refine And.intro (pk_in d 8 hd) (pk_le n j (fun z => absurd z (by omega)) (fun _ => ⟨pk_in (16 * d + j) 128 (by omega) (nd_16 d j), pk_in l 4 hl el', nm_r e6 (nm_e (nm_e (nm_e (nm_e (br_c (fun g => br_c (fun g2 => ?_) (fun g2 => ?_)) (fun g => ?_))))))⟩) (by rw [nI_clamp (by omega)]; exact h1))
    · rw [ht, nd_top _ (by omega)] at g g2
      rw [g] at R1
      rw [g2] at F1
      have t1 : ¬ nd_S a4 (nd_dl a2 d) (j + 1) (m + 1) = nd_S a4 (nd_dl a2 d) j (m + 1) + 1 := fun z => absurd (R1.mpr z) (by decide)
      have t2 : ¬ nd_S a4 (nd_dl a2 d) (j + 1) (m + 1) + 1 = nd_S a4 (nd_dl a2 d) j (m + 1) := fun z => absurd (F1.mpr z) (by decide)
      exact nd_s206 (by rw [show nd_S a4 (nd_dl a2 d) j (m + 1) = nd_S a4 (nd_dl a2 d) (j + 1) (m + 1) by omega]; exact nI_add _ 0) (by omega) (by omega) (nd_best_s _ _ _ _) W'
    · rw [ht, nd_top _ (by omega)] at g g2
      have t2 := F1.mp (eq_true_of_ne_false g2)
      exact nd_s206 (by rw [← t2]; exact pk_m1 _) (by omega) (by omega) (nd_best_s _ _ _ _) W'
    · rw [ht, nd_top _ (by omega)] at g
      have t1 := R1.mp (eq_true_of_ne_false g)
      exact nd_s206 (by rw [t1]; exact nI_1 _) (by omega) (by omega) (nd_best_s _ _ _ _) W'
theorem nd_s22 {post : St1 → Prop} {m n d : Nat} {bd be xl yl : Int32} {a1 a2 a3 a4 a5 a6 a7 a8 a9 a10 : Nat → Int32} (hm : m ≤ 8) (hd : d < 8) (hn : n ≤ 16) (h1 : a1 d = nI n) (h2 : nd_L4 a2) (h4 : nd_L4 a4)
    (h6 : ∀ l, l < 4 → a6 l = 0) (H : ∀ be' a6', post (nI m, nI (nd_best a4 (nd_dl a2 d) m n), be', xl, yl, a1, a2, a3, a4, a5, a6', a7, a8, a9, a10)) :
    ∃ f, wX_search_22 post (nI d) (nI m) bd be xl yl f 0 a1 a2 a3 a4 a5 a6 a7 a8 a9 a10 := by
  refine pk_loop (fun f i s => wX_search_22 post (nI d) (nI m) bd be xl yl f (nI i) a1 a2 a3 a4 a5 s a7 a8 a9 a10)
    (fun i s => ∀ l, l < 4 → ∀ t, t < m → (nd_bt (s l) t = true ↔ (t < i ∧ (a4 t).toNatClampNeg = l))) m 0 a6 (by omega) ?_ ?_ ?_
  · intro l hl t ht
    rw [h6 l hl, nd_b_0]
    exact ⟨fun z => absurd z (by decide), fun z => absurd z.1 (by omega)⟩
  · intro f s I
    refine pk_le m m (fun _ => ?_) (fun z => absurd z (by omega))
    cases m with
    | zero =>
      refine br_t rfl ?_
      have t := H 0 s
      rw [show nd_best a4 (nd_dl a2 d) 0 n = 0 by have := nd_best_le a4 (nd_dl a2 d) 0 n; omega] at t
      exact t
    | succ m =>
      refine br_f (nI_ne0 (by omega) (by omega)) (nm_e (nm_e ?_))
      refine nd_s107 hm hd hn h1 h2 h4 (fun l hl i hi => ?_) (nd_full (m + 1) (by omega)) (by rw [nI_pred]) (fun be' => H be' s)
      rw [I l hl i hi]
      exact ⟨fun z => z.2, fun z => ⟨hi, z⟩⟩
  · intro f i s hi I hw
    obtain ⟨l0, hl0, el⟩ := h4 i
    have e4 : a4 (nI i).toNatClampNeg = nI l0 := by rw [nI_clamp (by omega), el]
    have e4' : (a4 (nI i).toNatClampNeg).toNatClampNeg = l0 := by rw [e4, nI_clamp (by omega)]
    refine pk_le m i (fun z => absurd z (by omega)) (fun _ => ⟨pk_in i 8 (by omega), pk_in l0 4 hl0 e4, pk_in l0 4 hl0 e4, nm_r (by rw [e4']) (nm_r (nI_1 i) (hw _ ?_))⟩)
    intro l hl t ht
    by_cases e : l = l0
    · subst e
      rw [pk_us, nd_b_or, Bool.or_eq_true, I l hl t ht, nd_b_one (by omega)]
      constructor
      · rintro (⟨z1, z2⟩ | z)
        · exact ⟨by omega, z2⟩
        · subst z
          exact ⟨by omega, by rw [el, nI_clamp (by omega)]⟩
      · rintro ⟨z1, z2⟩
        by_cases z : t = i
        · exact Or.inr z.symm
        · exact Or.inl ⟨by omega, z2⟩
    · rw [pk_un e, I l hl t ht]
      constructor
      · rintro ⟨z1, z2⟩
        exact ⟨by omega, z2⟩
      · rintro ⟨z1, z2⟩
        by_cases z : t = i
        · subst z
          rw [el, nI_clamp (by omega)] at z2
          exact absurd z2.symm e
        · exact ⟨by omega, z2⟩
theorem nd_s2 {post : St1 → Prop} {m n d : Nat} {bd be xl yl : Int32} {a1 a2 a3 a4 a5 a6 a7 a8 a9 a10 : Nat → Int32} (hm : m ≤ 8) (hd : d < 8) (hn : n ≤ 16) (h1 : a1 d = nI n) (h2 : nd_L4 a2) (h4 : nd_L4 a4)
    (H : ∀ be' a6', post (nI m, nI (nd_best a4 (nd_dl a2 d) m n), be', xl, yl, a1, a2, a3, a4, a5, a6', a7, a8, a9, a10)) :
    ∃ f, wX_search_2 post (nI d) (nI m) bd be xl yl f 0 a1 a2 a3 a4 a5 a6 a7 a8 a9 a10 := by
  refine pk_loop (fun f i s => wX_search_2 post (nI d) (nI m) bd be xl yl f (nI i) a1 a2 a3 a4 a5 s a7 a8 a9 a10) (fun i s => ∀ l, l < i → s l = 0) 4 0 a6 (by omega) (fun l hl => absurd hl (by omega)) ?_ ?_
  · intro f s I
    exact pk_le 4 4 (fun _ => nd_s22 hm hd hn h1 h2 h4 I H) (fun z => absurd z (by omega))
  · intro f i s hi I hw
    refine pk_le 4 i (fun z => absurd z (by omega)) (fun _ => ⟨pk_in i 4 hi, nm_r (by rw [nI_clamp (by omega)]) (nm_r (nI_1 i) (hw _ ?_))⟩)
    intro l hl
    by_cases e : l = i
    · rw [e, pk_us]
    · rw [pk_un e]
      exact I l (by omega)
theorem nd_search {post : St1 → Prop} {m d : Nat} {ln : Nat → Nat} {bd be xl yl : Int32} {a1 a2 a3 a4 a5 a6 a7 a8 a9 a10 : Nat → Int32} (k : nd_K m ln a1 a2 a3 a4 a5) (hd : d < 8)
    (H : ∀ be' a6', post (nI m, nI (nd_ds m ln a2 a4 d), be', xl, yl, a1, a2, a3, a4, a5, a6', a7, a8, a9, a10)) :
    wpX_search post (nI m, bd, be, xl, yl, a1, a2, a3, a4, a5, a6, a7, a8, a9, a10) (nI d) :=
  nd_s2 k.1 hd (k.2.2.2.1 d hd).1 (k.2.2.2.1 d hd).2 k.2.2.1 k.2.1 H
end
section
/-! ===== sharedPairs, mayBeWithin ===== -/
theorem nd_ltI {s m e : Nat} (hs : s < 2 ^ 20) (hm : m < 2 ^ 20) (he : e < 2 ^ 20) : (nI s < (nI m - 1) - (2 * nI e)) ↔ s + 1 + 2 * e < m := by
  have e1 : (nI m - 1) - (2 * nI e) = nI m - nI (2 * e + 1) := by
    rw [← nI_1, ← pk_mul]
    show (nI m - 1) - (2 * nI e) = nI m - (2 * nI e + 1)
    generalize nI m = a
    generalize nI e = b
    grind
  rw [e1, Int32.lt_iff_toInt_lt, nI_toInt (by omega), pk_sub_toInt (by omega) (by omega)]
  omega
theorem nd_leI {s m e : Nat} (hs : s < 2 ^ 20) (hm : m < 2 ^ 20) (he : e < 2 ^ 20) : ((nI m - 1) - (2 * nI e) ≤ nI s) ↔ m ≤ s + 1 + 2 * e := by
  have e1 : (nI m - 1) - (2 * nI e) = nI m - nI (2 * e + 1) := by
    rw [← nI_1, ← pk_mul]
    show (nI m - 1) - (2 * nI e) = nI m - (2 * nI e + 1)
    generalize nI m = a
    generalize nI e = b
    grind
  rw [e1, Int32.le_iff_toInt_le, nI_toInt (by omega), pk_sub_toInt (by omega) (by omega)]
  omega
theorem nd_shared {post : Int32 → Prop} {m d : Nat} {ln : Nat → Nat} {bd be xl yl : Int32} {a1 a2 a3 a4 a5 a6 a7 a8 a9 a10 : Nat → Int32} (k : nd_K m ln a1 a2 a3 a4 a5) (hd : d < 8)
    (H : post (nI (nd_sh a4 (nd_dl a2 d) m (ln d)))) :
    wpX_sharedPairs post (nI m, bd, be, xl, yl, a1, a2, a3, a4, a5, a6, a7, a8, a9, a10) (nI d) := by
  obtain ⟨hm, h4, h2, h1, h3, h5⟩ := k
  refine pk_loop (σ := Unit) (fun f i _ => wX_sharedPairs_4 post (nI d) (nI m) bd be xl yl a1 a2 a3 a4 a5 a6 a7 a8 a9 a10 f (nI (nd_sum (nd_mn a4 (nd_dl a2 d) m (ln d)) i)) (nI i)) (fun _ _ => True) 16 0 () (by omega) trivial ?_ ?_
  · intro f s _
    exact pk_le 16 16 (fun _ => H) (fun z => absurd z (by omega))
  · intro f i s hi _ hw
    have e3 : a3 ((16 : Int32) * nI d + nI i).toNatClampNeg = nI (nd_cnt (nd_dl a2 d) i (ln d)) := by rw [nd_16c (by omega)]; exact h3 d hd i hi
    have e5 : a5 (nI i).toNatClampNeg = nI (nd_cnt a4 i m) := by rw [nI_clamp (by omega)]; exact h5 i hi
    have c1 := nd_cnt_le (nd_dl a2 d) i (ln d)
    have c2 := nd_cnt_le a4 i m
    have c3 := (h1 d hd).1
    have em : nd_mn a4 (nd_dl a2 d) m (ln d) i = min (nd_cnt (nd_dl a2 d) i (ln d)) (nd_cnt a4 i m) := rfl
    refine pk_le 16 i (fun z => absurd z (by omega)) (fun _ => ⟨pk_in (16 * d + i) 128 (by omega) (nd_16 d i), nm_r e3 ⟨pk_in i 16 hi, pk_le (nd_cnt a4 i m) (nd_cnt (nd_dl a2 d) i (ln d)) (fun z => ⟨pk_in i 16 hi, nm_r ?_ (nm_r (nI_1 i) (hw () trivial))⟩) (fun z => nm_r ?_ (nm_r (nI_1 i) (hw () trivial))) e5⟩⟩)
    · rw [e5, nI_add, nd_sum_s, em, Nat.min_eq_right z]
    · rw [nI_add, nd_sum_s, em, Nat.min_eq_left (Nat.le_of_lt z)]
theorem nd_may {post : Int32 → Prop} {m d : Nat} {ln : Nat → Nat} {bd be xl yl p : Int32} {a1 a2 a3 a4 a5 a6 a7 a8 a9 a10 : Nat → Int32} (k : nd_K m ln a1 a2 a3 a4 a5) (hd : d < 8) (e : Nat) (he : e ≤ 100) (hp : p = nI e)
    (H0 : e < nd_ds m ln a2 a4 d → post 0) (H1 : post 1) :
    wpX_mayBeWithin post (nI m, bd, be, xl, yl, a1, a2, a3, a4, a5, a6, a7, a8, a9, a10) (nI d) p := by
  subst hp
  have hm := k.1
  have q := nd_qgB a4 (nd_dl a2 d) k.2.1 m (ln d)
  have s : nd_sh a4 (nd_dl a2 d) m (ln d) ≤ 16 * m := nd_sh_le a4 (nd_dl a2 d) m (ln d) 16
  refine br_t (nI_pos' (by omega)) (pk_lt e m (fun z => nd_shared k hd ?_) (fun z => H1))
  refine ek_if (nd_ltI (by omega) (by omega) (by omega)) (fun z => H0 ?_) (fun z => H1)
  show e < nd_best a4 (nd_dl a2 d) m (ln d)
  omega
theorem nd_mayN {post : Int32 → Prop} {p0 p ql bd be xl yl : Int32} {a1 a2 a3 a4 a5 a6 a7 a8 a9 a10 : Nat → Int32} (hp : ¬ 0 ≤ p) (H0 : post 0) :
    wpX_mayBeWithin post (ql, bd, be, xl, yl, a1, a2, a3, a4, a5, a6, a7, a8, a9, a10) p0 p := br_f hp H0
/-! ===== nearest ===== -/
theorem nd_n14 {post : Int32 → St1 → Prop} {m : Nat} {ln : Nat → Nat} {bd be xl yl : Int32} {a1 a2 a3 a4 a5 a6 a7 a8 a9 a10 : Nat → Int32} (k : nd_K m ln a1 a2 a3 a4 a5)
    (H : ∀ b bd' be' a6', b < 8 → (∀ e, e < 8 → nd_ds m ln a2 a4 b ≤ nd_ds m ln a2 a4 e) → post (nI b) (nI m, bd', be', xl, yl, a1, a2, a3, a4, a5, a6', a7, a8, a9, a10)) :
    ∃ f, wX_nearest_14 post f 0 (nI (nd_ds m ln a2 a4 0)) 1 (nI m) bd be xl yl a1 a2 a3 a4 a5 a6 a7 a8 a9 a10 := by
  have hm := k.1
  refine pk_loop (fun f i (s : Nat × Int32 × Int32 × (Nat → Int32)) => wX_nearest_14 post f (nI s.1) (nI (nd_ds m ln a2 a4 s.1)) (nI i) (nI m) s.2.1 s.2.2.1 xl yl a1 a2 a3 a4 a5 s.2.2.2 a7 a8 a9 a10)
    (fun i s => s.1 < 8 ∧ ∀ e, e < i → nd_ds m ln a2 a4 s.1 ≤ nd_ds m ln a2 a4 e) 8 1 (0, bd, be, a6) (by omega) ?_ ?_ ?_
  · refine ⟨by show 0 < 8; decide, fun e he => ?_⟩
    have e0 : e = 0 := by omega
    subst e0
    exact Nat.le_refl _
  · intro f s I
    exact pk_le 8 8 (fun _ => H _ _ _ _ I.1 I.2) (fun z => absurd z (by omega))
  · intro f i s hi I hw
    obtain ⟨b, bd1, be1, a6'⟩ := s
    obtain ⟨hb, hmin⟩ := I
    dsimp only at hb hmin hw ⊢
    have l1 := nd_ds_le m ln a2 a4 b
    have l2 := nd_ds_le m ln a2 a4 i
    have keep : nd_ds m ln a2 a4 b ≤ nd_ds m ln a2 a4 i → ∀ bd' be' a6', wX_nearest_14 post f (nI b) (nI (nd_ds m ln a2 a4 b)) (nI (i + 1)) (nI m) bd' be' xl yl a1 a2 a3 a4 a5 a6' a7 a8 a9 a10 := fun z bd' be' a6' => hw (b, bd', be', a6') ⟨hb, lt_s hmin z⟩
    have take : nd_ds m ln a2 a4 i < nd_ds m ln a2 a4 b → ∀ bd' be' a6', wX_nearest_14 post f (nI i) (nI (nd_ds m ln a2 a4 i)) (nI (i + 1)) (nI m) bd' be' xl yl a1 a2 a3 a4 a5 a6' a7 a8 a9 a10 := fun z bd' be' a6' => hw (i, bd', be', a6') ⟨hi, lt_s (fun e he => by have := hmin e he; show nd_ds m ln a2 a4 i ≤ nd_ds m ln a2 a4 e; omega) (Nat.le_refl _)⟩
    refine pk_le 8 i (fun z => absurd z (by omega)) (fun _ => ?_)
    by_cases hz : nd_ds m ln a2 a4 b = 0
    · refine nd_mayN (by rw [hz]; decide) (br_t rfl (nm_r (nI_1 i) (keep (by omega) _ _ _)))
    · refine nd_may k hi (nd_ds m ln a2 a4 b - 1) (by omega) ?_ (fun z => br_t rfl (nm_r (nI_1 i) (keep (by omega) _ _ _))) (br_f (by decide) (nd_search k hi (fun be' a6' => pk_le (nd_ds m ln a2 a4 b) (nd_ds m ln a2 a4 i) (fun z => nm_r (nI_1 i) (keep z _ _ _)) (fun z => nm_r (nI_1 i) (take z _ _ _)))))
      obtain ⟨t, ht⟩ : ∃ t, nd_ds m ln a2 a4 b = t + 1 := ⟨nd_ds m ln a2 a4 b - 1, by omega⟩
      rw [ht, nI_pred]
      rfl
theorem nd_nearest {post : Int32 → St1 → Prop} {m : Nat} {ln : Nat → Nat} {bd be xl yl : Int32} {a1 a2 a3 a4 a5 a6 a7 a8 a9 a10 : Nat → Int32} (k : nd_K m ln a1 a2 a3 a4 a5)
    (H : ∀ b bd' be' a6', b < 8 → (∀ e, e < 8 → nd_ds m ln a2 a4 b ≤ nd_ds m ln a2 a4 e) → post (nI b) (nI m, bd', be', xl, yl, a1, a2, a3, a4, a5, a6', a7, a8, a9, a10)) :
    wpX_nearest post (nI m, bd, be, xl, yl, a1, a2, a3, a4, a5, a6, a7, a8, a9, a10) :=
  nd_search (d := 0) k (by omega) (fun be' a6' => nd_n14 k H)
/-! ===== within ===== -/
theorem nd_within {post : Int32 → St1 → Prop} {m : Nat} {ln : Nat → Nat} {bd be xl yl : Int32} {a1 a2 a3 a4 a5 a6 a7 a8 a9 a10 : Nat → Int32} (k : nd_K m ln a1 a2 a3 a4 a5) (e : Nat) (he : e ≤ 100)
    (H : ∀ bd' be' a6', post (nI (nd_cl (nd_ds m ln a2 a4) e 8)) (nI m, bd', be', xl, yl, a1, a2, a3, a4, a5, a6', a7, a8, a9, a10)) :
    wpX_within post (nI m, bd, be, xl, yl, a1, a2, a3, a4, a5, a6, a7, a8, a9, a10) (nI e) := by
  have hm := k.1
  refine pk_loop (fun f i (s : Int32 × Int32 × (Nat → Int32)) => wX_within_4 post (nI e) f (nI (nd_cl (nd_ds m ln a2 a4) e i)) (nI i) (nI m) s.1 s.2.1 xl yl a1 a2 a3 a4 a5 s.2.2 a7 a8 a9 a10)
    (fun _ _ => True) 8 0 (bd, be, a6) (by omega) trivial ?_ ?_
  · intro f s _
    exact pk_le 8 8 (fun _ => H _ _ _) (fun z => absurd z (by omega))
  · intro f i s hi _ hw
    obtain ⟨bd1, be1, a6'⟩ := s
    dsimp only at hw ⊢
    have l2 := nd_ds_le m ln a2 a4 i
    have keep : e < nd_ds m ln a2 a4 i → ∀ bd' be' a6', wX_within_4 post (nI e) f (nI (nd_cl (nd_ds m ln a2 a4) e i)) (nI (i + 1)) (nI m) bd' be' xl yl a1 a2 a3 a4 a5 a6' a7 a8 a9 a10 := by
      intro z bd' be' a6'
      have t := hw (bd', be', a6') trivial
      rw [nd_cl_s, if_neg (by omega), Nat.add_zero] at t
      exact t
    have take : nd_ds m ln a2 a4 i ≤ e → ∀ bd' be' a6', wX_within_4 post (nI e) f (nI (nd_cl (nd_ds m ln a2 a4) e i + 1)) (nI (i + 1)) (nI m) bd' be' xl yl a1 a2 a3 a4 a5 a6' a7 a8 a9 a10 := by
      intro z bd' be' a6'
      have t := hw (bd', be', a6') trivial
      rw [nd_cl_s, if_pos z] at t
      exact t
    refine pk_le 8 i (fun z => absurd z (by omega)) (fun _ => ?_)
    exact nd_may k hi e he rfl (fun z => br_t rfl (nm_r (nI_1 i) (keep z _ _ _))) (br_f (by decide) (nd_search k hi (fun be' a6' => pk_lt e (nd_ds m ln a2 a4 i) (fun z => nm_r (nI_add _ 0) (nm_r (nI_1 i) (keep z _ _ _))) (fun z => nm_r (nI_1 _) (nm_r (nI_1 i) (take z _ _ _))))))
theorem nd_withinN {post : Int32 → St1 → Prop} {ql bd be xl yl : Int32} {a1 a2 a3 a4 a5 a6 a7 a8 a9 a10 : Nat → Int32}
    (H : post 0 (ql, bd, be, xl, yl, a1, a2, a3, a4, a5, a6, a7, a8, a9, a10)) :
    wpX_within post (ql, bd, be, xl, yl, a1, a2, a3, a4, a5, a6, a7, a8, a9, a10) (-1) := by
  refine pk_loop (σ := Unit) (fun f i _ => wX_within_4 post (-1) f 0 (nI i) ql bd be xl yl a1 a2 a3 a4 a5 a6 a7 a8 a9 a10) (fun _ _ => True) 8 0 () (by omega) trivial ?_ ?_
  · intro f s _
    exact pk_le 8 8 (fun _ => H) (fun z => absurd z (by omega))
  · intro f i s hi _ hw
    exact pk_le 8 i (fun z => absurd z (by omega)) (fun _ => nd_mayN (by decide) (br_t rfl (nm_r (nI_1 i) (hw () trivial))))
/-! ===== isDoc, distance, pairs ===== -/
theorem nd_isDoc {post : Int32 → Prop} {d : Nat} (hd : d < 8) (H : post 1) : wpX_isDoc post () (nI d) :=
  br_f (nI_pos (by omega)) (br_f (nI_nlt (a := 7) (by omega) (by decide)) H)
theorem nd_distance {post : Int32 → St1 → Prop} {m d : Nat} {ln : Nat → Nat} {bd be xl yl : Int32} {a1 a2 a3 a4 a5 a6 a7 a8 a9 a10 : Nat → Int32} (k : nd_K m ln a1 a2 a3 a4 a5) (hd : d < 8)
    (H : ∀ bd' be' a6', post (nI (nd_ds m ln a2 a4 d)) (nI m, bd', be', xl, yl, a1, a2, a3, a4, a5, a6', a7, a8, a9, a10)) :
    wpX_distance post (nI m, bd, be, xl, yl, a1, a2, a3, a4, a5, a6, a7, a8, a9, a10) (nI d) := by
  unfold wpX_distance
  exact nd_isDoc hd (br_f (by decide) (nd_search k hd (fun be' a6' => H _ be' a6')))
theorem nd_pairs {post : Int32 → Prop} {m d : Nat} {ln : Nat → Nat} {bd be xl yl : Int32} {a1 a2 a3 a4 a5 a6 a7 a8 a9 a10 : Nat → Int32} (k : nd_K m ln a1 a2 a3 a4 a5) (hd : d < 8)
    (H : post (nI (nd_sh a4 (nd_dl a2 d) m (ln d)))) :
    wpX_pairs post (nI m, bd, be, xl, yl, a1, a2, a3, a4, a5, a6, a7, a8, a9, a10) (nI d) := by
  unfold wpX_pairs
  exact nd_isDoc hd (br_f (by decide) (nd_shared k hd H))
end
section
/-! ===== cell ===== -/
theorem nd_subL {b i j : Nat} (hb : b < 2 ^ 20) (hi : i < 2 ^ 20) (hj : j < 2 ^ 20) : (nI b < nI i - nI j) ↔ b + j < i := by
  rw [Int32.lt_iff_toInt_lt, nI_toInt (by omega), pk_sub_toInt (by omega) (by omega)]
  omega
theorem nd_subR {b i j : Nat} (hb : b < 2 ^ 20) (hi : i < 2 ^ 20) (hj : j < 2 ^ 20) : (nI j - nI i ≤ nI b) ↔ j ≤ i + b := by
  rw [Int32.le_iff_toInt_le, nI_toInt (by omega), pk_sub_toInt (by omega) (by omega)]
  omega
theorem nd_c92 {post : Int32 → Prop} {x z : Nat} {ql bd be xl yl : Int32} {a1 a2 a3 a4 a5 a6 a7 a8 a9 a10 : Nat → Int32} (hx : x < 2 ^ 20) (hz : z < 2 ^ 20) (H : post (nI (min z x))) :
    wX_cell_92 post (nI x) (nI z) ql bd be xl yl a1 a2 a3 a4 a5 a6 a7 a8 a9 a10 :=
  pk_le z x (fun h => by rw [Nat.min_eq_left h] at H; exact H) (fun h => by rw [Nat.min_eq_right (Nat.le_of_lt h)] at H; exact H)
theorem nd_c63 {post : Int32 → Prop} {i u t z : Nat} {z0 z1 ql bd be xl yl : Int32} {a1 a2 a3 a4 a5 a6 a7 a8 a9 a10 : Nat → Int32} (hi : i < 17) (hu : u < 2 ^ 20) (ht : t < 2 ^ 20) (hz : z + 1 < 2 ^ 20) (h1 : z1 + z0 = nI t) (h10 : a10 i = nI z) (H : post (nI (min (min u t) (z + 1)))) :
    wX_cell_63 post (nI (i + 1)) (nI u) z0 z1 ql bd be xl yl a1 a2 a3 a4 a5 a6 a7 a8 a9 a10 := by
  refine nm_r h1 ⟨pk_in i 17 hi (nI_pred i), nm_r (e' := nI (z + 1)) (by rw [nI_pred, nI_clamp (by omega), h10, nI_1]) (pk_le u t (fun h => nd_c92 hz hu ?_) (fun h => nd_c92 hz ht ?_))⟩
  · rw [Nat.min_eq_left h] at H
    exact H
  · rw [Nat.min_eq_right (Nat.le_of_lt h)] at H
    exact H
theorem nd_cell {post : Int32 → Prop} {b j i : Nat} {ql bd be xl yl : Int32} {a1 a2 a3 a4 a5 a6 a7 a8 a9 a10 : Nat → Int32} (hb : b ≤ 2000) (hj : j < 16) (hi : i ≤ 16)
    (h9 : ∀ t, t ≤ i → a9 t = nI (nd_B b a7 a8 j t)) (h10 : ∀ t, t < i → a10 t = nI (nd_B b a7 a8 (j + 1) t)) (H : post (nI (nd_B b a7 a8 (j + 1) i))) :
    wpX_cell post (ql, bd, be, xl, yl, a1, a2, a3, a4, a5, a6, a7, a8, a9, a10) (nI i) (nI (j + 1)) (nI b) := by
  have e9 : a9 (nI i).toNatClampNeg + 1 = nI (nd_B b a7 a8 j i + 1) := by rw [nI_clamp (by omega), h9 i (Nat.le_refl i), nI_1]
  have l9 := nd_B_le b a7 a8 j i
  refine ek_if (nd_subL (by omega) (by omega) (by omega)) (fun z => ?_) (fun z => ek_if (nd_subR (by omega) (by omega) (by omega)) (fun z2 => ⟨pk_in i 17 (by omega), nm_r e9 ?_⟩) (fun z2 => ?_))
  · cases i with
    | zero => exact absurd z (by omega)
    | succ i =>
      rw [nd_B_ss, if_neg (by omega)] at H
      exact H
  · cases i with
    | zero =>
      rw [nd_B_s0, if_pos (by omega)] at H
      exact br_t (by decide) H
    | succ i =>
      have l8 := nd_B_le b a7 a8 j i
      have l10 := nd_B_le b a7 a8 (j + 1) i
      have e8 : a9 (nI (i + 1) - 1).toNatClampNeg = nI (nd_B b a7 a8 j i) := by rw [nI_pred, nI_clamp (by omega), h9 i (by omega)]
      rw [nd_B_ss, if_pos (by omega)] at H
      refine br_f (nI_nle (by omega) (by omega)) ⟨pk_in i 17 (by omega) (nI_pred i), pk_in i 16 (by omega) (nI_pred i), pk_in j 16 (by omega) (nI_pred j), ek_if (d := a7 i = a8 j) (by rw [nI_pred, nI_pred, nI_clamp (by omega), nI_clamp (by omega)]) (fun g => ?_) (fun g => ?_)⟩
      · refine nd_c63 (t := nd_B b a7 a8 j i + 0) (by omega) (by omega) (by omega) (by omega) (by rw [e8]; exact nI_add _ 0) (h10 i (by omega)) ?_
        rw [nd_c_eq g] at H
        exact H
      · refine nd_c63 (t := nd_B b a7 a8 j i + 1) (by omega) (by omega) (by omega) (by omega) (by rw [e8]; exact nI_add _ 1) (h10 i (by omega)) ?_
        rw [nd_c_ne g] at H
        exact H
  · cases i with
    | zero =>
      rw [nd_B_s0, if_neg (by omega)] at H
      exact H
    | succ i =>
      rw [nd_B_ss, if_neg (by omega)] at H
      exact H
/-! ===== bandDistance ===== -/
theorem nd_fill {f s : Nat → Int32} {i : Nat} {x : Int32} (h : ∀ t, t < i → s t = f t) (hx : x = f i) : ∀ t, t < i + 1 → upd s i x t = f t := by
  intro t ht
  by_cases e : t = i
  · rw [e, pk_us, hx]
  · rw [pk_un e]
    exact h t (by omega)
theorem nd_b74 {post : Int32 → St1 → Prop} {J : Int32 → (Nat → Int32) → (Nat → Int32) → (Nat → Int32) → (Nat → Int32) → (Nat → Int32) → (Nat → Int32) → (Nat → Int32) → (Nat → Int32) → (Nat → Int32) → (Nat → Int32) → Prop} {p j : Nat} {x1 ql bd be yl : Int32} {a1 a2 a3 a4 a5 a6 a7 a8 a9 a10 : Nat → Int32} (hp : p ≤ 16)
    (H : ∀ a9', (∀ t, t < p + 1 → a9' t = a10 t) → J (nI (j + 1)) a1 a2 a3 a4 a5 a6 a7 a8 a9' a10) :
    ∃ f, wX_bandDistance_74 post J x1 (nI j) ql bd be (nI p) yl f 0 a1 a2 a3 a4 a5 a6 a7 a8 a9 a10 := by
  refine pk_loop (fun f i s => wX_bandDistance_74 post J x1 (nI j) ql bd be (nI p) yl f (nI i) a1 a2 a3 a4 a5 a6 a7 a8 s a10) (fun i s => ∀ t, t < i → s t = a10 t) (p + 1) 0 a9 (by omega) (fun t ht => absurd ht (by omega)) ?_ ?_
  · intro f s I
    exact pk_lt p (p + 1) (fun _ => nm_r (nI_1 j) (H s I)) (fun z => absurd z (by omega))
  · intro f i s hi I hw
    exact pk_lt p i (fun z => absurd z (by omega)) (fun _ => ⟨pk_in i 17 (by omega), pk_in i 17 (by omega), nm_r (e' := upd s i (a10 i)) (by rw [nI_clamp (by omega)]) (nm_r (nI_1 i) (hw _ (nd_fill I rfl)))⟩)
theorem nd_b45 {post : Int32 → St1 → Prop} {J : Int32 → (Nat → Int32) → (Nat → Int32) → (Nat → Int32) → (Nat → Int32) → (Nat → Int32) → (Nat → Int32) → (Nat → Int32) → (Nat → Int32) → (Nat → Int32) → (Nat → Int32) → Prop} {p j b : Nat} {ql bd be yl : Int32} {a1 a2 a3 a4 a5 a6 a7 a8 a9 a10 : Nat → Int32} (hp : p ≤ 16) (hj : j < 16) (hb : b ≤ 2000)
    (h9 : ∀ t, t ≤ p → a9 t = nI (nd_B b a7 a8 j t))
    (H : ∀ a9' a10', (∀ t, t ≤ p → a9' t = nI (nd_B b a7 a8 (j + 1) t)) → J (nI (j + 1 + 1)) a1 a2 a3 a4 a5 a6 a7 a8 a9' a10') :
    ∃ f, wX_bandDistance_45 post J (nI b) (nI (j + 1)) ql bd be (nI p) yl f 0 a1 a2 a3 a4 a5 a6 a7 a8 a9 a10 := by
  refine pk_loop (fun f i s => wX_bandDistance_45 post J (nI b) (nI (j + 1)) ql bd be (nI p) yl f (nI i) a1 a2 a3 a4 a5 a6 a7 a8 a9 s) (fun i s => ∀ t, t < i → s t = nI (nd_B b a7 a8 (j + 1) t)) (p + 1) 0 a10 (by omega) (fun t ht => absurd ht (by omega)) ?_ ?_
  · intro f s I
    exact pk_lt p (p + 1) (fun _ => nd_b74 hp (fun a9' h => H a9' s (fun t ht => by rw [h t (by omega), I t (by omega)]))) (fun z => absurd z (by omega))
  · intro f i s hi I hw
    refine pk_lt p i (fun z => absurd z (by omega)) (fun _ => nd_cell hb hj (by omega) (fun t ht => h9 t (by omega)) I ⟨pk_in i 17 (by omega), nm_r (e' := upd s i (nI (nd_B b a7 a8 (j + 1) i))) (by rw [nI_clamp (by omega)]) (nm_r (nI_1 i) (hw _ ?_))⟩)
    exact nd_fill (f := fun t => nI (nd_B b a7 a8 (j + 1) t)) I rfl
theorem nd_b35 {post : Int32 → St1 → Prop} {p r b : Nat} {ql bd be : Int32} {a1 a2 a3 a4 a5 a6 a7 a8 a9 a10 : Nat → Int32} (hp : p ≤ 16) (hr : r ≤ 16) (hb : b ≤ 2000)
    (h9 : ∀ t, t ≤ p → a9 t = nI (nd_B b a7 a8 0 t))
    (H : ∀ a9' a10', post (nI (nd_B b a7 a8 r p)) (ql, bd, be, nI p, nI r, a1, a2, a3, a4, a5, a6, a7, a8, a9', a10')) :
    ∃ f, wX_bandDistance_35 post (nI b) ql bd be (nI p) (nI r) f 1 a1 a2 a3 a4 a5 a6 a7 a8 a9 a10 := by
  refine pk_loop (fun f j (s : (Nat → Int32) × (Nat → Int32)) => wX_bandDistance_35 post (nI b) ql bd be (nI p) (nI r) f (nI (j + 1)) a1 a2 a3 a4 a5 a6 a7 a8 s.1 s.2) (fun j s => ∀ t, t ≤ p → s.1 t = nI (nd_B b a7 a8 j t)) r 0 (a9, a10) (by omega) h9 ?_ ?_
  · intro f s I
    refine pk_lt r (r + 1) (fun _ => ⟨pk_in p 17 (by omega), ?_⟩) (fun z => absurd z (by omega))
    rw [nI_clamp (by omega), I p (Nat.le_refl p)]
    exact H _ _
  · intro f j s hj I hw
    exact pk_lt r (j + 1) (fun z => absurd z (by omega)) (fun _ => nd_b45 hp (by omega) hb I (fun a9' a10' h => hw (a9', a10') h))
theorem nd_band {post : Int32 → St1 → Prop} {p r b : Nat} {ql bd be : Int32} {a1 a2 a3 a4 a5 a6 a7 a8 a9 a10 : Nat → Int32} (hp : p ≤ 16) (hr : r ≤ 16) (hb : b ≤ 2000)
    (H : ∀ a9' a10', post (nI (nd_B b a7 a8 r p)) (ql, bd, be, nI p, nI r, a1, a2, a3, a4, a5, a6, a7, a8, a9', a10')) :
    wpX_bandDistance post (ql, bd, be, nI p, nI r, a1, a2, a3, a4, a5, a6, a7, a8, a9, a10) (nI b) := by
  refine pk_loop (fun f i s => wX_bandDistance_2 post (nI b) ql bd be (nI p) (nI r) f (nI i) a1 a2 a3 a4 a5 a6 a7 a8 s a10) (fun i s => ∀ t, t < i → s t = nI (nd_B b a7 a8 0 t)) (p + 1) 0 a9 (by omega) (fun t ht => absurd ht (by omega)) ?_ ?_
  · intro f s I
    exact pk_lt p (p + 1) (fun _ => nd_b35 hp hr hb (fun t ht => I t (by omega)) H) (fun z => absurd z (by omega))
  · intro f i s hi I hw
    refine pk_lt p i (fun z => absurd z (by omega)) (fun _ => pk_lt b i (fun z => ⟨pk_in i 17 (by omega), nm_r (e' := upd s i (nI 100)) (by rw [nI_clamp (by omega)]; rfl) (nm_r (nI_1 i) (hw _ ?_))⟩) (fun z => ⟨pk_in i 17 (by omega), nm_r (e' := upd s i (nI i)) (by rw [nI_clamp (by omega)]) (nm_r (nI_1 i) (hw _ ?_))⟩))
    · exact nd_fill (f := fun t => nI (nd_B b a7 a8 0 t)) I (by rw [nd_B_0, if_neg (by omega)])
    · exact nd_fill (f := fun t => nI (nd_B b a7 a8 0 t)) I (by rw [nd_B_0, if_pos z])
/-! ===== wholeDistance ===== -/
theorem nd_w45 {post : Int32 → St1 → Prop} {p r b : Nat} {ql bd be : Int32} {a1 a2 a3 a4 a5 a6 a7 a8 a9 a10 : Nat → Int32} (hp : p ≤ 16) (hr : r ≤ 16) (hb : b ≤ 16)
    (H : ∀ a9' a10', post (nI (nd_D a7 a8 r p)) (ql, bd, be, nI p, nI r, a1, a2, a3, a4, a5, a6, a7, a8, a9', a10')) :
    ∃ f, wX_wholeDistance_45 post f (nI b) 0 ql bd be (nI p) (nI r) a1 a2 a3 a4 a5 a6 a7 a8 a9 a10 := by
  refine pk_loop (fun f i (s : Nat × (Nat → Int32) × (Nat → Int32)) => wX_wholeDistance_45 post f (nI s.1) (nI i) ql bd be (nI p) (nI r) a1 a2 a3 a4 a5 a6 a7 a8 s.2.1 s.2.2) (fun i s => s.1 ≤ 16 * 2 ^ i) 6 0 (b, a9, a10) (by omega) (by show b ≤ 16 * 2 ^ 0; omega) ?_ ?_
  · intro f s I
    refine pk_le 6 6 (fun _ => nd_band (b := 32) hp hr (by omega) (fun a9' a10' => ?_)) (fun z => absurd z (by omega))
    rw [nd_B_32 a7 a8 (by omega)]
    exact H a9' a10'
  · intro f i s hi I hw
    obtain ⟨c, b9, b10⟩ := s
    have I1 : c ≤ 16 * 2 ^ i := I
    have pw : 2 ^ i ≤ 2 ^ 6 := Nat.pow_le_pow_right (by decide) (by omega)
    have l := nd_B_le c a7 a8 r p
    refine pk_le 6 i (fun z => absurd z (by omega)) (fun _ => nd_band (b := c) hp hr (by omega) (fun a9' a10' => pk_lt c (nd_B c a7 a8 r p) (fun z => nm_r (pk_mul c 2) (nm_r (nI_1 i) (hw (c * 2, a9', a10') ?_))) (fun z => ?_)))
    · show c * 2 ≤ 16 * 2 ^ (i + 1)
      rw [Nat.pow_succ]
      omega
    · rw [nd_B_ok c a7 a8 (by omega) z]
      exact H a9' a10'
theorem nd_w32 {post : Int32 → St1 → Prop} {p r g : Nat} {z ql bd be : Int32} {a1 a2 a3 a4 a5 a6 a7 a8 a9 a10 : Nat → Int32} (hp : p ≤ 16) (hr : r ≤ 16) (hg : g ≤ 16) (hz : z = nI g)
    (H : ∀ a9' a10', post (nI (nd_D a7 a8 r p)) (ql, bd, be, nI p, nI r, a1, a2, a3, a4, a5, a6, a7, a8, a9', a10')) :
    wX_wholeDistance_32 post z ql bd be (nI p) (nI r) a1 a2 a3 a4 a5 a6 a7 a8 a9 a10 := by
  subst hz
  exact pk_le g 0 (fun _ => nd_w45 (b := 1) hp hr (by omega) H) (fun _ => nd_w45 (b := g) hp hr hg H)
theorem nd_wholeDistance {post : Int32 → St1 → Prop} {p r : Nat} {ql bd be : Int32} {a1 a2 a3 a4 a5 a6 a7 a8 a9 a10 : Nat → Int32} (hp : p ≤ 16) (hr : r ≤ 16)
    (H : ∀ a9' a10', post (nI (nd_D a7 a8 r p)) (ql, bd, be, nI p, nI r, a1, a2, a3, a4, a5, a6, a7, a8, a9', a10')) :
    wpX_wholeDistance post (ql, bd, be, nI p, nI r, a1, a2, a3, a4, a5, a6, a7, a8, a9, a10) :=
  pk_le p r (fun z => nd_w32 hp hr (by omega) (pk_sub z) H) (fun z => nd_w32 hp hr (by omega) (pk_sub (Nat.le_of_lt z)) H)
/-! ===== takeAsY, whole, between ===== -/
theorem nd_takeY {post : St1 → Prop} {d n : Nat} {ql bd be xl yl : Int32} {a1 a2 a3 a4 a5 a6 a7 a8 a9 a10 : Nat → Int32} (hd : d < 8) (hn : n ≤ 16) (h1 : a1 d = nI n)
    (H : ∀ a8', (∀ t, t < n → a8' t = nd_dl a2 d t) → post (ql, bd, be, xl, nI n, a1, a2, a3, a4, a5, a6, a7, a8', a9, a10)) :
    wpX_takeAsY post (ql, bd, be, xl, yl, a1, a2, a3, a4, a5, a6, a7, a8, a9, a10) (nI d) := by
  have e1 : a1 (nI d).toNatClampNeg = nI n := by rw [nI_clamp (by omega), h1]
  refine pk_loop (fun f i s => wX_takeAsY_2 post (nI d) ql bd be xl yl f (nI i) a1 a2 a3 a4 a5 a6 a7 s a9 a10) (fun i s => ∀ t, t < i → s t = nd_dl a2 d t) n 0 a8 (by omega) (fun t ht => absurd ht (by omega)) ?_ ?_
  · intro f s I
    exact And.intro (pk_in d 8 hd) (pk_le n n (fun _ => ⟨pk_in d 8 hd, nm_r e1 (H s I)⟩) (fun z => absurd z (by omega)) e1)
  · intro f i s hi I hw
    exact And.intro (pk_in d 8 hd) (pk_le n i (fun z => absurd z (by omega)) (fun _ => ⟨pk_in (16 * d + i) 128 (by omega) (nd_16 d i), pk_in i 16 (by omega), nm_r (e' := upd s i (nd_dl a2 d i)) (by rw [nI_clamp (by omega), nd_16c (by omega)]; rfl) (nm_r (nI_1 i) (hw _ (nd_fill I rfl)))⟩) e1)
theorem nd_whole {post : Int32 → St1 → Prop} {m d : Nat} {ln : Nat → Nat} {bd be xl yl : Int32} {a1 a2 a3 a4 a5 a6 a7 a8 a9 a10 : Nat → Int32} (k : nd_K m ln a1 a2 a3 a4 a5) (hd : d < 8)
    (H : ∀ xl' yl' a7' a8' a9' a10', post (nI (nd_D a4 (nd_dl a2 d) (ln d) m)) (nI m, bd, be, xl', yl', a1, a2, a3, a4, a5, a6, a7', a8', a9', a10')) :
    wpX_whole post (nI m, bd, be, xl, yl, a1, a2, a3, a4, a5, a6, a7, a8, a9, a10) (nI d) := by
  have hm := k.1
  have h1 := k.2.2.2.1 d hd
  unfold wpX_whole
  refine nd_isDoc hd (br_f (by decide) (pk_loop (fun f i s => wX_whole_11 post (nI d) (nI m) bd be xl yl f (nI i) a1 a2 a3 a4 a5 a6 s a8 a9 a10) (fun i s => ∀ t, t < i → s t = a4 t) m 0 a7 (by omega) (fun t ht => absurd ht (by omega)) ?_ ?_))
  · intro f s I
    refine pk_le m m (fun _ => nd_takeY hd h1.1 h1.2 (fun a8' h8 => nd_wholeDistance (by omega) h1.1 (fun a9' a10' => ?_))) (fun z => absurd z (by omega))
    rw [nd_D_congr (ln d) m I h8]
    exact H _ _ _ _ _ _
  · intro f i s hi I hw
    exact pk_le m i (fun z => absurd z (by omega)) (fun _ => ⟨pk_in i 8 (by omega), pk_in i 16 (by omega), nm_r (e' := upd s i (a4 i)) (by rw [nI_clamp (by omega)]) (nm_r (nI_1 i) (hw _ (nd_fill I rfl)))⟩)
theorem nd_between {post : Int32 → St1 → Prop} {m a b : Nat} {ln : Nat → Nat} {bd be xl yl : Int32} {a1 a2 a3 a4 a5 a6 a7 a8 a9 a10 : Nat → Int32} (k : nd_K m ln a1 a2 a3 a4 a5) (ha : a < 8) (hb : b < 8)
    (H : ∀ xl' yl' a7' a8' a9' a10', post (nI (nd_D (nd_dl a2 a) (nd_dl a2 b) (ln b) (ln a))) (nI m, bd, be, xl', yl', a1, a2, a3, a4, a5, a6, a7', a8', a9', a10')) :
    wpX_between post (nI m, bd, be, xl, yl, a1, a2, a3, a4, a5, a6, a7, a8, a9, a10) (nI a) (nI b) := by
  have h1 := k.2.2.2.1 a ha
  have h2 := k.2.2.2.1 b hb
  have e1 : a1 (nI a).toNatClampNeg = nI (ln a) := by rw [nI_clamp (by omega), h1.2]
  unfold wpX_between
  refine nd_isDoc ha (br_f (by decide) (nd_isDoc hb (br_f (by decide) (pk_loop (fun f i s => wX_between_18 post (nI a) (nI b) (nI m) bd be xl yl f (nI i) a1 a2 a3 a4 a5 a6 s a8 a9 a10) (fun i s => ∀ t, t < i → s t = nd_dl a2 a t) (ln a) 0 a7 (by omega) (fun t ht => absurd ht (by omega)) ?_ ?_))))
  · intro f s I
    refine And.intro (pk_in a 8 ha) (pk_le (ln a) (ln a) (fun _ => ⟨pk_in a 8 ha, nm_r e1 (nd_takeY hb h2.1 h2.2 (fun a8' h8 => nd_wholeDistance h1.1 h2.1 (fun a9' a10' => ?_)))⟩) (fun z => absurd z (by omega)) e1 rfl (by omega) (by omega))
    rw [nd_D_congr (ln b) (ln a) I h8]
    exact H _ _ _ _ _ _
  · intro f i s hi I hw
    have l1 := h1.1
    exact And.intro (pk_in a 8 ha) (pk_le (ln a) i (fun z => absurd z (by omega)) (fun _ => ⟨pk_in (16 * a + i) 128 (by omega) (nd_16 a i), pk_in i 16 (by omega), nm_r (e' := upd s i (nd_dl a2 a i)) (by rw [nI_clamp (by omega), nd_16c (by omega)]; rfl) (nm_r (nI_1 i) (hw _ (nd_fill I rfl)))⟩) e1)
end
section
/-! ===== the law's sums ===== -/
def nd_lst (f : Nat → Nat) : Nat → Nat
  | 0 => 100
  | n + 1 => min (nd_lst f n) (f n)
theorem nd_lst_s (f : Nat → Nat) (n : Nat) : nd_lst f (n + 1) = min (nd_lst f n) (f n) := rfl
theorem nd_lst_le (f : Nat → Nat) : ∀ n, nd_lst f n ≤ 100 ∧ ∀ e, e < n → nd_lst f n ≤ f e := by
  intro n
  induction n with
  | zero => exact ⟨Nat.le_refl 100, fun e he => absurd he (by omega)⟩
  | succ n ih =>
    rw [nd_lst_s]
    refine ⟨by omega, lt_s (fun e he => ?_) (by omega)⟩
    have := ih.2 e he
    omega
theorem nd_lst_ge (f : Nat → Nat) (v : Nat) (hv : v ≤ 100) : ∀ n, (∀ e, e < n → v ≤ f e) → v ≤ nd_lst f n := by
  intro n
  induction n with
  | zero =>
    intro _
    exact hv
  | succ n ih =>
    intro h
    have h1 := ih (fun e he => h e (by omega))
    have h2 := h n (by omega)
    rw [nd_lst_s]
    omega
theorem nd_lst_eq (f : Nat → Nat) {b n : Nat} (hb : b < n) (h : ∀ e, e < n → f b ≤ f e) (hv : f b ≤ 100) : nd_lst f n = f b := by
  have h1 := (nd_lst_le f n).2 b hb
  have h2 := nd_lst_ge f (f b) hv n h
  omega
/-- how many lie below k -/
def nd_cp (f : Nat → Nat) : Nat → Nat
  | 0 => 0
  | k + 1 => nd_cl f k 8
theorem nd_cp_s (f : Nat → Nat) (k : Nat) : nd_cp f k + nd_ce f k 8 = nd_cl f k 8 := by
  cases k with
  | zero =>
    rw [nd_cl_k0]
    exact Nat.zero_add _
  | succ k => exact (nd_cl_ks f k 8).symm
theorem nd_one64 : ∀ e, e < 9 → (1 : Int64) <<< ((4 * nI e).toInt64 &&& 63) = lN (2 ^ (4 * e)) := by decide +kernel
theorem nd_sm64 : ∀ k, k < 9 → (((4 * nI k).toInt64 &&& 63).toBitVec.smod 64).toNat = 4 * k := by decide +kernel
theorem nd_shr64 {a d : Nat} {D : Int64} (hD : (D.toBitVec.smod 64).toNat = d) (h : a < 2 ^ 62) : lN a >>> D = lN (a / 2 ^ d) := by
  have hd : a / 2 ^ d ≤ a := Nat.div_le_self _ _
  apply Int64.toInt_inj.mp
  have e : (lN a >>> D).toInt = (lN a).toInt >>> d := by
    rw [← hD]
    exact BitVec.toInt_sshiftRight ..
  rw [e, Int.shiftRight_eq_div_pow, pk_lT (by omega), pk_lT (by omega)]
  rfl
theorem nd_dig {N k : Nat} (hN : N < 2 ^ 62) (hk : k < 9) : ((lN N >>> ((4 * nI k).toInt64 &&& 63)).toInt32) &&& 15 = nI (N / 2 ^ (4 * k) % 16) := by
  rw [nd_shr64 (nd_sm64 k hk) hN, lN_i, pk_and _ (m := 15) 4 (by decide)]
  show nI ((N / 2 ^ (4 * k)) % 2 ^ 32 % 2 ^ 4) = _
  congr 1
  omega
/-! ===== holds ===== -/
theorem nd_h118 {post : Int32 → St1 → Prop} {m a b c : Nat} {ln : Nat → Nat} {bd be xl yl : Int32} {a1 a2 a3 a4 a5 a6 a7 a8 a9 a10 : Nat → Int32} (k : nd_K m ln a1 a2 a3 a4 a5) (ha : a < 8) (hb : b < 8) (hc : c < 8)
    (H : ∀ bd' be' xl' yl' b6 b7 b8 b9 b10, post 1 (nI m, bd', be', xl', yl', a1, a2, a3, a4, a5, b6, b7, b8, b9, b10)) :
    ∃ f, wL_holds_118 post (nI a) (nI b) (nI c) (lN (nd_near (nd_ds m ln a2 a4) 8)) f 0 0 (nI m) bd be xl yl a1 a2 a3 a4 a5 a6 a7 a8 a9 a10 := by
  have hm := k.1
  refine pk_loop (fun f i (s : Int32 × Int32 × (Nat → Int32)) => wL_holds_118 post (nI a) (nI b) (nI c) (lN (nd_near (nd_ds m ln a2 a4) 8)) f (nI (nd_cp (nd_ds m ln a2 a4) i)) (nI i) (nI m) s.1 s.2.1 xl yl a1 a2 a3 a4 a5 s.2.2 a7 a8 a9 a10)
    (fun _ _ => True) 9 0 (bd, be, a6) (by omega) trivial ?_ ?_
  · intro f s _
    have la := (k.2.2.2.1 a ha).1
    have lb := (k.2.2.2.1 b hb).1
    have lc := (k.2.2.2.1 c hc).1
    have sab := nd_D_le (nd_dl a2 a) (nd_dl a2 b) (ln b) (ln a)
    have sbc := nd_D_le (nd_dl a2 b) (nd_dl a2 c) (ln c) (ln b)
    have sac := nd_D_le (nd_dl a2 a) (nd_dl a2 c) (ln c) (ln a)
    have tri := nd_D_tri (nd_dl a2 a) (nd_dl a2 b) (nd_dl a2 c) _ (ln a) (ln b) (ln c) (Nat.le_refl _)
    refine pk_lt 8 9 (fun _ => ?_) (fun z => absurd z (by omega))
    refine nd_between k ha hb (fun _ _ _ _ _ _ => ?_)
    refine nd_between k hb hc (fun _ _ _ _ _ _ => ?_)
    refine nd_between k hb ha (fun _ _ _ _ _ _ => ?_)
    refine br_t (by rw [nd_D_sym]) ?_
    refine nd_between k ha ha (fun _ _ _ _ _ _ => ?_)
    refine br_t (by rw [nd_D_self]; rfl) ?_
    refine nd_between k ha hc (fun _ _ _ _ _ _ => ?_)
    refine pk_lt (nd_D (nd_dl a2 a) (nd_dl a2 b) (ln b) (ln a) + nd_D (nd_dl a2 b) (nd_dl a2 c) (ln c) (ln b)) (nd_D (nd_dl a2 a) (nd_dl a2 c) (ln c) (ln a)) (fun z => absurd z (by omega)) (fun z => ?_) (nI_add _ _) rfl (by omega) (by omega)
    exact nd_withinN (br_t rfl (H _ _ _ _ _ _ _ _ _))
  · intro f i s hi _ hw
    obtain ⟨bd1, be1, a6'⟩ := s
    dsimp only at hw ⊢
    have nn := nd_near_le (nd_ds m ln a2 a4) (fun e => Nat.le_trans (nd_ds_le m ln a2 a4 e) hm) 8
    have e1 : nI (nd_cp (nd_ds m ln a2 a4) i) + (((lN (nd_near (nd_ds m ln a2 a4) 8) >>> ((4 * nI i).toInt64 &&& 63)).toInt32) &&& 15) = nI (nd_cl (nd_ds m ln a2 a4) i 8) := by
      rw [nd_dig (by omega) hi, nd_digit _ i 8 (by omega), nI_add, nd_cp_s]
    refine pk_lt 8 i (fun z => absurd z (by omega)) (fun _ => nm_r e1 (nd_within k i (by omega) (fun bd' be' b6 => br_t rfl (nm_r (nI_1 i) (hw (bd', be', b6) trivial)))))
theorem nd_h74 {post : Int32 → St1 → Prop} {J : Int32 → Int64 → Int32 → Int32 → Int32 → Int32 → Int32 → Int32 → (Nat → Int32) → (Nat → Int32) → (Nat → Int32) → (Nat → Int32) → (Nat → Int32) → (Nat → Int32) → (Nat → Int32) → (Nat → Int32) → (Nat → Int32) → (Nat → Int32) → Prop} {x1 x2 x3 x4 z ql bd be xl yl : Int32} {N e d : Nat} {a1 a2 a3 a4 a5 a6 a7 a8 a9 a10 : Nat → Int32} (he : e < 9)
    (H : J z (lN (N + 2 ^ (4 * e))) (nI (d + 1)) ql bd be xl yl a1 a2 a3 a4 a5 a6 a7 a8 a9 a10) :
    wL_holds_74 post J x1 x2 x3 x4 (lN N) (nI d) (nI e) z ql bd be xl yl a1 a2 a3 a4 a5 a6 a7 a8 a9 a10 :=
  nm_r (by rw [nd_one64 e he, lN_add]) (nm_r (nI_1 d) H)
theorem nd_h10 {post : Int32 → St1 → Prop} {m a b c : Nat} {ln : Nat → Nat} {a1 a2 a3 a4 a5 : Nat → Int32} (k : nd_K m ln a1 a2 a3 a4 a5) (ha : a < 8) (hb : b < 8) (hc : c < 8)
    (H : ∀ bd' be' xl' yl' b6 b7 b8 b9 b10, post 1 (nI m, bd', be', xl', yl', a1, a2, a3, a4, a5, b6, b7, b8, b9, b10)) :
    ∀ f d, d ≤ 8 → 8 - d < f → ∀ bd be xl yl a6 a7 a8 a9 a10, wL_holds_10 post (nI m) (nI a) (nI b) (nI c) f (nI (nd_lst (nd_ds m ln a2 a4) d)) (lN (nd_near (nd_ds m ln a2 a4) d)) (nI d) (nI m) bd be xl yl a1 a2 a3 a4 a5 a6 a7 a8 a9 a10 := by
  intro f
  induction f with
  | zero =>
    intro d _ h
    exact absurd h (by omega)
  | succ f ih =>
    intro d hd hf bd be xl yl a6 a7 a8 a9 a10
    have hm := k.1
    by_cases z : d = 8
    · subst z
      refine pk_le 8 8 (fun _ => nd_nearest k (fun o bd' be' b6 ho hmin => nd_distance k ho (fun bd' be' b6 => br_t ?_ (nd_h118 k ha hb hc H)))) (fun z => absurd z (by omega))
      rw [nd_lst_eq (nd_ds m ln a2 a4) ho hmin (by have := nd_ds_le m ln a2 a4 o; omega)]
    · have hd' : d < 8 := by omega
      have l1 := nd_ds_le m ln a2 a4 d
      have l2 := (nd_lst_le (nd_ds m ln a2 a4) d).1
      have l3 := nd_D_le a4 (nd_dl a2 d) (ln d) m
      have l4 := (k.2.2.2.1 d hd').1
      have l5 : nd_ds m ln a2 a4 d ≤ nd_D a4 (nd_dl a2 d) (ln d) m := nd_best_D a4 (nd_dl a2 d) m (ln d)
      have l6 : m ≤ nd_sh a4 (nd_dl a2 d) m (ln d) + 1 + 2 * nd_ds m ln a2 a4 d := nd_qgB a4 (nd_dl a2 d) k.2.1 m (ln d)
      have l7 : nd_sh a4 (nd_dl a2 d) m (ln d) ≤ 16 * m := nd_sh_le a4 (nd_dl a2 d) m (ln d) 16
      have go := ih (d + 1) (by omega) (by omega)
      rw [nd_lst_s, nd_near_s] at go
      refine pk_le 8 d (fun z => absurd z (by omega)) (fun _ => nd_distance k hd' (fun bd' be' b6 => br_f (nI_pos (by omega)) (nd_whole k hd' (fun xl' yl' b7 b8 b9 b10 => pk_lt (nd_D a4 (nd_dl a2 d) (ln d) m) (nd_ds m ln a2 a4 d) (fun z => absurd z (by omega)) (fun _ => nd_pairs k hd' (ek_if (nd_leI (by omega) (by omega) (by omega)) (fun _ => pk_le (nd_lst (nd_ds m ln a2 a4) d) (nd_ds m ln a2 a4 d) (fun z => nd_h74 (by omega) ?_) (fun z => nd_h74 (by omega) ?_)) (fun z => absurd l6 z)))))))
      · rw [Nat.min_eq_left z] at go
        exact go _ _ _ _ _ _ _ _ _
      · rw [Nat.min_eq_right (Nat.le_of_lt z)] at go
        exact go _ _ _ _ _ _ _ _ _
theorem nd_holds {post : Int32 → St1 → Prop} {m a b c : Nat} {ln : Nat → Nat} {bd be xl yl : Int32} {a1 a2 a3 a4 a5 a6 a7 a8 a9 a10 : Nat → Int32} (k : nd_K m ln a1 a2 a3 a4 a5) (ha : a < 8) (hb : b < 8) (hc : c < 8)
    (H : ∀ bd' be' xl' yl' b6 b7 b8 b9 b10, post 1 (nI m, bd', be', xl', yl', a1, a2, a3, a4, a5, b6, b7, b8, b9, b10)) :
    wpL_holds post (nI m, bd, be, xl, yl, a1, a2, a3, a4, a5, a6, a7, a8, a9, a10) (nI m) (nI a) (nI b) (nI c) :=
  Exists.intro 9 (nd_h10 k ha hb hc H 9 0 (by omega) (by omega) bd be xl yl a6 a7 a8 a9 a10)
end
section
/-! ===== the picture after a store ===== -/
theorem nd_L4_upd {x : Nat → Int32} (h : nd_L4 x) (p l : Nat) (hl : l < 4) : nd_L4 (upd x p (nI l)) := by
  intro t
  by_cases e : t = p
  · subst e
    exact ⟨l, hl, pk_us⟩
  · obtain ⟨j, hj, ej⟩ := h t
    exact ⟨j, hj, by rw [pk_un e, ej]⟩
def nd_ln (ln : Nat → Nat) (d n : Nat) : Nat → Nat := fun e => if e = d then n else ln e
theorem nd_ln_s (ln : Nat → Nat) (d n : Nat) : nd_ln ln d n d = n := if_pos rfl
theorem nd_ln_n (ln : Nat → Nat) {d e : Nat} (n : Nat) (h : e ≠ d) : nd_ln ln d n e = ln e := if_neg h
theorem nd_ln_ok {ln : Nat → Nat} {a1 : Nat → Int32} (h : ∀ d, d < 8 → ln d ≤ 16 ∧ a1 d = nI (ln d)) (d n : Nat) (hn : n ≤ 16) : ∀ e, e < 8 → nd_ln ln d n e ≤ 16 ∧ upd a1 d (nI n) e = nI (nd_ln ln d n e) := by
  intro e he
  by_cases z : e = d
  · subst z
    rw [nd_ln_s, pk_us]
    exact ⟨hn, rfl⟩
  · rw [nd_ln_n ln n z, pk_un z]
    exact h e he
/-- the letters of another document aren't touched -/
theorem nd_dl_n {a2 : Nat → Int32} {x : Int32} {d e n t : Nat} (hn : n < 16) (ht : t < 16) (h : e ≠ d) : nd_dl (upd a2 (16 * d + n) x) e t = nd_dl a2 e t := by
  show upd a2 (16 * d + n) x (16 * e + t) = a2 (16 * e + t)
  exact pk_un (by omega)
theorem nd_dl_lo {a2 : Nat → Int32} {x : Int32} {d n t : Nat} (ht : t < n) : nd_dl (upd a2 (16 * d + n) x) d t = nd_dl a2 d t := by
  show upd a2 (16 * d + n) x (16 * d + t) = a2 (16 * d + t)
  exact pk_un (by omega)
theorem nd_dl_s {a2 : Nat → Int32} {x : Int32} {d n : Nat} : nd_dl (upd a2 (16 * d + n) x) d n = x := by
  show upd a2 (16 * d + n) x (16 * d + n) = x
  exact pk_us
theorem nd_cnt_up {a2 : Nat → Int32} {x : Int32} {d n : Nat} (t : Nat) : nd_cnt (nd_dl (upd a2 (16 * d + n) x) d) t (n + 1) = nd_cnt (nd_dl a2 d) t n + (if 0 < n ∧ 4 * (nd_dl a2 d (n - 1)).toNatClampNeg + x.toNatClampNeg = t then 1 else 0) := by
  rw [nd_cnt_s, nd_cnt_congr t n (fun a ha => nd_dl_lo ha)]
  congr 1
  by_cases z : 0 < n
  · have e : nd_key (nd_dl (upd a2 (16 * d + n) x) d) n = 4 * (nd_dl a2 d (n - 1)).toNatClampNeg + x.toNatClampNeg := by
      unfold nd_key
      rw [nd_dl_s, nd_dl_lo (by omega)]
    rw [e]
  · rw [if_neg (fun w => z w.1), if_neg (fun w => z w.1)]
theorem nd_K_write {m d l : Nat} {ln : Nat → Nat} {a1 a2 a3 a3' a4 a5 : Nat → Int32} (k : nd_K m ln a1 a2 a3 a4 a5) (hd : d < 8) (hl : l < 4) (hn : ln d < 16)
    (h3 : ∀ e, e < 8 → e ≠ d → ∀ t, t < 16 → a3' (16 * e + t) = a3 (16 * e + t))
    (h3d : ∀ t, t < 16 → a3' (16 * d + t) = nI (nd_cnt (nd_dl a2 d) t (ln d) + (if 0 < ln d ∧ 4 * (nd_dl a2 d (ln d - 1)).toNatClampNeg + l = t then 1 else 0))) :
    nd_K m (nd_ln ln d (ln d + 1)) (upd a1 d (nI (ln d + 1))) (upd a2 (16 * d + ln d) (nI l)) a3' a4 a5 := by
  obtain ⟨hm, h4, h2, h1, h30, h5⟩ := k
  refine ⟨hm, h4, nd_L4_upd h2 _ l hl, nd_ln_ok h1 d (ln d + 1) (by omega), fun e he t ht => ?_, h5⟩
  by_cases z : e = d
  · subst z
    rw [nd_ln_s, nd_cnt_up, nI_clamp (show l < 2 ^ 31 by omega), h3d t ht]
  · have le := (h1 e he).1
    rw [nd_ln_n ln _ z, h3 e he z t ht, h30 e he t ht, nd_cnt_congr t (ln e) (fun a ha => (nd_dl_n hn (show a < 16 by omega) z).symm)]
/-! ===== write ===== -/
theorem nd_w78 {post : Int32 → St1 → Prop} {d n : Nat} {ql bd be xl yl : Int32} {a1 a2 a3 a4 a5 a6 a7 a8 a9 a10 : Nat → Int32} (hd : d < 8) (H : post (nI (n + 1)) (ql, bd, be, xl, yl, upd a1 d (nI (n + 1)), a2, a3, a4, a5, a6, a7, a8, a9, a10)) :
    wX_write_78 post (nI d) (nI n) ql bd be xl yl a1 a2 a3 a4 a5 a6 a7 a8 a9 a10 := by
  refine And.intro (pk_in d 8 hd) (nm_r (e' := upd a1 d (nI (n + 1))) (by rw [nI_clamp (by omega), nI_1]) ?_)
  rw [nI_1]
  exact H
theorem nd_write {post : Int32 → St1 → Prop} {m d : Nat} {ln : Nat → Nat} {bd be xl yl : Int32} {a1 a2 a3 a4 a5 a6 a7 a8 a9 a10 : Nat → Int32} (k : nd_K m ln a1 a2 a3 a4 a5) (hd : d < 8) (x : Int32)
    (H : ∀ r ln' a1' a2' a3', nd_K m ln' a1' a2' a3' a4 a5 → post r (nI m, bd, be, xl, yl, a1', a2', a3', a4, a5, a6, a7, a8, a9, a10)) :
    wpX_write post (nI m, bd, be, xl, yl, a1, a2, a3, a4, a5, a6, a7, a8, a9, a10) (nI d) x := by
  obtain ⟨hm, h4, h2, h1, h3, h5⟩ := id k
  obtain ⟨l, hl, el⟩ := pk_andE x (m := 3) 2 (by decide)
  have hl : l < 4 := hl
  have ln16 := (h1 d hd).1
  have e1 : a1 (nI d).toNatClampNeg = nI (ln d) := by rw [nI_clamp (by omega), (h1 d hd).2]
  unfold wpX_write
  refine nd_isDoc hd (br_f (by decide) ⟨pk_in d 8 hd, pk_lt (ln d) 16 (fun z => ⟨pk_in d 8 hd, nm_r e1 ⟨pk_in (16 * d + ln d) 128 (by omega) (nd_16 d (ln d)), nm_r (e' := upd a2 (16 * d + ln d) (nI l)) (by rw [nd_16c (by omega), el]) (pk_le (ln d) 0 (fun z0 => ?_) (fun z0 => ?_))⟩⟩) (fun z => H _ ln _ _ _ k) e1⟩)
  · refine nd_w78 hd (H _ _ _ _ _ (nd_K_write k hd hl z (fun e _ _ t _ => rfl) (fun t ht => ?_)))
    rw [if_neg (fun w => absurd w.1 (by omega)), Nat.add_zero]
    exact h3 d hd t ht
  · obtain ⟨l', hl', el'⟩ := h2 (16 * d + (ln d - 1))
    have ep : (16 : Int32) * nI d + nI (ln d) - 1 = nI (16 * d + (ln d - 1)) := by
      rw [nd_16, show 16 * d + ln d = 16 * d + (ln d - 1) + 1 by omega, nI_pred]
    have eq2 : upd a2 (16 * d + ln d) (nI l) ((16 : Int32) * nI d + nI (ln d) - 1).toNatClampNeg = nI l' := by
      rw [ep, nI_clamp (by omega), pk_un (by omega), el']
    have ei : ((16 : Int32) * nI d + 4 * upd a2 (16 * d + ln d) (nI l) ((16 : Int32) * nI d + nI (ln d) - 1).toNatClampNeg) + (x &&& 3) = nI (16 * d + (4 * l' + l)) := by
      rw [eq2, el, show (4 : Int32) = nI 4 from rfl, pk_mul, nd_16, nI_add, Nat.add_assoc]
    have ec : a3 (16 * d + (4 * l' + l)) = nI (nd_cnt (nd_dl a2 d) (4 * l' + l) (ln d)) := h3 d hd (4 * l' + l) (by omega)
    have edl : (nd_dl a2 d (ln d - 1)).toNatClampNeg = l' := by
      show (a2 (16 * d + (ln d - 1))).toNatClampNeg = l'
      rw [el', nI_clamp (by omega)]
    refine ⟨pk_in (16 * d + (ln d - 1)) 128 (by omega) ep, pk_in (16 * d + (4 * l' + l)) 128 (by omega) ei, pk_in (16 * d + (4 * l' + l)) 128 (by omega) ei, nm_r (e' := upd a3 (16 * d + (4 * l' + l)) (nI (nd_cnt (nd_dl a2 d) (4 * l' + l) (ln d) + 1))) (by rw [ei, nI_clamp (by omega), ec, nI_1]) (nd_w78 hd (H _ _ _ _ _ (nd_K_write k hd hl z (fun e he hne t ht => pk_un (by omega)) (fun t ht => ?_))))⟩
    rw [edl]
    by_cases g : 4 * l' + l = t
    · subst g
      rw [pk_us, if_pos ⟨z0, rfl⟩]
    · rw [if_neg (fun w => g w.2), Nat.add_zero, pk_un (by omega)]
      exact h3 d hd t ht
/-! ===== wipe ===== -/
theorem nd_wipe {post : Int32 → St1 → Prop} {m d : Nat} {ln : Nat → Nat} {bd be xl yl : Int32} {a1 a2 a3 a4 a5 a6 a7 a8 a9 a10 : Nat → Int32} (k : nd_K m ln a1 a2 a3 a4 a5) (hd : d < 8)
    (H : ∀ r ln' a1' a3', nd_K m ln' a1' a2 a3' a4 a5 → post r (nI m, bd, be, xl, yl, a1', a2, a3', a4, a5, a6, a7, a8, a9, a10)) :
    wpX_wipe post (nI m, bd, be, xl, yl, a1, a2, a3, a4, a5, a6, a7, a8, a9, a10) (nI d) := by
  obtain ⟨hm, h4, h2, h1, h3, h5⟩ := k
  unfold wpX_wipe
  refine nd_isDoc hd (br_f (by decide) ⟨pk_in d 8 hd, nm_e ⟨pk_in d 8 hd, nm_r (e' := upd a1 d (nI 0)) (by rw [nI_clamp (by omega)]; rfl) (nm_r (e' := nI (16 * d + 0)) (pk_mul 16 d) ?_)⟩⟩)
  refine pk_loop (fun f i s => wX_wipe_28 post (nI d) (a1 (nI d).toNatClampNeg) (nI m) bd be xl yl f (nI (16 * d + i)) (upd a1 d (nI 0)) a2 s a4 a5 a6 a7 a8 a9 a10)
    (fun i s => (∀ t, t < i → s (16 * d + t) = nI 0) ∧ (∀ e, e < 8 → e ≠ d → ∀ t, t < 16 → s (16 * e + t) = a3 (16 * e + t))) 16 0 a3 (by omega) ⟨fun t ht => absurd ht (by omega), fun e _ _ t _ => rfl⟩ ?_ ?_
  · intro f s I
    refine pk_le (16 * d + 16) (16 * d + 16) (fun _ => H _ (nd_ln ln d 0) _ s ⟨hm, h4, h2, nd_ln_ok h1 d 0 (by omega), fun e he t ht => ?_, h5⟩) (fun z => absurd z (by omega)) (nd_16 d 16)
    by_cases z : e = d
    · subst z
      rw [nd_ln_s, I.1 t ht]
      rfl
    · rw [nd_ln_n ln _ z, I.2 e he z t ht]
      exact h3 e he t ht
  · intro f i s hi I hw
    refine pk_le (16 * d + 16) (16 * d + i) (fun z => absurd z (by omega)) (fun _ => ⟨pk_in (16 * d + i) 128 (by omega), nm_r (e' := upd s (16 * d + i) (nI 0)) (by rw [nI_clamp (by omega)]; rfl) (nm_r (e' := nI (16 * d + (i + 1))) (nI_1 (16 * d + i)) (hw _ ⟨fun t ht => ?_, fun e he z t ht => ?_⟩))⟩) (nd_16 d 16)
    · by_cases g : t = i
      · subst g
        exact pk_us
      · rw [pk_un (by omega)]
        exact I.1 t (by omega)
    · rw [pk_un (by omega)]
      exact I.2 e he z t ht
/-! ===== clear, type ===== -/
theorem nd_clear {post : St1 → Prop} {m : Nat} {ln : Nat → Nat} {bd be xl yl : Int32} {a1 a2 a3 a4 a5 a6 a7 a8 a9 a10 : Nat → Int32} (k : nd_K m ln a1 a2 a3 a4 a5)
    (H : ∀ a5', nd_K 0 ln a1 a2 a3 a4 a5' → post (nI 0, bd, be, xl, yl, a1, a2, a3, a4, a5', a6, a7, a8, a9, a10)) :
    wpX_clear post (nI m, bd, be, xl, yl, a1, a2, a3, a4, a5, a6, a7, a8, a9, a10) := by
  obtain ⟨hm, h4, h2, h1, h3, h5⟩ := k
  refine pk_loop (fun f i s => wX_clear_7 post (nI 0) bd be xl yl f (nI i) a1 a2 a3 a4 s a6 a7 a8 a9 a10) (fun i s => ∀ t, t < i → s t = nI 0) 16 0 a5 (by omega) (fun t ht => absurd ht (by omega)) ?_ ?_
  · intro f s I
    exact pk_le 16 16 (fun _ => H s ⟨by omega, h4, h2, h1, h3, fun t ht => I t ht⟩) (fun z => absurd z (by omega))
  · intro f i s hi I hw
    exact pk_le 16 i (fun z => absurd z (by omega)) (fun _ => ⟨pk_in i 16 hi, nm_r (e' := upd s i (nI 0)) (by rw [nI_clamp (by omega)]; rfl) (nm_r (nI_1 i) (hw _ (nd_fill (f := fun _ => nI 0) I rfl)))⟩)
theorem nd_t56 {post : Int32 → St1 → Prop} {m : Nat} {bd be xl yl : Int32} {a1 a2 a3 a4 a5 a6 a7 a8 a9 a10 : Nat → Int32} (H : post (nI (m + 1)) (nI (m + 1), bd, be, xl, yl, a1, a2, a3, a4, a5, a6, a7, a8, a9, a10)) :
    wX_type_56 post (nI m) bd be xl yl a1 a2 a3 a4 a5 a6 a7 a8 a9 a10 := nm_r (nI_1 m) H
theorem nd_K_type {m l : Nat} {ln : Nat → Nat} {a1 a2 a3 a4 a5 a5' : Nat → Int32} (k : nd_K m ln a1 a2 a3 a4 a5) (hl : l < 4) (hm : m < 8)
    (h5 : ∀ t, t < 16 → a5' t = nI (nd_cnt a4 t m + (if 0 < m ∧ 4 * (a4 (m - 1)).toNatClampNeg + l = t then 1 else 0))) : nd_K (m + 1) ln a1 a2 a3 (upd a4 m (nI l)) a5' := by
  obtain ⟨_, h4, h2, h1, h3, _⟩ := k
  refine ⟨by omega, nd_L4_upd h4 m l hl, h2, h1, h3, fun t ht => ?_⟩
  rw [h5 t ht, nd_cnt_s, nd_cnt_congr t m (fun a ha => pk_un (show a ≠ m by omega))]
  congr 2
  by_cases z : 0 < m
  · have e : nd_key (upd a4 m (nI l)) m = 4 * (a4 (m - 1)).toNatClampNeg + l := by
      unfold nd_key
      rw [pk_us, pk_un (by omega), nI_clamp (show l < 2 ^ 31 by omega)]
    rw [e]
  · rw [if_neg (fun w => z w.1), if_neg (fun w => z w.1)]
theorem nd_type {post : Int32 → St1 → Prop} {m : Nat} {ln : Nat → Nat} {bd be xl yl : Int32} {a1 a2 a3 a4 a5 a6 a7 a8 a9 a10 : Nat → Int32} (k : nd_K m ln a1 a2 a3 a4 a5) (x : Int32)
    (H1 : m < 8 → ∀ a4' a5', nd_K (m + 1) ln a1 a2 a3 a4' a5' → post (nI (m + 1)) (nI (m + 1), bd, be, xl, yl, a1, a2, a3, a4', a5', a6, a7, a8, a9, a10))
    (H0 : post (-1) (nI m, bd, be, xl, yl, a1, a2, a3, a4, a5, a6, a7, a8, a9, a10)) :
    wpX_type post (nI m, bd, be, xl, yl, a1, a2, a3, a4, a5, a6, a7, a8, a9, a10) x := by
  obtain ⟨hm, h4, h2, h1, h3, h5⟩ := id k
  obtain ⟨l, hl, el⟩ := pk_andE x (m := 3) 2 (by decide)
  have hl : l < 4 := hl
  refine pk_lt m 8 (fun z => ⟨pk_in m 8 z, nm_r (e' := upd a4 m (nI l)) (by rw [nI_clamp (by omega), el]) (pk_le m 0 (fun z0 => ?_) (fun z0 => ?_))⟩) (fun z => H0)
  · refine nd_t56 (H1 z _ _ (nd_K_type k hl z (fun t ht => ?_)))
    rw [if_neg (fun w => absurd w.1 (by omega)), Nat.add_zero]
    exact h5 t ht
  · obtain ⟨l', hl', el'⟩ := h4 (m - 1)
    have ep : nI m - 1 = nI (m - 1) := pk_sub (b := 1) z0
    have eq2 : upd a4 m (nI l) (nI m - 1).toNatClampNeg = nI l' := by
      rw [ep, nI_clamp (by omega), pk_un (by omega), el']
    have ei : (4 * upd a4 m (nI l) (nI m - 1).toNatClampNeg) + (x &&& 3) = nI (4 * l' + l) := by
      rw [eq2, el, show (4 : Int32) = nI 4 from rfl, pk_mul, nI_add]
    have ec : a5 (4 * l' + l) = nI (nd_cnt a4 (4 * l' + l) m) := h5 (4 * l' + l) (by omega)
    have edl : (a4 (m - 1)).toNatClampNeg = l' := by rw [el', nI_clamp (by omega)]
    refine ⟨pk_in (m - 1) 8 (by omega) ep, pk_in (4 * l' + l) 16 (by omega) ei, pk_in (4 * l' + l) 16 (by omega) ei, nm_r (e' := upd a5 (4 * l' + l) (nI (nd_cnt a4 (4 * l' + l) m + 1))) (by rw [ei, nI_clamp (by omega), ec, nI_1]) (nd_t56 (H1 z _ _ (nd_K_type k hl z (fun t ht => ?_))))⟩
    rw [edl]
    by_cases g : 4 * l' + l = t
    · subst g
      rw [pk_us, if_pos ⟨z0, rfl⟩]
    · rw [if_neg (fun w => g w.2), Nat.add_zero, pk_un (fun w => g w.symm)]
      exact h5 t ht
end
section
/-! ===== the law ===== -/
theorem nd_holdsE {post : Int32 → St1 → Prop} {m a b c : Nat} {ln : Nat → Nat} {y z bd be xl yl : Int32} {a1 a2 a3 a4 a5 a6 a7 a8 a9 a10 : Nat → Int32} (k : nd_K m ln a1 a2 a3 a4 a5) (ha : a < 8) (hb : b < 8) (hc : c < 8) (ey : y = nI b) (ez : z = nI c)
    (H : ∀ bd' be' xl' yl' b6 b7 b8 b9 b10, post 1 (nI m, bd', be', xl', yl', a1, a2, a3, a4, a5, b6, b7, b8, b9, b10)) :
    wpL_holds post (nI m, bd, be, xl, yl, a1, a2, a3, a4, a5, a6, a7, a8, a9, a10) (nI m) (nI a) y z := by
  subst ey ez
  exact nd_holds k ha hb hc H
theorem nd_l62 {post : Int32 → Prop} {L : Nat} {xs : Nat → Int32} {J : Int32 → Int32 → Int32 → Int32 → Int32 → Int32 → Int32 → (Nat → Int32) → (Nat → Int32) → (Nat → Int32) → (Nat → Int32) → (Nat → Int32) → (Nat → Int32) → (Nat → Int32) → (Nat → Int32) → (Nat → Int32) → (Nat → Int32) → Prop} {x2 x3 x6 : Int32} {kc ks m d : Nat} {ln : Nat → Nat} {bd be xl yl : Int32} {a1 a2 a3 a4 a5 a6 a7 a8 a9 a10 : Nat → Int32} (k : nd_K m ln a1 a2 a3 a4 a5) (hd : d < 8)
    (H : ∀ ln' a1' a2' a3', nd_K m ln' a1' a2' a3' a4 a5 → J x2 (x3 + 4) (nI m) bd be xl yl a1' a2' a3' a4 a5 a6 a7 a8 a9 a10) :
    ∃ f, wL_law_62 post L xs J x2 x3 (nI d) x6 kc ks f 0 (nI m) bd be xl yl a1 a2 a3 a4 a5 a6 a7 a8 a9 a10 := by
  refine pk_loop (fun f i (s : (Nat → Int32) × (Nat → Int32) × (Nat → Int32)) => wL_law_62 post L xs J x2 x3 (nI d) x6 kc ks f (nI i) (nI m) bd be xl yl s.1 s.2.1 s.2.2 a4 a5 a6 a7 a8 a9 a10) (fun _ s => ∃ ln', nd_K m ln' s.1 s.2.1 s.2.2 a4 a5) 3 0 (a1, a2, a3) (by omega) ⟨ln, k⟩ ?_ ?_
  · intro f s I
    obtain ⟨ln', k'⟩ := I
    exact pk_le 3 3 (fun _ => nm_e (H ln' _ _ _ k')) (fun z => absurd z (by omega))
  · intro f i s hi I hw
    obtain ⟨ln', k'⟩ := I
    exact pk_le 3 i (fun z => absurd z (by omega)) (fun _ => nd_write k' hd _ (fun r ln'' a1' a2' a3' k'' => nm_r (nI_1 i) (hw (a1', a2', a3') ⟨ln'', k''⟩)))
theorem nd_l12 {xs : Nat → Int32} {L kc ks : Nat} (hL : L ≤ 260) : ∀ f t, t ≤ L / 4 → L / 4 - t < f → ∀ m ln bd be xl yl a1 a2 a3 a4 a5 a6 a7 a8 a9 a10, nd_K m ln a1 a2 a3 a4 a5 → wL_law_12 (fun r => r = 1) L xs kc ks f (nI m) (nI (4 * t)) (nI m) bd be xl yl a1 a2 a3 a4 a5 a6 a7 a8 a9 a10 := by
  intro f
  induction f with
  | zero =>
    intro t _ h
    exact absurd h (by omega)
  | succ f ih =>
    intro t ht hf m ln bd be xl yl a1 a2 a3 a4 a5 a6 a7 a8 a9 a10 k
    have e4 : nI (4 * t) + 4 = nI (4 * (t + 1)) := nI_add (4 * t) 4
    refine pk_lt L (4 * (t + 1)) (fun z => ?_) (fun z => ?_) rfl e4 (by omega) (by omega)
    · exact nd_holds (a := 0) (b := 1) (c := 2) k (by omega) (by omega) (by omega) (fun _ _ _ _ _ _ _ _ _ => rfl)
    · obtain ⟨d, hd, ed⟩ := pk_andE (xs (nI (4 * t) + 1).toNatClampNeg) (m := 7) 3 (by decide)
      obtain ⟨b, hb, eb⟩ := pk_andE (xs (nI (4 * t) + 2).toNatClampNeg) (m := 7) 3 (by decide)
      obtain ⟨c, hc, ec⟩ := pk_andE (xs (nI (4 * t) + 3).toNatClampNeg) (m := 7) 3 (by decide)
      have go := ih (t + 1) (by omega) (by omega)
      refine ⟨pk_in (4 * t) L (by omega), nm_e ⟨pk_in (4 * t + 1) L (by omega) (nI_1 _), nm_r ed ⟨pk_in (4 * t + 2) L (by omega) (nI_add _ 2), nm_e ⟨pk_in (4 * t + 3) L (by omega) (nI_add _ 3), nm_e ?_⟩⟩⟩⟩
      refine br_c (fun _ => br_c (fun _ => ?_) (fun _ => br_c (fun _ => br_c (fun _ => ?_) (fun _ => ?_)) (fun _ => ?_))) (fun _ => ?_)
      · exact nd_wipe k hd (fun r ln' a1' a3' k' => nm_r e4 (go m ln' _ _ _ _ _ _ _ _ _ _ _ _ _ _ k'))
      · exact nd_clear k (fun a5' k' => nm_r e4 (go 0 ln _ _ _ _ _ _ _ _ _ _ _ _ _ _ k'))
      · exact nd_holdsE k hd hb hc eb ec (fun _ _ _ _ _ _ _ _ _ => br_f (by decide) (nm_r e4 (go m ln _ _ _ _ _ _ _ _ _ _ _ _ _ _ k)))
      · refine nd_type k _ (fun hm a4' a5' k' => br_f (nI_nle (by omega) (by omega)) (nm_r e4 (go (m + 1) ln _ _ _ _ _ _ _ _ _ _ _ _ _ _ k'))) (br_t (by decide) (nm_r e4 (go m ln _ _ _ _ _ _ _ _ _ _ _ _ _ _ k)))
      · refine nd_l62 k hd (fun ln' a1' a2' a3' k' => ?_)
        rw [e4]
        exact go m ln' _ _ _ _ _ _ _ _ _ _ _ _ _ _ k'
theorem nd_K0 : nd_K 0 (fun _ => 0) (fun _ => 0) (fun _ => 0) (fun _ => 0) (fun _ => 0) (fun _ => 0) :=
  ⟨by omega, fun t => ⟨0, by omega, rfl⟩, fun t => ⟨0, by omega, rfl⟩, fun d _ => ⟨Nat.zero_le 16, rfl⟩, fun d _ k _ => rfl, fun k _ => rfl⟩
theorem i_vc (xs : Nat → Int32) (L : Nat) (hL : L ≤ 260) : wpL_law (fun r => r = 1) L xs := by
  unfold wpL_law
  refine ⟨10, 358, by omega, by omega, ?_⟩
  refine And.intro (by omega) ⟨by omega, by omega, by omega, by omega, by omega, by omega, by omega, by omega, by omega, by omega, by omega, by omega, by omega, by omega, by omega, by omega, by omega, by omega, by omega, ?_⟩
  exact Exists.intro (L / 4 + 1) (nd_l12 hL (L / 4 + 1) 0 (by omega) (by omega) 0 (fun _ => 0) _ _ _ _ _ _ _ _ _ _ _ _ _ _ nd_K0)
end

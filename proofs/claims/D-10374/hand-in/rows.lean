section
def dt_sum : Nat → (Nat → Int) → Int
  | 0, _ => 0
  | n + 1, f => dt_sum n f + f n
theorem dt_sum_congr {n : Nat} {f g : Nat → Int} (h : ∀ i, i < n → f i = g i) : dt_sum n f = dt_sum n g := by
  induction n with
  | zero => rfl
  | succ n ih =>
    show dt_sum n f + f n = dt_sum n g + g n
    rw [ih (fun i hi => h i (by omega)), h n (by omega)]
theorem dt_sum_zero {n : Nat} {f : Nat → Int} (h : ∀ i, i < n → f i = 0) : dt_sum n f = 0 := by
  induction n with
  | zero => rfl
  | succ n ih =>
    show dt_sum n f + f n = 0
    rw [ih (fun i hi => h i (by omega)), h n (by omega)]
    rfl
theorem dt_sum_add (n : Nat) (f g : Nat → Int) : dt_sum n (fun i => f i + g i) = dt_sum n f + dt_sum n g := by
  induction n with
  | zero => rfl
  | succ n ih =>
    show dt_sum n (fun i => f i + g i) + (f n + g n) = (dt_sum n f + f n) + (dt_sum n g + g n)
    rw [ih]
    omega
theorem dt_sum_mul (n : Nat) (x : Int) (f : Nat → Int) : dt_sum n (fun i => x * f i) = x * dt_sum n f := by
  induction n with
  | zero => exact (Int.mul_zero x).symm
  | succ n ih =>
    show dt_sum n (fun i => x * f i) + x * f n = x * (dt_sum n f + f n)
    rw [ih, Int.mul_add]
theorem dt_sum_front (n : Nat) (f : Nat → Int) : dt_sum (n + 1) f = f 0 + dt_sum n (fun i => f (i + 1)) := by
  induction n with
  | zero =>
    show 0 + f 0 = f 0 + 0
    omega
  | succ n ih =>
    show dt_sum (n + 1) f + f (n + 1) = f 0 + (dt_sum n (fun i => f (i + 1)) + f (n + 1))
    rw [ih]
    omega
theorem dt_sum_swap (n m : Nat) (f : Nat → Nat → Int) : dt_sum n (fun i => dt_sum m (fun j => f i j)) = dt_sum m (fun j => dt_sum n (fun i => f i j)) := by
  induction n with
  | zero =>
    show 0 = dt_sum m (fun _ => 0)
    exact (dt_sum_zero (fun _ _ => rfl)).symm
  | succ n ih =>
    show dt_sum n (fun i => dt_sum m (fun j => f i j)) + dt_sum m (fun j => f n j) = dt_sum m (fun j => dt_sum n (fun i => f i j) + f n j)
    rw [ih, dt_sum_add]
theorem dt_sum_one {n k : Nat} {f : Nat → Int} (hk : k < n) (h : ∀ i, i < n → i ≠ k → f i = 0) : dt_sum n f = f k := by
  induction n with
  | zero => exact absurd hk (by omega)
  | succ n ih =>
    show dt_sum n f + f n = f k
    by_cases e : k = n
    · rw [dt_sum_zero (fun i hi => h i (by omega) (by omega)), e]
      omega
    · rw [ih (by omega) (fun i hi hk => h i (by omega) hk), h n (by omega) (by omega)]
      omega
theorem dt_sum_two {n k l : Nat} {f : Nat → Int} (hk : k < n) (hl : l < n) (hkl : k ≠ l) (h : ∀ i, i < n → i ≠ k → i ≠ l → f i = 0) : dt_sum n f = f k + f l := by
  have e : dt_sum n f = dt_sum n (fun i => (if i = k then f k else 0) + (if i = l then f l else 0)) := by
    refine dt_sum_congr (fun i hi => ?_)
    by_cases e1 : i = k
    · have e2 : ¬ i = l := by omega
      rw [if_pos e1, if_neg e2, e1]
      omega
    · by_cases e2 : i = l
      · rw [if_neg e1, if_pos e2, e2]
        omega
      · rw [if_neg e1, if_neg e2, h i hi e1 e2]
        rfl
  rw [e, dt_sum_add, dt_sum_one hk (fun i _ hi => if_neg hi), dt_sum_one hl (fun i _ hi => if_neg hi), if_pos rfl, if_pos rfl]
def dt_sk (i r : Nat) : Nat := if r < i then r else r + 1
def dt_sg : Nat → Int
  | 0 => 1
  | n + 1 => - dt_sg n
def dt_det : Nat → (Nat → Nat → Int) → Int
  | 0, _ => 1
  | n + 1, A => dt_sum (n + 1) (fun i => dt_sg i * A i 0 * dt_det n (fun r c => A (dt_sk i r) (c + 1)))
theorem dt_det_s (n : Nat) (A : Nat → Nat → Int) : dt_det (n + 1) A = dt_sum (n + 1) (fun i => dt_sg i * A i 0 * dt_det n (fun r c => A (dt_sk i r) (c + 1))) := rfl
theorem dt_sk0 (r : Nat) : dt_sk 0 r = r + 1 := by
  unfold dt_sk
  exact if_neg (by omega)
theorem dt_skz (i : Nat) : dt_sk (i + 1) 0 = 0 := by
  unfold dt_sk
  exact if_pos (by omega)
theorem dt_sks (i r : Nat) : dt_sk (i + 1) (r + 1) = dt_sk i r + 1 := by
  unfold dt_sk
  split <;> split <;> omega
theorem dt_sk_lt {n r : Nat} (i : Nat) (h : r < n) : dt_sk i r < n + 1 := by
  unfold dt_sk
  split <;> omega
theorem dt_sk_ne (i r : Nat) : dt_sk i r ≠ i := by
  unfold dt_sk
  split <;> omega
theorem dt_sk_lo {i r : Nat} (h : r < i) : dt_sk i r = r := if_pos h
theorem dt_sk_hi {i r : Nat} (h : i ≤ r) : dt_sk i r = r + 1 := if_neg (by omega)
theorem dt_sk_inj {i r c : Nat} : dt_sk i r = dt_sk i c ↔ r = c := by
  unfold dt_sk
  split <;> split <;> omega
theorem dt_congr : ∀ (n : Nat) {A B : Nat → Nat → Int}, (∀ r c, r < n → c < n → A r c = B r c) → dt_det n A = dt_det n B
  | 0, _, _, _ => rfl
  | n + 1, A, B, h => by
    rw [dt_det_s, dt_det_s]
    refine dt_sum_congr (fun i hi => ?_)
    rw [h i 0 hi (by omega), dt_congr n (A := fun r c => A (dt_sk i r) (c + 1)) (B := fun r c => B (dt_sk i r) (c + 1)) (fun r c hr hc => h _ _ (dt_sk_lt i hr) (by omega))]
theorem dt_row : ∀ (n : Nat) (A : Nat → Nat → Int), dt_det (n + 1) A = dt_sum (n + 1) (fun j => dt_sg j * A 0 j * dt_det n (fun r c => A (r + 1) (dt_sk j c)))
  | 0, _ => rfl
  | n + 1, A => by
    have hL : dt_det (n + 1 + 1) A = A 0 0 * dt_det (n + 1) (fun r c => A (r + 1) (c + 1)) + dt_sum (n + 1) (fun i => dt_sum (n + 1) (fun j => -(dt_sg i * dt_sg j * A (i + 1) 0 * A 0 (j + 1) * dt_det n (fun r c => A (dt_sk i r + 1) (dt_sk j c + 1))))) := by
      rw [dt_det_s, dt_sum_front]
      simp only [dt_sk0]
      congr 1
      · show (1 : Int) * A 0 0 * _ = _
        rw [Int.one_mul]
      · refine dt_sum_congr (fun i hi => ?_)
        rw [dt_row n, ← dt_sum_mul]
        refine dt_sum_congr (fun j hj => ?_)
        simp only [dt_skz, dt_sks, dt_sg]
        generalize dt_det n (fun r c => A (dt_sk i r + 1) (dt_sk j c + 1)) = X
        grind
    have hR : dt_sum (n + 1 + 1) (fun j => dt_sg j * A 0 j * dt_det (n + 1) (fun r c => A (r + 1) (dt_sk j c))) = A 0 0 * dt_det (n + 1) (fun r c => A (r + 1) (c + 1)) + dt_sum (n + 1) (fun j => dt_sum (n + 1) (fun i => -(dt_sg i * dt_sg j * A (i + 1) 0 * A 0 (j + 1) * dt_det n (fun r c => A (dt_sk i r + 1) (dt_sk j c + 1))))) := by
      rw [dt_sum_front]
      simp only [dt_sk0]
      congr 1
      · show (1 : Int) * A 0 0 * _ = _
        rw [Int.one_mul]
      · refine dt_sum_congr (fun j hj => ?_)
        rw [dt_det_s, ← dt_sum_mul]
        refine dt_sum_congr (fun i hi => ?_)
        simp only [dt_skz, dt_sks, dt_sg]
        generalize dt_det n (fun r c => A (dt_sk i r + 1) (dt_sk j c + 1)) = X
        grind
    rw [hL, hR, dt_sum_swap]
theorem dt_tr : ∀ (n : Nat) (A : Nat → Nat → Int), dt_det n (fun r c => A c r) = dt_det n A
  | 0, _ => rfl
  | n + 1, A => by
    rw [dt_row n A, dt_det_s]
    refine dt_sum_congr (fun i hi => ?_)
    rw [← dt_tr n (fun r c => A (r + 1) (dt_sk i c))]
def dt_set (A : Nat → Nat → Int) (k : Nat) (u : Nat → Int) : Nat → Nat → Int := fun r c => if r = k then u c else A r c
theorem dt_set_eq (A : Nat → Nat → Int) (k : Nat) (u : Nat → Int) (c : Nat) : dt_set A k u k c = u c := if_pos rfl
theorem dt_set_ne {A : Nat → Nat → Int} {k r : Nat} {u : Nat → Int} (h : r ≠ k) (c : Nat) : dt_set A k u r c = A r c := if_neg h
theorem dt_set_self (A : Nat → Nat → Int) (k : Nat) : dt_set A k (A k) = A := by
  funext r c
  by_cases e : r = k
  · rw [e, dt_set_eq]
  · rw [dt_set_ne e]
theorem dt_set_set (A : Nat → Nat → Int) (k : Nat) (u v : Nat → Int) : dt_set (dt_set A k u) k v = dt_set A k v := by
  funext r c
  by_cases e : r = k
  · rw [e, dt_set_eq, dt_set_eq]
  · rw [dt_set_ne e, dt_set_ne e, dt_set_ne e]
theorem dt_set_comm (A : Nat → Nat → Int) {k l : Nat} (h : k ≠ l) (u v : Nat → Int) : dt_set (dt_set A k u) l v = dt_set (dt_set A l v) k u := by
  funext r c
  by_cases e : r = k
  · have e2 : r ≠ l := by omega
    rw [dt_set_ne e2, e, dt_set_eq, dt_set_eq]
  · by_cases e2 : r = l
    · rw [e2, dt_set_eq, dt_set_ne (by omega), dt_set_eq]
    · rw [dt_set_ne e2, dt_set_ne e, dt_set_ne e, dt_set_ne e2]
theorem dt_lin : ∀ (n : Nat) (A : Nat → Nat → Int) (k : Nat) (x y : Int) (u v : Nat → Int), k < n → dt_det n (dt_set A k (fun c => x * u c + y * v c)) = x * dt_det n (dt_set A k u) + y * dt_det n (dt_set A k v)
  | 0, _, _, _, _, _, _, h => absurd h (by omega)
  | n + 1, A, k, x, y, u, v, hk => by
    rw [dt_det_s, dt_det_s, dt_det_s, ← dt_sum_mul, ← dt_sum_mul, ← dt_sum_add]
    refine dt_sum_congr (fun i hi => ?_)
    by_cases e : i = k
    · have m : ∀ w : Nat → Int, dt_det n (fun r c => dt_set A k w (dt_sk i r) (c + 1)) = dt_det n (fun r c => A (dt_sk i r) (c + 1)) := fun w => dt_congr n (fun r c hr hc => dt_set_ne (by rw [← e]; exact dt_sk_ne i r) _)
      rw [m, m, m, e, dt_set_eq, dt_set_eq, dt_set_eq]
      grind
    · have m : ∀ w : Nat → Int, (fun r c => dt_set A k w (dt_sk i r) (c + 1)) = dt_set (fun r c => A (dt_sk i r) (c + 1)) (if k < i then k else k - 1) (fun c => w (c + 1)) := by
        intro w
        funext r c
        by_cases h : dt_sk i r = k
        · have h' : r = (if k < i then k else k - 1) := by
            revert h
            unfold dt_sk
            split <;> split <;> omega
          rw [h, dt_set_eq, ← h', dt_set_eq]
        · have h' : r ≠ (if k < i then k else k - 1) := by
            revert h
            unfold dt_sk
            split <;> split <;> omega
          rw [dt_set_ne h, dt_set_ne h']
      rw [m, m, m, dt_lin n _ _ x y (fun c => u (c + 1)) (fun c => v (c + 1)) (by split <;> omega), dt_set_ne e, dt_set_ne e, dt_set_ne e]
      grind
theorem dt_adj : ∀ (n : Nat) (A : Nat → Nat → Int) (k : Nat), k + 1 < n → (∀ c, A k c = A (k + 1) c) → dt_det n A = 0
  | 0, _, _, h, _ => absurd h (by omega)
  | n + 1, A, k, hk, h => by
    rw [dt_det_s, dt_sum_two (k := k) (l := k + 1) (by omega) hk (by omega)]
    · have e : (fun r c => A (dt_sk (k + 1) r) (c + 1)) = (fun r c => A (dt_sk k r) (c + 1)) := by
        funext r c
        by_cases z : r = k
        · rw [z, dt_sk_lo (by omega), dt_sk_hi (by omega)]
          exact h (c + 1)
        · have z' : dt_sk (k + 1) r = dt_sk k r := by
            unfold dt_sk
            split <;> split <;> omega
          rw [z']
      rw [e, ← h 0]
      show dt_sg k * A k 0 * _ + -(dt_sg k) * A k 0 * _ = 0
      grind
    · intro i hi h1 h2
      have z : dt_det n (fun r c => A (dt_sk i r) (c + 1)) = 0 := by
        by_cases g : k < i
        · refine dt_adj n _ k (by omega) (fun c => ?_)
          rw [dt_sk_lo g, dt_sk_lo (by omega)]
          exact h (c + 1)
        · refine dt_adj n _ (k - 1) (by omega) (fun c => ?_)
          rw [dt_sk_hi (by omega), dt_sk_hi (by omega)]
          have : k - 1 + 1 = k := by omega
          rw [this]
          exact h (c + 1)
      rw [z, Int.mul_zero]
end
section
theorem dt_swap_of (n : Nat) (A : Nat → Nat → Int) (k l : Nat) (hk : k < n) (hl : l < n) (hkl : k ≠ l) (alt : ∀ u : Nat → Int, dt_det n (dt_set (dt_set A k u) l u) = 0) : dt_det n (dt_set (dt_set A k (A l)) l (A k)) = - dt_det n A := by
  have s1 : ∀ u v w : Nat → Int, dt_det n (dt_set (dt_set A k w) l (fun c => 1 * u c + 1 * v c)) = 1 * dt_det n (dt_set (dt_set A k w) l u) + 1 * dt_det n (dt_set (dt_set A k w) l v) := fun u v w => dt_lin n (dt_set A k w) l 1 1 u v hl
  have s2 : ∀ u v w : Nat → Int, dt_det n (dt_set (dt_set A k (fun c => 1 * u c + 1 * v c)) l w) = 1 * dt_det n (dt_set (dt_set A k u) l w) + 1 * dt_det n (dt_set (dt_set A k v) l w) := by
    intro u v w
    rw [dt_set_comm A hkl, dt_set_comm A hkl, dt_set_comm A hkl]
    exact dt_lin n (dt_set A l w) k 1 1 u v hk
  have h := alt (fun c => 1 * A k c + 1 * A l c)
  rw [s1, s2, s2, alt, alt] at h
  have e : dt_set (dt_set A k (A k)) l (A l) = A := by rw [dt_set_self, dt_set_self]
  rw [e] at h
  omega
theorem dt_alt_up : ∀ (d n : Nat) (A : Nat → Nat → Int) (k : Nat), k + d + 1 < n → (∀ c, A k c = A (k + d + 1) c) → dt_det n A = 0
  | 0, n, A, k, hk, h => dt_adj n A k hk h
  | d + 1, n, A, k, hk, h => by
    have s := dt_swap_of n A (k + d + 1) (k + d + 1 + 1) (by omega) (by omega) (by omega) (fun u => dt_adj n _ (k + d + 1) (by omega) (fun c => by rw [dt_set_ne (by omega), dt_set_eq, dt_set_eq]))
    have z : dt_det n (dt_set (dt_set A (k + d + 1) (A (k + d + 1 + 1))) (k + d + 1 + 1) (A (k + d + 1))) = 0 := by
      refine dt_alt_up d n _ k (by omega) (fun c => ?_)
      rw [dt_set_ne (by omega), dt_set_ne (by omega), dt_set_ne (by omega), dt_set_eq]
      exact h c
    omega
theorem dt_rep (n : Nat) (A : Nat → Nat → Int) (k l : Nat) (hk : k < n) (hl : l < n) (hkl : k ≠ l) (h : ∀ c, c < n → A k c = A l c) : dt_det n A = 0 := by
  have e : dt_det n A = dt_det n (fun r c => if c < n then A r c else 0) := dt_congr n (fun r c _ hc => (if_pos hc).symm)
  have h' : ∀ c, (if c < n then A k c else 0) = (if c < n then A l c else 0) := by
    intro c
    by_cases z : c < n
    · rw [if_pos z, if_pos z, h c z]
    · rw [if_neg z, if_neg z]
  rw [e]
  by_cases z : k < l
  · refine dt_alt_up (l - k - 1) n _ k (by omega) (fun c => ?_)
    rw [show k + (l - k - 1) + 1 = l by omega]
    exact h' c
  · refine dt_alt_up (k - l - 1) n _ l (by omega) (fun c => ?_)
    rw [show l + (k - l - 1) + 1 = k by omega]
    exact (h' c).symm
theorem dt_swap (n : Nat) (A : Nat → Nat → Int) (k l : Nat) (hk : k < n) (hl : l < n) (hkl : k ≠ l) : dt_det n (dt_set (dt_set A k (A l)) l (A k)) = - dt_det n A :=
  dt_swap_of n A k l hk hl hkl (fun u => dt_rep n _ k l hk hl hkl (fun c _ => by rw [dt_set_ne hkl, dt_set_eq, dt_set_eq]))
def dt_tp (k l r : Nat) : Nat := if r = k then l else if r = l then k else r
theorem dt_tp_swap (n : Nat) (A : Nat → Nat → Int) (k l : Nat) (hk : k < n) (hl : l < n) (hkl : k ≠ l) : dt_det n (fun r c => A (dt_tp k l r) c) = - dt_det n A := by
  rw [← dt_swap n A k l hk hl hkl]
  refine dt_congr n (fun r c hr hc => ?_)
  unfold dt_tp
  by_cases e : r = l
  · by_cases e2 : r = k
    · exact absurd (e2.symm.trans e) hkl
    · rw [if_neg e2, if_pos e, e, dt_set_eq]
  · by_cases e2 : r = k
    · rw [if_pos e2, dt_set_ne e, e2, dt_set_eq]
    · rw [if_neg e2, if_neg e, dt_set_ne e, dt_set_ne e2]
theorem dt_tp_both (n : Nat) (A : Nat → Nat → Int) (k l : Nat) (hk : k < n) (hl : l < n) (hkl : k ≠ l) : dt_det n (fun r c => A (dt_tp k l r) (dt_tp k l c)) = dt_det n A := by
  rw [dt_tp_swap n (fun r c => A r (dt_tp k l c)) k l hk hl hkl, ← dt_tr n (fun r c => A r (dt_tp k l c)), dt_tp_swap n (fun r c => A c r) k l hk hl hkl, dt_tr n A]
  omega
theorem dt_zrow (n : Nat) (A : Nat → Nat → Int) (k : Nat) (hk : k < n) (h : ∀ c, c < n → A k c = 0) : dt_det n A = 0 := by
  have e : dt_det n A = dt_det n (dt_set A k (fun _ => 0 * 0 + 0 * 0)) := by
    refine dt_congr n (fun r c hr hc => ?_)
    by_cases e : r = k
    · rw [e, dt_set_eq, h c hc]
      rfl
    · rw [dt_set_ne e]
  rw [e, dt_lin n A k 0 0 (fun _ => 0) (fun _ => 0) hk]
  omega
theorem dt_linsum (n : Nat) (A : Nat → Nat → Int) (k : Nat) (hk : k < n) (x : Nat → Int) (U : Nat → Nat → Int) (m : Nat) : dt_det n (dt_set A k (fun c => dt_sum m (fun j => x j * U j c))) = dt_sum m (fun j => x j * dt_det n (dt_set A k (U j))) := by
  induction m with
  | zero => exact dt_zrow n _ k hk (fun c _ => dt_set_eq A k _ c)
  | succ m ih =>
    show _ = dt_sum m (fun j => x j * dt_det n (dt_set A k (U j))) + x m * dt_det n (dt_set A k (U m))
    rw [← ih, ← Int.one_mul (dt_det n (dt_set A k (fun c => dt_sum m (fun j => x j * U j c)))), ← dt_lin n A k 1 (x m) _ _ hk]
    congr 2
    funext c
    rw [Int.one_mul]
    rfl
theorem dt_radd_m (n : Nat) (A : Nat → Nat → Int) (i : Nat) (x : Nat → Int) (hi : i < n) (hx : x i = 0) (m : Nat) : dt_det n (fun r c => if r < m then A r c + x r * A i c else A r c) = dt_det n A := by
  induction m with
  | zero => exact dt_congr n (fun r c _ _ => if_neg (by omega))
  | succ m ih =>
    rw [← ih]
    by_cases hm : m < n
    · have e : dt_det n (fun r c => if r < m + 1 then A r c + x r * A i c else A r c) = dt_det n (dt_set (fun r c => if r < m then A r c + x r * A i c else A r c) m (fun c => 1 * A m c + x m * A i c)) := by
        refine dt_congr n (fun r c _ _ => ?_)
        by_cases e : r = m
        · rw [e, dt_set_eq, if_pos (by omega), Int.one_mul]
        · rw [dt_set_ne e]
          by_cases z : r < m
          · rw [if_pos z, if_pos (by omega)]
          · rw [if_neg z, if_neg (by omega)]
      rw [e, dt_lin n _ m 1 (x m) (A m) (A i) hm]
      have e1 : dt_set (fun r c => if r < m then A r c + x r * A i c else A r c) m (A m) = (fun r c => if r < m then A r c + x r * A i c else A r c) := by
        funext r c
        by_cases e : r = m
        · rw [e, dt_set_eq, if_neg (by omega)]
        · rw [dt_set_ne e]
      rw [e1]
      by_cases z : m = i
      · rw [z, hx]
        omega
      · have e2 : dt_det n (dt_set (fun r c => if r < m then A r c + x r * A i c else A r c) m (A i)) = 0 := by
          refine dt_rep n _ m i hm hi z (fun c _ => ?_)
          rw [dt_set_eq, dt_set_ne (fun h => z h.symm), hx]
          split <;> omega
        rw [e2]
        omega
    · exact dt_congr n (fun r c hr _ => by rw [if_pos (by omega), if_pos (by omega)])
theorem dt_radd (n : Nat) (A : Nat → Nat → Int) (i : Nat) (x : Nat → Int) (hi : i < n) (hx : x i = 0) : dt_det n (fun r c => A r c + x r * A i c) = dt_det n A := by
  rw [← dt_radd_m n A i x hi hx n]
  exact dt_congr n (fun r c hr _ => (if_pos hr).symm)
theorem dt_cadd (n : Nat) (A : Nat → Nat → Int) (i : Nat) (x : Nat → Int) (hi : i < n) (hx : x i = 0) : dt_det n (fun r c => A r c + x c * A r i) = dt_det n A := by
  rw [← dt_tr n A, ← dt_radd n (fun r c => A c r) i x hi hx]
  exact (dt_tr n _).symm
theorem dt_rank_m (n : Nat) (A : Nat → Nat → Int) (u v : Nat → Int) (m : Nat) (hm : m ≤ n) : dt_det n (fun r c => if r < m then A r c + u r * v c else A r c) = dt_det n A + dt_sum m (fun a => u a * dt_det n (dt_set A a v)) := by
  induction m with
  | zero =>
    rw [show dt_sum 0 (fun a => u a * dt_det n (dt_set A a v)) = 0 from rfl, Int.add_zero]
    exact dt_congr n (fun r c _ _ => if_neg (by omega))
  | succ m ih =>
    have e : dt_det n (fun r c => if r < m + 1 then A r c + u r * v c else A r c) = dt_det n (dt_set (fun r c => if r < m then A r c + u r * v c else A r c) m (fun c => 1 * A m c + u m * v c)) := by
      refine dt_congr n (fun r c _ _ => ?_)
      by_cases e : r = m
      · rw [e, dt_set_eq, if_pos (by omega), Int.one_mul]
      · rw [dt_set_ne e]
        by_cases z : r < m
        · rw [if_pos z, if_pos (by omega)]
        · rw [if_neg z, if_neg (by omega)]
    have e1 : dt_set (fun r c => if r < m then A r c + u r * v c else A r c) m (A m) = (fun r c => if r < m then A r c + u r * v c else A r c) := by
      funext r c
      by_cases e : r = m
      · rw [e, dt_set_eq, if_neg (by omega)]
      · rw [dt_set_ne e]
    have e2 : dt_det n (dt_set (fun r c => if r < m then A r c + u r * v c else A r c) m v) = dt_det n (dt_set A m v) := by
      rw [← dt_radd n (dt_set A m v) m (fun r => if r < m then u r else 0) (by omega) (if_neg (by omega))]
      refine dt_congr n (fun r c _ _ => ?_)
      rw [dt_set_eq]
      by_cases e : r = m
      · rw [e, dt_set_eq, dt_set_eq, if_neg (by omega)]
        omega
      · rw [dt_set_ne e, dt_set_ne e]
        by_cases z : r < m
        · rw [if_pos z, if_pos z]
        · rw [if_neg z, if_neg z]
          omega
    rw [e, dt_lin n _ m 1 (u m) (A m) v (by omega), e1, e2, ih (by omega)]
    show _ = dt_det n A + (dt_sum m (fun a => u a * dt_det n (dt_set A a v)) + u m * dt_det n (dt_set A m v))
    omega
theorem dt_rank (n : Nat) (A : Nat → Nat → Int) (u v : Nat → Int) : dt_det n (fun r c => A r c + u r * v c) = dt_det n A + dt_sum n (fun a => u a * dt_det n (dt_set A a v)) := by
  rw [← dt_rank_m n A u v n (Nat.le_refl n)]
  exact dt_congr n (fun r c hr _ => (if_pos hr).symm)
def dt_e (j c : Nat) : Int := if c = j then 1 else 0
theorem dt_e_eq (j : Nat) : dt_e j j = 1 := if_pos rfl
theorem dt_e_ne {j c : Nat} (h : c ≠ j) : dt_e j c = 0 := if_neg h
theorem dt_e_sum (n : Nat) (v : Nat → Int) {c : Nat} (hc : c < n) : dt_sum n (fun j => v j * dt_e j c) = v c := by
  rw [dt_sum_one hc (fun i _ hi => by rw [dt_e_ne (fun h => hi h.symm), Int.mul_zero]), dt_e_eq, Int.mul_one]
theorem dt_cof_v (n : Nat) (A : Nat → Nat → Int) (k : Nat) (hk : k < n) (v : Nat → Int) : dt_det n (dt_set A k v) = dt_sum n (fun j => v j * dt_det n (dt_set A k (dt_e j))) := by
  rw [← dt_linsum n A k hk v dt_e n]
  refine dt_congr n (fun r c _ hc => ?_)
  by_cases e : r = k
  · rw [e, dt_set_eq, dt_set_eq, dt_e_sum n v hc]
  · rw [dt_set_ne e, dt_set_ne e]
theorem dt_cof (n : Nat) (A : Nat → Nat → Int) (k : Nat) (hk : k < n) : dt_det n A = dt_sum n (fun j => A k j * dt_det n (dt_set A k (dt_e j))) := by
  rw [← dt_cof_v n A k hk (A k), dt_set_self]
theorem dt_del : ∀ (l n : Nat) (A : Nat → Nat → Int), l < n + 1 → (∀ c, c < n + 1 → A l c = dt_e l c) → dt_det (n + 1) A = dt_det n (fun r c => A (dt_sk l r) (dt_sk l c))
  | 0, n, A, hl, h => by
    rw [dt_row, dt_sum_one (k := 0) hl]
    · rw [h 0 hl, dt_e_eq]
      show (1 : Int) * 1 * _ = _
      simp only [dt_sk0]
      omega
    · intro i hi h0
      rw [h i hi, dt_e_ne h0]
      omega
  | l + 1, n, A, hl, h => by
    rw [← dt_tp_both (n + 1) A l (l + 1) (by omega) hl (by omega)]
    rw [dt_del l n _ (by omega)]
    · have e : ∀ r, dt_tp l (l + 1) (dt_sk l r) = dt_sk (l + 1) r := by
        intro r
        unfold dt_tp dt_sk
        (repeat' split) <;> omega
      simp only [e]
    · intro c hc
      have e1 : dt_tp l (l + 1) l = l + 1 := if_pos rfl
      rw [e1, h _ (by unfold dt_tp; (repeat' split) <;> omega)]
      unfold dt_e dt_tp
      (repeat' split) <;> omega
theorem dt_comb (n : Nat) (A : Nat → Nat → Int) (k : Nat) (hk : k < n) (p : Int) (x : Nat → Int) (m : Nat) (hm : m ≤ k) : dt_det n (dt_set A k (fun c => p * A k c + dt_sum m (fun r => x r * A r c))) = p * dt_det n A := by
  have e : dt_det n (dt_set A k (fun c => p * A k c + dt_sum m (fun r => x r * A r c))) = dt_det n (dt_set A k (fun c => p * A k c + 1 * dt_sum m (fun r => x r * A r c))) := by
    simp only [Int.one_mul]
  rw [e, dt_lin n A k p 1 (A k) (fun c => dt_sum m (fun r => x r * A r c)) hk, dt_set_self, dt_linsum n A k hk x A m, dt_sum_zero]
  · omega
  · intro i hi
    rw [dt_rep n (dt_set A k (A i)) k i hk (by omega) (by omega), Int.mul_zero]
    intro c _
    rw [dt_set_eq, dt_set_ne (by omega)]
end
section
def bz_ix (k i r : Nat) : Nat := if r < k then r else i
theorem bz_ix_lo {k i r : Nat} (h : r < k) : bz_ix k i r = r := if_pos h
theorem bz_ix_hi {k i r : Nat} (h : k ≤ r) : bz_ix k i r = i := if_neg (by omega)
def bz_mn (k : Nat) (A : Nat → Nat → Int) (i j : Nat) : Int := dt_det (k + 1) (fun r c => A (bz_ix k i r) (bz_ix k j c))
theorem bz_mn_tr (k : Nat) (A : Nat → Nat → Int) (i j : Nat) : bz_mn k (fun r c => A c r) i j = bz_mn k A j i := by
  unfold bz_mn
  exact dt_tr (k + 1) (fun r c => A (bz_ix k j r) (bz_ix k i c))
theorem bz_mn_zr (k : Nat) (A : Nat → Nat → Int) (i j : Nat) (h : i < k) : bz_mn k A i j = 0 := by
  unfold bz_mn
  refine dt_rep (k + 1) _ i k (by omega) (by omega) (by omega) (fun c _ => ?_)
  rw [bz_ix_lo h, bz_ix_hi (Nat.le_refl k)]
theorem bz_mn_zc (k : Nat) (A : Nat → Nat → Int) (i j : Nat) (h : j < k) : bz_mn k A i j = 0 := by
  rw [← bz_mn_tr]
  exact bz_mn_zr k _ j i h
theorem bz_mn_kk (k : Nat) (A : Nat → Nat → Int) : bz_mn k A k k = dt_det (k + 1) A := by
  unfold bz_mn
  have e : ∀ r, r < k + 1 → bz_ix k k r = r := by
    intro r hr
    unfold bz_ix
    split <;> omega
  exact dt_congr (k + 1) (fun r c hr hc => by rw [e r hr, e c hc])
theorem bz_exp (k : Nat) (A : Nat → Nat → Int) (x : Nat) : ∃ C : Nat → Int, ∀ y, bz_mn k A x y = dt_det k A * A x y + dt_sum k (fun r => C r * A r y) := by
  refine ⟨fun r => dt_det (k + 1) (dt_set (fun c' r' => A (bz_ix k x r') c') k (dt_e r)), fun y => ?_⟩
  have h : bz_mn k A x y = dt_det (k + 1) (fun c' r' => A (bz_ix k x r') (bz_ix k y c')) := (dt_tr (k + 1) (fun r c => A (bz_ix k x r) (bz_ix k y c))).symm
  have e : ∀ j, dt_det (k + 1) (dt_set (fun c' r' => A (bz_ix k x r') (bz_ix k y c')) k (dt_e j)) = dt_det (k + 1) (dt_set (fun c' r' => A (bz_ix k x r') c') k (dt_e j)) := by
    intro j
    refine dt_congr (k + 1) (fun r c hr hc => ?_)
    by_cases z : r = k
    · rw [z, dt_set_eq, dt_set_eq]
    · rw [dt_set_ne z, dt_set_ne z, bz_ix_lo (k := k) (i := y) (by omega)]
  have p : dt_det (k + 1) (dt_set (fun c' r' => A (bz_ix k x r') c') k (dt_e k)) = dt_det k A := by
    rw [dt_del k k _ (by omega) (fun c _ => dt_set_eq _ _ _ _), ← dt_tr k A]
    exact dt_congr k (fun r c hr hc => by rw [dt_sk_lo hr, dt_sk_lo hc, dt_set_ne (by omega), bz_ix_lo hc])
  rw [h, dt_cof (k + 1) _ k (by omega)]
  simp only [e]
  show dt_sum k (fun j => A (bz_ix k x j) (bz_ix k y k) * dt_det (k + 1) (dt_set (fun c' r' => A (bz_ix k x r') c') k (dt_e j))) + A (bz_ix k x k) (bz_ix k y k) * dt_det (k + 1) (dt_set (fun c' r' => A (bz_ix k x r') c') k (dt_e k)) = _
  rw [bz_ix_hi (k := k) (i := y) (Nat.le_refl k), bz_ix_hi (k := k) (i := x) (Nat.le_refl k), p, Int.add_comm, Int.mul_comm (A x y)]
  congr 1
  exact dt_sum_congr (fun j hj => by rw [bz_ix_lo hj, Int.mul_comm])
theorem bz_blk : ∀ (k : Nat) (A : Nat → Nat → Int), (∀ r c, k ≤ r → r < k + 2 → c < k → A r c = 0) → dt_det (k + 2) A = dt_det k A * (A k k * A (k + 1) (k + 1) - A k (k + 1) * A (k + 1) k)
  | 0, A, _ => by
    show 0 + dt_sg 0 * A 0 0 * (0 + dt_sg 0 * A (dt_sk 0 0) 1 * 1) + dt_sg 1 * A 1 0 * (0 + dt_sg 0 * A (dt_sk 1 0) 1 * 1) = 1 * (A 0 0 * A 1 1 - A 0 1 * A 1 0)
    rw [dt_sk0, dt_skz]
    show 0 + 1 * A 0 0 * (0 + 1 * A 1 1 * 1) + (-1) * A 1 0 * (0 + 1 * A 0 1 * 1) = 1 * (A 0 0 * A 1 1 - A 0 1 * A 1 0)
    grind
  | k + 1, A, h => by
    have e : dt_sum (k + 1) (fun i => dt_sg i * A i 0 * dt_det (k + 2) (fun r c => A (dt_sk i r) (c + 1))) = dt_sum (k + 1) (fun i => (A (k + 1) (k + 1) * A (k + 2) (k + 2) - A (k + 1) (k + 2) * A (k + 2) (k + 1)) * (dt_sg i * A i 0 * dt_det k (fun r c => A (dt_sk i r) (c + 1)))) := by
      refine dt_sum_congr (fun i hi => ?_)
      rw [bz_blk k (fun r c => A (dt_sk i r) (c + 1)) (fun r c h1 h2 h3 => by rw [dt_sk_hi (by omega)]; exact h (r + 1) (c + 1) (by omega) (by omega) (by omega)), dt_sk_hi (i := i) (r := k) (by omega), dt_sk_hi (i := i) (r := k + 1) (by omega)]
      generalize dt_det k (fun r c => A (dt_sk i r) (c + 1)) = X
      grind
    show dt_sum (k + 1) (fun i => dt_sg i * A i 0 * dt_det (k + 2) (fun r c => A (dt_sk i r) (c + 1))) + dt_sg (k + 1) * A (k + 1) 0 * dt_det (k + 2) (fun r c => A (dt_sk (k + 1) r) (c + 1)) + dt_sg (k + 2) * A (k + 2) 0 * dt_det (k + 2) (fun r c => A (dt_sk (k + 2) r) (c + 1)) = _
    rw [h (k + 1) 0 (by omega) (by omega) (by omega), h (k + 2) 0 (by omega) (by omega) (by omega), e, dt_sum_mul, ← dt_det_s]
    grind
theorem bz_syl (k : Nat) (A : Nat → Nat → Int) (i j : Nat) (hp : dt_det k A ≠ 0) : bz_mn k A i j * bz_mn k A k k - bz_mn k A i k * bz_mn k A k j = dt_det k A * bz_mn (k + 1) A i j := by
  obtain ⟨C, hC⟩ := bz_exp k A k
  obtain ⟨D, hD⟩ := bz_exp k A i
  have xl : ∀ t r, r < k + 1 → bz_ix (k + 1) t r = r := fun t r h => bz_ix_lo h
  have xh : ∀ t, bz_ix (k + 1) t (k + 1) = t := fun t => bz_ix_hi (Nat.le_refl _)
  have c1 := dt_comb (k + 2) (fun r c => A (bz_ix (k + 1) i r) (bz_ix (k + 1) j c)) k (by omega) (dt_det k A) C k (Nat.le_refl k)
  have c2 := dt_comb (k + 2) (dt_set (fun r c => A (bz_ix (k + 1) i r) (bz_ix (k + 1) j c)) k (fun c => dt_det k A * A (bz_ix (k + 1) i k) (bz_ix (k + 1) j c) + dt_sum k (fun r => C r * A (bz_ix (k + 1) i r) (bz_ix (k + 1) j c)))) (k + 1) (by omega) (dt_det k A) D k (by omega)
  rw [c1] at c2
  have e : dt_det (k + 2) (dt_set (dt_set (fun r c => A (bz_ix (k + 1) i r) (bz_ix (k + 1) j c)) k (fun c => dt_det k A * A (bz_ix (k + 1) i k) (bz_ix (k + 1) j c) + dt_sum k (fun r => C r * A (bz_ix (k + 1) i r) (bz_ix (k + 1) j c)))) (k + 1) (fun c => dt_det k A * dt_set (fun r c => A (bz_ix (k + 1) i r) (bz_ix (k + 1) j c)) k (fun c => dt_det k A * A (bz_ix (k + 1) i k) (bz_ix (k + 1) j c) + dt_sum k (fun r => C r * A (bz_ix (k + 1) i r) (bz_ix (k + 1) j c))) (k + 1) c + dt_sum k (fun r => D r * dt_set (fun r c => A (bz_ix (k + 1) i r) (bz_ix (k + 1) j c)) k (fun c => dt_det k A * A (bz_ix (k + 1) i k) (bz_ix (k + 1) j c) + dt_sum k (fun r => C r * A (bz_ix (k + 1) i r) (bz_ix (k + 1) j c))) r c))) = dt_det (k + 2) (fun r c => if r < k then A r (bz_ix (k + 1) j c) else if r = k then bz_mn k A k (bz_ix (k + 1) j c) else bz_mn k A i (bz_ix (k + 1) j c)) := by
    refine dt_congr (k + 2) (fun r c hr hc => ?_)
    by_cases z : r = k + 1
    · rw [z, dt_set_eq, if_neg (by omega), if_neg (by omega), hD, dt_set_ne (by omega), xh]
      congr 1
      refine dt_sum_congr (fun t ht => ?_)
      rw [dt_set_ne (by omega), xl i t (by omega)]
    · rw [dt_set_ne z]
      by_cases z2 : r = k
      · rw [z2, dt_set_eq, if_neg (by omega), if_pos rfl, hC, xl i k (by omega)]
        congr 1
        refine dt_sum_congr (fun t ht => ?_)
        rw [xl i t (by omega)]
      · rw [dt_set_ne z2, if_pos (by omega), xl i r (by omega)]
  rw [e, bz_blk k] at c2
  · rw [if_neg (by omega), if_pos rfl, if_neg (by omega), if_neg (by omega), if_neg (by omega), if_pos rfl, if_neg (by omega), if_neg (by omega), xh, xl j k (by omega)] at c2
    have e2 : dt_det k (fun r c => if r < k then A r (bz_ix (k + 1) j c) else if r = k then bz_mn k A k (bz_ix (k + 1) j c) else bz_mn k A i (bz_ix (k + 1) j c)) = dt_det k A := dt_congr k (fun r c hr hc => by rw [if_pos hr, xl j c (by omega)])
    rw [e2] at c2
    have c3 := Int.eq_of_mul_eq_mul_left hp c2
    unfold bz_mn at c3 ⊢
    rw [← c3]
    grind
  · intro r c h1 h2 h3
    rw [if_neg (by omega), xl j c (by omega)]
    split
    · exact bz_mn_zc k A k c h3
    · exact bz_mn_zc k A i c h3
theorem bz_nopiv (m k : Nat) (A : Nat → Nat → Int) (hk : k < m) (hp : dt_det k A ≠ 0) (h : ∀ i, k ≤ i → i < m → bz_mn k A i k = 0) : dt_det m A = 0 := by
  obtain ⟨C, hC⟩ := bz_exp k (fun r c => A c r) k
  have z : ∀ y, y < m → dt_det k A * A y k + dt_sum k (fun r => C r * A y r) = 0 := by
    intro y hy
    have t := hC y
    rw [bz_mn_tr, dt_tr] at t
    rw [← t]
    by_cases g : y < k
    · exact bz_mn_zr k A y k g
    · exact h y (by omega) hy
  have t := dt_comb m (fun r c => A c r) k hk (dt_det k A) C k (Nat.le_refl k)
  rw [dt_tr m A, dt_zrow m _ k hk (fun c hc => by rw [dt_set_eq]; exact z c hc)] at t
  exact (Int.mul_eq_zero.mp t.symm).resolve_left hp
def bz_bd (b : Nat) : Nat → Nat
  | 0 => 1
  | n + 1 => (n + 1) * (b * bz_bd b n)
theorem bz_sum_abs (n : Nat) (c : Nat) (f : Nat → Int) (h : ∀ i, i < n → (f i).natAbs ≤ c) : (dt_sum n f).natAbs ≤ n * c := by
  induction n with
  | zero => exact Nat.zero_le _
  | succ n ih =>
    have h1 := ih (fun i hi => h i (by omega))
    have h2 := h n (by omega)
    have h3 : (dt_sum (n + 1) f).natAbs ≤ (dt_sum n f).natAbs + (f n).natAbs := Int.natAbs_add_le _ _
    rw [Nat.succ_mul]
    omega
theorem bz_sg_abs (i : Nat) : (dt_sg i).natAbs = 1 := by
  induction i with
  | zero => rfl
  | succ i ih =>
    show (- dt_sg i).natAbs = 1
    rw [Int.natAbs_neg, ih]
theorem bz_bound : ∀ (n b : Nat) (A : Nat → Nat → Int), (∀ r c, r < n → c < n → (A r c).natAbs ≤ b) → (dt_det n A).natAbs ≤ bz_bd b n
  | 0, _, _, _ => Nat.le_refl 1
  | n + 1, b, A, h => by
    rw [dt_det_s]
    refine bz_sum_abs (n + 1) (b * bz_bd b n) _ (fun i hi => ?_)
    rw [Int.natAbs_mul, Int.natAbs_mul, bz_sg_abs, Nat.one_mul]
    exact Nat.mul_le_mul (h i 0 hi (by omega)) (bz_bound n b _ (fun r c hr hc => h _ _ (dt_sk_lt i hr) (by omega)))
theorem bz_mn_bd {m k b : Nat} {A : Nat → Nat → Int} {i j : Nat} (h : ∀ r c, r < m → c < m → (A r c).natAbs ≤ b) (hi : i < m) (hj : j < m) (hk : k < m) : (bz_mn k A i j).natAbs ≤ bz_bd b (k + 1) := by
  refine bz_bound (k + 1) b _ (fun r c hr hc => h _ _ ?_ ?_)
  · unfold bz_ix
    split <;> omega
  · unfold bz_ix
    split <;> omega
def bz_pad (p : Nat → Bool) (A : Nat → Nat → Int) : Nat → Nat → Int := fun r c => if p r = true ∧ p c = true then A r c else if r = c then 1 else 0
def bz_kl (p : Nat → Bool) (n : Nat) : List Nat := (List.range n).filter p
def bz_at (p : Nat → Bool) (n i : Nat) : Nat := (bz_kl p n).getD i 0
theorem bz_kl_s (p : Nat → Bool) (n : Nat) : bz_kl p (n + 1) = bz_kl p n ++ (if p n = true then [n] else []) := by
  unfold bz_kl
  rw [List.range_succ, List.filter_append, List.filter_cons, List.filter_nil]
theorem bz_kl_sk (p : Nat → Bool) (l : Nat) (hp : p l = false) : ∀ (n : Nat), l ≤ n → bz_kl p (n + 1) = (bz_kl (fun r => p (dt_sk l r)) n).map (dt_sk l) := by
  intro n
  induction n with
  | zero =>
    intro hl
    have e : l = 0 := by omega
    rw [bz_kl_s, e.symm, hp]
    subst e
    rfl
  | succ n ih =>
    intro hl
    by_cases e : l = n + 1
    · have h1 : bz_kl (fun r => p (dt_sk l r)) (n + 1) = bz_kl p (n + 1) := by
        refine List.filter_congr (fun x hx => ?_)
        rw [dt_sk_lo (by have := List.mem_range.mp hx; omega)]
      rw [bz_kl_s, h1, ← e, hp]
      have h2 : (bz_kl p l).map (dt_sk l) = (bz_kl p l).map id := by
        refine List.map_congr_left (fun x hx => ?_)
        have hx' := List.mem_range.mp (List.mem_filter.mp hx).1
        rw [dt_sk_lo (by omega)]
        rfl
      rw [h2, List.map_id]
      simp
    · rw [bz_kl_s, ih (by omega), bz_kl_s (fun r => p (dt_sk l r)) n, List.map_append, dt_sk_hi (by omega)]
      congr 1
      split
      · rw [List.map_cons, dt_sk_hi (by omega)]
        rfl
      · rfl
theorem bz_comp (n : Nat) : ∀ (p : Nat → Bool) (A : Nat → Nat → Int), dt_det (bz_kl p n).length (fun i j => A (bz_at p n i) (bz_at p n j)) = dt_det n (bz_pad p A) := by
  induction n with
  | zero => exact fun p A => rfl
  | succ n ih =>
    intro p A
    by_cases h : ∃ l, l < n + 1 ∧ p l = false
    · obtain ⟨l, hl, hp⟩ := h
      rw [dt_del l n (bz_pad p A) hl]
      · have e1 : dt_det n (fun r c => bz_pad p A (dt_sk l r) (dt_sk l c)) = dt_det n (bz_pad (fun r => p (dt_sk l r)) (fun r c => A (dt_sk l r) (dt_sk l c))) := by
          refine dt_congr n (fun r c _ _ => ?_)
          unfold bz_pad
          by_cases g : r = c
          · rw [g, if_pos (rfl : c = c), if_pos rfl]
          · rw [if_neg (fun z => g (dt_sk_inj.mp z)), if_neg g]
        rw [e1, ← ih]
        have e2 : (bz_kl p (n + 1)).length = (bz_kl (fun r => p (dt_sk l r)) n).length := by
          rw [bz_kl_sk p l hp n (by omega), List.length_map]
        rw [e2]
        have e3 : ∀ i, i < (bz_kl (fun r => p (dt_sk l r)) n).length → bz_at p (n + 1) i = dt_sk l (bz_at (fun r => p (dt_sk l r)) n i) := by
          intro i hi
          unfold bz_at
          rw [bz_kl_sk p l hp n (by omega), List.getD_eq_getElem?_getD, List.getD_eq_getElem?_getD, List.getElem?_map, List.getElem?_eq_getElem hi]
          rfl
        exact dt_congr _ (fun i j hi hj => by rw [e3 i hi, e3 j hj])
      · intro c _
        unfold bz_pad dt_e
        rw [if_neg (fun z => by rw [hp] at z; exact absurd z.1 (by decide))]
        by_cases g : l = c
        · rw [if_pos g, if_pos g.symm]
        · rw [if_neg g, if_neg (fun z => g z.symm)]
    · have ha : ∀ l, l < n + 1 → p l = true := by
        intro l hl
        cases g : p l with
        | true => rfl
        | false => exact absurd ⟨l, hl, g⟩ h
      have e : bz_kl p (n + 1) = List.range (n + 1) := by
        unfold bz_kl
        exact List.filter_eq_self.mpr (fun x hx => ha x (List.mem_range.mp hx))
      have e2 : (bz_kl p (n + 1)).length = n + 1 := by rw [e, List.length_range]
      rw [e2]
      refine dt_congr (n + 1) (fun r c hr hc => ?_)
      have e3 : ∀ i, i < n + 1 → bz_at p (n + 1) i = i := by
        intro i hi
        unfold bz_at
        rw [e, List.getD_eq_getElem?_getD, List.getElem?_range hi]
        rfl
      rw [e3 r hr, e3 c hc]
      unfold bz_pad
      rw [if_pos ⟨ha r hr, ha c hc⟩]
end
section
def gf_N (A : Nat → Nat → Int) (i j : Nat) : Nat → Nat → Int := fun r c => if r = i then dt_e j c else if c = j then 0 else A r c
theorem gf_rc (n : Nat) (A : Nat → Nat → Int) (i j : Nat) (hi : i < n) : dt_det n (dt_set A i (dt_e j)) = dt_det n (gf_N A i j) := by
  rw [← dt_radd n (dt_set A i (dt_e j)) i (fun r => if r = i then 0 else - A r j) hi (if_pos rfl)]
  refine dt_congr n (fun r c _ _ => ?_)
  unfold gf_N
  rw [dt_set_eq]
  by_cases e : r = i
  · rw [if_pos e, if_pos e, e, dt_set_eq]
    omega
  · rw [if_neg e, if_neg e, dt_set_ne e]
    by_cases e2 : c = j
    · rw [if_pos e2, e2, dt_e_eq]
      omega
    · rw [if_neg e2, dt_e_ne e2]
      omega
theorem gf_sym (n : Nat) (A : Nat → Nat → Int) (i j : Nat) (hi : i < n) (hj : j < n) (hs : ∀ r c, r < n → c < n → A r c = A c r) : dt_det n (dt_set A i (dt_e j)) = dt_det n (dt_set A j (dt_e i)) := by
  rw [gf_rc n A i j hi, gf_rc n A j i hj, ← dt_tr n (gf_N A i j)]
  refine dt_congr n (fun r c hr hc => ?_)
  unfold gf_N
  by_cases e1 : c = i
  · rw [if_pos e1]
    by_cases e2 : r = j
    · rw [if_pos e2, e1, e2, dt_e_eq, dt_e_eq]
    · rw [if_neg e2, if_pos e1, dt_e_ne e2]
  · rw [if_neg e1]
    by_cases e2 : r = j
    · rw [if_pos e2, if_pos e2, dt_e_ne e1]
    · rw [if_neg e2, if_neg e2, if_neg e1]
      exact hs c r hc hr
theorem gf_zsum (n : Nat) (M : Nat → Nat → Int) (hn : 0 < n) (h : ∀ r, r < n → dt_sum n (fun c => M r c) = 0) : dt_det n M = 0 := by
  have a := dt_linsum n (fun r c => M c r) 0 hn (fun _ => 1) (fun r c => M c r) n
  rw [dt_zrow n _ 0 hn, dt_sum_one (k := 0) hn, Int.one_mul] at a
  · have e : dt_set (fun r c => M c r) 0 (fun c => M c 0) = (fun r c => M c r) := dt_set_self (fun r c => M c r) 0
    rw [e, dt_tr] at a
    exact a.symm
  · intro i hi h0
    rw [dt_rep n _ 0 i hn hi (fun z => h0 z.symm), Int.mul_zero]
    intro c _
    rw [dt_set_eq, dt_set_ne h0]
  · intro c hc
    rw [dt_set_eq]
    simp only [Int.one_mul]
    exact h c hc
def gf_d (x a : Nat) : Int := if x = a then 1 else 0
def gf_t (w : Nat → Nat → Int) (g : Nat → Nat) (a b u v : Nat) : Int := w u v * (gf_d (g u) a * (gf_d (g u) b - gf_d (g v) b))
def gf_L (n : Nat) (g : Nat → Nat) (w : Nat → Nat → Int) (a b : Nat) : Int := dt_sum n (fun u => dt_sum n (fun v => gf_t w g a b u v))
def gf_be (g : Nat → Nat) (x y a : Nat) : Int := gf_d (g x) a - gf_d (g y) a
theorem gf_two (n : Nat) (g : Nat → Nat) (w : Nat → Nat → Int) (hs : ∀ u v, u < n → v < n → w u v = w v u) (a b : Nat) : dt_sum n (fun u => dt_sum n (fun v => w u v * (gf_be g u v a * gf_be g u v b))) = 2 * gf_L n g w a b := by
  have s : gf_L n g w a b = dt_sum n (fun u => dt_sum n (fun v => gf_t w g a b v u)) := dt_sum_swap n n (fun u v => gf_t w g a b u v)
  have e : dt_sum n (fun u => dt_sum n (fun v => w u v * (gf_be g u v a * gf_be g u v b))) = gf_L n g w a b + dt_sum n (fun u => dt_sum n (fun v => gf_t w g a b v u)) := by
    unfold gf_L
    rw [← dt_sum_add]
    refine dt_sum_congr (fun u hu => ?_)
    rw [← dt_sum_add]
    refine dt_sum_congr (fun v hv => ?_)
    unfold gf_t gf_be
    rw [hs v u hv hu]
    grind
  omega
theorem gf_L_sym (n : Nat) (g : Nat → Nat) (w : Nat → Nat → Int) (hs : ∀ u v, u < n → v < n → w u v = w v u) (a b : Nat) : gf_L n g w a b = gf_L n g w b a := by
  have h1 := gf_two n g w hs a b
  have h2 := gf_two n g w hs b a
  have e : dt_sum n (fun u => dt_sum n (fun v => w u v * (gf_be g u v a * gf_be g u v b))) = dt_sum n (fun u => dt_sum n (fun v => w u v * (gf_be g u v b * gf_be g u v a))) := dt_sum_congr (fun u _ => dt_sum_congr (fun v _ => by rw [Int.mul_comm (gf_be g u v a)]))
  omega
theorem gf_d_sum (n x : Nat) (h : x < n) : dt_sum n (fun b => gf_d x b) = 1 := by
  rw [dt_sum_one (f := fun b => gf_d x b) h (fun i _ hi => if_neg (fun z => hi z.symm))]
  exact if_pos rfl
theorem gf_L_row (n : Nat) (g : Nat → Nat) (w : Nat → Nat → Int) (hg : ∀ v, v < n → g v < n) (a : Nat) : dt_sum n (fun b => gf_L n g w a b) = 0 := by
  unfold gf_L
  rw [dt_sum_swap]
  refine dt_sum_zero (fun u hu => ?_)
  rw [dt_sum_swap]
  refine dt_sum_zero (fun v hv => ?_)
  have e : dt_sum n (fun b => gf_t w g a b u v) = dt_sum n (fun b => (w u v * gf_d (g u) a) * gf_d (g u) b + (-(w u v * gf_d (g u) a)) * gf_d (g v) b) := dt_sum_congr (fun b _ => by unfold gf_t; grind)
  rw [e, dt_sum_add, dt_sum_mul, dt_sum_mul, gf_d_sum n (g u) (hg u hu), gf_d_sum n (g v) (hg v hv)]
  omega
def gf_z (w : Nat → Nat → Int) (x y : Nat) : Nat → Nat → Int := fun u v => if (u = x ∧ v = y) ∨ (u = y ∧ v = x) then 0 else w u v
theorem gf_L_z (n : Nat) (g : Nat → Nat) (w : Nat → Nat → Int) (x y : Nat) (hx : x < n) (hy : y < n) (hxy : x ≠ y) (hs : w y x = w x y) (a b : Nat) : gf_L n g w a b = gf_L n g (gf_z w x y) a b + w x y * (gf_be g x y a * gf_be g x y b) := by
  have e : gf_L n g w a b = gf_L n g (gf_z w x y) a b + dt_sum n (fun u => dt_sum n (fun v => (w u v - gf_z w x y u v) * (gf_d (g u) a * (gf_d (g u) b - gf_d (g v) b)))) := by
    unfold gf_L
    rw [← dt_sum_add]
    refine dt_sum_congr (fun u hu => ?_)
    rw [← dt_sum_add]
    refine dt_sum_congr (fun v hv => ?_)
    unfold gf_t
    grind
  have z : ∀ u v, ¬ ((u = x ∧ v = y) ∨ (u = y ∧ v = x)) → (w u v - gf_z w x y u v) * (gf_d (g u) a * (gf_d (g u) b - gf_d (g v) b)) = 0 := by
    intro u v h
    have : gf_z w x y u v = w u v := if_neg h
    rw [this, Int.sub_self, Int.zero_mul]
  have z1 : gf_z w x y x y = 0 := if_pos (Or.inl ⟨rfl, rfl⟩)
  have z2 : gf_z w x y y x = 0 := if_pos (Or.inr ⟨rfl, rfl⟩)
  rw [e, dt_sum_two hx hy hxy (fun i hi h1 h2 => dt_sum_zero (fun j hj => z i j (by omega))), dt_sum_one hy (fun i hi h => z x i (by omega)), dt_sum_one hx (fun i hi h => z y i (by omega)), z1, z2, hs]
  unfold gf_be
  grind
def gf_K (g : Nat → Nat) (x y v : Nat) : Bool := decide (g v = v ∧ v ≠ x ∧ v ≠ y)
def gf_D (n : Nat) (g : Nat → Nat) (w : Nat → Nat → Int) : Int := dt_det n (bz_pad (gf_K g 0 0) (gf_L n g w))
def gf_ok (n : Nat) (g : Nat → Nat) : Prop := ∀ v, v < n → g v ≤ v ∧ g (g v) = g v
def gf_m (g : Nat → Nat) (x y : Nat) : Nat → Nat := fun v => if g v = max (g x) (g y) then min (g x) (g y) else g v
theorem bz_pad_t {p : Nat → Bool} {A : Nat → Nat → Int} {r c : Nat} (hr : p r = true) (hc : p c = true) : bz_pad p A r c = A r c := if_pos ⟨hr, hc⟩
theorem bz_pad_r {p : Nat → Bool} {A : Nat → Nat → Int} {r c : Nat} (hr : ¬ p r = true) : bz_pad p A r c = if r = c then 1 else 0 := if_neg (fun z => hr z.1)
theorem bz_pad_c {p : Nat → Bool} {A : Nat → Nat → Int} {r c : Nat} (hc : ¬ p c = true) : bz_pad p A r c = if r = c then 1 else 0 := if_neg (fun z => hc z.2)
theorem gf_same (n : Nat) (g : Nat → Nat) (w : Nat → Nat → Int) (x y : Nat) (hx : x < n) (hy : y < n) (hxy : x ≠ y) (hs : w y x = w x y) (he : g x = g y) : gf_D n g w = gf_D n g (gf_z w x y) := by
  have e : ∀ a b, gf_L n g w a b = gf_L n g (gf_z w x y) a b := by
    intro a b
    rw [gf_L_z n g w x y hx hy hxy hs a b]
    unfold gf_be
    rw [he]
    grind
  have e2 : gf_L n g w = gf_L n g (gf_z w x y) := by
    funext a b
    exact e a b
  unfold gf_D
  rw [e2]
theorem gf_opr (n : Nat) (A : Nat → Nat → Int) (l : Nat) (x : Nat → Int) (hl : l < n) (hx : x l = 0) : dt_det n (fun r c => (A r c + x r * A l c) + x c * (A r l + x r * A l l)) = dt_det n A := by
  rw [← dt_radd n A l x hl hx, ← dt_cadd n (fun r c => A r c + x r * A l c) l x hl hx]
theorem gf_L_m (n : Nat) (g h : Nat → Nat) (w : Nat → Nat → Int) (s l r c : Nat) (hr : r ≠ l) (hc : c ≠ l) (hh : ∀ u, h u = if g u = l then s else g u) : gf_L n h w r c = (gf_L n g w r c + (if r = s then 1 else 0) * gf_L n g w l c) + (if c = s then 1 else 0) * (gf_L n g w r l + (if r = s then 1 else 0) * gf_L n g w l l) := by
  have hd : ∀ u a, a ≠ l → gf_d (h u) a = gf_d (g u) a + (if a = s then 1 else 0) * gf_d (g u) l := by
    intro u a ha
    rw [hh u]
    unfold gf_d
    by_cases z : g u = l
    · rw [if_pos z, if_pos z, z, if_neg (fun t : l = a => ha t.symm)]
      by_cases t : s = a
      · rw [if_pos t, if_pos t.symm]
        omega
      · rw [if_neg t, if_neg (fun q => t q.symm)]
        omega
    · rw [if_neg z, if_neg z]
      omega
  generalize hδ : (if r = s then (1 : Int) else 0) = dr
  generalize hε : (if c = s then (1 : Int) else 0) = dc
  unfold gf_L
  rw [← dt_sum_mul n dr, ← dt_sum_mul n dr, ← dt_sum_add, ← dt_sum_add, ← dt_sum_mul n dc, ← dt_sum_add]
  refine dt_sum_congr (fun u _ => ?_)
  rw [← dt_sum_mul n dr, ← dt_sum_mul n dr, ← dt_sum_add, ← dt_sum_add, ← dt_sum_mul n dc, ← dt_sum_add]
  refine dt_sum_congr (fun v _ => ?_)
  unfold gf_t
  rw [hd u r hr, hd u c hc, hd v c hc, hδ, hε]
  grind
end
section
theorem gf_ring2 (a b c : Int) : a * b * (a * c) = a * a * (b * c) := by
  grind
theorem gf_ring1 (a1 a2 a3 a4 br bc bl kr kc W : Int) : (a1 + W * (br * bc) + kr * (a2 + W * (bl * bc))) + kc * (a3 + W * (br * bl) + kr * (a4 + W * (bl * bl))) = ((a1 + kr * a2) + kc * (a3 + kr * a4)) + W * ((br + kr * bl) * (bc + kc * bl)) := by
  grind
theorem gf_dc0 (n : Nat) (g h : Nat → Nat) (w : Nat → Nat → Int) (x y s l : Nat) (hx : x < n) (hy : y < n) (hxy : x ≠ y) (hs : w y x = w x y) (hsl : s < l) (hl : l < n) (gs : g s = s) (gl : g l = l) (hst : (g x = s ∧ g y = l) ∨ (g x = l ∧ g y = s)) (hh : ∀ u, h u = if g u = l then s else g u) : gf_D n g w = gf_D n g (gf_z w x y) + w x y * gf_D n h (gf_z w x y) := by
  have b0 : ∀ a, a ≠ s → a ≠ l → gf_be g x y a = 0 := by
    intro a h1 h2
    unfold gf_be gf_d
    rcases hst with ⟨e1, e2⟩ | ⟨e1, e2⟩
    · rw [e1, e2, if_neg (fun z : s = a => h1 z.symm), if_neg (fun z : l = a => h2 z.symm)]
      rfl
    · rw [e1, e2, if_neg (fun z : s = a => h1 z.symm), if_neg (fun z : l = a => h2 z.symm)]
      rfl
  have b1 : gf_be g x y s + gf_be g x y l = 0 := by
    unfold gf_be gf_d
    rcases hst with ⟨e1, e2⟩ | ⟨e1, e2⟩
    · rw [e1, e2, if_pos rfl, if_pos rfl, if_neg (show ¬ l = s by omega), if_neg (show ¬ s = l by omega)]
      rfl
    · rw [e1, e2, if_pos rfl, if_pos rfl, if_neg (show ¬ l = s by omega), if_neg (show ¬ s = l by omega)]
      rfl
  have b2 : gf_be g x y l * gf_be g x y l = 1 := by
    unfold gf_be gf_d
    rcases hst with ⟨e1, e2⟩ | ⟨e1, e2⟩
    · rw [e1, e2, if_pos rfl, if_neg (show ¬ s = l by omega)]
      rfl
    · rw [e1, e2, if_pos rfl, if_neg (show ¬ s = l by omega)]
      rfl
  have pl : gf_K g 0 0 l = true := decide_eq_true ⟨gl, by omega, by omega⟩
  obtain ⟨k, hk⟩ : ∃ k : Nat → Int, ∀ r, k r = if r = s ∧ gf_K g 0 0 s = true then 1 else 0 := ⟨_, fun _ => rfl⟩
  obtain ⟨b, hb⟩ : ∃ b : Nat → Int, ∀ r, b r = if gf_K g 0 0 r = true then gf_be g x y r else 0 := ⟨_, fun _ => rfl⟩
  have kl : k l = 0 := by
    rw [hk]
    exact if_neg (fun z => absurd z.1 (by omega))
  have hB : ∀ r c, bz_pad (gf_K g 0 0) (gf_L n g w) r c = bz_pad (gf_K g 0 0) (gf_L n g (gf_z w x y)) r c + w x y * (b r * b c) := by
    intro r c
    by_cases hr : gf_K g 0 0 r = true
    · by_cases hc : gf_K g 0 0 c = true
      · rw [bz_pad_t hr hc, bz_pad_t hr hc, hb, hb, if_pos hr, if_pos hc]
        exact gf_L_z n g w x y hx hy hxy hs r c
      · rw [bz_pad_c hc, bz_pad_c hc, hb c, if_neg hc]
        omega
    · rw [bz_pad_r hr, bz_pad_r hr, hb r, if_neg hr]
      omega
  have hb' : ∀ r, b r + k r * b l = gf_be g x y l * dt_e l r := by
    intro r
    have bl : b l = gf_be g x y l := by rw [hb, if_pos pl]
    by_cases e : r = l
    · rw [e, kl, bl, dt_e_eq]
      omega
    · rw [dt_e_ne e]
      by_cases e2 : r = s
      · by_cases ps : gf_K g 0 0 s = true
        · rw [hk, if_pos ⟨e2, ps⟩, bl, e2, hb, if_pos ps]
          omega
        · rw [hk, if_neg (fun z => ps z.2), e2, hb, if_neg ps]
          omega
      · have z : b r = 0 := by
          rw [hb, b0 r e2 e]
          split <;> rfl
        rw [z, hk, if_neg (fun z => e2 z.1)]
        omega
  obtain ⟨A, hA⟩ : ∃ A : Nat → Nat → Int, A = bz_pad (gf_K g 0 0) (gf_L n g (gf_z w x y)) := ⟨_, rfl⟩
  obtain ⟨P, hP⟩ : ∃ P : Nat → Nat → Int, P = fun r c => (A r c + k r * A l c) + k c * (A r l + k r * A l l) := ⟨_, rfl⟩
  have key : ∀ r c, (bz_pad (gf_K g 0 0) (gf_L n g w) r c + k r * bz_pad (gf_K g 0 0) (gf_L n g w) l c) + k c * (bz_pad (gf_K g 0 0) (gf_L n g w) r l + k r * bz_pad (gf_K g 0 0) (gf_L n g w) l l) = P r c + w x y * (dt_e l r * dt_e l c) := by
    intro r c
    have hPe : P r c = (A r c + k r * A l c) + k c * (A r l + k r * A l l) := by rw [hP]
    rw [hB r c, hB l c, hB r l, hB l l, hPe, ← hA, gf_ring1, hb' r, hb' c]
    have h3 : gf_be g x y l * dt_e l r * (gf_be g x y l * dt_e l c) = (gf_be g x y l * gf_be g x y l) * (dt_e l r * dt_e l c) := gf_ring2 _ _ _
    rw [h3, b2, Int.one_mul]
  have e1 : gf_D n g w = dt_det n (dt_set P l (fun c => 1 * P l c + w x y * dt_e l c)) := by
    unfold gf_D
    rw [← gf_opr n (bz_pad (gf_K g 0 0) (gf_L n g w)) l k hl kl]
    refine dt_congr n (fun r c _ _ => ?_)
    rw [key]
    by_cases z : r = l
    · rw [z, dt_set_eq, dt_e_eq, Int.one_mul, Int.one_mul]
    · rw [dt_set_ne z, dt_e_ne z, Int.zero_mul, Int.mul_zero, Int.add_zero]
  have e2 : dt_det n P = gf_D n g (gf_z w x y) := by
    rw [hP, gf_opr n A l k hl kl, hA]
    rfl
  have hq : ∀ r, r ≠ l → (gf_K h 0 0 r = true ↔ gf_K g 0 0 r = true) := by
    intro r hr
    unfold gf_K
    rw [decide_eq_true_iff, decide_eq_true_iff, hh r]
    by_cases z : g r = l
    · rw [if_pos z]
      constructor
      · intro t
        have t1 := t.1
        rw [← t1] at z
        omega
      · intro t
        have t1 := t.1
        omega
    · rw [if_neg z]
  have ql : ¬ gf_K h 0 0 l = true := by
    unfold gf_K
    rw [decide_eq_true_iff, hh l, if_pos gl]
    intro t
    have t1 := t.1
    omega
  have kp : ∀ r, gf_K g 0 0 r = true → k r = if r = s then 1 else 0 := by
    intro r hr
    rw [hk]
    by_cases z : r = s
    · rw [if_pos z, if_pos ⟨z, z ▸ hr⟩]
    · rw [if_neg z, if_neg (fun t => z t.1)]
  have kn : ∀ r, ¬ gf_K g 0 0 r = true → k r = 0 := by
    intro r hr
    rw [hk]
    exact if_neg (fun t => hr (by rw [t.1]; exact t.2))
  have e3 : dt_det n (dt_set P l (dt_e l)) = gf_D n h (gf_z w x y) := by
    rw [gf_rc n P l l hl]
    unfold gf_D
    refine dt_congr n (fun r c _ _ => ?_)
    unfold gf_N
    by_cases zr : r = l
    · rw [if_pos zr, zr, bz_pad_r ql]
      unfold dt_e
      by_cases t : l = c
      · rw [if_pos t, if_pos t.symm]
      · rw [if_neg t, if_neg (fun q : c = l => t q.symm)]
    · rw [if_neg zr]
      by_cases zc : c = l
      · rw [if_pos zc, zc, bz_pad_c ql, if_neg zr]
      · rw [if_neg zc, hP, hA]
        dsimp only
        by_cases hr : gf_K g 0 0 r = true
        · by_cases hc : gf_K g 0 0 c = true
          · rw [bz_pad_t hr hc, bz_pad_t pl hc, bz_pad_t hr pl, bz_pad_t pl pl, bz_pad_t ((hq r zr).mpr hr) ((hq c zc).mpr hc), kp r hr, kp c hc]
            exact (gf_L_m n g h (gf_z w x y) s l r c zr zc hh).symm
          · have rc : ¬ r = c := fun t => hc (t ▸ hr)
            rw [bz_pad_c hc, bz_pad_c hc, bz_pad_c (fun t => hc ((hq c zc).mp t)), kn c hc, if_neg rc, if_neg (fun q : l = c => zc q.symm)]
            omega
        · rw [bz_pad_r hr, bz_pad_r hr, bz_pad_r (fun t => hr ((hq r zr).mp t)), kn r hr, if_neg zr]
          omega
  rw [e1, dt_lin n P l 1 (w x y) (P l) (dt_e l) hl, dt_set_self, e2, e3, Int.one_mul]
theorem gf_dc (n : Nat) (g : Nat → Nat) (w : Nat → Nat → Int) (x y : Nat) (hg : gf_ok n g) (hx : x < n) (hy : y < n) (hxy : x ≠ y) (hs : w y x = w x y) (hne : g x ≠ g y) : gf_D n g w = gf_D n g (gf_z w x y) + w x y * gf_D n (gf_m g x y) (gf_z w x y) := by
  have h1 := hg x hx
  have h2 := hg y hy
  rcases Nat.lt_or_gt_of_ne hne with z | z
  · exact gf_dc0 n g (gf_m g x y) w x y (g x) (g y) hx hy hxy hs z (by omega) h1.2 h2.2 (Or.inl ⟨rfl, rfl⟩) (fun u => by unfold gf_m; rw [Nat.max_eq_right (by omega), Nat.min_eq_left (by omega)])
  · exact gf_dc0 n g (gf_m g x y) w x y (g y) (g x) hx hy hxy hs z (by omega) h2.2 h1.2 (Or.inr ⟨rfl, rfl⟩) (fun u => by unfold gf_m; rw [Nat.max_eq_left (by omega), Nat.min_eq_right (by omega)])
def gf_b (g : Nat → Nat) (x y r : Nat) : Int := if gf_K g 0 0 r = true then gf_be g x y r else 0
def gf_cf (n : Nat) (g : Nat → Nat) (w : Nat → Nat → Int) (a j : Nat) : Int := dt_det n (dt_set (bz_pad (gf_K g 0 0) (gf_L n g w)) a (dt_e j))
def gf_Q (n : Nat) (g : Nat → Nat) (w : Nat → Nat → Int) (x y : Nat) : Int := dt_sum n (fun a => dt_sum n (fun j => gf_b g x y a * (gf_b g x y j * gf_cf n g w a j)))
theorem gf_del (n : Nat) (g : Nat → Nat) (w : Nat → Nat → Int) (x y : Nat) (hx : x < n) (hy : y < n) (hxy : x ≠ y) (hs : w y x = w x y) : gf_D n g w - gf_D n g (gf_z w x y) = w x y * gf_Q n g w x y := by
  have hB : ∀ r c, bz_pad (gf_K g 0 0) (gf_L n g (gf_z w x y)) r c = bz_pad (gf_K g 0 0) (gf_L n g w) r c + (-(w x y) * gf_b g x y r) * gf_b g x y c := by
    intro r c
    unfold gf_b
    by_cases hr : gf_K g 0 0 r = true
    · by_cases hc : gf_K g 0 0 c = true
      · rw [bz_pad_t hr hc, bz_pad_t hr hc, if_pos hr, if_pos hc, gf_L_z n g w x y hx hy hxy hs r c]
        generalize gf_L n g (gf_z w x y) r c = q
        generalize gf_be g x y r = q1
        generalize gf_be g x y c = q2
        grind
      · rw [bz_pad_c hc, bz_pad_c hc, if_neg hc]
        omega
    · rw [bz_pad_r hr, bz_pad_r hr, if_neg hr]
      grind
  have e : gf_D n g (gf_z w x y) = gf_D n g w + dt_sum n (fun a => (-(w x y) * gf_b g x y a) * dt_det n (dt_set (bz_pad (gf_K g 0 0) (gf_L n g w)) a (gf_b g x y))) := by
    unfold gf_D
    rw [← dt_rank n (bz_pad (gf_K g 0 0) (gf_L n g w)) (fun a => -(w x y) * gf_b g x y a) (gf_b g x y)]
    exact dt_congr n (fun r c _ _ => hB r c)
  have e2 : dt_sum n (fun a => (-(w x y) * gf_b g x y a) * dt_det n (dt_set (bz_pad (gf_K g 0 0) (gf_L n g w)) a (gf_b g x y))) = -(w x y) * gf_Q n g w x y := by
    unfold gf_Q
    rw [← dt_sum_mul]
    refine dt_sum_congr (fun a ha => ?_)
    rw [dt_cof_v n _ a ha (gf_b g x y), ← dt_sum_mul, ← dt_sum_mul]
    refine dt_sum_congr (fun j hj => ?_)
    unfold gf_cf
    grind
  rw [e, e2]
  grind
theorem gf_swap3 (n : Nat) (F : Nat → Nat → Nat → Int) : dt_sum n (fun x => dt_sum n (fun y => dt_sum n (fun a => F x y a))) = dt_sum n (fun a => dt_sum n (fun x => dt_sum n (fun y => F x y a))) := by
  have e : dt_sum n (fun x => dt_sum n (fun y => dt_sum n (fun a => F x y a))) = dt_sum n (fun x => dt_sum n (fun a => dt_sum n (fun y => F x y a))) := dt_sum_congr (fun x _ => dt_sum_swap n n (fun y a => F x y a))
  rw [e]
  exact dt_sum_swap n n (fun x a => dt_sum n (fun y => F x y a))
theorem gf_euler (n : Nat) (g : Nat → Nat) (w : Nat → Nat → Int) (hs : ∀ u v, u < n → v < n → w u v = w v u) : dt_sum n (fun x => dt_sum n (fun y => w x y * gf_Q n g w x y)) = 2 * dt_sum n (fun a => if gf_K g 0 0 a = true then 1 else 0) * gf_D n g w := by
  have s1 : dt_sum n (fun x => dt_sum n (fun y => w x y * gf_Q n g w x y)) = dt_sum n (fun x => dt_sum n (fun y => dt_sum n (fun a => dt_sum n (fun j => w x y * (gf_b g x y a * (gf_b g x y j * gf_cf n g w a j)))))) := by
    refine dt_sum_congr (fun x _ => dt_sum_congr (fun y _ => ?_))
    unfold gf_Q
    rw [← dt_sum_mul]
    refine dt_sum_congr (fun a _ => ?_)
    rw [← dt_sum_mul]
  have s5 : ∀ a, a < n → dt_sum n (fun x => dt_sum n (fun y => dt_sum n (fun j => w x y * (gf_b g x y a * (gf_b g x y j * gf_cf n g w a j))))) = (2 * gf_D n g w) * (if gf_K g 0 0 a = true then 1 else 0) := by
    intro a ha
    rw [gf_swap3]
    by_cases pa : gf_K g 0 0 a = true
    · rw [if_pos pa, Int.mul_one]
      have c : gf_D n g w = _ := dt_cof n (bz_pad (gf_K g 0 0) (gf_L n g w)) a ha
      rw [c, ← dt_sum_mul]
      refine dt_sum_congr (fun j _ => ?_)
      by_cases pj : gf_K g 0 0 j = true
      · have q : ∀ x y, w x y * (gf_b g x y a * (gf_b g x y j * gf_cf n g w a j)) = gf_cf n g w a j * (w x y * (gf_be g x y a * gf_be g x y j)) := by
          intro x y
          unfold gf_b
          rw [if_pos pa, if_pos pj]
          grind
        simp only [q]
        have q2 : dt_sum n (fun x => dt_sum n (fun y => gf_cf n g w a j * (w x y * (gf_be g x y a * gf_be g x y j)))) = gf_cf n g w a j * (2 * gf_L n g w a j) := by
          rw [← gf_two n g w hs a j, ← dt_sum_mul]
          refine dt_sum_congr (fun x _ => ?_)
          rw [← dt_sum_mul]
        rw [q2, bz_pad_t pa pj]
        unfold gf_cf
        grind
      · rw [bz_pad_c pj, if_neg (fun t : a = j => pj (t ▸ pa))]
        rw [dt_sum_zero (fun x _ => dt_sum_zero (fun y _ => ?_))]
        · omega
        · unfold gf_b
          rw [if_neg pj]
          omega
    · rw [if_neg pa]
      rw [dt_sum_zero (fun j _ => dt_sum_zero (fun x _ => dt_sum_zero (fun y _ => ?_)))]
      · omega
      · unfold gf_b
        rw [if_neg pa]
        omega
  rw [s1, gf_swap3, dt_sum_congr (fun a ha => s5 a ha), dt_sum_mul]
  grind
end
section
theorem gf_e_sum1 (n j : Nat) (h : j < n) : dt_sum n (fun c => dt_e j c) = 1 := by
  rw [dt_sum_one (f := fun c => dt_e j c) h (fun i _ hi => dt_e_ne hi), dt_e_eq]
theorem gf_root (n : Nat) (g : Nat → Nat) (w : Nat → Nat → Int) (u : Nat) (hid : ∀ x, x < n → g x = x) (hu : u < n) (hs : ∀ a b, a < n → b < n → w a b = w b a) : gf_D n g w = dt_det n (bz_pad (gf_K g u u) (gf_L n g w)) := by
  have hn : 0 < n := by omega
  have cl : ∀ t, t < n → dt_det n (dt_set (gf_L n g w) t (dt_e t)) = dt_det n (bz_pad (gf_K g t t) (gf_L n g w)) := by
    intro t ht
    have kk : ∀ r, r < n → (gf_K g t t r = true ↔ r ≠ t) := by
      intro r hr
      unfold gf_K
      rw [decide_eq_true_iff, hid r hr]
      exact ⟨fun z => z.2.1, fun z => ⟨rfl, z, z⟩⟩
    rw [gf_rc n _ t t ht]
    refine dt_congr n (fun r c hr hc => ?_)
    unfold gf_N
    by_cases zr : r = t
    · rw [if_pos zr, bz_pad_r (fun z => (kk r hr).mp z zr), zr]
      unfold dt_e
      by_cases q : t = c
      · rw [if_pos q, if_pos q.symm]
      · rw [if_neg q, if_neg (fun z : c = t => q z.symm)]
    · rw [if_neg zr]
      by_cases zc : c = t
      · rw [if_pos zc, bz_pad_c (fun z => (kk c hc).mp z zc), if_neg (fun z => zr (z.trans zc))]
      · rw [if_neg zc, bz_pad_t ((kk r hr).mpr zr) ((kk c hc).mpr zc)]
  have h1 : ∀ i j j', i < n → j < n → j' < n → dt_det n (dt_set (gf_L n g w) i (dt_e j)) = dt_det n (dt_set (gf_L n g w) i (dt_e j')) := by
    intro i j j' hi hj hj'
    have t := dt_lin n (gf_L n g w) i 1 (-1) (dt_e j) (dt_e j') hi
    rw [gf_zsum n _ hn] at t
    · omega
    · intro r hr
      by_cases e : r = i
      · rw [e]
        have q : dt_sum n (fun c => dt_set (gf_L n g w) i (fun c => 1 * dt_e j c + -1 * dt_e j' c) i c) = dt_sum n (fun c => 1 * dt_e j c + -1 * dt_e j' c) := dt_sum_congr (fun c _ => dt_set_eq _ _ _ _)
        rw [q, dt_sum_add, dt_sum_mul, dt_sum_mul, gf_e_sum1 n j hj, gf_e_sum1 n j' hj']
        rfl
      · have q : dt_sum n (fun c => dt_set (gf_L n g w) i (fun c => 1 * dt_e j c + -1 * dt_e j' c) r c) = dt_sum n (fun c => gf_L n g w r c) := dt_sum_congr (fun c _ => dt_set_ne e c)
        rw [q]
        exact gf_L_row n g w (fun v hv => by rw [hid v hv]; exact hv) r
  unfold gf_D
  rw [← cl 0 hn, ← cl u hu, h1 0 0 u hn hn hu, gf_sym n _ 0 u hn hu (fun r c _ _ => gf_L_sym n g w hs r c), h1 u 0 u hu hn hu]
theorem gf_z_sym (n : Nat) (w : Nat → Nat → Int) (x y : Nat) (hs : ∀ a b, a < n → b < n → w a b = w b a) : ∀ a b, a < n → b < n → gf_z w x y a b = gf_z w x y b a := by
  intro a b ha hb
  unfold gf_z
  by_cases z : (a = x ∧ b = y) ∨ (a = y ∧ b = x)
  · rw [if_pos z, if_pos (by omega)]
  · rw [if_neg z, if_neg (by omega), hs a b ha hb]
theorem gf_z_comm (w : Nat → Nat → Int) (x y : Nat) : gf_z w x y = gf_z w y x := by
  funext a b
  unfold gf_z
  by_cases z : (a = x ∧ b = y) ∨ (a = y ∧ b = x)
  · rw [if_pos z, if_pos (by omega)]
  · rw [if_neg z, if_neg (by omega)]
theorem gf_apart (n : Nat) (g : Nat → Nat) (w : Nat → Nat → Int) (u v : Nat) (hid : ∀ x, x < n → g x = x) (hu : u < n) (hv : v < n) (huv : u ≠ v) (hs : ∀ a b, a < n → b < n → w a b = w b a) : gf_D n g w = gf_D n g (gf_z w u v) + w u v * dt_det n (bz_pad (gf_K g u v) (gf_L n g w)) := by
  rw [gf_root n g w u hid hu hs, gf_root n g (gf_z w u v) u hid hu (gf_z_sym n w u v hs)]
  have kk : ∀ t r, r < n → (gf_K g u t r = true ↔ r ≠ u ∧ r ≠ t) := by
    intro t r hr
    unfold gf_K
    rw [decide_eq_true_iff, hid r hr]
    exact ⟨fun z => z.2, fun z => ⟨rfl, z⟩⟩
  have hb : ∀ r, r ≠ u → gf_be g u v r = -(dt_e v r) := by
    intro r hr
    unfold gf_be gf_d dt_e
    rw [hid u hu, hid v hv, if_neg (fun z : u = r => hr z.symm)]
    by_cases q : v = r
    · rw [if_pos q, if_pos q.symm]
      rfl
    · rw [if_neg q, if_neg (fun z : r = v => q z.symm)]
      rfl
  have hB : ∀ r c, r < n → c < n → bz_pad (gf_K g u u) (gf_L n g w) r c = bz_pad (gf_K g u u) (gf_L n g (gf_z w u v)) r c + w u v * (dt_e v r * dt_e v c) := by
    intro r c hr hc
    by_cases zr : r = u
    · rw [bz_pad_r (fun z => ((kk u r hr).mp z).1 zr), bz_pad_r (fun z => ((kk u r hr).mp z).1 zr), dt_e_ne (j := v) (c := r) (by omega)]
      omega
    · by_cases zc : c = u
      · rw [bz_pad_c (fun z => ((kk u c hc).mp z).1 zc), bz_pad_c (fun z => ((kk u c hc).mp z).1 zc), dt_e_ne (j := v) (c := c) (by omega)]
        omega
      · rw [bz_pad_t ((kk u r hr).mpr ⟨zr, zr⟩) ((kk u c hc).mpr ⟨zc, zc⟩), bz_pad_t ((kk u r hr).mpr ⟨zr, zr⟩) ((kk u c hc).mpr ⟨zc, zc⟩), gf_L_z n g w u v hu hv huv (hs v u hv hu) r c, hb r zr, hb c zc, Int.neg_mul_neg]
  have e1 : dt_det n (bz_pad (gf_K g u u) (gf_L n g w)) = dt_det n (dt_set (bz_pad (gf_K g u u) (gf_L n g (gf_z w u v))) v (fun c => 1 * bz_pad (gf_K g u u) (gf_L n g (gf_z w u v)) v c + w u v * dt_e v c)) := by
    refine dt_congr n (fun r c hr hc => ?_)
    rw [hB r c hr hc]
    by_cases z : r = v
    · rw [z, dt_set_eq, dt_e_eq, Int.one_mul, Int.one_mul]
    · rw [dt_set_ne z, dt_e_ne z, Int.zero_mul, Int.mul_zero, Int.add_zero]
  have e2 : dt_det n (dt_set (bz_pad (gf_K g u u) (gf_L n g (gf_z w u v))) v (dt_e v)) = dt_det n (bz_pad (gf_K g u v) (gf_L n g w)) := by
    rw [gf_rc n _ v v hv]
    refine dt_congr n (fun r c hr hc => ?_)
    unfold gf_N
    by_cases zr : r = v
    · rw [if_pos zr, bz_pad_r (fun z => ((kk v r hr).mp z).2 zr), zr]
      unfold dt_e
      by_cases q : v = c
      · rw [if_pos q, if_pos q.symm]
      · rw [if_neg q, if_neg (fun z : c = v => q z.symm)]
    · rw [if_neg zr]
      by_cases zc : c = v
      · rw [if_pos zc, bz_pad_c (fun z => ((kk v c hc).mp z).2 zc), if_neg (fun z => zr (z.trans zc))]
      · rw [if_neg zc]
        by_cases yr : r = u
        · rw [bz_pad_r (fun z => ((kk u r hr).mp z).1 yr), bz_pad_r (fun z => ((kk v r hr).mp z).1 yr)]
        · by_cases yc : c = u
          · rw [bz_pad_c (fun z => ((kk u c hc).mp z).1 yc), bz_pad_c (fun z => ((kk v c hc).mp z).1 yc)]
          · rw [bz_pad_t ((kk u r hr).mpr ⟨yr, yr⟩) ((kk u c hc).mpr ⟨yc, yc⟩), bz_pad_t ((kk v r hr).mpr ⟨yr, zr⟩) ((kk v c hc).mpr ⟨yc, zc⟩), gf_L_z n g w u v hu hv huv (hs v u hv hu) r c, hb r yr, dt_e_ne zr]
            omega
  rw [e1, dt_lin n _ v 1 (w u v) (bz_pad (gf_K g u u) (gf_L n g (gf_z w u v)) v) (dt_e v) hv, dt_set_self, e2, Int.one_mul]
def ct_f (a b k : Nat) : Nat := if k = max a b then min a b else k
theorem ct_f_le {a b k : Nat} : ct_f a b k ≤ k := by
  unfold ct_f
  split <;> omega
theorem ct_phi0 (a b c d k : Nat) (h1 : a ≤ b) (h2 : c ≤ d) : ct_f (ct_f c d a) (ct_f c d b) (ct_f c d k) = ct_f (ct_f a b c) (ct_f a b d) (ct_f a b k) := by
  unfold ct_f
  grind
theorem ct_phi1 (a b c d : Nat) : (c = d ∨ ct_f c d a = ct_f c d b) ↔ (a = b ∨ ct_f a b c = ct_f a b d) := by
  unfold ct_f
  grind
end
section
theorem ct_f_comm (a b k : Nat) : ct_f a b k = ct_f b a k := by
  unfold ct_f
  rw [Nat.max_comm, Nat.min_comm]
theorem ct_phi (a b c d k : Nat) : ct_f (ct_f c d a) (ct_f c d b) (ct_f c d k) = ct_f (ct_f a b c) (ct_f a b d) (ct_f a b k) := by
  rcases Nat.le_total a b with h1 | h1
  · rcases Nat.le_total c d with h2 | h2
    · exact ct_phi0 a b c d k h1 h2
    · rw [ct_f_comm c d a, ct_f_comm c d b, ct_f_comm c d k, ct_f_comm (ct_f a b c)]
      exact ct_phi0 a b d c k h1 h2
  · rcases Nat.le_total c d with h2 | h2
    · rw [ct_f_comm a b c, ct_f_comm a b d, ct_f_comm a b k, ct_f_comm (ct_f c d a)]
      exact ct_phi0 b a c d k h1 h2
    · rw [ct_f_comm a b c, ct_f_comm a b d, ct_f_comm a b k, ct_f_comm c d a, ct_f_comm c d b, ct_f_comm c d k, ct_f_comm (ct_f d c a), ct_f_comm (ct_f b a c)]
      exact ct_phi0 b a d c k h1 h2
theorem ct_m (g : Nat → Nat) (x y v : Nat) : gf_m g x y v = ct_f (g x) (g y) (g v) := rfl
def ct_mg (E : Nat → Nat → Nat) (x y : Nat) (s : Int × (Nat → Nat)) : Int × (Nat → Nat) := (s.1 * (if s.2 x = s.2 y then 0 else (E x y : Int)), gf_m s.2 x y)
theorem ct_comm (E : Nat → Nat → Nat) (x y z t : Nat) (s : Int × (Nat → Nat)) : ct_mg E x y (ct_mg E z t s) = ct_mg E z t (ct_mg E x y s) := by
  have e2 : gf_m (gf_m s.2 z t) x y = gf_m (gf_m s.2 x y) z t := by
    funext v
    rw [ct_m, ct_m, ct_m, ct_m, ct_m, ct_m, ct_m, ct_m]
    exact ct_phi (s.2 x) (s.2 y) (s.2 z) (s.2 t) (s.2 v)
  have e1 : s.1 * (if s.2 z = s.2 t then 0 else (E z t : Int)) * (if gf_m s.2 z t x = gf_m s.2 z t y then 0 else (E x y : Int)) = s.1 * (if s.2 x = s.2 y then 0 else (E x y : Int)) * (if gf_m s.2 x y z = gf_m s.2 x y t then 0 else (E z t : Int)) := by
    rw [ct_m, ct_m, ct_m, ct_m]
    have h := ct_phi1 (s.2 x) (s.2 y) (s.2 z) (s.2 t)
    generalize s.2 x = a at h ⊢
    generalize s.2 y = b at h ⊢
    generalize s.2 z = c at h ⊢
    generalize s.2 t = d at h ⊢
    by_cases q : c = d ∨ ct_f c d a = ct_f c d b
    · have q' := h.mp q
      have z1 : ∀ (m p r : Int) (P Q : Prop) [Decidable P] [Decidable Q], (P ∨ Q) → m * (if P then 0 else p) * (if Q then 0 else r) = 0 := by
        intro m p r P Q _ _ hpq
        rcases hpq with k | k
        · rw [if_pos k, Int.mul_zero, Int.zero_mul]
        · rw [if_pos k, Int.mul_zero]
      rw [z1 _ _ _ _ _ q, z1 _ _ _ _ _ q']
    · have q' : ¬ (a = b ∨ ct_f a b c = ct_f a b d) := fun k => q (h.mpr k)
      rw [if_neg (fun k => q (Or.inl k)), if_neg (fun k => q (Or.inr k)), if_neg (fun k => q' (Or.inl k)), if_neg (fun k => q' (Or.inr k))]
      grind
  unfold ct_mg
  rw [e2]
  exact congrArg (fun q => (q, gf_m (gf_m s.2 x y) z t)) e1
theorem ct_flip (E : Nat → Nat → Nat) (x y : Nat) (h : E x y = E y x) (s : Int × (Nat → Nat)) : ct_mg E x y s = ct_mg E y x s := by
  have e2 : gf_m s.2 x y = gf_m s.2 y x := by
    funext v
    rw [ct_m, ct_m]
    exact ct_f_comm _ _ _
  unfold ct_mg
  rw [e2, h]
  by_cases q : s.2 x = s.2 y
  · rw [if_pos q, if_pos q.symm]
  · rw [if_neg q, if_neg (fun k => q k.symm)]
def ct_st (E M : Nat → Nat → Nat) (u v : Nat) (s : Int × (Nat → Nat)) : Int × (Nat → Nat) := if u < v ∧ M u v = 1 then ct_mg E u v s else s
def ct_in (E M : Nat → Nat → Nat) (u : Nat) : Nat → Int × (Nat → Nat) → Int × (Nat → Nat)
  | 0, s => s
  | k + 1, s => ct_st E M u k (ct_in E M u k s)
def ct_out (E M : Nat → Nat → Nat) (n : Nat) : Nat → Int × (Nat → Nat) → Int × (Nat → Nat)
  | 0, s => s
  | k + 1, s => ct_in E M k n (ct_out E M n k s)
def ct_0 : Int × (Nat → Nat) := (1, fun v => v)
def ct_C (E M : Nat → Nat → Nat) (n : Nat) : Int × (Nat → Nat) := ct_out E M n n ct_0
theorem ct_st_comm (E M : Nat → Nat → Nat) (x y u v : Nat) (s : Int × (Nat → Nat)) : ct_st E M u v (ct_mg E x y s) = ct_mg E x y (ct_st E M u v s) := by
  unfold ct_st
  split
  · exact ct_comm E u v x y s
  · rfl
theorem ct_in_comm (E M : Nat → Nat → Nat) (x y u k : Nat) (s : Int × (Nat → Nat)) : ct_in E M u k (ct_mg E x y s) = ct_mg E x y (ct_in E M u k s) := by
  induction k with
  | zero => rfl
  | succ k ih =>
    show ct_st E M u k (ct_in E M u k (ct_mg E x y s)) = ct_mg E x y (ct_st E M u k (ct_in E M u k s))
    rw [ih, ct_st_comm]
theorem ct_in_new (E M M' : Nat → Nat → Nat) (x y : Nat) (hxy : x < y) (h0 : M x y ≠ 1) (h1 : M' x y = 1) (hM : ∀ u v, u < v → ¬ (u = x ∧ v = y) → (M' u v = 1 ↔ M u v = 1)) (u k : Nat) (s : Int × (Nat → Nat)) : ct_in E M' u k s = if u = x ∧ y < k then ct_mg E x y (ct_in E M u k s) else ct_in E M u k s := by
  induction k with
  | zero =>
    rw [if_neg (by omega)]
    rfl
  | succ k ih =>
    have c : ∀ t, ¬ (u = x ∧ k = y) → ct_st E M' u k t = ct_st E M u k t := by
      intro t hq
      unfold ct_st
      by_cases z : u < k
      · by_cases z2 : M u k = 1
        · rw [if_pos ⟨z, (hM u k z hq).mpr z2⟩, if_pos ⟨z, z2⟩]
        · rw [if_neg (fun q => z2 ((hM u k z hq).mp q.2)), if_neg (fun q => z2 q.2)]
      · rw [if_neg (fun q => z q.1), if_neg (fun q => z q.1)]
    show ct_st E M' u k (ct_in E M' u k s) = if u = x ∧ y < k + 1 then ct_mg E x y (ct_st E M u k (ct_in E M u k s)) else ct_st E M u k (ct_in E M u k s)
    rw [ih]
    by_cases q : u = x ∧ k = y
    · obtain ⟨q1, q2⟩ := q
      rw [if_neg (by omega), if_pos ⟨q1, by omega⟩, q1, q2]
      unfold ct_st
      rw [if_pos ⟨hxy, h1⟩, if_neg (fun z => h0 z.2)]
    · by_cases q2 : u = x ∧ y < k
      · rw [if_pos q2, if_pos ⟨q2.1, by omega⟩, c _ q, ct_st_comm]
      · rw [if_neg q2, if_neg (fun z => by omega), c _ q]
theorem ct_out_new (E M M' : Nat → Nat → Nat) (x y : Nat) (hxy : x < y) (h0 : M x y ≠ 1) (h1 : M' x y = 1) (hM : ∀ u v, u < v → ¬ (u = x ∧ v = y) → (M' u v = 1 ↔ M u v = 1)) (n : Nat) (hy : y < n) (k : Nat) (s : Int × (Nat → Nat)) : ct_out E M' n k s = if x < k then ct_mg E x y (ct_out E M n k s) else ct_out E M n k s := by
  induction k with
  | zero =>
    rw [if_neg (by omega)]
    rfl
  | succ k ih =>
    show ct_in E M' k n (ct_out E M' n k s) = if x < k + 1 then ct_mg E x y (ct_in E M k n (ct_out E M n k s)) else ct_in E M k n (ct_out E M n k s)
    rw [ih, ct_in_new E M M' x y hxy h0 h1 hM]
    by_cases q : x < k
    · rw [if_pos q, if_neg (by omega), if_pos (by omega), ct_in_comm]
    · rw [if_neg q]
      by_cases q2 : k = x
      · rw [if_pos ⟨q2, hy⟩, if_pos (by omega)]
      · rw [if_neg (fun z => q2 z.1), if_neg (by omega)]
theorem ct_C_new (E M M' : Nat → Nat → Nat) (x y : Nat) (hxy : x < y) (h0 : M x y ≠ 1) (h1 : M' x y = 1) (hM : ∀ u v, u < v → ¬ (u = x ∧ v = y) → (M' u v = 1 ↔ M u v = 1)) (n : Nat) (hy : y < n) : ct_C E M' n = ct_mg E x y (ct_C E M n) := by
  unfold ct_C
  rw [ct_out_new E M M' x y hxy h0 h1 hM n hy, if_pos (by omega)]
theorem ct_C_same (E M M' : Nat → Nat → Nat) (hM : ∀ u v, u < v → (M' u v = 1 ↔ M u v = 1)) (n : Nat) : ct_C E M' n = ct_C E M n := by
  have e : ct_st E M' = ct_st E M := by
    funext u v s
    unfold ct_st
    by_cases z : u < v
    · by_cases z2 : M u v = 1
      · rw [if_pos ⟨z, (hM u v z).mpr z2⟩, if_pos ⟨z, z2⟩]
      · rw [if_neg (fun q => z2 ((hM u v z).mp q.2)), if_neg (fun q => z2 q.2)]
    · rw [if_neg (fun q => z q.1), if_neg (fun q => z q.1)]
  have e2 : ∀ u k s, ct_in E M' u k s = ct_in E M u k s := by
    intro u k s
    induction k with
    | zero => rfl
    | succ k ih =>
      show ct_st E M' u k (ct_in E M' u k s) = ct_st E M u k (ct_in E M u k s)
      rw [e, ih]
  have e3 : ∀ k s, ct_out E M' n k s = ct_out E M n k s := by
    intro k s
    induction k with
    | zero => rfl
    | succ k ih =>
      show ct_in E M' k n (ct_out E M' n k s) = ct_in E M k n (ct_out E M n k s)
      rw [e2, ih]
  exact e3 n ct_0
theorem ct_C_none (E M : Nat → Nat → Nat) (n : Nat) (hM : ∀ u v, u < v → v < n → M u v ≠ 1) : ct_C E M n = ct_0 := by
  have e2 : ∀ u k s, k ≤ n → ct_in E M u k s = s := by
    intro u k s
    induction k with
    | zero => exact fun _ => rfl
    | succ k ih =>
      intro hk
      show ct_st E M u k (ct_in E M u k s) = s
      rw [ih (by omega)]
      unfold ct_st
      exact if_neg (fun q => hM u k q.1 (by omega) q.2)
  have e3 : ∀ k s, ct_out E M n k s = s := by
    intro k s
    induction k with
    | zero => rfl
    | succ k ih =>
      show ct_in E M k n (ct_out E M n k s) = s
      rw [e2 _ _ _ (Nat.le_refl n), ih]
  exact e3 n ct_0
theorem ct_ok_m (n : Nat) (g : Nat → Nat) (x y : Nat) (hx : x < n) (hy : y < n) (hg : gf_ok n g) : gf_ok n (gf_m g x y) := by
  intro v hv
  have a := hg x hx
  have b := hg y hy
  have c := hg v hv
  refine ⟨Nat.le_trans (ct_m g x y v ▸ ct_f_le) c.1, ?_⟩
  have i : ∀ k, g k = k → gf_m g x y k = ct_f (g x) (g y) k := by
    intro k hk
    rw [ct_m, hk]
  by_cases z : g v = max (g x) (g y)
  · have e : gf_m g x y v = min (g x) (g y) := if_pos z
    have q : g (min (g x) (g y)) = min (g x) (g y) := by
      rcases Nat.le_total (g x) (g y) with h | h
      · rw [Nat.min_eq_left h, a.2]
      · rw [Nat.min_eq_right h, b.2]
    rw [e, i _ q]
    unfold ct_f
    split
    · rfl
    · rfl
  · have e : gf_m g x y v = g v := if_neg z
    rw [e, i _ c.2]
    unfold ct_f
    rw [if_neg z]
def ct_rp (n : Nat) (g : Nat → Nat) : Int := dt_sum n (fun v => if g v = v then 1 else 0)
theorem ct_rp_m (n : Nat) (g : Nat → Nat) (x y : Nat) (hx : x < n) (hy : y < n) (hg : gf_ok n g) (hne : g x ≠ g y) : ct_rp n (gf_m g x y) + 1 = ct_rp n g := by
  have a := hg x hx
  have b := hg y hy
  have hl : g (max (g x) (g y)) = max (g x) (g y) := by
    rcases Nat.le_total (g x) (g y) with h | h
    · rw [Nat.max_eq_right h, b.2]
    · rw [Nat.max_eq_left h, a.2]
  have q : g (min (g x) (g y)) = min (g x) (g y) := by
    rcases Nat.le_total (g x) (g y) with h | h
    · rw [Nat.min_eq_left h, a.2]
    · rw [Nat.min_eq_right h, b.2]
  have hln : max (g x) (g y) < n := by omega
  have e : ct_rp n g = ct_rp n (gf_m g x y) + dt_sum n (fun v => if v = max (g x) (g y) then 1 else 0) := by
    unfold ct_rp
    rw [← dt_sum_add]
    refine dt_sum_congr (fun v hv => ?_)
    rw [ct_m]
    unfold ct_f
    by_cases z : v = max (g x) (g y)
    · rw [if_pos z, z, hl, if_pos rfl, if_pos rfl, if_neg (by omega)]
      rfl
    · rw [if_neg z]
      by_cases z2 : g v = max (g x) (g y)
      · rw [if_pos z2, if_neg (by omega), if_neg (fun t => by rw [t] at q; omega)]
        rfl
      · rw [if_neg z2]
        omega
  rw [e, dt_sum_one (f := fun v => if v = max (g x) (g y) then 1 else 0) hln (fun i _ hi => if_neg hi), if_pos rfl]
def ct_c (M : Nat → Nat → Nat) (u v : Nat) : Int := if u < v ∧ M u v = 1 then 1 else 0
theorem ct_in_ok (E M : Nat → Nat → Nat) (n u : Nat) (hu : u < n) (s : Int × (Nat → Nat)) (hs : gf_ok n s.2) (k : Nat) (hk : k ≤ n) : gf_ok n (ct_in E M u k s).2 ∧ ((ct_in E M u k s).1 ≠ 0 → s.1 ≠ 0 ∧ ct_rp n (ct_in E M u k s).2 + dt_sum k (fun v => ct_c M u v) = ct_rp n s.2) := by
  induction k with
  | zero => exact ⟨hs, fun h => ⟨h, Int.add_zero _⟩⟩
  | succ k ih =>
    obtain ⟨i1, i2⟩ := ih (by omega)
    show gf_ok n (ct_st E M u k (ct_in E M u k s)).2 ∧ ((ct_st E M u k (ct_in E M u k s)).1 ≠ 0 → s.1 ≠ 0 ∧ ct_rp n (ct_st E M u k (ct_in E M u k s)).2 + (dt_sum k (fun v => ct_c M u v) + ct_c M u k) = ct_rp n s.2)
    generalize ct_in E M u k s = t at i1 i2
    unfold ct_st ct_c
    by_cases z : u < k ∧ M u k = 1
    · rw [if_pos z, if_pos z]
      refine ⟨ct_ok_m n t.2 u k hu (by omega) i1, fun h => ?_⟩
      have h' : t.1 * (if t.2 u = t.2 k then 0 else (E u k : Int)) ≠ 0 := h
      by_cases q : t.2 u = t.2 k
      · rw [if_pos q, Int.mul_zero] at h'
        exact absurd rfl h'
      · have h2 : t.1 ≠ 0 := fun e => h' (by rw [e, Int.zero_mul])
        have r := i2 h2
        have m := ct_rp_m n t.2 u k hu (by omega) i1 q
        refine ⟨r.1, ?_⟩
        show ct_rp n (gf_m t.2 u k) + _ = _
        have r2 := r.2
        unfold ct_c at r2
        omega
    · rw [if_neg z, if_neg z]
      refine ⟨i1, fun h => ?_⟩
      have r := i2 h
      refine ⟨r.1, ?_⟩
      have r2 := r.2
      unfold ct_c at r2
      omega
theorem ct_out_ok (E M : Nat → Nat → Nat) (n : Nat) (s : Int × (Nat → Nat)) (hs : gf_ok n s.2) (k : Nat) (hk : k ≤ n) : gf_ok n (ct_out E M n k s).2 ∧ ((ct_out E M n k s).1 ≠ 0 → s.1 ≠ 0 ∧ ct_rp n (ct_out E M n k s).2 + dt_sum k (fun u => dt_sum n (fun v => ct_c M u v)) = ct_rp n s.2) := by
  induction k with
  | zero => exact ⟨hs, fun h => ⟨h, Int.add_zero _⟩⟩
  | succ k ih =>
    obtain ⟨i1, i2⟩ := ih (by omega)
    show gf_ok n (ct_in E M k n (ct_out E M n k s)).2 ∧ ((ct_in E M k n (ct_out E M n k s)).1 ≠ 0 → s.1 ≠ 0 ∧ ct_rp n (ct_in E M k n (ct_out E M n k s)).2 + (dt_sum k (fun u => dt_sum n (fun v => ct_c M u v)) + dt_sum n (fun v => ct_c M k v)) = ct_rp n s.2)
    generalize ct_out E M n k s = t at i1 i2
    obtain ⟨j1, j2⟩ := ct_in_ok E M n k (by omega) t i1 n (Nat.le_refl n)
    refine ⟨j1, fun h => ?_⟩
    have a := j2 h
    have b := i2 a.1
    refine ⟨b.1, ?_⟩
    have a2 := a.2
    have b2 := b.2
    omega
theorem ct_ok0 (n : Nat) : gf_ok n ct_0.2 := fun v _ => ⟨Nat.le_refl v, rfl⟩
theorem ct_C_ok (E M : Nat → Nat → Nat) (n : Nat) : gf_ok n (ct_C E M n).2 := (ct_out_ok E M n ct_0 (ct_ok0 n) n (Nat.le_refl n)).1
theorem ct_rp0 (n : Nat) : ct_rp n ct_0.2 = n := by
  unfold ct_rp
  induction n with
  | zero => rfl
  | succ n ih =>
    show dt_sum n _ + (if n = n then 1 else 0) = _
    rw [ih, if_pos rfl]
    omega
theorem ct_C_cnt (E M : Nat → Nat → Nat) (n : Nat) (h : (ct_C E M n).1 ≠ 0) : ct_rp n (ct_C E M n).2 + dt_sum n (fun u => dt_sum n (fun v => ct_c M u v)) = n := by
  rw [← ct_rp0 n]
  exact ((ct_out_ok E M n ct_0 (ct_ok0 n) n (Nat.le_refl n)).2 h).2
theorem ct_kept (n : Nat) (g : Nat → Nat) (hn : 0 < n) (hg : gf_ok n g) : dt_sum n (fun a => if gf_K g 0 0 a = true then 1 else 0) + 1 = ct_rp n g := by
  have g0 : g 0 = 0 := by
    have := (hg 0 hn).1
    omega
  have e : ct_rp n g = dt_sum n (fun a => if gf_K g 0 0 a = true then 1 else 0) + dt_sum n (fun a => if a = 0 then 1 else 0) := by
    unfold ct_rp
    rw [← dt_sum_add]
    refine dt_sum_congr (fun v hv => ?_)
    unfold gf_K
    by_cases z : v = 0
    · rw [z, g0, if_pos rfl, if_neg (by decide)]
      rfl
    · rw [if_neg z]
      by_cases q : g v = v
      · rw [if_pos q, if_pos (decide_eq_true ⟨q, z, z⟩)]
        rfl
      · rw [if_neg q, if_neg (fun t => q (of_decide_eq_true t).1)]
        rfl
  rw [e, dt_sum_one (f := fun a => if a = 0 then 1 else 0) hn (fun i _ hi => if_neg hi), if_pos rfl]
end
section
def tc_w (E M : Nat → Nat → Nat) : Nat → Nat → Int := fun u v => if u ≠ v ∧ M u v = 0 then (E u v : Int) else 0
def tc_T (n : Nat) (E M : Nat → Nat → Nat) : Int := (ct_C E M n).1 * gf_D n (ct_C E M n).2 (tc_w E M)
def tc_up (M : Nat → Nat → Nat) (x y m : Nat) : Nat → Nat → Nat := fun u v => if (u = x ∧ v = y) ∨ (u = y ∧ v = x) then m else M u v
def tc_sy (n : Nat) (E : Nat → Nat → Nat) : Prop := ∀ u v, u < n → v < n → E u v = E v u
theorem tc_w_sym (n : Nat) (E M : Nat → Nat → Nat) (hE : tc_sy n E) (hM : tc_sy n M) : ∀ u v, u < n → v < n → tc_w E M u v = tc_w E M v u := by
  intro u v hu hv
  unfold tc_w
  rw [hE u v hu hv, hM u v hu hv]
  by_cases z : u ≠ v ∧ M v u = 0
  · rw [if_pos z, if_pos ⟨fun t => z.1 t.symm, z.2⟩]
  · rw [if_neg z, if_neg (fun t => z ⟨fun q => t.1 q.symm, t.2⟩)]
theorem tc_w_up (E M : Nat → Nat → Nat) (x y m : Nat) (hm : m ≠ 0) : tc_w E (tc_up M x y m) = gf_z (tc_w E M) x y := by
  funext u v
  unfold tc_w tc_up gf_z
  by_cases z : (u = x ∧ v = y) ∨ (u = y ∧ v = x)
  · rw [if_pos z, if_pos z, if_neg (fun t => hm t.2)]
  · rw [if_neg z, if_neg z]
theorem tc_C_never (n : Nat) (E M : Nat → Nat → Nat) (x y : Nat) (h : M x y ≠ 1) (h' : M y x ≠ 1) : ct_C E (tc_up M x y 2) n = ct_C E M n := by
  refine ct_C_same E M _ (fun u v _ => ?_) n
  unfold tc_up
  by_cases z : (u = x ∧ v = y) ∨ (u = y ∧ v = x)
  · rw [if_pos z]
    refine ⟨fun t => absurd t (by decide), fun t => ?_⟩
    rcases z with ⟨a, b⟩ | ⟨a, b⟩
    · rw [a, b] at t
      exact absurd t h
    · rw [a, b] at t
      exact absurd t h'
  · rw [if_neg z]
theorem tc_C_must (n : Nat) (E M : Nat → Nat → Nat) (x y : Nat) (hx : x < n) (hy : y < n) (hxy : x ≠ y) (hE : E x y = E y x) (h : M x y ≠ 1) (h' : M y x ≠ 1) : ct_C E (tc_up M x y 1) n = ct_mg E x y (ct_C E M n) := by
  have o : ∀ u v, ¬ ((u = x ∧ v = y) ∨ (u = y ∧ v = x)) → (tc_up M x y 1 u v = 1 ↔ M u v = 1) := by
    intro u v z
    unfold tc_up
    rw [if_neg z]
  rcases Nat.lt_or_gt_of_ne hxy with z | z
  · refine ct_C_new E M _ x y z h (if_pos (Or.inl ⟨rfl, rfl⟩)) (fun u v huv hn => o u v ?_) n hy
    omega
  · rw [ct_flip E x y hE]
    refine ct_C_new E M _ y x z h' (if_pos (Or.inr ⟨rfl, rfl⟩)) (fun u v huv hn => o u v ?_) n hx
    omega
theorem tc_T_never (n : Nat) (E M : Nat → Nat → Nat) (x y : Nat) (h : M x y ≠ 1) (h' : M y x ≠ 1) : tc_T n E (tc_up M x y 2) = (ct_C E M n).1 * gf_D n (ct_C E M n).2 (gf_z (tc_w E M) x y) := by
  unfold tc_T
  rw [tc_C_never n E M x y h h', tc_w_up E M x y 2 (by decide)]
theorem tc_I2 (n : Nat) (E M : Nat → Nat → Nat) (x y : Nat) (hx : x < n) (hy : y < n) (hxy : x ≠ y) (hE : tc_sy n E) (hM : tc_sy n M) (h : M x y = 0) : tc_T n E M = tc_T n E (tc_up M x y 2) + tc_T n E (tc_up M x y 1) := by
  have h' : M y x = 0 := by rw [hM y x hy hx, h]
  have ws := tc_w_sym n E M hE hM y x hy hx
  rw [tc_T_never n E M x y (by omega) (by omega)]
  unfold tc_T
  rw [tc_C_must n E M x y hx hy hxy (hE x y hx hy) (by omega) (by omega), tc_w_up E M x y 1 (by decide)]
  have ok := ct_C_ok E M n
  have we : tc_w E M x y = (E x y : Int) := if_pos ⟨hxy, h⟩
  unfold ct_mg
  generalize ct_C E M n = s at ok
  by_cases z : s.2 x = s.2 y
  · dsimp only
    rw [if_pos z, gf_same n s.2 (tc_w E M) x y hx hy hxy ws z]
    grind
  · dsimp only
    rw [if_neg z, gf_dc n s.2 (tc_w E M) x y ok hx hy hxy ws z, we]
    grind
def tc_us (n : Nat) (E M : Nat → Nat → Nat) (u v : Nat) : Int := if M u v = 2 then 0 else if M u v = 1 then tc_T n E M else tc_T n E M - tc_T n E (tc_up M u v 2)
theorem tc_us_eq (n : Nat) (E M : Nat → Nat → Nat) (u v : Nat) (hu : u < n) (hv : v < n) (huv : u ≠ v) (hE : tc_sy n E) (hM : tc_sy n M) (h2 : M u v ≤ 2) : tc_us n E M u v = (ct_C E M n).1 * (gf_D n (ct_C E M n).2 (tc_w E M) * (ct_c M u v + ct_c M v u) + tc_w E M u v * gf_Q n (ct_C E M n).2 (tc_w E M) u v) := by
  have hs := hM u v hu hv
  have cc : ct_c M u v + ct_c M v u = if M u v = 1 then 1 else 0 := by
    unfold ct_c
    rw [← hs]
    by_cases z : M u v = 1
    · rw [if_pos z]
      by_cases q : u < v
      · rw [if_pos ⟨q, z⟩, if_neg (fun t => by omega)]
        rfl
      · rw [if_neg (fun t => q t.1), if_pos ⟨by omega, z⟩]
        rfl
    · rw [if_neg z, if_neg (fun t => z t.2), if_neg (fun t => z t.2)]
      rfl
  unfold tc_us
  rw [cc]
  by_cases z2 : M u v = 2
  · have we : tc_w E M u v = 0 := if_neg (fun t => by omega)
    rw [if_pos z2, if_neg (by omega), we]
    grind
  · rw [if_neg z2]
    by_cases z1 : M u v = 1
    · have we : tc_w E M u v = 0 := if_neg (fun t => by omega)
      rw [if_pos z1, if_pos z1, we]
      unfold tc_T
      grind
    · have z0 : M u v = 0 := by omega
      rw [if_neg z1, if_neg z1, tc_T_never n E M u v z1 (by omega)]
      have d := gf_del n (ct_C E M n).2 (tc_w E M) u v hu hv huv (tc_w_sym n E M hE hM v u hv hu)
      rw [← d]
      unfold tc_T
      grind
theorem tc_I1 (n : Nat) (E M : Nat → Nat → Nat) (hn : 0 < n) (hE : tc_sy n E) (hM : tc_sy n M) (h2 : ∀ u v, u < n → v < n → u ≠ v → M u v ≤ 2) : dt_sum n (fun v => dt_sum n (fun u => if u = v then 0 else tc_us n E M u v)) = 2 * ((n : Int) - 1) * tc_T n E M := by
  have e1 : dt_sum n (fun v => dt_sum n (fun u => if u = v then 0 else tc_us n E M u v)) = dt_sum n (fun v => dt_sum n (fun u => (ct_C E M n).1 * (gf_D n (ct_C E M n).2 (tc_w E M) * (ct_c M u v + ct_c M v u) + tc_w E M u v * gf_Q n (ct_C E M n).2 (tc_w E M) u v))) := by
    refine dt_sum_congr (fun v hv => dt_sum_congr (fun u hu => ?_))
    by_cases z : u = v
    · have we : tc_w E M u v = 0 := if_neg (fun t => t.1 z)
      have c1 : ct_c M u v = 0 := if_neg (fun t => by omega)
      have c2 : ct_c M v u = 0 := if_neg (fun t => by omega)
      rw [if_pos z, we, c1, c2]
      grind
    · rw [if_neg z]
      exact tc_us_eq n E M u v hu hv z hE hM (h2 u v hu hv z)
  have e2 : dt_sum n (fun v => dt_sum n (fun u => (ct_C E M n).1 * (gf_D n (ct_C E M n).2 (tc_w E M) * (ct_c M u v + ct_c M v u) + tc_w E M u v * gf_Q n (ct_C E M n).2 (tc_w E M) u v))) = (ct_C E M n).1 * (gf_D n (ct_C E M n).2 (tc_w E M) * (2 * dt_sum n (fun u => dt_sum n (fun v => ct_c M u v))) + dt_sum n (fun x => dt_sum n (fun y => tc_w E M x y * gf_Q n (ct_C E M n).2 (tc_w E M) x y))) := by
    have s : dt_sum n (fun v => dt_sum n (fun u => ct_c M u v + ct_c M v u)) = 2 * dt_sum n (fun u => dt_sum n (fun v => ct_c M u v)) := by
      have a : dt_sum n (fun v => dt_sum n (fun u => ct_c M u v + ct_c M v u)) = dt_sum n (fun v => dt_sum n (fun u => ct_c M u v)) + dt_sum n (fun v => dt_sum n (fun u => ct_c M v u)) := by
        rw [← dt_sum_add]
        exact dt_sum_congr (fun v _ => dt_sum_add n _ _)
      rw [a, dt_sum_swap n n (fun v u => ct_c M u v)]
      omega
    rw [← s, ← dt_sum_mul n (gf_D n (ct_C E M n).2 (tc_w E M)), dt_sum_swap n n (fun x y => tc_w E M x y * gf_Q n (ct_C E M n).2 (tc_w E M) x y), ← dt_sum_add, ← dt_sum_mul]
    refine dt_sum_congr (fun v _ => ?_)
    rw [← dt_sum_mul, ← dt_sum_add, ← dt_sum_mul]
  rw [e1, e2, gf_euler n _ _ (tc_w_sym n E M hE hM)]
  unfold tc_T
  have cn := ct_C_cnt E M n
  have ck := ct_kept n (ct_C E M n).2 hn (ct_C_ok E M n)
  generalize dt_sum n (fun u => dt_sum n (fun v => ct_c M u v)) = mc at cn
  generalize dt_sum n (fun a => if gf_K (ct_C E M n).2 0 0 a = true then 1 else 0) = kc at ck
  generalize ct_rp n (ct_C E M n).2 = rp at cn ck
  generalize gf_D n (ct_C E M n).2 (tc_w E M) = D
  generalize (ct_C E M n).1 = W at cn
  by_cases z : W = 0
  · rw [z]
    grind
  · have q : (n : Int) - 1 = mc + kc := by
      have := cn z
      omega
    rw [q]
    grind
theorem tc_I3 (n : Nat) (E M : Nat → Nat → Nat) (u v : Nat) (hu : u < n) (hv : v < n) (huv : u ≠ v) (hE : tc_sy n E) (h0 : ∀ a b, a < n → b < n → a ≠ b → M a b = 0) : dt_det n (bz_pad (gf_K ct_0.2 u v) (gf_L n ct_0.2 (tc_w E M))) * (E u v : Int) = tc_T n E M - tc_T n E (tc_up M v u 2) := by
  have hw : ∀ a b, a < n → b < n → tc_w E M a b = tc_w E M b a := by
    intro a b ha hb
    unfold tc_w
    by_cases z : a = b
    · rw [z]
    · rw [if_pos ⟨z, h0 a b ha hb z⟩, if_pos ⟨fun t => z t.symm, h0 b a hb ha (fun t => z t.symm)⟩, hE a b ha hb]
  have m1 : M v u = 0 := h0 v u hv hu (fun t => huv t.symm)
  have m2 : M u v = 0 := h0 u v hu hv huv
  rw [tc_T_never n E M v u (by omega) (by omega), gf_z_comm]
  unfold tc_T
  rw [ct_C_none E M n (fun a b hab hb => by rw [h0 a b (by omega) hb (by omega)]; decide)]
  have we : tc_w E M u v = (E u v : Int) := if_pos ⟨huv, m2⟩
  have k := gf_apart n ct_0.2 (tc_w E M) u v (fun x _ => rfl) hu hv huv hw
  rw [we] at k
  rw [k]
  show _ = (1 : Int) * _ - 1 * _
  generalize gf_D n ct_0.2 (gf_z (tc_w E M) u v) = a
  generalize dt_det n (bz_pad (gf_K ct_0.2 u v) (gf_L n ct_0.2 (tc_w E M))) = b
  grind
end
section
theorem wk_nI (k : Nat) : nI k = Int32.ofInt (k : Int) := Int32.ofInt_eq_ofNat.symm
theorem wk_toL {k : Nat} (h : k < 2 ^ 31) : (nI k).toInt64 = Int64.ofInt (k : Int) := by
  rw [nI_l h]
  exact Int64.ofInt_eq_ofNat.symm
theorem wk_ix (i j : Nat) : (nI i * 6) + nI j = nI (i * 6 + j) := by
  rw [show (6 : Int32) = nI 6 from rfl, pk_mul, nI_add]
theorem wk_cx {i j : Nat} (hi : i < 6) (hj : j < 6) : ((nI i * 6) + nI j).toNatClampNeg = i * 6 + j := pk_cl (i * 6 + j) (wk_ix i j) (by omega)
theorem wk_in36 {i j : Nat} (hi : i < 6) (hj : j < 6) : vp_in ((nI i * 6) + nI j) 36 := pk_in (i * 6 + j) 36 (by omega) (wk_ix i j)
theorem wk_c {i : Nat} (hi : i < 37) : (nI i).toNatClampNeg = i := nI_clamp (by omega)
def tc_ok (n : Nat) (E M : Nat → Nat → Nat) (a1 a2 : Nat → Int32) : Prop := 2 ≤ n ∧ n ≤ 6 ∧ tc_sy n E ∧ tc_sy n M ∧ ∀ u v, u < n → v < n → u ≠ v → a1 (u * 6 + v) = nI (E u v) ∧ E u v ≤ 3 ∧ a2 (u * 6 + v) = nI (M u v) ∧ M u v ≤ 2
theorem wk_76 {post : St2 → Prop} {n s l : Nat} {fw fs : Int32} {a1 a2 a3 : Nat → Int32} {a4 a5 : Nat → Int64} {a6 : Nat → Int32} {g : Nat → Nat} (hn : n ≤ 6) (hl : l < 6) (hg : ∀ v, v < n → a3 v = nI (g v) ∧ g v < 6) (H : ∀ a3' : Nat → Int32, (∀ v, v < n → a3' v = nI (if g v = l then s else g v)) → post (nI n, fw, fs, a1, a2, a3', a4, a5, a6)) : ∃ k, wX_mergeGroups_76 post (nI s) (nI l) (nI n) fw fs k 0 a1 a2 a3 a4 a5 a6 := by
  refine pk_loop (fun k i t => wX_mergeGroups_76 post (nI s) (nI l) (nI n) fw fs k (nI i) a1 a2 t a4 a5 a6) (fun i t => ∀ v, v < n → t v = nI (if v < i ∧ g v = l then s else g v)) n 0 a3 (by omega) ?_ ?_ ?_
  · intro v hv
    rw [if_neg (by omega)]
    exact (hg v hv).1
  · intro k t h
    refine pk_le n n (fun _ => H t (fun v hv => ?_)) (fun z => absurd z (by omega))
    rw [h v hv]
    by_cases z : g v = l
    · rw [if_pos z, if_pos ⟨hv, z⟩]
    · rw [if_neg z, if_neg (fun q => z q.2)]
  · intro k i t hi h hw
    have hc : (nI i).toNatClampNeg = i := wk_c (by omega)
    have ti : t i = nI (g i) := by
      rw [h i hi, if_neg (by omega)]
    have gi := (hg i hi).2
    refine pk_le n i (fun z => absurd z (by omega)) (fun _ => ⟨pk_in i 6 (by omega), ?_⟩)
    refine pk_eq (g i) l (fun e => ⟨pk_in i 6 (by omega), nm_r (e' := upd t i (nI s)) (by rw [hc]) (nm_r (nI_1 i) (hw _ (fun v hv => ?_)))⟩) (fun e => nm_r (nI_1 i) (hw t (fun v hv => ?_))) (by rw [hc]; exact ti)
    · by_cases q : v = i
      · rw [q, pk_us, if_pos ⟨by omega, e⟩]
      · rw [pk_un q, h v hv]
        by_cases z : v < i ∧ g v = l
        · rw [if_pos z, if_pos ⟨by omega, z.2⟩]
        · rw [if_neg z, if_neg (fun r => z ⟨by omega, r.2⟩)]
    · rw [h v hv]
      by_cases q : v = i
      · rw [q, if_neg (by omega), if_neg (fun r => e r.2)]
      · by_cases z : v < i ∧ g v = l
        · rw [if_pos z, if_pos ⟨by omega, z.2⟩]
        · rw [if_neg z, if_neg (fun r => z ⟨by omega, r.2⟩)]
theorem wk_41 {post : St2 → Prop} {n u v : Nat} {W z : Int} {fs z0 fw : Int32} {a1 a2 a3 : Nat → Int32} {a4 a5 : Nat → Int64} {a6 : Nat → Int32} {g : Nat → Nat} (hn : n ≤ 6) (hu : u < n) (hv : v < n) (hg : ∀ x, x < n → a3 x = nI (g x) ∧ g x < 6) (hz : z0 = Int32.ofInt z) (H : ∀ a3' : Nat → Int32, (∀ x, x < n → a3' x = nI (gf_m g u v x)) → post (nI n, Int32.ofInt (W * z), fs, a1, a2, a3', a4, a5, a6)) : wX_mergeGroups_41 post (nI (g u)) (nI (g v)) z0 (Int32.ofInt W) (nI n) fw fs a1 a2 a3 a4 a5 a6 := by
  have gu := (hg u hu).2
  have gv := (hg v hv).2
  unfold wX_mergeGroups_41
  refine nm_r (e' := Int32.ofInt (W * z)) (by rw [hz, Int32.ofInt_mul]) ?_
  have m : ∀ s l, s = min (g u) (g v) → l = max (g u) (g v) → ∃ k, wX_mergeGroups_76 post (nI s) (nI l) (nI n) (Int32.ofInt (W * z)) fs k 0 a1 a2 a3 a4 a5 a6 := by
    intro s l hs hl
    refine wk_76 hn (by omega) hg (fun a3' h => H a3' (fun x hx => ?_))
    rw [h x hx]
    unfold gf_m
    rw [← hs, ← hl]
  refine pk_le (g v) (g u) (fun c => ?_) (fun c => ?_)
  · unfold wX_mergeGroups_57
    exact pk_le (g v) (g u) (fun _ => m (g v) (g u) (by omega) (by omega)) (fun q => absurd q (by omega))
  · unfold wX_mergeGroups_57
    exact pk_le (g v) (g u) (fun q => absurd q (by omega)) (fun _ => m (g u) (g v) (by omega) (by omega))
theorem wk_merge {post : St2 → Prop} {n u v : Nat} {W : Int} {fs : Int32} {a1 a2 a3 : Nat → Int32} {a4 a5 : Nat → Int64} {a6 : Nat → Int32} {g : Nat → Nat} {E : Nat → Nat → Nat} (hn : n ≤ 6) (hu : u < n) (hv : v < n) (hg : ∀ x, x < n → a3 x = nI (g x) ∧ g x < 6) (hE : a1 (u * 6 + v) = nI (E u v)) (H : ∀ a3' : Nat → Int32, (∀ x, x < n → a3' x = nI (gf_m g u v x)) → post (nI n, Int32.ofInt (W * (if g u = g v then 0 else (E u v : Int))), fs, a1, a2, a3', a4, a5, a6)) : wpX_mergeGroups post (nI n, Int32.ofInt W, fs, a1, a2, a3, a4, a5, a6) (nI u) (nI v) := by
  have gu := (hg u hu).2
  have gv := (hg v hv).2
  unfold wpX_mergeGroups
  refine ⟨pk_in u 6 (by omega), nm_r (e' := nI (g u)) (by rw [wk_c (by omega)]; exact (hg u hu).1) ⟨pk_in v 6 (by omega), nm_r (e' := nI (g v)) (by rw [wk_c (by omega)]; exact (hg v hv).1) ?_⟩⟩
  refine pk_eq (g u) (g v) (fun e => ?_) (fun e => ⟨wk_in36 (by omega) (by omega), ?_⟩)
  · rw [if_pos e] at H
    exact wk_41 hn hu hv hg rfl H
  · rw [if_neg e] at H
    exact wk_41 hn hu hv hg (by rw [wk_cx (by omega) (by omega), hE]; exact wk_nI _) H
def wk_gr (n : Nat) (s : Int × (Nat → Nat)) (fw : Int32) (a3 : Nat → Int32) : Prop := fw = Int32.ofInt s.1 ∧ ∀ v, v < n → a3 v = nI (s.2 v)
theorem ct_in_low (E M : Nat → Nat → Nat) (u : Nat) (s : Int × (Nat → Nat)) : ∀ k, k ≤ u + 1 → ct_in E M u k s = s := by
  intro k
  induction k with
  | zero => exact fun _ => rfl
  | succ k ih =>
    intro hk
    show ct_st E M u k (ct_in E M u k s) = s
    rw [ih (by omega)]
    unfold ct_st
    exact if_neg (fun q => by omega)
theorem wk_42 {post : St2 → Prop} {J : Int32 → Int32 → Int32 → Int32 → (Nat → Int32) → (Nat → Int32) → (Nat → Int32) → (Nat → Int64) → (Nat → Int64) → (Nat → Int32) → Prop} {n u : Nat} {fw fs : Int32} {a1 a2 a3 : Nat → Int32} {a4 a5 : Nat → Int64} {a6 : Nat → Int32} {E M : Nat → Nat → Nat} {S : Int × (Nat → Nat)} (ok : tc_ok n E M a1 a2) (hu : u < n) (hS : gf_ok n S.2) (h0 : wk_gr n S fw a3) (H : ∀ fw' a3', wk_gr n (ct_in E M u n S) fw' a3' → J (nI (u + 1)) (nI n) fw' fs a1 a2 a3' a4 a5 a6) : ∃ k, wX_contract_42 post J (nI u) k (nI (u + 1)) (nI n) fw fs a1 a2 a3 a4 a5 a6 := by
  obtain ⟨n2, n6, hE, hM, ar⟩ := ok
  refine pk_loop (σ := Int32 × (Nat → Int32)) (fun k i t => wX_contract_42 post J (nI u) k (nI i) (nI n) t.1 fs a1 a2 t.2 a4 a5 a6) (fun i t => u < i ∧ wk_gr n (ct_in E M u i S) t.1 t.2) n (u + 1) (fw, a3) (by omega) ⟨by omega, ?_⟩ ?_ ?_
  · rw [ct_in_low E M u S (u + 1) (Nat.le_refl _)]
    exact h0
  · intro k t h
    exact pk_le n n (fun _ => nm_r (nI_1 u) (H t.1 t.2 h.2)) (fun z => absurd z (by omega))
  · intro k i t hi h hw
    obtain ⟨fw', t'⟩ := t
    obtain ⟨hui, h1, h2⟩ := h
    dsimp only at h1 h2 hw ⊢
    have a := ar u i hu hi (by omega)
    have oki := (ct_in_ok E M n u hu S hS i (by omega)).1
    have e : ct_in E M u (i + 1) S = ct_st E M u i (ct_in E M u i S) := rfl
    rw [e] at hw
    generalize ct_in E M u i S = Q at h1 h2 hw oki
    subst h1
    have gl : ∀ x, x < n → t' x = nI (Q.2 x) ∧ Q.2 x < 6 := fun x hx => ⟨h2 x hx, by have := (oki x hx).1; omega⟩
    refine pk_le n i (fun z => absurd z (by omega)) (fun _ => ⟨wk_in36 (by omega) (by omega), ?_⟩)
    refine pk_eq (M u i) 1 (fun q => ?_) (fun q => ?_) (by rw [wk_cx (by omega) (by omega)]; exact a.2.2.1)
    · have e2 : ct_st E M u i Q = ct_mg E u i Q := if_pos ⟨hui, q⟩
      rw [e2] at hw
      exact wk_merge n6 hu hi gl a.1 (fun a3' h' => nm_r (nI_1 i) (hw (_, a3') ⟨by omega, rfl, h'⟩))
    · have e2 : ct_st E M u i Q = Q := if_neg (fun z => q z.2)
      rw [e2] at hw
      exact nm_r (nI_1 i) (hw (Int32.ofInt Q.1, t') ⟨by omega, rfl, h2⟩)
theorem wk_30 {post : St2 → Prop} {n : Nat} {fw fs : Int32} {a1 a2 a3 : Nat → Int32} {a4 a5 : Nat → Int64} {a6 : Nat → Int32} {E M : Nat → Nat → Nat} (ok : tc_ok n E M a1 a2) (h0 : wk_gr n ct_0 fw a3) (H : ∀ fw' a3', wk_gr n (ct_C E M n) fw' a3' → post (nI n, fw', fs, a1, a2, a3', a4, a5, a6)) : ∃ k, wX_contract_30 post k 0 (nI n) fw fs a1 a2 a3 a4 a5 a6 := by
  have n6 := ok.2.1
  refine pk_loop (σ := Int32 × (Nat → Int32)) (fun k i t => wX_contract_30 post k (nI i) (nI n) t.1 fs a1 a2 t.2 a4 a5 a6) (fun i t => wk_gr n (ct_out E M n i ct_0) t.1 t.2) n 0 (fw, a3) (by omega) h0 ?_ ?_
  · intro k t h
    exact pk_le n n (fun _ => H t.1 t.2 h) (fun z => absurd z (by omega))
  · intro k i t hi h hw
    refine pk_le n i (fun z => absurd z (by omega)) (fun _ => nm_r (nI_1 i) ?_)
    exact wk_42 ok hi (ct_out_ok E M n ct_0 (ct_ok0 n) i (by omega)).1 h (fun fw' a3' h' => hw (fw', a3') h')
theorem wk_contract {post : St2 → Prop} {n : Nat} {fw fs : Int32} {a1 a2 a3 : Nat → Int32} {a4 a5 : Nat → Int64} {a6 : Nat → Int32} {E M : Nat → Nat → Nat} (ok : tc_ok n E M a1 a2) (H : ∀ a3', (∀ v, v < n → a3' v = nI ((ct_C E M n).2 v)) → post (nI n, Int32.ofInt (ct_C E M n).1, fs, a1, a2, a3', a4, a5, a6)) : wpX_contract post (nI n, fw, fs, a1, a2, a3, a4, a5, a6) := by
  have n6 := ok.2.1
  unfold wpX_contract
  refine pk_loop (fun k i t => wX_contract_7 post (nI n) 1 fs k (nI i) a1 a2 t a4 a5 a6) (fun i t => ∀ v, v < i → t v = nI v) n 0 a3 (by omega) (fun v hv => absurd hv (by omega)) ?_ ?_
  · intro k t h
    refine pk_le n n (fun _ => ?_) (fun z => absurd z (by omega))
    exact wk_30 ok ⟨rfl, h⟩ (fun fw' a3' h' => by rw [h'.1]; exact H a3' h'.2)
  · intro k i t hi h hw
    refine pk_le n i (fun z => absurd z (by omega)) (fun _ => ⟨pk_in i 6 (by omega), nm_r (e' := upd t i (nI i)) (by rw [wk_c (by omega)]) (nm_r (nI_1 i) (hw _ (fun v hv => ?_)))⟩)
    by_cases q : v = i
    · rw [q, pk_us]
    · rw [pk_un q]
      exact h v (by omega)
end
section
def wk_mt (A : Nat → Nat → Int) (a4 : Nat → Int64) : Prop := ∀ a b, a < 6 → b < 6 → a4 (a * 6 + b) = Int64.ofInt (A a b)
def wk_F (n : Nat) (w : Nat → Nat → Int) (g : Nat → Nat) (u v a b : Nat) : Int := dt_sum u (fun x => dt_sum n (fun y => gf_t w g a b x y)) + dt_sum v (fun y => gf_t w g a b u y)
theorem wk_F_s (n : Nat) (w : Nat → Nat → Int) (g : Nat → Nat) (u v a b : Nat) : wk_F n w g u (v + 1) a b = wk_F n w g u v a b + gf_t w g a b u v := by
  show dt_sum u (fun x => dt_sum n (fun y => gf_t w g a b x y)) + (dt_sum v (fun y => gf_t w g a b u y) + gf_t w g a b u v) = _
  unfold wk_F
  omega
theorem wk_F_n (n : Nat) (w : Nat → Nat → Int) (g : Nat → Nat) (u a b : Nat) : wk_F n w g u n a b = wk_F n w g (u + 1) 0 a b := by
  show dt_sum u (fun x => dt_sum n (fun y => gf_t w g a b x y)) + dt_sum n (fun y => gf_t w g a b u y) = (dt_sum u (fun x => dt_sum n (fun y => gf_t w g a b x y)) + dt_sum n (fun y => gf_t w g a b u y)) + 0
  omega
theorem wk_33 {post : St2 → Prop} {J : Int32 → (Nat → Int32) → (Nat → Int32) → (Nat → Int32) → (Nat → Int64) → (Nat → Int64) → (Nat → Int32) → Prop} {n u : Nat} {fw fs : Int32} {a1 a2 a3 : Nat → Int32} {a4 a5 : Nat → Int64} {a6 : Nat → Int32} {E M : Nat → Nat → Nat} {g : Nat → Nat} (ok : tc_ok n E M a1 a2) (hu : u < n) (hg : ∀ x, x < n → a3 x = nI (g x) ∧ g x < 6) (h0 : wk_mt (wk_F n (tc_w E M) g u 0) a4) (H : ∀ a4', wk_mt (wk_F n (tc_w E M) g (u + 1) 0) a4' → J (nI (u + 1)) a1 a2 a3 a4' a5 a6) : ∃ k, wX_fillMatrix_33 post J (nI u) (nI n) fw fs k 0 a1 a2 a3 a4 a5 a6 := by
  obtain ⟨n2, n6, hE, hM, ar⟩ := ok
  refine pk_loop (fun k i t => wX_fillMatrix_33 post J (nI u) (nI n) fw fs k (nI i) a1 a2 a3 t a5 a6) (fun i t => wk_mt (wk_F n (tc_w E M) g u i) t) n 0 a4 (by omega) h0 ?_ ?_
  · intro k t h
    refine pk_le n n (fun _ => nm_r (nI_1 u) (H t ?_)) (fun z => absurd z (by omega))
    intro a b ha hb
    rw [h a b ha hb, wk_F_n]
  · intro k i t hi h hw
    have gu := (hg u hu).2
    have gi := (hg i hi).2
    have same : (∀ a b, gf_t (tc_w E M) g a b u i = 0) → wk_mt (wk_F n (tc_w E M) g u (i + 1)) t := by
      intro hz a b ha hb
      rw [h a b ha hb, wk_F_s, hz a b, Int.add_zero]
    refine pk_le n i (fun z => absurd z (by omega)) (fun _ => ⟨pk_in u 6 (by omega), nm_r (e' := nI (g u)) (by rw [wk_c (by omega)]; exact (hg u hu).1) ⟨pk_in i 6 (by omega), nm_r (e' := nI (g i)) (by rw [wk_c (by omega)]; exact (hg i hi).1) ?_⟩⟩)
    refine pk_eq u i (fun q => nm_r (nI_1 i) (hw t (same (fun a b => ?_)))) (fun q => ?_)
    · unfold gf_t
      rw [q, Int.sub_self, Int.mul_zero, Int.mul_zero]
    · refine pk_eq (g u) (g i) (fun q2 => nm_r (nI_1 i) (hw t (same (fun a b => ?_)))) (fun q2 => ⟨wk_in36 (by omega) (by omega), ?_⟩)
      · unfold gf_t
        rw [q2, Int.sub_self, Int.mul_zero, Int.mul_zero]
      · have a := ar u i hu hi q
        refine pk_eq (M u i) 0 (fun q3 => ?_) (fun q3 => nm_r (nI_1 i) (hw t (same (fun a b => ?_)))) (by rw [wk_cx (by omega) (by omega)]; exact a.2.2.1) (by rfl) (by omega)
        · have x1 : a1 ((nI u * 6) + nI i).toNatClampNeg = nI (E u i) := by rw [wk_cx (by omega) (by omega)]; exact a.1
          have x2 : (nI (E u i)).toInt64 = Int64.ofInt (E u i : Int) := wk_toL (by omega)
          refine ⟨wk_in36 (by omega) (by omega), wk_in36 (by omega) (by omega), wk_in36 (by omega) (by omega), nm_r (e' := vp_updL t (g u * 6 + g i) (Int64.ofInt (wk_F n (tc_w E M) g u i (g u) (g i) - (E u i : Int)))) (by rw [wk_cx (by omega) (by omega), x1, x2, h _ _ gu gi, Int64.ofInt_sub]) ?_⟩
          refine ⟨wk_in36 (by omega) (by omega), wk_in36 (by omega) (by omega), wk_in36 (by omega) (by omega), nm_r (e' := vp_updL (vp_updL t (g u * 6 + g i) (Int64.ofInt (wk_F n (tc_w E M) g u i (g u) (g i) - (E u i : Int)))) (g u * 6 + g u) (Int64.ofInt (wk_F n (tc_w E M) g u i (g u) (g u) + (E u i : Int)))) (by rw [wk_cx (by omega) (by omega), x1, x2, pk_uLn (by omega), h _ _ gu gu, Int64.ofInt_add]) (nm_r (nI_1 i) (hw _ ?_))⟩
          intro c d hc hd
          have we : tc_w E M u i = (E u i : Int) := if_pos ⟨q, q3⟩
          rw [wk_F_s]
          unfold gf_t gf_d
          rw [we]
          by_cases r1 : g u = c
          · rw [if_pos r1, ← r1]
            by_cases r2 : g u = d
            · rw [if_pos r2, if_neg (show ¬ g i = d by omega), ← r2, pk_uLs]
              congr 1
              omega
            · rw [if_neg r2, pk_uLn (by omega)]
              by_cases r3 : g i = d
              · rw [if_pos r3, ← r3, pk_uLs]
                congr 1
                omega
              · rw [if_neg r3, pk_uLn (by omega), h _ _ gu hd]
                congr 1
                omega
          · rw [if_neg r1, pk_uLn (by omega), pk_uLn (by omega), h _ _ hc hd]
            congr 1
            omega
        · have we : tc_w E M u i = 0 := if_neg (fun z => q3 z.2)
          unfold gf_t
          rw [we, Int.zero_mul]
theorem wk_fill {post : St2 → Prop} {n : Nat} {fw fs : Int32} {a1 a2 a3 : Nat → Int32} {a4 a5 : Nat → Int64} {a6 : Nat → Int32} {E M : Nat → Nat → Nat} {g : Nat → Nat} (ok : tc_ok n E M a1 a2) (hg : ∀ x, x < n → a3 x = nI (g x) ∧ g x < 6) (H : ∀ a4', wk_mt (gf_L n g (tc_w E M)) a4' → post (nI n, fw, fs, a1, a2, a3, a4', a5, a6)) : wpX_fillMatrix post (nI n, fw, fs, a1, a2, a3, a4, a5, a6) := by
  have n6 := ok.2.1
  unfold wpX_fillMatrix
  refine pk_loop (fun k i t => wX_fillMatrix_2 post (nI n) fw fs k (nI i) a1 a2 a3 t a5 a6) (fun i t => ∀ v, v < i → t v = 0) 36 0 a4 (by omega) (fun v hv => absurd hv (by omega)) ?_ ?_
  · intro k t h
    refine pk_le 36 36 (fun _ => ?_) (fun z => absurd z (by omega))
    refine pk_loop (fun k i t => wX_fillMatrix_23 post (nI n) fw fs k (nI i) a1 a2 a3 t a5 a6) (fun i t => wk_mt (wk_F n (tc_w E M) g i 0) t) n 0 t (by omega) ?_ ?_ ?_
    · intro a b ha hb
      rw [h _ (by omega)]
      rfl
    · intro k t h
      refine pk_le n n (fun _ => H t ?_) (fun z => absurd z (by omega))
      intro a b ha hb
      rw [h a b ha hb]
      congr 1
      show dt_sum n (fun x => dt_sum n (fun y => gf_t (tc_w E M) g a b x y)) + 0 = _
      exact Int.add_zero _
    · intro k i t hi h hw
      refine pk_le n i (fun z => absurd z (by omega)) (fun _ => ?_)
      exact wk_33 ok hi hg h (fun a4' h' => hw a4' h')
  · intro k i t hi h hw
    refine pk_le 36 i (fun z => absurd z (by omega)) (fun _ => ⟨pk_in i 36 (by omega), nm_r (e' := vp_updL t i 0) (by rw [wk_c (by omega)]) (nm_r (nI_1 i) (hw _ (fun v hv => ?_)))⟩)
    by_cases q : v = i
    · rw [q, pk_uLs]
    · rw [pk_uLn q]
      exact h v (by omega)
theorem wk_kl_len (p : Nat → Bool) (n : Nat) : (bz_kl p n).length ≤ n := by
  have h := List.length_filter_le p (List.range n)
  rw [List.length_range] at h
  exact h
theorem wk_at_lo (p : Nat → Bool) (i j : Nat) (hj : j < (bz_kl p i).length) : bz_at p (i + 1) j = bz_at p i j := by
  unfold bz_at
  rw [bz_kl_s, List.getD_eq_getElem?_getD, List.getD_eq_getElem?_getD, List.getElem?_append_left hj]
theorem wk_at_hi (p : Nat → Bool) (i : Nat) (hp : p i = true) : bz_at p (i + 1) (bz_kl p i).length = i := by
  unfold bz_at
  rw [bz_kl_s, if_pos hp, List.getD_eq_getElem?_getD, List.getElem?_append_right (Nat.le_refl _), Nat.sub_self]
  rfl
theorem wk_at_lt (p : Nat → Bool) (n j : Nat) (hj : j < (bz_kl p n).length) : bz_at p n j < n := by
  unfold bz_at
  rw [List.getD_eq_getElem?_getD, List.getElem?_eq_getElem hj]
  exact List.mem_range.mp (List.mem_filter.mp (List.getElem_mem hj)).1
theorem wk_cut {post : St2 → Prop} {n cx cy : Nat} {fw fs : Int32} {a1 a2 a3 : Nat → Int32} {a4 a5 : Nat → Int64} {a6 : Nat → Int32} {g : Nat → Nat} {A : Nat → Nat → Int} (n6 : n ≤ 6) (hx : cx < 6) (hy : cy < 6) (hg : ∀ x, x < n → a3 x = nI (g x) ∧ g x < 6) (hA : wk_mt A a4) (H : ∀ a5' a6', (∀ r c, r < (bz_kl (gf_K g cx cy) n).length → c < (bz_kl (gf_K g cx cy) n).length → a5' (r * 6 + c) = Int64.ofInt (A (bz_at (gf_K g cx cy) n r) (bz_at (gf_K g cx cy) n c))) → post (nI n, fw, nI (bz_kl (gf_K g cx cy) n).length, a1, a2, a3, a4, a5', a6')) : wpX_cutOut post (nI n, fw, fs, a1, a2, a3, a4, a5, a6) (nI cx) (nI cy) := by
  unfold wpX_cutOut
  refine pk_loop (σ := Int32 × (Nat → Int32)) (fun k i t => wX_cutOut_7 post (nI cx) (nI cy) (nI n) fw k (nI i) t.1 a1 a2 a3 a4 a5 t.2) (fun i t => t.1 = nI (bz_kl (gf_K g cx cy) i).length ∧ ∀ j, j < (bz_kl (gf_K g cx cy) i).length → t.2 j = nI (bz_at (gf_K g cx cy) i j)) n 0 (0, a6) (by omega) ⟨rfl, fun j hj => absurd hj (by exact Nat.not_lt_zero j)⟩ ?_ ?_
  · intro k t h
    obtain ⟨f, t⟩ := t
    obtain ⟨h1, h2⟩ := h
    dsimp only at h1 h2 ⊢
    subst h1
    have hm := wk_kl_len (gf_K g cx cy) n
    have hat := wk_at_lt (gf_K g cx cy) n
    generalize hp : (bz_kl (gf_K g cx cy) n).length = m at *
    refine pk_le n n (fun _ => ?_) (fun z => absurd z (by omega))
    refine pk_loop (fun k i s => wX_cutOut_63 post (nI n) fw (nI m) k (nI i) a1 a2 a3 a4 s t) (fun i s => ∀ r c, r < m → c < m → r < i → s (r * 6 + c) = Int64.ofInt (A (bz_at (gf_K g cx cy) n r) (bz_at (gf_K g cx cy) n c))) m 0 a5 (by omega) (fun r c _ _ hr => absurd hr (by omega)) ?_ ?_
    · intro k s h
      exact pk_le m m (fun _ => H s t (fun r c hr hc => h r c hr hc hr)) (fun z => absurd z (by omega))
    · intro k i s hi h hw
      refine pk_le m i (fun z => absurd z (by omega)) (fun _ => ?_)
      refine pk_loop (fun k2 j s => wX_cutOut_74 post (wX_cutOut_63 post (nI n) fw (nI m) k) (nI i) (nI n) fw (nI m) k2 (nI j) a1 a2 a3 a4 s t) (fun j s => ∀ r c, r < m → c < m → r < i ∨ (r = i ∧ c < j) → s (r * 6 + c) = Int64.ofInt (A (bz_at (gf_K g cx cy) n r) (bz_at (gf_K g cx cy) n c))) m 0 s (by omega) (fun r c hr hc hq => h r c hr hc (by omega)) ?_ ?_
      · intro k2 s h
        exact pk_le m m (fun _ => nm_r (nI_1 i) (hw s (fun r c hr hc hq => h r c hr hc (by omega)))) (fun z => absurd z (by omega))
      · intro k2 j s hj h hw2
        have ki := hat i hi
        have kj := hat j hj
        have ti : t (nI i).toNatClampNeg = nI (bz_at (gf_K g cx cy) n i) := by rw [wk_c (by omega)]; exact h2 i hi
        have tj : t (nI j).toNatClampNeg = nI (bz_at (gf_K g cx cy) n j) := by rw [wk_c (by omega)]; exact h2 j hj
        refine pk_le m j (fun z => absurd z (by omega)) (fun _ => ⟨pk_in i 6 (by omega), pk_in j 6 (by omega), by rw [ti, tj]; exact wk_in36 (by omega) (by omega), wk_in36 (by omega) (by omega), nm_r (e' := vp_updL s (i * 6 + j) (Int64.ofInt (A (bz_at (gf_K g cx cy) n i) (bz_at (gf_K g cx cy) n j)))) (by rw [ti, tj, wk_cx (by omega) (by omega), wk_cx (by omega) (by omega), hA _ _ (by omega) (by omega)]) (nm_r (nI_1 j) (hw2 _ (fun r c hr hc hq => ?_)))⟩)
        by_cases q : r = i ∧ c = j
        · rw [q.1, q.2, pk_uLs]
        · rw [pk_uLn (by omega)]
          exact h r c hr hc (by omega)
  · intro k i t hi h hw
    obtain ⟨f, t⟩ := t
    obtain ⟨h1, h2⟩ := h
    dsimp only at h1 h2 hw ⊢
    subst h1
    have hm := wk_kl_len (gf_K g cx cy) i
    have gi := (hg i hi).2
    have no : ¬ gf_K g cx cy i = true → (nI (bz_kl (gf_K g cx cy) i).length = nI (bz_kl (gf_K g cx cy) (i + 1)).length ∧ ∀ j, j < (bz_kl (gf_K g cx cy) (i + 1)).length → t j = nI (bz_at (gf_K g cx cy) (i + 1) j)) := by
      intro hp
      have e : bz_kl (gf_K g cx cy) (i + 1) = bz_kl (gf_K g cx cy) i := by
        rw [bz_kl_s, if_neg hp, List.append_nil]
      refine ⟨by rw [e], fun j hj => ?_⟩
      rw [e] at hj
      rw [wk_at_lo _ _ _ hj]
      exact h2 j hj
    refine pk_le n i (fun z => absurd z (by omega)) (fun _ => ⟨pk_in i 6 (by omega), ?_⟩)
    refine pk_eq (g i) i (fun q1 => ?_) (fun q1 => nm_r (nI_1 i) (hw (_, t) (no (fun z => q1 (of_decide_eq_true z).1)))) (by rw [wk_c (by omega)]; exact (hg i hi).1)
    refine pk_eq i cx (fun q2 => nm_r (nI_1 i) (hw (_, t) (no (fun z => (of_decide_eq_true z).2.1 q2)))) (fun q2 => ?_)
    refine pk_eq i cy (fun q3 => nm_r (nI_1 i) (hw (_, t) (no (fun z => (of_decide_eq_true z).2.2 q3)))) (fun q3 => ?_)
    have hp : gf_K g cx cy i = true := decide_eq_true ⟨q1, q2, q3⟩
    have e : (bz_kl (gf_K g cx cy) (i + 1)).length = (bz_kl (gf_K g cx cy) i).length + 1 := by
      rw [bz_kl_s, if_pos hp, List.length_append]
      rfl
    refine ⟨pk_in (bz_kl (gf_K g cx cy) i).length 6 (by omega), nm_r (e' := upd t (bz_kl (gf_K g cx cy) i).length (nI i)) (by rw [wk_c (by omega)]) (nm_r (nI_1 _) (nm_r (nI_1 i) (hw (nI ((bz_kl (gf_K g cx cy) i).length + 1), upd t (bz_kl (gf_K g cx cy) i).length (nI i)) ⟨congrArg nI e.symm, fun j hj => ?_⟩)))⟩
    dsimp only
    by_cases q : j = (bz_kl (gf_K g cx cy) i).length
    · rw [q, pk_us, wk_at_hi _ _ hp]
    · rw [pk_un q, wk_at_lo _ _ _ (by omega)]
      exact h2 j (by omega)
end
section
theorem wk_l0 {z : Int} (h : z.natAbs < 4611686018427387904) : Int64.ofInt z = 0 ↔ z = 0 := by
  constructor
  · intro e
    have t := congrArg Int64.toInt e
    rw [Int64.toInt_ofInt_of_le (by omega) (by omega)] at t
    exact t
  · intro e
    rw [e]
    rfl
theorem wk_ldiv {p q : Int} (hp : p ≠ 0) (hb : p.natAbs < 4611686018427387904) (h : (p * q).natAbs < 9223372036854775807) : Int64.ofInt (p * q) / Int64.ofInt p = Int64.ofInt q := by
  have m1 : Int64.minValue.toInt = -9223372036854775808 := by decide
  have m2 : Int64.maxValue.toInt = 9223372036854775807 := by decide
  rw [← Int64.ofInt_tdiv (by omega) (by omega) (by omega) (by omega), Int.mul_tdiv_cancel_left q hp]
theorem wk_bd {k : Nat} (h : k ≤ 4) : bz_bd 90 k ≤ 1574640000 := by
  have q : k = 0 ∨ k = 1 ∨ k = 2 ∨ k = 3 ∨ k = 4 := by omega
  rcases q with e | e | e | e | e <;> rw [e] <;> decide
theorem wk_bd5 {k : Nat} (h : k ≤ 5) : bz_bd 90 k ≤ 708588000000 := by
  have q : k = 0 ∨ k = 1 ∨ k = 2 ∨ k = 3 ∨ k = 4 ∨ k = 5 := by omega
  rcases q with e | e | e | e | e | e <;> rw [e] <;> decide
theorem wk_prod {a b c d : Int} (ha : a.natAbs ≤ 1574640000) (hb : b.natAbs ≤ 1574640000) (hc : c.natAbs ≤ 1574640000) (hd : d.natAbs ≤ 1574640000) : (a * b - c * d).natAbs < 9223372036854775807 := by
  have h1 : (a * b).natAbs ≤ 1574640000 * 1574640000 := by
    rw [Int.natAbs_mul]
    exact Nat.mul_le_mul ha hb
  have h2 : (c * d).natAbs ≤ 1574640000 * 1574640000 := by
    rw [Int.natAbs_mul]
    exact Nat.mul_le_mul hc hd
  generalize a * b = x at h1
  generalize c * d = y at h2
  omega
theorem wk_piv {post : Int32 → Prop} {n m k : Nat} {fn fw : Int32} {a1 a2 a3 : Nat → Int32} {a4 a5 : Nat → Int64} {a6 : Nat → Int32} {b : Nat → Int} (hm : m ≤ 6) (hk : k < m) (hb : ∀ i, k ≤ i → i < m → a5 (i * 6 + k) = Int64.ofInt (b i) ∧ (b i).natAbs < 4611686018427387904) (H1 : ∀ i, k ≤ i → i < m → b i ≠ 0 → post (nI i)) (H0 : (∀ i, k ≤ i → i < m → b i = 0) → post (-1)) : wpX_pivotRow post (fn, fw, nI m, a1, a2, a3, a4, a5, a6) (nI k) := by
  unfold wpX_pivotRow
  refine pk_loop (σ := Unit) (fun t i _ => wX_pivotRow_2 post (nI k) fn fw (nI m) a1 a2 a3 a4 a5 a6 t (nI i)) (fun i _ => k ≤ i ∧ ∀ r, k ≤ r → r < i → b r = 0) m k () (by omega) ⟨Nat.le_refl k, fun r h1 h2 => absurd h2 (by omega)⟩ ?_ ?_
  · intro t _ h
    exact pk_le m m (fun _ => H0 h.2) (fun z => absurd z (by omega))
  · intro t i _ hi h hw
    have e := hb i h.1 hi
    refine pk_le m i (fun z => absurd z (by omega)) (fun _ => ⟨wk_in36 (by omega) (by omega), br_c (fun z => ?_) (fun z => ?_)⟩)
    · rw [wk_cx (by omega) (by omega), e.1, wk_l0 e.2] at z
      refine nm_r (nI_1 i) (hw () ⟨by omega, fun r h1 h2 => ?_⟩)
      by_cases q : r = i
      · rw [q, z]
      · exact h.2 r h1 (by omega)
    · rw [wk_cx (by omega) (by omega), e.1, wk_l0 e.2] at z
      exact H1 i h.1 hi z
theorem wk_swap {post : St2 → Prop} {m x y : Nat} {fn fw : Int32} {a1 a2 a3 : Nat → Int32} {a4 a5 : Nat → Int64} {a6 : Nat → Int32} (hm : m ≤ 6) (hx : x < m) (hy : y < m) (hxy : x ≠ y) (H : ∀ a5', (∀ r c, r < m → c < m → a5' (r * 6 + c) = a5 (dt_tp x y r * 6 + c)) → post (fn, fw, nI m, a1, a2, a3, a4, a5', a6)) : wpX_swapRows post (fn, fw, nI m, a1, a2, a3, a4, a5, a6) (nI x) (nI y) := by
  unfold wpX_swapRows
  refine pk_loop (fun t j s => wX_swapRows_2 post (nI x) (nI y) fn fw (nI m) t (nI j) a1 a2 a3 a4 s a6) (fun j s => ∀ r c, r < m → c < m → s (r * 6 + c) = a5 ((if c < j then dt_tp x y r else r) * 6 + c)) m 0 a5 (by omega) (fun r c _ _ => by rw [if_neg (by omega)]) ?_ ?_
  · intro t s h
    refine pk_le m m (fun _ => H s (fun r c hr hc => ?_)) (fun z => absurd z (by omega))
    rw [h r c hr hc, if_pos hc]
  · intro t j s hj h hw
    have sx : s (x * 6 + j) = a5 (x * 6 + j) := by rw [h x j hx hj, if_neg (by omega)]
    have sy : s (y * 6 + j) = a5 (y * 6 + j) := by rw [h y j hy hj, if_neg (by omega)]
    refine pk_le m j (fun z => absurd z (by omega)) (fun _ => ⟨wk_in36 (by omega) (by omega), nm_r (e' := a5 (x * 6 + j)) (by rw [wk_cx (by omega) (by omega), sx]) ⟨wk_in36 (by omega) (by omega), wk_in36 (by omega) (by omega), nm_r (e' := vp_updL s (x * 6 + j) (a5 (y * 6 + j))) (by rw [wk_cx (by omega) (by omega), wk_cx (by omega) (by omega), sy]) ⟨wk_in36 (by omega) (by omega), nm_r (e' := vp_updL (vp_updL s (x * 6 + j) (a5 (y * 6 + j))) (y * 6 + j) (a5 (x * 6 + j))) (by rw [wk_cx (by omega) (by omega)]) (nm_r (nI_1 j) (hw _ (fun r c hr hc => ?_)))⟩⟩⟩)
    by_cases qc : c = j
    · rw [qc, if_pos (by omega)]
      unfold dt_tp
      by_cases q1 : r = x
      · rw [if_pos q1, q1, pk_uLn (by omega), pk_uLs]
      · by_cases q2 : r = y
        · rw [if_neg q1, if_pos q2, q2, pk_uLs]
        · rw [if_neg q1, if_neg q2, pk_uLn (by omega), pk_uLn (by omega), h r j hr hj, if_neg (by omega)]
    · rw [pk_uLn (by omega), pk_uLn (by omega), h r c hr hc]
      by_cases q : c < j
      · rw [if_pos q, if_pos (by omega)]
      · rw [if_neg q, if_neg (by omega)]
def wk_P (k i j r c : Nat) : Prop := k < r ∧ k < c ∧ (r < i ∨ (r = i ∧ c < j))
theorem wk_elim {post : St2 → Prop} {m k : Nat} {fn fw : Int32} {a1 a2 a3 : Nat → Int32} {a4 a5 : Nat → Int64} {a6 : Nat → Int32} {A : Nat → Nat → Int} (hm : m ≤ 5) (hk : k < m) (hA : ∀ r c, r < m → c < m → (A r c).natAbs ≤ 90) (hp : dt_det k A ≠ 0) (h5 : ∀ r c, k ≤ r → r < m → k ≤ c → c < m → a5 (r * 6 + c) = Int64.ofInt (bz_mn k A r c)) (H : ∀ a5', (∀ r c, k < r → r < m → k < c → c < m → a5' (r * 6 + c) = Int64.ofInt (bz_mn (k + 1) A r c)) → a5' (k * 6 + k) = Int64.ofInt (bz_mn k A k k) → post (fn, fw, nI m, a1, a2, a3, a4, a5', a6)) : wpX_eliminate post (fn, fw, nI m, a1, a2, a3, a4, a5, a6) (nI k) (Int64.ofInt (dt_det k A)) := by
  unfold wpX_eliminate
  have b0 : (dt_det k A).natAbs ≤ 1574640000 := Nat.le_trans (bz_bound k 90 A (fun r c hr hc => hA r c (by omega) (by omega))) (wk_bd (by omega))
  have p0 : ¬ Int64.ofInt (dt_det k A) = 0 := fun z => hp ((wk_l0 (by omega)).mp z)
  refine ⟨wk_in36 (by omega) (by omega), nm_r (e' := Int64.ofInt (bz_mn k A k k)) (by rw [wk_cx (by omega) (by omega)]; exact h5 k k (Nat.le_refl k) hk (Nat.le_refl k) hk) (nm_r (nI_1 k) ?_)⟩
  refine pk_loop (fun t i s => wX_eliminate_18 post (nI k) (Int64.ofInt (dt_det k A)) (Int64.ofInt (bz_mn k A k k)) fn fw (nI m) t (nI i) a1 a2 a3 a4 s a6) (fun i s => k < i ∧ (∀ r c, wk_P k i 0 r c → r < m → c < m → s (r * 6 + c) = Int64.ofInt (bz_mn (k + 1) A r c)) ∧ (∀ r c, k ≤ r → k ≤ c → ¬ wk_P k i 0 r c → r < m → c < m → s (r * 6 + c) = Int64.ofInt (bz_mn k A r c))) m (k + 1) a5 (by omega) ⟨by omega, fun r c hq => absurd hq (by unfold wk_P; omega), fun r c h1 h2 _ h3 h4 => h5 r c h1 h3 h2 h4⟩ ?_ ?_
  · intro t s h
    refine pk_le m m (fun _ => H s (fun r c h1 h2 h3 h4 => h.2.1 r c (by unfold wk_P; omega) h2 h4) (h.2.2 k k (Nat.le_refl k) (Nat.le_refl k) (by unfold wk_P; omega) hk hk)) (fun z => absurd z (by omega))
  · intro t i s hi h hw
    refine pk_le m i (fun z => absurd z (by omega)) (fun _ => nm_r (nI_1 k) ?_)
    obtain ⟨hki, hd, ho⟩ := h
    refine pk_loop (fun t2 j s => wX_eliminate_32 post (wX_eliminate_18 post (nI k) (Int64.ofInt (dt_det k A)) (Int64.ofInt (bz_mn k A k k)) fn fw (nI m) t) (nI k) (Int64.ofInt (dt_det k A)) (Int64.ofInt (bz_mn k A k k)) (nI i) fn fw (nI m) t2 (nI j) a1 a2 a3 a4 s a6) (fun j s => k < j ∧ (∀ r c, wk_P k i j r c → r < m → c < m → s (r * 6 + c) = Int64.ofInt (bz_mn (k + 1) A r c)) ∧ (∀ r c, k ≤ r → k ≤ c → ¬ wk_P k i j r c → r < m → c < m → s (r * 6 + c) = Int64.ofInt (bz_mn k A r c))) m (k + 1) s (by omega) ⟨by omega, fun r c hq => hd r c (by unfold wk_P at *; omega), fun r c h1 h2 h3 => ho r c h1 h2 (by unfold wk_P at *; omega)⟩ ?_ ?_
    · intro t2 s h
      refine pk_le m m (fun _ => nm_r (nI_1 i) (hw s ⟨by omega, fun r c hq h1 h2 => h.2.1 r c (by unfold wk_P at *; omega) h1 h2, fun r c h1 h2 h3 h4 h6 => h.2.2 r c h1 h2 (by unfold wk_P at *; omega) h4 h6⟩)) (fun z => absurd z (by omega))
    · intro t2 j s hj h hw2
      obtain ⟨hkj, hd2, ho2⟩ := h
      have e1 := ho2 i j (by omega) (by omega) (by unfold wk_P; omega) hi hj
      have e2 := ho2 i k (by omega) (by omega) (by unfold wk_P; omega) hi hk
      have e3 := ho2 k j (by omega) (by omega) (by unfold wk_P; omega) hk hj
      have bb : ∀ r c, r < m → c < m → (bz_mn k A r c).natAbs ≤ 1574640000 := fun r c hr hc => Nat.le_trans (bz_mn_bd hA hr hc hk) (wk_bd (by omega))
      have bp := wk_prod (bb i j hi hj) (bb k k hk hk) (bb i k hi hk) (bb k j hk hj)
      have sy := bz_syl k A i j hp
      rw [sy] at bp
      refine pk_le m j (fun z => absurd z (by omega)) (fun _ => ⟨wk_in36 (by omega) (by omega), wk_in36 (by omega) (by omega), wk_in36 (by omega) (by omega), nm_r (e' := Int64.ofInt (dt_det k A * bz_mn (k + 1) A i j)) (by rw [wk_cx (by omega) (by omega), wk_cx (by omega) (by omega), wk_cx (by omega) (by omega), e1, e2, e3, ← sy, Int64.ofInt_sub, Int64.ofInt_mul, Int64.ofInt_mul]) (br_f p0 ⟨p0, wk_in36 (by omega) (by omega), nm_r (e' := vp_updL s (i * 6 + j) (Int64.ofInt (bz_mn (k + 1) A i j))) (by rw [wk_cx (by omega) (by omega), wk_ldiv hp (by omega) bp]) (nm_r (nI_1 j) (hw2 _ ⟨by omega, fun r c hq h1 h2 => ?_, fun r c h1 h2 h3 h4 h6 => ?_⟩))⟩)⟩)
      · by_cases q : r = i ∧ c = j
        · rw [q.1, q.2, pk_uLs]
        · rw [pk_uLn (by omega)]
          exact hd2 r c (by unfold wk_P at *; omega) h1 h2
      · rw [pk_uLn (by unfold wk_P at *; omega)]
        exact ho2 r c h1 h2 (by unfold wk_P at *; omega) h4 h6
theorem wk_tp_mn (k i : Nat) (A : Nat → Nat → Int) (hi : k < i) (r c : Nat) : bz_mn k (fun x y => A (dt_tp i k x) y) r c = bz_mn k A (dt_tp i k r) c := by
  unfold bz_mn
  refine dt_congr (k + 1) (fun x y hx hy => ?_)
  have e : dt_tp i k (bz_ix k r x) = bz_ix k (dt_tp i k r) x := by
    by_cases q : x < k
    · rw [bz_ix_lo q, bz_ix_lo q]
      unfold dt_tp
      rw [if_neg (by omega), if_neg (by omega)]
    · rw [bz_ix_hi (by omega), bz_ix_hi (by omega)]
  show A (dt_tp i k (bz_ix k r x)) (bz_ix k c y) = _
  rw [e]
def wk_S (m : Nat) (d : Int) (k : Nat) (x y : Int64) (a5 : Nat → Int64) : Prop := ∃ (A : Nat → Nat → Int) (σ : Int), (∀ r c, r < m → c < m → (A r c).natAbs ≤ 90) ∧ σ * dt_det m A = d ∧ x = Int64.ofInt σ ∧ y = Int64.ofInt (dt_det k A) ∧ dt_det k A ≠ 0 ∧ ∀ r c, k ≤ r → r < m → k ≤ c → c < m → a5 (r * 6 + c) = Int64.ofInt (bz_mn k A r c)
theorem wk_det {post : Int64 → St2 → Prop} {m : Nat} {fn fw : Int32} {a1 a2 a3 : Nat → Int32} {a4 a5 : Nat → Int64} {a6 : Nat → Int32} {B : Nat → Nat → Int} (hm : m ≤ 5) (hB : ∀ r c, r < m → c < m → (B r c).natAbs ≤ 90) (h5 : ∀ r c, r < m → c < m → a5 (r * 6 + c) = Int64.ofInt (B r c)) (H : ∀ a5', post (Int64.ofInt (dt_det m B)) (fn, fw, nI m, a1, a2, a3, a4, a5', a6)) : wpX_determinant post (fn, fw, nI m, a1, a2, a3, a4, a5, a6) := by
  unfold wpX_determinant
  have m0 : ∀ r c, bz_mn 0 B r c = B r c := by
    intro r c
    show 0 + (1 : Int) * B r c * 1 = B r c
    omega
  refine pk_loop (σ := Int64 × Int64 × (Nat → Int64)) (fun t k s => wX_determinant_7 post t s.1 s.2.1 (nI k) fn fw (nI m) a1 a2 a3 a4 s.2.2 a6) (fun k s => wk_S m (dt_det m B) k s.1 s.2.1 s.2.2) m 0 (1, 1, a5) (by omega) ⟨B, 1, hB, Int.one_mul _, rfl, rfl, (show (1 : Int) ≠ 0 by decide), fun r c _ hr _ hc => by rw [m0]; exact h5 r c hr hc⟩ ?_ ?_
  · intro t s h
    obtain ⟨A, σ, hA, hd, hx, hy, hp, ha⟩ := h
    refine pk_le m m (fun _ => ?_) (fun z => absurd z (by omega))
    have e : s.1 * s.2.1 = Int64.ofInt (dt_det m B) := by rw [hx, hy, ← Int64.ofInt_mul, hd]
    show post (s.1 * s.2.1) _
    rw [e]
    exact H s.2.2
  · intro t k s hk h hw
    obtain ⟨x, y, s⟩ := s
    obtain ⟨A, σ, hA, hd, hx, hy, hp, ha⟩ := h
    dsimp only at hx hy ha ⊢
    subst hx hy
    have el : ∀ (A : Nat → Nat → Int) (σ : Int) (s : Nat → Int64), (∀ r c, r < m → c < m → (A r c).natAbs ≤ 90) → σ * dt_det m A = dt_det m B → dt_det k A ≠ 0 → (∀ r c, k ≤ r → r < m → k ≤ c → c < m → s (r * 6 + c) = Int64.ofInt (bz_mn k A r c)) → bz_mn k A k k ≠ 0 → wX_determinant_49 post (wX_determinant_7 post t) (Int64.ofInt σ) (Int64.ofInt (dt_det k A)) (nI k) fn fw (nI m) a1 a2 a3 a4 s a6 := by
      intro A σ s hA hd hp ha hpk
      unfold wX_determinant_49
      refine wk_elim hm hk hA hp ha (fun a5' h1 h2 => ?_)
      refine ⟨wk_in36 (by omega) (by omega), nm_r (e' := Int64.ofInt (dt_det (k + 1) A)) (by rw [wk_cx (by omega) (by omega), h2, bz_mn_kk]) (nm_r (nI_1 k) ?_)⟩
      exact hw (_, _, a5') ⟨A, σ, hA, hd, rfl, rfl, by rw [← bz_mn_kk]; exact hpk, fun r c hr1 hr2 hc1 hc2 => h1 r c (by omega) hr2 (by omega) hc2⟩
    refine pk_le m k (fun z => absurd z (by omega)) (fun _ => ?_)
    refine wk_piv (n := 0) (b := fun i => bz_mn k A i k) (by omega) hk (fun i h1 h2 => ⟨ha i k h1 h2 (Nat.le_refl k) hk, ?_⟩) (fun i h1 h2 h3 => ?_) (fun h0 => ?_)
    · have := Nat.le_trans (bz_mn_bd hA h2 hk hk) (wk_bd5 (show k + 1 ≤ 5 by omega))
      omega
    · refine pk_le 0 i (fun _ => ?_) (fun z => absurd z (by omega))
      refine pk_eq i k (fun q => el A σ s hA hd hp ha (by rw [q] at h3; exact h3)) (fun q => ?_)
      refine wk_swap (by omega) h2 hk q (fun a5' h' => nm_r (e' := Int64.ofInt (-σ)) (by rw [Int64.ofInt_neg]) ?_)
      have ti : dt_tp i k k = i := by
        unfold dt_tp
        rw [if_neg (fun z => q z.symm), if_pos rfl]
      have tr : ∀ r, r < m → dt_tp i k r < m := by
        intro r hr
        unfold dt_tp
        split
        · exact hk
        · split
          · exact h2
          · exact hr
      have tk : ∀ r, k ≤ r → k ≤ dt_tp i k r := by
        intro r hr
        unfold dt_tp
        split
        · omega
        · split
          · omega
          · exact hr
      have dk : dt_det k (fun x y => A (dt_tp i k x) y) = dt_det k A := by
        refine dt_congr k (fun x y hx hy => ?_)
        unfold dt_tp
        rw [if_neg (by omega), if_neg (by omega)]
      have g := el (fun x y => A (dt_tp i k x) y) (-σ) a5' (fun r c hr hc => hA _ c (tr r hr) hc) (by rw [dt_tp_swap m A i k h2 hk q, Int.neg_mul_neg]; exact hd) (by rw [dk]; exact hp) (fun r c hr1 hr2 hc1 hc2 => by rw [h' r c hr2 hc2, ha _ c (tk r hr1) (tr r hr2) hc1 hc2, wk_tp_mn k i A (by omega)]) (by rw [wk_tp_mn k i A (by omega), ti]; exact h3)
      rw [dk] at g
      exact g
    · refine br_f (by decide) ?_
      have z := bz_nopiv m k A hk hp h0
      have e : (0 : Int64) = Int64.ofInt (dt_det m B) := by
        rw [← hd, z, Int.mul_zero]
        rfl
      rw [e]
      exact H s
end
section
theorem wk_sum0 (c k : Nat) (f : Nat → Int) (h0 : f k = 0) : ∀ n, k < n → (∀ i, i < n → (f i).natAbs ≤ c) → (dt_sum n f).natAbs ≤ (n - 1) * c := by
  intro n
  induction n with
  | zero => exact fun h => absurd h (by omega)
  | succ n ih =>
    intro hk h
    show (dt_sum n f + f n).natAbs ≤ n * c
    by_cases q : k = n
    · rw [← q, h0, Int.add_zero, q]
      exact bz_sum_abs n c f (fun i hi => h i (by omega))
    · have h1 := ih (by omega) (fun i hi => h i (by omega))
      have h2 := h n (by omega)
      have h3 : (dt_sum n f + f n).natAbs ≤ (dt_sum n f).natAbs + (f n).natAbs := Int.natAbs_add_le _ _
      have h4 : n * c = (n - 1) * c + c := by
        rw [← Nat.succ_mul]
        congr 1
        omega
      omega
theorem wk_t_bd {w : Nat → Nat → Int} {g : Nat → Nat} {a b u v : Nat} (h : (w u v).natAbs ≤ 3) : (gf_t w g a b u v).natAbs ≤ 3 := by
  unfold gf_t
  have d : ∀ x y, gf_d x y = 0 ∨ gf_d x y = 1 := by
    intro x y
    unfold gf_d
    split
    · exact Or.inr rfl
    · exact Or.inl rfl
  have e : (gf_d (g u) a * (gf_d (g u) b - gf_d (g v) b)).natAbs ≤ 1 := by
    rcases d (g u) a with x | x <;> rcases d (g u) b with y | y <;> rcases d (g v) b with z | z <;> rw [x, y, z] <;> decide
  rw [Int.natAbs_mul]
  exact Nat.mul_le_mul h e
theorem wk_L_bd {n : Nat} {E M : Nat → Nat → Nat} {g : Nat → Nat} (n6 : n ≤ 6) (hE : ∀ u v, u < n → v < n → u ≠ v → E u v ≤ 3) (a b : Nat) : (gf_L n g (tc_w E M) a b).natAbs ≤ 90 := by
  unfold gf_L
  have h : (dt_sum n (fun u => dt_sum n (fun v => gf_t (tc_w E M) g a b u v))).natAbs ≤ n * 15 := by
    refine bz_sum_abs n 15 _ (fun u hu => ?_)
    have h1 : (dt_sum n (fun v => gf_t (tc_w E M) g a b u v)).natAbs ≤ (n - 1) * 3 := by
      refine wk_sum0 3 u (fun v => gf_t (tc_w E M) g a b u v) ?_ n hu (fun v hv => wk_t_bd ?_)
      · show gf_t (tc_w E M) g a b u u = 0
        unfold gf_t
        rw [Int.sub_self, Int.mul_zero, Int.mul_zero]
      · unfold tc_w
        split
        · rename_i q
          have := hE u v hu hv q.1
          rw [Int.natAbs_natCast]
          exact this
        · decide
    have h2 : (n - 1) * 3 ≤ 5 * 3 := Nat.mul_le_mul (by omega) (Nat.le_refl 3)
    omega
  have h2 : n * 15 ≤ 6 * 15 := Nat.mul_le_mul n6 (Nat.le_refl 15)
  omega
theorem wk_len5 {n cx cy : Nat} {g : Nat → Nat} (n6 : n ≤ 6) (hx : cx < n) : (bz_kl (gf_K g cx cy) n).length ≤ 5 := by
  have h : (bz_kl (gf_K g cx cy) n).length < (List.range n).length := by
    unfold bz_kl
    refine List.length_filter_lt_length_iff_exists.mpr ⟨cx, List.mem_range.mpr hx, ?_⟩
    unfold gf_K
    intro z
    exact (of_decide_eq_true z).2.1 rfl
  rw [List.length_range] at h
  omega
theorem wk_res (W d : Int) : ((Int32.ofInt W).toInt64 * Int64.ofInt d).toInt32 = Int32.ofInt (W * d) := by
  rw [Int64.toInt32_mul, Int32.toInt32_toInt64, Int64.toInt32_ofInt, Int32.ofInt_mul]
theorem wk_count {post : Int32 → St2 → Prop} {n : Nat} {fw fs : Int32} {a1 a2 a3 : Nat → Int32} {a4 a5 : Nat → Int64} {a6 : Nat → Int32} {E M : Nat → Nat → Nat} (ok : tc_ok n E M a1 a2) (H : ∀ fw fs a3 a4 a5 a6, post (Int32.ofInt (tc_T n E M)) (nI n, fw, fs, a1, a2, a3, a4, a5, a6)) : wpX_count post (nI n, fw, fs, a1, a2, a3, a4, a5, a6) := by
  obtain ⟨n2, n6, _, _, ar⟩ := id ok
  unfold wpX_count
  refine wk_contract ok (fun a3' h3 => ?_)
  have okg := ct_C_ok E M n
  have hT : tc_T n E M = (ct_C E M n).1 * gf_D n (ct_C E M n).2 (tc_w E M) := rfl
  generalize ct_C E M n = s at *
  have hg : ∀ x, x < n → a3' x = nI (s.2 x) ∧ s.2 x < 6 := fun x hx => ⟨h3 x hx, by have := (okg x hx).1; omega⟩
  refine br_c (fun z => ?_) (fun _ => ?_)
  · have e : (0 : Int32) = Int32.ofInt (tc_T n E M) := by rw [hT, Int32.ofInt_mul, z, Int32.zero_mul]
    rw [e]
    exact H _ _ _ _ _ _
  · refine wk_fill ok hg (fun a4' h4 => ?_)
    refine wk_cut (cx := 0) (cy := 0) n6 (by omega) (by omega) hg h4 (fun a5' a6' h5 => ?_)
    refine wk_det (B := fun r c => gf_L n s.2 (tc_w E M) (bz_at (gf_K s.2 0 0) n r) (bz_at (gf_K s.2 0 0) n c)) (wk_len5 n6 (by omega)) (fun r c _ _ => wk_L_bd n6 (fun u v hu hv huv => (ar u v hu hv huv).2.1) _ _) h5 (fun a5'' => ?_)
    rw [bz_comp n (gf_K s.2 0 0) (gf_L n s.2 (tc_w E M))]
    show post (((Int32.ofInt s.1).toInt64 * Int64.ofInt (gf_D n s.2 (tc_w E M))).toInt32) _
    rw [wk_res, ← hT]
    exact H _ _ _ _ _ _
theorem wk_trees {post : Int32 → St2 → Prop} {n : Nat} {fw fs : Int32} {a1 a2 a3 : Nat → Int32} {a4 a5 : Nat → Int64} {a6 : Nat → Int32} {E M : Nat → Nat → Nat} (ok : tc_ok n E M a1 a2) (H : ∀ fw fs a3 a4 a5 a6, post (Int32.ofInt (tc_T n E M)) (nI n, fw, fs, a1, a2, a3, a4, a5, a6)) : wpX_trees post (nI n, fw, fs, a1, a2, a3, a4, a5, a6) := by
  unfold wpX_trees
  exact wk_count ok (fun fw fs a3 a4 a5 a6 => H fw fs a3 a4 a5 a6)
def wk_2 (a : Nat → Int32) (u v m : Nat) : Nat → Int32 := upd (upd a (u * 6 + v) (nI m)) (v * 6 + u) (nI m)
theorem wk_2_at {n : Nat} {a : Nat → Int32} {F : Nat → Nat → Nat} {u v m : Nat} (n6 : n ≤ 6) (hu : u < n) (hv : v < n) (h : ∀ x y, x < n → y < n → x ≠ y → a (x * 6 + y) = nI (F x y)) : ∀ x y, x < n → y < n → x ≠ y → wk_2 a u v m (x * 6 + y) = nI (tc_up F u v m x y) := by
  intro x y hx hy hxy
  unfold wk_2 tc_up
  by_cases q1 : x = v ∧ y = u
  · rw [if_pos (Or.inr q1), q1.1, q1.2, pk_us]
  · rw [pk_un (by omega)]
    by_cases q2 : x = u ∧ y = v
    · rw [if_pos (Or.inl q2), q2.1, q2.2, pk_us]
    · rw [pk_un (by omega), if_neg (by omega)]
      exact h x y hx hy hxy
theorem tc_up_sy {n : Nat} {F : Nat → Nat → Nat} {u v m : Nat} (h : tc_sy n F) : tc_sy n (tc_up F u v m) := by
  intro x y hx hy
  unfold tc_up
  by_cases q : (x = u ∧ y = v) ∨ (x = v ∧ y = u)
  · rw [if_pos q, if_pos (by omega)]
  · rw [if_neg q, if_neg (by omega)]
    exact h x y hx hy
theorem tc_up_le {n b : Nat} {F : Nat → Nat → Nat} {u v m : Nat} (hm : m ≤ b) (h : ∀ x y, x < n → y < n → x ≠ y → F x y ≤ b) : ∀ x y, x < n → y < n → x ≠ y → tc_up F u v m x y ≤ b := by
  intro x y hx hy hxy
  unfold tc_up
  split
  · exact hm
  · exact h x y hx hy hxy
theorem tc_up_back {F : Nat → Nat → Nat} {u v m : Nat} (h : F u v = F v u) : tc_up (tc_up F u v m) u v (F u v) = F := by
  funext x y
  unfold tc_up
  by_cases q : (x = u ∧ y = v) ∨ (x = v ∧ y = u)
  · rw [if_pos q]
    rcases q with q | q
    · rw [q.1, q.2]
    · rw [q.1, q.2, h]
  · rw [if_neg q, if_neg q]
theorem tc_ok_M {n : Nat} {E M : Nat → Nat → Nat} {a1 a2 : Nat → Int32} {u v m : Nat} (ok : tc_ok n E M a1 a2) (hu : u < n) (hv : v < n) (hm : m ≤ 2) : tc_ok n E (tc_up M u v m) a1 (wk_2 a2 u v m) := by
  obtain ⟨n2, n6, hE, hM, ar⟩ := ok
  have h1 := wk_2_at (m := m) n6 hu hv (fun x y hx hy hxy => (ar x y hx hy hxy).2.2.1)
  have h2 := tc_up_le (u := u) (v := v) hm (fun x y hx hy hxy => (ar x y hx hy hxy).2.2.2)
  exact ⟨n2, n6, hE, tc_up_sy hM, fun x y hx hy hxy => ⟨(ar x y hx hy hxy).1, (ar x y hx hy hxy).2.1, h1 x y hx hy hxy, h2 x y hx hy hxy⟩⟩
theorem tc_ok_E {n : Nat} {E M : Nat → Nat → Nat} {a1 a2 : Nat → Int32} {u v m : Nat} (ok : tc_ok n E M a1 a2) (hu : u < n) (hv : v < n) (hm : m ≤ 3) : tc_ok n (tc_up E u v m) M (wk_2 a1 u v m) a2 := by
  obtain ⟨n2, n6, hE, hM, ar⟩ := ok
  have h1 := wk_2_at (m := m) n6 hu hv (fun x y hx hy hxy => (ar x y hx hy hxy).1)
  have h2 := tc_up_le (u := u) (v := v) hm (fun x y hx hy hxy => (ar x y hx hy hxy).2.1)
  exact ⟨n2, n6, tc_up_sy hE, hM, fun x y hx hy hxy => ⟨h1 x y hx hy hxy, h2 x y hx hy hxy, (ar x y hx hy hxy).2.2.1, (ar x y hx hy hxy).2.2.2⟩⟩
theorem wk_set {post : St2 → Prop} {u v m : Nat} {fn fw fs : Int32} {a1 a2 a3 : Nat → Int32} {a4 a5 : Nat → Int64} {a6 : Nat → Int32} (hu : u < 6) (hv : v < 6) (H : post (fn, fw, fs, a1, wk_2 a2 u v m, a3, a4, a5, a6)) : wpX_setMode post (fn, fw, fs, a1, a2, a3, a4, a5, a6) (nI u) (nI v) (nI m) := by
  unfold wpX_setMode
  refine ⟨wk_in36 hu hv, nm_r (e' := upd a2 (u * 6 + v) (nI m)) (by rw [wk_cx hu hv]) ⟨wk_in36 hv hu, nm_r (e' := wk_2 a2 u v m) (by rw [wk_cx hv hu]; rfl) H⟩⟩
theorem wk_cu {post : Int32 → St2 → Prop} {n u v : Nat} {fw fs : Int32} {a1 a2 a3 : Nat → Int32} {a4 a5 : Nat → Int64} {a6 : Nat → Int32} {E M : Nat → Nat → Nat} (ok : tc_ok n E M a1 a2) (hu : u < n) (hv : v < n) (huv : u ≠ v) (H : ∀ fw fs a2 a3 a4 a5 a6, tc_ok n E M a1 a2 → post (Int32.ofInt (tc_us n E M u v)) (nI n, fw, fs, a1, a2, a3, a4, a5, a6)) : wpX_countUsing post (nI n, fw, fs, a1, a2, a3, a4, a5, a6) (nI u) (nI v) := by
  obtain ⟨n2, n6, hE, hM, ar⟩ := id ok
  have a := ar u v hu hv huv
  unfold wpX_countUsing
  unfold tc_us at H
  refine ⟨wk_in36 (by omega) (by omega), nm_r (e' := nI (M u v)) (by rw [wk_cx (by omega) (by omega)]; exact a.2.2.1) ?_⟩
  refine pk_eq (M u v) 2 (fun q => ?_) (fun q => ?_)
  · rw [if_pos q] at H
    exact H _ _ _ _ _ _ _ ok
  · rw [if_neg q] at H
    refine wk_count ok (fun fw fs a3 a4 a5 a6 => ?_)
    refine pk_eq (M u v) 1 (fun q1 => ?_) (fun q1 => ?_)
    · rw [if_pos q1] at H
      exact H _ _ _ _ _ _ _ ok
    · rw [if_neg q1, Int32.ofInt_sub] at H
      refine wk_set (m := 2) (by omega) (by omega) (wk_count (tc_ok_M ok hu hv (Nat.le_refl 2)) (fun fw fs a3 a4 a5 a6 => wk_set (by omega) (by omega) (H _ _ _ _ _ _ _ ?_)))
      have t := tc_ok_M (m := M u v) (tc_ok_M (m := 2) ok hu hv (Nat.le_refl 2)) hu hv a.2.2.2
      rw [tc_up_back (hM u v hu hv)] at t
      exact t
theorem wk_bad {post : Int32 → Prop} {n u v : Nat} {fw fs : Int32} {a1 a2 a3 : Nat → Int32} {a4 a5 : Nat → Int64} {a6 : Nat → Int32} (n6 : n ≤ 6) (hu : u < n) (hv : v < n) (H1 : u = v → post 1) (H0 : u ≠ v → post 0) : wpX_badPair post (nI n, fw, fs, a1, a2, a3, a4, a5, a6) (nI u) (nI v) := by
  unfold wpX_badPair
  exact br_f (nI_pos (by omega)) (br_f (nI_ge hu (by omega)) (br_f (nI_pos (by omega)) (br_f (nI_ge hv (by omega)) (pk_eq u v H1 H0))))
theorem wk_using {post : Int32 → St2 → Prop} {n u v : Nat} {fw fs : Int32} {a1 a2 a3 : Nat → Int32} {a4 a5 : Nat → Int64} {a6 : Nat → Int32} {E M : Nat → Nat → Nat} (ok : tc_ok n E M a1 a2) (hu : u < n) (hv : v < n) (huv : u ≠ v) (H : ∀ fw fs a2 a3 a4 a5 a6, tc_ok n E M a1 a2 → post (Int32.ofInt (tc_us n E M u v)) (nI n, fw, fs, a1, a2, a3, a4, a5, a6)) : wpX_using post (nI n, fw, fs, a1, a2, a3, a4, a5, a6) (nI u) (nI v) := by
  unfold wpX_using
  refine wk_bad ok.2.1 hu hv (fun q => absurd q huv) (fun _ => br_t rfl ?_)
  exact wk_cu ok hu hv huv (fun fw fs a2 a3 a4 a5 a6 h => H fw fs a2 a3 a4 a5 a6 h)
theorem wk_mode {post : Int32 → St2 → Prop} {n u v m : Nat} {fw fs : Int32} {a1 a2 a3 : Nat → Int32} {a4 a5 : Nat → Int64} {a6 : Nat → Int32} {E M : Nat → Nat → Nat} (ok : tc_ok n E M a1 a2) (hu : u < n) (hv : v < n) (hm : m ≤ 2) (H1 : u = v → post (-1) (nI n, fw, fs, a1, a2, a3, a4, a5, a6)) (H : u ≠ v → post (nI (M u v)) (nI n, fw, fs, a1, wk_2 a2 u v m, a3, a4, a5, a6)) : wpX_mode post (nI n, fw, fs, a1, a2, a3, a4, a5, a6) (nI u) (nI v) (nI m) := by
  obtain ⟨n2, n6, hE, hM, ar⟩ := id ok
  unfold wpX_mode
  refine wk_bad n6 hu hv (fun q => br_f (by decide) (H1 q)) (fun q => br_t rfl (br_f (nI_pos (by omega)) (br_t (nI_le (b := 2) hm (by decide)) ⟨wk_in36 (by omega) (by omega), nm_r (e' := nI (M u v)) (by rw [wk_cx (by omega) (by omega)]; exact (ar u v hu hv q).2.2.1) ?_⟩)))
  exact wk_set (by omega) (by omega) (H q)
theorem wk_edges {post : Int32 → St2 → Prop} {n u v m : Nat} {fw fs : Int32} {a1 a2 a3 : Nat → Int32} {a4 a5 : Nat → Int64} {a6 : Nat → Int32} {E M : Nat → Nat → Nat} (ok : tc_ok n E M a1 a2) (hu : u < n) (hv : v < n) (hm : m ≤ 3) (H1 : u = v → post (-1) (nI n, fw, fs, a1, a2, a3, a4, a5, a6)) (H : u ≠ v → post (nI (E u v)) (nI n, fw, fs, wk_2 a1 u v m, a2, a3, a4, a5, a6)) : wpX_edges post (nI n, fw, fs, a1, a2, a3, a4, a5, a6) (nI u) (nI v) (nI m) := by
  obtain ⟨n2, n6, hE, hM, ar⟩ := id ok
  unfold wpX_edges
  refine wk_bad n6 hu hv (fun q => br_f (by decide) (H1 q)) (fun q => br_t rfl (br_f (nI_pos (by omega)) (br_t (nI_le (b := 3) hm (by decide)) ⟨wk_in36 (by omega) (by omega), nm_r (e' := nI (E u v)) (by rw [wk_cx (by omega) (by omega)]; exact (ar u v hu hv q).1) ⟨wk_in36 (by omega) (by omega), nm_r (e' := upd a1 (u * 6 + v) (nI m)) (by rw [wk_cx (by omega) (by omega)]) ⟨wk_in36 (by omega) (by omega), nm_r (e' := wk_2 a1 u v m) (by rw [wk_cx (by omega) (by omega)]; rfl) (H q)⟩⟩⟩)))
theorem wk_degrees {post : Int32 → St2 → Prop} {n v : Nat} {fw fs : Int32} {a1 a2 a3 : Nat → Int32} {a4 a5 : Nat → Int64} {a6 : Nat → Int32} {E M : Nat → Nat → Nat} (ok : tc_ok n E M a1 a2) (hv : v < n) (H : ∀ fw fs a2 a3 a4 a5 a6, tc_ok n E M a1 a2 → post (Int32.ofInt (dt_sum n (fun u => if u = v then 0 else tc_us n E M u v))) (nI n, fw, fs, a1, a2, a3, a4, a5, a6)) : wpX_degrees post (nI n, fw, fs, a1, a2, a3, a4, a5, a6) (nI v) := by
  have n6 := ok.2.1
  unfold wpX_degrees wpX_badVertex
  refine br_f (nI_pos (by omega)) (br_t (nI_lt hv (by omega)) (br_t rfl ?_))
  refine pk_loop (σ := Int32 × St2) (fun k i t => wX_degrees_14 post (nI v) k t.1 (nI i) t.2.1 t.2.2.1 t.2.2.2.1 t.2.2.2.2.1 t.2.2.2.2.2.1 t.2.2.2.2.2.2.1 t.2.2.2.2.2.2.2.1 t.2.2.2.2.2.2.2.2.1 t.2.2.2.2.2.2.2.2.2) (fun i t => t.1 = Int32.ofInt (dt_sum i (fun u => if u = v then 0 else tc_us n E M u v)) ∧ t.2.1 = nI n ∧ t.2.2.2.2.1 = a1 ∧ tc_ok n E M a1 t.2.2.2.2.2.1) n 0 (0, nI n, fw, fs, a1, a2, a3, a4, a5, a6) (by omega) ⟨rfl, rfl, rfl, ok⟩ ?_ ?_
  · intro k t h
    obtain ⟨r, fn, fw, fs, b1, b2, b3, b4, b5, b6⟩ := t
    obtain ⟨h1, h2, h3, h4⟩ := h
    dsimp only at h1 h2 h3 h4 ⊢
    subst h1 h2 h3
    exact pk_le n n (fun _ => H _ _ _ _ _ _ _ h4) (fun z => absurd z (by omega))
  · intro k i t hi h hw
    obtain ⟨r, fn, fw, fs, b1, b2, b3, b4, b5, b6⟩ := t
    obtain ⟨h1, h2, h3, h4⟩ := h
    dsimp only at h1 h2 h3 h4 ⊢
    subst h1 h2 h3
    have e : dt_sum (i + 1) (fun u => if u = v then 0 else tc_us n E M u v) = dt_sum i (fun u => if u = v then 0 else tc_us n E M u v) + (if i = v then 0 else tc_us n E M i v) := rfl
    refine pk_le n i (fun z => absurd z (by omega)) (fun _ => ?_)
    refine pk_eq i v (fun q => nm_r (nI_1 i) (hw (_, nI n, fw, fs, b1, b2, b3, b4, b5, b6) ⟨?_, rfl, rfl, h4⟩)) (fun q => ?_)
    · dsimp only
      rw [e, if_pos q, Int.add_zero]
      rfl
    · refine wk_cu h4 hi hv q (fun fw' fs' a2' a3' a4' a5' a6' h' => ?_)
      refine nm_r (e' := Int32.ofInt (dt_sum (i + 1) (fun u => if u = v then 0 else tc_us n E M u v))) (by rw [e, if_neg q, Int32.ofInt_add]) (nm_r (nI_1 i) (hw (_, nI n, fw', fs', b1, a2', a3', a4', a5', a6') ⟨rfl, rfl, rfl, h'⟩))
theorem wk_apart {post : Int32 → St2 → Prop} {n u v : Nat} {fw fs : Int32} {a1 a2 a3 : Nat → Int32} {a4 a5 : Nat → Int64} {a6 : Nat → Int32} {E M : Nat → Nat → Nat} (ok : tc_ok n E M a1 a2) (hu : u < n) (hv : v < n) (huv : u ≠ v) (h0 : ∀ a b, a < n → b < n → a ≠ b → M a b = 0) (H : ∀ fw fs a3 a4 a5 a6, post (Int32.ofInt (dt_det n (bz_pad (gf_K ct_0.2 u v) (gf_L n ct_0.2 (tc_w E M))))) (nI n, fw, fs, a1, a2, a3, a4, a5, a6)) : wpX_apart post (nI n, fw, fs, a1, a2, a3, a4, a5, a6) (nI u) (nI v) := by
  obtain ⟨n2, n6, hE, hM, ar⟩ := id ok
  unfold wpX_apart
  refine wk_bad n6 hu hv (fun q => absurd q huv) (fun _ => br_t rfl ?_)
  refine wk_contract ok (fun a3' h3 => ?_)
  rw [ct_C_none E M n (fun a b hab hb => by rw [h0 a b (by omega) hb (by omega)]; decide)] at h3 ⊢
  have hg : ∀ x, x < n → a3' x = nI (ct_0.2 x) ∧ ct_0.2 x < 6 := fun x hx => ⟨h3 x hx, show x < 6 by omega⟩
  have eu : a3' (nI u).toNatClampNeg = nI u := by rw [wk_c (by omega)]; exact h3 u hu
  have ev : a3' (nI v).toNatClampNeg = nI v := by rw [wk_c (by omega)]; exact h3 v hv
  refine br_f (show ¬ (Int32.ofInt 1 = 0) by decide) ⟨pk_in u 6 (by omega), pk_in v 6 (by omega), pk_eq u v (fun q => absurd q huv) (fun _ => ?_) eu ev⟩
  refine wk_fill ok hg (fun a4' h4 => ?_)
  refine ⟨pk_in u 6 (by omega), pk_in v 6 (by omega), ?_⟩
  rw [eu, ev]
  refine wk_cut (cx := u) (cy := v) n6 (by omega) (by omega) hg h4 (fun a5' a6' h5 => ?_)
  refine wk_det (B := fun r c => gf_L n ct_0.2 (tc_w E M) (bz_at (gf_K ct_0.2 u v) n r) (bz_at (gf_K ct_0.2 u v) n c)) (wk_len5 n6 (by omega)) (fun r c _ _ => wk_L_bd n6 (fun u v hu hv huv => (ar u v hu hv huv).2.1) _ _) h5 (fun a5'' => ?_)
  rw [bz_comp n (gf_K ct_0.2 u v) (gf_L n ct_0.2 (tc_w E M))]
  show post (((Int32.ofInt 1).toInt64 * Int64.ofInt (dt_det n (bz_pad (gf_K ct_0.2 u v) (gf_L n ct_0.2 (tc_w E M))))).toInt32) _
  rw [wk_res, Int.one_mul]
  exact H _ _ _ _ _ _
end
section
def wk_st (n : Nat) (E M : Nat → Nat → Nat) (t : St2) : Prop := t.1 = nI n ∧ tc_ok n E M t.2.2.2.1 t.2.2.2.2.1
theorem wk_edges' {post : Int32 → St2 → Prop} {n u v m : Nat} {fw fs : Int32} {a1 a2 a3 : Nat → Int32} {a4 a5 : Nat → Int64} {a6 : Nat → Int32} {E M : Nat → Nat → Nat} (ok : tc_ok n E M a1 a2) (hu : u < n) (hv : v < n) (hm : m ≤ 3) (H : ∀ r a1' E', tc_ok n E' M a1' a2 → post r (nI n, fw, fs, a1', a2, a3, a4, a5, a6)) : wpX_edges post (nI n, fw, fs, a1, a2, a3, a4, a5, a6) (nI u) (nI v) (nI m) :=
  wk_edges ok hu hv hm (fun _ => H _ _ _ ok) (fun _ => H _ _ _ (tc_ok_E ok hu hv hm))
theorem wk_mode' {post : Int32 → St2 → Prop} {n u v m : Nat} {fw fs : Int32} {a1 a2 a3 : Nat → Int32} {a4 a5 : Nat → Int64} {a6 : Nat → Int32} {E M : Nat → Nat → Nat} (ok : tc_ok n E M a1 a2) (hu : u < n) (hv : v < n) (hm : m ≤ 2) (H : ∀ r a2' M', tc_ok n E M' a1 a2' → post r (nI n, fw, fs, a1, a2', a3, a4, a5, a6)) : wpX_mode post (nI n, fw, fs, a1, a2, a3, a4, a5, a6) (nI u) (nI v) (nI m) :=
  wk_mode ok hu hv hm (fun _ => H _ _ _ ok) (fun _ => H _ _ _ (tc_ok_M ok hu hv hm))
theorem tc_up_up (F : Nat → Nat → Nat) (u v a b : Nat) : tc_up (tc_up F u v a) u v b = tc_up F u v b := by
  funext x y
  unfold tc_up
  by_cases q : (x = u ∧ y = v) ∨ (x = v ∧ y = u)
  · rw [if_pos q, if_pos q]
  · rw [if_neg q, if_neg q, if_neg q]
theorem tc_up_comm (F : Nat → Nat → Nat) (u v a : Nat) : tc_up F u v a = tc_up F v u a := by
  funext x y
  unfold tc_up
  by_cases q : (x = u ∧ y = v) ∨ (x = v ∧ y = u)
  · rw [if_pos q, if_pos (by omega)]
  · rw [if_neg q, if_neg (by omega)]
theorem wk_356 {post : Int32 → Prop} {L : Nat} {xs : Nat → Int32} {J : (Int32 → Int32 → Int32 → Int32 → (Nat → Int32) → (Nat → Int32) → (Nat → Int32) → (Nat → Int64) → (Nat → Int64) → (Nat → Int32) → Prop)} {n u kc ks : Nat} {E M : Nat → Nat → Nat} (t0 : St2) (hu : u < n) (h0 : ∀ a b, a < n → b < n → a ≠ b → M a b = 0) (ok : wk_st n E M t0) (H : ∀ t : St2, wk_st n E M t → J (nI (u + 1)) t.1 t.2.1 t.2.2.1 t.2.2.2.1 t.2.2.2.2.1 t.2.2.2.2.2.1 t.2.2.2.2.2.2.1 t.2.2.2.2.2.2.2.1 t.2.2.2.2.2.2.2.2) : ∃ k, wL_law_356 post L xs J (nI n) (nI u) kc ks k 0 t0.1 t0.2.1 t0.2.2.1 t0.2.2.2.1 t0.2.2.2.2.1 t0.2.2.2.2.2.1 t0.2.2.2.2.2.2.1 t0.2.2.2.2.2.2.2.1 t0.2.2.2.2.2.2.2.2 := by
  have n6 := ok.2.2.1
  refine pk_loop (σ := St2) (fun k i t => wL_law_356 post L xs J (nI n) (nI u) kc ks k (nI i) t.1 t.2.1 t.2.2.1 t.2.2.2.1 t.2.2.2.2.1 t.2.2.2.2.2.1 t.2.2.2.2.2.2.1 t.2.2.2.2.2.2.2.1 t.2.2.2.2.2.2.2.2) (fun i t => wk_st n E M t) u 0 t0 (by omega) ok ?_ ?_
  · intro k t h
    exact pk_le u u (fun _ => nm_r (nI_1 u) (H t h)) (fun z => absurd z (by omega))
  · intro k i t hi h hw
    obtain ⟨fn, fw, fs, b1, b2, b3, b4, b5, b6⟩ := t
    obtain ⟨h1, h2⟩ := h
    dsimp only at h1 h2 ⊢
    subst h1
    obtain ⟨_, _, hE, hM, ar⟩ := id h2
    have a := ar u i hu (by omega) (by omega)
    refine pk_le u i (fun z => absurd z (by omega)) (fun _ => ?_)
    refine wk_edges (m := 0) h2 hu (by omega) (by omega) (fun q => absurd q (by omega)) (fun _ => ?_)
    refine wk_edges (m := E u i) (tc_ok_E (m := 0) h2 hu (by omega) (by omega)) hu (by omega) a.2.1 (fun q => absurd q (by omega)) (fun _ => ?_)
    have ok2 := tc_ok_E (m := E u i) (tc_ok_E (m := 0) h2 hu (show i < n by omega) (by omega)) hu (show i < n by omega) a.2.1
    rw [tc_up_back (hE u i hu (by omega))] at ok2
    refine wk_apart ok2 hu (by omega) (by omega) h0 (fun fw fs a3 a4 a5 a6 => ?_)
    refine wk_using ok2 (by omega) hu (by omega) (fun fw fs a2 a3 a4 a5 a6 ok3 => ?_)
    refine br_t ?_ (nm_r (nI_1 i) (hw (nI n, fw, fs, _, a2, a3, a4, a5, a6) ⟨rfl, ok3⟩))
    have m0 : M i u = 0 := h0 i u (by omega) hu (by omega)
    have us : tc_us n E M i u = tc_T n E M - tc_T n E (tc_up M i u 2) := by
      unfold tc_us
      rw [if_neg (by omega), if_neg (by omega)]
    rw [us, ← tc_I3 n E M u i hu (by omega) (by omega) hE h0, Int32.ofInt_mul, wk_nI]
theorem wk_347 {post : Int32 → Prop} {L : Nat} {xs : Nat → Int32} {n kc ks : Nat} {E M : Nat → Nat → Nat} (t0 : St2) (h0 : ∀ a b, a < n → b < n → a ≠ b → M a b = 0) (ok : wk_st n E M t0) (H : post 1) : ∃ k, wL_law_347 post L xs (nI n) kc ks k 0 t0.1 t0.2.1 t0.2.2.1 t0.2.2.2.1 t0.2.2.2.2.1 t0.2.2.2.2.2.1 t0.2.2.2.2.2.2.1 t0.2.2.2.2.2.2.2.1 t0.2.2.2.2.2.2.2.2 := by
  have n6 := ok.2.2.1
  refine pk_loop (σ := St2) (fun k i t => wL_law_347 post L xs (nI n) kc ks k (nI i) t.1 t.2.1 t.2.2.1 t.2.2.2.1 t.2.2.2.2.1 t.2.2.2.2.2.1 t.2.2.2.2.2.2.1 t.2.2.2.2.2.2.2.1 t.2.2.2.2.2.2.2.2) (fun i t => wk_st n E M t) n 0 t0 (by omega) ok ?_ ?_
  · intro k t h
    exact pk_le n n (fun _ => H) (fun z => absurd z (by omega))
  · intro k i t hi h hw
    exact pk_le n i (fun z => absurd z (by omega)) (fun _ => wk_356 t hi h0 h hw)
def wk_Z (n u i : Nat) (M : Nat → Nat → Nat) : Prop := ∀ a b, a < n → b < a → a < u ∨ (a = u ∧ b < i) → M a b = 0
theorem wk_315 {post : Int32 → Prop} {L : Nat} {xs : Nat → Int32} {J : (Int32 → Int32 → Int32 → Int32 → (Nat → Int32) → (Nat → Int32) → (Nat → Int32) → (Nat → Int64) → (Nat → Int64) → (Nat → Int32) → Prop)} {n u kc ks : Nat} {E : Nat → Nat → Nat} (t0 : St2) (hu : u < n) (ok : ∃ M, wk_Z n u 0 M ∧ wk_st n E M t0) (H : ∀ t : St2, (∃ M, wk_Z n (u + 1) 0 M ∧ wk_st n E M t) → J (nI (u + 1)) t.1 t.2.1 t.2.2.1 t.2.2.2.1 t.2.2.2.2.1 t.2.2.2.2.2.1 t.2.2.2.2.2.2.1 t.2.2.2.2.2.2.2.1 t.2.2.2.2.2.2.2.2) : ∃ k, wL_law_315 post L xs J (nI n) (nI u) kc ks k 0 t0.1 t0.2.1 t0.2.2.1 t0.2.2.2.1 t0.2.2.2.2.1 t0.2.2.2.2.2.1 t0.2.2.2.2.2.2.1 t0.2.2.2.2.2.2.2.1 t0.2.2.2.2.2.2.2.2 := by
  have n6 : n ≤ 6 := by
    obtain ⟨M, _, h⟩ := ok
    exact h.2.2.1
  refine pk_loop (σ := St2) (fun k i t => wL_law_315 post L xs J (nI n) (nI u) kc ks k (nI i) t.1 t.2.1 t.2.2.1 t.2.2.2.1 t.2.2.2.2.1 t.2.2.2.2.2.1 t.2.2.2.2.2.2.1 t.2.2.2.2.2.2.2.1 t.2.2.2.2.2.2.2.2) (fun i t => ∃ M, wk_Z n u i M ∧ wk_st n E M t) u 0 t0 (by omega) ok ?_ ?_
  · intro k t h
    refine pk_le u u (fun _ => nm_r (nI_1 u) (H t ?_)) (fun z => absurd z (by omega))
    obtain ⟨M, hz, h⟩ := h
    exact ⟨M, fun a b ha hb q => hz a b ha hb (by omega), h⟩
  · intro k i t hi h hw
    obtain ⟨M, hz, h⟩ := h
    obtain ⟨fn, fw, fs, b1, b2, b3, b4, b5, b6⟩ := t
    obtain ⟨h1, h2⟩ := h
    dsimp only at h1 h2 ⊢
    subst h1
    refine pk_le u i (fun z => absurd z (by omega)) (fun _ => ?_)
    refine wk_mode (m := 0) h2 hu (by omega) (by omega) (fun q => absurd q (by omega)) (fun _ => ?_)
    refine nm_r (nI_1 i) (hw (nI n, fw, fs, b1, wk_2 b2 u i 0, b3, b4, b5, b6) ⟨tc_up M u i 0, fun a b ha hb q => ?_, rfl, tc_ok_M h2 hu (by omega) (by omega)⟩)
    unfold tc_up
    by_cases z : (a = u ∧ b = i) ∨ (a = i ∧ b = u)
    · rw [if_pos z]
    · rw [if_neg z]
      exact hz a b ha hb (by omega)
theorem wk_306 {post : Int32 → Prop} {L : Nat} {xs : Nat → Int32} {n kc ks : Nat} {E M : Nat → Nat → Nat} (t0 : St2) (ok : wk_st n E M t0) (H : post 1) : ∃ k, wL_law_306 post L xs (nI n) kc ks k 0 t0.1 t0.2.1 t0.2.2.1 t0.2.2.2.1 t0.2.2.2.2.1 t0.2.2.2.2.2.1 t0.2.2.2.2.2.2.1 t0.2.2.2.2.2.2.2.1 t0.2.2.2.2.2.2.2.2 := by
  have n6 := ok.2.2.1
  refine pk_loop (σ := St2) (fun k i t => wL_law_306 post L xs (nI n) kc ks k (nI i) t.1 t.2.1 t.2.2.1 t.2.2.2.1 t.2.2.2.2.1 t.2.2.2.2.2.1 t.2.2.2.2.2.2.1 t.2.2.2.2.2.2.2.1 t.2.2.2.2.2.2.2.2) (fun i t => ∃ M, wk_Z n i 0 M ∧ wk_st n E M t) n 0 t0 (by omega) ⟨M, fun a b ha hb q => absurd q (by omega), ok⟩ ?_ ?_
  · intro k t h
    obtain ⟨M, hz, h⟩ := h
    refine pk_le n n (fun _ => wk_347 t (fun a b ha hb hab => ?_) h H) (fun z => absurd z (by omega))
    rcases Nat.lt_or_gt_of_ne hab with q | q
    · rw [h.2.2.2.2.1 a b ha hb]
      exact hz b a hb q (by omega)
    · exact hz a b ha q (by omega)
  · intro k i t hi h hw
    exact pk_le n i (fun z => absurd z (by omega)) (fun _ => wk_315 t hi h hw)
theorem wk_258 {post : Int32 → Prop} {L : Nat} {xs : Nat → Int32} {J1 J2 : (Int32 → Int32 → Int32 → Int32 → (Nat → Int32) → (Nat → Int32) → (Nat → Int32) → (Nat → Int64) → (Nat → Int64) → (Nat → Int32) → Prop)} {n u i kc ks : Nat} {E M : Nat → Nat → Nat} {fw fs : Int32} {b1 b2 b3 : Nat → Int32} {b4 b5 : Nat → Int64} {b6 : Nat → Int32} (ok : tc_ok n E M b1 b2) (h2 : M u i ≤ 2) (H : ∀ t : St2, wk_st n E M t → J2 (nI (i + 1)) t.1 t.2.1 t.2.2.1 t.2.2.2.1 t.2.2.2.2.1 t.2.2.2.2.2.1 t.2.2.2.2.2.2.1 t.2.2.2.2.2.2.2.1 t.2.2.2.2.2.2.2.2) : wL_law_258 post L xs J1 J2 (nI n) (Int32.ofInt (tc_T n E M)) (nI u) (nI i) (Int32.ofInt (tc_us n E M u i)) (nI (M u i)) kc ks (nI n) fw fs b1 b2 b3 b4 b5 b6 := by
  have last : wL_law_281 post L xs J1 J2 (nI n) (Int32.ofInt (tc_T n E M)) (nI u) (nI i) kc ks (nI n) fw fs b1 b2 b3 b4 b5 b6 := by
    unfold wL_law_281
    exact wk_trees ok (fun fw fs a3 a4 a5 a6 => br_t rfl (nm_r (nI_1 i) (H (nI n, fw, fs, b1, b2, a3, a4, a5, a6) ⟨rfl, ok⟩)))
  have mid : wL_law_270 post L xs J1 J2 (nI n) (Int32.ofInt (tc_T n E M)) (nI u) (nI i) (Int32.ofInt (tc_us n E M u i)) (nI (M u i)) kc ks (nI n) fw fs b1 b2 b3 b4 b5 b6 := by
    unfold wL_law_270
    refine pk_eq (M u i) 2 (fun q => br_t ?_ last) (fun _ => last)
    have e : tc_us n E M u i = 0 := by
      unfold tc_us
      rw [if_pos q]
    rw [e]
    rfl
  unfold wL_law_258
  refine pk_eq (M u i) 1 (fun q => br_t ?_ mid) (fun _ => mid)
  have e : tc_us n E M u i = tc_T n E M := by
    unfold tc_us
    rw [if_neg (by omega), if_pos q]
  rw [e]
theorem wk_174 {post : Int32 → Prop} {L : Nat} {xs : Nat → Int32} {J : (Int32 → Int32 → Int32 → Int32 → (Nat → Int32) → (Nat → Int32) → (Nat → Int32) → (Nat → Int64) → (Nat → Int64) → (Nat → Int32) → Prop)} {n u kc ks : Nat} {E M : Nat → Nat → Nat} (t0 : St2) (hu : u < n) (ok : wk_st n E M t0) (H : ∀ t : St2, wk_st n E M t → J (nI (u + 1)) t.1 t.2.1 t.2.2.1 t.2.2.2.1 t.2.2.2.2.1 t.2.2.2.2.2.1 t.2.2.2.2.2.2.1 t.2.2.2.2.2.2.2.1 t.2.2.2.2.2.2.2.2) : ∃ k, wL_law_174 post L xs J (nI n) (Int32.ofInt (tc_T n E M)) (nI u) kc ks k 0 t0.1 t0.2.1 t0.2.2.1 t0.2.2.2.1 t0.2.2.2.2.1 t0.2.2.2.2.2.1 t0.2.2.2.2.2.2.1 t0.2.2.2.2.2.2.2.1 t0.2.2.2.2.2.2.2.2 := by
  have n6 := ok.2.2.1
  refine pk_loop (σ := St2) (fun k i t => wL_law_174 post L xs J (nI n) (Int32.ofInt (tc_T n E M)) (nI u) kc ks k (nI i) t.1 t.2.1 t.2.2.1 t.2.2.2.1 t.2.2.2.2.1 t.2.2.2.2.2.1 t.2.2.2.2.2.2.1 t.2.2.2.2.2.2.2.1 t.2.2.2.2.2.2.2.2) (fun i t => wk_st n E M t) u 0 t0 (by omega) ok ?_ ?_
  · intro k t h
    exact pk_le u u (fun _ => nm_r (nI_1 u) (H t h)) (fun z => absurd z (by omega))
  · intro k i t hi h hw
    obtain ⟨fn, fw, fs, b1, b2, b3, b4, b5, b6⟩ := t
    obtain ⟨h1, h2⟩ := h
    dsimp only at h1 h2 ⊢
    subst h1
    obtain ⟨_, _, hE, hM, ar⟩ := id h2
    have hin : i < n := by omega
    have a := ar u i hu hin (by omega)
    refine pk_le u i (fun z => absurd z (by omega)) (fun _ => ?_)
    refine wk_using h2 hu hin (by omega) (fun fw fs a2 a3 a4 a5 a6 ok1 => ?_)
    refine wk_mode (m := 1) ok1 hu hin (by omega) (fun q => absurd q (by omega)) (fun _ => ?_)
    have ok2 := tc_ok_M (m := 1) ok1 hu hin (by omega)
    refine wk_trees ok2 (fun fw fs a3 a4 a5 a6 => ?_)
    refine wk_mode (m := 2) ok2 hu hin (by omega) (fun q => absurd q (by omega)) (fun _ => ?_)
    have ok3 := tc_ok_M (m := 2) ok2 hu hin (by omega)
    rw [tc_up_up] at ok3
    refine wk_trees ok3 (fun fw fs a3 a4 a5 a6 => ?_)
    refine wk_mode (m := M u i) ok3 hin hu a.2.2.2 (fun q => absurd q (by omega)) (fun _ => ?_)
    have ok4 := tc_ok_M (m := M u i) ok3 hin hu a.2.2.2
    rw [tc_up_comm _ i u, tc_up_back (hM u i hu hin)] at ok4
    have fin := wk_258 (post := post) (L := L) (xs := xs) (J1 := J) (J2 := wL_law_174 post L xs J (nI n) (Int32.ofInt (tc_T n E M)) (nI u) kc ks k) (u := u) (i := i) (kc := kc) (ks := ks) (fw := fw) (fs := fs) (b3 := a3) (b4 := a4) (b5 := a5) (b6 := a6) ok4 a.2.2.2 hw
    refine pk_eq (M u i) 0 (fun q => ?_) (fun _ => fin)
    have us : tc_us n E M u i = tc_T n E M - tc_T n E (tc_up M u i 2) := by
      unfold tc_us
      rw [if_neg (by omega), if_neg (by omega)]
    have I2 := tc_I2 n E M u i hu hin (by omega) hE hM q
    refine br_t ?_ (br_t ?_ fin)
    · rw [us]
      congr 1
      omega
    · rw [us, ← Int32.ofInt_sub]
      congr 1
      omega
theorem wk_165 {post : Int32 → Prop} {L : Nat} {xs : Nat → Int32} {n kc ks : Nat} {E M : Nat → Nat → Nat} (t0 : St2) (ok : wk_st n E M t0) (H : post 1) : ∃ k, wL_law_165 post L xs (nI n) (Int32.ofInt (tc_T n E M)) kc ks k 0 t0.1 t0.2.1 t0.2.2.1 t0.2.2.2.1 t0.2.2.2.2.1 t0.2.2.2.2.2.1 t0.2.2.2.2.2.2.1 t0.2.2.2.2.2.2.2.1 t0.2.2.2.2.2.2.2.2 := by
  have n6 := ok.2.2.1
  refine pk_loop (σ := St2) (fun k i t => wL_law_165 post L xs (nI n) (Int32.ofInt (tc_T n E M)) kc ks k (nI i) t.1 t.2.1 t.2.2.1 t.2.2.2.1 t.2.2.2.2.1 t.2.2.2.2.2.1 t.2.2.2.2.2.2.1 t.2.2.2.2.2.2.2.1 t.2.2.2.2.2.2.2.2) (fun i t => wk_st n E M t) n 0 t0 (by omega) ok ?_ ?_
  · intro k t h
    exact pk_le n n (fun _ => wk_306 t h H) (fun z => absurd z (by omega))
  · intro k i t hi h hw
    exact pk_le n i (fun z => absurd z (by omega)) (fun _ => wk_174 t hi h hw)
theorem wk_125 {post : Int32 → Prop} {L : Nat} {xs : Nat → Int32} {n kc ks : Nat} {E M : Nat → Nat → Nat} (t0 : St2) (ok : wk_st n E M t0) (H : post 1) : ∃ k, wL_law_125 post L xs (nI n) (Int32.ofInt (tc_T n E M)) kc ks k 0 0 t0.1 t0.2.1 t0.2.2.1 t0.2.2.2.1 t0.2.2.2.2.1 t0.2.2.2.2.2.1 t0.2.2.2.2.2.2.1 t0.2.2.2.2.2.2.2.1 t0.2.2.2.2.2.2.2.2 := by
  have n6 := ok.2.2.1
  have n2 := ok.2.1
  refine pk_loop (σ := Int32 × St2) (fun k i t => wL_law_125 post L xs (nI n) (Int32.ofInt (tc_T n E M)) kc ks k t.1 (nI i) t.2.1 t.2.2.1 t.2.2.2.1 t.2.2.2.2.1 t.2.2.2.2.2.1 t.2.2.2.2.2.2.1 t.2.2.2.2.2.2.2.1 t.2.2.2.2.2.2.2.2.1 t.2.2.2.2.2.2.2.2.2) (fun i t => t.1 = Int32.ofInt (dt_sum i (fun v => dt_sum n (fun u => if u = v then 0 else tc_us n E M u v))) ∧ wk_st n E M t.2) n 0 (0, t0) (by omega) ⟨rfl, ok⟩ ?_ ?_
  · intro k t h
    obtain ⟨s, t⟩ := t
    obtain ⟨hs, h⟩ := h
    dsimp only at hs h ⊢
    refine pk_le n n (fun _ => br_t ?_ (wk_165 t h H)) (fun z => absurd z (by omega))
    obtain ⟨_, _, _, hE, hM, ar⟩ := h
    rw [hs, tc_I1 n E M (by omega) hE hM (fun u v hu hv huv => (ar u v hu hv huv).2.2.2), Int32.ofInt_mul, Int32.ofInt_mul, Int32.ofInt_sub, ← wk_nI]
    rfl
  · intro k i t hi h hw
    obtain ⟨s, t⟩ := t
    obtain ⟨hs, h⟩ := h
    dsimp only at hs h hw ⊢
    obtain ⟨fn, fw, fs, b1, b2, b3, b4, b5, b6⟩ := t
    obtain ⟨h1, h2⟩ := h
    dsimp only at h1 h2 ⊢
    subst h1
    subst hs
    refine pk_le n i (fun z => absurd z (by omega)) (fun _ => ?_)
    refine wk_degrees h2 hi (fun fw fs a2 a3 a4 a5 a6 ok' => ?_)
    refine nm_r (e' := Int32.ofInt (dt_sum (i + 1) (fun v => dt_sum n (fun u => if u = v then 0 else tc_us n E M u v)))) ?_ (nm_r (nI_1 i) (hw (_, nI n, fw, fs, b1, a2, a3, a4, a5, a6) ⟨rfl, rfl, ok'⟩))
    rw [← Int32.ofInt_add]
    rfl
end
section
theorem wk_24 {post : Int32 → Prop} {L : Nat} {xs : Nat → Int32} {n kc ks : Nat} (hL : L ≤ 260) (t0 : St2) (ok : ∃ E M, wk_st n E M t0) (H : post 1) : ∃ k, wL_law_24 post L xs (nI n) kc ks k 1 t0.1 t0.2.1 t0.2.2.1 t0.2.2.2.1 t0.2.2.2.2.1 t0.2.2.2.2.2.1 t0.2.2.2.2.2.2.1 t0.2.2.2.2.2.2.2.1 t0.2.2.2.2.2.2.2.2 := by
  have n26 : 2 ≤ n ∧ n ≤ 6 := by
    obtain ⟨E, M, h⟩ := ok
    exact ⟨h.2.1, h.2.2.1⟩
  obtain ⟨n2, n6⟩ := n26
  refine pk_loop (σ := St2) (fun k i t => wL_law_24 post L xs (nI n) kc ks k (nI (1 + 3 * i)) t.1 t.2.1 t.2.2.1 t.2.2.2.1 t.2.2.2.2.1 t.2.2.2.2.2.1 t.2.2.2.2.2.2.1 t.2.2.2.2.2.2.2.1 t.2.2.2.2.2.2.2.2) (fun i t => ∃ E M, wk_st n E M t) ((L - 1) / 3) 0 t0 (by omega) ok ?_ ?_
  · intro k t h
    obtain ⟨E, M, h⟩ := h
    obtain ⟨fn, fw, fs, b1, b2, b3, b4, b5, b6⟩ := t
    obtain ⟨h1, h2⟩ := h
    dsimp only at h1 h2 ⊢
    subst h1
    refine pk_le L (1 + 3 * ((L - 1) / 3) + 2) (fun _ => ?_) (fun z => absurd z (by omega)) (by rfl) (nI_add _ 2)
    exact wk_trees h2 (fun fw fs a3 a4 a5 a6 => wk_125 (nI n, fw, fs, b1, b2, a3, a4, a5, a6) ⟨rfl, h2⟩ H)
  · intro k i t hi h hw
    obtain ⟨E, M, h⟩ := h
    obtain ⟨fn, fw, fs, b1, b2, b3, b4, b5, b6⟩ := t
    obtain ⟨h1, h2⟩ := h
    dsimp only at h1 h2 ⊢
    subst h1
    have md : ∀ x : Int32, ∃ j, j < n ∧ (x &&& 2147483647) - (x &&& 2147483647) / nI n * nI n = nI j := by
      intro x
      obtain ⟨j, hj, e⟩ := pk_andE x (m := 2147483647) 31 (by decide)
      refine ⟨j % n, Nat.mod_lt _ (by omega), ?_⟩
      rw [e]
      exact pk_rem hj (by omega) (by omega)
    have nx : nI (1 + 3 * i) + 3 = nI (1 + 3 * (i + 1)) := nI_add (1 + 3 * i) 3
    have n0 : ¬ nI n = 0 := nI_ne0 (by omega) (by omega)
    have i1 : vp_in (nI (1 + 3 * i) + 1) L := pk_in (1 + 3 * i + 1) L (by omega) (nI_add _ 1)
    have i2 : vp_in (nI (1 + 3 * i) + 2) L := pk_in (1 + 3 * i + 2) L (by omega) (nI_add _ 2)
    refine pk_le L (1 + 3 * i + 2) (fun z => absurd z (by omega)) (fun _ => ⟨pk_in (1 + 3 * i) L (by omega), n0, ?_⟩) (by rfl) (nI_add _ 2)
    obtain ⟨u, hu, eu⟩ := md (xs (nI (1 + 3 * i)).toNatClampNeg)
    obtain ⟨v, hv, ev⟩ := md (xs (nI (1 + 3 * i) + 1).toNatClampNeg)
    obtain ⟨m, hm, em⟩ := pk_andE (xs (nI (1 + 3 * i) + 2).toNatClampNeg) (m := 3) 2 (by decide)
    refine nm_r eu ⟨i1, n0, nm_r ev ⟨i2, ?_⟩⟩
    rw [em]
    refine wk_edges' h2 hu hv (by omega) (fun r a1' E' ok' => ⟨i2, br_c (fun _ => ⟨i2, by decide, ?_⟩) (fun _ => nm_r nx (hw (nI n, fw, fs, a1', b2, b3, b4, b5, b6) ⟨E', M, rfl, ok'⟩))⟩)
    obtain ⟨c, hc, ec⟩ := pk_andE (xs (nI (1 + 3 * i) + 2).toNatClampNeg >>> ((5 : Int32) &&& 31)) (m := 255) 8 (by decide)
    have e3 : ((xs (nI (1 + 3 * i) + 2).toNatClampNeg >>> ((5 : Int32) &&& 31)) &&& 255) - ((xs (nI (1 + 3 * i) + 2).toNatClampNeg >>> ((5 : Int32) &&& 31)) &&& 255) / 3 * 3 = nI (c % 3) := by
      rw [ec]
      exact pk_rem (d := 3) (by omega) (by omega) (by omega)
    rw [e3]
    exact wk_mode' ok' hu hv (by omega) (fun r2 a2' M' ok2 => nm_r nx (hw (nI n, fw, fs, a1', a2', b3, b4, b5, b6) ⟨E', M', rfl, ok2⟩))
theorem i_vc (xs : Nat → Int32) (L : Nat) (hL : L ≤ 260) : wpL_law (fun r => r = 1) L xs := by
  have main : ∀ r : Int32, (¬ (5 : Int32) = 0 ∧ (∀ x1_3 : Int32, x1_3 = 2 + ((r &&& 2147483647) - (r &&& 2147483647) / 5 * 5) → (∃ mc_27 ms_28 : Nat, 1 + mc_27 ≤ 7 ∧ 9 + ms_28 ≤ 165 ∧ (wpX_init (fun u => match u with | (fm13_n_6, fm13_ways_7, fm13_size_8, am181_11, am182_14, am183_17, am184_20, am185_23, am186_26) => (∃ fu24 : Nat, wL_law_24 (fun r => r = 1) L xs x1_3 (1 + mc_27) (9 + ms_28) fu24 1 fm13_n_6 fm13_ways_7 fm13_size_8 am181_11 am182_14 am183_17 am184_20 am185_23 am186_26)) mc_27 ms_28 (0, 0, 0) x1_3)))) := by
    intro r
    obtain ⟨j, hj, e⟩ := pk_andE r (m := 2147483647) 31 (by decide)
    have e5 : 2 + ((r &&& 2147483647) - (r &&& 2147483647) / 5 * 5) = nI (2 + j % 5) := by
      rw [e, show nI j - nI j / 5 * 5 = nI (j % 5) from pk_rem (d := 5) hj (by omega) (by omega)]
      exact nI_add 2 (j % 5)
    have hn : 2 + j % 5 ≤ 6 := by omega
    refine ⟨by decide, nm_r e5 ⟨6, 156, by omega, by omega, ?_⟩⟩
    generalize hq : 2 + j % 5 = n at hn
    have h2 : 2 ≤ n := by omega
    unfold wpX_init
    refine ⟨by omega, by omega, by omega, by omega, by omega, by omega, by omega, by omega, by omega, by omega, by omega, by omega, pk_le 2 n (fun _ => ?_) (fun z => absurd z (by omega))⟩
    unfold wX_init_61
    refine pk_le n 6 (fun _ => ?_) (fun z => absurd z (by omega))
    refine wk_24 hL (nI n, 0, 0, (fun _ => 0), (fun _ => 0), (fun _ => 0), (fun _ => 0), (fun _ => 0), (fun _ => 0)) ⟨fun _ _ => 0, fun _ _ => 0, rfl, h2, hn, fun _ _ _ _ => rfl, fun _ _ _ _ => rfl, fun _ _ _ _ _ => ⟨rfl, Nat.zero_le 3, rfl, Nat.zero_le 2⟩⟩ rfl
  unfold wpL_law wpL_cell
  exact pk_le L 0 (fun _ => main 0) (fun z => ⟨pk_in 0 L z, main _⟩)
end

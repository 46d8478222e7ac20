section
/-- digit i of c, of n digits, the first one the greatest -/
def wt_dg (n c i : Nat) : Nat := c / 10 ^ (n - 1 - i) % 10
/-- the sum of the first k digits of c, of n digits -/
def wt_sz (n c : Nat) : Nat → Nat
  | 0 => 0
  | k + 1 => wt_sz n c k + wt_dg n c k
/-- a shape: at most nine boxes, rows that don't grow -/
def wt_sh (n c : Nat) : Prop := wt_sz n c n ≤ 9 ∧ ∀ i, 1 ≤ i → i < n → wt_dg n c i ≤ wt_dg n c (i - 1)
theorem wt_p4 {n : Nat} (hn : n ≤ 4) : 10 ^ n ≤ 10000 := Nat.pow_le_pow_right (by omega : 0 < 10) hn
theorem wt_pp (n : Nat) : 0 < 10 ^ n := Nat.pow_pos (by omega)
theorem wt_dg9 (n c i : Nat) : wt_dg n c i ≤ 9 := Nat.le_of_lt_succ (Nat.mod_lt _ (by omega))
theorem wt_sz9 (n c k : Nat) : wt_sz n c k ≤ 9 * k := by
  induction k with
  | zero => exact Nat.le_refl 0
  | succ k ih =>
    have h := wt_dg9 n c k
    show wt_sz n c k + wt_dg n c k ≤ 9 * (k + 1)
    omega
theorem wt_pow {post : Int32 → Prop} {k : Nat} (hk : k ≤ 9) (H : post (nI (10 ^ k))) : wpX_power post () (nI k) :=
  pk_loop (σ := Unit) (fun n i _ => wX_power_4 post (nI k) n (nI (10 ^ i)) (nI i)) (fun _ _ => True) k 0 () (by omega) trivial
    (fun n _ _ => pk_le k k (fun _ => H) (fun z => absurd z (by omega)))
    (fun n i _ hi _ hw => pk_le k i (fun z => absurd z (by omega)) (fun _ => nm_r (pk_mul (10 ^ i) 10) (nm_r (nI_1 i) (hw () trivial))))
section
variable {f1 f2 f3 : Int32} {a1 a2 a3 a4 a5 a6 a7 a8 a9 a10 a11 a12 : Nat → Int32}
theorem wt_dig {post : Int32 → Prop} {n c i : Nat} (hn : n ≤ 4) (hi : i < n) (hc : c < 2 ^ 31) (H : post (nI (wt_dg n c i))) : wpX_digit post (nI n, f1, f2, f3, a1, a2, a3, a4, a5, a6, a7, a8, a9, a10, a11, a12) (nI c) (nI i) := by
  unfold wpX_digit
  dsimp only
  have e : nI n - 1 - nI i = nI (n - 1 - i) := by
    rw [show (1 : Int32) = nI 1 from rfl, pk_sub (by omega), pk_sub (by omega)]
  rw [e]
  have hp : 10 ^ (n - 1 - i) ≤ 10000 := wt_p4 (by omega)
  have hq : c / 10 ^ (n - 1 - i) ≤ c := Nat.div_le_self _ _
  refine wt_pow (by omega) ⟨nI_ne0 (wt_pp _) (by omega), by decide, ?_⟩
  have e2 : nI c / nI (10 ^ (n - 1 - i)) = nI (c / 10 ^ (n - 1 - i)) := pk_div hc (wt_pp _) (by omega)
  have e3 : nI (c / 10 ^ (n - 1 - i)) - nI (c / 10 ^ (n - 1 - i)) / 10 * 10 = nI (wt_dg n c i) := pk_rem (d := 10) (by omega) (by omega) (by omega)
  rw [e2, e3]
  exact H
theorem wt_size {post : Int32 → Prop} {n c : Nat} (hn : n ≤ 4) (hc : c < 2 ^ 31) (H : post (nI (wt_sz n c n))) : wpX_sizeOf post (nI n, f1, f2, f3, a1, a2, a3, a4, a5, a6, a7, a8, a9, a10, a11, a12) (nI c) :=
  pk_loop (σ := Unit) (fun m i _ => wX_sizeOf_4 post (nI c) (nI n) f1 f2 f3 a1 a2 a3 a4 a5 a6 a7 a8 a9 a10 a11 a12 m (nI (wt_sz n c i)) (nI i)) (fun _ _ => True) n 0 () (by omega) trivial
    (fun m _ _ => pk_le n n (fun _ => H) (fun z => absurd z (by omega)))
    (fun m i _ hi _ hw => pk_le n i (fun z => absurd z (by omega)) (fun _ => wt_dig hn hi hc (nm_r (nI_add _ _) (nm_r (nI_1 i) (hw () trivial)))))
theorem wt_digx {post : Int32 → Prop} {n c : Nat} {x : Int32} (i : Nat) (hx : x = nI i) (hn : n ≤ 4) (hi : i < n) (hc : c < 2 ^ 31) (H : post (nI (wt_dg n c i))) : wpX_digit post (nI n, f1, f2, f3, a1, a2, a3, a4, a5, a6, a7, a8, a9, a10, a11, a12) (nI c) x := by
  rw [hx]
  exact wt_dig hn hi hc H
/-- isShape of a number of n digits -/
theorem wt_is {post : Int32 → Prop} {n c : Nat} (h2 : 2 ≤ n) (hn : n ≤ 4) (hc : c < 10 ^ n) (H1 : wt_sh n c → post 1) (H0 : ¬ wt_sh n c → post 0) : wpX_isShape post (nI n, f1, f2, f3, a1, a2, a3, a4, a5, a6, a7, a8, a9, a10, a11, a12) (nI c) := by
  have hp := wt_p4 hn
  have hs := wt_sz9 n c n
  have hc' : c < 2 ^ 31 := by omega
  unfold wpX_isShape
  dsimp only
  refine br_f (nI_pos hc') (wt_pow (by omega) (pk_le (10 ^ n) c (fun z => absurd z (by omega)) (fun _ => wt_size hn hc' ?_)))
  refine pk_le (wt_sz n c n) 9 (fun z => ?_) (fun z => H0 (fun t => absurd t.1 (by omega)))
  exact pk_loop (σ := Unit) (fun m i _ => wX_isShape_29 post (nI c) (nI n) f1 f2 f3 a1 a2 a3 a4 a5 a6 a7 a8 a9 a10 a11 a12 m (nI i)) (fun i _ => 1 ≤ i ∧ ∀ j, 1 ≤ j → j < i → wt_dg n c j ≤ wt_dg n c (j - 1)) n 1 () (by omega) ⟨by omega, fun j h1 hj => absurd hj (by omega)⟩
    (fun m _ h => pk_le n n (fun _ => H1 ⟨z, h.2⟩) (fun z => absurd z (by omega)))
    (fun m i _ hi h hw => pk_le n i (fun z => absurd z (by omega)) (fun _ => wt_dig hn hi hc' (wt_digx (i - 1) (pk_sub (b := 1) h.1) hn (by omega) hc'
      (pk_le (wt_dg n c i) (wt_dg n c (i - 1)) (fun g => nm_r (nI_1 i) (hw () ⟨by omega, fun j h1 hj => by
        by_cases e : j = i
        · rw [e]; exact g
        · exact h.2 j h1 (by omega)⟩))
        (fun g => H0 (fun t => absurd (t.2 i h.1 hi) (by omega))) rfl rfl (by have := wt_dg9 n c i; omega) (by have := wt_dg9 n c (i - 1); omega)))))
/-- isShape of a number that has too many digits -/
theorem wt_isT {post : Int32 → Prop} {n : Nat} (hn : n ≤ 4) (H0 : post 0) : wpX_isShape post (nI n, f1, f2, f3, a1, a2, a3, a4, a5, a6, a7, a8, a9, a10, a11, a12) (nI (10 ^ n)) := by
  have hp := wt_p4 hn
  unfold wpX_isShape
  dsimp only
  exact br_f (nI_pos (by omega)) (wt_pow (by omega) (pk_le (10 ^ n) (10 ^ n) (fun _ => H0) (fun z => absurd z (by omega))))
end
/-! the shape of one row of p boxes -/
theorem wt_rl {n p : Nat} (h2 : 2 ≤ n) (hp : p ≤ 9) : p * 10 ^ (n - 1) < 10 ^ n := by
  have e : 10 ^ n = 10 * 10 ^ (n - 1) := by rw [← Nat.pow_succ', show (n - 1).succ = n by omega]
  have := wt_pp (n - 1)
  rw [e]
  exact Nat.mul_lt_mul_of_pos_right (by omega) this
theorem wt_r0 {n p : Nat} (hp : p ≤ 9) : wt_dg n (p * 10 ^ (n - 1)) 0 = p := by
  unfold wt_dg
  rw [Nat.sub_zero, Nat.mul_div_cancel _ (wt_pp _)]
  omega
theorem wt_ri {n p i : Nat} (hi : i < n) (h1 : 1 ≤ i) : wt_dg n (p * 10 ^ (n - 1)) i = 0 := by
  unfold wt_dg
  have e : p * 10 ^ (n - 1) = p * 10 ^ (i - 1) * 10 * 10 ^ (n - 1 - i) := by
    rw [Nat.mul_assoc (p * 10 ^ (i - 1)), Nat.mul_assoc p, ← Nat.pow_succ', ← Nat.pow_add, show i - 1 + (n - 1 - i + 1) = n - 1 by omega]
  rw [e, Nat.mul_div_cancel _ (wt_pp _)]
  omega
def wt_q (p i : Nat) : Nat := if i = 0 then p else 0
theorem wt_rq {n p i : Nat} (hp : p ≤ 9) (hi : i < n) : wt_dg n (p * 10 ^ (n - 1)) i = wt_q p i := by
  unfold wt_q
  by_cases e : i = 0
  · rw [if_pos e, e]; exact wt_r0 hp
  · rw [if_neg e]; exact wt_ri hi (by omega)
theorem wt_rk {n p : Nat} (hp : p ≤ 9) : ∀ k, k ≤ n → 1 ≤ k → wt_sz n (p * 10 ^ (n - 1)) k = p := by
  intro k
  induction k with
  | zero => intro _ h; omega
  | succ k ih =>
    intro hk _
    show wt_sz n (p * 10 ^ (n - 1)) k + wt_dg n (p * 10 ^ (n - 1)) k = p
    by_cases e : k = 0
    · rw [e, wt_r0 hp]; exact Nat.zero_add p
    · rw [ih (by omega) (by omega), wt_ri (by omega) (by omega), Nat.add_zero]
theorem wt_rs {n p : Nat} (h2 : 2 ≤ n) (hp : p ≤ 9) : wt_sz n (p * 10 ^ (n - 1)) n = p := wt_rk hp n (Nat.le_refl n) (by omega)
theorem wt_rsh {n p : Nat} (h2 : 2 ≤ n) (hp : p ≤ 9) : wt_sh n (p * 10 ^ (n - 1)) := ⟨by rw [wt_rs h2 hp]; exact hp, fun i h1 hi => by rw [wt_ri hi h1]; exact Nat.zero_le _⟩
section
variable {f1 f2 f3 : Int32} {a1 a2 a3 a4 a5 a6 a7 a8 a9 a10 a11 a12 : Nat → Int32}
theorem wt_isR {post : Int32 → Prop} {n p : Nat} (h2 : 2 ≤ n) (hn : n ≤ 4) (hp : p ≤ 9) (H1 : post 1) : wpX_isShape post (nI n, f1, f2, f3, a1, a2, a3, a4, a5, a6, a7, a8, a9, a10, a11, a12) (nI (p * 10 ^ (n - 1))) :=
  wt_is h2 hn (wt_rl h2 hp) (fun _ => H1) (fun z => absurd (wt_rsh h2 hp) z)
end
end
section
/-- the product of g b, .., g (b + k - 1) -/
def wt_pr (g : Nat → Nat) (b : Nat) : Nat → Nat
  | 0 => 1
  | k + 1 => wt_pr g b k * g (b + k)
/-- the product over the rows below k and the rows behind them -/
def wt_TT (n : Nat) (q : Nat → Nat) : Nat → Nat
  | 0 => 1
  | i + 1 => wt_TT n q i * wt_pr (fun j => q i + j - i) (i + 1) (n - 1 - i)
def wt_ways (n p : Nat) : Nat := if n = 2 then p + 1 else if n = 3 then (p + 1) * (p + 2) / 2 else (p + 1) * (p + 2) * (p + 3) / 6
theorem wt_dimP2 : ∀ p, p < 10 → wt_TT 2 (wt_q p) 2 / wt_TT 2 (fun _ => 0) 2 = wt_ways 2 p ∧ wt_TT 2 (wt_q p) 2 < 100000 ∧ 0 < wt_TT 2 (fun _ => 0) 2 ∧ wt_TT 2 (fun _ => 0) 2 < 1000 := by decide +kernel
theorem wt_dimP3 : ∀ p, p < 10 → wt_TT 3 (wt_q p) 3 / wt_TT 3 (fun _ => 0) 3 = wt_ways 3 p ∧ wt_TT 3 (wt_q p) 3 < 100000 ∧ 0 < wt_TT 3 (fun _ => 0) 3 ∧ wt_TT 3 (fun _ => 0) 3 < 1000 := by decide +kernel
theorem wt_dimP4 : ∀ p, p < 10 → wt_TT 4 (wt_q p) 4 / wt_TT 4 (fun _ => 0) 4 = wt_ways 4 p ∧ wt_TT 4 (wt_q p) 4 < 100000 ∧ 0 < wt_TT 4 (fun _ => 0) 4 ∧ wt_TT 4 (fun _ => 0) 4 < 1000 := by decide +kernel
theorem wt_dimP {n p : Nat} (h2 : 2 ≤ n) (hn : n ≤ 4) (hp : p ≤ 9) : wt_TT n (wt_q p) n / wt_TT n (fun _ => 0) n = wt_ways n p ∧ wt_TT n (wt_q p) n < 100000 ∧ 0 < wt_TT n (fun _ => 0) n ∧ wt_TT n (fun _ => 0) n < 1000 := by
  have h : n = 2 ∨ n = 3 ∨ n = 4 := by omega
  rcases h with e | e | e
  · rw [e]; exact wt_dimP2 p (by omega)
  · rw [e]; exact wt_dimP3 p (by omega)
  · rw [e]; exact wt_dimP4 p (by omega)
section
variable {f1 f2 f3 : Int32} {a1 a2 a3 a4 a5 a6 a7 a8 a9 a10 a11 a12 : Nat → Int32}
theorem wt_dim23 {post : Int32 → Prop} {J : Int64 → Int64 → Int32 → Prop} {n p i T B : Nat} (hn : n ≤ 4) (h2 : 2 ≤ n) (hp : p ≤ 9) (hi : i < n)
    (H : J (lN (T * wt_pr (fun j => wt_q p i + j - i) (i + 1) (n - 1 - i))) (lN (B * wt_pr (fun j => 0 + j - i) (i + 1) (n - 1 - i))) (nI (i + 1))) :
    ∃ fu, wX_dimension_23 post J (nI (p * 10 ^ (n - 1))) (nI i) (nI n) f1 f2 f3 a1 a2 a3 a4 a5 a6 a7 a8 a9 a10 a11 a12 fu (lN T) (lN B) (nI (i + 1)) := by
  have hc : p * 10 ^ (n - 1) < 2 ^ 31 := by
    have h1 := wt_rl h2 hp
    have h3 := wt_p4 hn
    omega
  have hq9 : wt_q p i ≤ 9 := by
    unfold wt_q
    split <;> omega
  refine Exists.elim (pk_loop (σ := Unit) (fun m k _ => wX_dimension_23 post J (nI (p * 10 ^ (n - 1))) (nI i) (nI n) f1 f2 f3 a1 a2 a3 a4 a5 a6 a7 a8 a9 a10 a11 a12 m (lN (T * wt_pr (fun j => wt_q p i + j - i) (i + 1) k)) (lN (B * wt_pr (fun j => 0 + j - i) (i + 1) k)) (nI (i + 1 + k))) (fun _ _ => True) (n - 1 - i) 0 () (by omega) trivial ?_ ?_) (fun m hm => ⟨m, ?_⟩)
  rotate_left 2
  · have hm' : wX_dimension_23 post J (nI (p * 10 ^ (n - 1))) (nI i) (nI n) f1 f2 f3 a1 a2 a3 a4 a5 a6 a7 a8 a9 a10 a11 a12 m (lN (T * 1)) (lN (B * 1)) (nI (i + 1)) := hm
    rw [Nat.mul_one, Nat.mul_one] at hm'
    exact hm'
  · intro m _ _
    exact pk_le n (i + 1 + (n - 1 - i)) (fun _ => nm_r (nI_1 i) H) (fun z => absurd z (by omega))
  · intro m k _ hk _ hw
    refine pk_le n (i + 1 + k) (fun z => absurd z (by omega)) (fun _ => wt_dig hn hi hc (wt_dig hn (by omega) hc ?_))
    rw [wt_rq hp hi, wt_ri (show i + 1 + k < n by omega) (by omega)]
    have e1 : ((nI (wt_q p i) - nI 0 + nI (i + 1 + k)) - nI i).toInt64 = lN (wt_q p i + (i + 1 + k) - i) := by
      rw [pk_sub (Nat.zero_le _), Nat.sub_zero, nI_add, pk_sub (by omega), nI_l (by omega)]
    have e2 : (nI (i + 1 + k) - nI i).toInt64 = lN (0 + (i + 1 + k) - i) := by
      rw [pk_sub (by omega), nI_l (by omega), Nat.zero_add]
    refine nm_r (by rw [e1, lN_mul, Nat.mul_assoc]) (nm_r (by rw [e2, lN_mul, Nat.mul_assoc]) (nm_r (nI_1 _) ?_))
    exact hw () trivial
theorem wt_dimension {post : Int32 → Prop} {n p : Nat} (h2 : 2 ≤ n) (hn : n ≤ 4) (hp : p ≤ 9) (H : post (nI (wt_ways n p))) : wpX_dimension post (nI n, f1, f2, f3, a1, a2, a3, a4, a5, a6, a7, a8, a9, a10, a11, a12) (nI (p * 10 ^ (n - 1))) := by
  obtain ⟨w1, w2, w3, w4⟩ := wt_dimP h2 hn hp
  refine pk_loop (σ := Unit) (fun m i _ => wX_dimension_8 post (nI (p * 10 ^ (n - 1))) (nI n) f1 f2 f3 a1 a2 a3 a4 a5 a6 a7 a8 a9 a10 a11 a12 m (lN (wt_TT n (wt_q p) i)) (lN (wt_TT n (fun _ => 0) i)) (nI i)) (fun _ _ => True) n 0 () (by omega) trivial ?_ ?_
  · intro m _ _
    refine pk_le n n (fun _ => ?_) (fun z => absurd z (by omega))
    refine br_f (fun z => absurd ((lN_le (b := 0) (by omega) (by omega)).mp z) (by omega)) ⟨fun z => absurd ((lN_eq (b := 0) (by omega) (by omega)).mp z) (by omega), ?_⟩
    rw [pk_lDiv (by omega) w3 (by omega), lN_i, w1]
    exact H
  · intro m i _ hi _ hw
    exact pk_le n i (fun z => absurd z (by omega)) (fun _ => nm_r (nI_1 i) (wt_dim23 hn h2 hp hi (hw () trivial)))
theorem wt_fillings {post : Int32 → Prop} {n p : Nat} (h2 : 2 ≤ n) (hn : n ≤ 4) (hp : p ≤ 9) (H : post (nI (wt_ways n p))) : wpX_fillings post (nI n, f1, f2, f3, a1, a2, a3, a4, a5, a6, a7, a8, a9, a10, a11, a12) (nI (p * 10 ^ (n - 1))) := by
  unfold wpX_fillings
  dsimp only
  exact wt_isR h2 hn hp (br_f (by decide) (wt_dimension h2 hn hp H))
theorem wt_fillingsT {post : Int32 → Prop} {n : Nat} (hn : n ≤ 4) (H : post (-1)) : wpX_fillings post (nI n, f1, f2, f3, a1, a2, a3, a4, a5, a6, a7, a8, a9, a10, a11, a12) (nI (10 ^ n)) := by
  unfold wpX_fillings
  dsimp only
  exact wt_isT hn (br_t rfl H)
end
/-! hooks -/
def wt_fc : Nat → Nat
  | 0 => 1
  | k + 1 => wt_fc k * (k + 1)
def wt_hp (p : Nat) : Nat → Nat
  | 0 => 1
  | k + 1 => wt_hp p k * (p - k)
theorem wt_hpP : ∀ p, p < 10 → wt_hp p p = wt_fc p ∧ 0 < wt_fc p ∧ wt_fc p < 400000 := by decide +kernel
section
variable {f1 f2 f3 : Int32} {a1 a2 a3 a4 a5 a6 a7 a8 a9 a10 a11 a12 : Nat → Int32}
theorem wt_hookAt {post : Int32 → Prop} {n p k : Nat} (h2 : 2 ≤ n) (hn : n ≤ 4) (hp : p ≤ 9) (hk : k < p) (H : post (nI (p - k))) : wpX_hookAt post (nI n, f1, f2, f3, a1, a2, a3, a4, a5, a6, a7, a8, a9, a10, a11, a12) (nI (p * 10 ^ (n - 1))) (nI 0) (nI k) := by
  have hc : p * 10 ^ (n - 1) < 2 ^ 31 := by
    have h1 := wt_rl h2 hp
    have h3 := wt_p4 hn
    omega
  unfold wpX_hookAt
  dsimp only
  refine nm_r (nI_1 0) ?_
  refine pk_loop (σ := Unit) (fun m i _ => wX_hookAt_8 post (nI (p * 10 ^ (n - 1))) (nI 0) (nI k) (nI n) f1 f2 f3 a1 a2 a3 a4 a5 a6 a7 a8 a9 a10 a11 a12 m (nI 0) (nI i)) (fun i _ => 1 ≤ i) n (0 + 1) () (by omega) (by omega) ?_ ?_
  · intro m _ _
    refine pk_le n n (fun _ => wt_dig hn (by omega) hc ?_) (fun z => absurd z (by omega))
    rw [wt_r0 hp, pk_sub (by omega), nI_add]
    exact H
  · intro m i _ hi h hw
    refine pk_le n i (fun z => absurd z (by omega)) (fun _ => wt_dig hn hi hc ?_)
    rw [wt_ri hi h]
    exact pk_le 0 k (fun _ => nm_r (nI_add 0 0) (nm_r (nI_1 i) (hw () (by omega)))) (fun z => absurd z (by omega))
theorem wt_hookProduct {post : Int32 → Prop} {n p : Nat} (h2 : 2 ≤ n) (hn : n ≤ 4) (hp : p ≤ 9) (H : post (nI (wt_fc p))) : wpX_hookProduct post (nI n, f1, f2, f3, a1, a2, a3, a4, a5, a6, a7, a8, a9, a10, a11, a12) (nI (p * 10 ^ (n - 1))) := by
  have hc : p * 10 ^ (n - 1) < 2 ^ 31 := by
    have h1 := wt_rl h2 hp
    have h3 := wt_p4 hn
    omega
  refine pk_loop (σ := Nat) (fun m i s => wX_hookProduct_4 post (nI (p * 10 ^ (n - 1))) (nI n) f1 f2 f3 a1 a2 a3 a4 a5 a6 a7 a8 a9 a10 a11 a12 m (nI s) (nI i)) (fun i s => (i = 0 → s = 1) ∧ (1 ≤ i → s = wt_fc p)) n 0 1 (by omega) ⟨fun _ => rfl, fun z => absurd z (by omega)⟩ ?_ ?_
  · intro m s h
    refine pk_le n n (fun _ => ?_) (fun z => absurd z (by omega))
    rw [h.2 (by omega)]
    exact H
  · intro m i s hi h hw
    refine pk_le n i (fun z => absurd z (by omega)) (fun _ => ?_)
    by_cases e : i = 0
    · rw [e] at hw ⊢
      rw [h.1 e]
      refine pk_loop (σ := Unit) (fun m' k _ => wX_hookProduct_15 post (wX_hookProduct_4 post (nI (p * 10 ^ (n - 1))) (nI n) f1 f2 f3 a1 a2 a3 a4 a5 a6 a7 a8 a9 a10 a11 a12 m) (nI (p * 10 ^ (n - 1))) (nI 0) (nI n) f1 f2 f3 a1 a2 a3 a4 a5 a6 a7 a8 a9 a10 a11 a12 m' (nI (wt_hp p k)) (nI k)) (fun _ _ => True) p 0 () (by omega) trivial ?_ ?_
      · intro m' _ _
        unfold wX_hookProduct_15
        refine wt_dig hn (by omega) hc ?_
        rw [wt_r0 hp]
        refine pk_le p p (fun _ => nm_r (nI_1 0) (hw _ ⟨fun z => absurd z (by omega), fun _ => (wt_hpP p (by omega)).1⟩)) (fun z => absurd z (by omega))
      · intro m' k _ hk _ hw'
        unfold wX_hookProduct_15
        refine wt_dig hn (by omega) hc ?_
        rw [wt_r0 hp]
        exact pk_le p k (fun z => absurd z (by omega)) (fun _ => wt_hookAt h2 hn hp hk (nm_r (pk_mul _ _) (nm_r (nI_1 k) (hw' () trivial))))
    · refine ⟨0 + 1, ?_⟩
      unfold wX_hookProduct_15
      refine wt_dig hn hi hc ?_
      rw [wt_ri hi (by omega)]
      exact pk_le 0 0 (fun _ => nm_r (nI_1 i) (hw _ ⟨fun z => absurd z (by omega), fun _ => h.2 (by omega)⟩)) (fun z => absurd z (by omega))
theorem wt_hooks {post : Int32 → Prop} {n p : Nat} (h2 : 2 ≤ n) (hn : n ≤ 4) (hp : p ≤ 9) (H : post (nI (wt_fc p))) : wpX_hooks post (nI n, f1, f2, f3, a1, a2, a3, a4, a5, a6, a7, a8, a9, a10, a11, a12) (nI (p * 10 ^ (n - 1))) := by
  unfold wpX_hooks
  dsimp only
  exact wt_isR h2 hn hp (br_f (by decide) (wt_hookProduct h2 hn hp H))
theorem wt_hooksT {post : Int32 → Prop} {n : Nat} (hn : n ≤ 4) (H : post (-1)) : wpX_hooks post (nI n, f1, f2, f3, a1, a2, a3, a4, a5, a6, a7, a8, a9, a10, a11, a12) (nI (10 ^ n)) := by
  unfold wpX_hooks
  dsimp only
  exact wt_isT hn (br_t rfl H)
theorem wt_orders {post : Int32 → Prop} {n p : Nat} (h2 : 2 ≤ n) (hn : n ≤ 4) (hp : p ≤ 9) (H : post 1) : wpX_orders post (nI n, f1, f2, f3, a1, a2, a3, a4, a5, a6, a7, a8, a9, a10, a11, a12) (nI (p * 10 ^ (n - 1))) := by
  have hc : p * 10 ^ (n - 1) < 2 ^ 31 := by
    have h1 := wt_rl h2 hp
    have h3 := wt_p4 hn
    omega
  obtain ⟨_, g1, g2⟩ := wt_hpP p (by omega)
  unfold wpX_orders
  dsimp only
  refine wt_isR h2 hn hp (br_f (by decide) (wt_size hn hc ?_))
  rw [wt_rs h2 hp]
  refine pk_loop (σ := Unit) (fun m i _ => wX_orders_21 post (nI (p * 10 ^ (n - 1))) (nI p) (nI n) f1 f2 f3 a1 a2 a3 a4 a5 a6 a7 a8 a9 a10 a11 a12 m (nI (wt_fc (i - 1))) (nI i)) (fun i _ => 2 ≤ i) (max 2 (p + 1)) 2 () (by omega) (by omega) ?_ ?_
  · intro m _ _
    refine pk_lt p (max 2 (p + 1)) (fun _ => wt_hookProduct h2 hn hp ?_) (fun z => absurd z (by omega))
    have e : wt_fc (max 2 (p + 1) - 1) = wt_fc p := by
      by_cases z : p = 0
      · rw [z]; rfl
      · rw [show max 2 (p + 1) - 1 = p by omega]
    rw [e]
    refine br_f (nI_nle g1 (by omega)) ⟨nI_ne0 g1 (by omega), ?_⟩
    rw [pk_div (by omega) g1 (by omega), Nat.div_self g1]
    exact H
  · intro m i _ hi h hw
    refine pk_lt p i (fun z => absurd z (by omega)) (fun _ => nm_r ?_ (nm_r (nI_1 i) (hw () (by omega))))
    rw [pk_mul]
    have e : wt_fc (i - 1) * i = wt_fc (i - 1 + 1) := by
      show wt_fc (i - 1) * i = wt_fc (i - 1) * (i - 1 + 1)
      rw [show i - 1 + 1 = i by omega]
    rw [e, show i - 1 + 1 = i + 1 - 1 by omega]
theorem wt_ordersT {post : Int32 → Prop} {n : Nat} (hn : n ≤ 4) (H : post (-1)) : wpX_orders post (nI n, f1, f2, f3, a1, a2, a3, a4, a5, a6, a7, a8, a9, a10, a11, a12) (nI (10 ^ n)) := by
  unfold wpX_orders
  dsimp only
  exact wt_isT hn (br_t rfl H)
end
/-! the law's factorial -/
theorem wt_fact {post : Int32 → Prop} {p : Nat} (hp : p ≤ 9) (H : post (nI (wt_fc p))) : wpL_factorial post () (nI p) := by
  refine Exists.elim (pk_loop (σ := Unit) (fun m i _ => wL_factorial_4 post (nI p) m (nI (wt_fc (min p (i - 1)))) (nI i)) (fun i _ => 2 ≤ i) 10 2 () (by omega) (by omega) ?_ (fun m i _ hi h hw => ?_)) (fun m hm => ⟨m, ?_⟩)
  rotate_left 2
  · have e : wt_fc (min p (2 - 1)) = 1 := by
      by_cases z : p = 0
      · rw [z]; rfl
      · rw [show min p (2 - 1) = 1 by omega]; rfl
    have hm' : wL_factorial_4 post (nI p) m (nI (wt_fc (min p (2 - 1)))) (nI 2) := hm
    rw [e] at hm'
    exact hm'
  · intro m _ _
    refine pk_le 10 10 (fun _ => ?_) (fun z => absurd z (by omega))
    rw [show min p (10 - 1) = p by omega]
    exact H
  · have hw' := hw () (by omega)
    refine pk_le 10 i (fun z => absurd z (by omega)) (fun _ => pk_lt p i (fun z => nm_r (nI_1 i) ?_) (fun z => nm_r ?_ (nm_r (nI_1 i) hw')))
    · rw [show min p (i + 1 - 1) = min p (i - 1) by omega] at hw'
      exact hw'
    · rw [pk_mul, show min p (i - 1) = i - 1 by omega, show min p (i + 1 - 1) = i - 1 + 1 by omega]
      show nI (wt_fc (i - 1) * i) = nI (wt_fc (i - 1) * (i - 1 + 1))
      rw [show i - 1 + 1 = i by omega]
theorem wt_factT {post : Int32 → Prop} {x : Int32} (H : ∀ r, post r) : wpL_factorial post () x :=
  pk_loop (σ := Int32) (fun m i s => wL_factorial_4 post x m s (nI i)) (fun _ _ => True) 10 2 1 (by omega) trivial
    (fun m s _ => pk_le 10 10 (fun _ => H s) (fun z => absurd z (by omega)))
    (fun m i s hi _ hw => pk_le 10 i (fun z => absurd z (by omega)) (fun _ => br_c (fun _ => nm_r (nI_1 i) (hw s trivial)) (fun _ => nm_e (nm_r (nI_1 i) (hw _ trivial)))))
/-! flip -/
def wt_fl (p : Nat) : Nat → Nat
  | 0 => 0
  | k + 1 => 10 * wt_fl p k + (if k < p then 1 else 0)
section
variable {f1 f2 f3 : Int32} {a1 a2 a3 a4 a5 a6 a7 a8 a9 a10 a11 a12 : Nat → Int32}
theorem wt_flip {post : Int32 → Prop} {n p : Nat} (h2 : 2 ≤ n) (hn : n ≤ 4) (hp : p ≤ 9) (H : p ≤ n → post (nI (wt_fl p n))) (H2 : n < p → post (-2)) : wpX_flip post (nI n, f1, f2, f3, a1, a2, a3, a4, a5, a6, a7, a8, a9, a10, a11, a12) (nI (p * 10 ^ (n - 1))) := by
  have hc : p * 10 ^ (n - 1) < 2 ^ 31 := by
    have h1 := wt_rl h2 hp
    have h3 := wt_p4 hn
    omega
  unfold wpX_flip
  dsimp only
  refine wt_isR h2 hn hp (br_f (by decide) (wt_dig (i := 0) hn (by omega) hc ?_))
  rw [wt_r0 hp]
  refine pk_le p n (fun hpn => ?_) H2
  refine pk_loop (σ := Unit) (fun m i _ => wX_flip_30 post (nI (p * 10 ^ (n - 1))) (nI n) f1 f2 f3 a1 a2 a3 a4 a5 a6 a7 a8 a9 a10 a11 a12 m (nI (wt_fl p i)) (nI i)) (fun _ _ => True) n 0 () (by omega) trivial ?_ ?_
  · intro m _ _
    exact pk_le n n (fun _ => H hpn) (fun z => absurd z (by omega))
  · intro m i _ hi _ hw
    refine pk_le n i (fun z => absurd z (by omega)) (fun _ => ?_)
    have F : wX_flip_67 post (wX_flip_30 post (nI (p * 10 ^ (n - 1))) (nI n) f1 f2 f3 a1 a2 a3 a4 a5 a6 a7 a8 a9 a10 a11 a12 m) (nI (p * 10 ^ (n - 1))) (nI (wt_fl p i)) (nI i) (nI (if i < p then 1 else 0)) (nI n) f1 f2 f3 a1 a2 a3 a4 a5 a6 a7 a8 a9 a10 a11 a12 := by
      unfold wX_flip_67
      refine nm_r ?_ (nm_r (nI_1 i) (hw () trivial))
      rw [show (10 : Int32) = nI 10 from rfl, pk_mul, nI_add]
      rfl
    by_cases e : i < p
    · rw [if_pos e] at F
      refine ⟨2, pk_le n 0 (fun z => absurd z (by omega)) (fun _ => wt_dig hn (by omega) hc ?_)⟩
      rw [wt_r0 hp]
      refine pk_le p i (fun z => absurd z (by omega)) (fun _ => nm_r (nI_1 0) ?_)
      refine pk_le n 1 (fun z => absurd z (by omega)) (fun _ => wt_dig hn (by omega) hc ?_)
      rw [wt_ri (by omega) (by omega)]
      exact pk_le 0 i (fun _ => F) (fun z => absurd z (by omega))
    · rw [if_neg e] at F
      refine ⟨1, pk_le n 0 (fun z => absurd z (by omega)) (fun _ => wt_dig hn (by omega) hc ?_)⟩
      rw [wt_r0 hp]
      exact pk_le p i (fun _ => F) (fun z => absurd z (by omega))
theorem wt_flipT {post : Int32 → Prop} {n : Nat} (hn : n ≤ 4) (H : post (-1)) : wpX_flip post (nI n, f1, f2, f3, a1, a2, a3, a4, a5, a6, a7, a8, a9, a10, a11, a12) (nI (10 ^ n)) := by
  unfold wpX_flip
  dsimp only
  exact wt_isT hn (br_t rfl H)
end
end
section
/-- what a list of at most one shape holds: if b the shape of one row of g boxes, once; else nothing -/
def wt_E (b : Prop) (g n : Nat) (ls : Int32) (u v : Nat → Int32) : Prop := (b → ls = 1 ∧ u 0 = nI (g * 10 ^ (n - 1)) ∧ v 0 = 1) ∧ (¬ b → ls = 0)
theorem wt_Eiff {b b' : Prop} {g g' n : Nat} {ls : Int32} {u v : Nat → Int32} (h : wt_E b g n ls u v) (e : b ↔ b') (eg : b → g = g') : wt_E b' g' n ls u v :=
  ⟨fun z => by rw [← eg (e.mpr z)]; exact h.1 (e.mpr z), fun z => h.2 (fun t => z (e.mp t))⟩
section
variable {f1 f2 f3 : Int32} {a1 a2 a3 a4 a5 a6 a7 a8 a9 a10 a11 a12 : Nat → Int32}
theorem wt_66 {post : St2 → Prop} {J : Int32 → (Nat → Int32) → (Nat → Int32) → (Nat → Int32) → (Nat → Int32) → (Nat → Int32) → (Nat → Int32) → (Nat → Int32) → (Nat → Int32) → (Nat → Int32) → (Nat → Int32) → (Nat → Int32) → (Nat → Int32) → Prop} {x1 x2 x3 x4 z f0 : Int32} {i : Nat} (hi : i < 4)
    (H : J (nI (i + 1)) a1 (upd a2 i z) (upd a3 i (a1 i)) a4 a5 a6 a7 a8 a9 a10 a11 a12) : wX_takeStrips_66 post J x1 x2 x3 x4 (nI i) z (nI i) f0 f1 f2 f3 a1 a2 a3 a4 a5 a6 a7 a8 a9 a10 a11 a12 := by
  unfold wX_takeStrips_66
  rw [nI_clamp (show i < 2 ^ 31 by omega)]
  exact ⟨pk_in i 4 hi, nm_e ⟨pk_in i 4 hi, pk_in i 4 hi, nm_e (nm_r (nI_1 i) H)⟩⟩
theorem wt_35 {post : St2 → Prop} {J : Int32 → (Nat → Int32) → (Nat → Int32) → (Nat → Int32) → (Nat → Int32) → (Nat → Int32) → (Nat → Int32) → (Nat → Int32) → (Nat → Int32) → (Nat → Int32) → (Nat → Int32) → (Nat → Int32) → (Nat → Int32) → Prop} {x2 x3 x4 z : Int32} {n r i : Nat} (h2 : 2 ≤ n) (hn : n ≤ 4) (hr : r ≤ 9) (hi : i < 4)
    (H : J (nI (i + 1)) (upd a1 i z) (upd a2 i 0) (upd a3 i z) a4 a5 a6 a7 a8 a9 a10 a11 a12) : wX_takeStrips_35 post J (nI (r * 10 ^ (n - 1))) x2 x3 x4 (nI i) z (nI i) (nI n) f1 f2 f3 a1 a2 a3 a4 a5 a6 a7 a8 a9 a10 a11 a12 := by
  have hc : r * 10 ^ (n - 1) < 2 ^ 31 := by
    have h1 := wt_rl h2 hr
    have h3 := wt_p4 hn
    omega
  have H' : J (nI (i + 1)) (upd a1 i z) (upd a2 i (nI 0)) (upd a3 i (upd a1 i z i)) a4 a5 a6 a7 a8 a9 a10 a11 a12 := by
    rw [pk_us]
    exact H
  unfold wX_takeStrips_35
  rw [nI_clamp (show i < 2 ^ 31 by omega), nI_1]
  refine ⟨pk_in i 4 hi, nm_e (pk_le n (i + 1) (fun _ => wt_66 hi H') (fun hz => wt_dig hn hz hc ?_))⟩
  rw [wt_ri hz (by omega)]
  exact wt_66 hi H'
/-- the three arrays of rows -/
def wt_R (r i : Nat) (u v w : Nat → Int32) : Prop := ∀ j, j < i → u j = nI (wt_q r j) ∧ v j = 0 ∧ w j = nI (wt_q r j)
theorem wt_Radd {r i : Nat} {u v w : Nat → Int32} {z : Int32} (h : wt_R r i u v w) (hz : z = nI (wt_q r i)) : wt_R r (i + 1) (upd u i z) (upd v i 0) (upd w i z) := by
  intro j hj
  by_cases e : j = i
  · rw [e, pk_us, pk_us, pk_us, hz]
    exact ⟨rfl, rfl, rfl⟩
  · rw [pk_un e, pk_un e, pk_un e]
    exact h j (by omega)
theorem wt_3 {post : St2 → Prop} {x2 : Int32} {n r d l : Nat} (h2 : 2 ≤ n) (hn : n ≤ 4) (hr : r ≤ 9) (hd : d ≤ 9)
    (H0 : r < d → ∀ u v w, post (nI n, f1, f2, f3, u, v, w, a4, a5, a6, a7, a8, a9, a10, a11, a12))
    (H1 : d ≤ r → ∀ u v w, wt_R r 4 u v w → ∃ fu, wX_takeStrips_108 post x2 (nI l) (nI (r - d)) fu 1 (nI n) f1 f2 f3 u v w a4 a5 a6 a7 a8 a9 a10 a11 a12) :
    wpX_takeStrips post (nI n, f1, f2, f3, a1, a2, a3, a4, a5, a6, a7, a8, a9, a10, a11, a12) (nI (r * 10 ^ (n - 1))) x2 (nI d) (nI l) := by
  have hc : r * 10 ^ (n - 1) < 2 ^ 31 := by
    have h1 := wt_rl h2 hr
    have h3 := wt_p4 hn
    omega
  refine pk_loop (fun m i (s : (Nat → Int32) × (Nat → Int32) × (Nat → Int32)) => wX_takeStrips_3 post (nI (r * 10 ^ (n - 1))) x2 (nI d) (nI l) (nI n) f1 f2 f3 m (nI i) s.1 s.2.1 s.2.2 a4 a5 a6 a7 a8 a9 a10 a11 a12) (fun i s => wt_R r i s.1 s.2.1 s.2.2) 4 0 (a1, a2, a3) (by omega) (fun j hj => absurd hj (by omega)) ?_ ?_
  · intro m s h
    refine pk_le 4 4 (fun _ => wt_size hn hc ?_) (fun z => absurd z (by omega))
    rw [wt_rs h2 hr]
    by_cases e : d ≤ r
    · refine nm_r (pk_sub e) (br_f (nI_pos (by omega)) ?_)
      exact H1 e s.1 s.2.1 s.2.2 h
    · refine nm_e (br_t (pk_sneg (by omega) (by omega)) ⟨1, br_t rfl ?_⟩)
      exact H0 (by omega) s.1 s.2.1 s.2.2
  · intro m i s hi h hw
    refine pk_le 4 i (fun z => absurd z (by omega)) (fun _ => ?_)
    refine pk_le n i (fun z => wt_35 h2 hn hr hi ?_) (fun z => wt_dig hn z hc ?_)
    · refine hw (upd s.1 i 0, upd s.2.1 i 0, upd s.2.2 i 0) (wt_Radd h ?_)
      rw [wt_q, if_neg (by omega)]
      rfl
    · rw [wt_rq hr z]
      refine wt_35 h2 hn hr hi ?_
      exact hw (upd s.1 i (nI (wt_q r i)), upd s.2.1 i 0, upd s.2.2 i (nI (wt_q r i))) (wt_Radd h rfl)
/-! stepDown -/
def wt_Z (t : Nat) (w : Nat → Int32) : Prop := w 0 = nI t ∧ w 1 = 0 ∧ w 2 = 0 ∧ w 3 = 0
theorem wt_Zi {t i : Nat} {w : Nat → Int32} (h : wt_Z t w) (h1 : 1 ≤ i) (hi : i < 4) : w i = 0 := by
  have e : i = 1 ∨ i = 2 ∨ i = 3 := by omega
  rcases e with e | e | e
  · rw [e]; exact h.2.1
  · rw [e]; exact h.2.2.1
  · rw [e]; exact h.2.2.2
theorem wt_step0 {post : Int32 → St2 → Prop} {f0 : Int32} (h2 : ∀ j, j < 4 → a2 j = 0) (h3 : wt_Z 0 a3) (H : ∀ w, post 0 (f0, f1, f2, f3, a1, a2, w, a4, a5, a6, a7, a8, a9, a10, a11, a12)) : wpX_stepDown post (f0, f1, f2, f3, a1, a2, a3, a4, a5, a6, a7, a8, a9, a10, a11, a12) := by
  refine pk_loop (fun m i (s : Nat → Int32) => wX_stepDown_2 post f0 f1 f2 f3 m (nI i) a1 a2 s a4 a5 a6 a7 a8 a9 a10 a11 a12) (fun i s => ∀ j, i ≤ j → j < 4 → s j = 0) 4 0 a3 (by omega) ?_ ?_ ?_
  · intro j _ hj
    by_cases e : j = 0
    · rw [e]; exact h3.1
    · exact wt_Zi h3 (by omega) hj
  · intro m s _
    exact pk_le 4 4 (fun _ => br_t rfl (H s)) (fun z => absurd z (by omega))
  · intro m i s hi h hw
    have hw' := hw (upd s i (a1 i)) (fun j h1 hj => by rw [pk_un (by omega)]; exact h j (by omega) hj)
    have ei : (nI i).toNatClampNeg = i := nI_clamp (by omega)
    refine pk_le 4 i (fun z => absurd z (by omega)) (fun _ => ⟨pk_in i 4 hi, pk_in i 4 hi, ?_⟩)
    rw [ei]
    exact br_t (by rw [h i (by omega) hi, h2 i hi]) ⟨pk_in i 4 hi, pk_in i 4 hi, nm_e (nm_r (nI_1 i) hw')⟩
theorem wt_step1 {post : Int32 → St2 → Prop} {f0 : Int32} {t : Nat} (ht : t < 9) (h2 : ∀ j, j < 4 → a2 j = 0) (h3 : wt_Z (t + 1) a3) (H : ∀ w, wt_Z t w → post 1 (f0, f1, f2, f3, a1, a2, w, a4, a5, a6, a7, a8, a9, a10, a11, a12)) : wpX_stepDown post (f0, f1, f2, f3, a1, a2, a3, a4, a5, a6, a7, a8, a9, a10, a11, a12) := by
  have F : wt_Z t (upd a3 0 (a3 0 - 1)) := by
    refine ⟨?_, ?_, ?_, ?_⟩
    · rw [pk_us, h3.1, nI_pred]
    · rw [pk_un (by omega)]; exact h3.2.1
    · rw [pk_un (by omega)]; exact h3.2.2.1
    · rw [pk_un (by omega)]; exact h3.2.2.2
  refine ⟨1, pk_le 4 0 (fun z => absurd z (by omega)) (fun _ => ⟨pk_in 0 4 (by omega), pk_in 0 4 (by omega), br_f ?_ ?_⟩)⟩
  · show ¬ a3 0 = a2 0
    rw [h3.1, h2 0 (by omega)]
    exact nI_ne0 (by omega) (by omega)
  · exact pk_eq 0 4 (fun z => absurd z (by omega)) (fun _ => ⟨pk_in 0 4 (by omega), pk_in 0 4 (by omega), nm_e (H _ F)⟩)
theorem wt_enlist {post : St2 → Prop} {f0 x1 x2 : Int32} (H : post (f0, f1, 1, f3, a1, a2, a3, a4, a5, upd a6 0 x1, upd a7 0 x2, a8, a9, a10, a11, a12)) : wpX_enlist post (f0, f1, 0, f3, a1, a2, a3, a4, a5, a6, a7, a8, a9, a10, a11, a12) x1 x2 :=
  ⟨1, pk_le 0 0 (fun _ => ⟨pk_in 0 720 (by omega), nm_e ⟨pk_in 0 720 (by omega), nm_e (nm_e H)⟩⟩) (fun z => absurd z (by omega))⟩
/-! the loop over the choices -/
def wt_cd (t : Nat) : Nat → Nat
  | 0 => 0
  | i + 1 => t * 10 ^ i
theorem wt_167 {post : St2 → Prop} {J : Int32 → Int32 → Int32 → Int32 → Int32 → (Nat → Int32) → (Nat → Int32) → (Nat → Int32) → (Nat → Int32) → (Nat → Int32) → (Nat → Int32) → (Nat → Int32) → (Nat → Int32) → (Nat → Int32) → (Nat → Int32) → (Nat → Int32) → (Nat → Int32) → Prop} {x2 x4 x5 : Int32} {n t : Nat} (h2 : 2 ≤ n) (hn : n ≤ 4) (h3 : wt_Z t a3)
    (H : wX_takeStrips_204 post J x2 x4 x5 (nI n) f1 1 f3 a1 a2 a3 a4 a5 (upd a6 0 (nI (t * 10 ^ (n - 1)))) (upd a7 0 x2) a8 a9 a10 a11 a12) : ∃ fu, wX_takeStrips_167 post J x2 x4 x5 (nI n) f1 0 f3 a1 a2 a3 a4 a5 a6 a7 a8 a9 a10 a11 a12 fu 0 0 := by
  refine pk_loop (σ := Unit) (fun m i _ => wX_takeStrips_167 post J x2 x4 x5 (nI n) f1 0 f3 a1 a2 a3 a4 a5 a6 a7 a8 a9 a10 a11 a12 m (nI (wt_cd t i)) (nI i)) (fun _ _ => True) n 0 () (by omega) trivial ?_ ?_
  · intro m _ _
    refine pk_le n n (fun _ => wt_enlist ?_) (fun z => absurd z (by omega))
    have e : wt_cd t n = t * 10 ^ (n - 1) := by
      obtain ⟨k, hk⟩ : ∃ k, n = k + 1 := ⟨n - 1, by omega⟩
      rw [hk]; rfl
    rw [e]
    exact H
  · intro m i _ hi _ hw
    refine pk_le n i (fun z => absurd z (by omega)) (fun _ => ⟨pk_in i 4 (by omega), nm_r ?_ (nm_r (nI_1 i) (hw () trivial))⟩)
    rw [nI_clamp (by omega), show (10 : Int32) = nI 10 from rfl, pk_mul]
    by_cases e : i = 0
    · rw [e, h3.1, nI_add]
      show nI (10 * 0 + t) = nI (t * 10 ^ 0)
      rw [Nat.pow_zero, Nat.mul_one, Nat.mul_zero, Nat.zero_add]
    · rw [wt_Zi h3 (by omega) (by omega), show (0 : Int32) = nI 0 from rfl, nI_add]
      obtain ⟨k, hk⟩ : ∃ k, i = k + 1 := ⟨i - 1, by omega⟩
      rw [hk]
      show nI (10 * (t * 10 ^ k) + 0) = nI (t * 10 ^ (k + 1))
      rw [Nat.add_zero, Nat.pow_succ, Nat.mul_left_comm, Nat.mul_comm 10 (10 ^ k)]
theorem wt_108 {post : St2 → Prop} {n r g l : Nat} (h2 : 2 ≤ n) (hn : n ≤ 4) (hr : r ≤ 9) (hg : g ≤ r) (hl : 1 ≤ l) (hln : l ≤ n) (hR : wt_R r 4 a1 a2 a3)
    (H : ∀ nl w u v, wt_E (2 ≤ l ∨ g = 0) g n nl u v → post (nI n, f1, nl, f3, a1, a2, w, a4, a5, u, v, a8, a9, a10, a11, a12)) :
    ∃ fu, wX_takeStrips_108 post 1 (nI l) (nI g) fu 1 (nI n) f1 0 f3 a1 a2 a3 a4 a5 a6 a7 a8 a9 a10 a11 a12 := by
  have hz : ∀ j, j < 4 → a2 j = 0 := fun j hj => (hR j hj).2.1
  refine ⟨r + 1 + 1, pk_loopD (fun m i (s : Int32 × Int32 × (Nat → Int32) × (Nat → Int32) × (Nat → Int32)) => wX_takeStrips_108 post 1 (nI l) (nI g) m s.1 (nI n) f1 s.2.1 f3 a1 a2 s.2.2.1 a4 a5 s.2.2.2.1 s.2.2.2.2 a8 a9 a10 a11 a12)
    (fun i s => (i = 0 → s.1 = 0 ∧ wt_E (2 ≤ l ∨ g = 0) g n s.2.1 s.2.2.2.1 s.2.2.2.2) ∧ (∀ t, i = t + 1 → s.1 = 1 ∧ t ≤ r ∧ wt_Z t s.2.2.1 ∧ wt_E (t < g ∧ (2 ≤ l ∨ g = 0)) g n s.2.1 s.2.2.2.1 s.2.2.2.2)) ?_ ?_ (r + 1) (1, 0, a3, a6, a7) ⟨fun z => absurd z (by omega), fun t et => ?_⟩⟩
  · intro m s h
    obtain ⟨e, hE⟩ := h.1 rfl
    exact br_t e (H _ _ _ _ hE)
  · intro m t s h hw
    obtain ⟨e, htr, hZ, hE⟩ := h.2 t rfl
    refine br_f (by rw [e]; decide) (nm_r (e' := nI t) ?_ ?_)
    · show s.2.2.1 0 + s.2.2.1 1 + s.2.2.1 2 + s.2.2.1 3 = nI t
      rw [hZ.1, hZ.2.1, hZ.2.2.1, hZ.2.2.2, show (0 : Int32) = nI 0 from rfl, nI_add, nI_add, nI_add]
      rfl
    have K : ∀ nl u v, wt_E (t ≤ g ∧ (2 ≤ l ∨ g = 0)) g n nl u v → wX_takeStrips_204 post (wX_takeStrips_108 post 1 (nI l) (nI g) m) 1 (nI l) (nI g) (nI n) f1 nl f3 a1 a2 s.2.2.1 a4 a5 u v a8 a9 a10 a11 a12 := by
      intro nl u v hE'
      unfold wX_takeStrips_204
      by_cases t0 : t = 0
      · rw [t0] at hZ
        refine wt_step0 hz hZ (fun w => ?_)
        refine hw (0, nl, w, u, v) ⟨fun _ => ⟨rfl, wt_Eiff hE' ⟨fun z => z.2, fun z => ⟨by omega, z⟩⟩ (fun _ => rfl)⟩, fun t' et' => absurd et' (by omega)⟩
      · obtain ⟨k, hk⟩ : ∃ k, t = k + 1 := ⟨t - 1, by omega⟩
        rw [hk] at hZ
        refine wt_step1 (t := k) (by omega) hz hZ (fun w hw' => ?_)
        refine hw (1, nl, w, u, v) ⟨fun z => absurd z (by omega), fun t' et' => ?_⟩
        have e' : t' = k := by omega
        rw [e']
        exact ⟨rfl, by omega, hw', wt_Eiff hE' ⟨fun z => ⟨by omega, z.2⟩, fun z => ⟨by omega, z.2⟩⟩ (fun _ => rfl)⟩
    refine pk_eq t g (fun etg => ⟨?_, ?_⟩) (fun ntg => K _ _ _ (wt_Eiff hE ⟨fun z => ⟨by omega, z.2⟩, fun z => ⟨by omega, z.2⟩⟩ (fun _ => rfl)))
    · exact pk_in (l - 1) 4 (by omega) (pk_sub (b := 1) hl)
    · have ec : (nI l - 1).toNatClampNeg = l - 1 := pk_cl (l - 1) (pk_sub (b := 1) hl)
      rw [ec]
      have nl0 : s.2.1 = 0 := hE.2 (fun z => absurd z.1 (by omega))
      by_cases cc : 2 ≤ l ∨ g = 0
      · have ea : s.2.2.1 (l - 1) = 0 := by
          by_cases el : 2 ≤ l
          · exact wt_Zi hZ (by omega) (by omega)
          · have el1 : l - 1 = 0 := by omega
            rw [el1, hZ.1, show t = 0 by omega]
            rfl
        refine br_t ea ?_
        rw [nl0]
        refine wt_167 h2 hn hZ (K _ _ _ ⟨fun _ => ⟨rfl, ?_, ?_⟩, fun z => absurd ⟨by omega, cc⟩ z⟩)
        · rw [pk_us, etg]
        · rw [pk_us]
      · have el1 : l - 1 = 0 := by omega
        refine br_f (by rw [el1, hZ.1]; exact nI_ne0 (by omega) (by omega)) ?_
        exact K _ _ _ ⟨fun z => absurd z.2 cc, fun _ => nl0⟩
  · have et' : t = r := by omega
    rw [et']
    refine ⟨rfl, Nat.le_refl r, ⟨?_, ?_, ?_, ?_⟩, ⟨fun z => absurd z.1 (by omega), fun _ => rfl⟩⟩
    · exact (hR 0 (by omega)).2.2
    · exact (hR 1 (by omega)).2.2
    · exact (hR 2 (by omega)).2.2
    · exact (hR 3 (by omega)).2.2
theorem wt_take {post : St2 → Prop} {n r d l : Nat} (h2 : 2 ≤ n) (hn : n ≤ 4) (hr : r ≤ 9) (hd : d ≤ 9) (hl : 1 ≤ l) (hln : l ≤ n)
    (H : ∀ nl b1 b2 b3 b6 b7, wt_E (d ≤ r ∧ (2 ≤ l ∨ r = d)) (r - d) n nl b6 b7 → post (nI n, f1, nl, f3, b1, b2, b3, a4, a5, b6, b7, a8, a9, a10, a11, a12)) :
    wpX_takeStrips post (nI n, f1, 0, f3, a1, a2, a3, a4, a5, a6, a7, a8, a9, a10, a11, a12) (nI (r * 10 ^ (n - 1))) 1 (nI d) (nI l) :=
  wt_3 h2 hn hr hd (fun z u v w => H _ _ _ _ _ _ ⟨fun t => absurd t.1 (by omega), fun _ => rfl⟩)
    (fun z u v w hR => wt_108 h2 hn hr (by omega) hl hln hR (fun nl w' u' v' hE => H _ _ _ _ _ _ (wt_Eiff hE ⟨fun t => ⟨z, by omega⟩, fun t => by omega⟩ (fun _ => rfl))))
end
end
section
theorem wt_szm (n w : Nat) : ∀ k l, l ≤ k → wt_sz n w l ≤ wt_sz n w k := by
  intro k
  induction k with
  | zero =>
    intro l hl
    rw [show l = 0 by omega]
    exact Nat.le_refl _
  | succ k ih =>
    intro l hl
    by_cases e : l = k + 1
    · rw [e]
      exact Nat.le_refl _
    · have h := ih l (by omega)
      show wt_sz n w l ≤ wt_sz n w k + wt_dg n w k
      omega
section
variable {f1 f2 f3 : Int32} {a1 a2 a3 a4 a5 a6 a7 a8 a9 a10 a11 a12 : Nat → Int32}
theorem wt_94 {post : Int32 → St2 → Prop} {J : Int32 → Int32 → Int32 → Int32 → Int32 → (Nat → Int32) → (Nat → Int32) → (Nat → Int32) → (Nat → Int32) → (Nat → Int32) → (Nat → Int32) → (Nat → Int32) → (Nat → Int32) → (Nat → Int32) → (Nat → Int32) → (Nat → Int32) → (Nat → Int32) → Prop} {x2 nl : Int32} {n g l : Nat} {b : Prop} (hE : wt_E b g n nl a6 a7)
    (H : ∀ u v, wt_E b g n nl u v → J (nI l) (nI n) nl nl f3 a1 a2 a3 u v a6 a7 a8 a9 a10 a11 a12) : ∃ fu, wX_countFor_94 post J x2 (nI (l + 1)) (nI n) nl nl f3 fu 0 a1 a2 a3 a4 a5 a6 a7 a8 a9 a10 a11 a12 := by
  by_cases hb : b
  · obtain ⟨e1, e6, e7⟩ := hE.1 hb
    subst e1
    refine ⟨2, pk_le 1 0 (fun z => absurd z (by omega)) (fun _ => ⟨pk_in 0 720 (by omega), pk_in 0 720 (by omega), nm_e ⟨pk_in 0 720 (by omega), pk_in 0 720 (by omega), nm_e (nm_r (nI_1 0) ?_)⟩⟩)⟩
    refine pk_le 1 1 (fun _ => nm_r (pk_m1 l) (H _ _ ⟨fun _ => ⟨rfl, ?_, ?_⟩, fun z => absurd hb z⟩)) (fun z => absurd z (by omega))
    · exact pk_us.trans e6
    · exact pk_us.trans e7
  · have e1 := hE.2 hb
    subst e1
    exact ⟨1, pk_le 0 0 (fun _ => nm_r (pk_m1 l) (H _ _ ⟨fun z => absurd z hb, fun _ => rfl⟩)) (fun z => absurd z (by omega))⟩
theorem wt_47 {post : Int32 → St2 → Prop} {J : Int32 → Int32 → Int32 → Int32 → Int32 → (Nat → Int32) → (Nat → Int32) → (Nat → Int32) → (Nat → Int32) → (Nat → Int32) → (Nat → Int32) → (Nat → Int32) → (Nat → Int32) → (Nat → Int32) → (Nat → Int32) → (Nat → Int32) → (Nat → Int32) → Prop} {x2 : Int32} {n r d l : Nat} {b : Prop} (h2 : 2 ≤ n) (hn : n ≤ 4) (hE : wt_E b r n f1 a4 a5) (hr : r ≤ 9) (hd : d ≤ 9) (hl : l + 1 ≤ n)
    (H : ∀ nl b1 b2 b3 b4 b5 b6 b7, wt_E (b ∧ d ≤ r ∧ (1 ≤ l ∨ r = d)) (r - d) n nl b4 b5 → J (nI l) (nI n) nl nl f3 b1 b2 b3 b4 b5 b6 b7 a8 a9 a10 a11 a12) :
    ∃ fu, wX_countFor_47 post J x2 (nI (l + 1)) (nI d) fu 0 (nI n) f1 0 f3 a1 a2 a3 a4 a5 a6 a7 a8 a9 a10 a11 a12 := by
  by_cases hb : b
  · obtain ⟨e1, e4, e5⟩ := hE.1 hb
    subst e1
    refine ⟨2, pk_le 1 0 (fun z => absurd z (by omega)) (fun _ => ⟨pk_in 0 720 (by omega), pk_in 0 720 (by omega), ?_⟩)⟩
    rw [sb_cl0, e4, e5]
    refine wt_take h2 hn hr hd (by omega) hl (fun nl b1 b2 b3 b6 b7 hE' => nm_r (nI_1 0) ?_)
    have hE2 : wt_E (b ∧ d ≤ r ∧ (1 ≤ l ∨ r = d)) (r - d) n nl b6 b7 := wt_Eiff hE' ⟨fun t => ⟨hb, t.1, by omega⟩, fun t => ⟨t.2.1, by omega⟩⟩ (fun _ => rfl)
    exact pk_le 1 1 (fun _ => wt_94 hE2 (fun u v hE3 => H _ _ _ _ _ _ _ _ hE3)) (fun z => absurd z (by omega))
  · have e1 := hE.2 hb
    subst e1
    have hE2 : wt_E (b ∧ d ≤ r ∧ (1 ≤ l ∨ r = d)) (r - d) n 0 a6 a7 := ⟨fun t => absurd t.1 hb, fun _ => rfl⟩
    exact ⟨1, pk_le 0 0 (fun _ => wt_94 hE2 (fun u v hE3 => H _ _ _ _ _ _ _ _ hE3)) (fun z => absurd z (by omega))⟩
theorem wt_count {post : Int32 → St2 → Prop} {n p w : Nat} (h2 : 2 ≤ n) (hn : n ≤ 4) (hp : p ≤ 9) (hw : w < 10 ^ n)
    (H1 : wt_sz n w n = p → ∀ g1 g2 b1 b2 b3 b4 b5 b6 b7, post 1 (nI n, g1, g2, f3, b1, b2, b3, b4, b5, b6, b7, a8, a9, a10, a11, a12)) (H0 : wt_sz n w n ≠ p → ∀ g1 g2 b1 b2 b3 b4 b5 b6 b7, post 0 (nI n, g1, g2, f3, b1, b2, b3, b4, b5, b6, b7, a8, a9, a10, a11, a12)) :
    wpX_countFor post (nI n, f1, f2, f3, a1, a2, a3, a4, a5, a6, a7, a8, a9, a10, a11, a12) (nI (p * 10 ^ (n - 1))) (nI w) := by
  have hc : w < 2 ^ 31 := by
    have h3 := wt_p4 hn
    omega
  unfold wpX_countFor
  dsimp only
  refine nm_e (nm_e ⟨n + 1, pk_loopD (fun m l (s : Int32 × Int32 × (Nat → Int32) × (Nat → Int32) × (Nat → Int32) × (Nat → Int32) × (Nat → Int32) × (Nat → Int32) × (Nat → Int32)) => wX_countFor_24 post (nI w) m (nI l) (nI n) s.1 s.2.1 f3 s.2.2.1 s.2.2.2.1 s.2.2.2.2.1 s.2.2.2.2.2.1 s.2.2.2.2.2.2.1 s.2.2.2.2.2.2.2.1 s.2.2.2.2.2.2.2.2 a8 a9 a10 a11 a12)
    (fun l s => l ≤ n ∧ wt_E (wt_sz n w n - wt_sz n w l ≤ p ∧ (l = 0 → wt_sz n w n = p)) (p - (wt_sz n w n - wt_sz n w l)) n s.1 s.2.2.2.2.2.1 s.2.2.2.2.2.2.1) ?_ ?_ n (1, f2, a1, a2, a3, upd a4 0 (nI (p * 10 ^ (n - 1))), upd a5 0 1, a6, a7) ⟨Nat.le_refl n, ?_⟩⟩)
  · intro m s h
    refine pk_lt 0 1 (fun _ => ?_) (fun z => absurd z (by omega))
    have e0 : wt_sz n w 0 = 0 := rfl
    by_cases e : wt_sz n w n = p
    · obtain ⟨z1, z4, z5⟩ := h.2.1 ⟨by omega, fun _ => e⟩
      refine br_f (by rw [z1]; decide) ?_
      rw [z5]
      exact H1 e _ _ _ _ _ _ _ _ _
    · exact br_t (h.2.2 (fun t => e (t.2 rfl))) (H0 e _ _ _ _ _ _ _ _ _)
  · intro m l s h hw'
    refine pk_lt (l + 1) 1 (fun z => absurd z (by omega)) (fun _ => wt_digx l (nI_pred l) hn (by omega) hc ?_)
    have hl := h.1
    have hd := wt_dg9 n w l
    have es : wt_sz n w (l + 1) = wt_sz n w l + wt_dg n w l := rfl
    have em := wt_szm n w n (l + 1) hl
    refine wt_47 h2 hn h.2 (by omega) hd hl (fun nl b1 b2 b3 b4 b5 b6 b7 hE => ?_)
    refine hw' (nl, nl, b1, b2, b3, b4, b5, b6, b7) ⟨by omega, ?_⟩
    refine wt_Eiff hE ?_ (fun _ => by omega)
    constructor
    · intro t
      obtain ⟨⟨t1, _⟩, t2, t3⟩ := t
      refine ⟨by omega, fun z => ?_⟩
      have e0 : wt_sz n w l = 0 := by rw [z]; rfl
      omega
    · intro t
      obtain ⟨t1, t2⟩ := t
      refine ⟨⟨by omega, fun z => absurd z (by omega)⟩, by omega, ?_⟩
      by_cases z : l = 0
      · have t3 := t2 z
        have e0 : wt_sz n w l = 0 := by rw [z]; rfl
        omega
      · omega
  · refine ⟨fun _ => ⟨rfl, ?_, ?_⟩, fun t => absurd ⟨by omega, fun z => absurd z (by omega)⟩ t⟩
    · rw [show p - (wt_sz n w n - wt_sz n w n) = p by omega]
      exact pk_us (f := a4) (k := 0)
    · exact pk_us (f := a5) (k := 0)
/-! weights -/
end
/-- the sum of f 0, .., f (k - 1) -/
def wt_su (f : Nat → Nat) : Nat → Nat
  | 0 => 0
  | k + 1 => wt_su f k + f k
def wt_f (n p k : Nat) : Nat := cond (Nat.beq (wt_sz n k n) p) 1 0
theorem wt_f1 {n p k : Nat} (h : wt_sz n k n = p) : wt_f n p k = 1 := by
  unfold wt_f
  rw [h, Nat.beq_refl]
  rfl
theorem wt_f0 {n p k : Nat} (h : wt_sz n k n ≠ p) : wt_f n p k = 0 := by
  unfold wt_f
  have e : Nat.beq (wt_sz n k n) p = false := by
    cases hb : Nat.beq (wt_sz n k n) p
    · rfl
    · exact absurd (Nat.eq_of_beq_eq_true hb) h
  rw [e]
  rfl
theorem wt_sub (f : Nat → Nat) (hf : ∀ k, f k ≤ 1) : ∀ k, wt_su f k ≤ k := by
  intro k
  induction k with
  | zero => exact Nat.le_refl 0
  | succ k ih =>
    have := hf k
    show wt_su f k + f k ≤ k + 1
    omega
section
variable {f1 f2 f3 : Int32} {a1 a2 a3 a4 a5 a6 a7 a8 a9 a10 a11 a12 : Nat → Int32}
theorem wt_weights {post : Int32 → St2 → Prop} {n p : Nat} (h2 : 2 ≤ n) (hn : n ≤ 4) (hp : p ≤ 9)
    (H : ∀ g1 g2 b1 b2 b3 b4 b5 b6 b7, post (nI (wt_su (wt_f n p) (10 ^ n))) (nI n, g1, g2, f3, b1, b2, b3, b4, b5, b6, b7, a8, a9, a10, a11, a12)) :
    wpX_weights post (nI n, f1, f2, f3, a1, a2, a3, a4, a5, a6, a7, a8, a9, a10, a11, a12) (nI (p * 10 ^ (n - 1))) := by
  have h4 := wt_p4 hn
  have hc : p * 10 ^ (n - 1) < 2 ^ 31 := by
    have h1 := wt_rl h2 hp
    omega
  unfold wpX_weights
  dsimp only
  refine wt_isR h2 hn hp (br_f (by decide) (wt_size hn hc ?_))
  rw [wt_rs h2 hp]
  refine pk_loop (fun m i (s : Int32 × Int32 × (Nat → Int32) × (Nat → Int32) × (Nat → Int32) × (Nat → Int32) × (Nat → Int32) × (Nat → Int32) × (Nat → Int32)) => wX_weights_21 post (nI (p * 10 ^ (n - 1))) (nI p) m (nI (wt_su (wt_f n p) i)) (nI i) (nI n) s.1 s.2.1 f3 s.2.2.1 s.2.2.2.1 s.2.2.2.2.1 s.2.2.2.2.2.1 s.2.2.2.2.2.2.1 s.2.2.2.2.2.2.2.1 s.2.2.2.2.2.2.2.2 a8 a9 a10 a11 a12) (fun _ _ => True) (10 ^ n) 0 (f1, f2, a1, a2, a3, a4, a5, a6, a7) (Nat.zero_le _) trivial ?_ ?_
  · intro m s _
    unfold wX_weights_21
    exact wt_pow (by omega) (pk_le (10 ^ n) (10 ^ n) (fun _ => H _ _ _ _ _ _ _ _ _) (fun z => absurd z (by omega)))
  · intro m i s hi _ hw
    have hs := wt_sz9 n i n
    unfold wX_weights_21
    refine wt_pow (by omega) (pk_le (10 ^ n) i (fun z => absurd z (by omega)) (fun _ => wt_size hn (by omega) ?_))
    have en : wt_su (wt_f n p) (i + 1) = wt_su (wt_f n p) i + wt_f n p i := rfl
    refine pk_eq (wt_sz n i n) p (fun e => wt_count h2 hn hp hi (fun _ g1 g2 b1 b2 b3 b4 b5 b6 b7 => ?_) (fun z => absurd e z)) (fun e => nm_r (nI_1 i) ?_)
    · have hw' := hw (g1, g2, b1, b2, b3, b4, b5, b6, b7) trivial
      rw [en, wt_f1 e] at hw'
      exact br_f (by decide) (nm_r (nI_1 _) (nm_r (nI_1 i) hw'))
    · have hw' := hw s trivial
      rw [en, wt_f0 e] at hw'
      exact hw'
theorem wt_weightsT {post : Int32 → St2 → Prop} {n : Nat} (hn : n ≤ 4) (H : post (-1) (nI n, f1, f2, f3, a1, a2, a3, a4, a5, a6, a7, a8, a9, a10, a11, a12)) : wpX_weights post (nI n, f1, f2, f3, a1, a2, a3, a4, a5, a6, a7, a8, a9, a10, a11, a12) (nI (10 ^ n)) := by
  unfold wpX_weights
  dsimp only
  exact wt_isT hn (br_t rfl H)
theorem wt_most {post : Int32 → St2 → Prop} {n p : Nat} (h2 : 2 ≤ n) (hn : n ≤ 4) (hp : p ≤ 9)
    (H : ∀ g1 g2 b1 b2 b3 b4 b5 b6 b7, post 1 (nI n, g1, g2, f3, b1, b2, b3, b4, b5, b6, b7, a8, a9, a10, a11, a12)) :
    wpX_most post (nI n, f1, f2, f3, a1, a2, a3, a4, a5, a6, a7, a8, a9, a10, a11, a12) (nI (p * 10 ^ (n - 1))) := by
  have h4 := wt_p4 hn
  have hl := wt_rl h2 hp
  have hc : p * 10 ^ (n - 1) < 2 ^ 31 := by omega
  unfold wpX_most
  dsimp only
  refine wt_isR h2 hn hp (br_f (by decide) (wt_size hn hc ?_))
  rw [wt_rs h2 hp]
  refine pk_loop (fun m i (z : Nat × Int32 × Int32 × (Nat → Int32) × (Nat → Int32) × (Nat → Int32) × (Nat → Int32) × (Nat → Int32) × (Nat → Int32) × (Nat → Int32)) => wX_most_21 post (nI (p * 10 ^ (n - 1))) (nI p) m (nI z.1) (nI i) (nI n) z.2.1 z.2.2.1 f3 z.2.2.2.1 z.2.2.2.2.1 z.2.2.2.2.2.1 z.2.2.2.2.2.2.1 z.2.2.2.2.2.2.2.1 z.2.2.2.2.2.2.2.2.1 z.2.2.2.2.2.2.2.2.2 a8 a9 a10 a11 a12) (fun i z => z.1 ≤ 1 ∧ (p * 10 ^ (n - 1) < i → z.1 = 1)) (10 ^ n) 0 (0, f1, f2, a1, a2, a3, a4, a5, a6, a7) (Nat.zero_le _) ⟨Nat.zero_le 1, fun z => absurd z (by omega)⟩ ?_ ?_
  · intro m s h
    unfold wX_most_21
    refine wt_pow (by omega) (pk_le (10 ^ n) (10 ^ n) (fun _ => ?_) (fun z => absurd z (by omega)))
    rw [h.2 hl]
    exact H _ _ _ _ _ _ _ _ _
  · intro m i s hi h hw
    have hs := wt_sz9 n i n
    have h1 := h.1
    have ho : i ≠ p * 10 ^ (n - 1) → (s.1 ≤ 1 ∧ (p * 10 ^ (n - 1) < i + 1 → s.1 = 1)) := fun e => ⟨h.1, fun z => h.2 (by omega)⟩
    unfold wX_most_21
    refine wt_pow (by omega) (pk_le (10 ^ n) i (fun z => absurd z (by omega)) (fun _ => wt_size hn (by omega) ?_))
    refine pk_eq (wt_sz n i n) p (fun e => wt_is h2 hn hi (fun hsh => br_f (by decide) ?_) (fun hsh => br_t rfl (nm_r (nI_1 i) ?_))) (fun e => nm_r (nI_1 i) ?_)
    · refine wt_count h2 hn hp hi (fun _ g1 g2 b1 b2 b3 b4 b5 b6 b7 => ?_) (fun z => absurd e z)
      refine pk_le 1 s.1 (fun z => nm_r (nI_1 i) ?_) (fun z => nm_r (nI_1 i) ?_)
      · exact hw (s.1, g1, g2, b1, b2, b3, b4, b5, b6, b7) ⟨h1, fun _ => by omega⟩
      · exact hw (1, g1, g2, b1, b2, b3, b4, b5, b6, b7) ⟨Nat.le_refl 1, fun _ => rfl⟩
    · exact hw s (ho (fun z => hsh (by rw [z]; exact wt_rsh h2 hp)))
    · exact hw s (ho (fun z => e (by rw [z]; exact wt_rs h2 hp)))
theorem wt_mostT {post : Int32 → St2 → Prop} {n : Nat} (hn : n ≤ 4) (H : post (-1) (nI n, f1, f2, f3, a1, a2, a3, a4, a5, a6, a7, a8, a9, a10, a11, a12)) : wpX_most post (nI n, f1, f2, f3, a1, a2, a3, a4, a5, a6, a7, a8, a9, a10, a11, a12) (nI (10 ^ n)) := by
  unfold wpX_most
  dsimp only
  exact wt_isT hn (br_t rfl H)
/-- multiplicity: the weight any int -/
theorem wt_mult {post : Int32 → St2 → Prop} {n p : Nat} {x : Int32} (h2 : 2 ≤ n) (hn : n ≤ 4) (hp : p ≤ 9)
    (H2 : (x < 0 ∨ nI (10 ^ n) ≤ x) → post (-2) (nI n, f1, f2, f3, a1, a2, a3, a4, a5, a6, a7, a8, a9, a10, a11, a12))
    (H1 : ∀ w, w < 10 ^ n → x = nI w → wt_sz n w n = p → ∀ g1 g2 b1 b2 b3 b4 b5 b6 b7, post 1 (nI n, g1, g2, f3, b1, b2, b3, b4, b5, b6, b7, a8, a9, a10, a11, a12))
    (H0 : ∀ w, w < 10 ^ n → x = nI w → wt_sz n w n ≠ p → ∀ g1 g2 b1 b2 b3 b4 b5 b6 b7, post 0 (nI n, g1, g2, f3, b1, b2, b3, b4, b5, b6, b7, a8, a9, a10, a11, a12)) :
    wpX_multiplicity post (nI n, f1, f2, f3, a1, a2, a3, a4, a5, a6, a7, a8, a9, a10, a11, a12) (nI (p * 10 ^ (n - 1))) x := by
  have h4 := wt_p4 hn
  unfold wpX_multiplicity
  dsimp only
  refine wt_isR h2 hn hp (br_f (by decide) (br_c (fun z => H2 (Or.inl z)) (fun z => wt_pow (by omega) ?_)))
  obtain ⟨w, hw, e⟩ := nI_of z
  rw [e] at H2 H1 H0 ⊢
  refine pk_lt w (10 ^ n) (fun g => wt_count h2 hn hp g (H1 w g rfl) (H0 w g rfl)) (fun g => H2 (Or.inr (nI_le g hw)))
theorem wt_multT {post : Int32 → St2 → Prop} {n : Nat} {x : Int32} (hn : n ≤ 4) (H : post (-1) (nI n, f1, f2, f3, a1, a2, a3, a4, a5, a6, a7, a8, a9, a10, a11, a12)) : wpX_multiplicity post (nI n, f1, f2, f3, a1, a2, a3, a4, a5, a6, a7, a8, a9, a10, a11, a12) (nI (10 ^ n)) x := by
  unfold wpX_multiplicity
  dsimp only
  exact wt_isT hn (br_t rfl H)
end
end
section
/-! the number of weights of a size -/
def wt_ds (k : Nat) : Nat := k / 1000 + k / 100 % 10 + k / 10 % 10 + k % 10
theorem wt_dsz {n w : Nat} (h2 : 2 ≤ n) (hn : n ≤ 4) (hw : w < 10 ^ n) : wt_sz n w n = wt_ds w := by
  have h : n = 2 ∨ n = 3 ∨ n = 4 := by omega
  unfold wt_ds
  rcases h with e | e | e
  · subst e
    show 0 + w / 10 % 10 + w / 1 % 10 = w / 1000 + w / 100 % 10 + w / 10 % 10 + w % 10
    omega
  · subst e
    show 0 + w / 100 % 10 + w / 10 % 10 + w / 1 % 10 = w / 1000 + w / 100 % 10 + w / 10 % 10 + w % 10
    omega
  · subst e
    show 0 + w / 1000 % 10 + w / 100 % 10 + w / 10 % 10 + w / 1 % 10 = w / 1000 + w / 100 % 10 + w / 10 % 10 + w % 10
    omega
def wt_g (p k : Nat) : Nat := cond (Nat.beq (k / 1000 + k / 100 % 10 + k / 10 % 10 + k % 10) p) 1 0
def wt_ten (f : Nat → Nat) (a : Nat) : Nat := f (10 * a) + f (10 * a + 1) + f (10 * a + 2) + f (10 * a + 3) + f (10 * a + 4) + f (10 * a + 5) + f (10 * a + 6) + f (10 * a + 7) + f (10 * a + 8) + f (10 * a + 9)
theorem wt_su10 (f : Nat → Nat) (k : Nat) : wt_su f (10 * k) = wt_su (wt_ten f) k := by
  induction k with
  | zero => rfl
  | succ k ih =>
    rw [show 10 * (k + 1) = 10 * k + 1 + 1 + 1 + 1 + 1 + 1 + 1 + 1 + 1 + 1 by omega]
    show wt_su f (10 * k) + f (10 * k) + f (10 * k + 1) + f (10 * k + 2) + f (10 * k + 3) + f (10 * k + 4) + f (10 * k + 5) + f (10 * k + 6) + f (10 * k + 7) + f (10 * k + 8) + f (10 * k + 9) = wt_su (wt_ten f) k + wt_ten f k
    rw [ih]
    unfold wt_ten
    omega
theorem wt_sue {f g : Nat → Nat} {N : Nat} (h : ∀ k, k < N → f k = g k) : wt_su f N = wt_su g N := by
  induction N with
  | zero => rfl
  | succ N ih =>
    show wt_su f N + f N = wt_su g N + g N
    rw [ih (fun k hk => h k (by omega)), h N (by omega)]
theorem wt_c2 : ∀ p, p < 10 → wt_ten (wt_ten (wt_g p)) 0 = wt_ways 2 p := by decide +kernel
theorem wt_c3 : ∀ p, p < 10 → wt_ten (wt_ten (wt_ten (wt_g p))) 0 = wt_ways 3 p := by decide +kernel
theorem wt_c4 : ∀ p, p < 10 → wt_ten (wt_ten (wt_ten (wt_ten (wt_g p)))) 0 = wt_ways 4 p := by decide +kernel
theorem wt_cn {n p : Nat} (h2 : 2 ≤ n) (hn : n ≤ 4) (hp : p ≤ 9) : wt_su (wt_f n p) (10 ^ n) = wt_ways n p := by
  have e1 : wt_su (wt_f n p) (10 ^ n) = wt_su (wt_g p) (10 ^ n) := wt_sue (fun k hk => by
    unfold wt_f
    rw [wt_dsz h2 hn hk]
    rfl)
  rw [e1]
  have h : n = 2 ∨ n = 3 ∨ n = 4 := by omega
  rcases h with e | e | e
  · rw [e, show 10 ^ 2 = 10 * (10 * 1) from rfl, wt_su10, wt_su10, ← wt_c2 p (by omega)]
    exact Nat.zero_add _
  · rw [e, show 10 ^ 3 = 10 * (10 * (10 * 1)) from rfl, wt_su10, wt_su10, wt_su10, ← wt_c3 p (by omega)]
    exact Nat.zero_add _
  · rw [e, show 10 ^ 4 = 10 * (10 * (10 * (10 * 1))) from rfl, wt_su10, wt_su10, wt_su10, wt_su10, ← wt_c4 p (by omega)]
    exact Nat.zero_add _
/-! flip's answers -/
theorem wt_flP {n : Nat} (h2 : 2 ≤ n) (hn : n ≤ 4) : wt_fl 0 n = 0 ∧ wt_fl 1 n = 10 ^ n / 10 ∧ wt_fl 2 n = 10 ^ n / 10 + 10 ^ n / 100 ∧ (3 ≤ n → wt_fl 3 n = 111 * (10 ^ n / 1000)) ∧ (4 ≤ n → wt_fl 4 n = 1111) := by
  have h : n = 2 ∨ n = 3 ∨ n = 4 := by omega
  rcases h with e | e | e
  · rw [e]; exact ⟨rfl, rfl, rfl, fun z => absurd z (by omega), fun z => absurd z (by omega)⟩
  · rw [e]; exact ⟨rfl, rfl, rfl, fun _ => rfl, fun z => absurd z (by omega)⟩
  · rw [e]; exact ⟨rfl, rfl, rfl, fun _ => rfl, fun _ => rfl⟩
theorem wt_top {n p : Nat} (h2 : 2 ≤ n) (hn : n ≤ 4) : nI p * (nI (10 ^ n) / 10) = nI (p * 10 ^ (n - 1)) := by
  have h4 := wt_p4 hn
  have e : nI (10 ^ n) / 10 = nI (10 ^ n / 10) := pk_div (d := 10) (by omega) (by omega) (by omega)
  rw [e, pk_mul]
  have e2 : 10 ^ n = 10 ^ (n - 1) * 10 := by rw [← Nat.pow_succ, show (n - 1).succ = n by omega]
  rw [e2, Nat.mul_div_cancel _ (by omega)]
/-- the law's sum of digits -/
theorem wt_dsI {w : Nat} (hw : w ≤ 10000) : (((nI w / 1000) + ((nI w / 100) - (nI w / 100) / 10 * 10)) + ((nI w / 10) - (nI w / 10) / 10 * 10)) + (nI w - nI w / 10 * 10) = nI (wt_ds w) := by
  have e1 : nI w / 1000 = nI (w / 1000) := pk_div (d := 1000) (by omega) (by omega) (by omega)
  have e2 : nI w / 100 = nI (w / 100) := pk_div (d := 100) (by omega) (by omega) (by omega)
  have e3 : nI w / 10 = nI (w / 10) := pk_div (d := 10) (by omega) (by omega) (by omega)
  have e4 : nI (w / 100) - nI (w / 100) / 10 * 10 = nI (w / 100 % 10) := pk_rem (d := 10) (by omega) (by omega) (by omega)
  have e5 : nI (w / 10) - nI (w / 10) / 10 * 10 = nI (w / 10 % 10) := pk_rem (d := 10) (by omega) (by omega) (by omega)
  have e6 : nI w - nI w / 10 * 10 = nI (w % 10) := pk_rem (d := 10) (by omega) (by omega) (by omega)
  rw [e6, e1, e2, e3, e4, e5, nI_add, nI_add, nI_add]
  rfl
end
section
/-- the letters, held between 2 and 4 -/
def wt_cl (x0 : Int32) (n : Nat) : Prop := (2 ≤ x0 ∧ x0 ≤ 4 ∧ x0 = nI n) ∨ (2 ≤ x0 ∧ ¬ x0 ≤ 4 ∧ n = 4) ∨ (¬ 2 ≤ x0 ∧ n = 2)
theorem wt_init {post : St2 → Prop} {mc ms n : Nat} {x0 : Int32} (h : wt_cl x0 n) (hm : 12 ≤ mc) (hs : 2967 ≤ ms)
    (H : ∀ a1 a2 a3 a4 a5 a6 a7 a8 a9 a10 a11 a12, post (nI n, 0, 0, 0, a1, a2, a3, a4, a5, a6, a7, a8, a9, a10, a11, a12)) : wpX_init post mc ms (0, 0, 0, 0) x0 := by
  unfold wpX_init
  dsimp only
  refine ⟨by omega, by omega, by omega, by omega, by omega, by omega, by omega, by omega, by omega, by omega, by omega, by omega, by omega, by omega, by omega, by omega, by omega, by omega, by omega, by omega, by omega, by omega, by omega, by omega, ?_⟩
  rcases h with ⟨h1, h2, h3⟩ | ⟨h1, h2, h3⟩ | ⟨h1, h3⟩
  · refine br_t h1 (br_t h2 ?_)
    rw [h3]
    exact H _ _ _ _ _ _ _ _ _ _ _ _
  · refine br_t h1 (br_f h2 ?_)
    rw [h3] at H
    exact H _ _ _ _ _ _ _ _ _ _ _ _
  · refine br_f h1 (br_t (by decide) ?_)
    rw [h3] at H
    exact H _ _ _ _ _ _ _ _ _ _ _ _
theorem wt_cell {post : Int32 → Prop} {L k : Nat} {xs : Nat → Int32} {x : Int32} (hx : x = nI k) (hk : k < 3) (hL : L ≤ 3) (H : ∀ r, post r) : wpL_cellAt post L xs () x := by
  unfold wpL_cellAt
  rw [hx]
  exact pk_le L k (fun _ => H _) (fun z => ⟨pk_in k L z, H _⟩)
section
variable {post : Int32 → St0 → Prop} {mc ms kc ks : Nat}
theorem wt_437 {n p : Nat} {r z : Int32} (hn : n ≤ 4) (hp : p ≤ 9) (hz : p ≤ n → r = z) (hr : n < p → r = -2) (H : post 1 ()) : wL_lawOf_437 post mc ms (nI p) (nI n) 1 r z kc ks :=
  pk_le p n (fun h => br_f (by decide) (br_t (hz h) H)) (fun h => br_f (by decide) (br_t (hr h) H))
theorem wt_421 {n p : Nat} {r z : Int32} (h2 : 2 ≤ n) (hn : n ≤ 4) (hp : p ≤ 9) (hz : p ≤ n → r = z) (hr : n < p → r = -2) (H : post 1 ()) : wL_lawOf_421 post mc ms (nI p) (nI n) 1 r z kc ks :=
  pk_eq p 3 (fun e => pk_eq n 2 (fun e2 => wt_437 hn hp (fun t => absurd t (by omega)) hr H) (fun _ => wt_437 hn hp hz hr H)) (fun _ => wt_437 hn hp hz hr H)
theorem wt_421T {x1 x3 z : Int32} (H : post 1 ()) : wL_lawOf_421 post mc ms x1 x3 0 (-1) z kc ks :=
  have K : ∀ z, wL_lawOf_437 post mc ms x1 x3 0 (-1) z kc ks := fun z => br_c (fun _ => br_t rfl (br_t rfl H)) (fun _ => br_t rfl (br_t rfl H))
  br_c (fun _ => br_c (fun _ => K _) (fun _ => K _)) (fun _ => K _)
theorem wt_141T {x0 x1 x2 x7 z0 : Int32} {n : Nat} (h2 : 2 ≤ n) (hn : n ≤ 4) (hcl : wt_cl x0 n) (hm : kc + 13 ≤ mc) (hs : ks + 2983 ≤ ms) (H : post 1 ()) : wL_lawOf_141 post mc ms x0 x1 x2 (nI n) (nI (10 ^ n)) 0 (nI (10 ^ n)) x7 z0 kc ks := by
  unfold wL_lawOf_141
  refine ⟨by decide, by decide, by decide, by decide, by decide, by decide, nm_e ⟨by omega, by omega, 12, 2967, by omega, by omega, wt_init hcl (by omega) (by omega) (fun a1 a2 a3 a4 a5 a6 a7 a8 a9 a10 a11 a12 => ?_)⟩⟩
  refine wt_fillingsT hn (wt_weightsT hn (wt_mostT hn (br_t rfl ?_)))
  refine br_t rfl (br_t rfl (br_t rfl (br_t rfl (wt_multT hn (br_t rfl ?_)))))
  refine br_t rfl (wt_ordersT hn (wt_hooksT hn (wt_factT (fun r => br_t rfl (br_t rfl (br_t rfl ?_))))))
  refine br_t rfl (wt_flipT hn ?_)
  exact br_c (fun _ => wt_421T H) (fun _ => br_c (fun _ => ⟨by decide, wt_421T H⟩) (fun _ => br_c (fun _ => ⟨by decide, by decide, wt_421T H⟩) (fun _ => br_c (fun _ => ⟨by decide, wt_421T H⟩) (fun _ => wt_421T H))))
/-- the last check: flip -/
theorem wt_347 {n p : Nat} {x16 x17 : Int32} {f1 f2 f3 : Int32} {a1 a2 a3 a4 a5 a6 a7 a8 a9 a10 a11 a12 : Nat → Int32} (h2 : 2 ≤ n) (hn : n ≤ 4) (hp : p ≤ 9) (h17 : x16 = x17) (H : post 1 ()) : wL_lawOf_347 post mc ms (nI p) (nI n) (nI (10 ^ n)) 1 (nI (p * 10 ^ (n - 1))) x17 x16 kc ks (nI n) f1 f2 f3 a1 a2 a3 a4 a5 a6 a7 a8 a9 a10 a11 a12 := by
  obtain ⟨c0, c1, c2, c3, c4⟩ := wt_flP h2 hn
  have h4 := wt_p4 hn
  have e1 : nI (10 ^ n) / 10 = nI (10 ^ n / 10) := pk_div (d := 10) (by omega) (by omega) (by omega)
  have e2 : nI (10 ^ n) / 100 = nI (10 ^ n / 100) := pk_div (d := 100) (by omega) (by omega) (by omega)
  have e3 : nI (10 ^ n) / 1000 = nI (10 ^ n / 1000) := pk_div (d := 1000) (by omega) (by omega) (by omega)
  have K : ∀ r : Int32, (p ≤ n → r = nI (wt_fl p n)) → (n < p → r = -2) →
      (((nI p = 0 → (wL_lawOf_421 post mc ms (nI p) (nI n) 1 r 0 kc ks)) ∧ (¬ nI p = 0 → (((nI p = 1 → (¬ (10 : Int32) = 0 ∧ (wL_lawOf_421 post mc ms (nI p) (nI n) 1 r (nI (10 ^ n) / 10) kc ks))) ∧ (¬ nI p = 1 → (((nI p = 2 → (¬ (10 : Int32) = 0 ∧ (¬ (100 : Int32) = 0 ∧ (wL_lawOf_421 post mc ms (nI p) (nI n) 1 r ((nI (10 ^ n) / 10) + (nI (10 ^ n) / 100)) kc ks)))) ∧ (¬ nI p = 2 → (((nI p = 3 → (¬ (1000 : Int32) = 0 ∧ (wL_lawOf_421 post mc ms (nI p) (nI n) 1 r (111 * (nI (10 ^ n) / 1000)) kc ks))) ∧ (¬ nI p = 3 → (wL_lawOf_421 post mc ms (nI p) (nI n) 1 r 1111 kc ks))))))))))))) := by
    intro r hr hr2
    refine pk_eq p 0 (fun e => wt_421 h2 hn hp (fun t => ?_) hr2 H) (fun n0 => pk_eq p 1 (fun e => ⟨by decide, wt_421 h2 hn hp (fun t => ?_) hr2 H⟩) (fun n1 => pk_eq p 2 (fun e => ⟨by decide, by decide, wt_421 h2 hn hp (fun t => ?_) hr2 H⟩) (fun n2 => pk_eq p 3 (fun e => ⟨by decide, wt_421 h2 hn hp (fun t => ?_) hr2 H⟩) (fun n3 => wt_421 h2 hn hp (fun t => ?_) hr2 H))))
    · rw [hr t, e, c0]; rfl
    · rw [hr t, e, c1, e1]
    · rw [hr t, e, c2, e1, e2, nI_add]
    · rw [hr t, e, c3 (by omega), e3, show (111 : Int32) = nI 111 from rfl, pk_mul]
    · rw [hr t, show p = 4 by omega, c4 (by omega)]; rfl
  exact br_t h17 (wt_flip h2 hn hp (fun z => K _ (fun _ => rfl) (fun t => absurd t (by omega))) (fun z => K _ (fun t => absurd t (by omega)) (fun _ => rfl)))
theorem wt_290 {n p : Nat} {z0 z1 : Int32} {f1 f2 f3 : Int32} {a1 a2 a3 a4 a5 a6 a7 a8 a9 a10 a11 a12 : Nat → Int32} (h2 : 2 ≤ n) (hn : n ≤ 4) (hp : p ≤ 9) (hz : z1 = z0) (H : post 1 ()) : wL_lawOf_290 post mc ms (nI p) (nI n) (nI (10 ^ n)) 1 (nI (p * 10 ^ (n - 1))) z0 z1 kc ks (nI n) f1 f2 f3 a1 a2 a3 a4 a5 a6 a7 a8 a9 a10 a11 a12 :=
  br_t hz (wt_orders h2 hn hp (wt_hooks h2 hn hp (wt_fact hp (br_f (by decide) (br_t rfl (br_f (by decide) (wt_347 h2 hn hp rfl H)))))))
theorem wt_141G {x0 x2 z0 : Int32} {n p : Nat} (h2 : 2 ≤ n) (hn : n ≤ 4) (hp : p ≤ 9) (hcl : wt_cl x0 n) (hm : kc + 13 ≤ mc) (hs : ks + 2983 ≤ ms)
    (hk : (z0 = 0 ∧ (x2 < 0 ∨ nI (10 ^ n) ≤ x2)) ∨ (z0 = 1 ∧ ¬ x2 < 0 ∧ ¬ nI (10 ^ n) ≤ x2)) (H : post 1 ()) :
    wL_lawOf_141 post mc ms x0 (nI p) x2 (nI n) (nI (10 ^ n)) 1 (nI (p * 10 ^ (n - 1))) (nI (wt_ways n p)) z0 kc ks := by
  have h4 := wt_p4 hn
  have hz : ∀ w, w < 10 ^ n → x2 = nI w → z0 = 1 := by
    intro w hw e
    rcases hk with ⟨_, t | t⟩ | ⟨t, _⟩
    · rw [e] at t; exact absurd t (nI_pos (by omega))
    · rw [e] at t; exact absurd t (nI_ge hw (by omega))
    · exact t
  unfold wL_lawOf_141
  refine ⟨by decide, by decide, by decide, by decide, by decide, by decide, nm_e ⟨by omega, by omega, 12, 2967, by omega, by omega, wt_init hcl (by omega) (by omega) (fun a1 a2 a3 a4 a5 a6 a7 a8 a9 a10 a11 a12 => ?_)⟩⟩
  refine wt_fillings h2 hn hp (wt_weights h2 hn hp (fun g1 g2 b1 b2 b3 b4 b5 b6 b7 => wt_most h2 hn hp (fun g1' g2' b1' b2' b3' b4' b5' b6' b7' => br_f (by decide) ?_)))
  refine br_t rfl (br_t (by rw [wt_cn h2 hn hp]) (br_f (by decide) (br_t rfl (wt_mult h2 hn hp (fun t => br_f (by decide) ?_) (fun w hw e t c1 c2 d1 d2 d3 d4 d5 d6 d7 => br_f (by decide) (br_f ?_ (br_t ?_ ?_))) (fun w hw e t c1 c2 d1 d2 d3 d4 d5 d6 d7 => br_f (by decide) (br_f ?_ (br_f ?_ ?_)))))))
  · have z : z0 = 0 := by
      rcases hk with ⟨k, _⟩ | ⟨_, k1, k2⟩
      · exact k
      · rcases t with t | t
        · exact absurd t k1
        · exact absurd t k2
    exact br_t z (wt_290 h2 hn hp rfl H)
  · rw [hz w hw e]; decide
  · rw [e, wt_dsI (by omega), ← wt_dsz h2 hn hw, t]
  · exact wt_290 h2 hn hp rfl H
  · rw [hz w hw e]; decide
  · rw [e, wt_dsI (by omega), ← wt_dsz h2 hn hw]
    have hs9 := wt_sz9 n w n
    exact fun z => t ((nI_eq (by omega) (by omega)).mp z)
  · exact wt_290 h2 hn hp rfl H
/-- a bad p -/
theorem wt_60 {x0 x1 x2 : Int32} {n : Nat} (h2 : 2 ≤ n) (hn : n ≤ 4) (hcl : wt_cl x0 n) (hm : kc + 13 ≤ mc) (hs : ks + 2983 ≤ ms) (H : post 1 ()) : wL_lawOf_60 post mc ms x0 x1 x2 (nI n) (nI (10 ^ n)) kc ks := by
  have K : ∀ z, wL_lawOf_124 post mc ms x0 x1 x2 (nI n) (nI (10 ^ n)) 0 (nI (10 ^ n)) z kc ks := fun z =>
    br_c (fun _ => wt_141T h2 hn hcl hm hs H) (fun _ => br_c (fun _ => wt_141T h2 hn hcl hm hs H) (fun _ => wt_141T h2 hn hcl hm hs H))
  unfold wL_lawOf_60
  exact br_t rfl (br_c (fun _ => K _) (fun _ => br_c (fun _ => ⟨by decide, K _⟩) (fun _ => ⟨by decide, K _⟩)))
/-- a good p -/
theorem wt_61 {x0 x2 : Int32} {n p : Nat} (h2 : 2 ≤ n) (hn : n ≤ 4) (hp : p ≤ 9) (hcl : wt_cl x0 n) (hm : kc + 13 ≤ mc) (hs : ks + 2983 ≤ ms) (H : post 1 ()) : wL_lawOf_61 post mc ms x0 (nI p) x2 (nI n) (nI (10 ^ n)) 1 kc ks := by
  have K : wL_lawOf_124 post mc ms x0 (nI p) x2 (nI n) (nI (10 ^ n)) 1 (nI (p * 10 ^ (n - 1))) (nI (wt_ways n p)) kc ks :=
    br_c (fun t => wt_141G h2 hn hp hcl hm hs (Or.inl ⟨rfl, Or.inl t⟩) H) (fun t => br_c (fun t2 => wt_141G h2 hn hp hcl hm hs (Or.inl ⟨rfl, Or.inr t2⟩) H) (fun t2 => wt_141G h2 hn hp hcl hm hs (Or.inr ⟨rfl, t, t2⟩) H))
  refine br_f (by decide) ⟨by decide, ?_⟩
  rw [wt_top h2 hn]
  have b1 : (p + 1) * (p + 2) ≤ 10 * 11 := Nat.mul_le_mul (by omega) (by omega)
  have b2 : (p + 1) * (p + 2) * (p + 3) ≤ 10 * 11 * 12 := Nat.mul_le_mul b1 (by omega)
  refine pk_eq n 2 (fun e => ?_) (fun n2 => pk_eq n 3 (fun e => ⟨by decide, ?_⟩) (fun n3 => ⟨by decide, ?_⟩))
  · rw [wt_ways, if_pos e] at K
    rw [nI_1]
    exact K
  · rw [wt_ways, if_neg n2, if_pos e] at K
    have ee : (nI p + 1) * (nI p + 2) / 2 = nI ((p + 1) * (p + 2) / 2) := by
      rw [nI_1, show nI p + 2 = nI (p + 2) from nI_add p 2, pk_mul]
      exact pk_div (d := 2) (by omega) (by omega) (by omega)
    rw [ee]
    exact K
  · rw [wt_ways, if_neg n2, if_neg n3] at K
    have ee : (nI p + 1) * (nI p + 2) * (nI p + 3) / 6 = nI ((p + 1) * (p + 2) * (p + 3) / 6) := by
      rw [nI_1, show nI p + 2 = nI (p + 2) from nI_add p 2, show nI p + 3 = nI (p + 3) from nI_add p 3, pk_mul, pk_mul]
      exact pk_div (d := 6) (by omega) (by omega) (by omega)
    rw [ee]
    exact K
theorem wt_44 {x0 x1 x2 : Int32} {n : Nat} (h2 : 2 ≤ n) (hn : n ≤ 4) (hcl : wt_cl x0 n) (hm : kc + 13 ≤ mc) (hs : ks + 2983 ≤ ms) (H : post 1 ()) : wL_lawOf_44 post mc ms x0 x1 x2 (nI n) (nI (10 ^ n)) kc ks := by
  refine br_c (fun _ => wt_60 h2 hn hcl hm hs H) (fun t => br_c (fun _ => wt_60 h2 hn hcl hm hs H) (fun t2 => ?_))
  obtain ⟨p, hp, e⟩ := nI_of t
  rw [e]
  rw [e] at t2
  have hp9 : p ≤ 9 := by
    rcases Nat.lt_or_ge 9 p with z | z
    · exact absurd (show (9 : Int32) < nI p from nI_lt (a := 9) z hp) t2
    · exact z
  exact wt_61 h2 hn hp9 hcl hm hs H
theorem wt_19 {x0 x1 x2 : Int32} {n : Nat} (h2 : 2 ≤ n) (hn : n ≤ 4) (hcl : wt_cl x0 n) (hm : kc + 13 ≤ mc) (hs : ks + 2983 ≤ ms) (H : post 1 ()) : wL_lawOf_19 post mc ms x0 x1 x2 (nI n) kc ks := by
  have K : wL_lawOf_44 post mc ms x0 x1 x2 (nI n) (nI (10 ^ n)) kc ks := wt_44 h2 hn hcl hm hs H
  refine pk_eq n 2 (fun e => ?_) (fun n2 => pk_eq n 3 (fun e => ?_) (fun n3 => ?_))
  · rw [e] at K ⊢
    exact K
  · rw [e] at K ⊢
    exact K
  · rw [show n = 4 by omega] at K ⊢
    exact K
end
theorem wt_lawOf {post : Int32 → St0 → Prop} {x0 x1 x2 : Int32} (H : post 1 ()) : wpL_lawOf post 1518 24288 () x0 x1 x2 := by
  refine br_c (fun t2 => br_c (fun t4 => ?_) (fun t4 => ?_)) (fun t2 => ?_)
  · have t0 : ¬ x0 < 0 := by
      intro z
      have z1 := Int32.le_iff_toInt_le.mp t2
      have z2 := Int32.lt_iff_toInt_lt.mp z
      have z3 : (2 : Int32).toInt = 2 := by decide
      have z4 : (0 : Int32).toInt = 0 := by decide
      omega
    obtain ⟨n, hn, e⟩ := nI_of2 (M := 4) (n := 4) (by decide) t0 t4
    have h2 : 2 ≤ n := by
      rcases Nat.lt_or_ge n 2 with z | z
      · rw [e] at t2
        exact absurd t2 (nI_ge (b := 2) z (by decide))
      · exact z
    have K := wt_19 (post := post) (mc := 1518) (ms := 24288) (kc := 0) (ks := 0) (x0 := x0) (x1 := x1) (x2 := x2) h2 hn (Or.inl ⟨t2, t4, e⟩) (by omega) (by omega) H
    rw [← e] at K
    exact K
  · exact wt_19 (n := 4) (by omega) (by omega) (Or.inr (Or.inl ⟨t2, t4, rfl⟩)) (by omega) (by omega) H
  · exact wt_19 (n := 2) (by omega) (by omega) (Or.inr (Or.inr ⟨t2, rfl⟩)) (by omega) (by omega) H
theorem i_vc (xs : Nat → Int32) (L : Nat) (hL : L ≤ 3) : wpL_law (fun r => r = 1) L xs := by
  unfold wpL_law
  exact wt_cell (k := 0) rfl (by omega) hL (fun r1 => wt_cell (k := 1) rfl (by omega) hL (fun r2 => wt_cell (k := 2) rfl (by omega) hL (fun r3 => ⟨1518, 24288, by omega, by omega, wt_lawOf rfl⟩)))
end

section
/-! the pure picture: V k i is the value of place i of chunk k -/
def ca_op (w : Nat) (o x : Int32) : Int32 := if w = 0 then x else if w = 1 then o + x else o * x
def ca_ap (w : Nat) (x : Int32) (D : Nat → Nat → Bool) (V : Nat → Nat → Int32) : Nat → Nat → Int32 := fun k i => if D k i = true then ca_op w (V k i) x else V k i
def ca_put (V : Nat → Nat → Int32) (k i : Nat) (x : Int32) : Nat → Nat → Int32 := fun k' i' => if k' = k ∧ i' = i then x else V k' i'
/-- the places that lie in the region -/
def ca_D (r0 r1 c0 c1 : Nat) : Nat → Nat → Bool := fun k i => decide (r0 ≤ k / 4 * 4 + i / 4 ∧ k / 4 * 4 + i / 4 ≤ r1 ∧ c0 ≤ k % 4 * 4 + i % 4 ∧ k % 4 * 4 + i % 4 ≤ c1)
def ca_P (k i : Nat) (D : Nat → Nat → Bool) : Nat → Nat → Bool := fun k' j => decide (k' = k ∧ j < i) && D k' j
def ca_Q (k : Nat) (D : Nat → Nat → Bool) : Nat → Nat → Bool := fun k' j => decide (k' < k) && D k' j
def ca_K (a2 a3 : Nat → Int32) : Prop := ∀ k, k < 16 → a2 (64 + k) = nI k ∧ a3 k = 1
def ca_V (V : Nat → Nat → Int32) (a4 a5 a6 : Nat → Int32) : Prop := ∀ k i, k < 16 → i < 16 → a4 (k * 16 + i) * a5 k + a6 k = V k i
def ca_J (q : Prop) (V : Nat → Nat → Int32) (a4 a5 a6 a7 a9 : Nat → Int32) : Prop := ca_V V a4 a5 a6 ∧ (∀ k, k < 16 → a9 k = 0) ∧ (q → ∀ k, k < 16 → a7 k = 0)
theorem ca_J_congr {q : Prop} {V V' : Nat → Nat → Int32} {a4 a5 a6 a7 a9 : Nat → Int32} (h : ∀ k i, k < 16 → i < 16 → V k i = V' k i) (hJ : ca_J q V a4 a5 a6 a7 a9) : ca_J q V' a4 a5 a6 a7 a9 :=
  ⟨fun k i hk hi => by rw [hJ.1 k i hk hi, h k i hk hi], hJ.2⟩
theorem ca_J_q {q q' : Prop} {V : Nat → Nat → Int32} {a4 a5 a6 a7 a7' a9 : Nat → Int32} (h : q' → ∀ k, k < 16 → a7' k = 0) (hJ : ca_J q V a4 a5 a6 a7 a9) : ca_J q' V a4 a5 a6 a7' a9 :=
  ⟨hJ.1, hJ.2.1, h⟩
theorem ca_u0 {a : Nat → Int32} {k j : Nat} (h : a j = 0) : upd a k 0 j = 0 := by
  by_cases e : j = k
  · rw [e, pk_us]
  · rw [pk_un e]
    exact h
theorem ca_J_put {q : Prop} {V : Nat → Nat → Int32} {a4 a5 a6 a7 a9 : Nat → Int32} {k i : Nat} {x : Int32} (hk : k < 16) (hi : i < 16) (hJ : ca_J q V a4 a5 a6 a7 a9) (h5 : a5 k = 1) (h6 : a6 k = 0) : ca_J q (ca_put V k i x) (upd a4 (k * 16 + i) x) a5 a6 (upd a7 k 0) (upd a9 k 0) := by
  refine ⟨fun k' i' hk' hi' => ?_, fun k' hk' => ca_u0 (hJ.2.1 k' hk'), fun z k' hk' => ca_u0 (hJ.2.2 z k' hk')⟩
  unfold ca_put
  by_cases e : k' = k ∧ i' = i
  · rw [if_pos e, e.1, e.2, pk_us, h5, h6, Int32.mul_one, Int32.add_zero]
  · rw [if_neg e, pk_un (by omega)]
    exact hJ.1 k' i' hk' hi'
theorem ca_J_settle {q : Prop} {V : Nat → Nat → Int32} {a4 a5 a6 a7 a9 s : Nat → Int32} {k : Nat} (hk : k < 16) (hJ : ca_J q V a4 a5 a6 a7 a9) (h1 : ∀ i, i < 16 → s (k * 16 + i) = a4 (k * 16 + i) * a5 k + a6 k) (h2 : ∀ j, j < k * 16 ∨ k * 16 + 16 ≤ j → s j = a4 j) : ca_J q V s (upd a5 k 1) (upd a6 k 0) (upd a7 k 0) a9 := by
  refine ⟨fun k' i' hk' hi' => ?_, hJ.2.1, fun z k' hk' => ca_u0 (hJ.2.2 z k' hk')⟩
  by_cases e : k' = k
  · rw [e, pk_us, pk_us, h1 i' hi', Int32.mul_one, Int32.add_zero]
    exact hJ.1 k i' hk hi'
  · rw [pk_un e, pk_un e, h2 _ (by omega)]
    exact hJ.1 k' i' hk' hi'
theorem ca_J_whole {q : Prop} {V : Nat → Nat → Int32} {a4 a5 a6 a7 a9 b5 b6 : Nat → Int32} {k w : Nat} {x : Int32} (hJ : ca_J q V a4 a5 a6 a7 a9) (h5 : ∀ j, j ≠ k → b5 j = a5 j) (h6 : ∀ j, j ≠ k → b6 j = a6 j) (hv : ∀ z, z * b5 k + b6 k = ca_op w (z * a5 k + a6 k) x) : ca_J q (ca_ap w x (fun k' _ => decide (k' = k)) V) a4 b5 b6 a7 (upd a9 k 0) := by
  refine ⟨fun k' i' hk' hi' => ?_, fun k' hk' => ca_u0 (hJ.2.1 k' hk'), hJ.2.2⟩
  unfold ca_ap
  by_cases e : k' = k
  · rw [if_pos (decide_eq_true e), ← hJ.1 k' i' hk' hi', e, hv]
  · rw [if_neg (fun z => e (of_decide_eq_true z)), h5 k' e, h6 k' e]
    exact hJ.1 k' i' hk' hi'
/-! one turn of the loops, on the picture -/
theorem ca_ap_t {w : Nat} {x : Int32} {D : Nat → Nat → Bool} {V : Nat → Nat → Int32} {k i : Nat} (h : D k i = true) : ca_ap w x D V k i = ca_op w (V k i) x := if_pos h
theorem ca_ap_f {w : Nat} {x : Int32} {D : Nat → Nat → Bool} {V : Nat → Nat → Int32} {k i : Nat} (h : D k i = false) : ca_ap w x D V k i = V k i := if_neg (by rw [h]; exact Bool.false_ne_true)
theorem ca_ap_c {w : Nat} {x : Int32} {D E : Nat → Nat → Bool} {V : Nat → Nat → Int32} {k i : Nat} (h : D k i = E k i) : ca_ap w x D V k i = ca_ap w x E V k i := by
  unfold ca_ap
  rw [h]
theorem ca_P0 {k k' j : Nat} {D : Nat → Nat → Bool} : ca_P k 0 D k' j = false := by
  unfold ca_P
  rw [decide_eq_false (by omega), Bool.false_and]
theorem ca_P_self {k i : Nat} {D : Nat → Nat → Bool} : ca_P k i D k i = false := by
  unfold ca_P
  rw [decide_eq_false (by omega), Bool.false_and]
theorem ca_P_ne {k i k' j : Nat} {D : Nat → Nat → Bool} (e : ¬ (k' = k ∧ j = i)) : ca_P k (i + 1) D k' j = ca_P k i D k' j := by
  unfold ca_P
  rw [decide_eq_decide.mpr (show (k' = k ∧ j < i + 1) ↔ (k' = k ∧ j < i) by omega)]
theorem ca_P_at {k i : Nat} {D : Nat → Nat → Bool} : ca_P k (i + 1) D k i = D k i := by
  unfold ca_P
  rw [decide_eq_true (show k = k ∧ i < i + 1 by omega), Bool.true_and]
theorem ca_P_in {w : Nat} {x : Int32} {D : Nat → Nat → Bool} {V : Nat → Nat → Int32} {k i k' j : Nat} (h : D k i = true) : ca_put (ca_ap w x (ca_P k i D) V) k i (ca_op w (ca_ap w x (ca_P k i D) V k i) x) k' j = ca_ap w x (ca_P k (i + 1) D) V k' j := by
  unfold ca_put
  by_cases e : k' = k ∧ j = i
  · rw [if_pos e, e.1, e.2, ca_ap_f ca_P_self, ca_ap_t (by rw [ca_P_at]; exact h)]
  · rw [if_neg e]
    exact ca_ap_c (ca_P_ne e).symm
theorem ca_P_out {w : Nat} {x : Int32} {D : Nat → Nat → Bool} {V : Nat → Nat → Int32} {k i k' j : Nat} (h : D k i = false) : ca_ap w x (ca_P k i D) V k' j = ca_ap w x (ca_P k (i + 1) D) V k' j := by
  apply ca_ap_c
  by_cases e : k' = k ∧ j = i
  · rw [e.1, e.2, ca_P_self, ca_P_at, h]
  · exact (ca_P_ne e).symm
theorem ca_Q0 {k' j : Nat} {D : Nat → Nat → Bool} : ca_Q 0 D k' j = false := by
  unfold ca_Q
  rw [decide_eq_false (by omega), Bool.false_and]
theorem ca_Q16 {k' j : Nat} {D : Nat → Nat → Bool} (h : k' < 16) : ca_Q 16 D k' j = D k' j := by
  unfold ca_Q
  rw [decide_eq_true h, Bool.true_and]
theorem ca_Q_self {k j : Nat} {D : Nat → Nat → Bool} : ca_Q k D k j = false := by
  unfold ca_Q
  rw [decide_eq_false (by omega), Bool.false_and]
theorem ca_Q_at {k j : Nat} {D : Nat → Nat → Bool} : ca_Q (k + 1) D k j = D k j := by
  unfold ca_Q
  rw [decide_eq_true (by omega), Bool.true_and]
theorem ca_Q_ne {k k' j : Nat} {D : Nat → Nat → Bool} (e : k' ≠ k) : ca_Q (k + 1) D k' j = ca_Q k D k' j := by
  unfold ca_Q
  rw [decide_eq_decide.mpr (show k' < k + 1 ↔ k' < k by omega)]
theorem ca_Q_none {w : Nat} {x : Int32} {D : Nat → Nat → Bool} {V : Nat → Nat → Int32} {k k' j : Nat} (hj : j < 16) (h : ∀ i, i < 16 → D k i = false) : ca_ap w x (ca_Q k D) V k' j = ca_ap w x (ca_Q (k + 1) D) V k' j := by
  apply ca_ap_c
  by_cases e : k' = k
  · rw [e, ca_Q_self, ca_Q_at, h j hj]
  · exact (ca_Q_ne e).symm
theorem ca_Q_whole {w : Nat} {x : Int32} {D : Nat → Nat → Bool} {V : Nat → Nat → Int32} {k k' j : Nat} (hj : j < 16) (h : ∀ i, i < 16 → D k i = true) : ca_ap w x (fun k' _ => decide (k' = k)) (ca_ap w x (ca_Q k D) V) k' j = ca_ap w x (ca_Q (k + 1) D) V k' j := by
  by_cases e : k' = k
  · rw [ca_ap_t (D := fun k' _ => decide (k' = k)) (decide_eq_true e), e, ca_ap_f ca_Q_self, ca_ap_t (by rw [ca_Q_at]; exact h j hj)]
  · rw [ca_ap_f (D := fun k' _ => decide (k' = k)) (decide_eq_false e)]
    exact ca_ap_c (ca_Q_ne e).symm
theorem ca_Q_part {w : Nat} {x : Int32} {D : Nat → Nat → Bool} {V : Nat → Nat → Int32} {k k' j : Nat} (hj : j < 16) : ca_ap w x (ca_P k 16 D) (ca_ap w x (ca_Q k D) V) k' j = ca_ap w x (ca_Q (k + 1) D) V k' j := by
  by_cases e : k' = k
  · have hP : ca_P k 16 D k j = D k j := by
      unfold ca_P
      rw [decide_eq_true (show k = k ∧ j < 16 from ⟨rfl, hj⟩), Bool.true_and]
    rw [e]
    cases hD : D k j with
    | true => rw [ca_ap_t (by rw [hP, hD]), ca_ap_f ca_Q_self, ca_ap_t (by rw [ca_Q_at, hD])]
    | false => rw [ca_ap_f (by rw [hP, hD]), ca_ap_f ca_Q_self, ca_ap_f (by rw [ca_Q_at, hD])]
  · have hP : ca_P k 16 D k' j = false := by
      unfold ca_P
      rw [decide_eq_false (fun z => e z.1), Bool.false_and]
    rw [ca_ap_f hP]
    exact ca_ap_c (ca_Q_ne e).symm
theorem ca_D_t {r0 r1 c0 c1 k i : Nat} (h : r0 ≤ k / 4 * 4 + i / 4 ∧ k / 4 * 4 + i / 4 ≤ r1 ∧ c0 ≤ k % 4 * 4 + i % 4 ∧ k % 4 * 4 + i % 4 ≤ c1) : ca_D r0 r1 c0 c1 k i = true := decide_eq_true h
theorem ca_D_f {r0 r1 c0 c1 k i : Nat} (h : ¬ (r0 ≤ k / 4 * 4 + i / 4 ∧ k / 4 * 4 + i / 4 ≤ r1 ∧ c0 ≤ k % 4 * 4 + i % 4 ∧ k % 4 * 4 + i % 4 ≤ c1)) : ca_D r0 r1 c0 c1 k i = false := decide_eq_false h
theorem ca_D_iff {r0 r1 c0 c1 k i : Nat} : ca_D r0 r1 c0 c1 k i = true ↔ (r0 ≤ k / 4 * 4 + i / 4 ∧ k / 4 * 4 + i / 4 ≤ r1 ∧ c0 ≤ k % 4 * 4 + i % 4 ∧ k % 4 * 4 + i % 4 ≤ c1) := decide_eq_true_iff
end
section
/-! small ints -/
theorem ca_sh2 {n : Nat} (h : n < 2 ^ 31) : nI n >>> ((2 : Int32) &&& 31) = nI (n / 4) := pk_shrN h _ 2 (by decide)
theorem ca_sh4 {n : Nat} (h : n < 2 ^ 31) : nI n >>> ((4 : Int32) &&& 31) = nI (n / 16) := pk_shrN h _ 4 (by decide)
theorem ca_and3 {n : Nat} (h : n < 2 ^ 32) : nI n &&& 3 = nI (n % 4) := pk_andN h 2 (by decide)
theorem ca_and15 {n : Nat} (h : n < 2 ^ 32) : nI n &&& 15 = nI (n % 16) := pk_andN h 4 (by decide)
theorem ca_div {n : Nat} (h : n < 2 ^ 31) : nI n / 4 = nI (n / 4) := pk_div (d := 4) h (by decide) (by decide)
theorem ca_rem {n : Nat} (h : n < 2 ^ 31) : nI n - nI n / 4 * 4 = nI (n % 4) := pk_rem (d := 4) h (by decide) (by decide)
theorem ca_d4 {n : Nat} (h : n < 2 ^ 31) : nI n / 4 * 4 = nI (n / 4 * 4) := by
  rw [ca_div h]
  exact pk_mul _ 4
theorem ca_m4 {n : Nat} (h : n < 2 ^ 31) : (nI n - nI n / 4 * 4) * 4 = nI (n % 4 * 4) := by
  rw [ca_rem h]
  exact pk_mul _ 4
theorem ca_row {k i : Nat} (hk : k < 2 ^ 31) (hi : i < 2 ^ 31) : (nI k / 4) * 4 + nI i / 4 = nI (k / 4 * 4 + i / 4) := by
  rw [ca_d4 hk, ca_div hi, nI_add]
theorem ca_col {k i : Nat} (hk : k < 2 ^ 31) (hi : i < 2 ^ 31) : (nI k - nI k / 4 * 4) * 4 + (nI i - nI i / 4 * 4) = nI (k % 4 * 4 + i % 4) := by
  rw [ca_m4 hk, ca_rem hi, nI_add]
theorem ca_64 (k : Nat) : (64 : Int32) + nI k = nI (64 + k) := nI_add 64 k
theorem ca_cell (k i : Nat) : nI k * 16 + nI i = nI (k * 16 + i) := by
  rw [show (16 : Int32) = nI 16 from rfl, pk_mul, nI_add]
section
variable {a1 a2 a3 a4 a5 a6 a7 a8 a9 a10 a11 : Nat → Int32} {f0 f1 f2 f3 : Int32}
theorem ca_bad {post : Int32 → Prop} {p : Nat} (hp : p < 256) (H : post 0) : wpX_bad post () (nI p) :=
  br_f (nI_pos (by omega)) (br_t (nI_le (b := 255) (by omega) (by decide)) H)
theorem ca_size {post : Int32 → Prop} {a b : Nat} (ha : a < 256) (hb : b < 256) (H : post (nI (max a b - min a b + 1))) : wpL_size post () (nI a) (nI b) := by
  unfold wpL_size
  refine pk_le a b (fun z => ?_) (fun z => ?_)
  · rw [pk_sub z, nI_1]
    rw [Nat.max_eq_right z, Nat.min_eq_left z] at H
    exact H
  · rw [pk_sub (Nat.le_of_lt z), nI_1]
    rw [Nat.max_eq_left (Nat.le_of_lt z), Nat.min_eq_right (Nat.le_of_lt z)] at H
    exact H
theorem ca_in {post : Int32 → Prop} {n a b : Nat} (hn : n < 256) (ha : a < 256) (hb : b < 256) (H1 : min a b ≤ n ∧ n ≤ max a b → post 1) (H0 : ¬ (min a b ≤ n ∧ n ≤ max a b) → post 0) : wpL_in post () (nI n) (nI a) (nI b) := by
  unfold wpL_in
  refine pk_le b a (fun z => ?_) (fun z => ?_)
  · exact pk_lt n b (fun y => H0 (by omega)) (fun y => pk_lt a n (fun t => H0 (by omega)) (fun t => H1 (by omega)))
  · exact pk_lt n a (fun y => H0 (by omega)) (fun y => pk_lt b n (fun t => H0 (by omega)) (fun t => H1 (by omega)))
theorem ca_sr68 {post : St2 → Prop} {x5 x6 : Nat} {z0 : Int32} (h5 : x5 < 256) (h6 : x6 < 256) (H : post (f0, f1, z0, nI (max x5 x6), a1, a2, a3, a4, a5, a6, a7, a8, a9, a10, a11)) : wX_setRegion_68 post (nI x5) (nI x6) z0 f0 f1 f2 f3 a1 a2 a3 a4 a5 a6 a7 a8 a9 a10 a11 := by
  unfold wX_setRegion_68
  refine pk_le x6 x5 (fun z => ?_) (fun z => ?_)
  · rw [Nat.max_eq_left z] at H
    exact H
  · rw [Nat.max_eq_right (Nat.le_of_lt z)] at H
    exact H
theorem ca_sr50 {post : St2 → Prop} {x5 x6 : Nat} {z0 : Int32} (h5 : x5 < 256) (h6 : x6 < 256) (H : post (f0, z0, nI (min x5 x6), nI (max x5 x6), a1, a2, a3, a4, a5, a6, a7, a8, a9, a10, a11)) : wX_setRegion_50 post (nI x5) (nI x6) z0 f0 f1 f2 f3 a1 a2 a3 a4 a5 a6 a7 a8 a9 a10 a11 := by
  unfold wX_setRegion_50
  refine pk_le x6 x5 (fun z => ?_) (fun z => ?_)
  · rw [Nat.min_eq_right z] at H
    exact ca_sr68 h5 h6 H
  · rw [Nat.min_eq_left (Nat.le_of_lt z)] at H
    exact ca_sr68 h5 h6 H
theorem ca_sr34 {post : St2 → Prop} {x3 x4 x5 x6 : Nat} {z0 : Int32} (h3 : x3 < 256) (h4 : x4 < 256) (h5 : x5 < 256) (h6 : x6 < 256) (H : post (z0, nI (max x3 x4), nI (min x5 x6), nI (max x5 x6), a1, a2, a3, a4, a5, a6, a7, a8, a9, a10, a11)) : wX_setRegion_34 post (nI x3) (nI x4) (nI x5) (nI x6) z0 f0 f1 f2 f3 a1 a2 a3 a4 a5 a6 a7 a8 a9 a10 a11 := by
  unfold wX_setRegion_34
  refine pk_le x4 x3 (fun z => ?_) (fun z => ?_)
  · rw [Nat.max_eq_left z] at H
    exact ca_sr50 h5 h6 H
  · rw [Nat.max_eq_right (Nat.le_of_lt z)] at H
    exact ca_sr50 h5 h6 H
theorem ca_setRegion {post : St2 → Prop} {p q : Nat} (hp : p < 256) (hq : q < 256) (H : post (nI (min (p % 16) (q % 16)), nI (max (p % 16) (q % 16)), nI (min (p / 16) (q / 16)), nI (max (p / 16) (q / 16)), a1, a2, a3, a4, a5, a6, a7, a8, a9, a10, a11)) : wpX_setRegion post (f0, f1, f2, f3, a1, a2, a3, a4, a5, a6, a7, a8, a9, a10, a11) (nI p) (nI q) := by
  unfold wpX_setRegion
  dsimp only
  have h1 : p % 16 < 256 := by omega
  have h2 : q % 16 < 256 := by omega
  have h3 : p / 16 < 256 := by omega
  have h4 : q / 16 < 256 := by omega
  refine nm_r (ca_and15 (by omega)) (nm_r (ca_and15 (by omega)) (nm_r (ca_sh4 (by omega)) (nm_r (ca_sh4 (by omega)) ?_)))
  refine pk_le (q % 16) (p % 16) (fun z => ?_) (fun z => ?_)
  · rw [Nat.min_eq_right z] at H
    exact ca_sr34 h1 h2 h3 h4 H
  · rw [Nat.min_eq_left (Nat.le_of_lt z)] at H
    exact ca_sr34 h1 h2 h3 h4 H
theorem ca_regionSize {post : Int32 → Prop} {r0 r1 c0 c1 : Nat} (hr : r0 ≤ r1) (hc : c0 ≤ c1) (H : post (nI ((r1 - r0 + 1) * (c1 - c0 + 1)))) : wpX_regionSize post (nI r0, nI r1, nI c0, nI c1, a1, a2, a3, a4, a5, a6, a7, a8, a9, a10, a11) := by
  unfold wpX_regionSize
  dsimp only
  rw [pk_sub hr, pk_sub hc, nI_1, nI_1, pk_mul]
  exact H
theorem ca_covers {post : Int32 → Prop} {k r0 r1 c0 c1 : Nat} (hk : k < 16) (hr0 : r0 < 16) (hr1 : r1 < 16) (hc0 : c0 < 16) (hc1 : c1 < 16)
    (H1 : (r0 ≤ k / 4 * 4 ∧ k / 4 * 4 + 3 ≤ r1 ∧ c0 ≤ k % 4 * 4 ∧ k % 4 * 4 + 3 ≤ c1) → post 1)
    (H0 : ¬ (r0 ≤ k / 4 * 4 ∧ k / 4 * 4 + 3 ≤ r1 ∧ c0 ≤ k % 4 * 4 ∧ k % 4 * 4 + 3 ≤ c1) → post 0) :
    wpX_covers post (nI r0, nI r1, nI c0, nI c1, a1, a2, a3, a4, a5, a6, a7, a8, a9, a10, a11) (nI k) := by
  unfold wpX_covers
  dsimp only
  refine ⟨by decide, nm_r (ca_d4 (by omega)) ⟨by decide, nm_r (ca_m4 (by omega)) ?_⟩⟩
  refine pk_lt (k / 4 * 4) r0 (fun z => H0 (by omega)) (fun z1 => ?_)
  refine pk_lt r1 (k / 4 * 4 + 3) (fun z => H0 (by omega)) (fun z2 => ?_) rfl (nI_add _ 3)
  refine pk_lt (k % 4 * 4) c0 (fun z => H0 (by omega)) (fun z3 => ?_)
  refine pk_lt c1 (k % 4 * 4 + 3) (fun z => H0 (by omega)) (fun z4 => ?_) rfl (nI_add _ 3)
  exact H1 (by omega)
theorem ca_touches {post : Int32 → Prop} {k r0 r1 c0 c1 : Nat} (hk : k < 16) (hr0 : r0 < 16) (hr1 : r1 < 16) (hc0 : c0 < 16) (hc1 : c1 < 16)
    (H1 : (r0 ≤ k / 4 * 4 + 3 ∧ k / 4 * 4 ≤ r1 ∧ c0 ≤ k % 4 * 4 + 3 ∧ k % 4 * 4 ≤ c1) → post 1)
    (H0 : ¬ (r0 ≤ k / 4 * 4 + 3 ∧ k / 4 * 4 ≤ r1 ∧ c0 ≤ k % 4 * 4 + 3 ∧ k % 4 * 4 ≤ c1) → post 0) :
    wpX_touches post (nI r0, nI r1, nI c0, nI c1, a1, a2, a3, a4, a5, a6, a7, a8, a9, a10, a11) (nI k) := by
  unfold wpX_touches
  dsimp only
  refine ⟨by decide, nm_r (ca_d4 (by omega)) ⟨by decide, nm_r (ca_m4 (by omega)) ?_⟩⟩
  refine pk_lt (k / 4 * 4 + 3) r0 (fun z => H0 (by omega)) (fun z1 => ?_) (nI_add _ 3) rfl
  refine pk_lt r1 (k / 4 * 4) (fun z => H0 (by omega)) (fun z2 => ?_)
  refine pk_lt (k % 4 * 4 + 3) c0 (fun z => H0 (by omega)) (fun z3 => ?_) (nI_add _ 3) rfl
  refine pk_lt c1 (k % 4 * 4) (fun z => H0 (by omega)) (fun z4 => ?_)
  exact H1 (by omega)
theorem ca_inRegion {post : Int32 → Prop} {k i r0 r1 c0 c1 : Nat} (hk : k < 16) (hi : i < 16) (hr0 : r0 < 16) (hr1 : r1 < 16) (hc0 : c0 < 16) (hc1 : c1 < 16)
    (H1 : ca_D r0 r1 c0 c1 k i = true → post 1) (H0 : ca_D r0 r1 c0 c1 k i = false → post 0) :
    wpX_inRegion post (nI r0, nI r1, nI c0, nI c1, a1, a2, a3, a4, a5, a6, a7, a8, a9, a10, a11) (nI (k / 4 * 4 + i / 4)) (nI (k % 4 * 4 + i % 4)) := by
  unfold wpX_inRegion
  dsimp only
  refine pk_lt (k / 4 * 4 + i / 4) r0 (fun z => H0 (ca_D_f (by omega))) (fun z1 => ?_)
  refine pk_lt r1 (k / 4 * 4 + i / 4) (fun z => H0 (ca_D_f (by omega))) (fun z2 => ?_)
  refine pk_lt (k % 4 * 4 + i % 4) c0 (fun z => H0 (ca_D_f (by omega))) (fun z3 => ?_)
  refine pk_lt c1 (k % 4 * 4 + i % 4) (fun z => H0 (ca_D_f (by omega))) (fun z4 => ?_)
  exact H1 (ca_D_t (by omega))
theorem ca_placeOf {post : Int32 → Prop} {r c : Nat} (hr : r < 16) (hc : c < 16) (H : post (nI (r / 4 * 4 + c / 4))) : wpX_placeOf post () (nI r) (nI c) := by
  unfold wpX_placeOf
  rw [ca_sh2 (show r < 2 ^ 31 by omega), ca_sh2 (show c < 2 ^ 31 by omega), show (4 : Int32) = nI 4 from rfl, pk_mul, nI_add]
  exact H
theorem ca_within {post : Int32 → Prop} {r c : Nat} (hr : r < 16) (hc : c < 16) (H : post (nI (r % 4 * 4 + c % 4))) : wpX_within post () (nI r) (nI c) := by
  unfold wpX_within
  rw [ca_and3 (show r < 2 ^ 32 by omega), ca_and3 (show c < 2 ^ 32 by omega), show (4 : Int32) = nI 4 from rfl, pk_mul, nI_add]
  exact H
theorem ca_read {post : Int32 → Prop} {V : Nat → Nat → Int32} {r c : Nat} (hr : r < 16) (hc : c < 16) (hK : ca_K a2 a3) (hV : ca_V V a4 a5 a6) (H : post (V (r / 4 * 4 + c / 4) (r % 4 * 4 + c % 4))) : wpX_read post (f0, f1, f2, f3, a1, a2, a3, a4, a5, a6, a7, a8, a9, a10, a11) 4 (nI r) (nI c) := by
  have hk : r / 4 * 4 + c / 4 < 16 := by omega
  have hi : r % 4 * 4 + c % 4 < 16 := by omega
  unfold wpX_read
  dsimp only
  refine ca_placeOf hr hc ?_
  have e : (4 : Int32) * 16 + nI (r / 4 * 4 + c / 4) = nI (64 + (r / 4 * 4 + c / 4)) := by
    rw [show (4 : Int32) * 16 = 64 from by decide]
    exact ca_64 _
  try dsimp only
  rw [e, nI_clamp (by omega)]
  refine ⟨vp_in_nI (by omega) (by decide), nm_r (hK _ hk).1 ?_⟩
  refine ca_within hr hc ?_
  try dsimp only
  rw [ca_cell, nI_clamp (by omega), nI_clamp (by omega), hV _ _ hk hi]
  exact ⟨vp_in_nI (by omega) (by decide), vp_in_nI (by omega) (by decide), vp_in_nI (by omega) (by decide), H⟩
theorem ca_readK {post : Int32 → Prop} {V : Nat → Nat → Int32} {k i : Nat} (hk : k < 16) (hi : i < 16) (hK : ca_K a2 a3) (hV : ca_V V a4 a5 a6) (H : post (V k i)) : wpX_read post (f0, f1, f2, f3, a1, a2, a3, a4, a5, a6, a7, a8, a9, a10, a11) 4 (nI (k / 4 * 4 + i / 4)) (nI (k % 4 * 4 + i % 4)) := by
  refine ca_read (by omega) (by omega) hK hV ?_
  rw [show (k / 4 * 4 + i / 4) / 4 * 4 + (k % 4 * 4 + i % 4) / 4 = k by omega, show (k / 4 * 4 + i / 4) % 4 * 4 + (k % 4 * 4 + i % 4) % 4 = i by omega]
  exact H
theorem ca_result {post : Int32 → Prop} {w : Nat} {o x : Int32} (hw : w < 3) (H : post (ca_op w o x)) : wpX_result post () (nI w) o x := by
  unfold wpX_result
  refine pk_eq w 0 (fun z => ?_) (fun z => ?_)
  · subst z
    exact H
  · refine pk_eq w 1 (fun y => ?_) (fun y => ?_)
    · subst y
      exact H
    · rw [show w = 2 by omega] at H
      exact H
theorem ca_own {post : Int32 → St2 → Prop} {k : Nat} (hk : k < 16) (hK : ca_K a2 a3) (H : post (nI k) (f0, f1, f2, f3, a1, a2, a3, a4, a5, a6, a7, a8, a9, a10, a11)) : wpX_own post (f0, f1, f2, f3, a1, a2, a3, a4, a5, a6, a7, a8, a9, a10, a11) (nI k) := by
  unfold wpX_own
  dsimp only
  rw [ca_64, nI_clamp (show 64 + k < 2 ^ 31 by omega)]
  refine ⟨vp_in_nI (by omega) (by decide), nm_r (hK k hk).1 ⟨vp_in_nI (by omega) (by decide), br_t ?_ H⟩⟩
  rw [nI_clamp (by omega)]
  exact (hK k hk).2
theorem ca_settle {post : St2 → Prop} {q : Prop} {V : Nat → Nat → Int32} {k : Nat} (hk : k < 16) (hJ : ca_J q V a4 a5 a6 a7 a9) (H : ∀ b4 b5 b6 b7, ca_J q V b4 b5 b6 b7 a9 → b5 k = 1 → b6 k = 0 → post (f0, f1, f2, f3, a1, a2, a3, b4, b5, b6, b7, a8, a9, a10, a11)) : wpX_settle post (f0, f1, f2, f3, a1, a2, a3, a4, a5, a6, a7, a8, a9, a10, a11) (nI k) := by
  unfold wpX_settle
  dsimp only
  refine pk_loop (fun n i s => wX_settle_2 post (nI k) f0 f1 f2 f3 n (nI i) a1 a2 a3 s a5 a6 a7 a8 a9 a10 a11) (fun i s => (∀ j, j < i → s (k * 16 + j) = a4 (k * 16 + j) * a5 k + a6 k) ∧ (∀ j, j < k * 16 ∨ k * 16 + i ≤ j → s j = a4 j)) 16 0 a4 (by omega) ⟨fun j hj => absurd hj (by omega), fun _ _ => rfl⟩ ?_ ?_
  · intro n s h
    refine pk_le 16 16 (fun _ => ?_) (fun z => absurd z (by omega))
    rw [nI_clamp (show k < 2 ^ 31 by omega)]
    exact ⟨vp_in_nI (by omega) (by decide), nm_e ⟨vp_in_nI (by omega) (by decide), nm_e ⟨vp_in_nI (by omega) (by decide), nm_e (H s _ _ _ (ca_J_settle hk hJ h.1 h.2) pk_us pk_us)⟩⟩⟩
  · intro n i s hi h hw
    refine pk_le 16 i (fun z => absurd z (by omega)) (fun _ => ?_)
    rw [ca_cell, nI_clamp (show k < 2 ^ 31 by omega), nI_clamp (show k * 16 + i < 2 ^ 31 by omega)]
    refine ⟨vp_in_nI (by omega) (by decide), vp_in_nI (by omega) (by decide), vp_in_nI (by omega) (by decide), vp_in_nI (by omega) (by decide), nm_e (nm_r (nI_1 i) (hw _ ⟨fun j hj => ?_, fun j hj => ?_⟩))⟩
    · by_cases e : j = i
      · rw [e, pk_us, h.2 _ (by omega)]
      · rw [pk_un (by omega)]
        exact h.1 j (by omega)
    · rw [pk_un (by omega)]
      exact h.2 j (by omega)
end
end
section
section
variable {a1 a2 a3 a4 a5 a6 a7 a8 a9 a10 a11 : Nat → Int32} {f0 f1 f2 f3 : Int32}
theorem ca_wc42 {post : St2 → Prop} {q : Prop} {V : Nat → Nat → Int32} {r c k : Nat} {x : Int32} (hr : r < 16) (hc : c < 16) (hk : k < 16) (hJ : ca_J q V a4 a5 a6 a7 a9) (h5 : a5 k = 1) (h6 : a6 k = 0)
    (H : ∀ b4 b7 b9, ca_J q (ca_put V k (r % 4 * 4 + c % 4) x) b4 a5 a6 b7 b9 → post (f0, f1, f2, f3, a1, a2, a3, b4, a5, a6, b7, a8, b9, a10, a11)) :
    wX_writeCell_42 post (nI r) (nI c) x (nI k) f0 f1 f2 f3 a1 a2 a3 a4 a5 a6 a7 a8 a9 a10 a11 := by
  unfold wX_writeCell_42
  refine ca_within hr hc ?_
  try dsimp only
  rw [ca_cell, nI_clamp (show k < 2 ^ 31 by omega), nI_clamp (show k * 16 + (r % 4 * 4 + c % 4) < 2 ^ 31 by omega)]
  exact ⟨vp_in_nI (by omega) (by decide), nm_e ⟨vp_in_nI (by omega) (by decide), nm_e ⟨vp_in_nI (by omega) (by decide), nm_e (H _ _ _ (ca_J_put hk (by omega) hJ h5 h6))⟩⟩⟩
theorem ca_wc36 {post : St2 → Prop} {q : Prop} {V : Nat → Nat → Int32} {r c k : Nat} {x : Int32} (hr : r < 16) (hc : c < 16) (hk : k < 16) (hJ : ca_J q V a4 a5 a6 a7 a9)
    (H : ∀ b4 b5 b6 b7 b9, ca_J q (ca_put V k (r % 4 * 4 + c % 4) x) b4 b5 b6 b7 b9 → post (f0, f1, f2, f3, a1, a2, a3, b4, b5, b6, b7, a8, b9, a10, a11)) :
    wX_writeCell_36 post (nI r) (nI c) x (nI k) f0 f1 f2 f3 a1 a2 a3 a4 a5 a6 a7 a8 a9 a10 a11 := by
  unfold wX_writeCell_36
  refine ca_settle hk hJ (fun b4 b5 b6 b7 hb h5 h6 => ?_)
  try dsimp only
  exact ca_wc42 hr hc hk hb h5 h6 (fun c4 c7 c9 hc => H c4 b5 b6 c7 c9 hc)
theorem ca_writeCell {post : St2 → Prop} {q : Prop} {V : Nat → Nat → Int32} {r c : Nat} {x : Int32} (hr : r < 16) (hc : c < 16) (hK : ca_K a2 a3) (hJ : ca_J q V a4 a5 a6 a7 a9)
    (H : ∀ b4 b5 b6 b7 b9, ca_J q (ca_put V (r / 4 * 4 + c / 4) (r % 4 * 4 + c % 4) x) b4 b5 b6 b7 b9 → post (f0, f1, f2, f3, a1, a2, a3, b4, b5, b6, b7, a8, b9, a10, a11)) :
    wpX_writeCell post (f0, f1, f2, f3, a1, a2, a3, a4, a5, a6, a7, a8, a9, a10, a11) (nI r) (nI c) x := by
  have hk : r / 4 * 4 + c / 4 < 16 := by omega
  unfold wpX_writeCell
  dsimp only
  refine ca_placeOf hr hc ?_
  try dsimp only
  refine ca_own hk hK ?_
  try dsimp only
  rw [nI_clamp (show r / 4 * 4 + c / 4 < 2 ^ 31 by omega)]
  refine ⟨vp_in_nI (by omega) (by decide), br_c (fun h5 => ⟨vp_in_nI (by omega) (by decide), br_c (fun h6 => ?_) (fun _ => ?_)⟩) (fun _ => ?_)⟩
  · exact ca_wc42 hr hc hk hJ h5 h6 (fun c4 c7 c9 hc => H c4 a5 a6 c7 c9 hc)
  · exact ca_wc36 hr hc hk hJ H
  · exact ca_wc36 hr hc hk hJ H
theorem ca_writeK {post : St2 → Prop} {q : Prop} {V : Nat → Nat → Int32} {k i : Nat} {x : Int32} (hk : k < 16) (hi : i < 16) (hK : ca_K a2 a3) (hJ : ca_J q V a4 a5 a6 a7 a9)
    (H : ∀ b4 b5 b6 b7 b9, ca_J q (ca_put V k i x) b4 b5 b6 b7 b9 → post (f0, f1, f2, f3, a1, a2, a3, b4, b5, b6, b7, a8, b9, a10, a11)) :
    wpX_writeCell post (f0, f1, f2, f3, a1, a2, a3, a4, a5, a6, a7, a8, a9, a10, a11) (nI (k / 4 * 4 + i / 4)) (nI (k % 4 * 4 + i % 4)) x := by
  refine ca_writeCell (by omega) (by omega) hK hJ ?_
  rw [show (k / 4 * 4 + i / 4) / 4 * 4 + (k % 4 * 4 + i % 4) / 4 = k by omega, show (k / 4 * 4 + i / 4) % 4 * 4 + (k % 4 * 4 + i % 4) % 4 = i by omega]
  exact H
theorem ca_op0 {a5 a6 : Nat → Int32} {k : Nat} {x z : Int32} : z * upd a5 k 0 k + upd a6 k x k = ca_op 0 (z * a5 k + a6 k) x := by
  rw [pk_us, pk_us, Int32.mul_zero, Int32.zero_add]
  rfl
theorem ca_op1 {a5 a6 : Nat → Int32} {k : Nat} {x z : Int32} : z * a5 k + upd a6 k (a6 k + x) k = ca_op 1 (z * a5 k + a6 k) x := by
  rw [pk_us, ← Int32.add_assoc]
  rfl
theorem ca_op2 {a5 a6 : Nat → Int32} {k : Nat} {x z : Int32} : z * upd a5 k (a5 k * x) k + upd a6 k (a6 k * x) k = ca_op 2 (z * a5 k + a6 k) x := by
  rw [pk_us, pk_us]
  show z * (a5 k * x) + a6 k * x = (z * a5 k + a6 k) * x
  rw [Int32.add_mul, Int32.mul_assoc]
theorem ca_changeWhole {post : St2 → Prop} {q : Prop} {V : Nat → Nat → Int32} {k w : Nat} {x : Int32} (hk : k < 16) (hw : w < 3) (hK : ca_K a2 a3) (hJ : ca_J q V a4 a5 a6 a7 a9)
    (H : ∀ b5 b6 b9, ca_J q (ca_ap w x (fun k' _ => decide (k' = k)) V) a4 b5 b6 a7 b9 → post (f0, f1, f2, f3, a1, a2, a3, a4, b5, b6, a7, a8, b9, a10, a11)) :
    wpX_changeWhole post (f0, f1, f2, f3, a1, a2, a3, a4, a5, a6, a7, a8, a9, a10, a11) (nI k) (nI w) x := by
  unfold wpX_changeWhole
  dsimp only
  refine ca_own hk hK ?_
  try dsimp only
  rw [nI_clamp (show k < 2 ^ 31 by omega)]
  refine pk_eq w 0 (fun z => ?_) (fun z => ?_)
  · subst z
    exact ⟨vp_in_nI (by omega) (by decide), nm_e ⟨vp_in_nI (by omega) (by decide), nm_e ⟨vp_in_nI (by omega) (by decide), nm_e (H _ _ _ (ca_J_whole hJ (fun j h => pk_un h) (fun j h => pk_un h) (fun z => ca_op0)))⟩⟩⟩
  · refine pk_eq w 1 (fun y => ?_) (fun y => ?_)
    · subst y
      exact ⟨vp_in_nI (by omega) (by decide), vp_in_nI (by omega) (by decide), nm_e ⟨vp_in_nI (by omega) (by decide), nm_e (H _ _ _ (ca_J_whole hJ (fun j h => rfl) (fun j h => pk_un h) (fun z => ca_op1)))⟩⟩
    · have e : w = 2 := by omega
      subst e
      exact ⟨vp_in_nI (by omega) (by decide), vp_in_nI (by omega) (by decide), nm_e ⟨vp_in_nI (by omega) (by decide), vp_in_nI (by omega) (by decide), nm_e ⟨vp_in_nI (by omega) (by decide), nm_e (H _ _ _ (ca_J_whole hJ (fun j h => pk_un h) (fun j h => pk_un h) (fun z => ca_op2)))⟩⟩⟩
theorem ca_changePart {post : St2 → Prop} {q : Prop} {V : Nat → Nat → Int32} {k w r0 r1 c0 c1 : Nat} {x : Int32} (hk : k < 16) (hw : w < 3) (hr0 : r0 < 16) (hr1 : r1 < 16) (hc0 : c0 < 16) (hc1 : c1 < 16) (hK : ca_K a2 a3) (hJ : ca_J q V a4 a5 a6 a7 a9)
    (H : ∀ b4 b5 b6 b7 b9, ca_J q (ca_ap w x (ca_P k 16 (ca_D r0 r1 c0 c1)) V) b4 b5 b6 b7 b9 → post (nI r0, nI r1, nI c0, nI c1, a1, a2, a3, b4, b5, b6, b7, a8, b9, a10, a11)) :
    wpX_changePart post (nI r0, nI r1, nI c0, nI c1, a1, a2, a3, a4, a5, a6, a7, a8, a9, a10, a11) (nI k) (nI w) x := by
  unfold wpX_changePart
  dsimp only
  refine pk_loop (σ := (Nat → Int32) × (Nat → Int32) × (Nat → Int32) × (Nat → Int32) × (Nat → Int32)) (fun n i s => wX_changePart_3 post (nI k) (nI w) x n (nI i) (nI r0) (nI r1) (nI c0) (nI c1) a1 a2 a3 s.1 s.2.1 s.2.2.1 s.2.2.2.1 a8 s.2.2.2.2 a10 a11)
    (fun i s => ca_J q (ca_ap w x (ca_P k i (ca_D r0 r1 c0 c1)) V) s.1 s.2.1 s.2.2.1 s.2.2.2.1 s.2.2.2.2) 16 0 (a4, a5, a6, a7, a9) (by omega) (ca_J_congr (fun k i _ _ => (ca_ap_f ca_P0).symm) hJ) ?_ ?_
  · rintro n ⟨b4, b5, b6, b7, b9⟩ h
    exact pk_le 16 16 (fun _ => H b4 b5 b6 b7 b9 h) (fun z => absurd z (by omega))
  · rintro n i ⟨b4, b5, b6, b7, b9⟩ hi h hs
    refine pk_le 16 i (fun z => absurd z (by omega)) (fun _ => ⟨by decide, by decide, nm_r (ca_row (by omega) (by omega)) ⟨by decide, by decide, nm_r (ca_col (by omega) (by omega)) ?_⟩⟩)
    refine ca_inRegion hk hi hr0 hr1 hc0 hc1 (fun hin => br_f (by decide) ?_) (fun hout => br_t rfl (nm_r (nI_1 i) (hs (b4, b5, b6, b7, b9) (ca_J_congr (fun k' j _ _ => ca_P_out hout) h))))
    refine ca_readK hk hi hK h.1 ?_
    refine ca_result hw ?_
    refine ca_writeK hk hi hK h (fun d4 d5 d6 d7 d9 hd => ?_)
    exact nm_r (nI_1 i) (hs (d4, d5, d6, d7, d9) (ca_J_congr (fun k' j _ _ => ca_P_in hin) hd))
theorem ca_change25 {post : Int32 → St2 → Prop} {q : Prop} {V : Nat → Nat → Int32} {w r0 r1 c0 c1 : Nat} {x : Int32} (hw : w < 3) (hr : r0 ≤ r1) (hr1 : r1 < 16) (hc : c0 ≤ c1) (hc1 : c1 < 16) (hK : ca_K a2 a3) (hJ : ca_J q V a4 a5 a6 a7 a9)
    (H : ∀ b4 b5 b6 b7 b9, ca_J q (ca_ap w x (ca_D r0 r1 c0 c1) V) b4 b5 b6 b7 b9 → post (nI ((r1 - r0 + 1) * (c1 - c0 + 1))) (nI r0, nI r1, nI c0, nI c1, a1, a2, a3, b4, b5, b6, b7, a8, b9, a10, a11)) :
    ∃ n, wX_change_25 post (nI w) x n 0 (nI r0) (nI r1) (nI c0) (nI c1) a1 a2 a3 a4 a5 a6 a7 a8 a9 a10 a11 := by
  have hr0 : r0 < 16 := by omega
  have hc0 : c0 < 16 := by omega
  refine pk_loop (σ := (Nat → Int32) × (Nat → Int32) × (Nat → Int32) × (Nat → Int32) × (Nat → Int32)) (fun n i s => wX_change_25 post (nI w) x n (nI i) (nI r0) (nI r1) (nI c0) (nI c1) a1 a2 a3 s.1 s.2.1 s.2.2.1 s.2.2.2.1 a8 s.2.2.2.2 a10 a11)
    (fun i s => ca_J q (ca_ap w x (ca_Q i (ca_D r0 r1 c0 c1)) V) s.1 s.2.1 s.2.2.1 s.2.2.2.1 s.2.2.2.2) 16 0 (a4, a5, a6, a7, a9) (by omega) (ca_J_congr (fun k i _ _ => (ca_ap_f ca_Q0).symm) hJ) ?_ ?_
  · rintro n ⟨b4, b5, b6, b7, b9⟩ h
    refine pk_le 16 16 (fun _ => ?_) (fun z => absurd z (by omega))
    exact ca_regionSize hr hc (H b4 b5 b6 b7 b9 (ca_J_congr (fun k i hk _ => ca_ap_c (ca_Q16 hk)) h))
  · rintro n k ⟨b4, b5, b6, b7, b9⟩ hk h hs
    refine pk_le 16 k (fun z => absurd z (by omega)) (fun _ => ?_)
    have part : ∀ (d4 d5 d6 d7 d9 : Nat → Int32), ca_J q (ca_ap w x (ca_P k 16 (ca_D r0 r1 c0 c1)) (ca_ap w x (ca_Q k (ca_D r0 r1 c0 c1)) V)) d4 d5 d6 d7 d9 → ca_J q (ca_ap w x (ca_Q (k + 1) (ca_D r0 r1 c0 c1)) V) d4 d5 d6 d7 d9 :=
      fun d4 d5 d6 d7 d9 hd => ca_J_congr (fun k' j _ hj => ca_Q_part hj) hd
    refine ca_covers hk hr0 hr1 hc0 hc1 (fun hcov => ?_) (fun _ => ?_)
    · refine ca_touches hk hr0 hr1 hc0 hc1 (fun _ => br_f (by decide) ?_) (fun _ => br_f (by decide) ?_)
      all_goals exact ca_changeWhole hk hw hK h (fun d5 d6 d9 hd => nm_r (nI_1 k) (hs (b4, d5, d6, b7, d9) (ca_J_congr (fun k' j _ hj => ca_Q_whole hj (fun i hi => ca_D_t (by omega))) hd)))
    · refine ca_touches hk hr0 hr1 hc0 hc1 (fun _ => br_t rfl (br_f (by decide) ?_)) (fun ht => br_t rfl (br_t rfl ?_))
      · exact ca_changePart hk hw hr0 hr1 hc0 hc1 hK h (fun d4 d5 d6 d7 d9 hd => nm_r (nI_1 k) (hs (d4, d5, d6, d7, d9) (part d4 d5 d6 d7 d9 hd)))
      · exact nm_r (nI_1 k) (hs (b4, b5, b6, b7, b9) (ca_J_congr (fun k' j _ hj => ca_Q_none hj (fun i hi => ca_D_f (by omega))) h))
/-- the region of two cells, and its size -/
def ca_R (p t : Nat) : Nat → Nat → Bool := ca_D (min (p % 16) (t % 16)) (max (p % 16) (t % 16)) (min (p / 16) (t / 16)) (max (p / 16) (t / 16))
def ca_Z (p t : Nat) : Nat := (max (p % 16) (t % 16) - min (p % 16) (t % 16) + 1) * (max (p / 16) (t / 16) - min (p / 16) (t / 16) + 1)
theorem ca_change {post : Int32 → St2 → Prop} {q : Prop} {V : Nat → Nat → Int32} {w p t : Nat} {x : Int32} (hw : w < 3) (hp : p < 256) (ht : t < 256) (hK : ca_K a2 a3) (hJ : ca_J q V a4 a5 a6 a7 a9)
    (H : ∀ g0 g1 g2 g3 b4 b5 b6 b7 b9, ca_J q (ca_ap w x (ca_R p t) V) b4 b5 b6 b7 b9 → post (nI (ca_Z p t)) (g0, g1, g2, g3, a1, a2, a3, b4, b5, b6, b7, a8, b9, a10, a11)) :
    wpX_change post (f0, f1, f2, f3, a1, a2, a3, a4, a5, a6, a7, a8, a9, a10, a11) (nI p) (nI t) (nI w) x := by
  unfold wpX_change
  dsimp only
  refine ca_bad hp (br_t rfl ?_)
  refine ca_bad ht (br_t rfl ?_)
  refine ca_setRegion hp ht ?_
  exact ca_change25 hw (by omega) (by omega) (by omega) (by omega) hK hJ (fun b4 b5 b6 b7 b9 h => H _ _ _ _ b4 b5 b6 b7 b9 h)
theorem ca_fill {post : Int32 → St2 → Prop} {q : Prop} {V : Nat → Nat → Int32} {p t : Nat} {x : Int32} (hp : p < 256) (ht : t < 256) (hK : ca_K a2 a3) (hJ : ca_J q V a4 a5 a6 a7 a9)
    (H : ∀ g0 g1 g2 g3 b4 b5 b6 b7 b9, ca_J q (ca_ap 0 x (ca_R p t) V) b4 b5 b6 b7 b9 → post (nI (ca_Z p t)) (g0, g1, g2, g3, a1, a2, a3, b4, b5, b6, b7, a8, b9, a10, a11)) :
    wpX_fill post (f0, f1, f2, f3, a1, a2, a3, a4, a5, a6, a7, a8, a9, a10, a11) (nI p) (nI t) x := by
  unfold wpX_fill
  dsimp only
  exact ca_change (w := 0) (by decide) hp ht hK hJ H
theorem ca_add {post : Int32 → St2 → Prop} {q : Prop} {V : Nat → Nat → Int32} {p t : Nat} {x : Int32} (hp : p < 256) (ht : t < 256) (hK : ca_K a2 a3) (hJ : ca_J q V a4 a5 a6 a7 a9)
    (H : ∀ g0 g1 g2 g3 b4 b5 b6 b7 b9, ca_J q (ca_ap 1 x (ca_R p t) V) b4 b5 b6 b7 b9 → post (nI (ca_Z p t)) (g0, g1, g2, g3, a1, a2, a3, b4, b5, b6, b7, a8, b9, a10, a11)) :
    wpX_add post (f0, f1, f2, f3, a1, a2, a3, a4, a5, a6, a7, a8, a9, a10, a11) (nI p) (nI t) x := by
  unfold wpX_add
  dsimp only
  exact ca_change (w := 1) (by decide) hp ht hK hJ H
theorem ca_scale {post : Int32 → St2 → Prop} {q : Prop} {V : Nat → Nat → Int32} {p t : Nat} {x : Int32} (hp : p < 256) (ht : t < 256) (hK : ca_K a2 a3) (hJ : ca_J q V a4 a5 a6 a7 a9)
    (H : ∀ g0 g1 g2 g3 b4 b5 b6 b7 b9, ca_J q (ca_ap 2 x (ca_R p t) V) b4 b5 b6 b7 b9 → post (nI (ca_Z p t)) (g0, g1, g2, g3, a1, a2, a3, b4, b5, b6, b7, a8, b9, a10, a11)) :
    wpX_scale post (f0, f1, f2, f3, a1, a2, a3, a4, a5, a6, a7, a8, a9, a10, a11) (nI p) (nI t) x := by
  unfold wpX_scale
  dsimp only
  exact ca_change (w := 2) (by decide) hp ht hK hJ H
end
end
section
section
variable {a1 a2 a3 a4 a5 a6 a7 a8 a9 a10 a11 : Nat → Int32} {f0 f1 f2 f3 : Int32}
theorem ca_init {post : St2 → Prop} {mc ms : Nat} (hmc : 11 ≤ mc) (hms : 2181 ≤ ms)
    (H : ∀ a1 a2 a3 a5, ca_K a2 a3 → post (f0, f1, f2, f3, a1, a2, a3, (fun _ => 0), a5, (fun _ => 0), (fun _ => 0), (fun _ => 0), (fun _ => 0), (fun _ => 0), (fun _ => 0))) :
    wpX_init post mc ms (f0, f1, f2, f3) := by
  unfold wpX_init
  dsimp only
  refine ⟨by omega, by omega, by omega, by omega, by omega, by omega, by omega, by omega, by omega, by omega, by omega, by omega, by omega, by omega, by omega, by omega, by omega, by omega, by omega, by omega, by omega, by omega, nm_e ?_⟩
  refine pk_loop (σ := (Nat → Int32) × (Nat → Int32) × (Nat → Int32)) (fun n i s => wX_init_102 post mc ms 11 2181 f0 f1 f2 f3 n (nI i) (upd (fun _ => 0) 4 1) s.1 s.2.1 (fun _ => 0) s.2.2 (fun _ => 0) (fun _ => 0) (fun _ => 0) (fun _ => 0) (fun _ => 0) (fun _ => 0))
    (fun i s => ∀ k, k < i → s.1 (64 + k) = nI k ∧ s.2.1 k = 1) 16 0 ((fun _ => 0), (fun _ => 0), (fun _ => 0)) (by omega) (fun k hk => absurd hk (by omega)) ?_ ?_
  · rintro n ⟨b2, b3, b5⟩ h
    exact pk_le 16 16 (fun _ => H _ b2 b3 b5 h) (fun z => absurd z (by omega))
  · rintro n i ⟨b2, b3, b5⟩ hi h hs
    refine pk_le 16 i (fun z => absurd z (by omega)) (fun _ => ?_)
    rw [ca_64, nI_clamp (show 64 + i < 2 ^ 31 by omega), nI_clamp (show i < 2 ^ 31 by omega)]
    refine ⟨vp_in_nI (by omega) (by decide), nm_e ⟨vp_in_nI (by omega) (by decide), nm_e ⟨vp_in_nI (by omega) (by decide), nm_e (nm_r (nI_1 i) (hs (upd b2 (64 + i) (nI i), upd b3 i 1, upd b5 i 1) ?_))⟩⟩⟩
    intro k hk
    show upd b2 (64 + i) (nI i) (64 + k) = nI k ∧ upd b3 i 1 k = 1
    by_cases e : k = i
    · rw [e, pk_us, pk_us]
      exact ⟨rfl, rfl⟩
    · rw [pk_un (by omega), pk_un e]
      exact h k (by omega)
theorem ca_get {post : Int32 → Prop} {V : Nat → Nat → Int32} {p : Nat} (hp : p < 256) (hK : ca_K a2 a3) (hV : ca_V V a4 a5 a6) (H : post (V (p % 16 / 4 * 4 + p / 16 / 4) (p % 16 % 4 * 4 + p / 16 % 4))) : wpX_get post (f0, f1, f2, f3, a1, a2, a3, a4, a5, a6, a7, a8, a9, a10, a11) (nI p) := by
  unfold wpX_get
  dsimp only
  refine ca_bad hp (br_t rfl ?_)
  rw [ca_and15 (show p < 2 ^ 32 by omega), ca_sh4 (show p < 2 ^ 31 by omega)]
  exact ca_read (by omega) (by omega) hK hV H
/-! sums -/
def ca_s (f : Nat → Int32) : Nat → Int32
  | 0 => 0
  | n + 1 => ca_s f n + f n
theorem ca_s_congr {f g : Nat → Int32} : ∀ n, (∀ i, i < n → f i = g i) → ca_s f n = ca_s g n
  | 0, _ => rfl
  | n + 1, h => by
    show ca_s f n + f n = ca_s g n + g n
    rw [ca_s_congr n (fun i hi => h i (by omega)), h n (by omega)]
theorem ca_s_lin (g : Nat → Int32) (f s : Int32) : ∀ n, ca_s (fun i => g i * f + s) n = ca_s g n * f + nI n * s
  | 0 => by
    show (0 : Int32) = 0 * f + 0 * s
    rw [Int32.zero_mul, Int32.zero_mul, Int32.add_zero]
  | n + 1 => by
    show ca_s (fun i => g i * f + s) n + (g n * f + s) = (ca_s g n + g n) * f + nI (n + 1) * s
    rw [ca_s_lin g f s n, ← nI_1]
    grind
theorem ca_wholeSum {post : Int32 → St2 → Prop} {V : Nat → Nat → Int32} {k : Nat} (hk : k < 16) (hV : ca_V V a4 a5 a6) (h7 : a7 k = 0)
    (H : ∀ b7 b8, (∀ j, j ≠ k → b7 j = a7 j) → post (ca_s (V k) 16) (f0, f1, f2, f3, a1, a2, a3, a4, a5, a6, b7, b8, a9, a10, a11)) :
    wpX_wholeSum post (f0, f1, f2, f3, a1, a2, a3, a4, a5, a6, a7, a8, a9, a10, a11) (nI k) := by
  unfold wpX_wholeSum
  dsimp only
  rw [nI_clamp (show k < 2 ^ 31 by omega)]
  refine ⟨vp_in_nI (by omega) (by decide), br_t h7 ?_⟩
  refine pk_loop (σ := Unit) (fun n i _ => wX_wholeSum_13 post (nI k) f0 f1 f2 f3 a1 a2 a3 a4 a5 a6 a7 a8 a9 a10 a11 n (ca_s (fun j => a4 (k * 16 + j)) i) (nI i)) (fun _ _ => True) 16 0 () (by omega) trivial ?_ ?_
  · intro n _ _
    refine pk_le 16 16 (fun _ => ?_) (fun z => absurd z (by omega))
    rw [nI_clamp (show k < 2 ^ 31 by omega)]
    refine ⟨vp_in_nI (by omega) (by decide), nm_e ⟨vp_in_nI (by omega) (by decide), nm_e ?_⟩⟩
    unfold wX_wholeSum_53
    rw [nI_clamp (show k < 2 ^ 31 by omega)]
    refine ⟨vp_in_nI (by omega) (by decide), vp_in_nI (by omega) (by decide), vp_in_nI (by omega) (by decide), ?_⟩
    have e : upd a8 k (ca_s (fun j => a4 (k * 16 + j)) 16) k * a5 k + 16 * a6 k = ca_s (V k) 16 := by
      rw [pk_us, show (16 : Int32) = nI 16 from rfl, ← ca_s_lin]
      exact ca_s_congr 16 (fun i hi => hV k i hk hi)
    rw [e]
    exact H _ _ (fun j hj => pk_un hj)
  · intro n i _ hi _ hs
    refine pk_le 16 i (fun z => absurd z (by omega)) (fun _ => ?_)
    rw [ca_cell, nI_clamp (show k * 16 + i < 2 ^ 31 by omega)]
    exact ⟨vp_in_nI (by omega) (by decide), nm_e (nm_r (nI_1 i) (hs () trivial))⟩
theorem ca_sum {post : Int32 → St2 → Prop} {V : Nat → Nat → Int32} (hK : ca_K a2 a3) (hV : ca_V V a4 a5 a6) (h7 : ∀ k, k < 16 → a7 k = 0)
    (H : ∀ g0 g1 g2 g3 b7 b8, post (ca_s (fun k => ca_s (V k) 16) 16) (g0, g1, g2, g3, a1, a2, a3, a4, a5, a6, b7, b8, a9, a10, a11)) :
    wpX_sum post (f0, f1, f2, f3, a1, a2, a3, a4, a5, a6, a7, a8, a9, a10, a11) 0 255 := by
  unfold wpX_sum
  dsimp only
  refine ca_bad (p := 0) (by decide) (br_t rfl ?_)
  refine ca_bad (p := 255) (by decide) (br_t rfl ?_)
  refine ca_setRegion (p := 0) (q := 255) (by decide) (by decide) ?_
  refine pk_loop (σ := (Nat → Int32) × (Nat → Int32)) (fun n i s => wX_sum_27 post n (ca_s (fun k => ca_s (V k) 16) i) (nI i) (nI 0) (nI 15) (nI 0) (nI 15) a1 a2 a3 a4 a5 a6 s.1 s.2 a9 a10 a11) (fun i s => ∀ k, i ≤ k → k < 16 → s.1 k = 0) 16 0 (a7, a8) (by omega) (fun k _ hk => h7 k hk) ?_ ?_
  · rintro n ⟨b7, b8⟩ _
    exact pk_le 16 16 (fun _ => H _ _ _ _ b7 b8) (fun z => absurd z (by omega))
  · rintro n k ⟨b7, b8⟩ hk h hs
    refine pk_le 16 k (fun z => absurd z (by omega)) (fun _ => ?_)
    have e : a2 (64 + nI k).toNatClampNeg = nI k := by
      rw [ca_64, nI_clamp (show 64 + k < 2 ^ 31 by omega)]
      exact (hK k hk).1
    refine ca_covers hk (by decide) (by decide) (by decide) (by decide) (fun _ => ?_) (fun z => absurd z (by omega))
    refine ca_touches hk (by decide) (by decide) (by decide) (by decide) (fun _ => br_f (by decide) ?_) (fun _ => br_f (by decide) ?_)
    all_goals
      rw [e]
      refine ⟨pk_in (64 + k) 80 (by omega) (ca_64 k), ca_wholeSum hk hV (h k (Nat.le_refl k) hk) (fun d7 d8 hd => nm_e (nm_r (nI_1 k) (hs (d7, d8) (fun j h1 h2 => ?_))))⟩
      show d7 j = 0
      rw [show d7 j = b7 j from hd j (by omega)]
      exact h j (by omega) h2
theorem ca_count46 {post : Int32 → St2 → Prop} {J31 : Int32 → Int32 → Prop} {V : Nat → Nat → Int32} {v : Int32} {N r r0 r1 c0 c1 : Nat} (hr : r < 16) (hc : c0 ≤ c1) (hc1 : c1 < 16) (hK : ca_K a2 a3) (hV : ca_V V a4 a5 a6)
    (hall : ∀ c, c0 ≤ c → c ≤ c1 → V (r / 4 * 4 + c / 4) (r % 4 * 4 + c % 4) = v) (H : J31 (nI (N + (c1 - c0 + 1))) (nI (r + 1))) :
    ∃ n, wX_count_46 post J31 v (nI r) (nI r0) (nI r1) (nI c0) (nI c1) a1 a2 a3 a4 a5 a6 a7 a8 a9 a10 a11 n (nI N) (nI c0) := by
  refine pk_loop (σ := Unit) (fun n j _ => wX_count_46 post J31 v (nI r) (nI r0) (nI r1) (nI c0) (nI c1) a1 a2 a3 a4 a5 a6 a7 a8 a9 a10 a11 n (nI (N + j)) (nI (c0 + j))) (fun _ _ => True) (c1 - c0 + 1) 0 () (by omega) trivial ?_ ?_
  · intro n _ _
    exact pk_lt c1 (c0 + (c1 - c0 + 1)) (fun _ => nm_r (nI_1 r) H) (fun z => absurd z (by omega))
  · intro n j _ hj _ hs
    exact pk_lt c1 (c0 + j) (fun z => absurd z (by omega)) (fun z => ca_read hr (by omega) hK hV (br_t (hall _ (by omega) z) (nm_r (nI_1 (N + j)) (nm_r (nI_1 (c0 + j)) (hs () trivial)))))
theorem ca_count {post : Int32 → St2 → Prop} {V : Nat → Nat → Int32} {v : Int32} {p t : Nat} (hp : p < 256) (ht : t < 256) (hK : ca_K a2 a3) (hV : ca_V V a4 a5 a6)
    (hall : ∀ r c, min (p % 16) (t % 16) ≤ r → r ≤ max (p % 16) (t % 16) → min (p / 16) (t / 16) ≤ c → c ≤ max (p / 16) (t / 16) → V (r / 4 * 4 + c / 4) (r % 4 * 4 + c % 4) = v)
    (H : ∀ g0 g1 g2 g3, post (nI (ca_Z p t)) (g0, g1, g2, g3, a1, a2, a3, a4, a5, a6, a7, a8, a9, a10, a11)) :
    wpX_count post (f0, f1, f2, f3, a1, a2, a3, a4, a5, a6, a7, a8, a9, a10, a11) (nI p) (nI t) v := by
  unfold wpX_count
  dsimp only
  refine ca_bad hp (br_t rfl ?_)
  refine ca_bad ht (br_t rfl ?_)
  refine ca_setRegion hp ht ?_
  have hZ : ca_Z p t = (max (p / 16) (t / 16) - min (p / 16) (t / 16) + 1) * (max (p % 16) (t % 16) - min (p % 16) (t % 16) + 1) := Nat.mul_comm _ _
  rw [hZ] at H
  have b1 : min (p % 16) (t % 16) ≤ max (p % 16) (t % 16) := by omega
  have b2 : max (p % 16) (t % 16) < 16 := by omega
  have b3 : min (p / 16) (t / 16) ≤ max (p / 16) (t / 16) := by omega
  have b4 : max (p / 16) (t / 16) < 16 := by omega
  generalize min (p % 16) (t % 16) = r0 at *
  generalize max (p % 16) (t % 16) = r1 at *
  generalize min (p / 16) (t / 16) = c0 at *
  generalize max (p / 16) (t / 16) = c1 at *
  refine pk_loop (σ := Unit) (fun n j _ => wX_count_31 post v (nI r0) (nI r1) (nI c0) (nI c1) a1 a2 a3 a4 a5 a6 a7 a8 a9 a10 a11 n (nI ((c1 - c0 + 1) * j)) (nI (r0 + j))) (fun _ _ => True) (r1 - r0 + 1) 0 () (by omega) trivial ?_ ?_
  · intro n _ _
    exact pk_lt r1 (r0 + (r1 - r0 + 1)) (fun _ => H _ _ _ _) (fun z => absurd z (by omega))
  · intro n j _ hj _ hs
    exact pk_lt r1 (r0 + j) (fun z => absurd z (by omega)) (fun z => ca_count46 (by omega) b3 b4 hK hV (fun c h1 h2 => hall (r0 + j) c (by omega) z h1 h2) (hs () trivial))
theorem ca_partGreatest {post : Int32 → Prop} {V : Nat → Nat → Int32} {v : Int32} {k r0 r1 c0 c1 : Nat} (hk : k < 16) (hr0 : r0 < 16) (hr1 : r1 < 16) (hc0 : c0 < 16) (hc1 : c1 < 16) (hK : ca_K a2 a3) (hV : ca_V V a4 a5 a6)
    (hall : ∀ i, i < 16 → ca_D r0 r1 c0 c1 k i = true → V k i = v) (H : post v) : wpX_partGreatest post (nI r0, nI r1, nI c0, nI c1, a1, a2, a3, a4, a5, a6, a7, a8, a9, a10, a11) (nI k) v := by
  unfold wpX_partGreatest
  dsimp only
  refine pk_loop (σ := Unit) (fun n i _ => wX_partGreatest_5 post (nI k) (nI r0) (nI r1) (nI c0) (nI c1) a1 a2 a3 a4 a5 a6 a7 a8 a9 a10 a11 n v (nI i)) (fun _ _ => True) 16 0 () (by omega) trivial ?_ ?_
  · intro n _ _
    exact pk_le 16 16 (fun _ => H) (fun z => absurd z (by omega))
  · intro n i _ hi _ hs
    refine pk_le 16 i (fun z => absurd z (by omega)) (fun _ => ⟨by decide, by decide, nm_r (ca_row (by omega) (by omega)) ⟨by decide, by decide, nm_r (ca_col (by omega) (by omega)) ?_⟩⟩)
    refine ca_inRegion hk hi hr0 hr1 hc0 hc1 (fun hin => ?_) (fun hout => ?_)
    · refine ca_readK hk hi hK hV (br_f (by decide) (br_t ?_ (nm_r (nI_1 i) (hs () trivial))))
      rw [hall i hi hin]
      exact Int32.le_refl v
    · exact ca_readK hk hi hK hV (br_t rfl (nm_r (nI_1 i) (hs () trivial)))
theorem ca_wholeGreatest {post : Int32 → St2 → Prop} {V : Nat → Nat → Int32} {v : Int32} {k : Nat} (hk : k < 16) (hV : ca_V V a4 a5 a6) (h9 : a9 k = 0) (hall : ∀ i, i < 16 → V k i = v)
    (H : ∀ b9 b10, (∀ j, j ≠ k → b9 j = a9 j) → post v (f0, f1, f2, f3, a1, a2, a3, a4, a5, a6, a7, a8, b9, b10, a11)) :
    wpX_wholeGreatest post (f0, f1, f2, f3, a1, a2, a3, a4, a5, a6, a7, a8, a9, a10, a11) (nI k) := by
  unfold wpX_wholeGreatest
  dsimp only
  have e : nI k * 16 = nI (k * 16) := pk_mul k 16
  have ev : ∀ i, i < 16 → a4 (k * 16 + i) * a5 k + a6 k = v := fun i hi => by rw [hV k i hk hi, hall i hi]
  have e0 : a4 (k * 16) * a5 k + a6 k = v := ev 0 (by decide)
  rw [e, nI_clamp (show k < 2 ^ 31 by omega), nI_clamp (show k * 16 < 2 ^ 31 by omega)]
  refine ⟨vp_in_nI (by omega) (by decide), br_t h9 ⟨vp_in_nI (by omega) (by decide), vp_in_nI (by omega) (by decide), vp_in_nI (by omega) (by decide), nm_r e0 ?_⟩⟩
  refine pk_loop (σ := Unit) (fun n i _ => wX_wholeGreatest_35 post (nI k) f0 f1 f2 f3 a1 a2 a3 a4 a5 a6 a7 a8 a9 a10 a11 n v (nI i)) (fun _ _ => True) 16 1 () (by omega) trivial ?_ ?_
  · intro n _ _
    refine pk_le 16 16 (fun _ => ?_) (fun z => absurd z (by omega))
    rw [nI_clamp (show k < 2 ^ 31 by omega)]
    refine ⟨vp_in_nI (by omega) (by decide), nm_e ⟨vp_in_nI (by omega) (by decide), nm_e ⟨vp_in_nI (by omega) (by decide), ?_⟩⟩⟩
    rw [pk_us]
    exact H _ _ (fun j hj => pk_un hj)
  · intro n i _ hi _ hs
    refine pk_le 16 i (fun z => absurd z (by omega)) (fun _ => ?_)
    rw [ca_cell, nI_clamp (show k < 2 ^ 31 by omega), nI_clamp (show k * 16 + i < 2 ^ 31 by omega)]
    exact ⟨vp_in_nI (by omega) (by decide), vp_in_nI (by omega) (by decide), vp_in_nI (by omega) (by decide), nm_r (ev i hi) (br_t (Int32.le_refl v) (nm_r (nI_1 i) (hs () trivial)))⟩
theorem ca_greatest39 {post : Int32 → St2 → Prop} {V : Nat → Nat → Int32} {v : Int32} {r0 r1 c0 c1 : Nat} (hr0 : r0 < 16) (hr1 : r1 < 16) (hc0 : c0 < 16) (hc1 : c1 < 16) (hK : ca_K a2 a3) (hV : ca_V V a4 a5 a6) (h9 : ∀ k, k < 16 → a9 k = 0)
    (hall : ∀ k i, k < 16 → i < 16 → ca_D r0 r1 c0 c1 k i = true → V k i = v)
    (H : ∀ b9 b10, (∀ k, k < 16 → b9 k = 0 ∨ (r0 + 3 ≤ r1)) → post v (nI r0, nI r1, nI c0, nI c1, a1, a2, a3, a4, a5, a6, a7, a8, b9, b10, a11)) :
    ∃ n, wX_greatest_39 post n v 0 (nI r0) (nI r1) (nI c0) (nI c1) a1 a2 a3 a4 a5 a6 a7 a8 a9 a10 a11 := by
  refine pk_loop (σ := (Nat → Int32) × (Nat → Int32)) (fun n i s => wX_greatest_39 post n v (nI i) (nI r0) (nI r1) (nI c0) (nI c1) a1 a2 a3 a4 a5 a6 a7 a8 s.1 s.2 a11) (fun i s => ∀ k, k < 16 → s.1 k = 0 ∨ (r0 + 3 ≤ r1 ∧ k < i)) 16 0 (a9, a10) (by omega) (fun k hk => Or.inl (h9 k hk)) ?_ ?_
  · rintro n ⟨b9, b10⟩ h
    refine pk_le 16 16 (fun _ => H b9 b10 (fun k hk => ?_)) (fun z => absurd z (by omega))
    rcases h k hk with z | z
    · exact Or.inl z
    · exact Or.inr z.1
  · rintro n k ⟨b9, b10⟩ hk h hs
    refine pk_le 16 k (fun z => absurd z (by omega)) (fun _ => ?_)
    have up : ∀ j, j < 16 → b9 j = 0 ∨ (r0 + 3 ≤ r1 ∧ j < k + 1) := fun j hj => by
      rcases h j hj with z | z
      · exact Or.inl z
      · exact Or.inr ⟨z.1, by omega⟩
    have e : a2 (64 + nI k).toNatClampNeg = nI k := by
      rw [ca_64, nI_clamp (show 64 + k < 2 ^ 31 by omega)]
      exact (hK k hk).1
    have z9 : b9 k = 0 := by
      rcases h k hk with z | z
      · exact z
      · exact absurd z.2 (by omega)
    refine ca_covers hk hr0 hr1 hc0 hc1 (fun hcov => ?_) (fun _ => ?_)
    · refine ca_touches hk hr0 hr1 hc0 hc1 (fun _ => br_f (by decide) ?_) (fun _ => br_f (by decide) ?_)
      all_goals
        rw [e]
        refine ⟨pk_in (64 + k) 80 (by omega) (ca_64 k), ca_wholeGreatest hk hV z9 (fun i hi => hall k i hk hi (ca_D_t (by omega))) (fun d9 d10 hd => br_t (Int32.le_refl v) (nm_r (nI_1 k) (hs (d9, d10) (fun j hj => ?_))))⟩
        by_cases ej : j = k
        · exact Or.inr ⟨by omega, by omega⟩
        · show d9 j = 0 ∨ (r0 + 3 ≤ r1 ∧ j < k + 1)
          rw [show d9 j = b9 j from hd j ej]
          exact up j hj
    · refine ca_touches hk hr0 hr1 hc0 hc1 (fun _ => br_t rfl (br_f (by decide) ?_)) (fun _ => br_t rfl (br_t rfl ?_))
      · exact ca_partGreatest hk hr0 hr1 hc0 hc1 hK hV (fun i hi hD => hall k i hk hi hD) (nm_r (nI_1 k) (hs (b9, b10) up))
      · exact nm_r (nI_1 k) (hs (b9, b10) up)
theorem ca_rc1 {r c : Nat} (hr : r < 16) (hc : c < 16) : (r / 4 * 4 + c / 4) / 4 * 4 + (r % 4 * 4 + c % 4) / 4 = r := by
  rw [show (r / 4 * 4 + c / 4) / 4 = r / 4 by omega, show (r % 4 * 4 + c % 4) / 4 = r % 4 by omega]
  omega
theorem ca_rc2 {r c : Nat} (hr : r < 16) (hc : c < 16) : (r / 4 * 4 + c / 4) % 4 * 4 + (r % 4 * 4 + c % 4) % 4 = c := by
  rw [show (r / 4 * 4 + c / 4) % 4 = c / 4 by omega, show (r % 4 * 4 + c % 4) % 4 = c % 4 by omega]
  omega
theorem ca_greatest {post : Int32 → St2 → Prop} {V : Nat → Nat → Int32} {v : Int32} {p t : Nat} (hp : p < 256) (ht : t < 256) (hK : ca_K a2 a3) (hV : ca_V V a4 a5 a6) (h9 : ∀ k, k < 16 → a9 k = 0)
    (hall : ∀ k i, k < 16 → i < 16 → ca_R p t k i = true → V k i = v)
    (H : ∀ g0 g1 g2 g3 b9 b10, (p = t → ∀ k, k < 16 → b9 k = 0) → post v (g0, g1, g2, g3, a1, a2, a3, a4, a5, a6, a7, a8, b9, b10, a11)) :
    wpX_greatest post (f0, f1, f2, f3, a1, a2, a3, a4, a5, a6, a7, a8, a9, a10, a11) (nI p) (nI t) := by
  unfold wpX_greatest
  dsimp only
  refine ca_bad hp (br_t rfl ?_)
  refine ca_bad ht (br_t rfl ?_)
  refine ca_setRegion hp ht ?_
  refine ca_read (by omega) (by omega) hK hV ?_
  rw [hall _ _ (by omega) (by omega) (ca_D_t (by
    rw [ca_rc1 (by omega) (by omega), ca_rc2 (by omega) (by omega)]
    omega))]
  refine ca_greatest39 (by omega) (by omega) (by omega) (by omega) hK hV h9 hall (fun b9 b10 h => H _ _ _ _ b9 b10 (fun e k hk => ?_))
  rcases h k hk with z | z
  · exact z
  · subst e
    exact absurd z (by omega)
end
end
section
/-! the plain law of sums: how many places a region has -/
def ca_n (f : Nat → Nat) : Nat → Nat
  | 0 => 0
  | n + 1 => ca_n f n + f n
theorem ca_n_congr {f g : Nat → Nat} : ∀ n, (∀ i, i < n → f i = g i) → ca_n f n = ca_n g n
  | 0, _ => rfl
  | n + 1, h => by
    show ca_n f n + f n = ca_n g n + g n
    rw [ca_n_congr n (fun i hi => h i (by omega)), h n (by omega)]
theorem ca_n16 (f : Nat → Nat) : ca_n f 16 = f 0 + f 1 + f 2 + f 3 + f 4 + f 5 + f 6 + f 7 + f 8 + f 9 + f 10 + f 11 + f 12 + f 13 + f 14 + f 15 := by
  show 0 + f 0 + f 1 + f 2 + f 3 + f 4 + f 5 + f 6 + f 7 + f 8 + f 9 + f 10 + f 11 + f 12 + f 13 + f 14 + f 15 = _
  rw [Nat.zero_add]
theorem ca_m44 (a b c d x y z t : Nat) : a * x + a * y + a * z + a * t + b * x + b * y + b * z + b * t + c * x + c * y + c * z + c * t + d * x + d * y + d * z + d * t = (a + b + c + d) * (x + y + z + t) := by
  simp only [Nat.add_mul, Nat.mul_add]
  omega
theorem ca_pr (F G : Nat → Nat) (a b : Nat) : ca_n (fun i => F (a + i / 4) * G (b + i % 4)) 16 = (F a + F (a + 1) + F (a + 2) + F (a + 3)) * (G b + G (b + 1) + G (b + 2) + G (b + 3)) := by
  rw [ca_n16]
  exact ca_m44 (F a) (F (a + 1)) (F (a + 2)) (F (a + 3)) (G b) (G (b + 1)) (G (b + 2)) (G (b + 3))
theorem ca_cnt2 (F G : Nat → Nat) : ca_n (fun k => ca_n (fun i => F (k / 4 * 4 + i / 4) * G (k % 4 * 4 + i % 4)) 16) 16 = ca_n F 16 * ca_n G 16 := by
  have h : ca_n (fun k => ca_n (fun i => F (k / 4 * 4 + i / 4) * G (k % 4 * 4 + i % 4)) 16) 16 = ca_n (fun k => (fun s => F (s * 4) + F (s * 4 + 1) + F (s * 4 + 2) + F (s * 4 + 3)) (0 + k / 4) * (fun s => G (s * 4) + G (s * 4 + 1) + G (s * 4 + 2) + G (s * 4 + 3)) (0 + k % 4)) 16 := by
    refine ca_n_congr 16 (fun k _ => ?_)
    show ca_n (fun i => F (k / 4 * 4 + i / 4) * G (k % 4 * 4 + i % 4)) 16 = _
    rw [ca_pr, Nat.zero_add, Nat.zero_add]
  refine h.trans ((ca_pr (fun s => F (s * 4) + F (s * 4 + 1) + F (s * 4 + 2) + F (s * 4 + 3)) (fun s => G (s * 4) + G (s * 4 + 1) + G (s * 4 + 2) + G (s * 4 + 3)) 0 0).trans ?_)
  rw [ca_n16 F, ca_n16 G]
  congr 1
  · show F 0 + F 1 + F 2 + F 3 + (F 4 + F 5 + F 6 + F 7) + (F 8 + F 9 + F 10 + F 11) + (F 12 + F 13 + F 14 + F 15) = _
    omega
  · show G 0 + G 1 + G 2 + G 3 + (G 4 + G 5 + G 6 + G 7) + (G 8 + G 9 + G 10 + G 11) + (G 12 + G 13 + G 14 + G 15) = _
    omega
theorem ca_cnt1 {x y : Nat} (h : x ≤ y) : ∀ n, ca_n (fun r => if x ≤ r ∧ r ≤ y then 1 else 0) n = min n (y + 1) - x
  | 0 => by
    show 0 = min 0 (y + 1) - x
    omega
  | n + 1 => by
    show ca_n (fun r => if x ≤ r ∧ r ≤ y then 1 else 0) n + (if x ≤ n ∧ n ≤ y then 1 else 0) = min (n + 1) (y + 1) - x
    rw [ca_cnt1 h n]
    by_cases e : x ≤ n ∧ n ≤ y
    · rw [if_pos e]
      omega
    · rw [if_neg e]
      omega
theorem ca_cnt {r0 r1 c0 c1 : Nat} (hr : r0 ≤ r1) (hr1 : r1 < 16) (hc : c0 ≤ c1) (hc1 : c1 < 16) : ca_n (fun k => ca_n (fun i => if ca_D r0 r1 c0 c1 k i = true then 1 else 0) 16) 16 = (r1 - r0 + 1) * (c1 - c0 + 1) := by
  have h : ca_n (fun k => ca_n (fun i => if ca_D r0 r1 c0 c1 k i = true then 1 else 0) 16) 16 = ca_n (fun k => ca_n (fun i => (fun r => if r0 ≤ r ∧ r ≤ r1 then 1 else 0) (k / 4 * 4 + i / 4) * (fun c => if c0 ≤ c ∧ c ≤ c1 then 1 else 0) (k % 4 * 4 + i % 4)) 16) 16 := by
    refine ca_n_congr 16 (fun k _ => ca_n_congr 16 (fun i _ => ?_))
    show (if ca_D r0 r1 c0 c1 k i = true then 1 else 0) = (if r0 ≤ k / 4 * 4 + i / 4 ∧ k / 4 * 4 + i / 4 ≤ r1 then 1 else 0) * (if c0 ≤ k % 4 * 4 + i % 4 ∧ k % 4 * 4 + i % 4 ≤ c1 then 1 else 0)
    by_cases e1 : r0 ≤ k / 4 * 4 + i / 4 ∧ k / 4 * 4 + i / 4 ≤ r1
    · rw [if_pos e1, Nat.one_mul]
      by_cases e2 : c0 ≤ k % 4 * 4 + i % 4 ∧ k % 4 * 4 + i % 4 ≤ c1
      · rw [if_pos e2, if_pos (ca_D_t ⟨e1.1, e1.2, e2.1, e2.2⟩)]
      · rw [if_neg e2, ca_D_f (fun z => e2 ⟨z.2.2.1, z.2.2.2⟩), if_neg Bool.false_ne_true]
    · rw [if_neg e1, Nat.zero_mul, ca_D_f (fun z => e1 ⟨z.1, z.2.1⟩), if_neg Bool.false_ne_true]
  refine h.trans ((ca_cnt2 (fun r => if r0 ≤ r ∧ r ≤ r1 then 1 else 0) (fun c => if c0 ≤ c ∧ c ≤ c1 then 1 else 0)).trans ?_)
  rw [ca_cnt1 hr, ca_cnt1 hc, show min 16 (r1 + 1) - r0 = r1 - r0 + 1 by omega, show min 16 (c1 + 1) - c0 = c1 - c0 + 1 by omega]
theorem ca_su (D : Nat → Bool) (u : Int32) : ∀ n, ca_s (fun i => if D i = true then u else 0) n = nI (ca_n (fun i => if D i = true then 1 else 0) n) * u
  | 0 => by
    show (0 : Int32) = 0 * u
    rw [Int32.zero_mul]
  | n + 1 => by
    show ca_s (fun i => if D i = true then u else 0) n + (if D n = true then u else 0) = nI (ca_n (fun i => if D i = true then 1 else 0) n + (if D n = true then 1 else 0)) * u
    rw [ca_su D u n]
    by_cases e : D n = true
    · rw [if_pos e, if_pos e, ← nI_1, Int32.add_mul, Int32.one_mul]
    · rw [if_neg e, if_neg e, Int32.add_zero, Nat.add_zero]
theorem ca_su2 (g : Nat → Nat) (u : Int32) : ∀ n, ca_s (fun k => nI (g k) * u) n = nI (ca_n g n) * u
  | 0 => by
    show (0 : Int32) = 0 * u
    rw [Int32.zero_mul]
  | n + 1 => by
    show ca_s (fun k => nI (g k) * u) n + nI (g n) * u = nI (ca_n g n + g n) * u
    rw [ca_su2 g u n, ← nI_add, Int32.add_mul]
theorem ca_s_add (f g : Nat → Int32) : ∀ n, ca_s (fun i => f i + g i) n = ca_s f n + ca_s g n
  | 0 => by
    show (0 : Int32) = 0 + 0
    rfl
  | n + 1 => by
    show ca_s (fun i => f i + g i) n + (f n + g n) = (ca_s f n + f n) + (ca_s g n + g n)
    rw [ca_s_add f g n]
    grind
theorem ca_sR (p t : Nat) (hp : p < 256) (ht : t < 256) (u : Int32) : ca_s (fun k => ca_s (fun i => if ca_R p t k i = true then u else 0) 16) 16 = nI (ca_Z p t) * u := by
  rw [ca_s_congr (g := fun k => nI (ca_n (fun i => if ca_R p t k i = true then 1 else 0) 16) * u) 16 (fun k _ => ca_su (fun i => ca_R p t k i) u 16), ca_su2 (fun k => ca_n (fun i => if ca_R p t k i = true then 1 else 0) 16) u 16]
  unfold ca_R ca_Z
  rw [ca_cnt (by omega) (by omega) (by omega) (by omega)]
theorem ca_V2 (D E : Nat → Nat → Bool) (u m : Int32) (k i : Nat) : ca_ap 1 m E (ca_ap 0 u D (fun _ _ => 0)) k i = (if D k i = true then u else 0) + (if E k i = true then m else 0) := by
  have h : ca_ap 0 u D (fun _ _ => 0) k i = (if D k i = true then u else 0) := rfl
  by_cases e : E k i = true
  · rw [ca_ap_t e, h, if_pos e]
    rfl
  · rw [ca_ap_f (Bool.eq_false_iff.mpr e), h, if_neg e, Int32.add_zero]
theorem ca_total (a b c d : Nat) (ha : a < 256) (hb : b < 256) (hc : c < 256) (hd : d < 256) (u m : Int32) : ca_s (fun k => ca_s (ca_ap 1 m (ca_R c d) (ca_ap 0 u (ca_R a b) (fun _ _ => 0)) k) 16) 16 = nI (ca_Z a b) * u + nI (ca_Z c d) * m := by
  rw [← ca_sR a b ha hb u, ← ca_sR c d hc hd m, ← ca_s_add]
  refine ca_s_congr 16 (fun k _ => ?_)
  show ca_s (ca_ap 1 m (ca_R c d) (ca_ap 0 u (ca_R a b) (fun _ _ => 0)) k) 16 = ca_s (fun i => if ca_R a b k i = true then u else 0) 16 + ca_s (fun i => if ca_R c d k i = true then m else 0) 16
  rw [← ca_s_add]
  exact ca_s_congr 16 (fun i _ => ca_V2 _ _ u m k i)
theorem ca_Zc (p t : Nat) : ca_Z p t = ca_Z t p := by
  unfold ca_Z
  rw [Nat.max_comm (p % 16), Nat.min_comm (p % 16), Nat.max_comm (p / 16), Nat.min_comm (p / 16)]
theorem ca_at1 {p : Nat} (hp : p < 256) : (p % 16 / 4 * 4 + p / 16 / 4) / 4 * 4 + (p % 16 % 4 * 4 + p / 16 % 4) / 4 = p % 16 := ca_rc1 (by omega) (by omega)
theorem ca_at2 {p : Nat} (hp : p < 256) : (p % 16 / 4 * 4 + p / 16 / 4) % 4 * 4 + (p % 16 % 4 * 4 + p / 16 % 4) % 4 = p / 16 := ca_rc2 (by omega) (by omega)
/-- is the cell p in the region of s and t? -/
theorem ca_R_iff {p s t : Nat} (hp : p < 256) : ca_R s t (p % 16 / 4 * 4 + p / 16 / 4) (p % 16 % 4 * 4 + p / 16 % 4) = true ↔ (min (s % 16) (t % 16) ≤ p % 16 ∧ p % 16 ≤ max (s % 16) (t % 16)) ∧ (min (s / 16) (t / 16) ≤ p / 16 ∧ p / 16 ≤ max (s / 16) (t / 16)) := by
  unfold ca_R
  rw [ca_D_iff, ca_at1 hp, ca_at2 hp, and_assoc]
end
section
section
variable {a1 a2 a3 a4 a5 a6 a7 a8 a9 a10 a11 : Nat → Int32} {f0 f1 f2 f3 : Int32}
theorem ca_all (x : Int32) (V : Nat → Nat → Int32) {k i : Nat} (hk : k < 16) (hi : i < 16) : ca_ap 0 x (ca_R 15 240) V k i = x := by
  rw [ca_ap_t (show ca_R 15 240 k i = true from ca_D_t (by omega))]
  rfl
theorem ca_232 {post : Int32 → St0 → Prop} {mc ms kc ks : Nat} {q : Prop} {V : Nat → Nat → Int32} {x z : Int32} {a c : Nat} (ha : a < 256) (hc : c < 256) (hK : ca_K a2 a3) (hJ : ca_J q V a4 a5 a6 a7 a9)
    (hz : V (c % 16 / 4 * 4 + c / 16 / 4) (c % 16 % 4 * 4 + c / 16 % 4) = z) (H : post 1 ()) : wL_lawOf_232 post mc ms x (nI a) (nI c) z kc ks f0 f1 f2 f3 a1 a2 a3 a4 a5 a6 a7 a8 a9 a10 a11 := by
  unfold wL_lawOf_232
  refine ca_get hc hK hJ.1 (br_t hz ?_)
  refine ca_count hc hc hK hJ.1 (fun r s h1 h2 h3 h4 => ?_) (fun g0 g1 g2 g3 => br_t ?_ ?_)
  · rw [show r = c % 16 by omega, show s = c / 16 by omega]
    exact hz
  · rw [show ca_Z c c = 1 by unfold ca_Z; rw [Nat.max_self, Nat.min_self, Nat.max_self, Nat.min_self, Nat.sub_self, Nat.sub_self]]
    rfl
  refine ca_greatest hc hc hK hJ.1 hJ.2.1 (fun k i hk hi hD => ?_) (fun g0 g1 g2 g3 b9 b10 h9 => br_t rfl ?_)
  · have h := ca_D_iff.mp hD
    rw [Nat.max_self, Nat.min_self, Nat.max_self, Nat.min_self] at h
    have e1 : c % 16 = k / 4 * 4 + i / 4 := by omega
    have e2 : c / 16 = k % 4 * 4 + i % 4 := by omega
    rw [e1, e2, ca_rc1 hk hi, ca_rc2 hk hi] at hz
    exact hz
  refine ca_fill (p := 15) (t := 240) (q := False) (by decide) (by decide) hK ⟨hJ.1, h9 rfl, fun z => z.elim⟩ (fun g0 g1 g2 g3 d4 d5 d6 d7 d9 h4 => br_t rfl ?_)
  refine ca_count (p := 0) (t := 255) (by decide) (by decide) hK h4.1 (fun r s h1 h2 h3 h4 => ca_all x V (by omega) (by omega)) (fun g0 g1 g2 g3 => br_t rfl ?_)
  exact ca_greatest ha hc hK h4.1 h4.2.1 (fun k i hk hi _ => ca_all x V hk hi) (fun g0 g1 g2 g3 e9 e10 _ => br_t rfl H)
theorem ca_lawOf {post : Int32 → St0 → Prop} (H : post 1 ()) (x u m f : Int32) : wpL_lawOf post 12 2196 () x u m f := by
  unfold wpL_lawOf
  refine ⟨by decide, by decide, 11, 2181, by decide, by decide, ?_⟩
  refine ca_init (by decide) (by decide) (fun a1 a2 a3 a5 hK => ?_)
  obtain ⟨a, ha, ea⟩ := pk_andE x (m := 255) 8 (by decide)
  obtain ⟨b, hb, eb⟩ := pk_andE (x >>> ((8 : Int32) &&& 31)) (m := 255) 8 (by decide)
  obtain ⟨c, hc, ec⟩ := pk_andE (x >>> ((16 : Int32) &&& 31)) (m := 255) 8 (by decide)
  obtain ⟨d, hd, ed⟩ := pk_andE (x >>> ((24 : Int32) &&& 31)) (m := 255) 8 (by decide)
  refine nm_r ea (nm_r eb (nm_r ec (nm_r ed ?_)))
  have ha' : a < 256 := ha
  have hb' : b < 256 := hb
  have hc' : c < 256 := hc
  have hd' : d < 256 := hd
  rw [ca_and15 (show a < 2 ^ 32 by omega), ca_and15 (show b < 2 ^ 32 by omega), ca_and15 (show c < 2 ^ 32 by omega), ca_and15 (show d < 2 ^ 32 by omega),
    ca_sh4 (show a < 2 ^ 31 by omega), ca_sh4 (show b < 2 ^ 31 by omega), ca_sh4 (show c < 2 ^ 31 by omega), ca_sh4 (show d < 2 ^ 31 by omega)]
  refine ca_size (by omega) (by omega) ?_
  refine ca_size (by omega) (by omega) ?_
  refine nm_r (show _ = nI (ca_Z a b) from pk_mul _ _) ?_
  refine ca_size (by omega) (by omega) ?_
  refine ca_size (by omega) (by omega) ?_
  refine nm_r (show _ = nI (ca_Z c d) from pk_mul _ _) ?_
  have h0 : ca_J True (fun _ _ => 0) (fun _ => 0) a5 (fun _ => 0) (fun _ => 0) (fun _ => 0) := ⟨fun k i _ _ => by
    show (0 : Int32) * a5 k + 0 = 0
    rw [Int32.zero_mul, Int32.add_zero], fun _ _ => rfl, fun _ _ _ => rfl⟩
  refine ca_fill ha' hb' hK h0 (fun g0 g1 g2 g3 b4 b5 b6 b7 b9 h1 => br_t rfl ?_)
  refine ca_add hc' hd' hK h1 (fun g0 g1 g2 g3 b4 b5 b6 b7 b9 h2 => br_t rfl ?_)
  refine ca_sum hK h2.1 (h2.2.2 trivial) (fun g0 g1 g2 g3 c7 c8 => br_t (ca_total a b c d ha' hb' hc' hd' u m) ?_)
  refine ca_scale hb' ha' hK (ca_J_q (q' := False) (fun z => z.elim) h2) (fun g0 g1 g2 g3 b4 b5 b6 b7 b9 h3 => br_t (congrArg nI (ca_Zc b a)) ?_)
  have hcd : ca_R c d (c % 16 / 4 * 4 + c / 16 / 4) (c % 16 % 4 * 4 + c / 16 % 4) = true := (ca_R_iff hc').mpr (by omega)
  have hno : ¬ ((min (a % 16) (b % 16) ≤ c % 16 ∧ c % 16 ≤ max (a % 16) (b % 16)) ∧ (min (a / 16) (b / 16) ≤ c / 16 ∧ c / 16 ≤ max (a / 16) (b / 16))) → ca_ap 2 f (ca_R b a) (ca_ap 1 m (ca_R c d) (ca_ap 0 u (ca_R a b) (fun _ _ => 0))) (c % 16 / 4 * 4 + c / 16 / 4) (c % 16 % 4 * 4 + c / 16 % 4) = m := by
    intro h
    rw [ca_ap_f (Bool.eq_false_iff.mpr (fun z => h (by have := (ca_R_iff hc').mp z; omega))), ca_ap_t hcd, ca_ap_f (Bool.eq_false_iff.mpr (fun z => h ((ca_R_iff hc').mp z)))]
    exact Int32.zero_add m
  refine ca_in (by omega) (by omega) (by omega) (fun hr => br_f (by decide) ?_) (fun hr => br_t rfl ?_)
  · refine ca_in (by omega) (by omega) (by omega) (fun hs => br_f (by decide) ?_) (fun hs => br_t rfl ?_)
    · unfold wL_lawOf_216
      refine br_f (by decide) (ca_232 ha' hc' hK h3 ?_ H)
      rw [ca_ap_t ((ca_R_iff hc').mpr (by omega)), ca_ap_t hcd, ca_ap_t ((ca_R_iff hc').mpr ⟨hr, hs⟩)]
      rfl
    · unfold wL_lawOf_215 wL_lawOf_216
      exact br_t rfl (ca_232 ha' hc' hK h3 (hno (fun z => hs z.2)) H)
  · unfold wL_lawOf_215 wL_lawOf_216
    exact br_t rfl (ca_232 ha' hc' hK h3 (hno (fun z => hr z.1)) H)
end
theorem ca_cellAt {post : Int32 → Prop} {L i : Nat} {xs : Nat → Int32} (hL : L ≤ 4) (hi : i < 4) (H : ∀ x, post x) : wpL_cellAt post L xs () (nI i) :=
  pk_le L i (fun _ => H _) (fun z => ⟨vp_in_nI z (by omega), H _⟩)
theorem i_vc (xs : Nat → Int32) (L : Nat) (hL : L ≤ 4) : wpL_law (fun r => r = 1) L xs := by
  unfold wpL_law
  refine ca_cellAt (i := 0) hL (by decide) (fun x => ?_)
  refine ca_cellAt (i := 1) hL (by decide) (fun u => ?_)
  refine ca_cellAt (i := 2) hL (by decide) (fun m => ?_)
  refine ca_cellAt (i := 3) hL (by decide) (fun f => ?_)
  exact ⟨12, 2196, by decide, by decide, ca_lawOf rfl x u m f⟩
end

section
/-- running maximum -/
def lc_mx (z : Int) (d : Nat → Int) : Nat → Int
  | 0 => z
  | k + 1 => max (lc_mx z d k) (d k)
/-- running sum -/
def lc_sm (f : Nat → Int64) : Nat → Int64
  | 0 => 0
  | k + 1 => lc_sm f k + f k
/-- a candidate sum: what was reached and what is added, or impossible -/
def lc_d (bar : Int32) (p x : Int) : Int := if bar = 0 ∧ 0 ≤ p then p + x else -1000
/-- how many beginnings at most -/
def lc_M : Nat → Int
  | 0 => 1
  | i + 1 => 3 * lc_M i
theorem lc_M_b : ∀ i, i ≤ 5 → 1 ≤ lc_M i ∧ lc_M i ≤ 243 := by decide
/-- weights -/
def lc_W (a : Nat → Int32) : Prop := ∀ c, 0 ≤ (a c).toInt ∧ (a c).toInt ≤ 9
theorem lc_add {x y : Int32} (h1 : -2147483648 ≤ x.toInt + y.toInt) (h2 : x.toInt + y.toInt < 2147483648) : (x + y).toInt = x.toInt + y.toInt := by
  rw [Int32.toInt_add]
  refine Int.bmod_eq_of_le ?_ ?_
  · show -(((4294967296 : Nat) : Int) / 2) ≤ _
    omega
  · show _ < (((4294967296 : Nat) : Int) + 1) / 2
    omega
theorem lc_sub {x y : Int32} (h1 : -2147483648 ≤ x.toInt - y.toInt) (h2 : x.toInt - y.toInt < 2147483648) : (x - y).toInt = x.toInt - y.toInt := by
  rw [Int32.toInt_sub]
  refine Int.bmod_eq_of_le ?_ ?_
  · show -(((4294967296 : Nat) : Int) / 2) ≤ _
    omega
  · show _ < (((4294967296 : Nat) : Int) + 1) / 2
    omega
theorem lc_z : (0 : Int32).toInt = 0 := by decide
theorem lc_1 : (1 : Int32).toInt = 1 := by decide
theorem lc_m1000 : (-1000 : Int32).toInt = -1000 := by decide
theorem lc_m2 : (-2 : Int32).toInt = -2 := by decide
theorem lc_ofw {x : Int32} (h : 0 ≤ x.toInt ∧ x.toInt ≤ 9) : ∃ j : Nat, j ≤ 9 ∧ x = nI j := by
  refine nI_of2 (M := 9) (n := 9) (by decide) ?_ ?_
  · rw [Int32.lt_iff_toInt_lt, lc_z]
    omega
  · rw [Int32.le_iff_toInt_le, show (9 : Int32).toInt = 9 by decide]
    omega
theorem lc_w64 {x y : Int32} (hx : 0 ≤ x.toInt ∧ x.toInt ≤ 9) (hy : 0 ≤ y.toInt ∧ y.toInt ≤ 9) : (x * y).toInt64 = x.toInt64 * y.toInt64 := by
  obtain ⟨i, hi, rfl⟩ := lc_ofw hx
  obtain ⟨j, hj, rfl⟩ := lc_ofw hy
  have hm : i * j ≤ 9 * 9 := Nat.mul_le_mul hi hj
  rw [pk_mul, nI_l (by omega), nI_l (by omega), nI_l (by omega), lN_mul]
theorem lc_ix (i a : Nat) : (3 : Int32) * nI i + nI a = nI (3 * i + a) := by
  rw [show (3 : Int32) = nI 3 from rfl, pk_mul, nI_add]
theorem lc_ixm (i a : Nat) : ((3 : Int32) * nI (i + 1) - 3) + nI a = nI (3 * i + a) := by
  rw [show (3 : Int32) = nI 3 from rfl, pk_mul, pk_sub (by omega), nI_add, show 3 * (i + 1) - 3 + a = 3 * i + a by omega]
theorem lc_ixp (i a : Nat) : ((3 : Int32) * nI i + 3) + nI a = nI (3 * (i + 1) + a) := by
  rw [show (3 : Int32) = nI 3 from rfl, pk_mul, nI_add, nI_add, show 3 * i + 3 + a = 3 * (i + 1) + a by omega]
theorem lc_cl {k : Nat} (h : k < 1000) : (nI k).toNatClampNeg = k := nI_clamp (by omega)
theorem lc_cx {i a : Nat} (h : 3 * i + a < 1000) : ((3 : Int32) * nI i + nI a).toNatClampNeg = 3 * i + a := by
  rw [lc_ix, lc_cl h]
theorem lc_cxm {i a : Nat} (h : 3 * i + a < 1000) : (((3 : Int32) * nI (i + 1) - 3) + nI a).toNatClampNeg = 3 * i + a := by
  rw [lc_ixm, lc_cl h]
theorem lc_cxp {i a : Nat} (h : 3 * (i + 1) + a < 1000) : (((3 : Int32) * nI i + 3) + nI a).toNatClampNeg = 3 * (i + 1) + a := by
  rw [lc_ixp, lc_cl h]
/-- front tables: candidates and summands of place i + 1, label a, over the labels b before it -/
def lc_fd (a1 a3 a4 a5 : Nat → Int32) (i a b : Nat) : Int := lc_d (a4 (3 * b + a)) (a5 (3 * i + b)).toInt ((a3 (3 * b + a)).toInt + (a1 (3 * (i + 1) + a)).toInt)
def lc_ff (a1 a3 a4 : Nat → Int32) (a9 : Nat → Int64) (i a b : Nat) : Int64 := if a4 (3 * b + a) = 0 then a9 (3 * i + b) * (a3 (3 * b + a)).toInt64 * (a1 (3 * (i + 1) + a)).toInt64 else 0
def lc_G (i : Nat) (x2 x5 x7 : Int32) (x9 : Int64) : Prop := (x5.toInt = -1000 ∧ x7 = 0 ∧ x9 = 0) ∨ (x2 = 0 ∧ 0 ≤ x5.toInt ∧ x5.toInt ≤ 18 * i + 9 ∧ 1 ≤ x7.toInt ∧ x7.toInt ≤ lc_M i)
def lc_FC (a1 a2 a3 a4 a5 a7 : Nat → Int32) (a9 : Nat → Int64) (i a : Nat) : Prop :=
  lc_G i (a2 (3 * i + a)) (a5 (3 * i + a)) (a7 (3 * i + a)) (a9 (3 * i + a)) ∧
  ∀ m, i = m + 1 → (a5 (3 * i + a)).toInt = (if a2 (3 * i + a) = 0 then lc_mx (-1000) (lc_fd a1 a3 a4 a5 m a) 3 else -1000) ∧
    a9 (3 * i + a) = (if a2 (3 * i + a) = 0 then lc_sm (lc_ff a1 a3 a4 a9 m a) 3 else 0)
/-- back tables: the same over the labels b behind it -/
def lc_bd (a3 a4 a6 : Nat → Int32) (i a b : Nat) : Int := lc_d (a4 (3 * a + b)) (a6 (3 * (i + 1) + b)).toInt (a3 (3 * a + b)).toInt
def lc_bf (a1 a2 a3 a4 : Nat → Int32) (a10 : Nat → Int64) (i a b : Nat) : Int64 := if a4 (3 * a + b) = 0 ∧ a2 (3 * (i + 1) + b) = 0 then (a3 (3 * a + b)).toInt64 * (a1 (3 * (i + 1) + b)).toInt64 * a10 (3 * (i + 1) + b) else 0
def lc_H (n i : Nat) (x2 x6 : Int32) (x10 : Int64) : Prop := (x6.toInt = -1000 ∧ (x2 = 0 → x10 = 0)) ∨ (x2 = 0 ∧ 0 ≤ x6.toInt ∧ x6.toInt + 18 * i ≤ 18 * n)
def lc_BC (n : Nat) (a1 a2 a3 a4 a6 : Nat → Int32) (a10 : Nat → Int64) (i a : Nat) : Prop :=
  lc_H n i (a2 (3 * i + a)) (a6 (3 * i + a)) (a10 (3 * i + a)) ∧
  (i + 1 = n → (a2 (3 * i + a) = 0 → a6 (3 * i + a) = a1 (3 * i + a)) ∧ a10 (3 * i + a) = 1) ∧
  (i + 1 < n → (a6 (3 * i + a)).toInt = (if a2 (3 * i + a) = 0 ∧ 0 ≤ lc_mx (-1000) (lc_bd a3 a4 a6 i a) 3 then (a1 (3 * i + a)).toInt + lc_mx (-1000) (lc_bd a3 a4 a6 i a) 3 else -1000) ∧
    a10 (3 * i + a) = lc_sm (lc_bf a1 a2 a3 a4 a10 i a) 3)
/-- all tables of a chain of n places -/
def lc_T (n : Nat) (a1 a2 a3 a4 a5 a6 a7 : Nat → Int32) (a9 a10 : Nat → Int64) : Prop :=
  (∀ i a, i < n → a < 3 → lc_FC a1 a2 a3 a4 a5 a7 a9 i a) ∧ (∀ i a, i < n → a < 3 → lc_BC n a1 a2 a3 a4 a6 a10 i a)
/-- what the three queries answer -/
def lc_bt (a1 a5 a6 : Nat → Int32) (i a : Nat) : Int := if (a5 (3 * i + a)).toInt < 0 then -2 else if 0 ≤ (a6 (3 * i + a)).toInt then (a5 (3 * i + a)).toInt + (a6 (3 * i + a)).toInt - (a1 (3 * i + a)).toInt else -2
def lc_tc (a1 a2 a3 a4 : Nat → Int32) (a9 a10 : Nat → Int64) (i a b : Nat) : Int64 := if a4 (3 * a + b) = 0 ∧ a2 (3 * (i + 1) + b) = 0 then a9 (3 * i + a) * (a3 (3 * a + b)).toInt64 * (a1 (3 * (i + 1) + b)).toInt64 * a10 (3 * (i + 1) + b) else 0
def lc_th (a9 a10 : Nat → Int64) (i a : Nat) : Int64 := a9 (3 * i + a) * a10 (3 * i + a)
end
section
/-! the pure laws: products -/
theorem lc_tc_row {n : Nat} {a1 a2 a3 a4 a5 a6 a7 : Nat → Int32} {a9 a10 : Nat → Int64} (t : lc_T n a1 a2 a3 a4 a5 a6 a7 a9 a10) {i a : Nat} (hi : i + 1 < n) (ha : a < 3) :
    lc_sm (lc_tc a1 a2 a3 a4 a9 a10 i a) 3 = lc_th a9 a10 i a := by
  have h := ((t.2 i a (by omega) ha).2.2 hi).2
  have k : ∀ b, lc_tc a1 a2 a3 a4 a9 a10 i a b = a9 (3 * i + a) * lc_bf a1 a2 a3 a4 a10 i a b := by
    intro b
    unfold lc_tc lc_bf
    split
    · grind
    · grind
  unfold lc_th
  rw [h]
  simp only [lc_sm, k]
  grind
theorem lc_tc_col {n : Nat} {a1 a2 a3 a4 a5 a6 a7 : Nat → Int32} {a9 a10 : Nat → Int64} (t : lc_T n a1 a2 a3 a4 a5 a6 a7 a9 a10) {i b : Nat} (hi : i + 1 < n) (hb : b < 3) :
    lc_sm (fun a => lc_tc a1 a2 a3 a4 a9 a10 i a b) 3 = lc_th a9 a10 (i + 1) b := by
  have h := ((t.1 (i + 1) b hi hb).2 i rfl).2
  unfold lc_th
  rw [h]
  by_cases e : a2 (3 * (i + 1) + b) = 0
  · have k : ∀ a, lc_tc a1 a2 a3 a4 a9 a10 i a b = lc_ff a1 a3 a4 a9 i b a * a10 (3 * (i + 1) + b) := by
      intro a
      unfold lc_tc lc_ff
      by_cases g : a4 (3 * a + b) = 0
      · rw [if_pos ⟨g, e⟩, if_pos g]
      · rw [if_neg (fun z => g z.1), if_neg g]
        grind
    rw [if_pos e]
    simp only [lc_sm, k]
    grind
  · have k : ∀ a, lc_tc a1 a2 a3 a4 a9 a10 i a b = 0 := by
      intro a
      unfold lc_tc
      rw [if_neg (fun z => e z.2)]
    rw [if_neg e]
    simp only [lc_sm, k]
    grind
theorem lc_th_step {n : Nat} {a1 a2 a3 a4 a5 a6 a7 : Nat → Int32} {a9 a10 : Nat → Int64} (t : lc_T n a1 a2 a3 a4 a5 a6 a7 a9 a10) {i : Nat} (hi : i + 1 < n) :
    lc_sm (lc_th a9 a10 i) 3 = lc_sm (lc_th a9 a10 (i + 1)) 3 := by
  have r0 := lc_tc_row t hi (show 0 < 3 by omega)
  have r1 := lc_tc_row t hi (show 1 < 3 by omega)
  have r2 := lc_tc_row t hi (show 2 < 3 by omega)
  have c0 := lc_tc_col t hi (show 0 < 3 by omega)
  have c1 := lc_tc_col t hi (show 1 < 3 by omega)
  have c2 := lc_tc_col t hi (show 2 < 3 by omega)
  simp only [lc_sm] at r0 r1 r2 c0 c1 c2 ⊢
  rw [← r0, ← r1, ← r2, ← c0, ← c1, ← c2]
  grind
theorem lc_th_all {m : Nat} {a1 a2 a3 a4 a5 a6 a7 : Nat → Int32} {a9 a10 : Nat → Int64} (t : lc_T (m + 1) a1 a2 a3 a4 a5 a6 a7 a9 a10) :
    ∀ k i, i + k = m → lc_sm (lc_th a9 a10 i) 3 = a9 (3 * m + 0) + a9 (3 * m + 1) + a9 (3 * m + 2) := by
  intro k
  induction k with
  | zero =>
    intro i hi
    have e : i = m := by omega
    subst e
    have b0 := ((t.2 i 0 (by omega) (by omega)).2.1 rfl).2
    have b1 := ((t.2 i 1 (by omega) (by omega)).2.1 rfl).2
    have b2 := ((t.2 i 2 (by omega) (by omega)).2.1 rfl).2
    simp only [lc_sm, lc_th]
    rw [b0, b1, b2]
    grind
  | succ k ih =>
    intro i hi
    rw [lc_th_step t (show i + 1 < m + 1 by omega)]
    exact ih (i + 1) (by omega)
/-! the pure laws: greatest sums -/
/-- the best chain through the couple (a, b) at i -/
def lc_tb (a3 a4 a5 a6 : Nat → Int32) (i a b : Nat) : Int := if a4 (3 * a + b) = 0 ∧ 0 ≤ (a5 (3 * i + a)).toInt ∧ 0 ≤ (a6 (3 * (i + 1) + b)).toInt then (a5 (3 * i + a)).toInt + (a3 (3 * a + b)).toInt + (a6 (3 * (i + 1) + b)).toInt else -2
theorem lc_p1 {x bs w e0 e1 e2 t0 t1 t2 : Int} (hx : 0 ≤ x) (hw : 0 ≤ w)
    (h0 : e0 = -1000 ∧ t0 = -2 ∨ 0 ≤ e0 ∧ t0 = x + e0) (h1 : e1 = -1000 ∧ t1 = -2 ∨ 0 ≤ e1 ∧ t1 = x + e1) (h2 : e2 = -1000 ∧ t2 = -2 ∨ 0 ≤ e2 ∧ t2 = x + e2)
    (hb : 0 ≤ max (max (max (-1000) e0) e1) e2 ∧ bs = w + max (max (max (-1000) e0) e1) e2 ∨ max (max (max (-1000) e0) e1) e2 < 0 ∧ bs = -1000) :
    (if 0 ≤ bs then x + bs - w else -2) = max (max (max (-2) t0) t1) t2 := by
  rcases h0 with h0 | h0 <;> rcases h1 with h1 | h1 <;> rcases h2 with h2 | h2 <;> omega
theorem lc_p2 {y fs w d0 d1 d2 t0 t1 t2 : Int} (hy : 0 ≤ y) (hw : 0 ≤ w)
    (h0 : d0 = -1000 ∧ t0 = -2 ∨ w ≤ d0 ∧ t0 = d0 - w + y) (h1 : d1 = -1000 ∧ t1 = -2 ∨ w ≤ d1 ∧ t1 = d1 - w + y) (h2 : d2 = -1000 ∧ t2 = -2 ∨ w ≤ d2 ∧ t2 = d2 - w + y)
    (hf : fs = max (max (max (-1000) d0) d1) d2) :
    (if fs < 0 then -2 else fs + y - w) = max (max (max (-2) t0) t1) t2 := by
  rcases h0 with h0 | h0 <;> rcases h1 with h1 | h1 <;> rcases h2 with h2 | h2 <;> omega
theorem lc_tb_row {n : Nat} {a1 a2 a3 a4 a5 a6 a7 : Nat → Int32} {a9 a10 : Nat → Int64} (w1 : lc_W a1) (w3 : lc_W a3) (t : lc_T n a1 a2 a3 a4 a5 a6 a7 a9 a10) {i a : Nat} (hi : i + 1 < n) (ha : a < 3) :
    lc_mx (-2) (lc_tb a3 a4 a5 a6 i a) 3 = lc_bt a1 a5 a6 i a := by
  have h := ((t.2 i a (by omega) ha).2.2 hi).1
  have g := (t.1 i a (by omega) ha).1
  by_cases hx : (a5 (3 * i + a)).toInt < 0
  · have k : ∀ b, lc_tb a3 a4 a5 a6 i a b = -2 := by
      intro b
      unfold lc_tb
      exact if_neg (fun z => by omega)
    unfold lc_bt
    rw [if_pos hx]
    simp only [lc_mx, k]
    decide
  · have e2 : a2 (3 * i + a) = 0 := by
      rcases g with g | g
      · omega
      · exact g.1
    have k : ∀ b, lc_bd a3 a4 a6 i a b = -1000 ∧ lc_tb a3 a4 a5 a6 i a b = -2 ∨ 0 ≤ lc_bd a3 a4 a6 i a b ∧ lc_tb a3 a4 a5 a6 i a b = (a5 (3 * i + a)).toInt + lc_bd a3 a4 a6 i a b := by
      intro b
      have := w3 (3 * a + b)
      unfold lc_bd lc_tb lc_d
      by_cases q : a4 (3 * a + b) = 0 ∧ 0 ≤ (a6 (3 * (i + 1) + b)).toInt
      · rw [if_pos q, if_pos ⟨q.1, by omega, q.2⟩]
        exact Or.inr ⟨by omega, by omega⟩
      · rw [if_neg q, if_neg (fun z => q ⟨z.1, z.2.2⟩)]
        exact Or.inl ⟨rfl, rfl⟩
    unfold lc_bt
    rw [if_neg hx]
    refine (lc_p1 (by omega) (w1 _).1 (k 0) (k 1) (k 2) ?_).symm
    rw [h]
    show 0 ≤ lc_mx (-1000) (lc_bd a3 a4 a6 i a) 3 ∧ _ = _ + lc_mx (-1000) (lc_bd a3 a4 a6 i a) 3 ∨ lc_mx (-1000) (lc_bd a3 a4 a6 i a) 3 < 0 ∧ _ = _
    by_cases q : 0 ≤ lc_mx (-1000) (lc_bd a3 a4 a6 i a) 3
    · exact Or.inl ⟨q, if_pos ⟨e2, q⟩⟩
    · exact Or.inr ⟨by omega, if_neg (fun z => q z.2)⟩
theorem lc_tb_col {n : Nat} {a1 a2 a3 a4 a5 a6 a7 : Nat → Int32} {a9 a10 : Nat → Int64} (w1 : lc_W a1) (w3 : lc_W a3) (t : lc_T n a1 a2 a3 a4 a5 a6 a7 a9 a10) {i b : Nat} (hi : i + 1 < n) (hb : b < 3) :
    lc_mx (-2) (fun a => lc_tb a3 a4 a5 a6 i a b) 3 = lc_bt a1 a5 a6 (i + 1) b := by
  have h := ((t.1 (i + 1) b hi hb).2 i rfl).1
  have g := (t.2 (i + 1) b hi hb).1
  by_cases hy : (a6 (3 * (i + 1) + b)).toInt < 0
  · have k : ∀ a, lc_tb a3 a4 a5 a6 i a b = -2 := by
      intro a
      unfold lc_tb
      exact if_neg (fun z => by omega)
    unfold lc_bt
    rw [if_neg (show ¬ 0 ≤ (a6 (3 * (i + 1) + b)).toInt by omega)]
    simp only [lc_mx, k]
    split <;> decide
  · have e2 : a2 (3 * (i + 1) + b) = 0 := by
      rcases g with g | g
      · omega
      · exact g.1
    rw [if_pos e2] at h
    have k : ∀ a, lc_fd a1 a3 a4 a5 i b a = -1000 ∧ lc_tb a3 a4 a5 a6 i a b = -2 ∨ (a1 (3 * (i + 1) + b)).toInt ≤ lc_fd a1 a3 a4 a5 i b a ∧ lc_tb a3 a4 a5 a6 i a b = lc_fd a1 a3 a4 a5 i b a - (a1 (3 * (i + 1) + b)).toInt + (a6 (3 * (i + 1) + b)).toInt := by
      intro a
      have := w3 (3 * a + b)
      unfold lc_fd lc_tb lc_d
      by_cases q : a4 (3 * a + b) = 0 ∧ 0 ≤ (a5 (3 * i + a)).toInt
      · rw [if_pos q, if_pos ⟨q.1, q.2, by omega⟩]
        exact Or.inr ⟨by omega, by omega⟩
      · rw [if_neg q, if_neg (fun z => q ⟨z.1, z.2.1⟩)]
        exact Or.inl ⟨rfl, rfl⟩
    unfold lc_bt
    rw [if_pos (show 0 ≤ (a6 (3 * (i + 1) + b)).toInt by omega)]
    exact (lc_p2 (by omega) (w1 _).1 (k 0) (k 1) (k 2) h).symm
theorem lc_mx9 (x00 x01 x02 x10 x11 x12 x20 x21 x22 : Int) :
    max (max (max (-2) (max (max (max (-2) x00) x01) x02)) (max (max (max (-2) x10) x11) x12)) (max (max (max (-2) x20) x21) x22) =
    max (max (max (-2) (max (max (max (-2) x00) x10) x20)) (max (max (max (-2) x01) x11) x21)) (max (max (max (-2) x02) x12) x22) := by
  apply Int.le_antisymm <;> simp only [Int.max_le] <;> omega
theorem lc_bt_step {n : Nat} {a1 a2 a3 a4 a5 a6 a7 : Nat → Int32} {a9 a10 : Nat → Int64} (w1 : lc_W a1) (w3 : lc_W a3) (t : lc_T n a1 a2 a3 a4 a5 a6 a7 a9 a10) {i : Nat} (hi : i + 1 < n) :
    lc_mx (-2) (lc_bt a1 a5 a6 i) 3 = lc_mx (-2) (lc_bt a1 a5 a6 (i + 1)) 3 := by
  have r0 := lc_tb_row w1 w3 t hi (show 0 < 3 by omega)
  have r1 := lc_tb_row w1 w3 t hi (show 1 < 3 by omega)
  have r2 := lc_tb_row w1 w3 t hi (show 2 < 3 by omega)
  have c0 := lc_tb_col w1 w3 t hi (show 0 < 3 by omega)
  have c1 := lc_tb_col w1 w3 t hi (show 1 < 3 by omega)
  have c2 := lc_tb_col w1 w3 t hi (show 2 < 3 by omega)
  simp only [lc_mx] at r0 r1 r2 c0 c1 c2 ⊢
  rw [← r0, ← r1, ← r2, ← c0, ← c1, ← c2]
  exact lc_mx9 _ _ _ _ _ _ _ _ _
/-- the answer of best -/
def lc_best (g : Int) : Int := if 0 ≤ g then g else -2
theorem lc_p3 {f0 f1 f2 t0 t1 t2 : Int} (h0 : f0 = -1000 ∧ t0 = -2 ∨ 0 ≤ f0 ∧ t0 = f0) (h1 : f1 = -1000 ∧ t1 = -2 ∨ 0 ≤ f1 ∧ t1 = f1) (h2 : f2 = -1000 ∧ t2 = -2 ∨ 0 ≤ f2 ∧ t2 = f2) :
    max (max (max (-2) t0) t1) t2 = lc_best (max (max (max (-1000) f0) f1) f2) := by
  unfold lc_best
  rcases h0 with h0 | h0 <;> rcases h1 with h1 | h1 <;> rcases h2 with h2 | h2 <;> omega
theorem lc_bt_all {m : Nat} {a1 a2 a3 a4 a5 a6 a7 : Nat → Int32} {a9 a10 : Nat → Int64} (w1 : lc_W a1) (w3 : lc_W a3) (t : lc_T (m + 1) a1 a2 a3 a4 a5 a6 a7 a9 a10) :
    ∀ k i, i + k = m → lc_mx (-2) (lc_bt a1 a5 a6 i) 3 = lc_best (lc_mx (-1000) (fun a => (a5 (3 * m + a)).toInt) 3) := by
  intro k
  induction k with
  | zero =>
    intro i hi
    have e : i = m := by omega
    subst e
    have q : ∀ a, a < 3 → ((a5 (3 * i + a)).toInt = -1000 ∧ lc_bt a1 a5 a6 i a = -2 ∨ 0 ≤ (a5 (3 * i + a)).toInt ∧ lc_bt a1 a5 a6 i a = (a5 (3 * i + a)).toInt) := by
      intro a ha
      have g := (t.1 i a (by omega) ha).1
      have b := ((t.2 i a (by omega) ha).2.1 rfl).1
      have := w1 (3 * i + a)
      unfold lc_bt
      rcases g with g | g
      · exact Or.inl ⟨g.1, if_pos (by omega)⟩
      · refine Or.inr ⟨g.2.1, ?_⟩
        rw [b g.1, if_neg (by omega), if_pos (by omega)]
        omega
    exact lc_p3 (q 0 (by omega)) (q 1 (by omega)) (q 2 (by omega))
  | succ k ih =>
    intro i hi
    rw [lc_bt_step w1 w3 t (show i + 1 < m + 1 by omega)]
    exact ih (i + 1) (by omega)
end
section
/-! safety of the ranking: whatever topNow, topNext, topAll hold, the walk ends -/
theorem lc_ix8 (b i : Nat) : (8 : Int32) * nI b + nI i = nI (8 * b + i) := by
  rw [show (8 : Int32) = nI 8 from rfl, pk_mul, nI_add]
theorem lc_i8 (b : Nat) : (8 : Int32) * nI b = nI (8 * b) := by
  rw [show (8 : Int32) = nI 8 from rfl, pk_mul]
theorem lc_off8 (p : Nat) : (nI p + 8) - 1 = nI (p + 7) := by
  rw [show (8 : Int32) = nI 8 from rfl, nI_add]
  exact nI_pred (p + 7)
theorem lc_offer18 {post : St2 → Prop} {x2 : Int32} {fl fr : Int32} {a1 a2 a3 a4 a5 a6 a7 a8 a11 a13 a14 : Nat → Int32} {a9 a10 : Nat → Int64} {p : Nat} (hp : p ≤ 16) (H : ∀ b12, post (fl, fr, a1, a2, a3, a4, a5, a6, a7, a8, a9, a10, a11, b12, a13, a14)) :
    ∀ (k : Nat) (b12 : Nat → Int32), k ≤ 7 → wX_offer_18 post (nI p) x2 fl fr (k + 1) (nI (p + k)) a1 a2 a3 a4 a5 a6 a7 a8 a9 a10 a11 b12 a13 a14 := by
  intro k
  induction k with
  | zero =>
    intro b12 _
    exact pk_le (p + 0) p (fun _ => ⟨pk_in (p + 0) 24 (by omega), fun _ _ => H _⟩) (fun z => absurd z (by omega))
  | succ k ih =>
    intro b12 hk
    exact pk_le (p + (k + 1)) p (fun z => absurd z (by omega)) (fun _ => ⟨pk_in (p + k) 24 (by omega) (nI_pred (p + k)),
      br_c (fun _ => ⟨pk_in (p + (k + 1)) 24 (by omega), fun _ _ => H _⟩)
        (fun _ => ⟨pk_in (p + k) 24 (by omega) (nI_pred (p + k)), pk_in (p + (k + 1)) 24 (by omega), fun c12 _ => nm_r (pk_m1 (p + k)) (ih c12 (by omega))⟩)⟩)
theorem lc_offer {post : St2 → Prop} {q x : Int32} {fl fr : Int32} {a1 a2 a3 a4 a5 a6 a7 a8 a11 a12 a13 a14 : Nat → Int32} {a9 a10 : Nat → Int64} {p : Nat} (hq : q = nI p) (hp : p ≤ 16) (H : ∀ b12, post (fl, fr, a1, a2, a3, a4, a5, a6, a7, a8, a9, a10, a11, b12, a13, a14)) :
    wpX_offer post (fl, fr, a1, a2, a3, a4, a5, a6, a7, a8, a9, a10, a11, a12, a13, a14) q x := by
  subst hq
  unfold wpX_offer
  exact nm_r (lc_off8 p) ⟨pk_in (p + 7) 24 (by omega), br_c (fun _ => ⟨8, lc_offer18 hp H 7 _ (by omega)⟩) (fun _ => H _)⟩
theorem lc_rc53 {post : St2 → Prop} {x4 : Int32} {fl fr : Int32} {a1 a2 a3 a4 a5 a6 a7 a8 a11 a12 a13 a14 : Nat → Int32} {a9 a10 : Nat → Int64} {b a : Nat} (hb : b < 3) (ha : a < 3) (H : ∀ b12, post (fl, fr, a1, a2, a3, a4, a5, a6, a7, a8, a9, a10, a11, b12, a13, a14)) :
    ∃ n, wX_rankCouple_53 post (nI b) (nI a) x4 n 0 fl fr a1 a2 a3 a4 a5 a6 a7 a8 a9 a10 a11 a12 a13 a14 :=
  pk_loop (fun n i s => wX_rankCouple_53 post (nI b) (nI a) x4 n (nI i) fl fr a1 a2 a3 a4 a5 a6 a7 a8 a9 a10 a11 s a13 a14) (fun _ _ => True) 8 0 a12 (by omega) trivial
    (fun n s _ => pk_le 8 8 (fun _ => H s) (fun z => absurd z (by omega)))
    (fun n i s hi _ hw => pk_le 8 i (fun z => absurd z (by omega)) (fun _ => ⟨pk_in (8 * b + i) 24 (by omega) (lc_ix8 b i), fun x6 _ =>
      br_c (fun _ => nm_r (nI_1 i) (hw s trivial)) (fun _ => lc_offer (lc_i8 a) (by omega) (fun c => nm_r (nI_1 i) (hw c trivial)))⟩))
theorem lc_rankCouple {post : St2 → Prop} {q1 q2 : Int32} {fl fr : Int32} {a1 a2 a3 a4 a5 a6 a7 a8 a11 a12 a13 a14 : Nat → Int32} {a9 a10 : Nat → Int64} {i b a : Nat} (e1 : q1 = nI b) (e2 : q2 = nI a) (hi : i ≤ 5) (hb : b < 3) (ha : a < 3) (H : ∀ b12, post (fl, fr, a1, a2, a3, a4, a5, a6, a7, a8, a9, a10, a11, b12, a13, a14)) :
    wpX_rankCouple post (fl, fr, a1, a2, a3, a4, a5, a6, a7, a8, a9, a10, a11, a12, a13, a14) (nI i) q1 q2 := by
  subst e1
  subst e2
  unfold wpX_rankCouple
  exact ⟨pk_in (3 * b + a) 9 (by omega) (lc_ix b a), br_c (fun _ => ⟨pk_in (3 * i + a) 18 (by omega) (lc_ix i a),
    br_c (fun _ => ⟨pk_in (3 * b + a) 9 (by omega) (lc_ix b a), pk_in (3 * i + a) 18 (by omega) (lc_ix i a), fun x4 _ => lc_rc53 hb ha H⟩) (fun _ => H _)⟩) (fun _ => H _)⟩
theorem lc_rs200 {post : St2 → Prop} {fl fr : Int32} {a1 a2 a3 a4 a5 a6 a7 a8 a11 a12 a13 a14 : Nat → Int32} {a9 a10 : Nat → Int64} (H : ∀ b13, post (fl, fr, a1, a2, a3, a4, a5, a6, a7, a8, a9, a10, a11, a12, b13, a14)) : ∃ n, wX_rankSums_200 post fl fr n 0 a1 a2 a3 a4 a5 a6 a7 a8 a9 a10 a11 a12 a13 a14 :=
  pk_loop (fun n i s => wX_rankSums_200 post fl fr n (nI i) a1 a2 a3 a4 a5 a6 a7 a8 a9 a10 a11 a12 s a14) (fun _ _ => True) 8 0 a13 (by omega) trivial
    (fun n s _ => pk_le 8 8 (fun _ => H s) (fun z => absurd z (by omega)))
    (fun n i s hi _ hw => pk_le 8 i (fun z => absurd z (by omega)) (fun _ => ⟨pk_in i 24 (by omega), pk_in i 8 (by omega), fun c _ => nm_r (nI_1 i) (hw c trivial)⟩))
theorem lc_rs166 {post : St2 → Prop} {fl fr : Int32} {a1 a2 a3 a4 a5 a6 a7 a8 a11 a12 a13 a14 : Nat → Int32} {a9 a10 : Nat → Int64} (H : ∀ b12 b13, post (fl, fr, a1, a2, a3, a4, a5, a6, a7, a8, a9, a10, a11, b12, b13, a14)) : ∃ n, wX_rankSums_166 post n 0 fl fr a1 a2 a3 a4 a5 a6 a7 a8 a9 a10 a11 a12 a13 a14 :=
  pk_loop (fun n i s => wX_rankSums_166 post n (nI i) fl fr a1 a2 a3 a4 a5 a6 a7 a8 a9 a10 a11 s a13 a14) (fun _ _ => True) 24 0 a12 (by omega) trivial
    (fun n s _ => pk_le 24 24 (fun _ => lc_rs200 (fun c => H s c)) (fun z => absurd z (by omega)))
    (fun n i s hi _ hw => pk_le 24 i (fun z => absurd z (by omega)) (fun _ => ⟨pk_in i 24 (by omega),
      br_c (fun _ => nm_r (nI_1 i) (hw s trivial)) (fun _ => ⟨pk_in i 24 (by omega), lc_offer (p := 0) rfl (by omega) (fun c => nm_r (nI_1 i) (hw c trivial))⟩)⟩))
theorem lc_rs143 {post : St2 → Prop} {fl fr : Int32} {a1 a2 a3 a4 a5 a6 a7 a8 a11 a12 a13 a14 : Nat → Int32} {a9 a10 : Nat → Int64} (H : ∀ b12 b13, post (fl, fr, a1, a2, a3, a4, a5, a6, a7, a8, a9, a10, a11, b12, b13, a14)) : ∃ n, wX_rankSums_143 post fl fr n 0 a1 a2 a3 a4 a5 a6 a7 a8 a9 a10 a11 a12 a13 a14 :=
  pk_loop (fun n i s => wX_rankSums_143 post fl fr n (nI i) a1 a2 a3 a4 a5 a6 a7 a8 a9 a10 a11 s a13 a14) (fun _ _ => True) 8 0 a12 (by omega) trivial
    (fun n s _ => pk_le 8 8 (fun _ => lc_rs166 H) (fun z => absurd z (by omega)))
    (fun n i s hi _ hw => pk_le 8 i (fun z => absurd z (by omega)) (fun _ => ⟨pk_in i 24 (by omega), fun c _ => nm_r (nI_1 i) (hw c trivial)⟩))
end
section
theorem lc_rs111 {post : St2 → Prop} {J : Int32 → Int32 → Int32 → (Nat → Int32) → (Nat → Int32) → (Nat → Int32) → (Nat → Int32) → (Nat → Int32) → (Nat → Int32) → (Nat → Int32) → (Nat → Int32) → (Nat → Int64) → (Nat → Int64) → (Nat → Int32) → (Nat → Int32) → (Nat → Int32) → (Nat → Int32) → Prop} {fl fr : Int32} {a1 a2 a3 a4 a5 a6 a7 a8 a11 a12 a13 a14 : Nat → Int32} {a9 a10 : Nat → Int64} {i : Nat}
    (H : ∀ b11, J (nI (i + 1)) fl fr a1 a2 a3 a4 a5 a6 a7 a8 a9 a10 b11 a12 a13 a14) : ∃ n, wX_rankSums_111 post J (nI i) fl fr n 0 a1 a2 a3 a4 a5 a6 a7 a8 a9 a10 a11 a12 a13 a14 :=
  pk_loop (fun n k s => wX_rankSums_111 post J (nI i) fl fr n (nI k) a1 a2 a3 a4 a5 a6 a7 a8 a9 a10 s a12 a13 a14) (fun _ _ => True) 24 0 a11 (by omega) trivial
    (fun n s _ => pk_le 24 24 (fun _ => nm_r (nI_1 i) (H s)) (fun z => absurd z (by omega)))
    (fun n k s hk _ hw => pk_le 24 k (fun z => absurd z (by omega)) (fun _ => ⟨pk_in k 24 (by omega), pk_in k 24 (by omega), fun c _ => nm_r (nI_1 k) (hw c trivial)⟩))
theorem lc_rs86 {post : St2 → Prop} {J : Int32 → Int32 → Int32 → (Nat → Int32) → (Nat → Int32) → (Nat → Int32) → (Nat → Int32) → (Nat → Int32) → (Nat → Int32) → (Nat → Int32) → (Nat → Int32) → (Nat → Int64) → (Nat → Int64) → (Nat → Int32) → (Nat → Int32) → (Nat → Int32) → (Nat → Int32) → Prop} {fl fr : Int32} {a1 a2 a3 a4 a5 a6 a7 a8 a11 a12 a13 a14 : Nat → Int32} {a9 a10 : Nat → Int64} {i : Nat} (hi : i ≤ 5)
    (H : ∀ b11 b12, J (nI (i + 1)) fl fr a1 a2 a3 a4 a5 a6 a7 a8 a9 a10 b11 b12 a13 a14) : ∃ n, wX_rankSums_86 post J (nI i) n 0 fl fr a1 a2 a3 a4 a5 a6 a7 a8 a9 a10 a11 a12 a13 a14 :=
  pk_loop (fun n k s => wX_rankSums_86 post J (nI i) n (nI k) fl fr a1 a2 a3 a4 a5 a6 a7 a8 a9 a10 a11 s a13 a14) (fun _ _ => True) 9 0 a12 (by omega) trivial
    (fun n s _ => pk_le 9 9 (fun _ => lc_rs111 (fun c => H c s)) (fun z => absurd z (by omega)))
    (fun n k s hk _ hw => pk_le 9 k (fun z => absurd z (by omega)) (fun _ => ⟨by decide, by decide,
      lc_rankCouple (b := k / 3) (a := k % 3) (pk_div (d := 3) (by omega) (by omega) (by omega)) (pk_rem (d := 3) (by omega) (by omega) (by omega)) hi (by omega) (by omega) (fun c => nm_r (nI_1 k) (hw c trivial))⟩))
theorem lc_rs63 {post : St2 → Prop} {J : Int32 → Int32 → Int32 → (Nat → Int32) → (Nat → Int32) → (Nat → Int32) → (Nat → Int32) → (Nat → Int32) → (Nat → Int32) → (Nat → Int32) → (Nat → Int32) → (Nat → Int64) → (Nat → Int64) → (Nat → Int32) → (Nat → Int32) → (Nat → Int32) → (Nat → Int32) → Prop} {fl fr : Int32} {a1 a2 a3 a4 a5 a6 a7 a8 a11 a12 a13 a14 : Nat → Int32} {a9 a10 : Nat → Int64} {i : Nat} (hi : i ≤ 5)
    (H : ∀ b11 b12, J (nI (i + 1)) fl fr a1 a2 a3 a4 a5 a6 a7 a8 a9 a10 b11 b12 a13 a14) : ∃ n, wX_rankSums_63 post J (nI i) fl fr n 0 a1 a2 a3 a4 a5 a6 a7 a8 a9 a10 a11 a12 a13 a14 :=
  pk_loop (fun n k s => wX_rankSums_63 post J (nI i) fl fr n (nI k) a1 a2 a3 a4 a5 a6 a7 a8 a9 a10 a11 s a13 a14) (fun _ _ => True) 24 0 a12 (by omega) trivial
    (fun n s _ => pk_le 24 24 (fun _ => lc_rs86 hi H) (fun z => absurd z (by omega)))
    (fun n k s hk _ hw => pk_le 24 k (fun z => absurd z (by omega)) (fun _ => ⟨pk_in k 24 (by omega), fun c _ => nm_r (nI_1 k) (hw c trivial)⟩))
theorem lc_rs53 {post : St2 → Prop} {fr : Int32} {a1 a2 a3 a4 a5 a6 a7 a8 a11 a12 a13 a14 : Nat → Int32} {a9 a10 : Nat → Int64} {n : Nat} (h1 : 1 ≤ n) (h6 : n ≤ 6) (H : ∀ b11 b12 b13, post (nI n, fr, a1, a2, a3, a4, a5, a6, a7, a8, a9, a10, b11, b12, b13, a14)) :
    ∃ k, wX_rankSums_53 post k 1 (nI n) fr a1 a2 a3 a4 a5 a6 a7 a8 a9 a10 a11 a12 a13 a14 :=
  pk_loop (fun k i (s : (Nat → Int32) × (Nat → Int32)) => wX_rankSums_53 post k (nI i) (nI n) fr a1 a2 a3 a4 a5 a6 a7 a8 a9 a10 s.1 s.2 a13 a14) (fun _ _ => True) n 1 (a11, a12) h1 trivial
    (fun k s _ => pk_le n n (fun _ => lc_rs143 (fun c d => H s.1 c d)) (fun z => absurd z (by omega)))
    (fun k i s hi _ hw => pk_le n i (fun z => absurd z (by omega)) (fun _ => lc_rs63 (by omega) (fun c d => hw (c, d) trivial)))
theorem lc_rs25 {post : St2 → Prop} {fr : Int32} {a1 a2 a3 a4 a5 a6 a7 a8 a11 a12 a13 a14 : Nat → Int32} {a9 a10 : Nat → Int64} {n : Nat} (h1 : 1 ≤ n) (h6 : n ≤ 6) (H : ∀ b11 b12 b13, post (nI n, fr, a1, a2, a3, a4, a5, a6, a7, a8, a9, a10, b11, b12, b13, a14)) :
    ∃ k, wX_rankSums_25 post (nI n) fr k 0 a1 a2 a3 a4 a5 a6 a7 a8 a9 a10 a11 a12 a13 a14 :=
  pk_loop (fun k i s => wX_rankSums_25 post (nI n) fr k (nI i) a1 a2 a3 a4 a5 a6 a7 a8 a9 a10 s a12 a13 a14) (fun _ _ => True) 3 0 a11 (by omega) trivial
    (fun k s _ => pk_le 3 3 (fun _ => lc_rs53 h1 h6 H) (fun z => absurd z (by omega)))
    (fun k i s hi _ hw => pk_le 3 i (fun z => absurd z (by omega)) (fun _ => ⟨pk_in i 18 (by omega), pk_in (8 * i) 24 (by omega) (lc_i8 i), fun c _ => nm_r (nI_1 i) (hw c trivial)⟩))
theorem lc_rs2 {post : St2 → Prop} {fr : Int32} {a1 a2 a3 a4 a5 a6 a7 a8 a11 a12 a13 a14 : Nat → Int32} {a9 a10 : Nat → Int64} {n : Nat} (h1 : 1 ≤ n) (h6 : n ≤ 6) (H : ∀ b11 b12 b13, post (nI n, fr, a1, a2, a3, a4, a5, a6, a7, a8, a9, a10, b11, b12, b13, a14)) :
    ∃ k, wX_rankSums_2 post (nI n) fr k 0 a1 a2 a3 a4 a5 a6 a7 a8 a9 a10 a11 a12 a13 a14 :=
  pk_loop (fun k i s => wX_rankSums_2 post (nI n) fr k (nI i) a1 a2 a3 a4 a5 a6 a7 a8 a9 a10 s a12 a13 a14) (fun _ _ => True) 24 0 a11 (by omega) trivial
    (fun k s _ => pk_le 24 24 (fun _ => lc_rs25 h1 h6 H) (fun z => absurd z (by omega)))
    (fun k i s hi _ hw => pk_le 24 i (fun z => absurd z (by omega)) (fun _ => ⟨pk_in i 24 (by omega), fun c _ => nm_r (nI_1 i) (hw c trivial)⟩))
theorem lc_rankSums {post : St2 → Prop} {fr : Int32} {a1 a2 a3 a4 a5 a6 a7 a8 a11 a12 a13 a14 : Nat → Int32} {a9 a10 : Nat → Int64} {n : Nat} (h1 : 1 ≤ n) (h6 : n ≤ 6) (H : ∀ b11 b12 b13, post (nI n, fr, a1, a2, a3, a4, a5, a6, a7, a8, a9, a10, b11, b12, b13, a14)) :
    wpX_rankSums post (nI n, fr, a1, a2, a3, a4, a5, a6, a7, a8, a9, a10, a11, a12, a13, a14) := by
  unfold wpX_rankSums
  exact lc_rs2 h1 h6 H
/-! the greatest sum at the last place -/
theorem lc_gs6 {post : Int32 → Prop} {fr : Int32} {a1 a2 a3 a4 a5 a6 a7 a8 a11 a12 a13 a14 : Nat → Int32} {a9 a10 : Nat → Int64} {m : Nat} (hm : m ≤ 5) (H : ∀ r : Int32, r.toInt = lc_mx (-1000) (fun a => (a5 (3 * m + a)).toInt) 3 → post r) :
    ∃ k, wX_greatestSum_6 post (nI (m + 1)) fr a1 a2 a3 a4 a5 a6 a7 a8 a9 a10 a11 a12 a13 a14 k (-1000) 0 := by
  refine pk_loop (fun k i s => wX_greatestSum_6 post (nI (m + 1)) fr a1 a2 a3 a4 a5 a6 a7 a8 a9 a10 a11 a12 a13 a14 k s (nI i)) (fun i s => s.toInt = lc_mx (-1000) (fun a => (a5 (3 * m + a)).toInt) i) 3 0 (-1000) (by omega) lc_m1000
    (fun k s h => pk_le 3 3 (fun _ => H s h) (fun z => absurd z (by omega))) ?_
  intro k i s hi h hw
  have e : (((3 : Int32) * nI (m + 1) - 3) + nI i).toNatClampNeg = 3 * m + i := lc_cxm (by omega)
  refine pk_le 3 i (fun z => absurd z (by omega)) (fun _ => ⟨pk_in (3 * m + i) 18 (by omega) (lc_ixm m i), br_c (fun g => nm_r (nI_1 i) (hw s ?_)) (fun g => ⟨pk_in (3 * m + i) 18 (by omega) (lc_ixm m i), nm_r (by rw [e]) (nm_r (nI_1 i) (hw (a5 (3 * m + i)) ?_))⟩)⟩)
  · rw [e, Int32.le_iff_toInt_le] at g
    show s.toInt = max (lc_mx (-1000) (fun a => (a5 (3 * m + a)).toInt) i) (a5 (3 * m + i)).toInt
    rw [← h]
    omega
  · rw [e, Int32.le_iff_toInt_le] at g
    show (a5 (3 * m + i)).toInt = max (lc_mx (-1000) (fun a => (a5 (3 * m + a)).toInt) i) (a5 (3 * m + i)).toInt
    rw [← h]
    omega
theorem lc_gs {post : Int32 → Prop} {fr : Int32} {a1 a2 a3 a4 a5 a6 a7 a8 a11 a12 a13 a14 : Nat → Int32} {a9 a10 : Nat → Int64} {m : Nat} (hm : m ≤ 5) (H : ∀ r : Int32, r.toInt = lc_mx (-1000) (fun a => (a5 (3 * m + a)).toInt) 3 → post r) :
    wpX_greatestSum post (nI (m + 1), fr, a1, a2, a3, a4, a5, a6, a7, a8, a9, a10, a11, a12, a13, a14) := by
  unfold wpX_greatestSum
  exact lc_gs6 hm H
/-! safety of the choice -/
/-- the label chosen at the place before is a label -/
def lc_Ch (a14 : Nat → Int32) (i : Nat) : Prop := ∀ j, i = j + 1 → ∃ q : Nat, q ≤ 2 ∧ a14 j = nI q
theorem lc_reaches {post : Int32 → Prop} {x : Int32} {fl fr : Int32} {a1 a2 a3 a4 a5 a6 a7 a8 a11 a12 a13 a14 : Nat → Int32} {a9 a10 : Nat → Int64} {i a : Nat} (hi : i ≤ 5) (ha : a ≤ 2) (hc : lc_Ch a14 i) (H : ∀ r, post r) :
    wpX_reaches post (fl, fr, a1, a2, a3, a4, a5, a6, a7, a8, a9, a10, a11, a12, a13, a14) (nI i) (nI a) x := by
  unfold wpX_reaches
  refine ⟨pk_in (3 * i + a) 18 (by omega) (lc_ix i a), fun x4 _ => br_c (fun _ => ?_) (fun _ => H _)⟩
  refine pk_eq i 0 (fun _ => br_c (fun _ => H _) (fun _ => H _)) (fun z => ?_)
  obtain ⟨j, rfl⟩ : ∃ j, i = j + 1 := ⟨i - 1, by omega⟩
  obtain ⟨q, hq, e⟩ := hc j rfl
  refine ⟨pk_in j 6 (by omega) (nI_pred j), nm_r (e' := nI (3 * q + a)) ?_ ⟨pk_in (3 * q + a) 9 (by omega), br_c (fun _ => ⟨pk_in (3 * q + a) 9 (by omega), br_c (fun _ => H _) (fun _ => H _)⟩) (fun _ => H _)⟩⟩
  rw [nI_pred, lc_cl (by omega), e, lc_ix]
theorem lc_b3 : ∀ a, a ≤ 2 → (nI a).toInt8.toInt32 = nI a := by decide
theorem lc_ch70 {post : St2 → Prop} {J : Int32 → Int32 → (Nat → Int32) → (Nat → Int32) → (Nat → Int32) → (Nat → Int32) → (Nat → Int32) → (Nat → Int32) → (Nat → Int32) → (Nat → Int32) → (Nat → Int64) → (Nat → Int64) → (Nat → Int32) → (Nat → Int32) → (Nat → Int32) → (Nat → Int32) → Prop} {x1 : Int32} {fl fr : Int32} {a1 a2 a3 a4 a5 a6 a7 a8 a11 a12 a13 a14 : Nat → Int32} {a9 a10 : Nat → Int64} {i a : Nat} (hi : i ≤ 5) (ha : a ≤ 2)
    (H : ∀ r, J r (nI (i + 1)) a1 a2 a3 a4 a5 a6 a7 a8 a9 a10 a11 a12 a13 a14) : wX_choose_70 post J x1 (nI i) (nI a) fl fr a1 a2 a3 a4 a5 a6 a7 a8 a9 a10 a11 a12 a13 a14 := by
  unfold wX_choose_70
  exact ⟨pk_in (3 * i + a) 18 (by omega) (lc_ix i a), fun r _ => nm_r (nI_1 i) (H r)⟩
theorem lc_ch38 {post : St2 → Prop} {J : Int32 → Int32 → (Nat → Int32) → (Nat → Int32) → (Nat → Int32) → (Nat → Int32) → (Nat → Int32) → (Nat → Int32) → (Nat → Int32) → (Nat → Int32) → (Nat → Int64) → (Nat → Int64) → (Nat → Int32) → (Nat → Int32) → (Nat → Int32) → (Nat → Int32) → Prop} {x1 : Int32} {fl fr : Int32} {a1 a2 a3 a4 a5 a6 a7 a8 a11 a12 a13 a14 : Nat → Int32} {a9 a10 : Nat → Int64} {i a : Nat} (hi : i ≤ 5) (ha : a ≤ 2) (hc : lc_Ch a14 i)
    (H : ∀ r b14, lc_Ch b14 (i + 1) → J r (nI (i + 1)) a1 a2 a3 a4 a5 a6 a7 a8 a9 a10 a11 a12 a13 b14) : wX_choose_38 post J x1 (nI i) (nI a) fl fr a1 a2 a3 a4 a5 a6 a7 a8 a9 a10 a11 a12 a13 a14 := by
  unfold wX_choose_38
  refine ⟨pk_in i 6 (by omega), nm_r (e' := upd a14 i (nI a)) (by rw [lc_cl (by omega), lc_b3 a ha]) ?_⟩
  have hn : lc_Ch (upd a14 i (nI a)) (i + 1) := by
    intro j e
    have e' : j = i := by omega
    subst e'
    exact ⟨a, ha, pk_us⟩
  refine pk_le i 0 (fun _ => lc_ch70 hi ha (fun r => H r _ hn)) (fun z => ?_)
  obtain ⟨j, rfl⟩ : ∃ j, i = j + 1 := ⟨i - 1, by omega⟩
  obtain ⟨q, hq, e⟩ := hc j rfl
  refine ⟨pk_in j 6 (by omega) (nI_pred j), pk_in (3 * q + a) 9 (by omega) ?_, fun r _ => lc_ch70 hi ha (fun r => H r _ hn)⟩
  rw [nI_pred, lc_cl (by omega), pk_un (by omega), e, lc_ix]
theorem lc_ch17 {post : St2 → Prop} {J : Int32 → Int32 → (Nat → Int32) → (Nat → Int32) → (Nat → Int32) → (Nat → Int32) → (Nat → Int32) → (Nat → Int32) → (Nat → Int32) → (Nat → Int32) → (Nat → Int64) → (Nat → Int64) → (Nat → Int32) → (Nat → Int32) → (Nat → Int32) → (Nat → Int32) → Prop} {x1 : Int32} {fl fr : Int32} {a1 a2 a3 a4 a5 a6 a7 a8 a11 a12 a13 a14 : Nat → Int32} {a9 a10 : Nat → Int64} {i : Nat} (hi : i ≤ 5) (hc : lc_Ch a14 i)
    (H : ∀ r b14, lc_Ch b14 (i + 1) → J r (nI (i + 1)) a1 a2 a3 a4 a5 a6 a7 a8 a9 a10 a11 a12 a13 b14) : ∃ k, wX_choose_17 post J x1 (nI i) fl fr a1 a2 a3 a4 a5 a6 a7 a8 a9 a10 a11 a12 a13 a14 k 0 :=
  pk_loop (σ := Unit) (fun k a _ => wX_choose_17 post J x1 (nI i) fl fr a1 a2 a3 a4 a5 a6 a7 a8 a9 a10 a11 a12 a13 a14 k (nI a)) (fun _ _ => True) 2 0 () (by omega) trivial
    (fun k _ _ => pk_le 2 2 (fun _ => lc_ch38 hi (by omega) hc H) (fun z => absurd z (by omega)))
    (fun k a _ ha _ hw => pk_le 2 a (fun z => absurd z (by omega)) (fun _ => lc_reaches hi (by omega) hc (fun r => br_c (fun _ => nm_r (nI_1 a) (hw () trivial)) (fun _ => lc_ch38 hi (by omega) hc H))))
theorem lc_ch7 {post : St2 → Prop} {x1 : Int32} {fr : Int32} {a1 a2 a3 a4 a5 a6 a7 a8 a11 a12 a13 a14 : Nat → Int32} {a9 a10 : Nat → Int64} {n : Nat} (h6 : n ≤ 6) (H : ∀ b14, post (nI n, fr, a1, a2, a3, a4, a5, a6, a7, a8, a9, a10, a11, a12, a13, b14)) :
    ∃ k, wX_choose_7 post (nI n) fr k x1 0 a1 a2 a3 a4 a5 a6 a7 a8 a9 a10 a11 a12 a13 a14 :=
  pk_loop (fun k i (s : Int32 × (Nat → Int32)) => wX_choose_7 post (nI n) fr k s.1 (nI i) a1 a2 a3 a4 a5 a6 a7 a8 a9 a10 a11 a12 a13 s.2) (fun i s => lc_Ch s.2 i) n 0 (x1, a14) (by omega) (fun j e => absurd e (by omega))
    (fun k s _ => pk_le n n (fun _ => H s.2) (fun z => absurd z (by omega)))
    (fun k i s hi h hw => pk_le n i (fun z => absurd z (by omega)) (fun _ => lc_ch17 (by omega) h (fun r c hc => hw (r, c) hc)))
theorem lc_choose {post : St2 → Prop} {fr : Int32} {a1 a2 a3 a4 a5 a6 a7 a8 a11 a12 a13 a14 : Nat → Int32} {a9 a10 : Nat → Int64} {m : Nat} (hm : m ≤ 5) (H : ∀ b14, post (nI (m + 1), fr, a1, a2, a3, a4, a5, a6, a7, a8, a9, a10, a11, a12, a13, b14)) :
    wpX_choose post (nI (m + 1), fr, a1, a2, a3, a4, a5, a6, a7, a8, a9, a10, a11, a12, a13, a14) := by
  unfold wpX_choose
  exact lc_gs hm (fun r _ => lc_ch7 (by omega) H)
end
section
/-! congruences -/
theorem lc_mx_cong {z : Int} {d d' : Nat → Int} : ∀ k, (∀ b, b < k → d b = d' b) → lc_mx z d k = lc_mx z d' k := by
  intro k
  induction k with
  | zero => intro _; rfl
  | succ k ih =>
    intro h
    show max (lc_mx z d k) (d k) = max (lc_mx z d' k) (d' k)
    rw [ih (fun b hb => h b (by omega)), h k (by omega)]
theorem lc_sm_cong {f f' : Nat → Int64} : ∀ k, (∀ b, b < k → f b = f' b) → lc_sm f k = lc_sm f' k := by
  intro k
  induction k with
  | zero => intro _; rfl
  | succ k ih =>
    intro h
    show lc_sm f k + f k = lc_sm f' k + f' k
    rw [ih (fun b hb => h b (by omega)), h k (by omega)]
theorem lc_FC_cong {a1 a2 a3 a4 a5 a7 s5 s7 : Nat → Int32} {a9 s9 : Nat → Int64} {i a c : Nat} (ha : a < 3) (hc : 3 * i + a < c)
    (k : ∀ j, j ≠ c → s5 j = a5 j ∧ s7 j = a7 j ∧ s9 j = a9 j) (h : lc_FC a1 a2 a3 a4 a5 a7 a9 i a) : lc_FC a1 a2 a3 a4 s5 s7 s9 i a := by
  have kc := k (3 * i + a) (by omega)
  unfold lc_FC at h ⊢
  rw [kc.1, kc.2.1, kc.2.2]
  refine ⟨h.1, fun m e => ?_⟩
  have q := h.2 m e
  have q1 : lc_mx (-1000) (lc_fd a1 a3 a4 s5 m a) 3 = lc_mx (-1000) (lc_fd a1 a3 a4 a5 m a) 3 := lc_mx_cong 3 (fun b hb => by
    unfold lc_fd
    rw [(k (3 * m + b) (by omega)).1])
  have q2 : lc_sm (lc_ff a1 a3 a4 s9 m a) 3 = lc_sm (lc_ff a1 a3 a4 a9 m a) 3 := lc_sm_cong 3 (fun b hb => by
    unfold lc_ff
    rw [(k (3 * m + b) (by omega)).2.2])
  rw [q1, q2]
  exact q
/-! the start of the front tables -/
theorem lc_startFront {post : St2 → Prop} {fl fr : Int32} {a1 a2 a3 a4 a5 a6 a7 a8 a11 a12 a13 a14 : Nat → Int32} {a9 a10 : Nat → Int64} {a : Nat} (ha : a < 3) (w1 : lc_W a1)
    (H : ∀ x5 x7 x8 x9, lc_G 0 (a2 a) x5 x7 x9 → post (fl, fr, a1, a2, a3, a4, upd a5 a x5, a6, upd a7 a x7, upd a8 a x8, vp_updL a9 a x9, a10, a11, a12, a13, a14)) : wpX_startFront post (fl, fr, a1, a2, a3, a4, a5, a6, a7, a8, a9, a10, a11, a12, a13, a14) (nI a) := by
  have ec : (nI a).toNatClampNeg = a := lc_cl (by omega)
  have hi : vp_in (nI a) 18 := pk_in a 18 (by omega)
  unfold wpX_startFront
  by_cases h : a2 a = 0
  · refine ⟨hi, nm_r (e' := a2 a) (by rw [ec]) (br_t h ⟨hi, ?_⟩)⟩
    unfold wX_startFront_28
    refine ⟨hi, nm_r (e' := upd a5 a (a1 a)) (by rw [ec]) (br_t h ?_)⟩
    unfold wX_startFront_43
    refine ⟨hi, nm_r (e' := upd a7 a 1) (by rw [ec]) (br_t h ?_)⟩
    unfold wX_startFront_58
    refine ⟨hi, nm_r (e' := upd a8 a 1) (by rw [ec]) (br_t h ⟨hi, hi, nm_r (e' := vp_updL a9 a (a1 a).toInt64) (by rw [ec]) (H _ _ _ _ (Or.inr ?_))⟩)⟩
    have := w1 a
    exact ⟨h, by omega, by omega, by rw [lc_1]; omega, by rw [lc_1]; decide⟩
  · refine ⟨hi, nm_r (e' := a2 a) (by rw [ec]) (br_f h ?_)⟩
    unfold wX_startFront_28
    refine ⟨hi, nm_r (e' := upd a5 a (-1000)) (by rw [ec]) (br_f h ?_)⟩
    unfold wX_startFront_43
    refine ⟨hi, nm_r (e' := upd a7 a 0) (by rw [ec]) (br_f h ?_)⟩
    unfold wX_startFront_58
    exact ⟨hi, nm_r (e' := upd a8 a 0) (by rw [ec]) (br_f h ⟨hi, nm_r (e' := vp_updL a9 a 0) (by rw [ec]) (H _ _ _ _ (Or.inl ⟨lc_m1000, rfl, rfl⟩))⟩)⟩
/-! one cell of the front tables -/
def lc_K (M : Int) : Nat → Int
  | 0 => 0
  | b + 1 => lc_K M b + M
def lc_L (i b : Nat) (x5 x7 : Int32) (x9 : Int64) : Prop := (x5.toInt = -1000 ∧ x7 = 0 ∧ x9 = 0) ∨ (0 ≤ x5.toInt ∧ x5.toInt ≤ 18 * (i + 1) + 9 ∧ 1 ≤ x7.toInt ∧ x7.toInt ≤ lc_K (lc_M i) b)
def lc_FL (a1 a3 a4 a5 a7 : Nat → Int32) (a9 : Nat → Int64) (i a b : Nat) (s5 s7 : Nat → Int32) (s9 : Nat → Int64) : Prop :=
  (∀ j, j ≠ 3 * (i + 1) + a → s5 j = a5 j ∧ s7 j = a7 j ∧ s9 j = a9 j) ∧ (s5 (3 * (i + 1) + a)).toInt = lc_mx (-1000) (lc_fd a1 a3 a4 a5 i a) b ∧
  s9 (3 * (i + 1) + a) = lc_sm (lc_ff a1 a3 a4 a9 i a) b ∧ lc_L i b (s5 (3 * (i + 1) + a)) (s7 (3 * (i + 1) + a)) (s9 (3 * (i + 1) + a))
theorem lc_K_b {M : Int} (h : M ≤ 243) (h0 : 1 ≤ M) : ∀ b, b ≤ 3 → 0 ≤ lc_K M b ∧ lc_K M b ≤ 729 := by
  intro b hb
  rcases (by omega : b = 0 ∨ b = 1 ∨ b = 2 ∨ b = 3) with e | e | e | e <;> subst e <;> simp only [lc_K] <;> omega
theorem lc_FL_skip {a1 a2 a3 a4 a5 a7 s5 s7 : Nat → Int32} {a9 s9 : Nat → Int64} {i a b : Nat} (hi : i ≤ 4) (hb : b < 3)
    (row : ∀ b, b < 3 → lc_G i (a2 (3 * i + b)) (a5 (3 * i + b)) (a7 (3 * i + b)) (a9 (3 * i + b)))
    (e : ¬ a4 (3 * b + a) = 0 ∨ a7 (3 * i + b) = 0) (h : lc_FL a1 a3 a4 a5 a7 a9 i a b s5 s7 s9) : lc_FL a1 a3 a4 a5 a7 a9 i a (b + 1) s5 s7 s9 := by
  obtain ⟨k1, k2, k3, k4⟩ := h
  have g := row b hb
  have M := lc_M_b i (by omega)
  have d : lc_fd a1 a3 a4 a5 i a b = -1000 ∧ lc_ff a1 a3 a4 a9 i a b = 0 := by
    unfold lc_fd lc_ff lc_d
    rcases e with e | e
    · exact ⟨if_neg (fun z => e z.1), if_neg e⟩
    · rcases g with g | g
      · refine ⟨if_neg (fun z => by omega), ?_⟩
        rw [g.2.2]
        split
        · grind
        · rfl
      · rw [e, lc_z] at g
        omega
  refine ⟨k1, ?_, ?_, ?_⟩
  · show _ = max (lc_mx (-1000) (lc_fd a1 a3 a4 a5 i a) b) (lc_fd a1 a3 a4 a5 i a b)
    rw [← k2, d.1]
    rcases k4 with k4 | k4 <;> omega
  · show _ = lc_sm (lc_ff a1 a3 a4 a9 i a) b + lc_ff a1 a3 a4 a9 i a b
    rw [d.2, ← k3]
    grind
  · rcases k4 with k4 | k4
    · exact Or.inl k4
    · refine Or.inr ⟨k4.1, k4.2.1, k4.2.2.1, ?_⟩
      show _ ≤ lc_K (lc_M i) b + lc_M i
      omega
theorem lc_FL_take {a1 a2 a3 a4 a5 a7 s5 s7 t5 : Nat → Int32} {a9 s9 : Nat → Int64} {i a b : Nat} {x6 : Int32} (hi : i ≤ 4) (hb : b < 3) (w1 : lc_W a1) (w3 : lc_W a3)
    (row : ∀ b, b < 3 → lc_G i (a2 (3 * i + b)) (a5 (3 * i + b)) (a7 (3 * i + b)) (a9 (3 * i + b)))
    (e4 : a4 (3 * b + a) = 0) (e7 : ¬ a7 (3 * i + b) = 0) (hx : x6 = (a5 (3 * i + b) + a3 (3 * b + a)) + a1 (3 * (i + 1) + a))
    (ho : ∀ j, j ≠ 3 * (i + 1) + a → t5 j = s5 j) (hm : (t5 (3 * (i + 1) + a)).toInt = max (s5 (3 * (i + 1) + a)).toInt x6.toInt)
    (h : lc_FL a1 a3 a4 a5 a7 a9 i a b s5 s7 s9) :
    lc_FL a1 a3 a4 a5 a7 a9 i a (b + 1) t5 (upd s7 (3 * (i + 1) + a) (s7 (3 * (i + 1) + a) + s7 (3 * i + b)))
      (vp_updL s9 (3 * (i + 1) + a) (s9 (3 * (i + 1) + a) + s9 (3 * i + b) * (a3 (3 * b + a)).toInt64 * (a1 (3 * (i + 1) + a)).toInt64)) := by
  obtain ⟨k1, k2, k3, k4⟩ := h
  have M := lc_M_b i (by omega)
  have K := lc_K_b M.2 M.1 b (by omega)
  have hf := k1 (3 * i + b) (by omega)
  have v1 := w1 (3 * (i + 1) + a)
  have v3 := w3 (3 * b + a)
  rcases row b hb with g | g
  · exact absurd g.2.1 e7
  obtain ⟨_, g1, g2, g3, g4⟩ := g
  have q : (a5 (3 * i + b) + a3 (3 * b + a)).toInt = (a5 (3 * i + b)).toInt + (a3 (3 * b + a)).toInt := lc_add (by omega) (by omega)
  have x6i : x6.toInt = (a5 (3 * i + b)).toInt + (a3 (3 * b + a)).toInt + (a1 (3 * (i + 1) + a)).toInt := by
    rw [hx, lc_add (by rw [q]; omega) (by rw [q]; omega), q]
  have d : lc_fd a1 a3 a4 a5 i a b = (a5 (3 * i + b)).toInt + ((a3 (3 * b + a)).toInt + (a1 (3 * (i + 1) + a)).toInt) := by
    unfold lc_fd lc_d
    exact if_pos ⟨e4, g1⟩
  refine ⟨fun j hj => ⟨(ho j hj).trans (k1 j hj).1, ?_, ?_⟩, ?_, ?_, ?_⟩
  · rw [pk_un hj]
    exact (k1 j hj).2.1
  · rw [pk_uLn hj]
    exact (k1 j hj).2.2
  · show _ = max (lc_mx (-1000) (lc_fd a1 a3 a4 a5 i a) b) (lc_fd a1 a3 a4 a5 i a b)
    rw [hm, ← k2, d, x6i]
    omega
  · show _ = lc_sm (lc_ff a1 a3 a4 a9 i a) b + lc_ff a1 a3 a4 a9 i a b
    rw [pk_uLs, k3, hf.2.2]
    unfold lc_ff
    rw [if_pos e4]
  · have s7b : 0 ≤ (s7 (3 * (i + 1) + a)).toInt ∧ (s7 (3 * (i + 1) + a)).toInt ≤ lc_K (lc_M i) b := by
      rcases k4 with k4 | k4
      · rw [k4.2.1, lc_z]
        omega
      · omega
    have s5b : (s5 (3 * (i + 1) + a)).toInt ≤ 18 * (i + 1) + 9 := by
      rcases k4 with k4 | k4 <;> omega
    rw [pk_us, pk_uLs, hf.2.1]
    refine Or.inr ⟨by omega, by omega, ?_, ?_⟩
    · rw [lc_add (by omega) (by omega)]
      omega
    · rw [lc_add (by omega) (by omega)]
      show _ ≤ lc_K (lc_M i) b + lc_M i
      omega
theorem lc_ff173 {post : St2 → Prop} {J : Int32 → (Nat → Int32) → (Nat → Int32) → (Nat → Int32) → (Nat → Int32) → (Nat → Int32) → (Nat → Int32) → (Nat → Int32) → (Nat → Int32) → (Nat → Int64) → (Nat → Int64) → (Nat → Int32) → (Nat → Int32) → (Nat → Int32) → (Nat → Int32) → Prop} {x1 : Int32} {fl fr : Int32} {a1 a2 a3 a4 a5 a6 a7 a8 a11 a12 a13 a14 : Nat → Int32} {a9 a10 : Nat → Int64} {i a b : Nat} (hi : i ≤ 4) (ha : a < 3) (hb : b < 3)
    (H : J (nI (b + 1)) a1 a2 a3 a4 a5 a6 (upd a7 (3 * (i + 1) + a) (a7 (3 * (i + 1) + a) + a7 (3 * i + b))) a8 (vp_updL a9 (3 * (i + 1) + a) (a9 (3 * (i + 1) + a) + a9 (3 * i + b) * (a3 (3 * b + a)).toInt64 * (a1 (3 * (i + 1) + a)).toInt64)) a10 a11 a12 a13 a14) :
    wX_fillFront_173 post J x1 (nI a) (nI (3 * (i + 1) + a)) (nI b) (nI (3 * i + b)) fl fr a1 a2 a3 a4 a5 a6 a7 a8 a9 a10 a11 a12 a13 a14 := by
  have ec : (nI (3 * (i + 1) + a)).toNatClampNeg = 3 * (i + 1) + a := lc_cl (by omega)
  have ef : (nI (3 * i + b)).toNatClampNeg = 3 * i + b := lc_cl (by omega)
  have em : ((3 : Int32) * nI b + nI a).toNatClampNeg = 3 * b + a := lc_cx (by omega)
  have ic : vp_in (nI (3 * (i + 1) + a)) 18 := pk_in (3 * (i + 1) + a) 18 (by omega)
  have jf : vp_in (nI (3 * i + b)) 18 := pk_in (3 * i + b) 18 (by omega)
  have im : vp_in ((3 : Int32) * nI b + nI a) 9 := pk_in (3 * b + a) 9 (by omega) (lc_ix b a)
  unfold wX_fillFront_173
  rw [ec, ef, em]
  exact ⟨ic, jf, ic, nm_e ⟨ic, jf, im, ic, ic, nm_e (nm_r (nI_1 b) H)⟩⟩
theorem lc_ff146 {post : St2 → Prop} {J : Int32 → (Nat → Int32) → (Nat → Int32) → (Nat → Int32) → (Nat → Int32) → (Nat → Int32) → (Nat → Int32) → (Nat → Int32) → (Nat → Int32) → (Nat → Int64) → (Nat → Int64) → (Nat → Int32) → (Nat → Int32) → (Nat → Int32) → (Nat → Int32) → Prop} {x1 x6 : Int32} {fl fr : Int32} {a1 a2 a3 a4 a5 a6 a7 a8 a11 a12 a13 a14 : Nat → Int32} {a9 a10 : Nat → Int64} {i a b : Nat} (hi : i ≤ 4) (ha : a < 3) (hb : b < 3)
    (H : ∀ b8, J (nI (b + 1)) a1 a2 a3 a4 a5 a6 (upd a7 (3 * (i + 1) + a) (a7 (3 * (i + 1) + a) + a7 (3 * i + b))) b8 (vp_updL a9 (3 * (i + 1) + a) (a9 (3 * (i + 1) + a) + a9 (3 * i + b) * (a3 (3 * b + a)).toInt64 * (a1 (3 * (i + 1) + a)).toInt64)) a10 a11 a12 a13 a14) :
    wX_fillFront_146 post J x1 (nI a) (nI (3 * (i + 1) + a)) (nI b) (nI (3 * i + b)) x6 fl fr a1 a2 a3 a4 a5 a6 a7 a8 a9 a10 a11 a12 a13 a14 := by
  have ic : vp_in (nI (3 * (i + 1) + a)) 18 := pk_in (3 * (i + 1) + a) 18 (by omega)
  have jf : vp_in (nI (3 * i + b)) 18 := pk_in (3 * i + b) 18 (by omega)
  unfold wX_fillFront_146
  exact ⟨ic, br_c (fun _ => ⟨ic, jf, ic, fun b8 _ => lc_ff173 hi ha hb (H b8)⟩) (fun _ => lc_ff173 hi ha hb (H _))⟩
theorem lc_ff49 {post : St2 → Prop} {fl fr : Int32} {a1 a2 a3 a4 a5 a6 a7 a8 a11 a12 a13 a14 : Nat → Int32} {a9 a10 : Nat → Int64} {i a : Nat} (hi : i ≤ 4) (ha : a < 3) (w1 : lc_W a1) (w3 : lc_W a3)
    (row : ∀ b, b < 3 → lc_G i (a2 (3 * i + b)) (a5 (3 * i + b)) (a7 (3 * i + b)) (a9 (3 * i + b)))
    (h5 : a5 (3 * (i + 1) + a) = -1000) (h7 : a7 (3 * (i + 1) + a) = 0) (h9 : a9 (3 * (i + 1) + a) = 0)
    (H : ∀ s5 s7 s8 s9, lc_FL a1 a3 a4 a5 a7 a9 i a 3 s5 s7 s9 → post (fl, fr, a1, a2, a3, a4, s5, a6, s7, s8, s9, a10, a11, a12, a13, a14)) :
    ∃ n, wX_fillFront_49 post (nI (i + 1)) (nI a) (nI (3 * (i + 1) + a)) fl fr n 0 a1 a2 a3 a4 a5 a6 a7 a8 a9 a10 a11 a12 a13 a14 := by
  refine pk_loop (fun n b (s : (Nat → Int32) × (Nat → Int32) × (Nat → Int32) × (Nat → Int64)) => wX_fillFront_49 post (nI (i + 1)) (nI a) (nI (3 * (i + 1) + a)) fl fr n (nI b) a1 a2 a3 a4 s.1 a6 s.2.1 s.2.2.1 s.2.2.2 a10 a11 a12 a13 a14)
    (fun b s => lc_FL a1 a3 a4 a5 a7 a9 i a b s.1 s.2.1 s.2.2.2) 3 0 (a5, a7, a8, a9) (by omega) ?_
    (fun n s h => pk_le 3 3 (fun _ => H _ _ _ _ h) (fun z => absurd z (by omega))) ?_
  · exact ⟨fun _ _ => ⟨rfl, rfl, rfl⟩, by show (a5 _).toInt = -1000; rw [h5]; exact lc_m1000, h9, Or.inl ⟨by show (a5 _).toInt = -1000; rw [h5]; exact lc_m1000, h7, h9⟩⟩
  · rintro n b ⟨s5, s7, s8, s9⟩ hb h hw
    have h' : lc_FL a1 a3 a4 a5 a7 a9 i a b s5 s7 s9 := h
    have ec : (nI (3 * (i + 1) + a)).toNatClampNeg = 3 * (i + 1) + a := lc_cl (by omega)
    have ef : (nI (3 * i + b)).toNatClampNeg = 3 * i + b := lc_cl (by omega)
    have em : ((3 : Int32) * nI b + nI a).toNatClampNeg = 3 * b + a := lc_cx (by omega)
    have ic : vp_in (nI (3 * (i + 1) + a)) 18 := pk_in (3 * (i + 1) + a) 18 (by omega)
    have jf : vp_in (nI (3 * i + b)) 18 := pk_in (3 * i + b) 18 (by omega)
    have im : vp_in ((3 : Int32) * nI b + nI a) 9 := pk_in (3 * b + a) 9 (by omega) (lc_ix b a)
    have kf := h'.1 (3 * i + b) (by omega)
    refine pk_le 3 b (fun z => absurd z (by omega)) (fun _ => nm_r (lc_ixm i b) ⟨im, br_c (fun g4 => ⟨jf, br_c (fun g7 => nm_r (nI_1 b) ?_) (fun g7 => ⟨jf, im, ic, fun x6 hx => ⟨ic, br_c (fun gx => ?_) (fun gx => ⟨ic, fun t5 ht => ⟨ic, fun t8 _ => ?_⟩⟩)⟩⟩)⟩) (fun g4 => nm_r (nI_1 b) ?_)⟩)
    · rw [ef] at g7
      have g7' : s7 (3 * i + b) = 0 := g7
      exact hw (s5, s7, s8, s9) (lc_FL_skip hi hb row (Or.inr (by rw [← kf.2.1]; exact g7')) h')
    · rw [em] at g4
      rw [ef] at g7
      have g7' : ¬ s7 (3 * i + b) = 0 := g7
      have hx' : x6 = (s5 (3 * i + b) + a3 (3 * b + a)) + a1 (3 * (i + 1) + a) := by
        rw [ec, ef, em] at hx
        exact hx
      have gx' : x6 ≤ s5 (3 * (i + 1) + a) := by
        rw [ec] at gx
        exact gx
      rw [Int32.le_iff_toInt_le] at gx'
      rw [kf.1] at hx'
      rw [kf.2.1] at g7'
      have tk := lc_FL_take (t5 := s5) hi hb w1 w3 row g4 g7' hx' (fun _ _ => rfl) (by omega) h'
      exact lc_ff146 hi ha hb (fun b8 => hw (s5, upd s7 (3 * (i + 1) + a) (s7 (3 * (i + 1) + a) + s7 (3 * i + b)), b8, vp_updL s9 (3 * (i + 1) + a) (s9 (3 * (i + 1) + a) + s9 (3 * i + b) * (a3 (3 * b + a)).toInt64 * (a1 (3 * (i + 1) + a)).toInt64)) tk)
    · rw [em] at g4
      rw [ef] at g7
      have g7' : ¬ s7 (3 * i + b) = 0 := g7
      have hx' : x6 = (s5 (3 * i + b) + a3 (3 * b + a)) + a1 (3 * (i + 1) + a) := by
        rw [ec, ef, em] at hx
        exact hx
      have gx' : ¬ x6 ≤ s5 (3 * (i + 1) + a) := by
        rw [ec] at gx
        exact gx
      have ht' : t5 = upd s5 (3 * (i + 1) + a) x6 := by
        rw [ec] at ht
        exact ht
      rw [Int32.le_iff_toInt_le] at gx'
      rw [kf.1] at hx'
      rw [kf.2.1] at g7'
      subst ht'
      have tk := lc_FL_take (t5 := upd s5 (3 * (i + 1) + a) x6) hi hb w1 w3 row g4 g7' hx' (fun j hj => pk_un hj) (by rw [pk_us]; omega) h'
      exact lc_ff146 hi ha hb (fun b8 => hw (upd s5 (3 * (i + 1) + a) x6, upd s7 (3 * (i + 1) + a) (s7 (3 * (i + 1) + a) + s7 (3 * i + b)), b8, vp_updL s9 (3 * (i + 1) + a) (s9 (3 * (i + 1) + a) + s9 (3 * i + b) * (a3 (3 * b + a)).toInt64 * (a1 (3 * (i + 1) + a)).toInt64)) tk)
    · rw [em] at g4
      exact hw (s5, s7, s8, s9) (lc_FL_skip hi hb row (Or.inl g4) h')
/-- fillFront: one cell more stands -/
theorem lc_fillFront {post : St2 → Prop} {fl fr : Int32} {a1 a2 a3 a4 a5 a6 a7 a8 a11 a12 a13 a14 : Nat → Int32} {a9 a10 : Nat → Int64} {i a : Nat} (hi : i ≤ 4) (ha : a < 3) (w1 : lc_W a1) (w3 : lc_W a3)
    (row : ∀ b, b < 3 → lc_G i (a2 (3 * i + b)) (a5 (3 * i + b)) (a7 (3 * i + b)) (a9 (3 * i + b)))
    (H : ∀ s5 s7 s8 s9, (∀ j, j ≠ 3 * (i + 1) + a → s5 j = a5 j ∧ s7 j = a7 j ∧ s9 j = a9 j) → lc_FC a1 a2 a3 a4 s5 s7 s9 (i + 1) a → post (fl, fr, a1, a2, a3, a4, s5, a6, s7, s8, s9, a10, a11, a12, a13, a14)) :
    wpX_fillFront post (fl, fr, a1, a2, a3, a4, a5, a6, a7, a8, a9, a10, a11, a12, a13, a14) (nI (i + 1)) (nI a) := by
  have ec : (nI (3 * (i + 1) + a)).toNatClampNeg = 3 * (i + 1) + a := lc_cl (by omega)
  have ic : vp_in (nI (3 * (i + 1) + a)) 18 := pk_in (3 * (i + 1) + a) 18 (by omega)
  unfold wpX_fillFront
  refine nm_r (lc_ix (i + 1) a) ⟨ic, nm_r (e' := upd a5 (3 * (i + 1) + a) (-1000)) (by rw [ec]) ⟨ic, nm_r (e' := upd a7 (3 * (i + 1) + a) 0) (by rw [ec]) ⟨ic, nm_e ⟨ic, nm_r (e' := vp_updL a9 (3 * (i + 1) + a) 0) (by rw [ec]) ⟨ic, ?_⟩⟩⟩⟩⟩
  have o5 : ∀ b, b < 3 → upd a5 (3 * (i + 1) + a) (-1000) (3 * i + b) = a5 (3 * i + b) := fun b hb => pk_un (by omega)
  have o7 : ∀ b, b < 3 → upd a7 (3 * (i + 1) + a) 0 (3 * i + b) = a7 (3 * i + b) := fun b hb => pk_un (by omega)
  have o9 : ∀ b, b < 3 → vp_updL a9 (3 * (i + 1) + a) 0 (3 * i + b) = a9 (3 * i + b) := fun b hb => pk_uLn (by omega)
  have off : ∀ j, j ≠ 3 * (i + 1) + a → upd a5 (3 * (i + 1) + a) (-1000) j = a5 j ∧ upd a7 (3 * (i + 1) + a) 0 j = a7 j ∧ vp_updL a9 (3 * (i + 1) + a) 0 j = a9 j := fun j hj => ⟨pk_un hj, pk_un hj, pk_uLn hj⟩
  refine br_c (fun g => lc_ff49 hi ha w1 w3 (fun b hb => by rw [o5 b hb, o7 b hb, o9 b hb]; exact row b hb) pk_us pk_us pk_uLs (fun s5 s7 s8 s9 h => H s5 s7 s8 s9 (fun j hj => ?_) ?_)) (fun g => H _ _ _ _ off ?_)
  · exact ⟨(h.1 j hj).1.trans (off j hj).1, (h.1 j hj).2.1.trans (off j hj).2.1, (h.1 j hj).2.2.trans (off j hj).2.2⟩
  · rw [ec] at g
    obtain ⟨k1, k2, k3, k4⟩ := h
    refine ⟨?_, fun m e => ?_⟩
    · rcases k4 with k4 | k4
      · exact Or.inl k4
      · refine Or.inr ⟨g, k4.1, by omega, k4.2.2.1, ?_⟩
        have q := k4.2.2.2
        simp only [lc_K] at q
        show _ ≤ 3 * lc_M i
        omega
    · have e' : m = i := by omega
      subst e'
      rw [if_pos g, if_pos g, k2, k3]
      refine ⟨lc_mx_cong 3 (fun b hb => ?_), lc_sm_cong 3 (fun b hb => ?_)⟩
      · unfold lc_fd
        rw [(k1 (3 * m + b) (by omega)).1]
      · unfold lc_ff
        rw [(k1 (3 * m + b) (by omega)).2.2]
  · rw [ec] at g
    refine ⟨Or.inl ⟨by rw [pk_us]; exact lc_m1000, pk_us, pk_uLs⟩, fun m e => ?_⟩
    rw [if_neg g, if_neg g, pk_us, pk_uLs]
    exact ⟨lc_m1000, rfl⟩
end
section
/-! one cell of the back tables -/
theorem lc_BC_cong {n : Nat} {a1 a2 a3 a4 a6 s6 : Nat → Int32} {a10 s10 : Nat → Int64} {i a c : Nat} (ha : a < 3) (hc : 3 * i + a ≠ c) (hr : ∀ b, b < 3 → 3 * (i + 1) + b ≠ c)
    (k : ∀ j, j ≠ c → s6 j = a6 j ∧ s10 j = a10 j) (h : lc_BC n a1 a2 a3 a4 a6 a10 i a) : lc_BC n a1 a2 a3 a4 s6 s10 i a := by
  have kc := k (3 * i + a) hc
  have q1 : lc_mx (-1000) (lc_bd a3 a4 s6 i a) 3 = lc_mx (-1000) (lc_bd a3 a4 a6 i a) 3 := lc_mx_cong 3 (fun b hb => by
    unfold lc_bd
    rw [(k _ (hr b hb)).1])
  have q2 : lc_sm (lc_bf a1 a2 a3 a4 s10 i a) 3 = lc_sm (lc_bf a1 a2 a3 a4 a10 i a) 3 := lc_sm_cong 3 (fun b hb => by
    unfold lc_bf
    rw [(k _ (hr b hb)).2])
  unfold lc_BC at h ⊢
  rw [kc.1, kc.2, q1, q2]
  exact h
def lc_BL (n : Nat) (a1 a2 a3 a4 a6 : Nat → Int32) (a10 : Nat → Int64) (i a b : Nat) (x4 : Int32) (x5 : Int64) : Prop :=
  x4.toInt = lc_mx (-1000) (lc_bd a3 a4 a6 i a) b ∧ x5 = lc_sm (lc_bf a1 a2 a3 a4 a10 i a) b ∧
  ((x4.toInt = -1000 ∧ x5 = 0) ∨ (0 ≤ x4.toInt ∧ x4.toInt + 18 * i + 9 ≤ 18 * n))
theorem lc_BL_skip {n : Nat} {a1 a2 a3 a4 a6 : Nat → Int32} {a10 : Nat → Int64} {i a b : Nat} {x4 : Int32} {x5 : Int64}
    (g : lc_H n (i + 1) (a2 (3 * (i + 1) + b)) (a6 (3 * (i + 1) + b)) (a10 (3 * (i + 1) + b)))
    (e : ¬ a4 (3 * a + b) = 0 ∨ ¬ 0 ≤ (a6 (3 * (i + 1) + b)).toInt) (h : lc_BL n a1 a2 a3 a4 a6 a10 i a b x4 x5) : lc_BL n a1 a2 a3 a4 a6 a10 i a (b + 1) x4 x5 := by
  obtain ⟨k2, k3, k4⟩ := h
  have d : lc_bd a3 a4 a6 i a b = -1000 ∧ lc_bf a1 a2 a3 a4 a10 i a b = 0 := by
    unfold lc_bd lc_bf lc_d
    rcases e with e | e
    · exact ⟨if_neg (fun z => e z.1), if_neg (fun z => e z.1)⟩
    · refine ⟨if_neg (fun z => e z.2), ?_⟩
      rcases g with g | g
      · by_cases q : a4 (3 * a + b) = 0 ∧ a2 (3 * (i + 1) + b) = 0
        · rw [if_pos q, g.2 q.2]
          grind
        · exact if_neg q
      · omega
  refine ⟨?_, ?_, k4⟩
  · show _ = max (lc_mx (-1000) (lc_bd a3 a4 a6 i a) b) (lc_bd a3 a4 a6 i a b)
    rw [← k2, d.1]
    rcases k4 with k4 | k4 <;> omega
  · show _ = lc_sm (lc_bf a1 a2 a3 a4 a10 i a) b + lc_bf a1 a2 a3 a4 a10 i a b
    rw [d.2, ← k3]
    grind
theorem lc_BL_take {n : Nat} {a1 a2 a3 a4 a6 : Nat → Int32} {a10 : Nat → Int64} {i a b : Nat} {x4 y4 x9 : Int32} {x5 y5 : Int64} (hn : n ≤ 6) (w1 : lc_W a1) (w3 : lc_W a3)
    (g : lc_H n (i + 1) (a2 (3 * (i + 1) + b)) (a6 (3 * (i + 1) + b)) (a10 (3 * (i + 1) + b)))
    (e4 : a4 (3 * a + b) = 0) (e6 : 0 ≤ (a6 (3 * (i + 1) + b)).toInt) (hx : x9 = a3 (3 * a + b) + a6 (3 * (i + 1) + b))
    (hm : y4.toInt = max x4.toInt x9.toInt) (hy : y5 = x5 + (a3 (3 * a + b) * a1 (3 * (i + 1) + b)).toInt64 * a10 (3 * (i + 1) + b))
    (h : lc_BL n a1 a2 a3 a4 a6 a10 i a b x4 x5) : lc_BL n a1 a2 a3 a4 a6 a10 i a (b + 1) y4 y5 := by
  obtain ⟨k2, k3, k4⟩ := h
  have v3 := w3 (3 * a + b)
  rcases g with g | g
  · omega
  obtain ⟨g0, g1, g2⟩ := g
  have x9i : x9.toInt = (a3 (3 * a + b)).toInt + (a6 (3 * (i + 1) + b)).toInt := by
    rw [hx]
    exact lc_add (by omega) (by omega)
  have d : lc_bd a3 a4 a6 i a b = (a6 (3 * (i + 1) + b)).toInt + (a3 (3 * a + b)).toInt := by
    unfold lc_bd lc_d
    exact if_pos ⟨e4, e6⟩
  refine ⟨?_, ?_, Or.inr ?_⟩
  · show _ = max (lc_mx (-1000) (lc_bd a3 a4 a6 i a) b) (lc_bd a3 a4 a6 i a b)
    rw [hm, ← k2, d, x9i]
    omega
  · show _ = lc_sm (lc_bf a1 a2 a3 a4 a10 i a) b + lc_bf a1 a2 a3 a4 a10 i a b
    rw [hy, k3, lc_w64 v3 (w1 _)]
    unfold lc_bf
    rw [if_pos ⟨e4, g0⟩]
  · rcases k4 with k4 | k4 <;> omega
theorem lc_fb137 {post : St2 → Prop} {J : Int32 → Int64 → Int32 → Prop} {x1 x3 x4 : Int32} {x5 : Int64} {fl fr : Int32} {a1 a2 a3 a4 a5 a6 a7 a8 a11 a12 a13 a14 : Nat → Int32} {a9 a10 : Nat → Int64} {i a b : Nat} (hi : i ≤ 4) (ha : a < 3) (hb : b < 3)
    (H : J x4 (x5 + (a3 (3 * a + b) * a1 (3 * (i + 1) + b)).toInt64 * a10 (3 * (i + 1) + b)) (nI (b + 1))) :
    wX_fillBack_137 post J x1 (nI a) x3 x4 x5 (nI b) (nI (3 * (i + 1) + b)) fl fr a1 a2 a3 a4 a5 a6 a7 a8 a9 a10 a11 a12 a13 a14 := by
  have ef : (nI (3 * (i + 1) + b)).toNatClampNeg = 3 * (i + 1) + b := lc_cl (by omega)
  have em : ((3 : Int32) * nI a + nI b).toNatClampNeg = 3 * a + b := lc_cx (by omega)
  have jf : vp_in (nI (3 * (i + 1) + b)) 18 := pk_in (3 * (i + 1) + b) 18 (by omega)
  have im : vp_in ((3 : Int32) * nI a + nI b) 9 := pk_in (3 * a + b) 9 (by omega) (lc_ix a b)
  unfold wX_fillBack_137
  rw [ef, em]
  exact ⟨im, jf, jf, nm_e (nm_r (nI_1 b) H)⟩
theorem lc_fb62 {post : St2 → Prop} {fl fr : Int32} {a1 a2 a3 a4 a5 a6 a7 a8 a11 a12 a13 a14 : Nat → Int32} {a9 a10 : Nat → Int64} {n i a : Nat} (hn : n ≤ 6) (hi : i + 1 < n) (ha : a < 3) (w1 : lc_W a1) (w3 : lc_W a3)
    (row : ∀ b, b < 3 → lc_H n (i + 1) (a2 (3 * (i + 1) + b)) (a6 (3 * (i + 1) + b)) (a10 (3 * (i + 1) + b)))
    (H : ∀ s6 s10, (∀ j, j ≠ 3 * i + a → s6 j = a6 j ∧ s10 j = a10 j) → lc_BC n a1 a2 a3 a4 s6 s10 i a → post (fl, fr, a1, a2, a3, a4, a5, s6, a7, a8, a9, s10, a11, a12, a13, a14)) :
    ∃ k, wX_fillBack_62 post (nI i) (nI a) (nI (3 * i + a)) fl fr a1 a2 a3 a4 a5 a6 a7 a8 a9 a10 a11 a12 a13 a14 k (-1000) 0 0 := by
  have ec : (nI (3 * i + a)).toNatClampNeg = 3 * i + a := lc_cl (by omega)
  have ic : vp_in (nI (3 * i + a)) 18 := pk_in (3 * i + a) 18 (by omega)
  refine pk_loop (fun k b (s : Int32 × Int64) => wX_fillBack_62 post (nI i) (nI a) (nI (3 * i + a)) fl fr a1 a2 a3 a4 a5 a6 a7 a8 a9 a10 a11 a12 a13 a14 k s.1 s.2 (nI b))
    (fun b s => lc_BL n a1 a2 a3 a4 a6 a10 i a b s.1 s.2) 3 0 (-1000, 0) (by omega) ⟨lc_m1000, rfl, Or.inl ⟨lc_m1000, rfl⟩⟩ ?_ ?_
  · rintro k ⟨x4, x5⟩ h
    obtain ⟨k2, k3, k4⟩ : lc_BL n a1 a2 a3 a4 a6 a10 i a 3 x4 x5 := h
    have v1 := w1 (3 * i + a)
    have C : ∀ y6 : Int32, (y6.toInt = if a2 (3 * i + a) = 0 ∧ 0 ≤ x4.toInt then (a1 (3 * i + a)).toInt + x4.toInt else -1000) → lc_BC n a1 a2 a3 a4 (upd a6 (3 * i + a) y6) (vp_updL a10 (3 * i + a) x5) i a := by
      intro y6 hy
      have q1 : lc_mx (-1000) (lc_bd a3 a4 (upd a6 (3 * i + a) y6) i a) 3 = x4.toInt := by
        rw [k2]
        exact lc_mx_cong 3 (fun b hb => by
          unfold lc_bd
          rw [pk_un (by omega)])
      have q2 : lc_sm (lc_bf a1 a2 a3 a4 (vp_updL a10 (3 * i + a) x5) i a) 3 = x5 := by
        rw [k3]
        exact lc_sm_cong 3 (fun b hb => by
          unfold lc_bf
          rw [pk_uLn (by omega)])
      unfold lc_BC
      rw [q1, q2, pk_us, pk_uLs]
      refine ⟨?_, fun z => absurd z (by omega), fun _ => ⟨hy, rfl⟩⟩
      by_cases q : a2 (3 * i + a) = 0 ∧ 0 ≤ x4.toInt
      · rw [if_pos q] at hy
        refine Or.inr ⟨q.1, by omega, ?_⟩
        rcases k4 with k4 | k4 <;> omega
      · rw [if_neg q] at hy
        refine Or.inl ⟨hy, fun z => ?_⟩
        rcases k4 with k4 | k4
        · exact k4.2
        · exact absurd ⟨z, k4.1⟩ q
    have off : ∀ y6 : Int32, ∀ j, j ≠ 3 * i + a → upd a6 (3 * i + a) y6 j = a6 j ∧ vp_updL a10 (3 * i + a) x5 j = a10 j := fun y6 j hj => ⟨pk_un hj, pk_uLn hj⟩
    refine pk_le 3 3 (fun _ => ⟨ic, nm_r (e' := vp_updL a10 (3 * i + a) x5) (by rw [ec]) ⟨ic, br_c (fun g2 => br_c (fun g4 => ⟨ic, ic, nm_r (e' := upd a6 (3 * i + a) (a1 (3 * i + a) + x4)) (by rw [ec]) (H _ _ (off _) (C _ ?_))⟩) (fun g4 => ⟨ic, nm_r (e' := upd a6 (3 * i + a) (-1000)) (by rw [ec]) (H _ _ (off _) (C _ ?_))⟩)) (fun g2 => ⟨ic, nm_r (e' := upd a6 (3 * i + a) (-1000)) (by rw [ec]) (H _ _ (off _) (C _ ?_))⟩)⟩⟩) (fun z => absurd z (by omega))
    · rw [ec] at g2
      rw [Int32.le_iff_toInt_le, lc_z] at g4
      rw [if_pos ⟨g2, g4⟩]
      exact lc_add (by omega) (by rcases k4 with k4 | k4 <;> omega)
    · rw [Int32.le_iff_toInt_le, lc_z] at g4
      rw [if_neg (fun z => g4 z.2)]
      exact lc_m1000
    · rw [ec] at g2
      rw [if_neg (fun z => g2 z.1)]
      exact lc_m1000
  · rintro k b ⟨x4, x5⟩ hb h hw
    have h' : lc_BL n a1 a2 a3 a4 a6 a10 i a b x4 x5 := h
    have ef : (nI (3 * (i + 1) + b)).toNatClampNeg = 3 * (i + 1) + b := lc_cl (by omega)
    have em : ((3 : Int32) * nI a + nI b).toNatClampNeg = 3 * a + b := lc_cx (by omega)
    have jf : vp_in (nI (3 * (i + 1) + b)) 18 := pk_in (3 * (i + 1) + b) 18 (by omega)
    have im : vp_in ((3 : Int32) * nI a + nI b) 9 := pk_in (3 * a + b) 9 (by omega) (lc_ix a b)
    refine pk_le 3 b (fun z => absurd z (by omega)) (fun _ => nm_r (lc_ixp i b) ⟨im, br_c (fun g4 => ⟨jf, br_c (fun g6 => ⟨im, jf, fun x9 hx => br_c (fun gx => ?_) (fun gx => ?_)⟩) (fun g6 => nm_r (nI_1 b) ?_)⟩) (fun g4 => nm_r (nI_1 b) ?_)⟩)
    · rw [em] at g4
      rw [ef, Int32.le_iff_toInt_le, lc_z] at g6
      rw [em, ef] at hx
      have gx' : x9 ≤ x4 := gx
      rw [Int32.le_iff_toInt_le] at gx'
      have tk := lc_BL_take (y4 := x4) hn w1 w3 (row b hb) g4 g6 hx (by omega) rfl h'
      exact lc_fb137 (by omega) ha hb (hw (x4, x5 + (a3 (3 * a + b) * a1 (3 * (i + 1) + b)).toInt64 * a10 (3 * (i + 1) + b)) tk)
    · rw [em] at g4
      rw [ef, Int32.le_iff_toInt_le, lc_z] at g6
      rw [em, ef] at hx
      have gx' : ¬ x9 ≤ x4 := gx
      rw [Int32.le_iff_toInt_le] at gx'
      have tk := lc_BL_take (y4 := x9) hn w1 w3 (row b hb) g4 g6 hx (by omega) rfl h'
      exact lc_fb137 (by omega) ha hb (hw (x9, x5 + (a3 (3 * a + b) * a1 (3 * (i + 1) + b)).toInt64 * a10 (3 * (i + 1) + b)) tk)
    · rw [ef, Int32.le_iff_toInt_le, lc_z] at g6
      exact hw (x4, x5) (lc_BL_skip (row b hb) (Or.inr g6) h')
    · rw [em] at g4
      exact hw (x4, x5) (lc_BL_skip (row b hb) (Or.inl g4) h')
theorem lc_fb32 {post : St2 → Prop} {z0 : Int32} {fr : Int32} {a1 a2 a3 a4 a5 a6 a7 a8 a11 a12 a13 a14 : Nat → Int32} {a9 a10 : Nat → Int64} {m i a : Nat} (hm : m ≤ 5) (hi : i ≤ m) (ha : a < 3) (w1 : lc_W a1) (w3 : lc_W a3)
    (hz : a2 (3 * i + a) = 0 ∧ z0 = a1 (3 * i + a) ∨ ¬ a2 (3 * i + a) = 0 ∧ z0 = -1000)
    (row : i < m → ∀ b, b < 3 → lc_H (m + 1) (i + 1) (a2 (3 * (i + 1) + b)) (a6 (3 * (i + 1) + b)) (a10 (3 * (i + 1) + b)))
    (H : ∀ s6 s10, (∀ j, j ≠ 3 * i + a → s6 j = a6 j ∧ s10 j = a10 j) → lc_BC (m + 1) a1 a2 a3 a4 s6 s10 i a → post (nI (m + 1), fr, a1, a2, a3, a4, a5, s6, a7, a8, a9, s10, a11, a12, a13, a14)) :
    wX_fillBack_32 post (nI i) (nI a) (nI (3 * i + a)) z0 (nI (3 * i + a)) (nI (m + 1)) fr a1 a2 a3 a4 a5 a6 a7 a8 a9 a10 a11 a12 a13 a14 := by
  have ec : (nI (3 * i + a)).toNatClampNeg = 3 * i + a := lc_cl (by omega)
  have ic : vp_in (nI (3 * i + a)) 18 := pk_in (3 * i + a) 18 (by omega)
  have off : ∀ j, j ≠ 3 * i + a → upd a6 (3 * i + a) z0 j = a6 j ∧ vp_updL a10 (3 * i + a) 1 j = a10 j := fun j hj => ⟨pk_un hj, pk_uLn hj⟩
  unfold wX_fillBack_32
  refine ⟨ic, nm_r (e' := upd a6 (3 * i + a) z0) (by rw [ec]) ⟨ic, nm_r (e' := vp_updL a10 (3 * i + a) 1) (by rw [ec]) (pk_eq i m (fun e => H _ _ off ?_) (fun e => ?_) rfl (nI_pred m))⟩⟩
  · subst e
    have v1 := w1 (3 * i + a)
    unfold lc_BC
    rw [pk_us, pk_uLs]
    refine ⟨?_, fun _ => ⟨fun z => ?_, rfl⟩, fun z => absurd z (by omega)⟩
    · rcases hz with hz | hz
      · refine Or.inr ⟨hz.1, ?_, ?_⟩ <;> rw [hz.2] <;> omega
      · exact Or.inl ⟨by rw [hz.2]; exact lc_m1000, fun z => absurd z hz.1⟩
    · rcases hz with hz | hz
      · exact hz.2
      · exact absurd z hz.1
  · refine lc_fb62 (n := m + 1) (by omega) (by omega) ha w1 w3 (fun b hb => ?_) (fun s6 s10 ho hc => H s6 s10 (fun j hj => ⟨(ho j hj).1.trans (off j hj).1, (ho j hj).2.trans (off j hj).2⟩) hc)
    rw [pk_un (by omega), pk_uLn (by omega)]
    exact row (by omega) b hb
/-- fillBack: one cell more stands -/
theorem lc_fillBack {post : St2 → Prop} {fr : Int32} {a1 a2 a3 a4 a5 a6 a7 a8 a11 a12 a13 a14 : Nat → Int32} {a9 a10 : Nat → Int64} {m i a : Nat} (hm : m ≤ 5) (hi : i ≤ m) (ha : a < 3) (w1 : lc_W a1) (w3 : lc_W a3)
    (row : i < m → ∀ b, b < 3 → lc_H (m + 1) (i + 1) (a2 (3 * (i + 1) + b)) (a6 (3 * (i + 1) + b)) (a10 (3 * (i + 1) + b)))
    (H : ∀ s6 s10, (∀ j, j ≠ 3 * i + a → s6 j = a6 j ∧ s10 j = a10 j) → lc_BC (m + 1) a1 a2 a3 a4 s6 s10 i a → post (nI (m + 1), fr, a1, a2, a3, a4, a5, s6, a7, a8, a9, s10, a11, a12, a13, a14)) :
    wpX_fillBack post (nI (m + 1), fr, a1, a2, a3, a4, a5, a6, a7, a8, a9, a10, a11, a12, a13, a14) (nI i) (nI a) := by
  have ec : (nI (3 * i + a)).toNatClampNeg = 3 * i + a := lc_cl (by omega)
  have ic : vp_in (nI (3 * i + a)) 18 := pk_in (3 * i + a) 18 (by omega)
  unfold wpX_fillBack
  refine nm_r (lc_ix i a) ⟨ic, br_c (fun g => ⟨ic, lc_fb32 hm hi ha w1 w3 (Or.inl ?_) row H⟩) (fun g => lc_fb32 hm hi ha w1 w3 (Or.inr ?_) row H)⟩
  · rw [ec] at g ⊢
    exact ⟨g, rfl⟩
  · rw [ec] at g
    exact ⟨g, rfl⟩
end
section
/-! fill: whatever the tables held, they stand afterwards -/
theorem lc_lt3 {P : Nat → Prop} {k : Nat} (h : ∀ a, a < k → P a) (hk : P k) : ∀ a, a < k + 1 → P a := by
  intro a ha
  by_cases e : a = k
  · rw [e]
    exact hk
  · exact h a (by omega)
theorem lc_m1s (x : Int32) : x + (-1) = x - 1 := by grind
/-- the end of fill -/
theorem lc_fillEnd {post : St2 → Prop} {fr : Int32} {a1 a2 a3 a4 a5 a6 a7 a8 a11 a12 a13 a14 : Nat → Int32} {a9 a10 : Nat → Int64} {m : Nat} (hm : m ≤ 5)
    (H : ∀ b11 b12 b13 b14, post (nI (m + 1), fr, a1, a2, a3, a4, a5, a6, a7, a8, a9, a10, b11, b12, b13, b14)) : ∀ k, wX_fill_73 post (k + 1) (nI 0 - 1) (nI (m + 1)) fr a1 a2 a3 a4 a5 a6 a7 a8 a9 a10 a11 a12 a13 a14 := by
  intro k
  refine br_t (show nI 0 - 1 < 0 by decide) (lc_rankSums (by omega) (by omega) (fun b11 b12 b13 => lc_gs hm (fun r _ => br_c (fun _ => H _ _ _ _) (fun _ => lc_choose hm (fun b14 => H _ _ _ _)))))
/-- the back tables from row j on -/
def lc_B (m : Nat) (a1 a2 a3 a4 a6 : Nat → Int32) (a10 : Nat → Int64) (j : Nat) : Prop := ∀ i a, j ≤ i → i < m + 1 → a < 3 → lc_BC (m + 1) a1 a2 a3 a4 a6 a10 i a
theorem lc_fill79 {post : St2 → Prop} {J : Int32 → Int32 → Int32 → (Nat → Int32) → (Nat → Int32) → (Nat → Int32) → (Nat → Int32) → (Nat → Int32) → (Nat → Int32) → (Nat → Int32) → (Nat → Int32) → (Nat → Int64) → (Nat → Int64) → (Nat → Int32) → (Nat → Int32) → (Nat → Int32) → (Nat → Int32) → Prop} {fr : Int32} {a1 a2 a3 a4 a5 a6 a7 a8 a11 a12 a13 a14 : Nat → Int32} {a9 a10 : Nat → Int64} {m i : Nat} (hm : m ≤ 5) (hi : i ≤ m) (w1 : lc_W a1) (w3 : lc_W a3)
    (h : lc_B m a1 a2 a3 a4 a6 a10 (i + 1)) (H : ∀ s6 s10, lc_B m a1 a2 a3 a4 s6 s10 i → J (nI i - 1) (nI (m + 1)) fr a1 a2 a3 a4 a5 s6 a7 a8 a9 s10 a11 a12 a13 a14) :
    ∃ k, wX_fill_79 post J (nI i) k 0 (nI (m + 1)) fr a1 a2 a3 a4 a5 a6 a7 a8 a9 a10 a11 a12 a13 a14 := by
  refine pk_loop (fun k a (s : (Nat → Int32) × (Nat → Int64)) => wX_fill_79 post J (nI i) k (nI a) (nI (m + 1)) fr a1 a2 a3 a4 a5 s.1 a7 a8 a9 s.2 a11 a12 a13 a14)
    (fun a s => lc_B m a1 a2 a3 a4 s.1 s.2 (i + 1) ∧ ∀ b, b < a → lc_BC (m + 1) a1 a2 a3 a4 s.1 s.2 i b) 3 0 (a6, a10) (by omega) ⟨h, fun b hb => absurd hb (by omega)⟩ ?_ ?_
  · rintro k ⟨s6, s10⟩ h
    obtain ⟨h1, h2⟩ : lc_B m a1 a2 a3 a4 s6 s10 (i + 1) ∧ ∀ b, b < 3 → lc_BC (m + 1) a1 a2 a3 a4 s6 s10 i b := h
    refine pk_le 3 3 (fun _ => nm_r (lc_m1s _) (H s6 s10 (fun j a hj hjm ha => ?_))) (fun z => absurd z (by omega))
    by_cases e : j = i
    · rw [e]
      exact h2 a ha
    · exact h1 j a (by omega) hjm ha
  · rintro k a ⟨s6, s10⟩ ha h hw
    obtain ⟨h1, h2⟩ : lc_B m a1 a2 a3 a4 s6 s10 (i + 1) ∧ ∀ b, b < a → lc_BC (m + 1) a1 a2 a3 a4 s6 s10 i b := h
    refine pk_le 3 a (fun z => absurd z (by omega)) (fun _ => lc_fillBack hm hi ha w1 w3 (fun hl b hb => (h1 (i + 1) b (by omega) (by omega) hb).1) (fun t6 t10 ho hc => nm_r (nI_1 a) (hw (t6, t10) ⟨?_, ?_⟩)))
    · intro j b hj hjm hb
      exact lc_BC_cong hb (by omega) (fun b' hb' => by omega) ho (h1 j b hj hjm hb)
    · exact lc_lt3 (fun b hb => lc_BC_cong (by omega) (by omega) (fun b' hb' => by omega) ho (h2 b hb)) hc
theorem lc_fill73 {post : St2 → Prop} {fr : Int32} {a1 a2 a3 a4 a5 a6 a7 a8 a11 a12 a13 a14 : Nat → Int32} {a9 a10 : Nat → Int64} {m : Nat} (hm : m ≤ 5) (w1 : lc_W a1) (w3 : lc_W a3)
    (H : ∀ b6 b10 b11 b12 b13 b14, lc_B m a1 a2 a3 a4 b6 b10 0 → post (nI (m + 1), fr, a1, a2, a3, a4, a5, b6, a7, a8, a9, b10, b11, b12, b13, b14)) :
    ∃ k, wX_fill_73 post k (nI (m + 1) - 1) (nI (m + 1)) fr a1 a2 a3 a4 a5 a6 a7 a8 a9 a10 a11 a12 a13 a14 :=
  ⟨m + 1 + 1, pk_loopD (fun k j (s : (Nat → Int32) × (Nat → Int64)) => wX_fill_73 post k (nI j - 1) (nI (m + 1)) fr a1 a2 a3 a4 a5 s.1 a7 a8 a9 s.2 a11 a12 a13 a14) (fun j s => j ≤ m + 1 ∧ lc_B m a1 a2 a3 a4 s.1 s.2 j)
    (fun k s h => lc_fillEnd hm (fun b11 b12 b13 b14 => H _ _ _ _ _ _ h.2) k)
    (fun k j s h hw => by
      have h1 : j + 1 ≤ m + 1 := h.1
      show wX_fill_73 post (k + 1) (nI (j + 1) - 1) (nI (m + 1)) fr a1 a2 a3 a4 a5 s.1 a7 a8 a9 s.2 a11 a12 a13 a14
      rw [nI_pred]
      exact br_f (nI_pos (by omega)) (lc_fill79 hm (by omega) w1 w3 h.2 (fun s6 s10 hb => hw (s6, s10) ⟨by omega, hb⟩)))
    (m + 1) (a6, a10) ⟨Nat.le_refl _, fun i a h1 h2 _ => absurd h1 (by omega)⟩⟩
/-- the front tables up to row j -/
def lc_F (a1 a2 a3 a4 a5 a7 : Nat → Int32) (a9 : Nat → Int64) (j : Nat) : Prop := ∀ i a, i < j → a < 3 → lc_FC a1 a2 a3 a4 a5 a7 a9 i a
theorem lc_fill43 {post : St2 → Prop} {J : Int32 → Int32 → Int32 → (Nat → Int32) → (Nat → Int32) → (Nat → Int32) → (Nat → Int32) → (Nat → Int32) → (Nat → Int32) → (Nat → Int32) → (Nat → Int32) → (Nat → Int64) → (Nat → Int64) → (Nat → Int32) → (Nat → Int32) → (Nat → Int32) → (Nat → Int32) → Prop} {fl fr : Int32} {a1 a2 a3 a4 a5 a6 a7 a8 a11 a12 a13 a14 : Nat → Int32} {a9 a10 : Nat → Int64} {i : Nat} (hi : i ≤ 4) (w1 : lc_W a1) (w3 : lc_W a3)
    (h : lc_F a1 a2 a3 a4 a5 a7 a9 (i + 1)) (H : ∀ s5 s7 s8 s9, lc_F a1 a2 a3 a4 s5 s7 s9 (i + 1 + 1) → J (nI (i + 1 + 1)) fl fr a1 a2 a3 a4 s5 a6 s7 s8 s9 a10 a11 a12 a13 a14) :
    ∃ k, wX_fill_43 post J (nI (i + 1)) k 0 fl fr a1 a2 a3 a4 a5 a6 a7 a8 a9 a10 a11 a12 a13 a14 := by
  refine pk_loop (fun k a (s : (Nat → Int32) × (Nat → Int32) × (Nat → Int32) × (Nat → Int64)) => wX_fill_43 post J (nI (i + 1)) k (nI a) fl fr a1 a2 a3 a4 s.1 a6 s.2.1 s.2.2.1 s.2.2.2 a10 a11 a12 a13 a14)
    (fun a s => lc_F a1 a2 a3 a4 s.1 s.2.1 s.2.2.2 (i + 1) ∧ ∀ b, b < a → lc_FC a1 a2 a3 a4 s.1 s.2.1 s.2.2.2 (i + 1) b) 3 0 (a5, a7, a8, a9) (by omega) ⟨h, fun b hb => absurd hb (by omega)⟩ ?_ ?_
  · rintro k ⟨s5, s7, s8, s9⟩ h
    obtain ⟨h1, h2⟩ : lc_F a1 a2 a3 a4 s5 s7 s9 (i + 1) ∧ ∀ b, b < 3 → lc_FC a1 a2 a3 a4 s5 s7 s9 (i + 1) b := h
    refine pk_le 3 3 (fun _ => nm_r (nI_1 _) (H s5 s7 s8 s9 (fun j a hj ha => ?_))) (fun z => absurd z (by omega))
    by_cases e : j = i + 1
    · rw [e]
      exact h2 a ha
    · exact h1 j a (by omega) ha
  · rintro k a ⟨s5, s7, s8, s9⟩ ha h hw
    obtain ⟨h1, h2⟩ : lc_F a1 a2 a3 a4 s5 s7 s9 (i + 1) ∧ ∀ b, b < a → lc_FC a1 a2 a3 a4 s5 s7 s9 (i + 1) b := h
    refine pk_le 3 a (fun z => absurd z (by omega)) (fun _ => lc_fillFront hi ha w1 w3 (fun b hb => (h1 i b (by omega) hb).1) (fun t5 t7 t8 t9 ho hc => nm_r (nI_1 a) (hw (t5, t7, t8, t9) ⟨?_, ?_⟩)))
    · intro j b hj hb
      exact lc_FC_cong hb (by omega) ho (h1 j b hj hb)
    · exact lc_lt3 (fun b hb => lc_FC_cong (by omega) (by omega) ho (h2 b hb)) hc
theorem lc_fill33 {post : St2 → Prop} {fr : Int32} {a1 a2 a3 a4 a5 a6 a7 a8 a11 a12 a13 a14 : Nat → Int32} {a9 a10 : Nat → Int64} {m : Nat} (hm : m ≤ 5) (w1 : lc_W a1) (w3 : lc_W a3) (h : lc_F a1 a2 a3 a4 a5 a7 a9 1)
    (H : ∀ b5 b6 b7 b8 b9 b10 b11 b12 b13 b14, lc_T (m + 1) a1 a2 a3 a4 b5 b6 b7 b9 b10 → post (nI (m + 1), fr, a1, a2, a3, a4, b5, b6, b7, b8, b9, b10, b11, b12, b13, b14)) :
    ∃ k, wX_fill_33 post k 1 (nI (m + 1)) fr a1 a2 a3 a4 a5 a6 a7 a8 a9 a10 a11 a12 a13 a14 := by
  refine pk_loop (fun k i (s : (Nat → Int32) × (Nat → Int32) × (Nat → Int32) × (Nat → Int64)) => wX_fill_33 post k (nI i) (nI (m + 1)) fr a1 a2 a3 a4 s.1 a6 s.2.1 s.2.2.1 s.2.2.2 a10 a11 a12 a13 a14)
    (fun i s => lc_F a1 a2 a3 a4 s.1 s.2.1 s.2.2.2 i ∧ 1 ≤ i) (m + 1) 1 (a5, a7, a8, a9) (by omega) ⟨h, by omega⟩ ?_ ?_
  · rintro k ⟨s5, s7, s8, s9⟩ h
    obtain ⟨h1, _⟩ : lc_F a1 a2 a3 a4 s5 s7 s9 (m + 1) ∧ 1 ≤ m + 1 := h
    exact pk_le (m + 1) (m + 1) (fun _ => nm_e (lc_fill73 hm w1 w3 (fun b6 b10 b11 b12 b13 b14 hb => H _ _ _ _ _ _ _ _ _ _ ⟨h1, fun i a hi ha => hb i a (by omega) hi ha⟩))) (fun z => absurd z (by omega))
  · rintro k i ⟨s5, s7, s8, s9⟩ hi h hw
    obtain ⟨h1, h2⟩ : lc_F a1 a2 a3 a4 s5 s7 s9 i ∧ 1 ≤ i := h
    obtain ⟨j, rfl⟩ : ∃ j, i = j + 1 := ⟨i - 1, by omega⟩
    exact pk_le (m + 1) (j + 1) (fun z => absurd z (by omega)) (fun _ => lc_fill43 (by omega) w1 w3 h1 (fun t5 t7 t8 t9 ht => hw (t5, t7, t8, t9) ⟨ht, by omega⟩))
theorem lc_fill15 {post : St2 → Prop} {fr : Int32} {a1 a2 a3 a4 a5 a6 a7 a8 a11 a12 a13 a14 : Nat → Int32} {a9 a10 : Nat → Int64} {m : Nat} (hm : m ≤ 5) (w1 : lc_W a1) (w3 : lc_W a3)
    (H : ∀ b5 b6 b7 b8 b9 b10 b11 b12 b13 b14, lc_T (m + 1) a1 a2 a3 a4 b5 b6 b7 b9 b10 → post (nI (m + 1), fr, a1, a2, a3, a4, b5, b6, b7, b8, b9, b10, b11, b12, b13, b14)) :
    ∃ k, wX_fill_15 post k 0 (nI (m + 1)) fr a1 a2 a3 a4 a5 a6 a7 a8 a9 a10 a11 a12 a13 a14 := by
  refine pk_loop (fun k a (s : (Nat → Int32) × (Nat → Int32) × (Nat → Int32) × (Nat → Int64)) => wX_fill_15 post k (nI a) (nI (m + 1)) fr a1 a2 a3 a4 s.1 a6 s.2.1 s.2.2.1 s.2.2.2 a10 a11 a12 a13 a14)
    (fun a s => ∀ b, b < a → lc_FC a1 a2 a3 a4 s.1 s.2.1 s.2.2.2 0 b) 3 0 (a5, a7, a8, a9) (by omega) (fun b hb => absurd hb (by omega)) ?_ ?_
  · rintro k ⟨s5, s7, s8, s9⟩ h
    have h' : ∀ b, b < 3 → lc_FC a1 a2 a3 a4 s5 s7 s9 0 b := h
    refine pk_le 3 3 (fun _ => lc_fill33 hm w1 w3 (fun i a hi ha => ?_) H) (fun z => absurd z (by omega))
    have e : i = 0 := by omega
    subst e
    exact h' a ha
  · rintro k a ⟨s5, s7, s8, s9⟩ ha h hw
    have h' : ∀ b, b < a → lc_FC a1 a2 a3 a4 s5 s7 s9 0 b := h
    refine pk_le 3 a (fun z => absurd z (by omega)) (fun _ => lc_startFront ha w1 (fun x5 x7 x8 x9 hg => nm_r (nI_1 a) (hw (_, _, _, _) (lc_lt3 (fun b hb => ?_) ⟨?_, fun m e => absurd e (by omega)⟩))))
    · exact lc_FC_cong (c := a) (by omega) (by omega) (fun j hj => ⟨pk_un hj, pk_un hj, pk_uLn hj⟩) (h' b hb)
    · show lc_G 0 (a2 (3 * 0 + a)) (upd s5 a x5 (3 * 0 + a)) (upd s7 a x7 (3 * 0 + a)) (vp_updL s9 a x9 (3 * 0 + a))
      rw [show 3 * 0 + a = a by omega, pk_us, pk_us, pk_uLs]
      exact hg
/-- fill -/
theorem lc_fill {post : St2 → Prop} {fr : Int32} {a1 a2 a3 a4 a5 a6 a7 a8 a11 a12 a13 a14 : Nat → Int32} {a9 a10 : Nat → Int64} {m : Nat} (hm : m ≤ 5) (w1 : lc_W a1) (w3 : lc_W a3) (ht : ¬ fr = 0 → lc_T (m + 1) a1 a2 a3 a4 a5 a6 a7 a9 a10)
    (H : ∀ r b5 b6 b7 b8 b9 b10 b11 b12 b13 b14, ¬ r = 0 → lc_T (m + 1) a1 a2 a3 a4 b5 b6 b7 b9 b10 → post (nI (m + 1), r, a1, a2, a3, a4, b5, b6, b7, b8, b9, b10, b11, b12, b13, b14)) :
    wpX_fill post (nI (m + 1), fr, a1, a2, a3, a4, a5, a6, a7, a8, a9, a10, a11, a12, a13, a14) := by
  unfold wpX_fill
  exact br_c (fun _ => lc_fill15 hm w1 w3 (fun b5 b6 b7 b8 b9 b10 b11 b12 b13 b14 t => H _ _ _ _ _ _ _ _ _ _ _ (by decide) t)) (fun g => H _ _ _ _ _ _ _ _ _ _ _ g (ht g))
theorem lc_fillR {post : St2 → Prop} {fl fr : Int32} {a1 a2 a3 a4 a5 a6 a7 a8 a11 a12 a13 a14 : Nat → Int32} {a9 a10 : Nat → Int64} (h : ¬ fr = 0) (H : post (fl, fr, a1, a2, a3, a4, a5, a6, a7, a8, a9, a10, a11, a12, a13, a14)) : wpX_fill post (fl, fr, a1, a2, a3, a4, a5, a6, a7, a8, a9, a10, a11, a12, a13, a14) := by
  unfold wpX_fill
  exact br_f h H
end
section
/-! the queries -/
theorem lc_qbest {post : Int32 → St2 → Prop} {fr : Int32} {a1 a2 a3 a4 a5 a6 a7 a8 a11 a12 a13 a14 : Nat → Int32} {a9 a10 : Nat → Int64} {m : Nat} (hm : m ≤ 5) (w1 : lc_W a1) (w3 : lc_W a3) (ht : ¬ fr = 0 → lc_T (m + 1) a1 a2 a3 a4 a5 a6 a7 a9 a10)
    (H : ∀ q r b5 b6 b7 b8 b9 b10 b11 b12 b13 b14, ¬ r = 0 → lc_T (m + 1) a1 a2 a3 a4 b5 b6 b7 b9 b10 → q.toInt = lc_best (lc_mx (-1000) (fun a => (b5 (3 * m + a)).toInt) 3) →
      post q (nI (m + 1), r, a1, a2, a3, a4, b5, b6, b7, b8, b9, b10, b11, b12, b13, b14)) :
    wpX_best post (nI (m + 1), fr, a1, a2, a3, a4, a5, a6, a7, a8, a9, a10, a11, a12, a13, a14) := by
  unfold wpX_best
  refine lc_fill hm w1 w3 ht (fun r b5 b6 b7 b8 b9 b10 b11 b12 b13 b14 hr t => lc_gs hm (fun q hq => br_c (fun g => H _ _ _ _ _ _ _ _ _ _ _ _ hr t ?_) (fun g => H _ _ _ _ _ _ _ _ _ _ _ _ hr t ?_)))
  · rw [Int32.le_iff_toInt_le, lc_z, hq] at g
    unfold lc_best
    rw [if_pos g, hq]
  · rw [Int32.le_iff_toInt_le, lc_z, hq] at g
    unfold lc_best
    rw [if_neg g, lc_m2]
theorem lc_ix3 (m : Nat) : (3 : Int32) * nI (m + 1) - 3 = nI (3 * m) := by
  rw [show (3 : Int32) = nI 3 from rfl, pk_mul, pk_sub (by omega), show 3 * (m + 1) - 3 = 3 * m by omega]
theorem lc_qtotal {post : Int64 → St2 → Prop} {fr : Int32} {a1 a2 a3 a4 a5 a6 a7 a8 a11 a12 a13 a14 : Nat → Int32} {a9 a10 : Nat → Int64} {m : Nat} (hm : m ≤ 5) (hf : ¬ fr = 0)
    (H : post (a9 (3 * m + 0) + a9 (3 * m + 1) + a9 (3 * m + 2)) (nI (m + 1), fr, a1, a2, a3, a4, a5, a6, a7, a8, a9, a10, a11, a12, a13, a14)) : wpX_total post (nI (m + 1), fr, a1, a2, a3, a4, a5, a6, a7, a8, a9, a10, a11, a12, a13, a14) := by
  have e0 : (nI (3 * m)).toNatClampNeg = 3 * m + 0 := lc_cl (by omega)
  have e1 : (nI (3 * m) + 1).toNatClampNeg = 3 * m + 1 := pk_cl (3 * m + 1) (nI_1 (3 * m))
  have e2 : (nI (3 * m) + 2).toNatClampNeg = 3 * m + 2 := pk_cl (3 * m + 2) (nI_add (3 * m) 2)
  unfold wpX_total
  refine lc_fillR hf (nm_r (lc_ix3 m) ⟨pk_in (3 * m) 18 (by omega), pk_in (3 * m + 1) 18 (by omega) (nI_1 (3 * m)), pk_in (3 * m + 2) 18 (by omega) (nI_add (3 * m) 2), ?_⟩)
  rw [e0, e1, e2]
  exact H
theorem lc_isLabel {post : Int32 → Prop} {fl fr : Int32} {a1 a2 a3 a4 a5 a6 a7 a8 a11 a12 a13 a14 : Nat → Int32} {a9 a10 : Nat → Int64} {a : Nat} (ha : a < 3) (H : post 1) : wpX_isLabel post (fl, fr, a1, a2, a3, a4, a5, a6, a7, a8, a9, a10, a11, a12, a13, a14) (nI a) := by
  unfold wpX_isLabel
  exact br_f (nI_pos (by omega)) (pk_lt 2 a (fun z => absurd z (by omega)) (fun _ => H))
theorem lc_isPlace {post : Int32 → Prop} {fr : Int32} {a1 a2 a3 a4 a5 a6 a7 a8 a11 a12 a13 a14 : Nat → Int32} {a9 a10 : Nat → Int64} {n i a : Nat} (hn : n ≤ 6) (hi : i < n) (ha : a < 3) (H : post 1) : wpX_isPlace post (nI n, fr, a1, a2, a3, a4, a5, a6, a7, a8, a9, a10, a11, a12, a13, a14) (nI i) (nI a) := by
  unfold wpX_isPlace
  exact br_f (nI_pos (by omega)) (pk_le n i (fun z => absurd z (by omega)) (fun _ => lc_isLabel ha (br_f (by decide) H)))
theorem lc_qthrough {post : Int64 → St2 → Prop} {fr : Int32} {a1 a2 a3 a4 a5 a6 a7 a8 a11 a12 a13 a14 : Nat → Int32} {a9 a10 : Nat → Int64} {m i a : Nat} (hm : m ≤ 5) (hf : ¬ fr = 0) (hi : i ≤ m) (ha : a < 3)
    (H : post (lc_th a9 a10 i a) (nI (m + 1), fr, a1, a2, a3, a4, a5, a6, a7, a8, a9, a10, a11, a12, a13, a14)) : wpX_through post (nI (m + 1), fr, a1, a2, a3, a4, a5, a6, a7, a8, a9, a10, a11, a12, a13, a14) (nI i) (nI a) := by
  have ec : ((3 : Int32) * nI i + nI a).toNatClampNeg = 3 * i + a := lc_cx (by omega)
  have ic : vp_in ((3 : Int32) * nI i + nI a) 18 := pk_in (3 * i + a) 18 (by omega) (lc_ix i a)
  unfold wpX_through
  refine lc_isPlace (by omega) (by omega) ha (br_f (by decide) (lc_fillR hf ⟨ic, ic, ?_⟩))
  rw [ec]
  exact H
theorem lc_qbt {post : Int32 → St2 → Prop} {fr : Int32} {a1 a2 a3 a4 a5 a6 a7 a8 a11 a12 a13 a14 : Nat → Int32} {a9 a10 : Nat → Int64} {m i a : Nat} (hm : m ≤ 5) (hf : ¬ fr = 0) (w1 : lc_W a1) (t : lc_T (m + 1) a1 a2 a3 a4 a5 a6 a7 a9 a10) (hi : i ≤ m) (ha : a < 3)
    (H : ∀ r : Int32, r.toInt = lc_bt a1 a5 a6 i a → post r (nI (m + 1), fr, a1, a2, a3, a4, a5, a6, a7, a8, a9, a10, a11, a12, a13, a14)) : wpX_bestThrough post (nI (m + 1), fr, a1, a2, a3, a4, a5, a6, a7, a8, a9, a10, a11, a12, a13, a14) (nI i) (nI a) := by
  have ec : (nI (3 * i + a)).toNatClampNeg = 3 * i + a := lc_cl (by omega)
  have ic : vp_in (nI (3 * i + a)) 18 := pk_in (3 * i + a) 18 (by omega)
  have v1 := w1 (3 * i + a)
  have g5 := (t.1 i a (by omega) ha).1
  have g6 := (t.2 i a (by omega) ha).1
  unfold wpX_bestThrough
  refine lc_isPlace (by omega) (by omega) ha (br_f (by decide) (lc_fillR hf (nm_r (lc_ix i a) ⟨ic, br_c (fun h5 => H _ ?_) (fun h5 => ⟨ic, br_c (fun h6 => ⟨ic, ic, ic, H _ ?_⟩) (fun h6 => H _ ?_)⟩)⟩)))
  · rw [ec, Int32.lt_iff_toInt_lt, lc_z] at h5
    unfold lc_bt
    rw [if_pos h5, lc_m2]
  · rw [ec, Int32.lt_iff_toInt_lt, lc_z] at h5
    rw [ec, Int32.le_iff_toInt_le, lc_z] at h6
    rw [ec]
    unfold lc_bt
    rw [if_neg h5, if_pos h6]
    have u5 : (a5 (3 * i + a)).toInt ≤ 18 * i + 9 := by
      rcases g5 with g | g <;> omega
    have u6 : (a6 (3 * i + a)).toInt + 18 * i ≤ 18 * (m + 1) := by
      rcases g6 with g | g <;> omega
    have q : (a5 (3 * i + a) + a6 (3 * i + a)).toInt = (a5 (3 * i + a)).toInt + (a6 (3 * i + a)).toInt := lc_add (by omega) (by omega)
    rw [lc_sub (by rw [q]; omega) (by rw [q]; omega), q]
  · rw [ec, Int32.lt_iff_toInt_lt, lc_z] at h5
    rw [ec, Int32.le_iff_toInt_le, lc_z] at h6
    unfold lc_bt
    rw [if_neg h5, if_neg h6, lc_m2]
theorem lc_qtcE {post : Int64 → St2 → Prop} {q : Int32} {fr : Int32} {a1 a2 a3 a4 a5 a6 a7 a8 a11 a12 a13 a14 : Nat → Int32} {a9 a10 : Nat → Int64} {m : Nat} (hm : m ≤ 5) (H : post 0 (nI (m + 1), fr, a1, a2, a3, a4, a5, a6, a7, a8, a9, a10, a11, a12, a13, a14)) : wpX_throughCouple post (nI (m + 1), fr, a1, a2, a3, a4, a5, a6, a7, a8, a9, a10, a11, a12, a13, a14) (nI m) q := by
  unfold wpX_throughCouple
  exact br_f (nI_pos (by omega)) (pk_le m m (fun _ => H) (fun z => absurd z (by omega)) (nI_pred m))
theorem lc_qtc {post : Int64 → St2 → Prop} {q : Int32} {fr : Int32} {a1 a2 a3 a4 a5 a6 a7 a8 a11 a12 a13 a14 : Nat → Int32} {a9 a10 : Nat → Int64} {m i a b : Nat} (hm : m ≤ 5) (hf : ¬ fr = 0) (hi : i < m) (ha : a < 3) (hb : b < 3) (hq : q = nI (3 * a + b))
    (H : post (lc_tc a1 a2 a3 a4 a9 a10 i a b) (nI (m + 1), fr, a1, a2, a3, a4, a5, a6, a7, a8, a9, a10, a11, a12, a13, a14)) : wpX_throughCouple post (nI (m + 1), fr, a1, a2, a3, a4, a5, a6, a7, a8, a9, a10, a11, a12, a13, a14) (nI i) q := by
  subst hq
  have ed : nI (3 * a + b) / 3 = nI a := by
    have := pk_div (a := 3 * a + b) (d := 3) (by omega) (by omega) (by omega)
    rw [show (3 * a + b) / 3 = a by omega] at this
    exact this
  have er : nI (3 * a + b) - nI (3 * a + b) / 3 * 3 = nI b := by
    have := pk_rem (a := 3 * a + b) (d := 3) (by omega) (by omega) (by omega)
    rw [show (3 * a + b) % 3 = b by omega] at this
    exact this
  have em : (nI (3 * a + b)).toNatClampNeg = 3 * a + b := lc_cl (by omega)
  have ef : (nI (3 * (i + 1) + b)).toNatClampNeg = 3 * (i + 1) + b := lc_cl (by omega)
  have ec : ((3 : Int32) * nI i + nI a).toNatClampNeg = 3 * i + a := lc_cx (by omega)
  have im : vp_in (nI (3 * a + b)) 9 := pk_in (3 * a + b) 9 (by omega)
  have jf : vp_in (nI (3 * (i + 1) + b)) 18 := pk_in (3 * (i + 1) + b) 18 (by omega)
  unfold wpX_throughCouple
  refine br_f (nI_pos (by omega)) (pk_le m i (fun z => absurd z (by omega)) (fun _ => br_f (nI_pos (by omega)) (pk_le (3 * a + b) 8 (fun _ => lc_fillR hf ⟨by decide, nm_r (e' := nI (3 * (i + 1) + b)) (by rw [er, lc_ixp]) ⟨im, br_c (fun g4 => ⟨jf, br_c (fun g2 => ⟨by decide, pk_in (3 * i + a) 18 (by omega) (by rw [ed, lc_ix]), im, jf, jf, ?_⟩) (fun g2 => ?_)⟩) (fun g4 => ?_)⟩⟩) (fun z => absurd z (by omega)))) (nI_pred m))
  · rw [em] at g4
    rw [ef] at g2
    rw [ed, em, ef, ec]
    unfold lc_tc at H
    rw [if_pos ⟨g4, g2⟩] at H
    exact H
  · rw [ef] at g2
    unfold lc_tc at H
    rw [if_neg (fun z => g2 z.2)] at H
    exact H
  · rw [em] at g4
    unfold lc_tc at H
    rw [if_neg (fun z => g4 z.1)] at H
    exact H
end
section
/-! holds answers true -/
theorem lc_h109 {post : Int32 → St2 → Prop} {J : Int32 → Int32 → Int32 → (Nat → Int32) → (Nat → Int32) → (Nat → Int32) → (Nat → Int32) → (Nat → Int32) → (Nat → Int32) → (Nat → Int32) → (Nat → Int32) → (Nat → Int64) → (Nat → Int64) → (Nat → Int32) → (Nat → Int32) → (Nat → Int32) → (Nat → Int32) → Prop}
    {K : Int64 → Int32 → Int32 → Int32 → Int32 → (Nat → Int32) → (Nat → Int32) → (Nat → Int32) → (Nat → Int32) → (Nat → Int32) → (Nat → Int32) → (Nat → Int32) → (Nat → Int32) → (Nat → Int64) → (Nat → Int64) → (Nat → Int32) → (Nat → Int32) → (Nat → Int32) → (Nat → Int32) → Prop}
    {x1 x2 x5 x8 x12 : Int32} {x3 x6 x10 : Int64} {fl fr : Int32} {a1 a2 a3 a4 a5 a6 a7 a8 a11 a12 a13 a14 : Nat → Int32} {a9 a10 : Nat → Int64} {a : Nat} (H : ∀ y8 : Int32, y8.toInt = max x8.toInt x12.toInt → K (x6 + x10) y8 (nI (a + 1)) fl fr a1 a2 a3 a4 a5 a6 a7 a8 a9 a10 a11 a12 a13 a14) :
    wL_holds_109 post J K x1 x2 x3 x5 x6 x8 (nI a) x10 x12 fl fr a1 a2 a3 a4 a5 a6 a7 a8 a9 a10 a11 a12 a13 a14 := by
  unfold wL_holds_109
  refine nm_e (br_c (fun g => nm_r (nI_1 a) (H _ ?_)) (fun g => nm_r (nI_1 a) (H _ ?_)))
  · rw [Int32.le_iff_toInt_le] at g
    omega
  · rw [Int32.le_iff_toInt_le] at g
    omega
theorem lc_h61 {post : Int32 → St2 → Prop} {J : Int32 → Int32 → Int32 → (Nat → Int32) → (Nat → Int32) → (Nat → Int32) → (Nat → Int32) → (Nat → Int32) → (Nat → Int32) → (Nat → Int32) → (Nat → Int32) → (Nat → Int64) → (Nat → Int64) → (Nat → Int32) → (Nat → Int32) → (Nat → Int32) → (Nat → Int32) → Prop}
    {K : Int64 → Int32 → Int32 → Int32 → Int32 → (Nat → Int32) → (Nat → Int32) → (Nat → Int32) → (Nat → Int32) → (Nat → Int32) → (Nat → Int32) → (Nat → Int32) → (Nat → Int32) → (Nat → Int64) → (Nat → Int64) → (Nat → Int32) → (Nat → Int32) → (Nat → Int32) → (Nat → Int32) → Prop}
    {x2 x8 x12 : Int32} {x3 x6 : Int64} {fr : Int32} {a1 a2 a3 a4 a5 a6 a7 a8 a11 a12 a13 a14 : Nat → Int32} {a9 a10 : Nat → Int64} {m i a : Nat} (hm : m ≤ 5) (hf : ¬ fr = 0) (t : lc_T (m + 1) a1 a2 a3 a4 a5 a6 a7 a9 a10) (hi : i ≤ m) (ha : a < 3)
    (H : ∀ y8 : Int32, y8.toInt = max x8.toInt x12.toInt → K (x6 + lc_th a9 a10 i a) y8 (nI (a + 1)) (nI (m + 1)) fr a1 a2 a3 a4 a5 a6 a7 a8 a9 a10 a11 a12 a13 a14) :
    ∃ k, wL_holds_61 post J K (nI (m + 1)) x2 x3 (nI i) x6 x8 (nI a) (lc_th a9 a10 i a) x12 k 0 0 (nI (m + 1)) fr a1 a2 a3 a4 a5 a6 a7 a8 a9 a10 a11 a12 a13 a14 := by
  refine pk_loop (fun k b s => wL_holds_61 post J K (nI (m + 1)) x2 x3 (nI i) x6 x8 (nI a) (lc_th a9 a10 i a) x12 k s (nI b) (nI (m + 1)) fr a1 a2 a3 a4 a5 a6 a7 a8 a9 a10 a11 a12 a13 a14)
    (fun b s => i < m → s = lc_sm (lc_tc a1 a2 a3 a4 a9 a10 i a) b) 3 0 0 (by omega) (fun _ => rfl) ?_ ?_
  · intro k s h
    exact pk_le 3 3 (fun _ => pk_le m i (fun _ => lc_h109 H) (fun z => br_t ((h z).trans (lc_tc_row t (by omega) ha)) (lc_h109 H)) (nI_pred m)) (fun z => absurd z (by omega))
  · intro k b s hb h hw
    refine pk_le 3 b (fun z => absurd z (by omega)) (fun _ => ?_)
    by_cases e : i < m
    · exact lc_qtc hm hf e ha hb (lc_ix a b) (nm_e (nm_r (nI_1 b) (hw _ (fun _ => by rw [h e]; rfl))))
    · have e' : i = m := by omega
      subst e'
      exact lc_qtcE hm (nm_e (nm_r (nI_1 b) (hw _ (fun z => absurd z e))))
theorem lc_h29 {post : Int32 → St2 → Prop} {J : Int32 → Int32 → Int32 → (Nat → Int32) → (Nat → Int32) → (Nat → Int32) → (Nat → Int32) → (Nat → Int32) → (Nat → Int32) → (Nat → Int32) → (Nat → Int32) → (Nat → Int64) → (Nat → Int64) → (Nat → Int32) → (Nat → Int32) → (Nat → Int32) → (Nat → Int32) → Prop}
    {x2 : Int32} {x3 : Int64} {fr : Int32} {a1 a2 a3 a4 a5 a6 a7 a8 a11 a12 a13 a14 : Nat → Int32} {a9 a10 : Nat → Int64} {m i : Nat} (hm : m ≤ 5) (hf : ¬ fr = 0) (w1 : lc_W a1) (w3 : lc_W a3) (t : lc_T (m + 1) a1 a2 a3 a4 a5 a6 a7 a9 a10) (hi : i ≤ m)
    (h2 : x2.toInt = lc_best (lc_mx (-1000) (fun a => (a5 (3 * m + a)).toInt) 3)) (h3 : x3 = a9 (3 * m + 0) + a9 (3 * m + 1) + a9 (3 * m + 2))
    (H : J (nI (i + 1)) (nI (m + 1)) fr a1 a2 a3 a4 a5 a6 a7 a8 a9 a10 a11 a12 a13 a14) :
    ∃ k, wL_holds_29 post J (nI (m + 1)) x2 x3 (nI i) k 0 (-2) 0 (nI (m + 1)) fr a1 a2 a3 a4 a5 a6 a7 a8 a9 a10 a11 a12 a13 a14 := by
  refine pk_loop (fun k a (s : Int64 × Int32) => wL_holds_29 post J (nI (m + 1)) x2 x3 (nI i) k s.1 s.2 (nI a) (nI (m + 1)) fr a1 a2 a3 a4 a5 a6 a7 a8 a9 a10 a11 a12 a13 a14)
    (fun a s => s.1 = lc_sm (lc_th a9 a10 i) a ∧ s.2.toInt = lc_mx (-2) (lc_bt a1 a5 a6 i) a) 3 0 ((0 : Int64), (-2 : Int32)) (by omega) ⟨rfl, lc_m2⟩ ?_ ?_
  · rintro k ⟨x6, x8⟩ h
    obtain ⟨k1, k2⟩ : x6 = lc_sm (lc_th a9 a10 i) 3 ∧ x8.toInt = lc_mx (-2) (lc_bt a1 a5 a6 i) 3 := h
    have e6 : x6 = x3 := by rw [k1, h3, lc_th_all t (m - i) i (by omega)]
    have e8 : x8 = x2 := Int32.toInt_inj.mp (by rw [k2, h2, lc_bt_all w1 w3 t (m - i) i (by omega)])
    exact pk_le 3 3 (fun _ => br_t e6 (br_t e8 (nm_r (nI_1 i) H))) (fun z => absurd z (by omega))
  · rintro k a ⟨x6, x8⟩ ha h hw
    obtain ⟨k1, k2⟩ : x6 = lc_sm (lc_th a9 a10 i) a ∧ x8.toInt = lc_mx (-2) (lc_bt a1 a5 a6 i) a := h
    refine pk_le 3 a (fun z => absurd z (by omega)) (fun _ => lc_qthrough hm hf hi ha (lc_qbt hm hf w1 t hi ha (fun r hr => lc_h61 hm hf t hi ha (fun y8 hy => hw (_, y8) ⟨?_, ?_⟩))))
    · show x6 + lc_th a9 a10 i a = lc_sm (lc_th a9 a10 i) a + lc_th a9 a10 i a
      rw [k1]
    · show y8.toInt = max (lc_mx (-2) (lc_bt a1 a5 a6 i) a) (lc_bt a1 a5 a6 i a)
      rw [hy, hr]
      show max x8.toInt _ = _
      rw [k2]
theorem lc_h13 {post : Int32 → St2 → Prop} {x2 : Int32} {x3 : Int64} {fr : Int32} {a1 a2 a3 a4 a5 a6 a7 a8 a11 a12 a13 a14 : Nat → Int32} {a9 a10 : Nat → Int64} {m : Nat} (hm : m ≤ 5) (hf : ¬ fr = 0) (w1 : lc_W a1) (w3 : lc_W a3) (t : lc_T (m + 1) a1 a2 a3 a4 a5 a6 a7 a9 a10)
    (h2 : x2.toInt = lc_best (lc_mx (-1000) (fun a => (a5 (3 * m + a)).toInt) 3)) (h3 : x3 = a9 (3 * m + 0) + a9 (3 * m + 1) + a9 (3 * m + 2))
    (H : post 1 (nI (m + 1), fr, a1, a2, a3, a4, a5, a6, a7, a8, a9, a10, a11, a12, a13, a14)) :
    ∃ k, wL_holds_13 post (nI (m + 1)) x2 x3 k 0 (nI (m + 1)) fr a1 a2 a3 a4 a5 a6 a7 a8 a9 a10 a11 a12 a13 a14 :=
  pk_loop (σ := Unit) (fun k i _ => wL_holds_13 post (nI (m + 1)) x2 x3 k (nI i) (nI (m + 1)) fr a1 a2 a3 a4 a5 a6 a7 a8 a9 a10 a11 a12 a13 a14) (fun _ _ => True) (m + 1) 0 () (by omega) trivial
    (fun k _ _ => pk_le (m + 1) (m + 1) (fun _ => H) (fun z => absurd z (by omega)))
    (fun k i _ hi _ hw => pk_le (m + 1) i (fun z => absurd z (by omega)) (fun _ => lc_h29 hm hf w1 w3 t (by omega) h2 h3 (hw () trivial)))
theorem lc_holds {post : Int32 → St2 → Prop} {fr : Int32} {a1 a2 a3 a4 a5 a6 a7 a8 a11 a12 a13 a14 : Nat → Int32} {a9 a10 : Nat → Int64} {m : Nat} (hm : m ≤ 5) (w1 : lc_W a1) (w3 : lc_W a3) (ht : ¬ fr = 0 → lc_T (m + 1) a1 a2 a3 a4 a5 a6 a7 a9 a10)
    (H : ∀ r b5 b6 b7 b8 b9 b10 b11 b12 b13 b14, ¬ r = 0 → lc_T (m + 1) a1 a2 a3 a4 b5 b6 b7 b9 b10 →
      post 1 (nI (m + 1), r, a1, a2, a3, a4, b5, b6, b7, b8, b9, b10, b11, b12, b13, b14)) :
    wpL_holds post (nI (m + 1), fr, a1, a2, a3, a4, a5, a6, a7, a8, a9, a10, a11, a12, a13, a14) (nI (m + 1)) := by
  unfold wpL_holds
  exact lc_qbest hm w1 w3 ht (fun q r b5 b6 b7 b8 b9 b10 b11 b12 b13 b14 hr t hq => lc_qtotal hm hr (lc_h13 hm hr w1 w3 t hq rfl (H _ _ _ _ _ _ _ _ _ _ _ hr t)))
end
section
/-! the four changes, and the making -/
theorem lc_W_upd {a : Nat → Int32} {k : Nat} {x : Int32} (h : lc_W a) (hx : 0 ≤ x.toInt ∧ x.toInt ≤ 9) : lc_W (upd a k x) := by
  intro c
  by_cases e : c = k
  · rw [e, pk_us]
    exact hx
  · rw [pk_un e]
    exact h c
theorem lc_b10 : ∀ w, w < 10 → 0 ≤ (nI w).toInt8.toInt32.toInt ∧ (nI w).toInt8.toInt32.toInt ≤ 9 := by decide
theorem lc_weigh {post : Int32 → St2 → Prop} {fr : Int32} {a1 a2 a3 a4 a5 a6 a7 a8 a11 a12 a13 a14 : Nat → Int32} {a9 a10 : Nat → Int64} {m p a w : Nat} (hm : m ≤ 5) (hp : p < m + 1) (ha : a < 3) (hw : w < 10) (w1 : lc_W a1)
    (H : ∀ r b1, lc_W b1 → post r (nI (m + 1), 0, b1, a2, a3, a4, a5, a6, a7, a8, a9, a10, a11, a12, a13, a14)) : wpX_weigh post (nI (m + 1), fr, a1, a2, a3, a4, a5, a6, a7, a8, a9, a10, a11, a12, a13, a14) (nI p) (nI a) (nI w) := by
  unfold wpX_weigh
  exact lc_isPlace (by omega) hp ha (br_f (by decide) (br_f (nI_pos (by omega)) (pk_le w 9 (fun _ => ⟨pk_in (3 * p + a) 18 (by omega) (lc_ix p a), nm_e (H _ _ (lc_W_upd w1 (lc_b10 w hw)))⟩) (fun z => absurd z (by omega)))))
theorem lc_weighCouple {post : Int32 → St2 → Prop} {fl fr : Int32} {a1 a2 a3 a4 a5 a6 a7 a8 a11 a12 a13 a14 : Nat → Int32} {a9 a10 : Nat → Int64} {a b w : Nat} (ha : a < 3) (hb : b < 3) (hw : w < 10) (w3 : lc_W a3)
    (H : ∀ r b3, lc_W b3 → post r (fl, 0, a1, a2, b3, a4, a5, a6, a7, a8, a9, a10, a11, a12, a13, a14)) : wpX_weighCouple post (fl, fr, a1, a2, a3, a4, a5, a6, a7, a8, a9, a10, a11, a12, a13, a14) (nI a) (nI b) (nI w) := by
  unfold wpX_weighCouple
  exact lc_isLabel ha (br_f (by decide) (lc_isLabel hb (br_f (by decide) (br_f (nI_pos (by omega)) (pk_le w 9 (fun _ => ⟨pk_in (3 * a + b) 9 (by omega) (lc_ix a b), nm_e (H _ _ (lc_W_upd w3 (lc_b10 w hw)))⟩) (fun z => absurd z (by omega)))))))
theorem lc_bar {post : Int32 → St2 → Prop} {z : Int32} {fr : Int32} {a1 a2 a3 a4 a5 a6 a7 a8 a11 a12 a13 a14 : Nat → Int32} {a9 a10 : Nat → Int64} {m p a : Nat} (hm : m ≤ 5) (hp : p < m + 1) (ha : a < 3)
    (H : ∀ r b2, post r (nI (m + 1), 0, a1, b2, a3, a4, a5, a6, a7, a8, a9, a10, a11, a12, a13, a14)) : wpX_bar post (nI (m + 1), fr, a1, a2, a3, a4, a5, a6, a7, a8, a9, a10, a11, a12, a13, a14) (nI p) (nI a) z := by
  unfold wpX_bar
  exact lc_isPlace (by omega) hp ha (br_f (by decide) ⟨pk_in (3 * p + a) 18 (by omega) (lc_ix p a), nm_e (H _ _)⟩)
theorem lc_barCouple {post : Int32 → St2 → Prop} {z : Int32} {fl fr : Int32} {a1 a2 a3 a4 a5 a6 a7 a8 a11 a12 a13 a14 : Nat → Int32} {a9 a10 : Nat → Int64} {a b : Nat} (ha : a < 3) (hb : b < 3)
    (H : ∀ r b4, post r (fl, 0, a1, a2, a3, b4, a5, a6, a7, a8, a9, a10, a11, a12, a13, a14)) : wpX_barCouple post (fl, fr, a1, a2, a3, a4, a5, a6, a7, a8, a9, a10, a11, a12, a13, a14) (nI a) (nI b) z := by
  unfold wpX_barCouple
  exact lc_isLabel ha (br_f (by decide) (lc_isLabel hb (br_f (by decide) ⟨pk_in (3 * a + b) 9 (by omega) (lc_ix a b), nm_e (H _ _)⟩)))
theorem lc_init164 {post : St2 → Prop} {mc ms kc ks : Nat} {fl fr : Int32} {a1 a2 a3 a4 a5 a6 a7 a8 a11 a12 a13 a14 : Nat → Int32} {a9 a10 : Nat → Int64} (w3 : lc_W a3) (H : ∀ b3, lc_W b3 → post (fl, fr, a1, a2, b3, a4, a5, a6, a7, a8, a9, a10, a11, a12, a13, a14)) :
    ∃ k, wX_init_164 post mc ms kc ks fl fr k 0 a1 a2 a3 a4 a5 a6 a7 a8 a9 a10 a11 a12 a13 a14 :=
  pk_loop (fun k i s => wX_init_164 post mc ms kc ks fl fr k (nI i) a1 a2 s a4 a5 a6 a7 a8 a9 a10 a11 a12 a13 a14) (fun _ s => lc_W s) 9 0 a3 (by omega) w3
    (fun k s h => pk_le 9 9 (fun _ => H s h) (fun z => absurd z (by omega)))
    (fun k i s hi h hw => pk_le 9 i (fun z => absurd z (by omega)) (fun _ => ⟨pk_in i 9 (by omega), nm_e (nm_r (nI_1 i) (hw _ (lc_W_upd h (by decide))))⟩))
theorem lc_init143 {post : St2 → Prop} {mc ms kc ks : Nat} {fl fr : Int32} {a1 a2 a3 a4 a5 a6 a7 a8 a11 a12 a13 a14 : Nat → Int32} {a9 a10 : Nat → Int64} (w1 : lc_W a1) (w3 : lc_W a3) (H : ∀ b1 b3, lc_W b1 → lc_W b3 → post (fl, fr, b1, a2, b3, a4, a5, a6, a7, a8, a9, a10, a11, a12, a13, a14)) :
    ∃ k, wX_init_143 post mc ms kc ks fl fr k 0 a1 a2 a3 a4 a5 a6 a7 a8 a9 a10 a11 a12 a13 a14 :=
  pk_loop (fun k i s => wX_init_143 post mc ms kc ks fl fr k (nI i) s a2 a3 a4 a5 a6 a7 a8 a9 a10 a11 a12 a13 a14) (fun _ s => lc_W s) 18 0 a1 (by omega) w1
    (fun k s h => pk_le 18 18 (fun _ => lc_init164 w3 (fun b3 h3 => H s b3 h h3)) (fun z => absurd z (by omega)))
    (fun k i s hi h hw => pk_le 18 i (fun z => absurd z (by omega)) (fun _ => ⟨pk_in i 18 (by omega), nm_e (nm_r (nI_1 i) (hw _ (lc_W_upd h (by decide))))⟩))
theorem lc_W0 : lc_W (fun _ => 0) := by
  intro c
  show 0 ≤ (0 : Int32).toInt ∧ (0 : Int32).toInt ≤ 9
  decide
theorem lc_init {post : St2 → Prop} {m : Nat} (hm : m ≤ 5)
    (H : ∀ b1 b3, lc_W b1 → lc_W b3 → post (nI (m + 1), 0, b1, (fun _ => 0), b3, (fun _ => 0), (fun _ => 0), (fun _ => 0), (fun _ => 0), (fun _ => 0), (fun _ => 0), (fun _ => 0), (fun _ => 0), (fun _ => 0), (fun _ => 0), (fun _ => 0))) :
    wpX_init post 14 224 (0, 0) (nI (m + 1)) := by
  unfold wpX_init
  refine ⟨by decide, by decide, by decide, by decide, by decide, by decide, by decide, by decide, by decide, by decide, by decide, by decide, by decide, by decide, by decide, by decide, by decide, by decide, by decide, by decide, by decide, by decide, by decide, by decide, by decide, by decide, by decide, by decide, ?_⟩
  exact pk_le 1 (m + 1) (fun _ => pk_le (m + 1) 6 (fun _ => lc_init143 lc_W0 lc_W0 H) (fun z => absurd z (by omega))) (fun z => absurd z (by omega))
end
section
/-! the law -/
theorem lc_law205 {post : Int32 → Prop} {L : Nat} {xs : Nat → Int32} {J : Int32 → Int32 → Int32 → (Nat → Int32) → (Nat → Int32) → (Nat → Int32) → (Nat → Int32) → (Nat → Int32) → (Nat → Int32) → (Nat → Int32) → (Nat → Int32) → (Nat → Int64) → (Nat → Int64) → (Nat → Int32) → (Nat → Int32) → (Nat → Int32) → (Nat → Int32) → Prop} {kc ks : Nat} {fr : Int32} {a1 a2 a3 a4 a5 a6 a7 a8 a11 a12 a13 a14 : Nat → Int32} {a9 a10 : Nat → Int64} {m j : Nat}
    (hm : m ≤ 5) (w1 : lc_W a1) (w3 : lc_W a3) (ht : ¬ fr = 0 → lc_T (m + 1) a1 a2 a3 a4 a5 a6 a7 a9 a10)
    (H : ∀ r b5 b6 b7 b8 b9 b10 b11 b12 b13 b14, ¬ r = 0 → lc_T (m + 1) a1 a2 a3 a4 b5 b6 b7 b9 b10 →
      J (nI (j + 4)) (nI (m + 1)) r a1 a2 a3 a4 b5 b6 b7 b8 b9 b10 b11 b12 b13 b14) :
    wL_law_205 post L xs J (nI (m + 1)) (nI j) kc ks (nI (m + 1)) fr a1 a2 a3 a4 a5 a6 a7 a8 a9 a10 a11 a12 a13 a14 := by
  unfold wL_law_205
  exact lc_holds hm w1 w3 ht (fun r b5 b6 b7 b8 b9 b10 b11 b12 b13 b14 hr t => br_f (by decide) (nm_r (nI_add j 4) (H _ _ _ _ _ _ _ _ _ _ _ hr t)))
theorem lc_rem (x : Int32) {d : Nat} (h0 : 0 < d) (hd : d < 100) : ∃ q : Nat, q < d ∧ (x &&& 255) - (x &&& 255) / nI d * nI d = nI q := by
  obtain ⟨j, hj, e⟩ := pk_andE x (m := 255) 8 (by decide)
  exact ⟨j % d, Nat.mod_lt j h0, by rw [e, pk_rem (by omega) h0 (by omega)]⟩
theorem lc_cmp {L j : Nat} (hL : L ≤ 260) (hj : j ≤ 1000) : (Int32.ofNat L) - 4 < nI j ↔ (L : Int) - 4 < j := by
  have h : (Int32.ofNat L - 4).toInt = (L : Int) - (4 : Nat) := pk_sub_toInt (a := L) (b := 4) (by omega) (by omega)
  rw [Int32.lt_iff_toInt_lt, h, nI_toInt (by omega)]
  omega
theorem lc_law26 {L : Nat} {xs : Nat → Int32} {kc ks : Nat} {fr : Int32} {a1 a2 a3 a4 a5 a6 a7 a8 a11 a12 a13 a14 : Nat → Int32} {a9 a10 : Nat → Int64} {m : Nat} (hL : L ≤ 260) (hm : m ≤ 5) (w1 : lc_W a1) (w3 : lc_W a3) (ht : ¬ fr = 0 → lc_T (m + 1) a1 a2 a3 a4 a5 a6 a7 a9 a10) :
    ∃ k, wL_law_26 (fun r => r = 1) L xs (nI (m + 1)) kc ks k 1 (nI (m + 1)) fr a1 a2 a3 a4 a5 a6 a7 a8 a9 a10 a11 a12 a13 a14 := by
  refine pk_loop (fun k i (s : Int32 × (Nat → Int32) × (Nat → Int32) × (Nat → Int32) × (Nat → Int32) × (Nat → Int32) × (Nat → Int32) × (Nat → Int32) × (Nat → Int32) × (Nat → Int64) × (Nat → Int64) × (Nat → Int32) × (Nat → Int32) × (Nat → Int32) × (Nat → Int32)) => wL_law_26 (fun r => r = 1) L xs (nI (m + 1)) kc ks k (nI (1 + 4 * i)) (nI (m + 1)) s.1 s.2.1 s.2.2.1 s.2.2.2.1 s.2.2.2.2.1 s.2.2.2.2.2.1 s.2.2.2.2.2.2.1 s.2.2.2.2.2.2.2.1 s.2.2.2.2.2.2.2.2.1 s.2.2.2.2.2.2.2.2.2.1 s.2.2.2.2.2.2.2.2.2.2.1 s.2.2.2.2.2.2.2.2.2.2.2.1 s.2.2.2.2.2.2.2.2.2.2.2.2.1 s.2.2.2.2.2.2.2.2.2.2.2.2.2.1 s.2.2.2.2.2.2.2.2.2.2.2.2.2.2)
    (fun _ s => lc_W s.2.1 ∧ lc_W s.2.2.2.1 ∧ (¬ s.1 = 0 → lc_T (m + 1) s.2.1 s.2.2.1 s.2.2.2.1 s.2.2.2.2.1 s.2.2.2.2.2.1 s.2.2.2.2.2.2.1 s.2.2.2.2.2.2.2.1 s.2.2.2.2.2.2.2.2.2.1 s.2.2.2.2.2.2.2.2.2.2.1))
    ((L - 1) / 4) 0 (fr, a1, a2, a3, a4, a5, a6, a7, a8, a9, a10, a11, a12, a13, a14) (by omega) ⟨w1, w3, ht⟩ ?_ ?_
  · rintro k ⟨fr, a1, a2, a3, a4, a5, a6, a7, a8, a9, a10, a11, a12, a13, a14⟩ ⟨w1, w3, ht⟩
    exact ek_if (lc_cmp hL (by omega)) (fun _ => lc_holds hm w1 w3 ht (fun r b5 b6 b7 b8 b9 b10 b11 b12 b13 b14 hr t => rfl)) (fun z => absurd (show (L : Int) - 4 < ((1 + 4 * ((L - 1) / 4) : Nat) : Int) by omega) z)
  · rintro k i ⟨fr, a1, a2, a3, a4, a5, a6, a7, a8, a9, a10, a11, a12, a13, a14⟩ hi ⟨w1, w3, ht⟩ hw
    have N : ∀ (r : Int32) (c1 c2 c3 c4 : Nat → Int32), lc_W c1 → lc_W c3 → (¬ r = 0 → lc_T (m + 1) c1 c2 c3 c4 a5 a6 a7 a9 a10) →
        wL_law_205 (fun r => r = 1) L xs (wL_law_26 (fun r => r = 1) L xs (nI (m + 1)) kc ks k) (nI (m + 1)) (nI (1 + 4 * i)) kc ks (nI (m + 1)) r c1 c2 c3 c4 a5 a6 a7 a8 a9 a10 a11 a12 a13 a14 :=
      fun r c1 c2 c3 c4 v1 v3 vt => lc_law205 hm v1 v3 vt (fun r b5 b6 b7 b8 b9 b10 b11 b12 b13 b14 hr t => hw (r, c1, c2, c3, c4, b5, b6, b7, b8, b9, b10, b11, b12, b13, b14) ⟨v1, v3, fun _ => t⟩)
    refine ek_if (lc_cmp hL (by omega)) (fun z => absurd z (by omega)) (fun _ => ?_)
    have i0 : vp_in (nI (1 + 4 * i)) L := pk_in (1 + 4 * i) L (by omega)
    have i1 : vp_in (nI (1 + 4 * i) + 1) L := pk_in (1 + 4 * i + 1) L (by omega) (nI_1 _)
    have i2 : vp_in (nI (1 + 4 * i) + 2) L := pk_in (1 + 4 * i + 2) L (by omega) (nI_add _ 2)
    have i3 : vp_in (nI (1 + 4 * i) + 3) L := pk_in (1 + 4 * i + 3) L (by omega) (nI_add _ 3)
    refine ⟨i1, nI_ne0 (by omega) (by omega), fun x4 e4 => ⟨i2, by decide, fun x5 e5 => ⟨i3, by decide, fun x6 e6 => ⟨i3, by decide, fun x7 e7 => ⟨i0, fun kk ek => ?_⟩⟩⟩⟩⟩
    obtain ⟨p, hp, ep⟩ := lc_rem (xs (nI (1 + 4 * i) + 1).toNatClampNeg) (d := m + 1) (by omega) (by omega)
    obtain ⟨a, ha, ea⟩ := lc_rem (xs (nI (1 + 4 * i) + 2).toNatClampNeg) (d := 3) (by omega) (by omega)
    obtain ⟨b, hb, eb⟩ := lc_rem (xs (nI (1 + 4 * i) + 3).toNatClampNeg) (d := 3) (by omega) (by omega)
    obtain ⟨w, hww, ew⟩ := lc_rem ((xs (nI (1 + 4 * i) + 3).toNatClampNeg) >>> ((8 : Int32) &&& 31)) (d := 10) (by omega) (by omega)
    obtain rfl : x4 = nI p := e4.trans ep
    obtain rfl : x5 = nI a := e5.trans ea
    obtain rfl : x6 = nI b := e6.trans eb
    obtain rfl : x7 = nI w := e7.trans ew
    have z0 : ∀ {P : Prop}, ¬ (0 : Int32) = 0 → P := fun h => absurd rfl h
    have wc : wL_law_180 (fun r => r = 1) L xs (wL_law_26 (fun r => r = 1) L xs (nI (m + 1)) kc ks k) (nI (m + 1)) (nI (1 + 4 * i)) (nI a) (nI b) (nI w) kc ks (nI (m + 1)) fr a1 a2 a3 a4 a5 a6 a7 a8 a9 a10 a11 a12 a13 a14 := by
      unfold wL_law_180
      exact lc_weighCouple ha hb hww w3 (fun r b3 v3 => N 0 a1 a2 b3 a4 w1 v3 z0)
    have ba : ∀ z, wL_law_149 (fun r => r = 1) L xs (wL_law_26 (fun r => r = 1) L xs (nI (m + 1)) kc ks k) (nI (m + 1)) (nI (1 + 4 * i)) z (nI a) (nI p) kc ks (nI (m + 1)) fr a1 a2 a3 a4 a5 a6 a7 a8 a9 a10 a11 a12 a13 a14 := by
      intro z
      unfold wL_law_149
      exact lc_bar hm hp ha (fun r b2 => N 0 a1 b2 a3 a4 w1 w3 z0)
    have bc : ∀ z, wL_law_173 (fun r => r = 1) L xs (wL_law_26 (fun r => r = 1) L xs (nI (m + 1)) kc ks k) (nI (m + 1)) (nI (1 + 4 * i)) z (nI b) (nI a) kc ks (nI (m + 1)) fr a1 a2 a3 a4 a5 a6 a7 a8 a9 a10 a11 a12 a13 a14 := by
      intro z
      unfold wL_law_173
      exact lc_barCouple ha hb (fun r b4 => N 0 a1 a2 a3 b4 w1 w3 z0)
    exact br_c (fun _ => lc_weigh hm hp ha hww w1 (fun r b1 v1 => N 0 b1 a2 a3 a4 v1 w3 z0)) (fun _ => br_c (fun _ => lc_weigh hm hp ha hww w1 (fun r b1 v1 => N 0 b1 a2 a3 a4 v1 w3 z0)) (fun _ => br_c (fun _ => br_c (fun _ => ba 1) (fun _ => ba 0)) (fun _ => br_c (fun _ => br_c (fun _ => bc 1) (fun _ => bc 0)) (fun _ => br_c (fun _ => wc) (fun _ => br_c (fun _ => wc) (fun _ => br_c (fun _ => wc) (fun _ => trivial)))))))
theorem i_vc (xs : Nat → Int32) (L : Nat) (hL : L ≤ 260) : wpL_law (fun r => r = 1) L xs := by
  have main : ∀ r : Int32, ¬ (6 : Int32) = 0 ∧ (∀ x1 : Int32, x1 = 1 + ((r &&& 255) - (r &&& 255) / 6 * 6) → ∃ mc ms : Nat, 1 + mc ≤ 15 ∧ 16 + ms ≤ 240 ∧ wpX_init (fun u => match u with | (l, f, c1, c2, c3, c4, c5, c6, c7, c8, c9, c10, c11, c12, c13, c14) => (∃ fu : Nat, wL_law_26 (fun r => r = 1) L xs x1 (1 + mc) (16 + ms) fu 1 l f c1 c2 c3 c4 c5 c6 c7 c8 c9 c10 c11 c12 c13 c14)) mc ms (0, 0) x1) := by
    intro r
    refine ⟨by decide, fun x1 e => ?_⟩
    obtain ⟨m, hm, em⟩ := lc_rem r (d := 6) (by omega) (by omega)
    have e1 : x1 = nI (m + 1) := by
      rw [e]
      show 1 + ((r &&& 255) - (r &&& 255) / nI 6 * nI 6) = _
      rw [em, Nat.add_comm m 1]
      exact nI_add 1 m
    subst e1
    exact ⟨14, 224, by omega, by omega, lc_init (by omega) (fun b1 b3 v1 v3 => lc_law26 hL (by omega) v1 v3 (fun h => absurd rfl h))⟩
  unfold wpL_law wpL_cell
  exact br_c (fun _ => main _) (fun g => ⟨by
    refine vp_in_nI (n := 0) ?_ (by omega)
    rcases Nat.eq_zero_or_pos L with h | h
    · exact absurd (by rw [h]; decide) g
    · exact h, main _⟩)
end

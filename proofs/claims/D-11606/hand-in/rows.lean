section
/-! the pure picture: trees (leaf l = var l, one a = neg a, two a b = add a b), sizes, numbers, sets of states, ways -/
def ty_sz : Int.Internal.Linear.Expr → Nat
  | .var _ => 1
  | .neg a => 1 + ty_sz a
  | .add a b => 1 + ty_sz a + ty_sz b
  | _ => 1
def ty_ok : Int.Internal.Linear.Expr → Prop
  | .var l => l < 2
  | .neg a => ty_ok a
  | .add a b => ty_ok a ∧ ty_ok b
  | _ => False
def ty_al (n : Nat) : Nat := [0, 2, 2, 6, 14, 42, 122, 382, 1206, 3922, 12914, 43190, 145950].getD n 0
def ty_sm (n : Nat) : Nat → Nat
  | 0 => 0
  | k + 1 => ty_sm n k + ty_al k * ty_al (n - 1 - k)
def ty_rk : Int.Internal.Linear.Expr → Nat
  | .var l => l
  | .neg a => ty_rk a
  | .add a b => ty_al (ty_sz a + ty_sz b) + ty_sm (1 + ty_sz a + ty_sz b) (ty_sz a) + ty_rk a * ty_al (ty_sz b) + ty_rk b
  | _ => 0
theorem ty_sz_pos : ∀ T : Int.Internal.Linear.Expr, 1 ≤ ty_sz T := by
  intro T
  cases T <;> simp only [ty_sz] <;> omega
theorem ty_al_rec : ∀ n, n < 13 → 2 ≤ n → ty_al n = ty_al (n - 1) + ty_sm n (n - 1) := by decide +kernel
theorem ty_al_pos : ∀ n, n < 13 → 1 ≤ n → 2 ≤ ty_al n := by decide +kernel
theorem ty_al_max : ∀ n, n < 13 → ty_al n ≤ 145950 := by decide +kernel
theorem ty_al_7 : ∀ n, n < 8 → ty_al n ≤ 382 := by decide +kernel
theorem ty_sm_mono (n : Nat) {k k' : Nat} (h : k ≤ k') : ty_sm n k ≤ ty_sm n k' := by
  induction k' with
  | zero => rw [show k = 0 by omega]; exact Nat.le_refl _
  | succ m ih =>
    by_cases e : k = m + 1
    · rw [e]; exact Nat.le_refl _
    · have := ih (by omega)
      simp only [ty_sm]
      omega
theorem ty_rk_lt : ∀ T : Int.Internal.Linear.Expr, ty_ok T → ty_sz T ≤ 12 → ty_rk T < ty_al (ty_sz T) := by
  intro T
  induction T with
  | var l => intro h _; simp only [ty_ok] at h; simp only [ty_rk, ty_sz]; show l < 2; exact h
  | neg a ih =>
    intro h hs
    simp only [ty_ok] at h
    simp only [ty_sz] at hs
    have h1 := ih h (by omega)
    have h2 := ty_al_rec (1 + ty_sz a) (by omega) (by have := ty_sz_pos a; omega)
    rw [show 1 + ty_sz a - 1 = ty_sz a by omega] at h2
    simp only [ty_rk, ty_sz]
    omega
  | add a b iha ihb =>
    intro h hs
    simp only [ty_ok] at h
    simp only [ty_sz] at hs
    have pa := ty_sz_pos a
    have pb := ty_sz_pos b
    have h1 := iha h.1 (by omega)
    have h2 := ihb h.2 (by omega)
    have h3 := ty_al_rec (1 + ty_sz a + ty_sz b) (by omega) (by omega)
    rw [show 1 + ty_sz a + ty_sz b - 1 = ty_sz a + ty_sz b by omega] at h3
    have h4 := ty_sm_mono (1 + ty_sz a + ty_sz b) (show ty_sz a + 1 ≤ ty_sz a + ty_sz b by omega)
    have h5 : ty_sm (1 + ty_sz a + ty_sz b) (ty_sz a + 1) = ty_sm (1 + ty_sz a + ty_sz b) (ty_sz a) + ty_al (ty_sz a) * ty_al (ty_sz b) := by
      simp only [ty_sm]
      rw [show 1 + ty_sz a + ty_sz b - 1 - ty_sz a = ty_sz b by omega]
    have h6 : (ty_rk a + 1) * ty_al (ty_sz b) ≤ ty_al (ty_sz a) * ty_al (ty_sz b) := Nat.mul_le_mul_right _ h1
    rw [Nat.add_mul, Nat.one_mul] at h6
    simp only [ty_rk, ty_sz]
    omega
  | num v => intro h; exact h.elim
  | sub a b _ _ => intro h; exact h.elim
  | mulL k a _ => intro h; exact h.elim
  | mulR a k _ => intro h; exact h.elim
/-! sets of states -/
def ty_o1 (on : Nat → Nat) (p : Nat) : Nat → Nat
  | 0 => 0
  | k + 1 => if p.testBit k = true then ty_o1 on p k ||| on k else ty_o1 on p k
def ty_o2 (tw : Nat → Nat) (a b : Nat) : Nat → Nat
  | 0 => 0
  | k + 1 => if a.testBit (k % 4) = true ∧ b.testBit (k / 4) = true then ty_o2 tw a b k ||| tw k else ty_o2 tw a b k
def ty_st (lf on tw : Nat → Nat) : Int.Internal.Linear.Expr → Nat
  | .var l => lf l
  | .neg a => ty_o1 on (ty_st lf on tw a) 4
  | .add a b => ty_o2 tw (ty_st lf on tw a) (ty_st lf on tw b) 16
  | _ => 0
theorem ty_o1_lt {on : Nat → Nat} {p : Nat} : ∀ k, (∀ j, j < k → on j < 16) → ty_o1 on p k < 16 := by
  intro k
  induction k with
  | zero => intro _; exact (by decide : 0 < 16)
  | succ k ih =>
    intro h
    have h1 := ih (fun j hj => h j (by omega))
    simp only [ty_o1]
    split
    · exact Nat.or_lt_two_pow (n := 4) h1 (h k (by omega))
    · exact h1
theorem ty_o2_lt {tw : Nat → Nat} {a b : Nat} : ∀ k, (∀ j, j < k → tw j < 16) → ty_o2 tw a b k < 16 := by
  intro k
  induction k with
  | zero => intro _; exact (by decide : 0 < 16)
  | succ k ih =>
    intro h
    have h1 := ih (fun j hj => h j (by omega))
    simp only [ty_o2]
    split
    · exact Nat.or_lt_two_pow (n := 4) h1 (h k (by omega))
    · exact h1
/-- the tables hold sets of four states -/
def ty_tb (lf on tw : Nat → Nat) : Prop := (∀ l, l < 2 → lf l < 16) ∧ (∀ j, j < 4 → on j < 16) ∧ (∀ j, j < 16 → tw j < 16)
theorem ty_st_lt {lf on tw : Nat → Nat} (h : ty_tb lf on tw) : ∀ T, ty_ok T → ty_st lf on tw T < 16 := by
  intro T
  induction T with
  | var l => intro hl; exact h.1 l hl
  | neg a ih => intro _; exact ty_o1_lt 4 h.2.1
  | add a b _ _ => intro _; exact ty_o2_lt 16 h.2.2
  | num v => intro h; exact h.elim
  | sub a b _ _ => intro h; exact h.elim
  | mulL k a _ => intro h; exact h.elim
  | mulR a k _ => intro h; exact h.elim
theorem ty_o1_bit {on : Nat → Nat} {p q : Nat} : ∀ k, (ty_o1 on p k).testBit q = true ↔ ∃ j, j < k ∧ p.testBit j = true ∧ (on j).testBit q = true := by
  intro k
  induction k with
  | zero =>
    simp only [ty_o1]
    constructor
    · intro h; rw [Nat.zero_testBit] at h; exact absurd h (by decide)
    · rintro ⟨j, hj, _⟩; exact absurd hj (by omega)
  | succ k ih =>
    simp only [ty_o1]
    split
    · rename_i hp
      rw [Nat.testBit_or, Bool.or_eq_true, ih]
      constructor
      · rintro (⟨j, hj, h⟩ | h)
        · exact ⟨j, by omega, h⟩
        · exact ⟨k, by omega, hp, h⟩
      · rintro ⟨j, hj, h1, h2⟩
        by_cases e : j = k
        · right; rw [← e]; exact h2
        · left; exact ⟨j, by omega, h1, h2⟩
    · rename_i hp
      rw [ih]
      constructor
      · rintro ⟨j, hj, h⟩; exact ⟨j, by omega, h⟩
      · rintro ⟨j, hj, h1, h2⟩
        by_cases e : j = k
        · rw [e] at h1; exact absurd h1 hp
        · exact ⟨j, by omega, h1, h2⟩
theorem ty_o2_bit {tw : Nat → Nat} {a b q : Nat} : ∀ k, (ty_o2 tw a b k).testBit q = true ↔ ∃ j, j < k ∧ (a.testBit (j % 4) = true ∧ b.testBit (j / 4) = true) ∧ (tw j).testBit q = true := by
  intro k
  induction k with
  | zero =>
    simp only [ty_o2]
    constructor
    · intro h; rw [Nat.zero_testBit] at h; exact absurd h (by decide)
    · rintro ⟨j, hj, _⟩; exact absurd hj (by omega)
  | succ k ih =>
    simp only [ty_o2]
    split
    · rename_i hp
      rw [Nat.testBit_or, Bool.or_eq_true, ih]
      constructor
      · rintro (⟨j, hj, h⟩ | h)
        · exact ⟨j, by omega, h⟩
        · exact ⟨k, by omega, hp, h⟩
      · rintro ⟨j, hj, h1, h2⟩
        by_cases e : j = k
        · right; rw [← e]; exact h2
        · left; exact ⟨j, by omega, h1, h2⟩
    · rename_i hp
      rw [ih]
      constructor
      · rintro ⟨j, hj, h⟩; exact ⟨j, by omega, h⟩
      · rintro ⟨j, hj, h1, h2⟩
        by_cases e : j = k
        · rw [e] at h1; exact absurd h1 hp
        · exact ⟨j, by omega, h1, h2⟩
theorem ty_o1_0 {on : Nat → Nat} : ∀ k, ty_o1 on 0 k = 0 := by
  intro k
  induction k with
  | zero => rfl
  | succ k ih => simp only [ty_o1]; rw [Nat.zero_testBit, ih]; rfl
theorem ty_o2_0 {tw : Nat → Nat} {b : Nat} : ∀ k, ty_o2 tw 0 b k = 0 := by
  intro k
  induction k with
  | zero => rfl
  | succ k ih =>
    simp only [ty_o2]
    rw [if_neg (fun h => by rw [Nat.zero_testBit] at h; exact absurd h.1 (by decide)), ih]
/-! ways -/
def ty_s1 (on w : Nat → Nat) (q : Nat) : Nat → Nat
  | 0 => 0
  | k + 1 => if (on k).testBit q = true then ty_s1 on w q k + w k else ty_s1 on w q k
def ty_s2 (tw w v : Nat → Nat) (q : Nat) : Nat → Nat
  | 0 => 0
  | k + 1 => if (tw k).testBit q = true then ty_s2 tw w v q k + w (k % 4) * v (k / 4) else ty_s2 tw w v q k
def ty_wy (lf on tw : Nat → Nat) : Int.Internal.Linear.Expr → Nat → Nat
  | .var l => fun q => if (lf l).testBit q = true then 1 else 0
  | .neg a => fun q => ty_s1 on (ty_wy lf on tw a) q 4
  | .add a b => fun q => ty_s2 tw (ty_wy lf on tw a) (ty_wy lf on tw b) q 16
  | _ => fun _ => 0
def ty_bd : Int.Internal.Linear.Expr → Nat
  | .var _ => 1
  | .neg a => 4 * ty_bd a
  | .add a b => 16 * (ty_bd a * ty_bd b)
  | _ => 1
theorem ty_bd_sz : ∀ T, 4 * ty_bd T = 4 ^ ty_sz T := by
  intro T
  induction T with
  | var l => rfl
  | neg a ih => simp only [ty_bd, ty_sz]; rw [ih, Nat.pow_add, Nat.pow_one]
  | add a b iha ihb =>
    simp only [ty_bd, ty_sz]
    rw [Nat.pow_add, Nat.pow_add, ← iha, ← ihb, Nat.pow_one]
    simp only [Nat.mul_assoc, Nat.mul_left_comm, Nat.mul_comm]
    omega
  | num v => rfl
  | sub a b _ _ => rfl
  | mulL k a _ => rfl
  | mulR a k _ => rfl
theorem ty_s1_le {on w : Nat → Nat} {q B : Nat} : ∀ k, (∀ j, j < k → w j ≤ B) → ty_s1 on w q k ≤ k * B := by
  intro k
  induction k with
  | zero => intro _; exact Nat.zero_le _
  | succ k ih =>
    intro h
    have h1 := ih (fun j hj => h j (by omega))
    have h2 := h k (by omega)
    simp only [ty_s1]
    rw [Nat.add_mul, Nat.one_mul]
    split <;> omega
theorem ty_s2_le {tw w v : Nat → Nat} {q B D : Nat} (hw : ∀ j, j < 4 → w j ≤ B) (hv : ∀ j, j < 4 → v j ≤ D) : ∀ k, k ≤ 16 → ty_s2 tw w v q k ≤ k * (B * D) := by
  intro k
  induction k with
  | zero => intro _; exact Nat.zero_le _
  | succ k ih =>
    intro h
    have h1 := ih (by omega)
    have h2 : w (k % 4) * v (k / 4) ≤ B * D := Nat.mul_le_mul (hw _ (by omega)) (hv _ (by omega))
    simp only [ty_s2]
    rw [Nat.add_mul, Nat.one_mul]
    split <;> omega
theorem ty_bd_pos : ∀ T, 1 ≤ ty_bd T := by
  intro T
  have h := ty_bd_sz T
  have h2 : 0 < 4 ^ ty_sz T := Nat.pow_pos (by decide)
  omega
theorem ty_wy_le {lf on tw : Nat → Nat} : ∀ T q, ty_wy lf on tw T q ≤ ty_bd T := by
  intro T
  induction T with
  | var l => intro q; simp only [ty_wy, ty_bd]; split <;> omega
  | neg a ih => intro q; simp only [ty_wy, ty_bd]; exact ty_s1_le 4 (fun j _ => ih j)
  | add a b iha ihb => intro q; simp only [ty_wy, ty_bd]; exact ty_s2_le (fun j _ => iha j) (fun j _ => ihb j) 16 (by omega)
  | num v => intro q; exact Nat.zero_le _
  | sub a b _ _ => intro q; exact Nat.zero_le _
  | mulL k a _ => intro q; exact Nat.zero_le _
  | mulR a k _ => intro q; exact Nat.zero_le _
theorem ty_s1_pos {on w : Nat → Nat} {q : Nat} : ∀ k, 0 < ty_s1 on w q k ↔ ∃ j, j < k ∧ 0 < w j ∧ (on j).testBit q = true := by
  intro k
  induction k with
  | zero =>
    simp only [ty_s1]
    constructor
    · intro h; exact absurd h (by omega)
    · rintro ⟨j, hj, _⟩; exact absurd hj (by omega)
  | succ k ih =>
    simp only [ty_s1]
    split
    · rename_i hp
      constructor
      · intro h
        by_cases e : 0 < w k
        · exact ⟨k, by omega, e, hp⟩
        · obtain ⟨j, hj, h⟩ := ih.mp (by omega)
          exact ⟨j, by omega, h⟩
      · rintro ⟨j, hj, h1, h2⟩
        by_cases e : j = k
        · rw [e] at h1; omega
        · have := ih.mpr ⟨j, by omega, h1, h2⟩; omega
    · rename_i hp
      rw [ih]
      constructor
      · rintro ⟨j, hj, h⟩; exact ⟨j, by omega, h⟩
      · rintro ⟨j, hj, h1, h2⟩
        by_cases e : j = k
        · rw [e] at h2; exact absurd h2 hp
        · exact ⟨j, by omega, h1, h2⟩
theorem ty_s2_pos {tw w v : Nat → Nat} {q : Nat} : ∀ k, 0 < ty_s2 tw w v q k ↔ ∃ j, j < k ∧ (0 < w (j % 4) ∧ 0 < v (j / 4)) ∧ (tw j).testBit q = true := by
  intro k
  induction k with
  | zero =>
    simp only [ty_s2]
    constructor
    · intro h; exact absurd h (by omega)
    · rintro ⟨j, hj, _⟩; exact absurd hj (by omega)
  | succ k ih =>
    simp only [ty_s2]
    split
    · rename_i hp
      constructor
      · intro h
        by_cases e : 0 < w (k % 4) * v (k / 4)
        · exact ⟨k, by omega, ⟨Nat.pos_of_mul_pos_right e, Nat.pos_of_mul_pos_left e⟩, hp⟩
        · obtain ⟨j, hj, h⟩ := ih.mp (by omega)
          exact ⟨j, by omega, h⟩
      · rintro ⟨j, hj, h1, h2⟩
        by_cases e : j = k
        · rw [e] at h1
          have := Nat.mul_pos h1.1 h1.2
          omega
        · have := ih.mpr ⟨j, by omega, h1, h2⟩; omega
    · rename_i hp
      rw [ih]
      constructor
      · rintro ⟨j, hj, h⟩; exact ⟨j, by omega, h⟩
      · rintro ⟨j, hj, h1, h2⟩
        by_cases e : j = k
        · rw [e] at h2; exact absurd h2 hp
        · exact ⟨j, by omega, h1, h2⟩
theorem ty_wy_pos {lf on tw : Nat → Nat} : ∀ T q, 0 < ty_wy lf on tw T q ↔ (ty_st lf on tw T).testBit q = true := by
  intro T
  induction T with
  | var l =>
    intro q
    simp only [ty_wy, ty_st]
    split
    · rename_i h; exact ⟨fun _ => h, fun _ => by decide⟩
    · rename_i h; exact ⟨fun z => absurd z (by decide), fun z => absurd z h⟩
  | neg a ih =>
    intro q
    simp only [ty_wy, ty_st]
    rw [ty_s1_pos, ty_o1_bit]
    constructor
    · rintro ⟨j, hj, h1, h2⟩; exact ⟨j, hj, (ih j).mp h1, h2⟩
    · rintro ⟨j, hj, h1, h2⟩; exact ⟨j, hj, (ih j).mpr h1, h2⟩
  | add a b iha ihb =>
    intro q
    simp only [ty_wy, ty_st]
    rw [ty_s2_pos, ty_o2_bit]
    constructor
    · rintro ⟨j, hj, h1, h2⟩; exact ⟨j, hj, ⟨(iha _).mp h1.1, (ihb _).mp h1.2⟩, h2⟩
    · rintro ⟨j, hj, h1, h2⟩; exact ⟨j, hj, ⟨(iha _).mpr h1.1, (ihb _).mpr h1.2⟩, h2⟩
  | num v => intro q; simp only [ty_wy, ty_st]; rw [Nat.zero_testBit]; decide
  | sub a b _ _ => intro q; simp only [ty_wy, ty_st]; rw [Nat.zero_testBit]; decide
  | mulL k a _ => intro q; simp only [ty_wy, ty_st]; rw [Nat.zero_testBit]; decide
  | mulR a k _ => intro q; simp only [ty_wy, ty_st]; rw [Nat.zero_testBit]; decide
/-- runs that end well -/
def ty_rs (fn : Nat) (w : Nat → Nat) : Nat → Nat
  | 0 => 0
  | k + 1 => if fn.testBit k = true then ty_rs fn w k + w k else ty_rs fn w k
theorem ty_rs_pos {fn : Nat} {w : Nat → Nat} : ∀ k, 0 < ty_rs fn w k ↔ ∃ j, j < k ∧ 0 < w j ∧ fn.testBit j = true := by
  intro k
  induction k with
  | zero =>
    simp only [ty_rs]
    constructor
    · intro h; exact absurd h (by omega)
    · rintro ⟨j, hj, _⟩; exact absurd hj (by omega)
  | succ k ih =>
    simp only [ty_rs]
    split
    · rename_i hp
      constructor
      · intro h
        by_cases e : 0 < w k
        · exact ⟨k, by omega, e, hp⟩
        · obtain ⟨j, hj, h⟩ := ih.mp (by omega)
          exact ⟨j, by omega, h⟩
      · rintro ⟨j, hj, h1, h2⟩
        by_cases e : j = k
        · rw [e] at h1; omega
        · have := ih.mpr ⟨j, by omega, h1, h2⟩; omega
    · rename_i hp
      rw [ih]
      constructor
      · rintro ⟨j, hj, h⟩; exact ⟨j, by omega, h⟩
      · rintro ⟨j, hj, h1, h2⟩
        by_cases e : j = k
        · rw [e] at h2; exact absurd h2 hp
        · exact ⟨j, by omega, h1, h2⟩
theorem ty_rs_le {fn B : Nat} {w : Nat → Nat} : ∀ k, (∀ j, j < k → w j ≤ B) → ty_rs fn w k ≤ k * B := by
  intro k
  induction k with
  | zero => intro _; exact Nat.zero_le _
  | succ k ih =>
    intro h
    have h1 := ih (fun j hj => h j (by omega))
    have h2 := h k (by omega)
    simp only [ty_rs]
    rw [Nat.add_mul, Nat.one_mul]
    split <;> omega
theorem ty_rs_0 {w : Nat → Nat} : ∀ k, ty_rs 0 w k = 0 := by
  intro k
  induction k with
  | zero => rfl
  | succ k ih => simp only [ty_rs]; rw [Nat.zero_testBit, ih]; rfl
theorem ty_meet : ∀ s, s < 16 → ∀ f, f < 16 → ((s &&& f = 0) ↔ ¬ ∃ j, j < 4 ∧ s.testBit j = true ∧ f.testBit j = true) := by decide +kernel
/-- some run ends well exactly where the set meets the ends -/
theorem ty_runs_iff {lf on tw : Nat → Nat} (h : ty_tb lf on tw) {fn : Nat} (hf : fn < 16) {T : Int.Internal.Linear.Expr} (hT : ty_ok T) : 0 < ty_rs fn (ty_wy lf on tw T) 4 ↔ ¬ (ty_st lf on tw T &&& fn = 0) := by
  rw [ty_meet _ (ty_st_lt h T hT) fn hf, Classical.not_not, ty_rs_pos]
  constructor
  · rintro ⟨j, hj, h1, h2⟩; exact ⟨j, hj, (ty_wy_pos T j).mp h1, h2⟩
  · rintro ⟨j, hj, h1, h2⟩; exact ⟨j, hj, (ty_wy_pos T j).mpr h1, h2⟩
theorem ty_runs_le {lf on tw : Nat → Nat} {fn : Nat} {T : Int.Internal.Linear.Expr} (hs : ty_sz T ≤ 12) : ty_rs fn (ty_wy lf on tw T) 4 ≤ 16777216 := by
  have h1 := ty_rs_le (fn := fn) (w := ty_wy lf on tw T) (B := ty_bd T) 4 (fun j _ => ty_wy_le T j)
  have h2 := ty_bd_sz T
  have h3 : 4 ^ ty_sz T ≤ 4 ^ 12 := Nat.pow_le_pow_right (by decide) hs
  have h4 : 4 ^ 12 = 16777216 := by decide
  omega
end
section
/-! numbers, bits, sums -/
theorem ty_sl : ∀ n, n < 32 → ((nI n &&& 31).toBitVec.smod 32).toNat = n := by decide +kernel
theorem ty_bit {s q : Nat} (hs : s < 2 ^ 31) (hq : q < 32) : ((nI s >>> (nI q &&& 31)) &&& 1) = 1 ↔ s.testBit q = true := by
  have h0 : s / 2 ^ q ≤ s := Nat.div_le_self _ _
  rw [pk_shrN hs _ q (ty_sl q hq), pk_andN (by omega) 1 (by decide), Nat.testBit_eq_decide_div_mod_eq, decide_eq_true_eq]
  show nI (s / 2 ^ q % 2 ^ 1) = nI 1 ↔ _
  rw [nI_eq (by omega) (by omega)]
theorem ty_or (a b : Nat) : nI a ||| nI b = nI (a ||| b) := by
  apply Int32.toBitVec_inj.1
  show BitVec.ofNat 32 a ||| BitVec.ofNat 32 b = BitVec.ofNat 32 (a ||| b)
  apply BitVec.eq_of_getLsbD_eq
  intro i hi
  simp [hi]
theorem ty_and (a b : Nat) : nI a &&& nI b = nI (a &&& b) := by
  apply Int32.toBitVec_inj.1
  show BitVec.ofNat 32 a &&& BitVec.ofNat 32 b = BitVec.ofNat 32 (a &&& b)
  apply BitVec.eq_of_getLsbD_eq
  intro i hi
  simp [hi]
theorem ty_byte : ∀ s, s < 128 → (nI s).toInt8.toInt32 = nI s := by decide +kernel
theorem ty_short : ∀ s, s < 1024 → (nI s).toInt16.toInt32 = nI s := by decide +kernel
theorem ty_nar {s : Nat} (h : s < 128) : vp_nar .byte (nI s) = nI s := by rw [vp_nar_byte, ty_byte s h]
theorem ty_ix (c m k : Nat) : nI c * nI m + nI k = nI (c * m + k) := by rw [pk_mul, nI_add]
theorem ty_m3 {k : Nat} (h : k < 2 ^ 31) : nI k &&& 3 = nI (k % 4) := pk_andN (by omega) 2 (by decide)
theorem ty_s2r {k : Nat} (h : k < 2 ^ 31) : nI k >>> ((2 : Int32) &&& 31) = nI (k / 4) := pk_shrN h _ 2 (by decide)
theorem ty_lo {p : Nat} (h : p < 16) : nI p &&& 15 = nI p := by
  have e : nI p &&& 15 = nI (p % 2 ^ 4) := pk_andN (by omega) 4 (by decide)
  rw [e, Nat.mod_eq_of_lt (by omega)]
theorem ty_hi {p : Nat} (h : p < 16) : nI p >>> ((4 : Int32) &&& 31) = nI 0 := by
  have e : nI p >>> ((4 : Int32) &&& 31) = nI (p / 2 ^ 4) := pk_shrN (by omega) _ 4 (by decide)
  rw [e, Nat.div_eq_of_lt (by omega)]
theorem ty_or0 (p : Nat) : nI p ||| (nI 0 <<< ((4 : Int32) &&& 31)) = nI p := by
  rw [show nI 0 <<< ((4 : Int32) &&& 31) = nI 0 from by decide, ty_or, Nat.or_zero]
/-! updates of naturals, sums -/
def ty_up (f : Nat → Nat) (k v : Nat) : Nat → Nat := fun j => if j = k then v else f j
theorem ty_us {f : Nat → Nat} {k v : Nat} : ty_up f k v k = v := if_pos rfl
theorem ty_un {f : Nat → Nat} {k v j : Nat} (h : j ≠ k) : ty_up f k v j = f j := if_neg h
def ty_su (f : Nat → Nat) : Nat → Nat
  | 0 => 0
  | k + 1 => ty_su f k + f k
theorem ty_su_add (f : Nat → Nat) (a : Nat) : ∀ b, ty_su f (a + b) = ty_su f a + ty_su (fun j => f (a + j)) b := by
  intro b
  induction b with
  | zero => rfl
  | succ b ih =>
    show ty_su f (a + b) + f (a + b) = _
    rw [ih]
    simp only [ty_su]
    omega
theorem ty_su_congr {f g : Nat → Nat} : ∀ k, (∀ j, j < k → f j = g j) → ty_su f k = ty_su g k := by
  intro k
  induction k with
  | zero => intro _; rfl
  | succ k ih =>
    intro h
    simp only [ty_su]
    rw [ih (fun j hj => h j (by omega)), h k (by omega)]
theorem ty_su_mul (f : Nat → Nat) (c : Nat) : ∀ k, ty_su (fun j => f j * c) k = ty_su f k * c := by
  intro k
  induction k with
  | zero => simp only [ty_su]; omega
  | succ k ih => simp only [ty_su]; rw [ih, Nat.add_mul]
theorem ty_su_0 : ∀ k, ty_su (fun _ => 0) k = 0 := by
  intro k
  induction k with
  | zero => rfl
  | succ k ih => simp only [ty_su]; omega
theorem ty_su_ge {f : Nat → Nat} : ∀ k j, j < k → f j ≤ ty_su f k := by
  intro k
  induction k with
  | zero => intro j hj; exact absurd hj (by omega)
  | succ k ih =>
    intro j hj
    simp only [ty_su]
    by_cases e : j = k
    · rw [e]; omega
    · have := ih j (by omega); omega
theorem ty_su_up {f : Nat → Nat} {i d : Nat} : ∀ k, ty_su (ty_up f i (f i + d)) k = ty_su f k + (if i < k then d else 0) := by
  intro k
  induction k with
  | zero => simp only [ty_su]; rw [if_neg (by omega)]
  | succ k ih =>
    simp only [ty_su]
    rw [ih]
    by_cases e : k = i
    · rw [e, ty_us, if_neg (by omega), if_pos (by omega)]; omega
    · rw [ty_un e]
      by_cases h : i < k
      · rw [if_pos h, if_pos (by omega)]; omega
      · rw [if_neg h, if_neg (by omega)]; omega
theorem ty_su_len {f : Nat → Nat} : ∀ k, (∀ j, j < k → 1 ≤ f j) → k ≤ ty_su f k := by
  intro k
  induction k with
  | zero => intro _; exact Nat.le_refl _
  | succ k ih =>
    intro h
    have h1 := ih (fun j hj => h j (by omega))
    have h2 := h k (by omega)
    simp only [ty_su]
    omega
/-! the picture of a state -/
/-- automaton 0 holds the tables, automaton 1 nothing -/
def ty_AU (lf on tw : Nat → Nat) (fn : Nat) (a1 a2 a3 a4 : Nat → Int32) : Prop :=
  ty_tb lf on tw ∧ fn < 16 ∧ (∀ l, l < 2 → a1 l = nI (lf l) ∧ a1 (2 + l) = nI 0) ∧ (∀ j, j < 4 → a2 j = nI (on j) ∧ a2 (4 + j) = nI 0) ∧ (∀ j, j < 16 → a3 j = nI (tw j) ∧ a3 (16 + j) = nI 0) ∧ a4 0 = nI fn ∧ a4 1 = nI 0
/-- node i holds tree tr i -/
def ty_nd (tr : Nat → Int.Internal.Linear.Expr) (a5 a6 a7 a8 : Nat → Int32) (i : Nat) : Prop :=
  a8 i = nI (ty_sz (tr i)) ∧ ty_ok (tr i) ∧ ty_sz (tr i) ≤ 12 ∧
  ((∃ l : Nat, l < 2 ∧ tr i = .var l ∧ a5 i = nI l ∧ a6 i = nI 0 ∧ a7 i = nI 0) ∨
   (∃ j, j < i ∧ tr i = .neg (tr j) ∧ a5 i = nI 2 ∧ a6 i = nI j ∧ a7 i = nI 0) ∨
   (∃ j k, j < i ∧ k < i ∧ tr i = .add (tr j) (tr k) ∧ a5 i = nI 3 ∧ a6 i = nI j ∧ a7 i = nI k))
/-- the nodes and the stack of their numbers: m made, trees S 0 .. S (h - 1) on the stack -/
def ty_FO (m h : Nat) (S : Nat → Int.Internal.Linear.Expr) (a5 a6 a7 a8 a9 : Nat → Int32) : Prop :=
  m ≤ 12 ∧ ty_su (fun j => ty_sz (S j)) h ≤ m ∧
  ∃ (tr : Nat → Int.Internal.Linear.Expr) (sk : Nat → Nat), (∀ i, i < m → ty_nd tr a5 a6 a7 a8 i) ∧ ∀ j, j < h → sk j < m ∧ a9 j = nI (sk j) ∧ tr (sk j) = S j
/-- the table of numbers of trees -/
def ty_AL (a15 : Nat → Int32) : Prop := ∀ n, n < 13 → a15 n = nI (ty_al n)
theorem ty_FO_h {m h : Nat} {S : Nat → Int.Internal.Linear.Expr} {a5 a6 a7 a8 a9 : Nat → Int32} (H : ty_FO m h S a5 a6 a7 a8 a9) : h ≤ m := by
  have := ty_su_len (f := fun j => ty_sz (S j)) h (fun j _ => ty_sz_pos _)
  have := H.2.1
  omega
theorem ty_FO_at {m h : Nat} {S : Nat → Int.Internal.Linear.Expr} {a5 a6 a7 a8 a9 : Nat → Int32} (H : ty_FO m h S a5 a6 a7 a8 a9) {j : Nat} (hj : j < h) : ty_ok (S j) ∧ ty_sz (S j) ≤ 12 := by
  obtain ⟨_, _, tr, sk, hn, hs⟩ := H
  obtain ⟨h1, _, h3⟩ := hs j hj
  rw [← h3]
  exact ⟨(hn _ h1).2.1, (hn _ h1).2.2.1⟩
end
section
/-! the sets over one and two children; pairs -/
variable {f0_made f0_height f0_known f0_level f0_left f0_came f0_letters : Int32} {a1 a2 a3 a4 a5 a6 a7 a8 a9 a10 a11 a12 a13 a14 a15 a16 a17 a18 a19 a20 a21 : Nat → Int32}
theorem ty_ifbit {x y : Int32} {A B : Prop} (s q : Nat) (f : s.testBit q = true → A) (g : ¬ s.testBit q = true → B) (hx : x = nI s := by rfl) (hy : y = nI q := by rfl) (hs : s < 2 ^ 31 := by omega) (hq : q < 32 := by omega) :
    ((x >>> (y &&& 31)) &&& 1 = 1 → A) ∧ (¬ (x >>> (y &&& 31)) &&& 1 = 1 → B) := by
  subst hx
  subst hy
  exact ek_if (ty_bit hs hq) f g
theorem ty_i16 (m k : Nat) : (16 : Int32) * nI m + nI k = nI (16 * m + k) := ty_ix 16 m k
theorem ty_i4 (m k : Nat) : (4 : Int32) * nI m + nI k = nI (4 * m + k) := ty_ix 4 m k
theorem ty_i2 (m k : Nat) : (2 : Int32) * nI m + nI k = nI (2 * m + k) := ty_ix 2 m k
theorem ty_i256 (m k : Nat) : (256 : Int32) * nI m + nI k = nI (256 * m + k) := ty_ix 256 m k
theorem ty_p1 {h : Nat} (hh : 0 < h) : nI h - 1 = nI (h - 1) := pk_sub (a := h) (b := 1) (by omega)
theorem ty_overOne {post : Int32 → Prop} {x y : Int32} {on : Nat → Nat} (m p : Nat) (hm : m < 2) (hp : p < 16) (h2 : ∀ j, j < 4 → a2 (4 * m + j) = nI (on j)) (H : post (nI (ty_o1 on p 4))) (hx : x = nI m := by rfl) (hy : y = nI p := by rfl) :
    wpX_overOne post (f0_made, f0_height, f0_known, f0_level, f0_left, f0_came, f0_letters, a1, a2, a3, a4, a5, a6, a7, a8, a9, a10, a11, a12, a13, a14, a15, a16, a17, a18, a19, a20, a21) x y := by
  subst hx
  subst hy
  exact pk_loop (fun n i s => wX_overOne_5 post (nI m) (nI p) f0_made f0_height f0_known f0_level f0_left f0_came f0_letters a1 a2 a3 a4 a5 a6 a7 a8 a9 a10 a11 a12 a13 a14 a15 a16 a17 a18 a19 a20 a21 n s (nI i)) (fun i s => s = nI (ty_o1 on p i)) 4 0 0 (by omega) rfl
    (fun n s h => pk_le 4 4 (fun _ => by rw [h]; exact H) (fun z => absurd z (by omega)))
    (fun n i s hi h hw => pk_le 4 i (fun z => absurd z (by omega)) (fun _ => ty_ifbit p i
      (fun z => ⟨pk_in (4 * m + i) 8 (by omega) (ty_i4 m i), nm_e (nm_r (nI_1 i) (hw _ (by rw [pk_cl (4 * m + i) (ty_i4 m i), h2 i hi, h, ty_or]; simp only [ty_o1]; rw [if_pos z])))⟩)
      (fun z => nm_r (nI_1 i) (hw s (by simp only [ty_o1]; rw [if_neg z, h])))))
theorem ty_overTwo {post : Int32 → Prop} {x y w : Int32} {tw : Nat → Nat} (m a b : Nat) (hm : m < 2) (ha : a < 16) (hb : b < 16) (h3 : ∀ j, j < 16 → a3 (16 * m + j) = nI (tw j)) (H : post (nI (ty_o2 tw a b 16))) (hx : x = nI m := by rfl) (hy : y = nI a := by rfl) (hw : w = nI b := by rfl) :
    wpX_overTwo post (f0_made, f0_height, f0_known, f0_level, f0_left, f0_came, f0_letters, a1, a2, a3, a4, a5, a6, a7, a8, a9, a10, a11, a12, a13, a14, a15, a16, a17, a18, a19, a20, a21) x y w := by
  subst hx
  subst hy
  subst hw
  exact pk_loop (fun n i s => wX_overTwo_6 post (nI m) (nI a) (nI b) f0_made f0_height f0_known f0_level f0_left f0_came f0_letters a1 a2 a3 a4 a5 a6 a7 a8 a9 a10 a11 a12 a13 a14 a15 a16 a17 a18 a19 a20 a21 n s (nI i)) (fun i s => s = nI (ty_o2 tw a b i)) 16 0 0 (by omega) rfl
    (fun n s h => pk_le 16 16 (fun _ => by rw [h]; exact H) (fun z => absurd z (by omega)))
    (fun n i s hi h hw => pk_le 16 i (fun z => absurd z (by omega)) (fun _ => ty_ifbit a (i % 4)
      (fun z1 => ty_ifbit b (i / 4)
        (fun z2 => br_f (by decide) ⟨pk_in (16 * m + i) 32 (by omega) (ty_i16 m i), nm_e (nm_r (nI_1 i) (hw _ (by rw [pk_cl (16 * m + i) (ty_i16 m i), h3 i hi, h, ty_or]; simp only [ty_o2]; rw [if_pos ⟨z1, z2⟩])))⟩)
        (fun z2 => br_t rfl (nm_r (nI_1 i) (hw s (by simp only [ty_o2]; rw [if_neg (fun q => z2 q.2), h])))) rfl (ty_s2r (by omega)))
      (fun z1 => br_t rfl (nm_r (nI_1 i) (hw s (by simp only [ty_o2]; rw [if_neg (fun q => z1 q.1), h])))) rfl (ty_m3 (by omega))))
theorem ty_onePair {post : Int32 → Prop} {x : Int32} {lf on tw : Nat → Nat} {fn : Nat} (hA : ty_AU lf on tw fn a1 a2 a3 a4) (p : Nat) (hp : p < 16) (H : post (nI (ty_o1 on p 4))) (hx : x = nI p := by rfl) :
    wpX_onePair post (f0_made, f0_height, f0_known, f0_level, f0_left, f0_came, f0_letters, a1, a2, a3, a4, a5, a6, a7, a8, a9, a10, a11, a12, a13, a14, a15, a16, a17, a18, a19, a20, a21) x := by
  subst hx
  refine ty_overOne 0 p (by omega) hp (on := on) (fun j hj => ?_) (ty_overOne 1 0 (by omega) (by omega) (on := fun _ => 0) (fun j hj => ?_) ?_ rfl (ty_hi hp)) rfl (ty_lo hp)
  · rw [show 4 * 0 + j = j by omega]; exact (hA.2.2.2.1 j hj).1
  · exact (hA.2.2.2.1 j hj).2
  · rw [ty_o1_0, ty_or0]; exact H
theorem ty_twoPair {post : Int32 → Prop} {x y : Int32} {lf on tw : Nat → Nat} {fn : Nat} (hA : ty_AU lf on tw fn a1 a2 a3 a4) (p q : Nat) (hp : p < 16) (hq : q < 16) (H : post (nI (ty_o2 tw p q 16))) (hx : x = nI p := by rfl) (hy : y = nI q := by rfl) :
    wpX_twoPair post (f0_made, f0_height, f0_known, f0_level, f0_left, f0_came, f0_letters, a1, a2, a3, a4, a5, a6, a7, a8, a9, a10, a11, a12, a13, a14, a15, a16, a17, a18, a19, a20, a21) x y := by
  subst hx
  subst hy
  refine ty_overTwo 0 p q (by omega) hp hq (tw := tw) (fun j hj => ?_) (ty_overTwo 1 0 0 (by omega) (by omega) (by omega) (tw := fun _ => 0) (fun j hj => ?_) ?_ rfl (ty_hi hp) (ty_hi hq)) rfl (ty_lo hp) (ty_lo hq)
  · rw [show 16 * 0 + j = j by omega]; exact (hA.2.2.2.2.1 j hj).1
  · exact (hA.2.2.2.2.1 j hj).2
  · rw [ty_o2_0, ty_or0]; exact H
theorem ty_leafPair {post : Int32 → Prop} {x : Int32} {lf on tw : Nat → Nat} {fn : Nat} (hA : ty_AU lf on tw fn a1 a2 a3 a4) (l : Nat) (hl : l < 2) (H : post (nI (lf l))) (hx : x = nI l := by rfl) :
    wpX_leafPair post (f0_made, f0_height, f0_known, f0_level, f0_left, f0_came, f0_letters, a1, a2, a3, a4, a5, a6, a7, a8, a9, a10, a11, a12, a13, a14, a15, a16, a17, a18, a19, a20, a21) x := by
  subst hx
  refine ⟨pk_in l 4 (by omega), pk_in (2 + l) 4 (by omega) (nI_add 2 l), ?_⟩
  rw [nI_clamp (show l < 2 ^ 31 by omega), pk_cl (2 + l) (show (2 : Int32) + nI l = nI (2 + l) from nI_add 2 l), (hA.2.2.1 l hl).1, (hA.2.2.1 l hl).2, ty_or0]
  exact H
end
section
/-! reading: topmost, size, rank, states -/
variable {f0_made f0_height f0_known f0_level f0_left f0_came f0_letters : Int32} {a1 a2 a3 a4 a5 a6 a7 a8 a9 a10 a11 a12 a13 a14 a15 a16 a17 a18 a19 a20 a21 : Nat → Int32}
theorem ty_topmost {post : Int32 → Prop} {h t : Nat} (hh : 0 < h) (h12 : h ≤ 12) (ht : a9 (h - 1) = nI t) (H : post (nI t)) : wpX_topmost post (f0_made, (nI h), f0_known, f0_level, f0_left, f0_came, f0_letters, a1, a2, a3, a4, a5, a6, a7, a8, a9, a10, a11, a12, a13, a14, a15, a16, a17, a18, a19, a20, a21) :=
  pk_le h 0 (fun z => absurd z (by omega)) (fun _ => ⟨pk_in (h - 1) 12 (by omega) (ty_p1 hh), by rw [pk_cl (h - 1) (ty_p1 hh), ht]; exact H⟩)
theorem ty_topmost0 {post : Int32 → Prop} (H : post (-1)) : wpX_topmost post (f0_made, (nI 0), f0_known, f0_level, f0_left, f0_came, f0_letters, a1, a2, a3, a4, a5, a6, a7, a8, a9, a10, a11, a12, a13, a14, a15, a16, a17, a18, a19, a20, a21) :=
  pk_le 0 0 (fun _ => H) (fun z => absurd z (by omega))
theorem ty_size {post : Int32 → Prop} {m h : Nat} {S : Nat → Int.Internal.Linear.Expr} (hF : ty_FO m h S a5 a6 a7 a8 a9) (hh : 0 < h) (H : post (nI (ty_sz (S (h - 1))))) : wpX_size post (f0_made, (nI h), f0_known, f0_level, f0_left, f0_came, f0_letters, a1, a2, a3, a4, a5, a6, a7, a8, a9, a10, a11, a12, a13, a14, a15, a16, a17, a18, a19, a20, a21) := by
  have h12 := ty_FO_h hF
  obtain ⟨hm, _, tr, sk, hn, hs⟩ := hF
  obtain ⟨h1, h2, h3⟩ := hs (h - 1) (by omega)
  unfold wpX_size
  refine ty_topmost hh (by omega) h2 (pk_le 0 (sk (h - 1)) (fun _ => ⟨pk_in (sk (h - 1)) 12 (by omega), ?_⟩) (fun z => absurd z (by omega)))
  rw [nI_clamp (by omega), (hn _ h1).1, h3]
  exact H
theorem ty_size0 {post : Int32 → Prop} (H : post (-4)) : wpX_size post (f0_made, (nI 0), f0_known, f0_level, f0_left, f0_came, f0_letters, a1, a2, a3, a4, a5, a6, a7, a8, a9, a10, a11, a12, a13, a14, a15, a16, a17, a18, a19, a20, a21) := by
  unfold wpX_size
  exact ty_topmost0 (br_f (by decide) H)
theorem ty_rank139 {post : Int32 → St2 → Prop} {J : Int32 → (Nat → Int32) → (Nat → Int32) → (Nat → Int32) → (Nat → Int32) → (Nat → Int32) → (Nat → Int32) → (Nat → Int32) → (Nat → Int32) → (Nat → Int32) → (Nat → Int32) → (Nat → Int32) → (Nat → Int32) → (Nat → Int32) → (Nat → Int32) → (Nat → Int32) → (Nat → Int32) → (Nat → Int32) → (Nat → Int32) → (Nat → Int32) → (Nat → Int32) → (Nat → Int32) → Prop} {x1 : Int32} {k n j sa V : Nat} (hk : k < 12) (hj : j < 12) (hn : n ≤ 12) (hsa : 1 ≤ sa) (hn2 : sa + 2 ≤ n) (hL : ty_AL a15) (h8 : a8 j = nI sa) (h0 : a12 k = nI V)
    (H : ∀ b : Nat → Int32, b k = nI (V + ty_sm n sa) → (∀ i, i ≠ k → b i = a12 i) → J (nI (k + 1)) a1 a2 a3 a4 a5 a6 a7 a8 a9 a10 a11 b a13 a14 a15 a16 a17 a18 a19 a20 a21) :
    ∃ f, wX_rank_139 post J x1 (nI k) (nI n) (nI j) f0_made f0_height f0_known f0_level f0_left f0_came f0_letters f 1 a1 a2 a3 a4 a5 a6 a7 a8 a9 a10 a11 a12 a13 a14 a15 a16 a17 a18 a19 a20 a21 := by
  refine pk_loop (fun f i s => wX_rank_139 post J x1 (nI k) (nI n) (nI j) f0_made f0_height f0_known f0_level f0_left f0_came f0_letters f (nI i) a1 a2 a3 a4 a5 a6 a7 a8 a9 a10 a11 s a13 a14 a15 a16 a17 a18 a19 a20 a21) (fun i s => s k = nI (V + ty_sm n i) ∧ ∀ i', i' ≠ k → s i' = a12 i') sa 1 a12 hsa ⟨?_, fun _ _ => rfl⟩ ?_ ?_
  · rw [h0]
    show nI V = nI (V + (0 + 0 * _))
    rw [Nat.zero_mul]
    rfl
  · intro f s h
    refine ⟨pk_in j 12 hj, pk_le sa sa (fun _ => nm_r (nI_1 k) (H s h.1 h.2)) (fun z => absurd z (by omega)) ?_⟩
    rw [nI_clamp (by omega)]
    exact h8
  · intro f i s hi h hw
    refine ⟨pk_in j 12 hj, pk_le sa i (fun z => absurd z (by omega)) (fun _ => ⟨pk_in k 12 hk, pk_in i 13 (by omega), pk_in (n - 1 - i) 13 (by omega) ?_, pk_in k 12 hk, nm_e (nm_r (nI_1 i) (hw _ ⟨?_, ?_⟩))⟩) ?_⟩
    · rw [ty_p1 (by omega), pk_sub (by omega)]
    · rw [nI_clamp (by omega), pk_us, nI_clamp (by omega), ty_p1 (by omega), pk_sub (by omega), nI_clamp (by omega), hL i (by omega), hL (n - 1 - i) (by omega), h.1, pk_mul, nI_add]
      simp only [ty_sm]
      rw [Nat.add_assoc]
    · intro i' hi'
      rw [nI_clamp (by omega), pk_un hi']
      exact h.2 i' hi'
    · rw [nI_clamp (by omega)]
      exact h8
theorem ty_rank {post : Int32 → St2 → Prop} {m h : Nat} {S : Nat → Int.Internal.Linear.Expr} (hF : ty_FO m h S a5 a6 a7 a8 a9) (hL : ty_AL a15) (hh : 0 < h) (H : ∀ b : Nat → Int32, post (nI (ty_rk (S (h - 1)))) (f0_made, (nI h), f0_known, f0_level, f0_left, f0_came, f0_letters, a1, a2, a3, a4, a5, a6, a7, a8, a9, a10, a11, b, a13, a14, a15, a16, a17, a18, a19, a20, a21)) : wpX_rank post (f0_made, (nI h), f0_known, f0_level, f0_left, f0_came, f0_letters, a1, a2, a3, a4, a5, a6, a7, a8, a9, a10, a11, a12, a13, a14, a15, a16, a17, a18, a19, a20, a21) := by
  have h12 := ty_FO_h hF
  obtain ⟨hm, _, tr, sk, hn, hs⟩ := hF
  obtain ⟨h1, h2, h3⟩ := hs (h - 1) (by omega)
  unfold wpX_rank
  refine ty_topmost hh (by omega) h2 (pk_le 0 (sk (h - 1)) (fun _ => ?_) (fun z => absurd z (by omega)))
  rw [← h3] at H
  generalize sk (h - 1) = t at *
  refine pk_loop (fun f i s => wX_rank_14 post (nI t) f0_made (nI h) f0_known f0_level f0_left f0_came f0_letters f (nI i) a1 a2 a3 a4 a5 a6 a7 a8 a9 a10 a11 s a13 a14 a15 a16 a17 a18 a19 a20 a21) (fun i s => ∀ j, j < i → s j = nI (ty_rk (tr j))) (t + 1) 0 a12 (by omega) (fun j hj => absurd hj (by omega)) ?_ ?_
  · intro f s h
    refine pk_lt t (t + 1) (fun _ => ⟨pk_in t 12 (by omega), ?_⟩) (fun z => absurd z (by omega))
    rw [nI_clamp (by omega), h t (by omega)]
    exact H s
  · intro f i s hi h hw
    refine pk_lt t i (fun z => absurd z (by omega)) (fun _ => ?_)
    rw [nI_clamp (show i < 2 ^ 31 by omega)]
    have hi12 : i < 12 := by omega
    obtain ⟨n8, nok, n12, nc⟩ := hn i (by omega)
    have fill : ∀ (b : Nat → Int32), b i = nI (ty_rk (tr i)) → (∀ i', i' ≠ i → b i' = s i') → ∀ j, j < i + 1 → b j = nI (ty_rk (tr j)) := by
      intro b e1 e2 j hj
      by_cases e : j = i
      · rw [e]; exact e1
      · rw [e2 j e]; exact h j (by omega)
    refine ⟨pk_in i 12 hi12, nm_r n8 ⟨pk_in i 12 hi12, ?_⟩⟩
    rcases nc with ⟨l, hl, et, e5, e6, e7⟩ | ⟨j, hj, et, e5, e6, e7⟩ | ⟨j, k, hj, hk, et, e5, e6, e7⟩
    · refine nm_r e6 ⟨pk_in i 12 hi12, nm_r e7 ⟨pk_in i 12 hi12, pk_le 2 l (fun z => absurd z (by omega)) (fun _ => ⟨pk_in i 12 hi12, pk_in i 12 hi12, nm_e (nm_r (nI_1 i) (hw _ (fill _ ?_ ?_)))⟩) rfl e5⟩⟩
      · rw [pk_us, e5, et]; rfl
      · intro i' hi'; exact pk_un hi'
    · refine nm_r e6 ⟨pk_in i 12 hi12, nm_r e7 ⟨pk_in i 12 hi12, pk_le 2 2 (fun _ => ⟨pk_in i 12 hi12, br_t e5 ⟨pk_in j 12 (by omega), pk_in i 12 hi12, nm_e (nm_r (nI_1 i) (hw _ (fill _ ?_ ?_)))⟩⟩) (fun z => absurd z (by omega)) rfl e5⟩⟩
      · rw [pk_us, nI_clamp (by omega), h j hj, et]; rfl
      · intro i' hi'; exact pk_un hi'
    · have n8k := (hn k (by omega)).1
      have n8j := (hn j (by omega)).1
      have pj := ty_sz_pos (tr j)
      have pk := ty_sz_pos (tr k)
      have es : ty_sz (tr i) = 1 + ty_sz (tr j) + ty_sz (tr k) := by rw [et]; rfl
      refine nm_r e6 ⟨pk_in i 12 hi12, nm_r e7 ⟨pk_in i 12 hi12, pk_le 2 3 (fun _ => ⟨pk_in i 12 hi12, pk_eq 3 2 (fun z => absurd z (by omega)) (fun _ => ⟨pk_in (ty_sz (tr i) - 1) 13 (by omega) (ty_p1 (by omega)), pk_in j 12 (by omega), pk_in k 12 (by omega), pk_in (ty_sz (tr k)) 13 (by omega) ?_, pk_in k 12 (by omega), pk_in i 12 hi12, nm_e ?_⟩) e5⟩) (fun z => absurd z (by omega)) rfl e5⟩⟩
      · rw [nI_clamp (by omega)]; exact n8k
      · refine ty_rank139 (V := ty_al (ty_sz (tr i) - 1) + ty_rk (tr j) * ty_al (ty_sz (tr k)) + ty_rk (tr k)) (sa := ty_sz (tr j)) hi12 (by omega) n12 pj (by omega) hL n8j ?_ (fun b hb1 hb2 => hw b (fill b ?_ ?_))
        · rw [pk_us, ty_p1 (by omega), nI_clamp (show ty_sz (tr i) - 1 < 2 ^ 31 by omega), nI_clamp (show j < 2 ^ 31 by omega), nI_clamp (show k < 2 ^ 31 by omega), n8k, nI_clamp (show ty_sz (tr k) < 2 ^ 31 by omega), hL _ (by omega), hL _ (by omega), h j hj, h k hk, pk_mul, nI_add, nI_add]
        · rw [hb1, et]
          simp only [ty_rk, ty_sz]
          rw [show 1 + ty_sz (tr j) + ty_sz (tr k) - 1 = ty_sz (tr j) + ty_sz (tr k) by omega]
          congr 1
          omega
        · intro i' hi'; rw [hb2 i' hi', pk_un hi']
theorem ty_rank0 {post : Int32 → St2 → Prop} (H : post (-4) (f0_made, (nI 0), f0_known, f0_level, f0_left, f0_came, f0_letters, a1, a2, a3, a4, a5, a6, a7, a8, a9, a10, a11, a12, a13, a14, a15, a16, a17, a18, a19, a20, a21)) : wpX_rank post (f0_made, (nI 0), f0_known, f0_level, f0_left, f0_came, f0_letters, a1, a2, a3, a4, a5, a6, a7, a8, a9, a10, a11, a12, a13, a14, a15, a16, a17, a18, a19, a20, a21) := by
  unfold wpX_rank
  exact ty_topmost0 (br_f (by decide) H)
theorem ty_states {post : Int32 → St2 → Prop} {x : Int32} {m h q : Nat} {S : Nat → Int.Internal.Linear.Expr} {lf on tw : Nat → Nat} {fn : Nat} (hA : ty_AU lf on tw fn a1 a2 a3 a4) (hF : ty_FO m h S a5 a6 a7 a8 a9) (hh : 0 < h) (hq : q < 2) (H : ∀ b : Nat → Int32, post (if q = 0 then nI (ty_st lf on tw (S (h - 1))) else nI 0) (f0_made, (nI h), f0_known, f0_level, f0_left, f0_came, f0_letters, a1, a2, a3, a4, a5, a6, a7, a8, a9, a10, a11, b, a13, a14, a15, a16, a17, a18, a19, a20, a21)) (hx : x = nI q := by rfl) : wpX_states post (f0_made, (nI h), f0_known, f0_level, f0_left, f0_came, f0_letters, a1, a2, a3, a4, a5, a6, a7, a8, a9, a10, a11, a12, a13, a14, a15, a16, a17, a18, a19, a20, a21) x := by
  subst hx
  have h12 := ty_FO_h hF
  obtain ⟨hm, _, tr, sk, hn, hs⟩ := hF
  obtain ⟨h1, h2, h3⟩ := hs (h - 1) (by omega)
  refine pk_lt q 0 (fun z => absurd z (by omega)) (fun _ => pk_le q 1 (fun _ => br_t rfl ?_) (fun z => absurd z (by omega)))
  refine ty_topmost hh (by omega) h2 (pk_le 0 (sk (h - 1)) (fun _ => ?_) (fun z => absurd z (by omega)))
  rw [← h3] at H
  have hok := (hn _ h1).2.1
  generalize sk (h - 1) = t at *
  refine pk_loop (fun f i s => wX_pairOf_2 _ (nI t) f0_made (nI h) f0_known f0_level f0_left f0_came f0_letters f (nI i) a1 a2 a3 a4 a5 a6 a7 a8 a9 a10 a11 s a13 a14 a15 a16 a17 a18 a19 a20 a21) (fun i s => ∀ j, j < i → s j = nI (ty_st lf on tw (tr j))) (t + 1) 0 a12 (by omega) (fun j hj => absurd hj (by omega)) ?_ ?_
  · intro f s h
    refine pk_lt t (t + 1) (fun _ => ⟨pk_in t 12 (by omega), ?_⟩) (fun z => absurd z (by omega))
    rw [nI_clamp (by omega), h t (by omega)]
    have hH := H s
    have h16 := ty_st_lt hA.1 _ hok
    refine pk_eq q 0 (fun z => ?_) (fun z => ?_)
    · rw [if_pos z] at hH; rw [ty_lo h16]; exact hH
    · rw [if_neg z] at hH; rw [ty_hi h16]; exact hH
  · intro f i s hi h hw
    refine pk_lt t i (fun z => absurd z (by omega)) (fun _ => ?_)
    rw [nI_clamp (show i < 2 ^ 31 by omega)]
    have hi12 : i < 12 := by omega
    obtain ⟨n8, nok, n12, nc⟩ := hn i (by omega)
    have fill : ∀ v, v = nI (ty_st lf on tw (tr i)) → ∀ j, j < i + 1 → upd s i v j = nI (ty_st lf on tw (tr j)) := by
      intro v e1 j hj
      by_cases e : j = i
      · rw [e, pk_us]; exact e1
      · rw [pk_un e]; exact h j (by omega)
    rcases nc with ⟨l, hl, et, e5, e6, e7⟩ | ⟨j, hj, et, e5, e6, e7⟩ | ⟨j, k, hj, hk, et, e5, e6, e7⟩
    · refine ⟨pk_in i 12 hi12, pk_in 0 12 (by omega) e6, nm_e ⟨pk_in i 12 hi12, pk_in 0 12 (by omega) e7, nm_e ⟨pk_in i 12 hi12, pk_le 2 l (fun z => absurd z (by omega)) (fun _ => ⟨pk_in i 12 hi12, ty_leafPair hA l hl ⟨pk_in i 12 hi12, nm_e (nm_r (nI_1 i) (hw _ ?_))⟩ e5⟩) rfl e5⟩⟩⟩
      exact fill _ (by rw [et]; rfl)
    · have hst := ty_st_lt hA.1 _ (hn j (by omega)).2.1
      refine ⟨pk_in i 12 hi12, pk_in j 12 (by omega) e6, nm_r (show s (a6 i).toNatClampNeg = nI (ty_st lf on tw (tr j)) by rw [e6, nI_clamp (by omega), h j hj]) ⟨pk_in i 12 hi12, pk_in 0 12 (by omega) e7, nm_e ⟨pk_in i 12 hi12, pk_le 2 2 (fun _ => ⟨pk_in i 12 hi12, br_t e5 (ty_onePair hA _ hst ⟨pk_in i 12 hi12, nm_e (nm_r (nI_1 i) (hw _ ?_))⟩)⟩) (fun z => absurd z (by omega)) rfl e5⟩⟩⟩
      exact fill _ (by rw [et]; rfl)
    · have hst := ty_st_lt hA.1 _ (hn j (by omega)).2.1
      have hst2 := ty_st_lt hA.1 _ (hn k (by omega)).2.1
      refine ⟨pk_in i 12 hi12, pk_in j 12 (by omega) e6, nm_r (show s (a6 i).toNatClampNeg = nI (ty_st lf on tw (tr j)) by rw [e6, nI_clamp (by omega), h j hj]) ⟨pk_in i 12 hi12, pk_in k 12 (by omega) e7, nm_r (show s (a7 i).toNatClampNeg = nI (ty_st lf on tw (tr k)) by rw [e7, nI_clamp (by omega), h k hk]) ⟨pk_in i 12 hi12, pk_le 2 3 (fun _ => ⟨pk_in i 12 hi12, pk_eq 3 2 (fun z => absurd z (by omega)) (fun _ => ty_twoPair hA _ _ hst hst2 ⟨pk_in i 12 hi12, nm_e (nm_r (nI_1 i) (hw _ ?_))⟩) e5⟩) (fun z => absurd z (by omega)) rfl e5⟩⟩⟩
      exact fill _ (by rw [et]; rfl)
theorem ty_states0 {post : Int32 → St2 → Prop} (H : post (-4) (f0_made, (nI 0), f0_known, f0_level, f0_left, f0_came, f0_letters, a1, a2, a3, a4, a5, a6, a7, a8, a9, a10, a11, a12, a13, a14, a15, a16, a17, a18, a19, a20, a21)) : wpX_states post (f0_made, (nI 0), f0_known, f0_level, f0_left, f0_came, f0_letters, a1, a2, a3, a4, a5, a6, a7, a8, a9, a10, a11, a12, a13, a14, a15, a16, a17, a18, a19, a20, a21) 0 :=
  pk_lt 0 0 (fun z => absurd z (by omega)) (fun _ => pk_le 0 1 (fun _ => br_t rfl (ty_topmost0 (br_f (by decide) H))) (fun z => absurd z (by omega)))
end
section
/-! runs: ways of each node and state -/
variable {f0_made f0_height f0_known f0_level f0_left f0_came f0_letters : Int32} {a1 a2 a3 a4 a5 a6 a7 a8 a9 a10 a11 a12 a13 a14 a15 a16 a17 a18 a19 a20 a21 : Nat → Int32}
theorem ty_bitv {s q : Nat} (hs : s < 2 ^ 31) (hq : q < 32) : (nI s >>> (nI q &&& 31)) &&& 1 = nI (if s.testBit q = true then 1 else 0) := by
  have h0 : s / 2 ^ q ≤ s := Nat.div_le_self _ _
  rw [pk_shrN hs _ q (ty_sl q hq), pk_andN (by omega) 1 (by decide), Nat.testBit_eq_decide_div_mod_eq]
  congr 1
  split
  · rename_i h; rw [decide_eq_true_eq] at h; omega
  · rename_i h; rw [decide_eq_true_eq] at h; omega
theorem ty_waysOf {post : Int32 → Prop} {x y w : Int32} {lf on tw : Nat → Nat} {tr : Nat → Int.Internal.Linear.Expr} (m i q : Nat) (hm : m < 2) (hi : i < 12) (hq : q < 4) (hT : ty_tb lf on tw)
    (h1 : ∀ l, l < 2 → a1 (2 * m + l) = nI (lf l)) (h2 : ∀ j, j < 4 → a2 (4 * m + j) = nI (on j)) (h3 : ∀ j, j < 16 → a3 (16 * m + j) = nI (tw j))
    (hn : ty_nd tr a5 a6 a7 a8 i) (hv : ∀ j, j < 4 * i → a13 j = nI (ty_wy lf on tw (tr (j / 4)) (j % 4)))
    (H : post (nI (ty_wy lf on tw (tr i) q))) (hx : x = nI m := by rfl) (hy : y = nI i := by rfl) (hw : w = nI q := by rfl) :
    wpX_waysOf post (f0_made, f0_height, f0_known, f0_level, f0_left, f0_came, f0_letters, a1, a2, a3, a4, a5, a6, a7, a8, a9, a10, a11, a12, a13, a14, a15, a16, a17, a18, a19, a20, a21) x y w := by
  subst hx
  subst hy
  subst hw
  have rd : ∀ j p, j < i → p < 4 → a13 (4 * j + p) = nI (ty_wy lf on tw (tr j) p) := by
    intro j p hj hp
    rw [hv (4 * j + p) (by omega), show (4 * j + p) / 4 = j by omega, show (4 * j + p) % 4 = p by omega]
  obtain ⟨n8, nok, n12, nc⟩ := hn
  refine ⟨pk_in i 12 hi, ?_⟩
  rw [nI_clamp (show i < 2 ^ 31 by omega)]
  rcases nc with ⟨l, hl, et, e5, e6, e7⟩ | ⟨j, hj, et, e5, e6, e7⟩ | ⟨j, k, hj, hk, et, e5, e6, e7⟩
  · refine pk_le 2 l (fun z => absurd z (by omega)) (fun _ => ⟨pk_in i 12 hi, ?_⟩) rfl e5
    have hlf := hT.1 l hl
    rw [e5]
    refine ⟨pk_in (2 * m + l) 4 (by omega) (ty_i2 m l), ?_⟩
    rw [pk_cl (2 * m + l) (ty_i2 m l), h1 l hl, ty_bitv (by omega) (by omega)]
    rw [et] at H
    exact H
  · refine pk_le 2 2 (fun _ => ?_) (fun z => absurd z (by omega)) rfl e5
    rw [et] at H
    refine pk_loop (fun f p s => wX_waysOf_36 post (nI m) (nI i) (nI q) f0_made f0_height f0_known f0_level f0_left f0_came f0_letters a1 a2 a3 a4 a5 a6 a7 a8 a9 a10 a11 a12 a13 a14 a15 a16 a17 a18 a19 a20 a21 f s (nI p)) (fun p s => s = nI (ty_s1 on (ty_wy lf on tw (tr j)) q (min p 4))) 16 0 0 (by omega) rfl ?_ ?_
    · intro f s h
      refine pk_le 16 16 (fun _ => ?_) (fun z => absurd z (by omega))
      rw [h]
      exact H
    · intro f p s hp h hw
      refine pk_le 16 p (fun z => absurd z (by omega)) (fun _ => ?_)
      rw [nI_clamp (show i < 2 ^ 31 by omega), e5, e6, ty_m3 (show p < 2 ^ 31 by omega), pk_cl (4 * j + p % 4) (ty_i4 j (p % 4)), rd j (p % 4) hj (by omega)]
      refine ⟨pk_in i 12 hi, pk_in (4 * j + p % 4) 48 (by omega) (ty_i4 j (p % 4)), nm_e ⟨pk_in i 12 hi, br_t rfl (pk_le 4 p (fun z => ?_) (fun z => ?_))⟩⟩
      · refine ⟨pk_in i 12 hi, ?_⟩
        rw [nI_clamp (show i < 2 ^ 31 by omega), e5]
        refine br_f (by decide) (nm_r (nI_1 p) (hw s ?_))
        rw [h, show min p 4 = min (p + 1) 4 by omega]
      · have hon := hT.2.1 p z
        refine ⟨pk_in (4 * m + p) 8 (by omega) (ty_i4 m p), ?_⟩
        rw [pk_cl (4 * m + p) (ty_i4 m p), h2 p z, show p % 4 = p by omega]
        rw [show min p 4 = p by omega] at h
        refine ty_ifbit (on p) q (fun zb => ⟨pk_in i 12 hi, ?_⟩) (fun zb => ⟨pk_in i 12 hi, ?_⟩)
        · rw [nI_clamp (show i < 2 ^ 31 by omega), e5]
          refine br_f (by decide) (nm_r (nI_1 p) (hw _ ?_))
          rw [h, nI_add, show min (p + 1) 4 = p + 1 by omega]
          simp only [ty_s1]
          rw [if_pos zb]
        · rw [nI_clamp (show i < 2 ^ 31 by omega), e5]
          refine br_f (by decide) (nm_r (nI_1 p) (hw s ?_))
          rw [h, show min (p + 1) 4 = p + 1 by omega]
          simp only [ty_s1]
          rw [if_neg zb]
  · refine pk_le 2 3 (fun _ => ?_) (fun z => absurd z (by omega)) rfl e5
    rw [et] at H
    refine pk_loop (fun f p s => wX_waysOf_36 post (nI m) (nI i) (nI q) f0_made f0_height f0_known f0_level f0_left f0_came f0_letters a1 a2 a3 a4 a5 a6 a7 a8 a9 a10 a11 a12 a13 a14 a15 a16 a17 a18 a19 a20 a21 f s (nI p)) (fun p s => s = nI (ty_s2 tw (ty_wy lf on tw (tr j)) (ty_wy lf on tw (tr k)) q p)) 16 0 0 (by omega) rfl ?_ ?_
    · intro f s h
      refine pk_le 16 16 (fun _ => ?_) (fun z => absurd z (by omega))
      rw [h]
      exact H
    · intro f p s hp h hw
      have htw := hT.2.2 p hp
      refine pk_le 16 p (fun z => absurd z (by omega)) (fun _ => ?_)
      rw [nI_clamp (show i < 2 ^ 31 by omega), e5, e6, ty_m3 (show p < 2 ^ 31 by omega), pk_cl (4 * j + p % 4) (ty_i4 j (p % 4)), rd j (p % 4) hj (by omega)]
      refine ⟨pk_in i 12 hi, pk_in (4 * j + p % 4) 48 (by omega) (ty_i4 j (p % 4)), nm_e ⟨pk_in i 12 hi, br_f (by decide) ⟨pk_in i 12 hi, ?_⟩⟩⟩
      rw [nI_clamp (show i < 2 ^ 31 by omega), e5]
      refine br_t rfl ⟨pk_in (16 * m + p) 32 (by omega) (ty_i16 m p), ?_⟩
      rw [pk_cl (16 * m + p) (ty_i16 m p), h3 p hp]
      refine ty_ifbit (tw p) q (fun zb => ⟨pk_in i 12 hi, ?_⟩) (fun zb => nm_r (nI_1 p) (hw s ?_))
      · rw [e7, ty_s2r (show p < 2 ^ 31 by omega), pk_cl (4 * k + p / 4) (ty_i4 k (p / 4)), rd k (p / 4) hk (by omega)]
        refine ⟨pk_in (4 * k + p / 4) 48 (by omega) (ty_i4 k (p / 4)), nm_e (nm_r (nI_1 p) (hw _ ?_))⟩
        rw [h, pk_mul, nI_add]
        simp only [ty_s2]
        rw [if_pos zb]
      · rw [h]
        simp only [ty_s2]
        rw [if_neg zb]
theorem ty_runs {post : Int32 → St2 → Prop} {x : Int32} {m h : Nat} {S : Nat → Int.Internal.Linear.Expr} {lf on tw : Nat → Nat} {fn : Nat} (q : Nat) (hq : q < 2) (hT : ty_tb lf on tw) (hfn : fn < 16)
    (h1 : ∀ l, l < 2 → a1 (2 * q + l) = nI (lf l)) (h2 : ∀ j, j < 4 → a2 (4 * q + j) = nI (on j)) (h3 : ∀ j, j < 16 → a3 (16 * q + j) = nI (tw j)) (h4 : a4 q = nI fn)
    (hF : ty_FO m h S a5 a6 a7 a8 a9) (hh : 0 < h) (H : ∀ b : Nat → Int32, post (nI (ty_rs fn (ty_wy lf on tw (S (h - 1))) 4)) (f0_made, (nI h), f0_known, f0_level, f0_left, f0_came, f0_letters, a1, a2, a3, a4, a5, a6, a7, a8, a9, a10, a11, a12, b, a14, a15, a16, a17, a18, a19, a20, a21)) (hx : x = nI q := by rfl) :
    wpX_runs post (f0_made, (nI h), f0_known, f0_level, f0_left, f0_came, f0_letters, a1, a2, a3, a4, a5, a6, a7, a8, a9, a10, a11, a12, a13, a14, a15, a16, a17, a18, a19, a20, a21) x := by
  subst hx
  have h12 := ty_FO_h hF
  obtain ⟨hm, _, tr, sk, hn, hs⟩ := hF
  obtain ⟨g1, g2, g3⟩ := hs (h - 1) (by omega)
  refine pk_lt q 0 (fun z => absurd z (by omega)) (fun _ => pk_le q 1 (fun _ => br_t rfl ?_) (fun z => absurd z (by omega)))
  refine ty_topmost hh (by omega) g2 (pk_le 0 (sk (h - 1)) (fun _ => ?_) (fun z => absurd z (by omega)))
  rw [← g3] at H
  generalize sk (h - 1) = t at *
  refine pk_loop (fun f i s => wX_runs_24 post (nI q) (nI t) f0_made (nI h) f0_known f0_level f0_left f0_came f0_letters f (nI i) a1 a2 a3 a4 a5 a6 a7 a8 a9 a10 a11 a12 s a14 a15 a16 a17 a18 a19 a20 a21) (fun i s => ∀ j, j < i → s j = nI (ty_wy lf on tw (tr (j / 4)) (j % 4))) (4 * (t + 1)) 0 a13 (by omega) (fun j hj => absurd hj (by omega)) ?_ ?_
  · intro f s hv
    refine pk_le (4 * (t + 1)) (4 * (t + 1)) (fun _ => ?_) (fun z => absurd z (by omega)) (by rw [nI_1]; exact pk_mul 4 (t + 1))
    refine pk_loop (fun f i v => wX_runs_61 post (nI q) (nI t) f0_made (nI h) f0_known f0_level f0_left f0_came f0_letters a1 a2 a3 a4 a5 a6 a7 a8 a9 a10 a11 a12 s a14 a15 a16 a17 a18 a19 a20 a21 f v (nI i)) (fun i v => v = nI (ty_rs fn (ty_wy lf on tw (tr t)) i)) 4 0 0 (by omega) rfl ?_ ?_
    · intro f v hv
      refine pk_le 4 4 (fun _ => ?_) (fun z => absurd z (by omega))
      rw [hv]
      exact H s
    · intro f i v hi he hw
      refine pk_le 4 i (fun z => absurd z (by omega)) (fun _ => ⟨pk_in q 2 hq, ?_⟩)
      rw [nI_clamp (show q < 2 ^ 31 by omega), h4]
      refine ty_ifbit fn i (fun zb => ⟨pk_in (4 * t + i) 48 (by omega) (ty_i4 t i), nm_e (nm_r (nI_1 i) (hw _ ?_))⟩) (fun zb => nm_r (nI_1 i) (hw v ?_))
      · rw [pk_cl (4 * t + i) (ty_i4 t i), hv (4 * t + i) (by omega), show (4 * t + i) / 4 = t by omega, show (4 * t + i) % 4 = i by omega, he, nI_add]
        simp only [ty_rs]
        rw [if_pos zb]
      · rw [he]
        simp only [ty_rs]
        rw [if_neg zb]
  · intro f i s hi hv hw
    refine pk_le (4 * (t + 1)) i (fun z => absurd z (by omega)) (fun _ => ?_) (by rw [nI_1]; exact pk_mul 4 (t + 1))
    refine ty_waysOf q (i / 4) (i % 4) hq (by omega) (by omega) hT h1 h2 h3 (hn (i / 4) (by omega)) (fun j hj => hv j (by omega)) ⟨pk_in i 48 (by omega), nm_e (nm_r (nI_1 i) (hw _ ?_))⟩ rfl (ty_s2r (by omega)) (ty_m3 (by omega))
    intro j hj
    rw [nI_clamp (show i < 2 ^ 31 by omega)]
    by_cases e : j = i
    · rw [e, pk_us]
    · rw [pk_un e]
      exact hv j (by omega)
end
section
/-! letters of the topmost tree -/
variable {f0_made f0_height f0_known f0_level f0_left f0_came f0_letters : Int32} {a1 a2 a3 a4 a5 a6 a7 a8 a9 a10 a11 a12 a13 a14 a15 a16 a17 a18 a19 a20 a21 : Nat → Int32}
def ty_lt : Int.Internal.Linear.Expr → Nat
  | .var l => l
  | .neg _ => 2
  | .add _ _ => 3
  | _ => 0
theorem ty_nd_lt {tr : Nat → Int.Internal.Linear.Expr} {a5 a6 a7 a8 : Nat → Int32} {i : Nat} (h : ty_nd tr a5 a6 a7 a8 i) : a5 i = nI (ty_lt (tr i)) ∧ ty_lt (tr i) < 4 := by
  obtain ⟨_, _, _, ⟨l, hl, et, e5, _⟩ | ⟨j, hj, et, e5, _⟩ | ⟨j, k, hj, hk, et, e5, _⟩⟩ := h
  · rw [et]; exact ⟨e5, show l < 4 by omega⟩
  · rw [et]; exact ⟨e5, show 2 < 4 by omega⟩
  · rw [et]; exact ⟨e5, show 3 < 4 by omega⟩
/-- what the loop of write keeps: w nodes wait, i letters are written -/
def ty_WI (m t : Nat) (tr : Nat → Int.Internal.Linear.Expr) (i w : Nat) (a10 a11 : Nat → Int32) : Prop :=
  (∃ pd : Nat → Nat, (∀ j, j < w → pd j < m ∧ a10 j = nI (pd j)) ∧ i + ty_su (fun j => ty_sz (tr (pd j))) w = ty_sz (tr t) ∧ (i = 0 → w = 1 ∧ pd 0 = t)) ∧
  (0 < i → a11 0 = nI (ty_lt (tr t))) ∧ ∀ j, j < i → ∃ c, c < 4 ∧ a11 j = nI c
theorem ty_write {post : Int32 → St2 → Prop} {m t : Nat} {tr : Nat → Int.Internal.Linear.Expr} (hm : m ≤ 12) (ht : t < m) (hn : ∀ i, i < m → ty_nd tr a5 a6 a7 a8 i)
    (H : ∀ b10 b11 : Nat → Int32, b11 0 = nI (ty_lt (tr t)) → (∀ j, j < ty_sz (tr t) → ∃ c, c < 4 ∧ b11 j = nI c) → post (nI (ty_sz (tr t))) (f0_made, f0_height, f0_known, f0_level, f0_left, f0_came, f0_letters, a1, a2, a3, a4, a5, a6, a7, a8, a9, b10, b11, a12, a13, a14, a15, a16, a17, a18, a19, a20, a21)) :
    wpX_write post (f0_made, f0_height, f0_known, f0_level, f0_left, f0_came, f0_letters, a1, a2, a3, a4, a5, a6, a7, a8, a9, a10, a11, a12, a13, a14, a15, a16, a17, a18, a19, a20, a21) (nI t) := by
  have hz := (hn t ht).2.2.1
  have hp := ty_sz_pos (tr t)
  intro b eb
  refine pk_loop (fun f i (s : Nat × (Nat → Int32) × (Nat → Int32)) => wX_write_12 post f0_made f0_height f0_known f0_level f0_left f0_came f0_letters f (nI s.1) (nI i) a1 a2 a3 a4 a5 a6 a7 a8 a9 s.2.1 s.2.2 a12 a13 a14 a15 a16 a17 a18 a19 a20 a21) (fun i s => ty_WI m t tr i s.1 s.2.1 s.2.2) (ty_sz (tr t)) 0 (1, b, a11) (by omega) ?_ ?_ ?_
  · refine ⟨⟨fun _ => t, fun j hj => ⟨ht, ?_⟩, ?_, fun _ => ⟨rfl, rfl⟩⟩, fun z => absurd z (by omega), fun j hj => absurd hj (by omega)⟩
    · show b j = nI t
      rw [eb, show j = 0 from (by have : j < 1 := hj; omega), pk_us, ty_byte t (by omega)]
    · show 0 + (0 + ty_sz (tr t)) = _
      omega
  · rintro f ⟨w, b10, b11⟩ ⟨⟨pd, k1, k2, k3⟩, k4, k5⟩
    have k2 : ty_sz (tr t) + ty_su (fun j => ty_sz (tr (pd j))) w = ty_sz (tr t) := k2
    have hw := ty_su_len (f := fun j => ty_sz (tr (pd j))) w (fun j _ => ty_sz_pos _)
    have hw0 : w = 0 := by omega
    exact pk_le w 0 (fun _ => H b10 b11 (k4 (by omega)) k5) (fun z => absurd z (by omega))
  · rintro f i ⟨w, b10, b11⟩ hi ⟨⟨pd, k1, k2, k3⟩, k4, k5⟩ hw
    have k1 : ∀ j, j < w → pd j < m ∧ b10 j = nI (pd j) := k1
    have k2 : i + ty_su (fun j => ty_sz (tr (pd j))) w = ty_sz (tr t) := k2
    have k3 : i = 0 → w = 1 ∧ pd 0 = t := k3
    have k4 : 0 < i → b11 0 = nI (ty_lt (tr t)) := k4
    have k5 : ∀ j, j < i → ∃ c, c < 4 ∧ b11 j = nI c := k5
    have hwl := ty_su_len (f := fun j => ty_sz (tr (pd j))) w (fun j _ => ty_sz_pos _)
    obtain ⟨v, rfl⟩ : ∃ v, w = v + 1 := by
      cases w with
      | zero => exfalso; simp only [ty_su] at k2; omega
      | succ v => exact ⟨v, rfl⟩
    obtain ⟨c1, c2⟩ := k1 v (by omega)
    have k2' : i + (ty_su (fun j => ty_sz (tr (pd j))) v + ty_sz (tr (pd v))) = ty_sz (tr t) := k2
    have hvl := ty_su_len (f := fun j => ty_sz (tr (pd j))) v (fun j _ => ty_sz_pos _)
    have nc := hn (pd v) c1
    obtain ⟨l5, l4⟩ := ty_nd_lt nc
    obtain ⟨_, _, _, nc⟩ := nc
    -- the new letter
    have q4 : 0 < i + 1 → upd b11 i (nI (ty_lt (tr (pd v)))) 0 = nI (ty_lt (tr t)) := by
      intro _
      by_cases e : i = 0
      · obtain ⟨e1, e2⟩ := k3 e
        rw [e, pk_us, show v = 0 by omega, e2]
      · rw [pk_un (Ne.symm e)]
        exact k4 (by omega)
    have q5 : ∀ j, j < i + 1 → ∃ c, c < 4 ∧ upd b11 i (nI (ty_lt (tr (pd v)))) j = nI c := by
      intro j hj
      by_cases e : j = i
      · exact ⟨_, l4, by rw [e, pk_us]⟩
      · rw [pk_un e]
        exact k5 j (by omega)
    refine pk_le (v + 1) 0 (fun z => absurd z (by omega)) (fun _ => pk_le 12 i (fun z => absurd z (by omega)) (fun _ => nm_r (pk_m1 v) ⟨pk_in v 16 (by omega), nm_r (show b10 (nI v).toNatClampNeg = nI (pd v) by rw [nI_clamp (by omega)]; exact c2) ⟨pk_in (pd v) 12 (by omega), pk_in i 12 (by omega), nm_r (show upd b11 (nI i).toNatClampNeg (vp_nar .byte (a5 (nI (pd v)).toNatClampNeg)) = upd b11 i (nI (ty_lt (tr (pd v)))) by rw [nI_clamp (show i < 2 ^ 31 by omega), nI_clamp (show pd v < 2 ^ 31 by omega), l5, ty_nar (by omega)]) (nm_r (nI_1 i) ⟨pk_in (pd v) 12 (by omega), ?_⟩)⟩⟩))
    rw [nI_clamp (show pd v < 2 ^ 31 by omega), nI_clamp (show v < 2 ^ 31 by omega)]
    rcases nc with ⟨l, hl, et, e5, e6, e7⟩ | ⟨j, hj, et, e5, e6, e7⟩ | ⟨j, k, hj, hk, et, e5, e6, e7⟩
    · have es : ty_sz (tr (pd v)) = 1 := by rw [et]; rfl
      refine pk_eq l 3 (fun z => absurd z (by omega)) (fun _ => ⟨pk_in (pd v) 12 (by omega), ?_⟩) e5
      rw [nI_clamp (show pd v < 2 ^ 31 by omega)]
      refine pk_lt l 2 (fun _ => ?_) (fun z => absurd z (by omega)) e5
      exact hw (v, b10, _) ⟨⟨pd, fun j hj => k1 j (Nat.lt_succ_of_lt hj), (by show i + 1 + ty_su (fun j => ty_sz (tr (pd j))) v = _; omega), fun z => absurd z (by omega)⟩, q4, q5⟩
    · have es : ty_sz (tr (pd v)) = 1 + ty_sz (tr j) := by rw [et]; rfl
      refine pk_eq 2 3 (fun z => absurd z (by omega)) (fun _ => ⟨pk_in (pd v) 12 (by omega), ?_⟩) e5
      rw [nI_clamp (show pd v < 2 ^ 31 by omega)]
      refine pk_lt 2 2 (fun z => absurd z (by omega)) (fun _ => ⟨pk_in (pd v) 12 (by omega), pk_in v 16 (by omega), ?_⟩) e5
      rw [nI_clamp (show v < 2 ^ 31 by omega), e6, ty_nar (by omega)]
      refine nm_e (nm_r (nI_1 v) (hw (v + 1, _, _) ⟨⟨ty_up pd v j, fun j' hj' => ?_, ?_, fun z => absurd z (by omega)⟩, q4, q5⟩))
      · have hj' : j' < v + 1 := hj'
        show ty_up pd v j j' < m ∧ upd b10 v (nI j) j' = nI (ty_up pd v j j')
        by_cases e : j' = v
        · rw [e, ty_us, pk_us]; exact ⟨by omega, rfl⟩
        · rw [ty_un e, pk_un e]; exact k1 j' hj'
      · show i + 1 + (ty_su (fun j' => ty_sz (tr (ty_up pd v j j'))) v + ty_sz (tr (ty_up pd v j v))) = _
        rw [ty_us, ty_su_congr (g := fun j' => ty_sz (tr (pd j'))) v (fun j' hj' => by rw [ty_un (by omega)])]
        omega
    · have es : ty_sz (tr (pd v)) = 1 + ty_sz (tr j) + ty_sz (tr k) := by rw [et]; rfl
      refine br_t e5 ⟨pk_in (pd v) 12 (by omega), pk_in v 16 (by omega), ?_⟩
      rw [e7, ty_nar (by omega)]
      refine nm_e (nm_r (nI_1 v) ⟨pk_in (pd v) 12 (by omega), ?_⟩)
      rw [nI_clamp (show pd v < 2 ^ 31 by omega)]
      refine pk_lt 3 2 (fun z => absurd z (by omega)) (fun _ => ⟨pk_in (pd v) 12 (by omega), pk_in (v + 1) 16 (by omega), ?_⟩) e5
      rw [nI_clamp (show v + 1 < 2 ^ 31 by omega), e6, ty_nar (by omega)]
      refine nm_e (nm_r (nI_1 (v + 1)) (hw (v + 1 + 1, _, _) ⟨⟨ty_up (ty_up pd v k) (v + 1) j, fun j' hj' => ?_, ?_, fun z => absurd z (by omega)⟩, q4, q5⟩))
      · have hj' : j' < v + 1 + 1 := hj'
        show ty_up (ty_up pd v k) (v + 1) j j' < m ∧ upd (upd b10 v (nI k)) (v + 1) (nI j) j' = nI (ty_up (ty_up pd v k) (v + 1) j j')
        by_cases e : j' = v + 1
        · rw [e, ty_us, pk_us]; exact ⟨by omega, rfl⟩
        · rw [ty_un e, pk_un e]
          by_cases e' : j' = v
          · rw [e', ty_us, pk_us]; exact ⟨by omega, rfl⟩
          · rw [ty_un e', pk_un e']; exact k1 j' (by omega)
      · show i + 1 + (ty_su (fun j' => ty_sz (tr (ty_up (ty_up pd v k) (v + 1) j j'))) v + ty_sz (tr (ty_up (ty_up pd v k) (v + 1) j v)) + ty_sz (tr (ty_up (ty_up pd v k) (v + 1) j (v + 1)))) = _
        rw [ty_us, ty_un (show v ≠ v + 1 by omega), ty_us, ty_su_congr (g := fun j' => ty_sz (tr (pd j'))) v (fun j' hj' => by rw [ty_un (by omega), ty_un (by omega)])]
        omega
theorem ty_letter {post : Int32 → St2 → Prop} {x : Int32} {m h : Nat} {S : Nat → Int.Internal.Linear.Expr} (i : Nat) (hF : ty_FO m h S a5 a6 a7 a8 a9) (hh : 0 < h) (hi : i ≤ 12)
    (H : ∀ (b10 b11 : Nat → Int32) (r : Int32), (i = 0 → r = nI (ty_lt (S (h - 1)))) → (ty_sz (S (h - 1)) ≤ i → r = -4) → (i < ty_sz (S (h - 1)) → ∃ c, c < 4 ∧ r = nI c) → post r (f0_made, (nI h), f0_known, f0_level, f0_left, f0_came, f0_letters, a1, a2, a3, a4, a5, a6, a7, a8, a9, b10, b11, a12, a13, a14, a15, a16, a17, a18, a19, a20, a21)) (hx : x = nI i := by rfl) :
    wpX_letter post (f0_made, (nI h), f0_known, f0_level, f0_left, f0_came, f0_letters, a1, a2, a3, a4, a5, a6, a7, a8, a9, a10, a11, a12, a13, a14, a15, a16, a17, a18, a19, a20, a21) x := by
  subst hx
  have h12 := ty_FO_h hF
  obtain ⟨hm, _, tr, sk, hn, hs⟩ := hF
  obtain ⟨g1, g2, g3⟩ := hs (h - 1) (by omega)
  have hz := (hn _ g1).2.2.1
  have hp := ty_sz_pos (tr (sk (h - 1)))
  rw [← g3] at H
  unfold wpX_letter
  refine ty_topmost hh (by omega) g2 (pk_le 0 (sk (h - 1)) (fun _ => ?_) (fun z => absurd z (by omega)))
  refine ty_write hm g1 hn (fun b10 b11 k0 k1 => ?_)
  refine pk_lt i 0 (fun z => absurd z (by omega)) (fun _ => pk_lt i (ty_sz (tr (sk (h - 1)))) (fun z => ⟨pk_in i 12 (by omega), ?_⟩) (fun z => ?_))
  · rw [nI_clamp (show i < 2 ^ 31 by omega)]
    exact H b10 b11 _ (fun e => by rw [e]; exact k0) (fun e => absurd e (by omega)) (fun _ => k1 i z)
  · exact H b10 b11 _ (fun e => absurd e (by omega)) (fun _ => rfl) (fun e => absurd e (by omega))
end
section
/-! making a node -/
variable {f0_made f0_height f0_known f0_level f0_left f0_came f0_letters : Int32} {a1 a2 a3 a4 a5 a6 a7 a8 a9 a10 a11 a12 a13 a14 a15 a16 a17 a18 a19 a20 a21 : Nat → Int32}
def ty_pu (S : Nat → Int.Internal.Linear.Expr) (k : Nat) (t : Int.Internal.Linear.Expr) : Nat → Int.Internal.Linear.Expr := fun j => if j = k then t else S j
theorem ty_ps {S : Nat → Int.Internal.Linear.Expr} {k : Nat} {t : Int.Internal.Linear.Expr} : ty_pu S k t k = t := if_pos rfl
theorem ty_pn {S : Nat → Int.Internal.Linear.Expr} {k j : Nat} {t : Int.Internal.Linear.Expr} (h : j ≠ k) : ty_pu S k t j = S j := if_neg h
theorem ty_FO_mk {m g c A B : Nat} {S tr : Nat → Int.Internal.Linear.Expr} {sk : Nat → Nat} {t : Int.Internal.Linear.Expr} {a5 a6 a7 a8 a9 : Nat → Int32} (hm : m < 12) (hn : ∀ i, i < m → ty_nd tr a5 a6 a7 a8 i) (hs : ∀ j, j < g → sk j < m ∧ a9 j = nI (sk j) ∧ tr (sk j) = S j) (ht : ty_ok t)
    (hc : (∃ l : Nat, l < 2 ∧ t = .var l ∧ c = l ∧ A = 0 ∧ B = 0) ∨ (∃ j, j < m ∧ t = .neg (tr j) ∧ c = 2 ∧ A = j ∧ B = 0) ∨ (∃ j k, j < m ∧ k < m ∧ t = .add (tr j) (tr k) ∧ c = 3 ∧ A = j ∧ B = k))
    (hz : ty_su (fun j => ty_sz (S j)) g + ty_sz t ≤ m + 1) :
    ty_FO (m + 1) (g + 1) (ty_pu S g t) (upd a5 m (nI c)) (upd a6 m (nI A)) (upd a7 m (nI B)) (upd a8 m (nI (ty_sz t))) (upd a9 g (nI m)) := by
  refine ⟨by omega, ?_, ty_pu tr m t, ty_up sk g m, ?_, ?_⟩
  · show ty_su (fun j => ty_sz (ty_pu S g t j)) g + ty_sz (ty_pu S g t g) ≤ m + 1
    rw [ty_ps, ty_su_congr (g := fun j => ty_sz (S j)) g (fun j hj => by rw [ty_pn (by omega)])]
    exact hz
  · intro i hi
    unfold ty_nd
    by_cases e : i = m
    · rw [e, pk_us, pk_us, pk_us, pk_us, ty_ps]
      refine ⟨rfl, ht, by omega, ?_⟩
      rcases hc with ⟨l, hl, et, ec, eA, eB⟩ | ⟨j, hj, et, ec, eA, eB⟩ | ⟨j, k, hj, hk, et, ec, eA, eB⟩
      · exact Or.inl ⟨l, hl, et, by rw [ec], by rw [eA], by rw [eB]⟩
      · exact Or.inr (Or.inl ⟨j, hj, by rw [ty_pn (by omega)]; exact et, by rw [ec], by rw [eA], by rw [eB]⟩)
      · exact Or.inr (Or.inr ⟨j, k, hj, hk, by rw [ty_pn (by omega), ty_pn (by omega)]; exact et, by rw [ec], by rw [eA], by rw [eB]⟩)
    · rw [pk_un e, pk_un e, pk_un e, pk_un e, ty_pn e]
      obtain ⟨n8, nok, n12, nc⟩ := hn i (by omega)
      refine ⟨n8, nok, n12, ?_⟩
      rcases nc with h | ⟨j, hj, et, r⟩ | ⟨j, k, hj, hk, et, r⟩
      · exact Or.inl h
      · exact Or.inr (Or.inl ⟨j, hj, by rw [ty_pn (by omega)]; exact et, r⟩)
      · exact Or.inr (Or.inr ⟨j, k, hj, hk, by rw [ty_pn (by omega), ty_pn (by omega)]; exact et, r⟩)
  · intro j hj
    by_cases e : j = g
    · rw [e, ty_us, pk_us, ty_ps, ty_ps]
      exact ⟨by omega, rfl, rfl⟩
    · obtain ⟨h1, h2, h3⟩ := hs j (by omega)
      rw [ty_un e, pk_un e, ty_pn e, ty_pn (by omega)]
      exact ⟨by omega, h2, h3⟩
theorem ty_make48 {post : Int32 → St2 → Prop} {m g c k A B sa sb : Nat} (hm : m < 12) (hg : g < 12) (hc : c < 128) (hk : k ≤ 2) (hA : A < 12) (hB : B < 12) (ha : k = 0 → sa = 0) (ha' : 0 < k → a8 A = nI sa) (hb : k ≤ 1 → sb = 0) (hb' : 1 < k → a8 B = nI sb) (hz : 1 + sa + sb < 128)
    (H : post (nI (g + 1)) ((nI (m + 1)), (nI (g + 1)), f0_known, f0_level, f0_left, f0_came, f0_letters, a1, a2, a3, a4, (upd a5 m (nI c)), (upd a6 m (nI A)), (upd a7 m (nI B)), (upd a8 m (nI (1 + sa + sb))), (upd a9 g (nI m)), a10, a11, a12, a13, a14, a15, a16, a17, a18, a19, a20, a21)) :
    wX_make_48 post (nI c) (nI k) (nI A) (nI B) (nI m) (nI g) f0_known f0_level f0_left f0_came f0_letters a1 a2 a3 a4 a5 a6 a7 a8 a9 a10 a11 a12 a13 a14 a15 a16 a17 a18 a19 a20 a21 := by
  have H124 : ∀ b5 b6 b7 : Nat → Int32, b5 = upd a5 m (nI c) → b6 = upd a6 m (nI A) → b7 = upd a7 m (nI B) → wX_make_124 post (nI sb) (nI (1 + sa)) (nI m) (nI m) (nI g) f0_known f0_level f0_left f0_came f0_letters a1 a2 a3 a4 b5 b6 b7 a8 a9 a10 a11 a12 a13 a14 a15 a16 a17 a18 a19 a20 a21 := by
    intro b5 b6 b7 e5 e6 e7
    rw [e5, e6, e7]
    refine ⟨pk_in m 12 hm, nm_r (show upd a8 (nI m).toNatClampNeg ((nI (1 + sa) + nI sb).toInt8.toInt32) = upd a8 m (nI (1 + sa + sb)) by rw [nI_clamp (by omega), nI_add, ty_byte _ hz]) ⟨pk_in g 12 hg, nm_r (show upd a9 (nI g).toNatClampNeg (nI m).toInt8.toInt32 = upd a9 g (nI m) by rw [nI_clamp (by omega), ty_byte m (by omega)]) (nm_r (nI_1 g) (nm_r (nI_1 m) H))⟩⟩
  have H107 : ∀ b5 b6 b7 : Nat → Int32, b5 = upd a5 m (nI c) → b6 = upd a6 m (nI A) → b7 = upd a7 m (nI B) → wX_make_107 post (nI k) (nI B) (nI sa) 1 (nI m) (nI m) (nI g) f0_known f0_level f0_left f0_came f0_letters a1 a2 a3 a4 b5 b6 b7 a8 a9 a10 a11 a12 a13 a14 a15 a16 a17 a18 a19 a20 a21 := by
    intro b5 b6 b7 e5 e6 e7
    have h := H124 b5 b6 b7 e5 e6 e7
    rw [← nI_add 1 sa] at h
    refine pk_le k 1 (fun z => ?_) (fun z => ⟨pk_in B 12 hB, ?_⟩)
    · rw [hb z] at h; exact h
    · rw [nI_clamp (by omega), hb' z]; exact h
  refine ⟨pk_in m 12 hm, nm_r (show upd a5 (nI m).toNatClampNeg (nI c).toInt8.toInt32 = upd a5 m (nI c) by rw [nI_clamp (by omega), ty_byte c hc]) ⟨pk_in m 12 hm, nm_r (show upd a6 (nI m).toNatClampNeg (nI A).toInt8.toInt32 = upd a6 m (nI A) by rw [nI_clamp (by omega), ty_byte A (by omega)]) ⟨pk_in m 12 hm, nm_r (show upd a7 (nI m).toNatClampNeg (nI B).toInt8.toInt32 = upd a7 m (nI B) by rw [nI_clamp (by omega), ty_byte B (by omega)]) ?_⟩⟩⟩
  have h := H107 _ _ _ rfl rfl rfl
  refine pk_le k 0 (fun z => ?_) (fun z => ⟨pk_in A 12 hA, ?_⟩)
  · rw [ha (by omega)] at h; exact h
  · rw [nI_clamp (show A < 2 ^ 31 by omega), ha' z]; exact h
theorem ty_makeL {post : Int32 → St2 → Prop} {x y : Int32} {m h : Nat} {S : Nat → Int.Internal.Linear.Expr} (l : Nat) (hl : l < 2) (hF : ty_FO m h S a5 a6 a7 a8 a9) (hm : m < 12)
    (H : ∀ b5 b6 b7 b8 b9 : Nat → Int32, ty_FO (m + 1) (h + 1) (ty_pu S h (.var l)) b5 b6 b7 b8 b9 → post (nI (h + 1)) ((nI (m + 1)), (nI (h + 1)), f0_known, f0_level, f0_left, f0_came, f0_letters, a1, a2, a3, a4, b5, b6, b7, b8, b9, a10, a11, a12, a13, a14, a15, a16, a17, a18, a19, a20, a21)) (hx : x = nI l := by rfl) (hy : y = nI 0 := by rfl) :
    wpX_make post ((nI m), (nI h), f0_known, f0_level, f0_left, f0_came, f0_letters, a1, a2, a3, a4, a5, a6, a7, a8, a9, a10, a11, a12, a13, a14, a15, a16, a17, a18, a19, a20, a21) x y := by
  subst hx
  subst hy
  have h12 := ty_FO_h hF
  obtain ⟨_, hz, tr, sk, hn, hs⟩ := hF
  refine nm_r (pk_sub (a := h) (b := 0) (by omega)) (pk_le 0 0 (fun _ => pk_le 0 1 (fun _ => ?_) (fun z => absurd z (by omega))) (fun z => absurd z (by omega)))
  exact ty_make48 (A := 0) (B := 0) (k := 0) (sa := 0) (sb := 0) hm (by omega) (by omega) (by omega) (by omega) (by omega) (fun _ => rfl) (fun z => absurd z (by omega)) (fun _ => rfl) (fun z => absurd z (by omega)) (by omega)
    (H _ _ _ _ _ (ty_FO_mk (t := .var l) hm hn hs hl (Or.inl ⟨l, hl, rfl, rfl, rfl, rfl⟩) (by show _ + 1 ≤ m + 1; omega)))
theorem ty_make1 {post : Int32 → St2 → Prop} {x y : Int32} {m g : Nat} {S : Nat → Int.Internal.Linear.Expr} (hF : ty_FO m (g + 1) S a5 a6 a7 a8 a9) (hm : m < 12)
    (H : ∀ b5 b6 b7 b8 b9 : Nat → Int32, ty_FO (m + 1) (g + 1) (ty_pu S g (.neg (S g))) b5 b6 b7 b8 b9 → post (nI (g + 1)) ((nI (m + 1)), (nI (g + 1)), f0_known, f0_level, f0_left, f0_came, f0_letters, a1, a2, a3, a4, b5, b6, b7, b8, b9, a10, a11, a12, a13, a14, a15, a16, a17, a18, a19, a20, a21)) (hx : x = nI 2 := by rfl) (hy : y = nI 1 := by rfl) :
    wpX_make post ((nI m), (nI (g + 1)), f0_known, f0_level, f0_left, f0_came, f0_letters, a1, a2, a3, a4, a5, a6, a7, a8, a9, a10, a11, a12, a13, a14, a15, a16, a17, a18, a19, a20, a21) x y := by
  subst hx
  subst hy
  have h12 := ty_FO_h hF
  obtain ⟨_, hz, tr, sk, hn, hs⟩ := hF
  obtain ⟨h1, h2, h3⟩ := hs g (by omega)
  have hz : ty_su (fun j => ty_sz (S j)) g + ty_sz (S g) ≤ m := hz
  refine nm_r (nI_pred g) (pk_le 1 0 (fun z => absurd z (by omega)) (fun _ => ⟨pk_in g 12 (by omega), ?_⟩))
  rw [nI_clamp (show g < 2 ^ 31 by omega), h2]
  refine pk_le 1 1 (fun _ => ?_) (fun z => absurd z (by omega))
  obtain ⟨n8, nok, n12, _⟩ := hn _ h1
  rw [h3] at n8 nok n12
  exact ty_make48 (A := sk g) (B := 0) (k := 1) (sa := ty_sz (S g)) (sb := 0) hm (by omega) (by omega) (by omega) (by omega) (by omega) (fun z => absurd z (by omega)) (fun _ => n8) (fun _ => rfl) (fun z => absurd z (by omega)) (by omega)
    (H _ _ _ _ _ (ty_FO_mk (t := .neg (S g)) hm hn (fun j hj => hs j (by omega)) nok (Or.inr (Or.inl ⟨sk g, h1, by rw [h3], rfl, rfl, rfl⟩)) (by show _ + (1 + ty_sz (S g)) ≤ m + 1; omega)))
theorem ty_make2 {post : Int32 → St2 → Prop} {x y : Int32} {m g : Nat} {S : Nat → Int.Internal.Linear.Expr} (hF : ty_FO m (g + 2) S a5 a6 a7 a8 a9) (hm : m < 12)
    (H : ∀ b5 b6 b7 b8 b9 : Nat → Int32, ty_FO (m + 1) (g + 1) (ty_pu S g (.add (S g) (S (g + 1)))) b5 b6 b7 b8 b9 → post (nI (g + 1)) ((nI (m + 1)), (nI (g + 1)), f0_known, f0_level, f0_left, f0_came, f0_letters, a1, a2, a3, a4, b5, b6, b7, b8, b9, a10, a11, a12, a13, a14, a15, a16, a17, a18, a19, a20, a21)) (hx : x = nI 3 := by rfl) (hy : y = nI 2 := by rfl) :
    wpX_make post ((nI m), (nI (g + 2)), f0_known, f0_level, f0_left, f0_came, f0_letters, a1, a2, a3, a4, a5, a6, a7, a8, a9, a10, a11, a12, a13, a14, a15, a16, a17, a18, a19, a20, a21) x y := by
  subst hx
  subst hy
  have h12 := ty_FO_h hF
  obtain ⟨_, hz, tr, sk, hn, hs⟩ := hF
  obtain ⟨h1, h2, h3⟩ := hs g (by omega)
  obtain ⟨i1, i2, i3⟩ := hs (g + 1) (by omega)
  have hz : ty_su (fun j => ty_sz (S j)) g + ty_sz (S g) + ty_sz (S (g + 1)) ≤ m := hz
  refine nm_r (show nI (g + 2) - nI 2 = nI g by rw [pk_sub (by omega)]; rfl) (pk_le 2 0 (fun z => absurd z (by omega)) (fun _ => ⟨pk_in g 12 (by omega), ?_⟩))
  rw [nI_clamp (show g < 2 ^ 31 by omega), h2]
  refine pk_le 2 1 (fun z => absurd z (by omega)) (fun _ => ⟨pk_in (g + 1) 12 (by omega) (nI_1 g), ?_⟩)
  rw [pk_cl (g + 1) (nI_1 g), i2]
  obtain ⟨n8, nok, n12, _⟩ := hn _ h1
  obtain ⟨m8, mok, m12, _⟩ := hn _ i1
  rw [h3] at n8 nok n12
  rw [i3] at m8 mok m12
  exact ty_make48 (A := sk g) (B := sk (g + 1)) (k := 2) (sa := ty_sz (S g)) (sb := ty_sz (S (g + 1))) hm (by omega) (by omega) (by omega) (by omega) (by omega) (fun z => absurd z (by omega)) (fun _ => n8) (fun z => absurd z (by omega)) (fun _ => m8) (by omega)
    (H _ _ _ _ _ (ty_FO_mk (t := .add (S g) (S (g + 1))) hm hn (fun j hj => hs j (by omega)) ⟨nok, mok⟩ (Or.inr (Or.inr ⟨sk g, sk (g + 1), h1, i1, by rw [h3, i3], rfl, rfl, rfl⟩)) (by show _ + (1 + ty_sz (S g) + ty_sz (S (g + 1))) ≤ m + 1; omega)))
theorem ty_leaf {post : Int32 → St2 → Prop} {x : Int32} {m h : Nat} {S : Nat → Int.Internal.Linear.Expr} (l : Nat) (hl : l < 2) (hF : ty_FO m h S a5 a6 a7 a8 a9) (hm : m < 12)
    (H : ∀ b5 b6 b7 b8 b9 : Nat → Int32, ty_FO (m + 1) (h + 1) (ty_pu S h (.var l)) b5 b6 b7 b8 b9 → post (nI (h + 1)) ((nI (m + 1)), (nI (h + 1)), f0_known, f0_level, f0_left, f0_came, f0_letters, a1, a2, a3, a4, b5, b6, b7, b8, b9, a10, a11, a12, a13, a14, a15, a16, a17, a18, a19, a20, a21)) (hx : x = nI l := by rfl) :
    wpX_leaf post ((nI m), (nI h), f0_known, f0_level, f0_left, f0_came, f0_letters, a1, a2, a3, a4, a5, a6, a7, a8, a9, a10, a11, a12, a13, a14, a15, a16, a17, a18, a19, a20, a21) x := by
  subst hx
  exact pk_lt l 0 (fun z => absurd z (by omega)) (fun _ => pk_le l 1 (fun _ => pk_eq m 12 (fun z => absurd z (by omega)) (fun _ => ty_makeL l hl hF hm (fun b5 b6 b7 b8 b9 hb => H b5 b6 b7 b8 b9 hb))) (fun z => absurd z (by omega)))
theorem ty_one {post : Int32 → St2 → Prop} {m g : Nat} {S : Nat → Int.Internal.Linear.Expr} (hF : ty_FO m (g + 1) S a5 a6 a7 a8 a9) (hm : m < 12)
    (H : ∀ b5 b6 b7 b8 b9 : Nat → Int32, ty_FO (m + 1) (g + 1) (ty_pu S g (.neg (S g))) b5 b6 b7 b8 b9 → post (nI (g + 1)) ((nI (m + 1)), (nI (g + 1)), f0_known, f0_level, f0_left, f0_came, f0_letters, a1, a2, a3, a4, b5, b6, b7, b8, b9, a10, a11, a12, a13, a14, a15, a16, a17, a18, a19, a20, a21)) :
    wpX_one post ((nI m), (nI (g + 1)), f0_known, f0_level, f0_left, f0_came, f0_letters, a1, a2, a3, a4, a5, a6, a7, a8, a9, a10, a11, a12, a13, a14, a15, a16, a17, a18, a19, a20, a21) := by
  have h12 := ty_FO_h hF
  exact pk_eq m 12 (fun z => absurd z (by omega)) (fun _ => pk_le 1 (g + 1) (fun _ => ty_make1 hF hm (fun b5 b6 b7 b8 b9 hb => H b5 b6 b7 b8 b9 hb)) (fun z => absurd z (by omega)))
theorem ty_two {post : Int32 → St2 → Prop} {m g : Nat} {S : Nat → Int.Internal.Linear.Expr} (hF : ty_FO m (g + 2) S a5 a6 a7 a8 a9) (hm : m < 12)
    (H : ∀ b5 b6 b7 b8 b9 : Nat → Int32, ty_FO (m + 1) (g + 1) (ty_pu S g (.add (S g) (S (g + 1)))) b5 b6 b7 b8 b9 → post (nI (g + 1)) ((nI (m + 1)), (nI (g + 1)), f0_known, f0_level, f0_left, f0_came, f0_letters, a1, a2, a3, a4, b5, b6, b7, b8, b9, a10, a11, a12, a13, a14, a15, a16, a17, a18, a19, a20, a21)) :
    wpX_two post ((nI m), (nI (g + 2)), f0_known, f0_level, f0_left, f0_came, f0_letters, a1, a2, a3, a4, a5, a6, a7, a8, a9, a10, a11, a12, a13, a14, a15, a16, a17, a18, a19, a20, a21) := by
  have h12 := ty_FO_h hF
  exact pk_eq m 12 (fun z => absurd z (by omega)) (fun _ => pk_le 2 (g + 2) (fun _ => ty_make2 hF hm (fun b5 b6 b7 b8 b9 hb => H b5 b6 b7 b8 b9 hb)) (fun z => absurd z (by omega)))
theorem ty_full_leaf {post : Int32 → St2 → Prop} (H : post (-2) ((nI 12), f0_height, f0_known, f0_level, f0_left, f0_came, f0_letters, a1, a2, a3, a4, a5, a6, a7, a8, a9, a10, a11, a12, a13, a14, a15, a16, a17, a18, a19, a20, a21)) : wpX_leaf post ((nI 12), f0_height, f0_known, f0_level, f0_left, f0_came, f0_letters, a1, a2, a3, a4, a5, a6, a7, a8, a9, a10, a11, a12, a13, a14, a15, a16, a17, a18, a19, a20, a21) 0 :=
  pk_lt 0 0 (fun z => absurd z (by omega)) (fun _ => pk_le 0 1 (fun _ => br_t rfl H) (fun z => absurd z (by omega)))
theorem ty_full_one {post : Int32 → St2 → Prop} (H : post (-2) ((nI 12), f0_height, f0_known, f0_level, f0_left, f0_came, f0_letters, a1, a2, a3, a4, a5, a6, a7, a8, a9, a10, a11, a12, a13, a14, a15, a16, a17, a18, a19, a20, a21)) : wpX_one post ((nI 12), f0_height, f0_known, f0_level, f0_left, f0_came, f0_letters, a1, a2, a3, a4, a5, a6, a7, a8, a9, a10, a11, a12, a13, a14, a15, a16, a17, a18, a19, a20, a21) := br_t rfl H
theorem ty_full_two {post : Int32 → St2 → Prop} (H : post (-2) ((nI 12), f0_height, f0_known, f0_level, f0_left, f0_came, f0_letters, a1, a2, a3, a4, a5, a6, a7, a8, a9, a10, a11, a12, a13, a14, a15, a16, a17, a18, a19, a20, a21)) : wpX_two post ((nI 12), f0_height, f0_known, f0_level, f0_left, f0_came, f0_letters, a1, a2, a3, a4, a5, a6, a7, a8, a9, a10, a11, a12, a13, a14, a15, a16, a17, a18, a19, a20, a21) := br_t rfl H
end
section
/-! the rules, the table of numbers of trees -/
variable {f0_made f0_height f0_known f0_level f0_left f0_came f0_letters : Int32} {a1 a2 a3 a4 a5 a6 a7 a8 a9 a10 a11 a12 a13 a14 a15 a16 a17 a18 a19 a20 a21 : Nat → Int32}
theorem ty_bA {post : Int32 → Prop} {x : Int32} (q : Nat) (hq : q < 2) (H : post 0) (hx : x = nI q := by rfl) : wpX_badAutomaton post (f0_made, f0_height, f0_known, f0_level, f0_left, f0_came, f0_letters, a1, a2, a3, a4, a5, a6, a7, a8, a9, a10, a11, a12, a13, a14, a15, a16, a17, a18, a19, a20, a21) x := by
  subst hx
  exact pk_lt q 0 (fun z => absurd z (by omega)) (fun _ => pk_le q 1 (fun _ => H) (fun z => absurd z (by omega)))
theorem ty_bS {post : Int32 → Prop} {x : Int32} (q : Nat) (hq : q < 16) (H : post 0) (hx : x = nI q := by rfl) : wpX_badSet post (f0_made, f0_height, f0_known, f0_level, f0_left, f0_came, f0_letters, a1, a2, a3, a4, a5, a6, a7, a8, a9, a10, a11, a12, a13, a14, a15, a16, a17, a18, a19, a20, a21) x := by
  subst hx
  exact pk_lt q 0 (fun z => absurd z (by omega)) (fun _ => pk_le q 15 (fun _ => H) (fun z => absurd z (by omega)))
theorem ty_c0 (c k : Nat) : nI c * 0 + nI k = nI k := by
  have h := ty_ix c 0 k
  rw [Nat.mul_zero, Nat.zero_add] at h
  exact h
theorem ty_twoRule {post : Int32 → St2 → Prop} {x y : Int32} (k s : Nat) (hk : k < 16) (hs : s < 16) (H : post (a3 k) (f0_made, f0_height, 0, f0_level, f0_left, f0_came, f0_letters, a1, a2, (upd a3 k (nI s)), a4, a5, a6, a7, a8, a9, a10, a11, a12, a13, a14, a15, a16, a17, a18, a19, a20, a21)) (hx : x = nI k := by rfl) (hy : y = nI s := by rfl) : wpX_twoRule post (f0_made, f0_height, f0_known, f0_level, f0_left, f0_came, f0_letters, a1, a2, a3, a4, a5, a6, a7, a8, a9, a10, a11, a12, a13, a14, a15, a16, a17, a18, a19, a20, a21) 0 x y := by
  subst hx
  subst hy
  have e : (16 : Int32) * 0 + nI k = nI k := ty_c0 16 k
  unfold wpX_twoRule
  refine ty_bA 0 (by omega) (br_t rfl (ty_bS k hk (br_t rfl (ty_bS s hs (br_t rfl ?_)))))
  rw [e, nI_clamp (show k < 2 ^ 31 by omega), ty_byte s (by omega)]
  exact ⟨pk_in k 32 (by omega), nm_e ⟨pk_in k 32 (by omega), nm_e H⟩⟩
theorem ty_oneRule {post : Int32 → St2 → Prop} {x y : Int32} (k s : Nat) (hk : k < 4) (hs : s < 16) (H : post (a2 k) (f0_made, f0_height, 0, f0_level, f0_left, f0_came, f0_letters, a1, (upd a2 k (nI s)), a3, a4, a5, a6, a7, a8, a9, a10, a11, a12, a13, a14, a15, a16, a17, a18, a19, a20, a21)) (hx : x = nI k := by rfl) (hy : y = nI s := by rfl) : wpX_oneRule post (f0_made, f0_height, f0_known, f0_level, f0_left, f0_came, f0_letters, a1, a2, a3, a4, a5, a6, a7, a8, a9, a10, a11, a12, a13, a14, a15, a16, a17, a18, a19, a20, a21) 0 x y := by
  subst hx
  subst hy
  have e : (4 : Int32) * 0 + nI k = nI k := ty_c0 4 k
  unfold wpX_oneRule
  refine ty_bA 0 (by omega) (br_t rfl (pk_lt k 0 (fun z => absurd z (by omega)) (fun _ => pk_lt 3 k (fun z => absurd z (by omega)) (fun _ => ty_bS s hs (br_t rfl ?_)))))
  rw [e, nI_clamp (show k < 2 ^ 31 by omega), ty_byte s (by omega)]
  exact ⟨pk_in k 8 (by omega), nm_e ⟨pk_in k 8 (by omega), nm_e H⟩⟩
theorem ty_leafRule {post : Int32 → St2 → Prop} {x y : Int32} (k s : Nat) (hk : k < 2) (hs : s < 16) (H : post (a1 k) (f0_made, f0_height, 0, f0_level, f0_left, f0_came, f0_letters, (upd a1 k (nI s)), a2, a3, a4, a5, a6, a7, a8, a9, a10, a11, a12, a13, a14, a15, a16, a17, a18, a19, a20, a21)) (hx : x = nI k := by rfl) (hy : y = nI s := by rfl) : wpX_leafRule post (f0_made, f0_height, f0_known, f0_level, f0_left, f0_came, f0_letters, a1, a2, a3, a4, a5, a6, a7, a8, a9, a10, a11, a12, a13, a14, a15, a16, a17, a18, a19, a20, a21) 0 x y := by
  subst hx
  subst hy
  have e : (2 : Int32) * 0 + nI k = nI k := ty_c0 2 k
  unfold wpX_leafRule
  refine ty_bA 0 (by omega) (br_t rfl (pk_lt k 0 (fun z => absurd z (by omega)) (fun _ => pk_lt 1 k (fun z => absurd z (by omega)) (fun _ => ty_bS s hs (br_t rfl ?_)))))
  rw [e, nI_clamp (show k < 2 ^ 31 by omega), ty_byte s (by omega)]
  exact ⟨pk_in k 4 (by omega), nm_e ⟨pk_in k 4 (by omega), nm_e H⟩⟩
theorem ty_finals {post : Int32 → St2 → Prop} {y : Int32} (s : Nat) (hs : s < 16) (H : post (a4 0) (f0_made, f0_height, f0_known, f0_level, f0_left, f0_came, f0_letters, a1, a2, a3, (upd a4 0 (nI s)), a5, a6, a7, a8, a9, a10, a11, a12, a13, a14, a15, a16, a17, a18, a19, a20, a21)) (hy : y = nI s := by rfl) : wpX_finals post (f0_made, f0_height, f0_known, f0_level, f0_left, f0_came, f0_letters, a1, a2, a3, a4, a5, a6, a7, a8, a9, a10, a11, a12, a13, a14, a15, a16, a17, a18, a19, a20, a21) 0 y := by
  subst hy
  unfold wpX_finals
  refine ty_bA 0 (by omega) (br_t rfl (ty_bS s hs (br_t rfl ?_)))
  rw [sb_cl0, ty_byte s (by omega)]
  exact ⟨pk_in 0 2 (by omega), nm_e ⟨pk_in 0 2 (by omega), nm_e H⟩⟩
theorem ty_init {post : St2 → Prop} {mc ms : Nat} (h1 : 21 ≤ mc) (h2 : 4347 ≤ ms) (H : ∀ b : Nat → Int32, ty_AL b → post (0, 0, 0, 0, 0, 0, 0, (fun _ => 0), (fun _ => 0), (fun _ => 0), (fun _ => 0), (fun _ => 0), (fun _ => 0), (fun _ => 0), (fun _ => 0), (fun _ => 0), (fun _ => 0), (fun _ => 0), (fun _ => 0), (fun _ => 0), (fun _ => 0), b, (fun _ => 0), (fun _ => 0), (fun _ => 0), (fun _ => 0), (fun _ => 0), (fun _ => 0))) : wpX_init post mc ms (0, 0, 0, 0, 0, 0, 0) := by
  refine ⟨by omega, by omega, by omega, by omega, by omega, by omega, by omega, by omega, by omega, by omega, by omega, by omega, by omega, by omega, by omega, by omega, by omega, by omega, by omega, by omega, by omega, by omega, by omega, by omega, by omega, by omega, by omega, by omega, by omega, by omega, by omega, by omega, by omega, by omega, by omega, by omega, by omega, by omega, by omega, by omega, by omega, by omega, nm_e ?_⟩
  refine pk_loop (fun f n s => wX_init_181 post mc ms 21 4347 0 0 0 0 0 0 0 f (nI n) (fun _ => 0) (fun _ => 0) (fun _ => 0) (fun _ => 0) (fun _ => 0) (fun _ => 0) (fun _ => 0) (fun _ => 0) (fun _ => 0) (fun _ => 0) (fun _ => 0) (fun _ => 0) (fun _ => 0) (fun _ => 0) s (fun _ => 0) (fun _ => 0) (fun _ => 0) (fun _ => 0) (fun _ => 0) (fun _ => 0)) (fun n s => 2 ≤ n ∧ ∀ j, j < n → s j = nI (ty_al j)) 13 2 (upd (fun _ => 0) 1 2) (by omega) ⟨by omega, ?_⟩ ?_ ?_
  · intro j hj
    by_cases e : j = 1
    · rw [e, pk_us]; rfl
    · rw [pk_un e, show j = 0 by omega]; rfl
  · intro f s h
    exact pk_lt 12 13 (fun _ => H s h.2) (fun z => absurd z (by omega))
  · intro f n s hn h hw
    obtain ⟨hn2, h⟩ := h
    refine pk_lt 12 n (fun z => absurd z (by omega)) (fun _ => ⟨pk_in (n - 1) 13 (by omega) (ty_p1 (by omega)), nm_r (show s (nI n - 1).toNatClampNeg = nI (ty_al (n - 1)) by rw [ty_p1 (by omega), nI_clamp (by omega)]; exact h _ (by omega)) ?_⟩)
    refine pk_loop (fun g i v => wX_init_198 post mc ms _ (nI n) 21 4347 0 0 0 0 0 0 0 (fun _ => 0) (fun _ => 0) (fun _ => 0) (fun _ => 0) (fun _ => 0) (fun _ => 0) (fun _ => 0) (fun _ => 0) (fun _ => 0) (fun _ => 0) (fun _ => 0) (fun _ => 0) (fun _ => 0) (fun _ => 0) s (fun _ => 0) (fun _ => 0) (fun _ => 0) (fun _ => 0) (fun _ => 0) (fun _ => 0) g v (nI i)) (fun i v => v = nI (ty_al (n - 1) + ty_sm n i)) (n - 1) 1 (nI (ty_al (n - 1))) (by omega) ?_ ?_ ?_
    · show nI _ = nI (ty_al (n - 1) + (0 + 0 * _))
      rw [Nat.zero_mul]
      rfl
    · intro g v hv
      refine pk_le (n - 1) (n - 1) (fun _ => ⟨pk_in n 13 hn, nm_e (nm_r (nI_1 n) (hw _ ⟨by omega, fun j hj => ?_⟩))⟩) (fun z => absurd z (by omega)) (ty_p1 (by omega))
      rw [nI_clamp (show n < 2 ^ 31 by omega)]
      by_cases e : j = n
      · rw [e, pk_us, hv, ← ty_al_rec n hn hn2]
      · rw [pk_un e]; exact h j (by omega)
    · intro g i v hi hv hw2
      have e : nI n - 1 - nI i = nI (n - 1 - i) := by rw [ty_p1 (by omega), pk_sub (by omega)]
      refine pk_le (n - 1) i (fun z => absurd z (by omega)) (fun _ => ⟨pk_in i 13 (by omega), pk_in (n - 1 - i) 13 (by omega) e, nm_e (nm_r (nI_1 i) (hw2 _ ?_))⟩) (ty_p1 (by omega))
      rw [e, nI_clamp (show i < 2 ^ 31 by omega), nI_clamp (show n - 1 - i < 2 ^ 31 by omega), h i (by omega), h (n - 1 - i) (by omega), hv, pk_mul, nI_add]
      simp only [ty_sm]
      rw [Nat.add_assoc]
end
section
/-! counting: rows of places, how they grow -/
variable {f0_made f0_height f0_known f0_level f0_left f0_came f0_letters : Int32} {a1 a2 a3 a4 a5 a6 a7 a8 a9 a10 a11 a12 a13 a14 a15 a16 a17 a18 a19 a20 a21 : Nat → Int32}
def ty_CN (cc : Nat → Nat) (a14 : Nat → Int32) : Prop := ∀ j, j < 2048 → a14 j = nI (cc j)
def ty_row (cc : Nat → Nat) (n : Nat) : Nat := ty_su (fun p => cc (256 * n + p)) 256
/-- row n is finished -/
def ty_RO (lf on tw cc : Nat → Nat) (n : Nat) : Prop :=
  (∀ p, p < 256 → 0 < cc (256 * n + p) → p < 16) ∧ ty_row cc n = ty_al n ∧ (n = 1 → ∀ l, l < 2 → 0 < cc (256 * n + lf l)) ∧
  (2 ≤ n → ∀ p, p < 256 → 0 < cc (256 * (n - 1) + p) → 0 < cc (256 * n + ty_o1 on p 4)) ∧
  (∀ i p q, 1 ≤ i → i + 2 ≤ n → p < 256 → q < 256 → 0 < cc (256 * i + p) → 0 < cc (256 * (n - 1 - i) + q) → 0 < cc (256 * n + ty_o2 tw p q 16))
/-- row n alone grew -/
def ty_GR (n : Nat) (cc dd : Nat → Nat) : Prop :=
  (∀ j, j < 256 * n ∨ 256 * n + 256 ≤ j → dd j = cc j) ∧ (∀ j, cc j ≤ dd j) ∧ (∀ q, q < 256 → 0 < dd (256 * n + q) → q < 16 ∨ 0 < cc (256 * n + q))
theorem ty_GR_0 {n : Nat} {cc : Nat → Nat} : ty_GR n cc cc := ⟨fun _ _ => rfl, fun _ => Nat.le_refl _, fun _ _ h => Or.inr h⟩
theorem ty_GR_up {n s d : Nat} {cc dd : Nat → Nat} (h : ty_GR n cc dd) (hs : s < 16) : ty_GR n cc (ty_up dd (256 * n + s) (dd (256 * n + s) + d)) := by
  refine ⟨fun j hj => ?_, fun j => ?_, fun q hq h0 => ?_⟩
  · rw [ty_un (by omega)]; exact h.1 j hj
  · by_cases e : j = 256 * n + s
    · rw [e, ty_us]; have := h.2.1 (256 * n + s); omega
    · rw [ty_un e]; exact h.2.1 j
  · by_cases e : q = s
    · left; omega
    · rw [ty_un (by omega)] at h0; exact h.2.2 q hq h0
theorem ty_GR_tr {n : Nat} {cc dd ee : Nat → Nat} (h : ty_GR n cc dd) (g : ty_GR n dd ee) : ty_GR n cc ee := by
  refine ⟨fun j hj => by rw [g.1 j hj, h.1 j hj], fun j => Nat.le_trans (h.2.1 j) (g.2.1 j), fun q hq h0 => ?_⟩
  rcases g.2.2 q hq h0 with z | z
  · exact Or.inl z
  · exact h.2.2 q hq z
theorem ty_row_up {cc : Nat → Nat} {n s d : Nat} (hs : s < 256) : ty_row (ty_up cc (256 * n + s) (cc (256 * n + s) + d)) n = ty_row cc n + d := by
  have h := ty_su_up (f := fun p => cc (256 * n + p)) (i := s) (d := d) 256
  rw [if_pos hs] at h
  unfold ty_row
  rw [← h]
  refine ty_su_congr 256 (fun j _ => ?_)
  by_cases e : j = s
  · rw [e, ty_us, ty_us]
  · rw [ty_un e, ty_un (by omega)]
theorem ty_row_ge {cc : Nat → Nat} {n s : Nat} (hs : s < 256) : cc (256 * n + s) ≤ ty_row cc n := ty_su_ge (f := fun p => cc (256 * n + p)) 256 s hs
theorem ty_row_congr {cc dd : Nat → Nat} {n : Nat} (h : ∀ p, p < 256 → dd (256 * n + p) = cc (256 * n + p)) : ty_row dd n = ty_row cc n := ty_su_congr 256 h
theorem ty_CN_up {cc : Nat → Nat} {a14 : Nat → Int32} {k v : Nat} (h : ty_CN cc a14) : ty_CN (ty_up cc k v) (upd a14 k (nI v)) := by
  intro j hj
  by_cases e : j = k
  · rw [e, pk_us, ty_us]
  · rw [pk_un e, ty_un e]; exact h j hj
theorem ty_su_mono (f : Nat → Nat) {k k' : Nat} (h : k ≤ k') : ty_su f k ≤ ty_su f k' := by
  obtain ⟨d, rfl⟩ := Nat.exists_eq_add_of_le h
  rw [ty_su_add]
  omega
theorem ty_RO_congr {lf on tw cc dd : Nat → Nat} {n i : Nat} (hT : ty_tb lf on tw) (hi : i < n) (h : ∀ j, j < 256 * n → dd j = cc j) (H : ty_RO lf on tw cc i) : ty_RO lf on tw dd i := by
  obtain ⟨h1, h2, h3, h4, h5⟩ := H
  refine ⟨fun p hp h0 => ?_, ?_, fun e l hl => ?_, fun e p hp h0 => ?_, fun i' p q k1 k2 hp hq g1 g2 => ?_⟩
  · rw [h _ (by omega)] at h0; exact h1 p hp h0
  · rw [← h2]; exact ty_row_congr (fun p hp => h _ (by omega))
  · have := hT.1 l hl
    rw [h _ (by omega)]; exact h3 e l hl
  · have := ty_o1_lt (on := on) (p := p) 4 hT.2.1
    rw [h _ (by omega)] at h0 ⊢; exact h4 e p hp h0
  · have := ty_o2_lt (tw := tw) (a := p) (b := q) 16 hT.2.2
    rw [h _ (by omega)] at g1 g2 ⊢; exact h5 i' p q k1 k2 hp hq g1 g2
/-- a place of row n grows by d, as the code adds it -/
theorem ty_add16 {cc : Nat → Nat} {a14 : Nat → Int32} {n s d : Nat} (h : ty_CN cc a14) (hn : n < 8) (hs : s < 256) (hb : cc (256 * n + s) + d < 1024) :
    upd a14 (nI (256 * n + s)).toNatClampNeg ((a14 (nI (256 * n + s)).toNatClampNeg + (nI d).toInt16.toInt32).toInt16.toInt32) = upd a14 (256 * n + s) (nI (cc (256 * n + s) + d)) := by
  rw [nI_clamp (by omega), h _ (by omega), ty_short d (by omega), nI_add, ty_short _ hb]
theorem ty_countWithTwo {post : St2 → Prop} {x y w : Int32} {lf on tw cc : Nat → Nat} {fn : Nat} (n i p : Nat) (hA : ty_AU lf on tw fn a1 a2 a3 a4) (hn : n < 8) (hi : 1 ≤ i) (hin : i + 2 ≤ n) (hp : p < 16) (hc : ty_CN cc a14) (hR : ∀ q, q < 256 → 0 < cc (256 * (n - 1 - i) + q) → q < 16) (h0 : 0 < cc (256 * i + p)) (hb : ty_row cc n + cc (256 * i + p) * ty_row cc (n - 1 - i) < 1024)
    (H : ∀ (dd : Nat → Nat) (b : Nat → Int32), ty_CN dd b → ty_GR n cc dd → ty_row dd n = ty_row cc n + cc (256 * i + p) * ty_row cc (n - 1 - i) → (∀ q, q < 256 → 0 < cc (256 * (n - 1 - i) + q) → 0 < dd (256 * n + ty_o2 tw p q 16)) → post (f0_made, f0_height, f0_known, f0_level, f0_left, f0_came, f0_letters, a1, a2, a3, a4, a5, a6, a7, a8, a9, a10, a11, a12, a13, b, a15, a16, a17, a18, a19, a20, a21)) (hx : x = nI n := by rfl) (hy : y = nI i := by rfl) (hw : w = nI p := by rfl) :
    wpX_countWithTwo post (f0_made, f0_height, f0_known, f0_level, f0_left, f0_came, f0_letters, a1, a2, a3, a4, a5, a6, a7, a8, a9, a10, a11, a12, a13, a14, a15, a16, a17, a18, a19, a20, a21) x y w := by
  subst hx
  subst hy
  subst hw
  have hio : (256 : Int32) * nI i + nI p = nI (256 * i + p) := ty_i256 i p
  refine ⟨pk_in (256 * i + p) 2048 (by omega) hio, nm_r (show a14 ((256 : Int32) * nI i + nI p).toNatClampNeg = nI (cc (256 * i + p)) by rw [hio, nI_clamp (by omega)]; exact hc _ (by omega)) ?_⟩
  have hcr : ∀ q, q < 256 → cc (256 * i + p) * ty_su (fun q => cc (256 * (n - 1 - i) + q)) (q + 1) ≤ cc (256 * i + p) * ty_row cc (n - 1 - i) := fun q hq => Nat.mul_le_mul_left _ (ty_su_mono _ (by omega))
  generalize hcv : cc (256 * i + p) = c at *
  refine pk_loop (fun f q s => wX_countWithTwo_17 post (nI n) (nI i) (nI p) (nI c) f0_made f0_height f0_known f0_level f0_left f0_came f0_letters f (nI q) a1 a2 a3 a4 a5 a6 a7 a8 a9 a10 a11 a12 a13 s a15 a16 a17 a18 a19 a20 a21)
    (fun q s => ∃ dd, ty_CN dd s ∧ ty_GR n cc dd ∧ ty_row dd n = ty_row cc n + c * ty_su (fun q => cc (256 * (n - 1 - i) + q)) q ∧ ∀ q', q' < q → 0 < cc (256 * (n - 1 - i) + q') → 0 < dd (256 * n + ty_o2 tw p q' 16)) 256 0 a14 (by omega) ⟨cc, hc, ty_GR_0, by simp only [ty_su]; omega, fun q' hq' => absurd hq' (by omega)⟩ ?_ ?_
  · rintro f s ⟨dd, k1, k2, k3, k4⟩
    exact pk_le 256 256 (fun _ => H dd s k1 k2 k3 k4) (fun z => absurd z (by omega))
  · rintro f q s hq ⟨dd, k1, k2, k3, k4⟩ hw
    have ei : (256 : Int32) * (nI n - 1 - nI i) + nI q = nI (256 * (n - 1 - i) + q) := by rw [ty_p1 (by omega), pk_sub (by omega), ty_i256]
    have hv : dd (256 * (n - 1 - i) + q) = cc (256 * (n - 1 - i) + q) := k2.1 _ (by omega)
    have hs1 : ty_su (fun q => cc (256 * (n - 1 - i) + q)) (q + 1) = ty_su (fun q => cc (256 * (n - 1 - i) + q)) q + cc (256 * (n - 1 - i) + q) := rfl
    have hbd := hcr q hq
    rw [hs1, Nat.mul_add] at hbd
    refine pk_le 256 q (fun z => absurd z (by omega)) (fun _ => ⟨pk_in (256 * (n - 1 - i) + q) 2048 (by omega) ei, nm_r (show nI c * s ((256 : Int32) * (nI n - 1 - nI i) + nI q).toNatClampNeg = nI (c * cc (256 * (n - 1 - i) + q)) by rw [ei, nI_clamp (by omega), k1 _ (by omega), hv, pk_mul]) (pk_le (c * cc (256 * (n - 1 - i) + q)) 0 (fun z => nm_r (nI_1 q) (hw s ⟨dd, k1, k2, ?_, ?_⟩)) (fun z => ?_))⟩)
    · rw [k3, hs1, Nat.mul_add]; omega
    · intro q' hq' g
      by_cases e : q' = q
      · rw [e] at g
        exact absurd (Nat.mul_pos h0 g) (by omega)
      · exact k4 q' (by omega) g
    · have hpos : 0 < cc (256 * (n - 1 - i) + q) := Nat.pos_of_mul_pos_left z
      have hq16 := hR q hq hpos
      have hs16 := ty_o2_lt (tw := tw) (a := p) (b := q) 16 hA.1.2.2
      have hge := ty_row_ge (cc := dd) (n := n) (s := ty_o2 tw p q 16) (by omega)
      refine ty_twoPair hA p q hp hq16 ⟨pk_in (256 * n + ty_o2 tw p q 16) 2048 (by omega) (ty_i256 n _), pk_in (256 * n + ty_o2 tw p q 16) 2048 (by omega) (ty_i256 n _), ?_⟩
      rw [ty_i256, ty_add16 k1 hn (by omega) (by omega)]
      refine nm_e (nm_r (nI_1 q) (hw _ ⟨_, ty_CN_up k1, ty_GR_up k2 hs16, ?_, ?_⟩))
      · rw [ty_row_up (by omega), k3, hs1, Nat.mul_add]; omega
      · intro q' hq' g
        by_cases e : q' = q
        · rw [e, ty_us]; omega
        · have := k4 q' (by omega) g
          by_cases e2 : 256 * n + ty_o2 tw p q' 16 = 256 * n + ty_o2 tw p q 16
          · rw [e2, ty_us]; omega
          · rw [ty_un e2]; exact this
end
section
/-! counting: a size, all sizes -/
variable {f0_made f0_height f0_known f0_level f0_left f0_came f0_letters : Int32} {a1 a2 a3 a4 a5 a6 a7 a8 a9 a10 a11 a12 a13 a14 a15 a16 a17 a18 a19 a20 a21 : Nat → Int32}
theorem ty_su_sm {lf on tw cc : Nat → Nat} {n : Nat} (h : ∀ i, i < n → ty_RO lf on tw cc i) : ∀ m, m ≤ n - 1 → ty_su (fun k => cc k * ty_al (n - 1 - k / 256)) (256 * m) = ty_sm n m := by
  intro m
  induction m with
  | zero => intro _; rfl
  | succ m ih =>
    intro hm
    have e : ty_su (fun p => (fun k => cc k * ty_al (n - 1 - k / 256)) (256 * m + p)) 256 = ty_su (fun p => cc (256 * m + p) * ty_al (n - 1 - m)) 256 := by
      refine ty_su_congr 256 (fun p hp => ?_)
      show cc (256 * m + p) * ty_al (n - 1 - (256 * m + p) / 256) = cc (256 * m + p) * ty_al (n - 1 - m)
      rw [show (256 * m + p) / 256 = m by omega]
    rw [show 256 * (m + 1) = 256 * m + 256 by omega, ty_su_add, ih (by omega), e, ty_su_mul]
    have r : ty_su (fun p => cc (256 * m + p)) 256 = ty_al m := (h m (by omega)).2.1
    rw [r]
    rfl
theorem ty_countSize {post : St2 → Prop} {x : Int32} {lf on tw cc : Nat → Nat} {fn : Nat} (n : Nat) (hA : ty_AU lf on tw fn a1 a2 a3 a4) (hn : n < 8) (hn2 : 2 ≤ n) (hc : ty_CN cc a14) (hR : ∀ i, i < n → ty_RO lf on tw cc i) (hz : ∀ j, 256 * n ≤ j → cc j = 0)
    (H : ∀ (dd : Nat → Nat) (b : Nat → Int32), ty_CN dd b → (∀ i, i < n + 1 → ty_RO lf on tw dd i) → (∀ j, 256 * (n + 1) ≤ j → dd j = 0) → post (f0_made, f0_height, f0_known, f0_level, f0_left, f0_came, f0_letters, a1, a2, a3, a4, a5, a6, a7, a8, a9, a10, a11, a12, a13, b, a15, a16, a17, a18, a19, a20, a21)) (hx : x = nI n := by rfl) :
    wpX_countSize post (f0_made, f0_height, f0_known, f0_level, f0_left, f0_came, f0_letters, a1, a2, a3, a4, a5, a6, a7, a8, a9, a10, a11, a12, a13, a14, a15, a16, a17, a18, a19, a20, a21) x := by
  subst hx
  have hrow0 : ty_row cc n = 0 := by
    unfold ty_row
    rw [ty_su_congr (g := fun _ => 0) 256 (fun j _ => hz _ (by omega)), ty_su_0]
  have hal := ty_al_rec n (by omega) hn2
  have hal7 := ty_al_7 n hn
  refine pk_loop (fun f p s => wX_countSize_2 post (nI n) f0_made f0_height f0_known f0_level f0_left f0_came f0_letters f (nI p) a1 a2 a3 a4 a5 a6 a7 a8 a9 a10 a11 a12 a13 s a15 a16 a17 a18 a19 a20 a21)
    (fun p s => ∃ dd, ty_CN dd s ∧ ty_GR n cc dd ∧ ty_row dd n = ty_su (fun p => cc (256 * (n - 1) + p)) p ∧ ∀ p', p' < p → 0 < cc (256 * (n - 1) + p') → 0 < dd (256 * n + ty_o1 on p' 4)) 256 0 a14 (by omega) ⟨cc, hc, ty_GR_0, hrow0, fun q' hq' => absurd hq' (by omega)⟩ ?_ ?_
  · rintro f s ⟨dd, k1, k2, k3, k4⟩
    refine pk_le 256 256 (fun _ => ?_) (fun z => absurd z (by omega))
    have k3 : ty_row dd n = ty_row cc (n - 1) := k3
    rw [(hR (n - 1) (by omega)).2.1] at k3
    have hsm := ty_su_sm hR
    refine pk_loop (fun f k s => wX_countSize_64 post (nI n) f (nI k) f0_made f0_height f0_known f0_level f0_left f0_came f0_letters a1 a2 a3 a4 a5 a6 a7 a8 a9 a10 a11 a12 a13 s a15 a16 a17 a18 a19 a20 a21)
      (fun k s => 256 ≤ k ∧ ∃ ee, ty_CN ee s ∧ ty_GR n dd ee ∧ ty_row ee n = ty_al (n - 1) + ty_su (fun k => cc k * ty_al (n - 1 - k / 256)) k ∧ ∀ k' q, 256 ≤ k' → k' < k → q < 256 → 0 < cc k' → 0 < cc (256 * (n - 1 - k' / 256) + q) → 0 < ee (256 * n + ty_o2 tw (k' % 256) q 16)) (256 * (n - 1)) 256 s (by omega) ⟨by omega, dd, k1, ty_GR_0, ?_, fun k' q g1 g2 => absurd g2 (by omega)⟩ ?_ ?_
    · have h1 := hsm 1 (by omega)
      rw [show 256 * 1 = 256 by omega] at h1
      rw [k3, h1]
      show _ = _ + (0 + 0 * _)
      rw [Nat.zero_mul]
      rfl
    · rintro f s ⟨_, ee, g1, g2, g3, g4⟩
      refine pk_le (256 * (n - 1)) (256 * (n - 1)) (fun _ => ?_) (fun z => absurd z (by omega)) (by rw [ty_p1 (by omega)]; exact pk_mul 256 (n - 1))
      have gr := ty_GR_tr k2 g2
      refine H ee s g1 (fun i hi => ?_) (fun j hj => by rw [gr.1 j (by omega)]; exact hz j (by omega))
      by_cases e : i = n
      · rw [e]
        refine ⟨fun p hp h0 => ?_, ?_, fun z => absurd z (by omega), fun _ p hp h0 => ?_, fun i' p q c1 c2 hp hq d1 d2 => ?_⟩
        · rcases gr.2.2 p hp h0 with z | z
          · exact z
          · rw [hz _ (by omega)] at z; exact absurd z (by omega)
        · rw [g3, hsm (n - 1) (by omega), ← hal]
        · rw [gr.1 _ (by omega)] at h0
          exact Nat.lt_of_lt_of_le (k4 p hp h0) (g2.2.1 _)
        · rw [gr.1 _ (by omega)] at d1 d2
          have d3 := g4 (256 * i' + p) q (by omega) (by omega) hq d1 (by rw [show (256 * i' + p) / 256 = i' by omega]; exact d2)
          rw [show (256 * i' + p) % 256 = p by omega] at d3
          exact d3
      · exact ty_RO_congr hA.1 (show i < n by omega) (fun j hj => gr.1 j (Or.inl hj)) (hR i (by omega))
    · rintro f k s hk ⟨hk1, ee, g1, g2, g3, g4⟩ hw
      have gr := ty_GR_tr k2 g2
      have hek : ee k = cc k := gr.1 k (by omega)
      have hs1 : ty_su (fun k => cc k * ty_al (n - 1 - k / 256)) (k + 1) = ty_su (fun k => cc k * ty_al (n - 1 - k / 256)) k + cc k * ty_al (n - 1 - k / 256) := rfl
      have hmono := ty_su_mono (fun k => cc k * ty_al (n - 1 - k / 256)) (show k + 1 ≤ 256 * (n - 1) by omega)
      rw [hsm (n - 1) (by omega), hs1] at hmono
      have hkd : 256 * (k / 256) + k % 256 = k := by omega
      refine pk_le (256 * (n - 1)) k (fun z => absurd z (by omega)) (fun _ => ⟨pk_in k 2048 (by omega), ?_⟩) (by rw [ty_p1 (by omega)]; exact pk_mul 256 (n - 1))
      rw [nI_clamp (show k < 2 ^ 31 by omega), g1 k (by omega), hek]
      have hcb : cc k ≤ 382 := by
        have h1 := ty_row_ge (cc := cc) (n := k / 256) (s := k % 256) (by omega)
        rw [hkd, (hR (k / 256) (by omega)).2.1] at h1
        have h2 := ty_al_7 (k / 256) (by omega)
        omega
      refine pk_le (cc k) 0 (fun z => nm_r (nI_1 k) (hw s ⟨by omega, ee, g1, g2, ?_, ?_⟩)) (fun z => ⟨by decide, by decide, ?_⟩)
      · rw [g3, hs1, show cc k = 0 by omega, Nat.zero_mul]; rfl
      · intro k' q c1 c2 hq d1 d2
        by_cases e : k' = k
        · rw [e] at d1; exact absurd d1 (by omega)
        · exact g4 k' q c1 (by omega) hq d1 d2
      · have hrr : ty_row ee (n - 1 - k / 256) = ty_al (n - 1 - k / 256) := by
          rw [ty_row_congr (cc := cc) (fun p hp => gr.1 _ (by omega))]
          exact (hR (n - 1 - k / 256) (by omega)).2.1
        have hk16 : k % 256 < 16 := (hR (k / 256) (by omega)).1 (k % 256) (by omega) (by rw [hkd]; exact z)
        refine ty_countWithTwo (cc := ee) n (k / 256) (k % 256) hA hn (by omega) (by omega) hk16 g1 (fun q hq h0 => ?_) ?_ ?_ (fun ff b f1 f2 f3 f4 => nm_r (nI_1 k) (hw b ⟨by omega, ff, f1, ty_GR_tr g2 f2, ?_, ?_⟩)) rfl (pk_div (d := 256) (by omega) (by omega) (by omega)) (pk_rem (d := 256) (by omega) (by omega) (by omega))
        · rw [gr.1 _ (by omega)] at h0
          exact (hR (n - 1 - k / 256) (by omega)).1 q hq h0
        · rw [hkd, hek]; exact z
        · rw [hkd, hek, hrr, g3]; omega
        · rw [f3, hkd, hek, hrr, g3, hs1]; omega
        · intro k' q c1 c2 hq d1 d2
          by_cases e : k' = k
          · rw [e] at d2 ⊢
            exact f4 q hq (by rw [gr.1 _ (by omega)]; exact d2)
          · exact Nat.lt_of_lt_of_le (g4 k' q c1 (by omega) hq d1 d2) (f2.2.1 _)
  · rintro f p s hp ⟨dd, k1, k2, k3, k4⟩ hw
    have ei : (256 : Int32) * (nI n - 1) + nI p = nI (256 * (n - 1) + p) := by rw [ty_p1 (by omega), ty_i256]
    have hv : dd (256 * (n - 1) + p) = cc (256 * (n - 1) + p) := k2.1 _ (by omega)
    have hs1 : ty_su (fun p => cc (256 * (n - 1) + p)) (p + 1) = ty_su (fun p => cc (256 * (n - 1) + p)) p + cc (256 * (n - 1) + p) := rfl
    have hmono : ty_su (fun p => cc (256 * (n - 1) + p)) (p + 1) ≤ ty_row cc (n - 1) := ty_su_mono _ (by omega)
    rw [hs1, (hR (n - 1) (by omega)).2.1] at hmono
    refine pk_le 256 p (fun z => absurd z (by omega)) (fun _ => ⟨pk_in (256 * (n - 1) + p) 2048 (by omega) ei, nm_r (show s ((256 : Int32) * (nI n - 1) + nI p).toNatClampNeg = nI (cc (256 * (n - 1) + p)) by rw [ei, nI_clamp (by omega), k1 _ (by omega), hv]) (pk_le (cc (256 * (n - 1) + p)) 0 (fun z => nm_r (nI_1 p) (hw s ⟨dd, k1, k2, ?_, ?_⟩)) (fun z => ?_))⟩)
    · rw [k3, hs1]; omega
    · intro p' hp' g
      by_cases e : p' = p
      · rw [e] at g; exact absurd g (by omega)
      · exact k4 p' (by omega) g
    · have hp16 := (hR (n - 1) (by omega)).1 p hp z
      have hs16 := ty_o1_lt (on := on) (p := p) 4 hA.1.2.1
      have hge := ty_row_ge (cc := dd) (n := n) (s := ty_o1 on p 4) (by omega)
      refine ty_onePair hA p hp16 ⟨pk_in (256 * n + ty_o1 on p 4) 2048 (by omega) (ty_i256 n _), pk_in (256 * n + ty_o1 on p 4) 2048 (by omega) (ty_i256 n _), ?_⟩
      rw [ty_i256, ty_add16 k1 hn (by omega) (by omega)]
      refine nm_e (nm_r (nI_1 p) (hw _ ⟨_, ty_CN_up k1, ty_GR_up k2 hs16, ?_, ?_⟩))
      · rw [ty_row_up (by omega), k3, hs1]
      · intro p' hp' g
        by_cases e : p' = p
        · rw [e, ty_us]; omega
        · have := k4 p' (by omega) g
          by_cases e2 : 256 * n + ty_o1 on p' 4 = 256 * n + ty_o1 on p 4
          · rw [e2, ty_us]; omega
          · rw [ty_un e2]; exact this
theorem ty_row_0 {n : Nat} : ty_row (fun _ => 0) n = 0 := ty_su_0 256
theorem ty_find {post : St2 → Prop} {lf on tw : Nat → Nat} {fn : Nat} (hA : ty_AU lf on tw fn a1 a2 a3 a4)
    (H : ∀ (cc : Nat → Nat) (b : Nat → Int32), ty_CN cc b → (∀ i, i < 8 → ty_RO lf on tw cc i) → post (f0_made, f0_height, 1, f0_level, f0_left, f0_came, f0_letters, a1, a2, a3, a4, a5, a6, a7, a8, a9, a10, a11, a12, a13, b, a15, a16, a17, a18, a19, a20, a21)) :
    wpX_find post (f0_made, f0_height, 0, f0_level, f0_left, f0_came, f0_letters, a1, a2, a3, a4, a5, a6, a7, a8, a9, a10, a11, a12, a13, a14, a15, a16, a17, a18, a19, a20, a21) := by
  refine br_t rfl ?_
  refine pk_loop (fun f k s => wX_find_15 post f0_made f0_height 1 f0_level f0_left f0_came f0_letters f (nI k) a1 a2 a3 a4 a5 a6 a7 a8 a9 a10 a11 a12 a13 s a15 a16 a17 a18 a19 a20 a21) (fun k s => ∀ j, j < k → s j = nI 0) 2048 0 a14 (by omega) (fun j hj => absurd hj (by omega)) ?_ ?_
  · intro f s hs
    refine pk_le 2048 2048 (fun _ => ?_) (fun z => absurd z (by omega))
    refine pk_loop (fun f k s => wX_find_37 post f0_made f0_height 1 f0_level f0_left f0_came f0_letters f (nI k) a1 a2 a3 a4 a5 a6 a7 a8 a9 a10 a11 a12 a13 s a15 a16 a17 a18 a19 a20 a21) (fun k s => ∃ cc, ty_CN cc s ∧ ty_GR 1 (fun _ => 0) cc ∧ ty_row cc 1 = k ∧ ∀ l, l < k → 0 < cc (256 * 1 + lf l)) 2 0 s (by omega) ⟨fun _ => 0, hs, ty_GR_0, ty_row_0, fun l hl => absurd hl (by omega)⟩ ?_ ?_
    · rintro f s ⟨cc, c1, c2, c3, c4⟩
      refine pk_le 2 2 (fun _ => ?_) (fun z => absurd z (by omega))
      refine pk_loop (fun f n s => wX_find_71 post f (nI n) f0_made f0_height 1 f0_level f0_left f0_came f0_letters a1 a2 a3 a4 a5 a6 a7 a8 a9 a10 a11 a12 a13 s a15 a16 a17 a18 a19 a20 a21) (fun n s => 2 ≤ n ∧ ∃ cc, ty_CN cc s ∧ (∀ i, i < n → ty_RO lf on tw cc i) ∧ ∀ j, 256 * n ≤ j → cc j = 0) 8 2 s (by omega) ⟨by omega, cc, c1, ?_, ?_⟩ ?_ ?_
      · intro i hi
        by_cases e : i = 1
        · rw [e]
          refine ⟨fun p hp h0 => ?_, c3, fun _ => c4, fun z => absurd z (by omega), fun i' p q k1 k2 => absurd k2 (by omega)⟩
          rcases c2.2.2 p hp h0 with z | z
          · exact z
          · exact absurd z (Nat.lt_irrefl 0)
        · rw [show i = 0 by omega]
          refine ⟨fun p hp h0 => ?_, ?_, fun z => absurd z (by omega), fun z => absurd z (by omega), fun i' p q k1 k2 => absurd k2 (by omega)⟩
          · rw [c2.1 _ (by omega)] at h0; exact absurd h0 (Nat.lt_irrefl 0)
          · rw [ty_row_congr (cc := fun _ => 0) (fun p hp => c2.1 _ (by omega)), ty_row_0]; rfl
      · intro j hj
        exact c2.1 j (by omega)
      · rintro f s ⟨_, cc, d1, d2, d3⟩
        exact pk_lt 7 8 (fun _ => H cc s d1 d2) (fun z => absurd z (by omega))
      · rintro f n s hn ⟨hn2, cc, d1, d2, d3⟩ hw
        exact pk_lt 7 n (fun z => absurd z (by omega)) (fun _ => ty_countSize n hA hn hn2 d1 d2 d3 (fun dd b e1 e2 e3 => nm_r (nI_1 n) (hw b ⟨by omega, dd, e1, e2, e3⟩)))
    · rintro f l s hl ⟨cc, c1, c2, c3, c4⟩ hw
      have hlf := hA.1.1 l hl
      have hge := ty_row_ge (cc := cc) (n := 1) (s := lf l) (by omega)
      refine pk_le 2 l (fun z => absurd z (by omega)) (fun _ => ty_leafPair hA l hl ⟨pk_in (256 * 1 + lf l) 2048 (by omega) (nI_add 256 (lf l)), pk_in (256 * 1 + lf l) 2048 (by omega) (nI_add 256 (lf l)), nm_r (e' := upd s (256 * 1 + lf l) (nI (cc (256 * 1 + lf l) + 1))) ?_ (nm_r (nI_1 l) (hw _ ⟨_, ty_CN_up c1, ty_GR_up c2 hlf, ?_, ?_⟩))⟩)
      · rw [show (256 : Int32) + nI (lf l) = nI (256 * 1 + lf l) from nI_add 256 (lf l), nI_clamp (by omega), c1 _ (by omega), nI_1, ty_short _ (by omega)]
      · rw [ty_row_up (by omega), c3]
      · intro l' hl'
        by_cases e : 256 * 1 + lf l' = 256 * 1 + lf l
        · rw [e, ty_us]; omega
        · rw [ty_un e]
          by_cases e2 : l' = l
          · rw [e2] at e; exact absurd rfl e
          · exact c4 l' (by omega)
  · intro f k s hk hs hw
    refine pk_le 2048 k (fun z => absurd z (by omega)) (fun _ => ⟨pk_in k 2048 hk, nm_e (nm_r (nI_1 k) (hw _ (fun j hj => ?_)))⟩)
    rw [nI_clamp (show k < 2 ^ 31 by omega)]
    by_cases e : j = k
    · rw [e, pk_us]; rfl
    · rw [pk_un e]; exact hs j (by omega)
end
section
/-! weights: what the loops of finding sum up, and the rows that they lay -/
variable {f0_made f0_height f0_known f0_level f0_left f0_came f0_letters : Int32} {a1 a2 a3 a4 a5 a6 a7 a8 a9 a10 a11 a12 a13 a14 a15 a16 a17 a18 a19 a20 a21 : Nat → Int32}
/-- what counting left: cc in a14 -/
def ty_FD (lf on tw cc : Nat → Nat) (a14 : Nat → Int32) : Prop := ty_CN cc a14 ∧ ∀ i, i < 8 → ty_RO lf on tw cc i
/-- level l has weight c wherever a tree of size n may be -/
def ty_WG (cc : Nat → Nat) (n l c : Nat) (a16 : Nat → Int32) : Prop := ∀ p, p < 256 → 0 < cc (256 * n + p) → a16 (256 * l + p) = nI c
theorem ty_cc_le {lf on tw cc : Nat → Nat} {a14 : Nat → Int32} (h : ty_FD lf on tw cc a14) {n p : Nat} (hn : n < 8) (hp : p < 256) : cc (256 * n + p) ≤ 382 := by
  have h1 := ty_row_ge (cc := cc) (n := n) (s := p) hp
  rw [(h.2 n hn).2.1] at h1
  have := ty_al_7 n hn
  omega
theorem ty_isOf {post : Int32 → Prop} {y : Int32} (H : post 1) : wpX_isOf post (f0_made, f0_height, f0_known, f0_level, f0_left, f0_came, f0_letters, a1, a2, a3, a4, a5, a6, a7, a8, a9, a10, a11, a12, a13, a14, a15, a16, a17, a18, a19, a20, a21) 6 y :=
  br_c (fun _ => br_c (fun _ => br_t (by decide) (br_t (by decide) (br_f (by decide) (br_t rfl H)))) (fun _ => br_t (by decide) (br_t (by decide) (br_f (by decide) (br_t rfl H))))) (fun _ => br_c (fun _ => br_t (by decide) (br_t (by decide) (br_f (by decide) (br_t rfl H)))) (fun _ => br_t (by decide) (br_t (by decide) (br_f (by decide) (br_t rfl H)))))
theorem ty_countOf {post : Int32 → Prop} {lf on tw cc : Nat → Nat} {n : Nat} (hD : ty_FD lf on tw cc a14) (hn : n < 8) (H : post (nI (ty_al n))) : wpX_countOf post (f0_made, f0_height, f0_known, f0_level, f0_left, f0_came, f0_letters, a1, a2, a3, a4, a5, a6, a7, a8, a9, a10, a11, a12, a13, a14, a15, a16, a17, a18, a19, a20, a21) 6 (nI n) := by
  refine pk_loop (fun f p s => wX_countOf_5 post 6 (nI n) f0_made f0_height f0_known f0_level f0_left f0_came f0_letters a1 a2 a3 a4 a5 a6 a7 a8 a9 a10 a11 a12 a13 a14 a15 a16 a17 a18 a19 a20 a21 f s (nI p)) (fun p s => s = nI (ty_su (fun p => cc (256 * n + p)) p)) 256 0 0 (by omega) rfl ?_ ?_
  · intro f s h
    refine pk_le 256 256 (fun _ => ?_) (fun z => absurd z (by omega))
    have r : ty_su (fun p => cc (256 * n + p)) 256 = ty_al n := (hD.2 n hn).2.1
    rw [h, r]
    exact H
  · intro f p s hp h hw
    refine pk_le 256 p (fun z => absurd z (by omega)) (fun _ => ty_isOf (br_f (by decide) ⟨pk_in (256 * n + p) 2048 (by omega) (ty_i256 n p), nm_e (nm_r (nI_1 p) (hw _ ?_))⟩))
    rw [pk_cl (256 * n + p) (ty_i256 n p), hD.1 _ (by omega), h, nI_add]
    rfl
theorem ty_withOne {post : Int32 → Prop} {lf on tw cc : Nat → Nat} {fn n l c : Nat} (hA : ty_AU lf on tw fn a1 a2 a3 a4) (hD : ty_FD lf on tw cc a14) (hn2 : 2 ≤ n) (hn : n < 8) (hl : l < 8) (hW : ty_WG cc n l c a16) (H : post (nI (ty_al (n - 1) * c))) : wpX_withOne post (f0_made, f0_height, f0_known, (nI l), f0_left, f0_came, f0_letters, a1, a2, a3, a4, a5, a6, a7, a8, a9, a10, a11, a12, a13, a14, a15, a16, a17, a18, a19, a20, a21) (nI n) := by
  refine pk_loop (fun f p s => wX_withOne_4 post (nI n) f0_made f0_height f0_known (nI l) f0_left f0_came f0_letters a1 a2 a3 a4 a5 a6 a7 a8 a9 a10 a11 a12 a13 a14 a15 a16 a17 a18 a19 a20 a21 f s (nI p)) (fun p s => s = nI (ty_su (fun p => cc (256 * (n - 1) + p)) p * c)) 256 0 0 (by omega) (by show nI 0 = nI (0 * c); rw [Nat.zero_mul]) ?_ ?_
  · intro f s h
    refine pk_le 256 256 (fun _ => ?_) (fun z => absurd z (by omega))
    have r : ty_su (fun p => cc (256 * (n - 1) + p)) 256 = ty_al (n - 1) := (hD.2 (n - 1) (by omega)).2.1
    rw [h, r]
    exact H
  · intro f p s hp h hw
    have ei : (256 : Int32) * (nI n - 1) + nI p = nI (256 * (n - 1) + p) := by rw [ty_p1 (by omega), ty_i256]
    have hb := ty_cc_le hD (n := n - 1) (p := p) (by omega) hp
    have hs1 : ty_su (fun p => cc (256 * (n - 1) + p)) (p + 1) = ty_su (fun p => cc (256 * (n - 1) + p)) p + cc (256 * (n - 1) + p) := rfl
    refine pk_le 256 p (fun z => absurd z (by omega)) (fun _ => ⟨pk_in (256 * (n - 1) + p) 2048 (by omega) ei, nm_r (show a14 ((256 : Int32) * (nI n - 1) + nI p).toNatClampNeg = nI (cc (256 * (n - 1) + p)) by rw [ei, nI_clamp (by omega), hD.1 _ (by omega)]) (pk_le (cc (256 * (n - 1) + p)) 0 (fun z => nm_r (nI_1 p) (hw s ?_)) (fun z => ?_))⟩)
    · rw [h, hs1, show cc (256 * (n - 1) + p) = 0 by omega, Nat.add_zero]
    · have hp16 := (hD.2 (n - 1) (by omega)).1 p hp z
      have hs16 := ty_o1_lt (on := on) (p := p) 4 hA.1.2.1
      have hcl := (hD.2 n hn).2.2.2.1 hn2 p hp z
      refine ty_onePair hA p hp16 ⟨pk_in (256 * l + ty_o1 on p 4) 2048 (by omega) (ty_i256 l _), nm_e (nm_r (nI_1 p) (hw _ ?_))⟩
      rw [pk_cl (256 * l + ty_o1 on p 4) (ty_i256 l _), hW _ (by omega) hcl, h, hs1, pk_mul, nI_add, Nat.add_mul]
theorem ty_besides {post : Int32 → Prop} {x y : Int32} {lf on tw cc : Nat → Nat} {fn n l c : Nat} (i p : Nat) (hA : ty_AU lf on tw fn a1 a2 a3 a4) (hD : ty_FD lf on tw cc a14) (hi : 1 ≤ i) (hin : i + 2 ≤ n) (hn : n < 8) (hl : l < 8) (hW : ty_WG cc n l c a16) (hp : p < 256) (hz : 0 < cc (256 * i + p)) (H : post (nI (ty_al (n - 1 - i) * c))) (hx : x = nI p := by rfl) (hy : y = nI (n - 1 - i) := by rfl) : wpX_besides post (f0_made, f0_height, f0_known, (nI l), f0_left, f0_came, f0_letters, a1, a2, a3, a4, a5, a6, a7, a8, a9, a10, a11, a12, a13, a14, a15, a16, a17, a18, a19, a20, a21) x y := by
  subst hx
  subst hy
  have hp16 := (hD.2 i (by omega)).1 p hp hz
  refine pk_loop (fun f q s => wX_besides_5 post (nI p) (nI (n - 1 - i)) f0_made f0_height f0_known (nI l) f0_left f0_came f0_letters a1 a2 a3 a4 a5 a6 a7 a8 a9 a10 a11 a12 a13 a14 a15 a16 a17 a18 a19 a20 a21 f s (nI q)) (fun q s => s = nI (ty_su (fun q => cc (256 * (n - 1 - i) + q)) q * c)) 256 0 0 (by omega) (by show nI 0 = nI (0 * c); rw [Nat.zero_mul]) ?_ ?_
  · intro f s h
    refine pk_le 256 256 (fun _ => ?_) (fun z => absurd z (by omega))
    have r : ty_su (fun p => cc (256 * (n - 1 - i) + p)) 256 = ty_al (n - 1 - i) := (hD.2 (n - 1 - i) (by omega)).2.1
    rw [h, r]
    exact H
  · intro f q s hq h hw
    have hb := ty_cc_le hD (n := n - 1 - i) (p := q) (by omega) hq
    have hs1 : ty_su (fun q => cc (256 * (n - 1 - i) + q)) (q + 1) = ty_su (fun q => cc (256 * (n - 1 - i) + q)) q + cc (256 * (n - 1 - i) + q) := rfl
    refine pk_le 256 q (fun z => absurd z (by omega)) (fun _ => ⟨pk_in (256 * (n - 1 - i) + q) 2048 (by omega) (ty_i256 _ _), nm_r (show a14 ((256 : Int32) * nI (n - 1 - i) + nI q).toNatClampNeg = nI (cc (256 * (n - 1 - i) + q)) by rw [ty_i256, nI_clamp (by omega), hD.1 _ (by omega)]) (pk_le (cc (256 * (n - 1 - i) + q)) 0 (fun z => nm_r (nI_1 q) (hw s ?_)) (fun z => ?_))⟩)
    · rw [h, hs1, show cc (256 * (n - 1 - i) + q) = 0 by omega, Nat.add_zero]
    · have hq16 := (hD.2 (n - 1 - i) (by omega)).1 q hq z
      have hs16 := ty_o2_lt (tw := tw) (a := p) (b := q) 16 hA.1.2.2
      have hcl := (hD.2 n hn).2.2.2.2 i p q hi hin hp hq hz z
      refine ty_twoPair hA p q hp16 hq16 ⟨pk_in (256 * l + ty_o2 tw p q 16) 2048 (by omega) (ty_i256 l _), nm_e (nm_r (nI_1 q) (hw _ ?_))⟩
      rw [pk_cl (256 * l + ty_o2 tw p q 16) (ty_i256 l _), hW _ (by omega) hcl, h, hs1, pk_mul, nI_add, Nat.add_mul]
theorem ty_withTwo {post : Int32 → Prop} {y : Int32} {lf on tw cc : Nat → Nat} {fn n l c : Nat} (i : Nat) (hA : ty_AU lf on tw fn a1 a2 a3 a4) (hD : ty_FD lf on tw cc a14) (hi : 1 ≤ i) (hin : i + 2 ≤ n) (hn : n < 8) (hl : l < 8) (hW : ty_WG cc n l c a16) (H : post (nI (ty_al i * (ty_al (n - 1 - i) * c)))) (hy : y = nI i := by rfl) : wpX_withTwo post (f0_made, f0_height, f0_known, (nI l), f0_left, f0_came, f0_letters, a1, a2, a3, a4, a5, a6, a7, a8, a9, a10, a11, a12, a13, a14, a15, a16, a17, a18, a19, a20, a21) (nI n) y := by
  subst hy
  refine pk_loop (fun f p s => wX_withTwo_5 post (nI n) (nI i) f0_made f0_height f0_known (nI l) f0_left f0_came f0_letters a1 a2 a3 a4 a5 a6 a7 a8 a9 a10 a11 a12 a13 a14 a15 a16 a17 a18 a19 a20 a21 f s (nI p)) (fun p s => s = nI (ty_su (fun p => cc (256 * i + p)) p * (ty_al (n - 1 - i) * c))) 256 0 0 (by omega) (by show nI 0 = nI (0 * _); rw [Nat.zero_mul]) ?_ ?_
  · intro f s h
    refine pk_le 256 256 (fun _ => ?_) (fun z => absurd z (by omega))
    have r : ty_su (fun p => cc (256 * i + p)) 256 = ty_al i := (hD.2 i (by omega)).2.1
    rw [h, r]
    exact H
  · intro f p s hp h hw
    have hb := ty_cc_le hD (n := i) (p := p) (by omega) hp
    have hs1 : ty_su (fun p => cc (256 * i + p)) (p + 1) = ty_su (fun p => cc (256 * i + p)) p + cc (256 * i + p) := rfl
    refine pk_le 256 p (fun z => absurd z (by omega)) (fun _ => ⟨pk_in (256 * i + p) 2048 (by omega) (ty_i256 _ _), nm_r (show a14 ((256 : Int32) * nI i + nI p).toNatClampNeg = nI (cc (256 * i + p)) by rw [ty_i256, nI_clamp (by omega), hD.1 _ (by omega)]) (pk_le (cc (256 * i + p)) 0 (fun z => nm_r (nI_1 p) (hw s ?_)) (fun z => ?_))⟩)
    · rw [h, hs1, show cc (256 * i + p) = 0 by omega, Nat.add_zero]
    · refine ty_besides i p hA hD hi hin hn hl hW hp z (nm_e (nm_r (nI_1 p) (hw _ ?_))) rfl (by rw [ty_p1 (by omega), pk_sub (by omega)])
      rw [h, hs1, pk_mul, nI_add, Nat.add_mul]
theorem ty_start {post : St2 → Prop} {y : Int32} (l m : Nat) (hl : l < 8) (hm : m < 128) (H : post (f0_made, f0_height, f0_known, (nI l), f0_left, f0_came, f0_letters, a1, a2, a3, a4, a5, a6, a7, a8, a9, a10, a11, a12, a13, a14, a15, a16, (upd a17 l (nI m)), (upd a18 l (nI 0)), a19, a20, a21)) (hx : f0_level + 1 = nI l) (hy : y = nI m := by rfl) : wpX_start post (f0_made, f0_height, f0_known, f0_level, f0_left, f0_came, f0_letters, a1, a2, a3, a4, a5, a6, a7, a8, a9, a10, a11, a12, a13, a14, a15, a16, a17, a18, a19, a20, a21) y := by
  subst hy
  refine nm_r hx ⟨pk_in l 8 hl, nm_r (show upd a17 (nI l).toNatClampNeg (nI m).toInt8.toInt32 = upd a17 l (nI m) by rw [nI_clamp (by omega), ty_byte m hm]) ⟨pk_in l 8 hl, nm_r (show upd a18 (nI l).toNatClampNeg 0 = upd a18 l (nI 0) by rw [nI_clamp (by omega)]; rfl) H⟩⟩
theorem ty_spell {post : St2 → Prop} {y : Int32} (s m : Nat) (hs : s < 12) (hm : m < 128) (H : post (f0_made, f0_height, f0_known, f0_level, f0_left, f0_came, (nI (s + 1)), a1, a2, a3, a4, a5, a6, a7, a8, a9, a10, a11, a12, a13, a14, a15, a16, a17, a18, a19, a20, (upd a21 s (nI m)))) (hy : y = nI m := by rfl) : wpX_spell post (f0_made, f0_height, f0_known, f0_level, f0_left, f0_came, (nI s), a1, a2, a3, a4, a5, a6, a7, a8, a9, a10, a11, a12, a13, a14, a15, a16, a17, a18, a19, a20, a21) y := by
  subst hy
  exact ⟨pk_in s 12 hs, nm_r (show upd a21 (nI s).toNatClampNeg (nI m).toInt8.toInt32 = upd a21 s (nI m) by rw [nI_clamp (by omega), ty_byte m hm]) (nm_r (nI_1 s) H)⟩
theorem ty_i256' (l p : Nat) : (256 : Int32) * (nI l + 1) + nI p = nI (256 * (l + 1) + p) := by rw [nI_1, ty_i256]
/-- the row of level l + 1, laid up to p -/
def ty_LW (cc : Nat → Nat) (n l c p : Nat) (a16 b16 : Nat → Int32) : Prop := (∀ j, j < 256 * (l + 1) → b16 j = a16 j) ∧ ∀ q, q < p → 0 < cc (256 * n + q) → b16 (256 * (l + 1) + q) = nI c
theorem ty_LW_up {cc : Nat → Nat} {n l c p : Nat} {a16 b16 : Nat → Int32} {v : Int32} (h : ty_LW cc n l c p a16 b16) (hv : 0 < cc (256 * n + p) → v = nI c) : ty_LW cc n l c (p + 1) a16 (upd b16 (256 * (l + 1) + p) v) := by
  refine ⟨fun j hj => ?_, fun q hq h0 => ?_⟩
  · rw [pk_un (by omega)]; exact h.1 j hj
  · by_cases e : q = p
    · rw [e, pk_us]; rw [e] at h0; exact hv h0
    · rw [pk_un (by omega)]; exact h.2 q (by omega) h0
theorem ty_goToOnly {post : St2 → Prop} {y : Int32} {lf on tw cc : Nat → Nat} {fn n l c : Nat} (hA : ty_AU lf on tw fn a1 a2 a3 a4) (hD : ty_FD lf on tw cc a14) (hn2 : 2 ≤ n) (hn : n < 8) (hl : l < 7) (hW : ty_WG cc n l c a16)
    (H : ∀ b : Nat → Int32, (∀ j, j < 256 * (l + 1) → b j = a16 j) → ty_WG cc (n - 1) (l + 1) c b → post (f0_made, f0_height, f0_known, (nI (l + 1)), f0_left, f0_came, f0_letters, a1, a2, a3, a4, a5, a6, a7, a8, a9, a10, a11, a12, a13, a14, a15, b, (upd a17 (l + 1) (nI (n - 1))), (upd a18 (l + 1) (nI 0)), a19, a20, a21)) (hy : y = nI (n - 1) := by rfl) : wpX_goToOnly post (f0_made, f0_height, f0_known, (nI l), f0_left, f0_came, f0_letters, a1, a2, a3, a4, a5, a6, a7, a8, a9, a10, a11, a12, a13, a14, a15, a16, a17, a18, a19, a20, a21) y := by
  subst hy
  refine pk_loop (fun f p s => wX_goToOnly_2 post (nI (n - 1)) f0_made f0_height f0_known (nI l) f0_left f0_came f0_letters f (nI p) a1 a2 a3 a4 a5 a6 a7 a8 a9 a10 a11 a12 a13 a14 a15 s a17 a18 a19 a20 a21) (fun p s => ty_LW cc (n - 1) l c p a16 s) 256 0 a16 (by omega) ⟨fun _ _ => rfl, fun q hq => absurd hq (by omega)⟩ ?_ ?_
  · intro f s h
    exact pk_le 256 256 (fun _ => ty_start (l + 1) (n - 1) (by omega) (by omega) (H s h.1 h.2) (nI_1 l)) (fun z => absurd z (by omega))
  · intro f p s hp h hw
    have hb := ty_cc_le hD (n := n - 1) (p := p) (by omega) hp
    refine pk_le 256 p (fun z => absurd z (by omega)) (fun _ => ⟨pk_in (256 * (n - 1) + p) 2048 (by omega) (ty_i256 _ _), ?_⟩)
    rw [ty_i256, nI_clamp (show 256 * (n - 1) + p < 2 ^ 31 by omega), hD.1 _ (by omega)]
    refine pk_le (cc (256 * (n - 1) + p)) 0 (fun z => br_t rfl (br_t rfl ⟨pk_in (256 * (l + 1) + p) 2048 (by omega) (ty_i256' l p), ?_⟩)) (fun z => br_f (by decide) ?_)
    · rw [ty_i256', nI_clamp (show 256 * (l + 1) + p < 2 ^ 31 by omega)]
      exact nm_e (nm_r (nI_1 p) (hw _ (ty_LW_up h (fun q => absurd q (by omega)))))
    · have hp16 := (hD.2 (n - 1) (by omega)).1 p hp z
      have hs16 := ty_o1_lt (on := on) (p := p) 4 hA.1.2.1
      have hcl := (hD.2 n hn).2.2.2.1 hn2 p hp z
      refine ty_onePair hA p hp16 (br_f (by decide) ⟨pk_in (256 * l + ty_o1 on p 4) 2048 (by omega) (ty_i256 l _), pk_in (256 * (l + 1) + p) 2048 (by omega) (ty_i256' l p), ?_⟩)
      rw [ty_i256', nI_clamp (show 256 * (l + 1) + p < 2 ^ 31 by omega), ty_i256, nI_clamp (show 256 * l + ty_o1 on p 4 < 2 ^ 31 by omega)]
      exact nm_e (nm_r (nI_1 p) (hw _ (ty_LW_up h (fun _ => by rw [h.1 _ (by omega)]; exact hW _ (by omega) hcl))))
theorem ty_goToFirst {post : St2 → Prop} {x y : Int32} {lf on tw cc : Nat → Nat} {fn n l c : Nat} (i : Nat) (hA : ty_AU lf on tw fn a1 a2 a3 a4) (hD : ty_FD lf on tw cc a14) (hi : 1 ≤ i) (hin : i + 2 ≤ n) (hn : n < 8) (hl : l < 7) (hW : ty_WG cc n l c a16)
    (H : ∀ b : Nat → Int32, (∀ j, j < 256 * (l + 1) → b j = a16 j) → ty_WG cc i (l + 1) (ty_al (n - 1 - i) * c) b → post (f0_made, f0_height, f0_known, (nI (l + 1)), f0_left, f0_came, f0_letters, a1, a2, a3, a4, a5, a6, a7, a8, a9, a10, a11, a12, a13, a14, a15, b, (upd a17 (l + 1) (nI i)), (upd a18 (l + 1) (nI 0)), a19, a20, a21)) (hx : x = nI i := by rfl) (hy : y = nI (n - 1 - i) := by rfl) : wpX_goToFirst post (f0_made, f0_height, f0_known, (nI l), f0_left, f0_came, f0_letters, a1, a2, a3, a4, a5, a6, a7, a8, a9, a10, a11, a12, a13, a14, a15, a16, a17, a18, a19, a20, a21) x y := by
  subst hx
  subst hy
  refine pk_loop (fun f p s => wX_goToFirst_2 post (nI i) (nI (n - 1 - i)) f0_made f0_height f0_known (nI l) f0_left f0_came f0_letters f (nI p) a1 a2 a3 a4 a5 a6 a7 a8 a9 a10 a11 a12 a13 a14 a15 s a17 a18 a19 a20 a21) (fun p s => ty_LW cc i l (ty_al (n - 1 - i) * c) p a16 s) 256 0 a16 (by omega) ⟨fun _ _ => rfl, fun q hq => absurd hq (by omega)⟩ ?_ ?_
  · intro f s h
    exact pk_le 256 256 (fun _ => ty_start (l + 1) i (by omega) (by omega) (H s h.1 h.2) (nI_1 l)) (fun z => absurd z (by omega))
  · intro f p s hp h hw
    have hb := ty_cc_le hD (n := i) (p := p) (by omega) hp
    refine pk_le 256 p (fun z => absurd z (by omega)) (fun _ => ⟨pk_in (256 * i + p) 2048 (by omega) (ty_i256 _ _), ?_⟩)
    rw [ty_i256, nI_clamp (show 256 * i + p < 2 ^ 31 by omega), hD.1 _ (by omega)]
    refine pk_le (cc (256 * i + p)) 0 (fun z => br_t rfl ⟨pk_in (256 * (l + 1) + p) 2048 (by omega) (ty_i256' l p), ?_⟩) (fun z => br_f (by decide) ?_)
    · rw [ty_i256', nI_clamp (show 256 * (l + 1) + p < 2 ^ 31 by omega)]
      exact nm_e (nm_r (nI_1 p) (hw _ (ty_LW_up h (fun q => absurd q (by omega)))))
    · refine ty_besides i p hA hD hi hin hn (by omega) (fun q hq g => by rw [h.1 _ (by omega)]; exact hW q hq g) hp z ⟨pk_in (256 * (l + 1) + p) 2048 (by omega) (ty_i256' l p), ?_⟩
      rw [ty_i256', nI_clamp (show 256 * (l + 1) + p < 2 ^ 31 by omega)]
      exact nm_e (nm_r (nI_1 p) (hw _ (ty_LW_up h (fun _ => rfl))))
theorem ty_goToSecond {post : St2 → Prop} {x y : Int32} {lf on tw cc : Nat → Nat} {fn n l c : Nat} (i a : Nat) (hA : ty_AU lf on tw fn a1 a2 a3 a4) (hD : ty_FD lf on tw cc a14) (hi : 1 ≤ i) (hin : i + 2 ≤ n) (hn : n < 8) (hl : l < 7) (hW : ty_WG cc n l c a16) (ha : a < 16) (hz : 0 < cc (256 * i + a))
    (H : ∀ b : Nat → Int32, (∀ j, j < 256 * (l + 1) → b j = a16 j) → ty_WG cc (n - 1 - i) (l + 1) c b → post (f0_made, f0_height, f0_known, (nI (l + 1)), f0_left, f0_came, f0_letters, a1, a2, a3, a4, a5, a6, a7, a8, a9, a10, a11, a12, a13, a14, a15, b, (upd a17 (l + 1) (nI (n - 1 - i))), (upd a18 (l + 1) (nI 0)), a19, a20, a21)) (hx : x = nI a := by rfl) (hy : y = nI (n - 1 - i) := by rfl) : wpX_goToSecond post (f0_made, f0_height, f0_known, (nI l), f0_left, f0_came, f0_letters, a1, a2, a3, a4, a5, a6, a7, a8, a9, a10, a11, a12, a13, a14, a15, a16, a17, a18, a19, a20, a21) x y := by
  subst hx
  subst hy
  refine pk_loop (fun f p s => wX_goToSecond_2 post (nI a) (nI (n - 1 - i)) f0_made f0_height f0_known (nI l) f0_left f0_came f0_letters f (nI p) a1 a2 a3 a4 a5 a6 a7 a8 a9 a10 a11 a12 a13 a14 a15 s a17 a18 a19 a20 a21) (fun p s => ty_LW cc (n - 1 - i) l c p a16 s) 256 0 a16 (by omega) ⟨fun _ _ => rfl, fun q hq => absurd hq (by omega)⟩ ?_ ?_
  · intro f s h
    exact pk_le 256 256 (fun _ => ty_start (l + 1) (n - 1 - i) (by omega) (by omega) (H s h.1 h.2) (nI_1 l)) (fun z => absurd z (by omega))
  · intro f p s hp h hw
    have hb := ty_cc_le hD (n := n - 1 - i) (p := p) (by omega) hp
    refine pk_le 256 p (fun z => absurd z (by omega)) (fun _ => ⟨pk_in (256 * (n - 1 - i) + p) 2048 (by omega) (ty_i256 _ _), ?_⟩)
    rw [ty_i256, nI_clamp (show 256 * (n - 1 - i) + p < 2 ^ 31 by omega), hD.1 _ (by omega)]
    refine pk_le (cc (256 * (n - 1 - i) + p)) 0 (fun z => br_t rfl (br_t rfl ⟨pk_in (256 * (l + 1) + p) 2048 (by omega) (ty_i256' l p), ?_⟩)) (fun z => br_f (by decide) ?_)
    · rw [ty_i256', nI_clamp (show 256 * (l + 1) + p < 2 ^ 31 by omega)]
      exact nm_e (nm_r (nI_1 p) (hw _ (ty_LW_up h (fun q => absurd q (by omega)))))
    · have hp16 := (hD.2 (n - 1 - i) (by omega)).1 p hp z
      have hs16 := ty_o2_lt (tw := tw) (a := a) (b := p) 16 hA.1.2.2
      have hcl := (hD.2 n hn).2.2.2.2 i a p hi hin (by omega) hp hz z
      refine ty_twoPair hA a p ha hp16 (br_f (by decide) ⟨pk_in (256 * l + ty_o2 tw a p 16) 2048 (by omega) (ty_i256 l _), pk_in (256 * (l + 1) + p) 2048 (by omega) (ty_i256' l p), ?_⟩)
      rw [ty_i256', nI_clamp (show 256 * (l + 1) + p < 2 ^ 31 by omega), ty_i256, nI_clamp (show 256 * l + ty_o2 tw a p 16 < 2 ^ 31 by omega)]
      exact nm_e (nm_r (nI_1 p) (hw _ (ty_LW_up h (fun _ => by rw [h.1 _ (by omega)]; exact hW _ (by omega) hcl))))
end
section
/-! finding: a step's choice, and the walk over a tree -/
variable {f0_made f0_height f0_known f0_level f0_left f0_came f0_letters : Int32} {a1 a2 a3 a4 a5 a6 a7 a8 a9 a10 a11 a12 a13 a14 a15 a16 a17 a18 a19 a20 a21 : Nat → Int32}
/-- the word of a tree stands from place s on -/
def ty_wd (f : Nat → Int32) : Nat → Int.Internal.Linear.Expr → Prop
  | s, .var l => f s = nI l
  | s, .neg a => f s = nI 2 ∧ ty_wd f (s + 1) a
  | s, .add a b => f s = nI 3 ∧ ty_wd f (s + 1) a ∧ ty_wd f (s + 1 + ty_sz a) b
  | _, _ => False
def ty_sp : Int.Internal.Linear.Expr → Nat
  | .var _ => 1
  | .neg a => 2 + ty_sp a
  | .add a b => 3 + ty_sp a + ty_sp b
  | _ => 1
theorem ty_sp_le : ∀ T, ty_sp T ≤ 3 * ty_sz T := by
  intro T
  induction T with
  | var l => simp only [ty_sp, ty_sz]; omega
  | neg a ih => simp only [ty_sp, ty_sz]; omega
  | add a b iha ihb => simp only [ty_sp, ty_sz]; omega
  | num v => simp only [ty_sp, ty_sz]; omega
  | sub a b _ _ => simp only [ty_sp, ty_sz]; omega
  | mulL k a _ => simp only [ty_sp, ty_sz]; omega
  | mulR a k _ => simp only [ty_sp, ty_sz]; omega
theorem ty_wd_congr {f g : Nat → Int32} : ∀ T s, (∀ j, s ≤ j → j < s + ty_sz T → g j = f j) → ty_wd f s T → ty_wd g s T := by
  intro T
  induction T with
  | var l => intro s h H; simp only [ty_wd] at H ⊢; rw [h s (by omega) (by simp only [ty_sz]; omega)]; exact H
  | neg a ih =>
    intro s h H
    simp only [ty_sz] at h
    simp only [ty_wd] at H ⊢
    exact ⟨by rw [h s (by omega) (by omega)]; exact H.1, ih (s + 1) (fun j h1 h2 => h j (by omega) (by omega)) H.2⟩
  | add a b iha ihb =>
    intro s h H
    simp only [ty_sz] at h
    simp only [ty_wd] at H ⊢
    exact ⟨by rw [h s (by omega) (by omega)]; exact H.1, iha (s + 1) (fun j h1 h2 => h j (by omega) (by omega)) H.2.1, ihb (s + 1 + ty_sz a) (fun j h1 h2 => h j (by omega) (by omega)) H.2.2⟩
  | num v => intro s h H; exact H.elim
  | sub a b _ _ => intro s h H; exact H.elim
  | mulL k a _ => intro s h H; exact H.elim
  | mulR a k _ => intro s h H; exact H.elim
theorem ty_chooseLeaf {post : St2 → Prop} {lf on tw cc : Nat → Nat} {fn l c s t rem : Nat} (hA : ty_AU lf on tw fn a1 a2 a3 a4) (hD : ty_FD lf on tw cc a14) (hl : l < 8) (hs : s < 12) (ht : t < 2) (hr : rem < c) (hc : c < 1024) (hW : ty_WG cc 1 l c a16)
    (H : post (f0_made, f0_height, f0_known, (nI l - 1), (nI rem), (nI (lf t)), (nI (s + 1)), a1, a2, a3, a4, a5, a6, a7, a8, a9, a10, a11, a12, a13, a14, a15, a16, a17, a18, a19, a20, (upd a21 s (nI t)))) : wpX_chooseLeaf post (f0_made, f0_height, f0_known, (nI l), (nI (t * c + rem)), f0_came, (nI s), a1, a2, a3, a4, a5, a6, a7, a8, a9, a10, a11, a12, a13, a14, a15, a16, a17, a18, a19, a20, a21) := by
  have hlf := hA.1.1 0 (by omega)
  have hcl := (hD.2 1 (by omega)).2.2.1 rfl 0 (by omega)
  have h54 : wX_chooseLeaf_54 post (nI t) (nI rem) f0_made f0_height f0_known (nI l) (nI (t * c + rem)) f0_came (nI s) a1 a2 a3 a4 a5 a6 a7 a8 a9 a10 a11 a12 a13 a14 a15 a16 a17 a18 a19 a20 a21 :=
    ty_spell s t hs (by omega) (ty_leafPair hA t ht (nm_e H))
  unfold wpX_chooseLeaf
  refine ty_leafPair hA 0 (by omega) ⟨pk_in (256 * l + lf 0) 2048 (by omega) (ty_i256 l _), nm_r (show a16 ((256 : Int32) * nI l + nI (lf 0)).toNatClampNeg = nI c by rw [ty_i256, nI_clamp (by omega)]; exact hW _ (by omega) hcl) ?_⟩
  have htc : t = 0 ∨ t = 1 := by omega
  rcases htc with e | e
  · rw [e, Nat.zero_mul, Nat.zero_add] at h54 ⊢
    exact pk_le c rem (fun z => absurd z (by omega)) (fun _ => br_t rfl h54)
  · rw [e, Nat.one_mul] at h54 ⊢
    refine pk_le c (c + rem) (fun _ => br_f (by decide) ?_) (fun z => absurd z (by omega))
    rw [pk_sub (by omega), show c + rem - c = rem by omega]
    exact h54
theorem ty_chooseOne {post : St2 → Prop} {lf on tw cc : Nat → Nat} {fn n l c s v : Nat} (hA : ty_AU lf on tw fn a1 a2 a3 a4) (hD : ty_FD lf on tw cc a14) (hn2 : 2 ≤ n) (hn : n < 8) (hl : l < 7) (hs : s < 12) (hv : v < ty_al (n - 1) * c) (hb : ty_al (n - 1) * c < 1024) (h17 : a17 l = nI n) (hW : ty_WG cc n l c a16)
    (H : ∀ b : Nat → Int32, (∀ j, j < 256 * (l + 1) → b j = a16 j) → ty_WG cc (n - 1) (l + 1) c b → post (f0_made, f0_height, f0_known, (nI (l + 1)), (nI v), f0_came, (nI (s + 1)), a1, a2, a3, a4, a5, a6, a7, a8, a9, a10, a11, a12, a13, a14, a15, b, (upd a17 (l + 1) (nI (n - 1))), (upd (upd a18 l (nI 1)) (l + 1) (nI 0)), a19, a20, (upd a21 s (nI 2)))) :
    wpX_chooseTop post (f0_made, f0_height, f0_known, (nI l), (nI v), f0_came, (nI s), a1, a2, a3, a4, a5, a6, a7, a8, a9, a10, a11, a12, a13, a14, a15, a16, a17, a18, a19, a20, a21) := by
  refine ⟨pk_in l 8 (by omega), nm_r (show a17 (nI l).toNatClampNeg = nI n by rw [nI_clamp (by omega)]; exact h17) ?_⟩
  refine ty_withOne hA hD hn2 hn (by omega) hW (pk_le (ty_al (n - 1) * c) v (fun z => absurd z (by omega)) (fun _ => ty_spell s 2 hs (by omega) ⟨pk_in l 8 (by omega), nm_r (show upd a18 (nI l).toNatClampNeg 1 = upd a18 l (nI 1) by rw [nI_clamp (by omega)]; rfl) (ty_goToOnly hA hD hn2 hn hl hW (fun b h1 h2 => H b h1 h2) (ty_p1 (by omega)))⟩))
theorem ty_chooseTwo {post : St2 → Prop} {lf on tw cc : Nat → Nat} {fn n l c s sa w : Nat} (hA : ty_AU lf on tw fn a1 a2 a3 a4) (hD : ty_FD lf on tw cc a14) (hs1 : 1 ≤ sa) (hs2 : sa + 2 ≤ n) (hn : n < 8) (hl : l < 7) (hs : s < 12) (hw : w < ty_al sa * (ty_al (n - 1 - sa) * c)) (hb : ty_al n * c < 1024) (h17 : a17 l = nI n) (hW : ty_WG cc n l c a16)
    (H : ∀ b : Nat → Int32, (∀ j, j < 256 * (l + 1) → b j = a16 j) → ty_WG cc sa (l + 1) (ty_al (n - 1 - sa) * c) b → post (f0_made, f0_height, f0_known, (nI (l + 1)), (nI w), f0_came, (nI (s + 1)), a1, a2, a3, a4, a5, a6, a7, a8, a9, a10, a11, a12, a13, a14, a15, b, (upd a17 (l + 1) (nI sa)), (upd (upd a18 l (nI 2)) (l + 1) (nI 0)), (upd a19 l (nI sa)), a20, (upd a21 s (nI 3)))) :
    wpX_chooseTop post (f0_made, f0_height, f0_known, (nI l), (nI (ty_al (n - 1) * c + (ty_sm n sa * c + w))), f0_came, (nI s), a1, a2, a3, a4, a5, a6, a7, a8, a9, a10, a11, a12, a13, a14, a15, a16, a17, a18, a19, a20, a21) := by
  have hal := ty_al_rec n (by omega) (by omega)
  have hmo : ∀ i, i + 1 ≤ sa → (ty_sm n i + ty_al i * ty_al (n - 1 - i)) * c ≤ ty_sm n sa * c := fun i hi => Nat.mul_le_mul_right c (ty_sm_mono n (k := i + 1) hi)
  have hm2 : (ty_sm n sa + ty_al sa * ty_al (n - 1 - sa)) * c ≤ ty_sm n (n - 1) * c := Nat.mul_le_mul_right c (ty_sm_mono n (k := sa + 1) (by omega))
  rw [hal, Nat.add_mul] at hb
  rw [Nat.add_mul, Nat.mul_assoc] at hm2
  refine ⟨pk_in l 8 (by omega), nm_r (show a17 (nI l).toNatClampNeg = nI n by rw [nI_clamp (by omega)]; exact h17) ?_⟩
  refine ty_withOne hA hD (by omega) hn (by omega) hW (pk_le (ty_al (n - 1) * c) (ty_al (n - 1) * c + (ty_sm n sa * c + w)) (fun _ => nm_r (show nI (ty_al (n - 1) * c + (ty_sm n sa * c + w)) - nI (ty_al (n - 1) * c) = nI (ty_sm n sa * c + w) by rw [pk_sub (by omega)]; congr 1; omega) ?_) (fun z => absurd z (by omega)))
  have e104 : wX_chooseTop_104 post (nI n) (nI sa) f0_made f0_height f0_known (nI l) (nI w) f0_came (nI s) a1 a2 a3 a4 a5 a6 a7 a8 a9 a10 a11 a12 a13 a14 a15 a16 a17 a18 a19 a20 a21 :=
    ty_spell s 3 hs (by omega) ⟨pk_in l 8 (by omega), nm_r (show upd a18 (nI l).toNatClampNeg 2 = upd a18 l (nI 2) by rw [nI_clamp (by omega)]; rfl) ⟨pk_in l 8 (by omega), nm_r (show upd a19 (nI l).toNatClampNeg (nI sa).toInt8.toInt32 = upd a19 l (nI sa) by rw [nI_clamp (by omega), ty_byte sa (by omega)]) (ty_goToFirst sa hA hD hs1 hs2 hn hl hW (fun b h1 h2 => H b h1 h2) rfl (by rw [ty_p1 (by omega), pk_sub (by omega)]))⟩⟩
  refine ty_withTwo 1 hA hD (by omega) (by omega) hn (by omega) hW ?_
  refine pk_loop (fun f i (v : Int32 × Int32) => wX_chooseTop_66 post (nI n) f0_made f0_height f0_known (nI l) f0_came (nI s) a1 a2 a3 a4 a5 a6 a7 a8 a9 a10 a11 a12 a13 a14 a15 a16 a17 a18 a19 a20 a21 f v.1 (nI i) v.2)
    (fun i v => 1 ≤ i ∧ v.1 = nI (ty_al i * (ty_al (n - 1 - i) * c)) ∧ ∃ L, v.2 = nI L ∧ L + ty_sm n i * c = ty_sm n sa * c + w) sa 1 (_, _) hs1 ⟨by omega, rfl, _, rfl, ?_⟩ ?_ ?_
  · show _ + (0 + 0 * _) * c = _
    rw [Nat.zero_mul, Nat.add_zero, Nat.zero_mul, Nat.add_zero]
  · rintro f ⟨v1, v2⟩ ⟨_, k1, L, k2, k3⟩
    have q1 : v1 = nI (ty_al sa * (ty_al (n - 1 - sa) * c)) := k1
    have q2 : v2 = nI L := k2
    have hL : L = w := by omega
    clear k1 k2
    rw [hL] at q2
    subst q1
    subst q2
    exact pk_le (n - 2) sa (fun _ => e104) (fun _ => pk_lt w (ty_al sa * (ty_al (n - 1 - sa) * c)) (fun _ => e104) (fun z => absurd z (by omega))) (pk_sub (b := 2) (by omega))
  · rintro f i ⟨v1, v2⟩ hi ⟨hi1, k1, L, k2, k3⟩ hw2
    have q1 : v1 = nI (ty_al i * (ty_al (n - 1 - i) * c)) := k1
    have q2 : v2 = nI L := k2
    clear k1 k2
    subst q1
    subst q2
    have hmi := hmo i (by omega)
    rw [Nat.add_mul, Nat.mul_assoc] at hmi
    refine pk_le (n - 2) i (fun z => absurd z (by omega)) (fun _ => pk_lt L (ty_al i * (ty_al (n - 1 - i) * c)) (fun z => absurd z (by omega)) (fun _ => nm_r (pk_sub (by omega)) (nm_r (nI_1 i) (ty_withTwo (i + 1) hA hD (by omega) (by omega) hn (by omega) hW (hw2 (_, _) ⟨by omega, rfl, _, rfl, ?_⟩))))) (pk_sub (b := 2) (by omega))
    show _ + (ty_sm n i + ty_al i * ty_al (n - 1 - i)) * c = _
    rw [Nat.add_mul, Nat.mul_assoc]
    omega
end
section
/-! finding: one piece of work by its phase -/
variable {f0_made f0_height f0_known f0_level f0_left f0_came f0_letters : Int32} {a1 a2 a3 a4 a5 a6 a7 a8 a9 a10 a11 a12 a13 a14 a15 a16 a17 a18 a19 a20 a21 : Nat → Int32}
theorem ty_workLeaf {post : St2 → Prop} {lf on tw cc : Nat → Nat} {fn l c s t rem : Nat} (hA : ty_AU lf on tw fn a1 a2 a3 a4) (hD : ty_FD lf on tw cc a14) (hl : l < 8) (hs : s < 12) (ht : t < 2) (hr : rem < c) (hc : c < 1024) (hW : ty_WG cc 1 l c a16) (h17 : a17 l = nI 1) (h18 : a18 l = nI 0)
    (H : post (f0_made, f0_height, f0_known, (nI l - 1), (nI rem), (nI (lf t)), (nI (s + 1)), a1, a2, a3, a4, a5, a6, a7, a8, a9, a10, a11, a12, a13, a14, a15, a16, a17, a18, a19, a20, (upd a21 s (nI t)))) : wpX_work post (f0_made, f0_height, f0_known, (nI l), (nI (t * c + rem)), f0_came, (nI s), a1, a2, a3, a4, a5, a6, a7, a8, a9, a10, a11, a12, a13, a14, a15, a16, a17, a18, a19, a20, a21) := by
  refine ⟨pk_in l 8 hl, ?_⟩
  rw [nI_clamp (show l < 2 ^ 31 by omega), h17, h18]
  exact br_t rfl ⟨pk_in l 8 hl, br_t rfl (ty_chooseLeaf hA hD hl hs ht hr hc hW H)⟩
theorem ty_workTop {post : St2 → Prop} {l n : Nat} (hl : l < 8) (hn2 : 2 ≤ n) (hn : n < 8) (h17 : a17 l = nI n) (h18 : a18 l = nI 0)
    (H : wpX_chooseTop post (f0_made, f0_height, f0_known, (nI l), f0_left, f0_came, f0_letters, a1, a2, a3, a4, a5, a6, a7, a8, a9, a10, a11, a12, a13, a14, a15, a16, a17, a18, a19, a20, a21)) : wpX_work post (f0_made, f0_height, f0_known, (nI l), f0_left, f0_came, f0_letters, a1, a2, a3, a4, a5, a6, a7, a8, a9, a10, a11, a12, a13, a14, a15, a16, a17, a18, a19, a20, a21) := by
  refine ⟨pk_in l 8 hl, ?_⟩
  rw [nI_clamp (show l < 2 ^ 31 by omega), h17, h18]
  exact br_t rfl ⟨pk_in l 8 hl, pk_eq n 1 (fun z => absurd z (by omega)) (fun _ => H)⟩
theorem ty_work1 {post : St2 → Prop} {lf on tw : Nat → Nat} {fn l p : Nat} (hA : ty_AU lf on tw fn a1 a2 a3 a4) (hl : l < 8) (hp : p < 16) (h18 : a18 l = nI 1)
    (H : post (f0_made, f0_height, f0_known, (nI l - 1), f0_left, (nI (ty_o1 on p 4)), f0_letters, a1, a2, a3, a4, a5, a6, a7, a8, a9, a10, a11, a12, a13, a14, a15, a16, a17, a18, a19, a20, a21)) : wpX_work post (f0_made, f0_height, f0_known, (nI l), f0_left, (nI p), f0_letters, a1, a2, a3, a4, a5, a6, a7, a8, a9, a10, a11, a12, a13, a14, a15, a16, a17, a18, a19, a20, a21) := by
  refine ⟨pk_in l 8 hl, ?_⟩
  rw [nI_clamp (show l < 2 ^ 31 by omega), h18]
  exact br_f (by decide) ⟨pk_in l 8 hl, br_t rfl (ty_onePair hA p hp (nm_e H))⟩
theorem ty_work2 {post : St2 → Prop} {lf on tw cc : Nat → Nat} {fn n l c i a : Nat} (hA : ty_AU lf on tw fn a1 a2 a3 a4) (hD : ty_FD lf on tw cc a14) (hi : 1 ≤ i) (hin : i + 2 ≤ n) (hn : n < 8) (hl : l < 7) (hW : ty_WG cc n l c a16) (ha : a < 16) (hz : 0 < cc (256 * i + a)) (h17 : a17 l = nI n) (h18 : a18 l = nI 2) (h19 : a19 l = nI i)
    (H : ∀ b : Nat → Int32, (∀ j, j < 256 * (l + 1) → b j = a16 j) → ty_WG cc (n - 1 - i) (l + 1) c b → post (f0_made, f0_height, f0_known, (nI (l + 1)), f0_left, (nI a), f0_letters, a1, a2, a3, a4, a5, a6, a7, a8, a9, a10, a11, a12, a13, a14, a15, b, (upd a17 (l + 1) (nI (n - 1 - i))), (upd (upd a18 l (nI 3)) (l + 1) (nI 0)), a19, (upd a20 l (nI a)), a21)) : wpX_work post (f0_made, f0_height, f0_known, (nI l), f0_left, (nI a), f0_letters, a1, a2, a3, a4, a5, a6, a7, a8, a9, a10, a11, a12, a13, a14, a15, a16, a17, a18, a19, a20, a21) := by
  refine ⟨pk_in l 8 (by omega), ?_⟩
  rw [nI_clamp (show l < 2 ^ 31 by omega), h18]
  refine br_f (by decide) ⟨pk_in l 8 (by omega), br_f (by decide) ⟨pk_in l 8 (by omega), br_t rfl ⟨pk_in l 8 (by omega), nm_r (show upd a20 l (nI a).toInt16.toInt32 = upd a20 l (nI a) by rw [ty_short a (by omega)]) ⟨pk_in l 8 (by omega), nm_e ⟨pk_in l 8 (by omega), pk_in l 8 (by omega), ?_⟩⟩⟩⟩⟩
  refine ty_goToSecond i a hA hD hi hin hn hl hW ha hz (fun b h1 h2 => H b h1 h2) rfl ?_
  rw [h17, h19, ty_p1 (by omega), pk_sub (by omega)]
theorem ty_work3 {post : St2 → Prop} {lf on tw : Nat → Nat} {fn l p q : Nat} (hA : ty_AU lf on tw fn a1 a2 a3 a4) (hl : l < 8) (hp : p < 16) (hq : q < 16) (h18 : a18 l = nI 3) (h20 : a20 l = nI p)
    (H : post (f0_made, f0_height, f0_known, (nI l - 1), f0_left, (nI (ty_o2 tw p q 16)), f0_letters, a1, a2, a3, a4, a5, a6, a7, a8, a9, a10, a11, a12, a13, a14, a15, a16, a17, a18, a19, a20, a21)) : wpX_work post (f0_made, f0_height, f0_known, (nI l), f0_left, (nI q), f0_letters, a1, a2, a3, a4, a5, a6, a7, a8, a9, a10, a11, a12, a13, a14, a15, a16, a17, a18, a19, a20, a21) := by
  refine ⟨pk_in l 8 hl, ?_⟩
  rw [nI_clamp (show l < 2 ^ 31 by omega), h18]
  exact br_f (by decide) ⟨pk_in l 8 hl, br_f (by decide) ⟨pk_in l 8 hl, br_f (by decide) ⟨pk_in l 8 hl, ty_twoPair hA p q hp hq (nm_e H) h20⟩⟩⟩
/-- a tree's set is a place that counting met -/
theorem ty_met {lf on tw cc : Nat → Nat} {a14 : Nat → Int32} (hT : ty_tb lf on tw) (hD : ty_FD lf on tw cc a14) : ∀ T, ty_ok T → ty_sz T ≤ 7 → 0 < cc (256 * ty_sz T + ty_st lf on tw T) := by
  intro T
  induction T with
  | var l => intro h hs; exact (hD.2 1 (by omega)).2.2.1 rfl l h
  | neg a ih =>
    intro h hs
    have pa := ty_sz_pos a
    have hs : 1 + ty_sz a ≤ 7 := hs
    have hst := ty_st_lt hT a h
    have h1 := ih h (by omega)
    have h2 := (hD.2 (1 + ty_sz a) (by omega)).2.2.2.1 (by omega) (ty_st lf on tw a) (by omega)
    rw [show 1 + ty_sz a - 1 = ty_sz a by omega] at h2
    exact h2 h1
  | add a b iha ihb =>
    intro h hs
    have pa := ty_sz_pos a
    have pb := ty_sz_pos b
    have hs : 1 + ty_sz a + ty_sz b ≤ 7 := hs
    have hsa := ty_st_lt hT a h.1
    have hsb := ty_st_lt hT b h.2
    have h1 := iha h.1 (by omega)
    have h2 := ihb h.2 (by omega)
    have h3 := (hD.2 (1 + ty_sz a + ty_sz b) (by omega)).2.2.2.2 (ty_sz a) (ty_st lf on tw a) (ty_st lf on tw b) pa (by omega) (by omega) (by omega) h1
    rw [show 1 + ty_sz a + ty_sz b - 1 - ty_sz a = ty_sz b by omega] at h3
    exact h3 h2
  | num v => intro h; exact h.elim
  | sub a b _ _ => intro h; exact h.elim
  | mulL k a _ => intro h; exact h.elim
  | mulR a k _ => intro h; exact h.elim
end
section
/-! finding: the walk over a tree, by the tree -/
variable {f0_made f0_height f0_known f0_level f0_left f0_came f0_letters : Int32} {a1 a2 a3 a4 a5 a6 a7 a8 a9 a10 a11 a12 a13 a14 a15 a16 a17 a18 a19 a20 a21 : Nat → Int32}
/-- below level l nothing changed -/
def ty_KP (l : Nat) (a16 a17 a18 a19 a20 b16 b17 b18 b19 b20 : Nat → Int32) : Prop :=
  (∀ j, j < 256 * l → b16 j = a16 j) ∧ ∀ j, j < l → b17 j = a17 j ∧ b18 j = a18 j ∧ b19 j = a19 j ∧ b20 j = a20 j
theorem ty_walk {post : Int32 → St2 → Prop} {lf on tw cc : Nat → Nat} {fn : Nat} (hA : ty_AU lf on tw fn a1 a2 a3 a4) (hD : ty_FD lf on tw cc a14) : ∀ T, ty_ok T → ∀ (l c rem s x N : Nat) (f0_came : Int32) (a16 a17 a18 a19 a20 a21 : Nat → Int32),
    l + ty_sz T ≤ 7 → s + ty_sz T ≤ 12 → rem < c → ty_al (ty_sz T) * c < 1024 → x + ty_sp T ≤ 64 → ty_WG cc (ty_sz T) l c a16 → a17 l = nI (ty_sz T) → a18 l = nI 0 →
    (∀ n, N ≤ n → ∀ b16 b17 b18 b19 b20 b21 : Nat → Int32, ty_KP l a16 a17 a18 a19 a20 b16 b17 b18 b19 b20 → (∀ j, j < s → b21 j = a21 j) → ty_wd b21 s T →
      wX_load_112 post n (nI (x + ty_sp T)) f0_made f0_height f0_known (nI l - 1) (nI rem) (nI (ty_st lf on tw T)) (nI (s + ty_sz T)) a1 a2 a3 a4 a5 a6 a7 a8 a9 a10 a11 a12 a13 a14 a15 b16 b17 b18 b19 b20 b21) →
    ∀ n, N + ty_sp T ≤ n → wX_load_112 post n (nI x) f0_made f0_height f0_known (nI l) (nI (ty_rk T * c + rem)) f0_came (nI s) a1 a2 a3 a4 a5 a6 a7 a8 a9 a10 a11 a12 a13 a14 a15 a16 a17 a18 a19 a20 a21 := by
  intro T
  induction T with
  | var t =>
    intro ht l c rem s x N f0_came a16 a17 a18 a19 a20 a21 g1 g2 g3 g4 g5 g6 g7 g8 K n hn
    have ht : t < 2 := ht
    have g1 : l + 1 ≤ 7 := g1
    have g2 : s + 1 ≤ 12 := g2
    have g4 : 2 * c < 1024 := g4
    have g5 : x + 1 ≤ 64 := g5
    have hn : N + 1 ≤ n := hn
    obtain ⟨m, rfl⟩ : ∃ m, n = m + 1 := ⟨n - 1, by omega⟩
    refine pk_le 64 x (fun z => absurd z (by omega)) (fun _ => pk_lt l 0 (fun z => absurd z (by omega)) (fun _ => ty_workLeaf hA hD (by omega) (by omega) ht g3 (by omega) g6 g7 g8 (nm_r (nI_1 x) (K m (by omega) _ _ _ _ _ _ ⟨fun _ _ => rfl, fun _ _ => ⟨rfl, rfl, rfl, rfl⟩⟩ (fun j hj => pk_un (by omega)) ?_))))
    exact pk_us
  | neg a ih =>
    intro ha l c rem s x N f0_came a16 a17 a18 a19 a20 a21 g1 g2 g3 g4 g5 g6 g7 g8 K n hn
    have ha : ty_ok a := ha
    have pa := ty_sz_pos a
    have g1 : l + (1 + ty_sz a) ≤ 7 := g1
    have g2 : s + (1 + ty_sz a) ≤ 12 := g2
    have g5 : x + (2 + ty_sp a) ≤ 64 := g5
    have hn : N + (2 + ty_sp a) ≤ n := hn
    have g6 : ty_WG cc (1 + ty_sz a) l c a16 := g6
    have g7 : a17 l = nI (1 + ty_sz a) := g7
    have hst := ty_st_lt hA.1 a ha
    have hrk := ty_rk_lt a ha (by omega)
    have e1 : 1 + ty_sz a - 1 = ty_sz a := by omega
    have hal := ty_al_rec (1 + ty_sz a) (by omega) (by omega)
    rw [e1] at hal
    have g4 : ty_al (1 + ty_sz a) * c < 1024 := g4
    rw [hal, Nat.add_mul] at g4
    have hv : (ty_rk a + 1) * c ≤ ty_al (ty_sz a) * c := Nat.mul_le_mul_right c hrk
    rw [Nat.add_mul, Nat.one_mul] at hv
    obtain ⟨m, rfl⟩ : ∃ m, n = m + 1 := ⟨n - 1, by omega⟩
    refine pk_le 64 x (fun z => absurd z (by omega)) (fun _ => pk_lt l 0 (fun z => absurd z (by omega)) (fun _ => ty_workTop (n := 1 + ty_sz a) (by omega) (by omega) (by omega) g7 g8 (ty_chooseOne (v := ty_rk a * c + rem) hA hD (by omega) (by omega) (by omega) (by omega) (by rw [e1]; omega) (by rw [e1]; omega) g7 g6 (fun b hb1 hb2 => nm_r (nI_1 x) ?_))))
    rw [e1] at hb2 ⊢
    refine ih ha (l + 1) c rem (s + 1) (x + 1) (N + 1) f0_came b _ _ a19 a20 _ (by omega) (by omega) g3 (by omega) (by omega) hb2 pk_us pk_us ?_ m (by omega)
    intro k hk b16 b17 b18 b19 b20 b21 hK h21 hwd
    obtain ⟨k, rfl⟩ : ∃ k', k = k' + 1 := ⟨k - 1, by omega⟩
    rw [nI_pred l]
    have hk8 : b18 l = nI 1 := by rw [(hK.2 l (by omega)).2.1, pk_un (by omega), pk_us]
    refine pk_le 64 (x + 1 + ty_sp a) (fun z => absurd z (by omega)) (fun _ => pk_lt l 0 (fun z => absurd z (by omega)) (fun _ => ty_work1 hA (by omega) hst hk8 (nm_r (nI_1 _) ?_)))
    have hfin := K k (by omega) b16 b17 b18 b19 b20 b21 ⟨fun j hj => ?_, fun j hj => ?_⟩ (fun j hj => ?_) ⟨?_, hwd⟩
    · rw [show x + ty_sp (.neg a) = x + 1 + ty_sp a + 1 from (by show x + (2 + ty_sp a) = _; omega), show s + ty_sz (.neg a) = s + 1 + ty_sz a from (by show s + (1 + ty_sz a) = _; omega)] at hfin
      exact hfin
    · rw [hK.1 j (by omega), hb1 j (by omega)]
    · obtain ⟨h1, h2, h3, h4⟩ := hK.2 j (by omega)
      rw [h1, h2, h3, h4, pk_un (by omega), pk_un (by omega), pk_un (by omega)]
      exact ⟨rfl, rfl, rfl, rfl⟩
    · rw [h21 j (by omega), pk_un (by omega)]
    · rw [h21 s (by omega), pk_us]
  | add a b iha ihb =>
    intro hab l c rem s x N f0_came a16 a17 a18 a19 a20 a21 g1 g2 g3 g4 g5 g6 g7 g8 K n hn
    have ha : ty_ok a := hab.1
    have hb : ty_ok b := hab.2
    have pa := ty_sz_pos a
    have pb := ty_sz_pos b
    have g1 : l + (1 + ty_sz a + ty_sz b) ≤ 7 := g1
    have g2 : s + (1 + ty_sz a + ty_sz b) ≤ 12 := g2
    have g4 : ty_al (1 + ty_sz a + ty_sz b) * c < 1024 := g4
    have g5 : x + (3 + ty_sp a + ty_sp b) ≤ 64 := g5
    have hn : N + (3 + ty_sp a + ty_sp b) ≤ n := hn
    have g6 : ty_WG cc (1 + ty_sz a + ty_sz b) l c a16 := g6
    have g7 : a17 l = nI (1 + ty_sz a + ty_sz b) := g7
    have hsa := ty_st_lt hA.1 a ha
    have hsb := ty_st_lt hA.1 b hb
    have hra := ty_rk_lt a ha (by omega)
    have hrb := ty_rk_lt b hb (by omega)
    have hma := ty_met hA.1 hD a ha (by omega)
    have e1 : 1 + ty_sz a + ty_sz b - 1 = ty_sz a + ty_sz b := by omega
    have e2 : 1 + ty_sz a + ty_sz b - 1 - ty_sz a = ty_sz b := by omega
    have hal := ty_al_rec (1 + ty_sz a + ty_sz b) (by omega) (by omega)
    rw [e1] at hal
    -- the bounds
    have hmo := Nat.mul_le_mul_right c (ty_sm_mono (1 + ty_sz a + ty_sz b) (show ty_sz a + 1 ≤ ty_sz a + ty_sz b by omega))
    have hmo2 : (ty_sm (1 + ty_sz a + ty_sz b) (ty_sz a) + ty_al (ty_sz a) * ty_al (1 + ty_sz a + ty_sz b - 1 - ty_sz a)) * c ≤ ty_sm (1 + ty_sz a + ty_sz b) (ty_sz a + ty_sz b) * c := hmo
    rw [e2, Nat.add_mul, Nat.mul_assoc] at hmo2
    have hvb : (ty_rk b + 1) * c ≤ ty_al (ty_sz b) * c := Nat.mul_le_mul_right c hrb
    rw [Nat.add_mul, Nat.one_mul] at hvb
    have hva : (ty_rk a + 1) * (ty_al (ty_sz b) * c) ≤ ty_al (ty_sz a) * (ty_al (ty_sz b) * c) := Nat.mul_le_mul_right _ hra
    rw [Nat.add_mul, Nat.one_mul] at hva
    have g4' := g4
    rw [hal, Nat.add_mul] at g4'
    have e3 : ty_rk (.add a b) * c + rem = ty_al (1 + ty_sz a + ty_sz b - 1) * c + (ty_sm (1 + ty_sz a + ty_sz b) (ty_sz a) * c + (ty_rk a * (ty_al (ty_sz b) * c) + (ty_rk b * c + rem))) := by
      rw [e1]
      simp only [ty_rk]
      rw [Nat.add_mul, Nat.add_mul, Nat.add_mul, Nat.mul_assoc]
      omega
    rw [e3]
    have hbc : ty_al (ty_sz b) * c < 1024 := by
      have h0 : 1 * (ty_al (ty_sz b) * c) ≤ ty_al (ty_sz a) * (ty_al (ty_sz b) * c) := Nat.mul_le_mul_right _ (by have := ty_al_pos (ty_sz a) (by omega) pa; omega)
      omega
    obtain ⟨m, rfl⟩ : ∃ m, n = m + 1 := ⟨n - 1, by omega⟩
    refine pk_le 64 x (fun z => absurd z (by omega)) (fun _ => pk_lt l 0 (fun z => absurd z (by omega)) (fun _ => ty_workTop (n := 1 + ty_sz a + ty_sz b) (by omega) (by omega) (by omega) g7 g8 (ty_chooseTwo (sa := ty_sz a) hA hD pa (by omega) (by omega) (by omega) (by omega) (by rw [e2]; omega) g4 g7 g6 (fun d hd1 hd2 => nm_r (nI_1 x) ?_))))
    rw [e2] at hd2
    refine iha ha (l + 1) (ty_al (ty_sz b) * c) (ty_rk b * c + rem) (s + 1) (x + 1) (N + 2 + ty_sp b) f0_came d _ _ _ a20 _ (by omega) (by omega) (by omega) (by omega) (by omega) hd2 pk_us pk_us ?_ m (by omega)
    intro k hk b16 b17 b18 b19 b20 b21 hK h21 hwd
    obtain ⟨k, rfl⟩ : ∃ k', k = k' + 1 := ⟨k - 1, by omega⟩
    rw [nI_pred l]
    obtain ⟨q7, q8, q9, _⟩ := hK.2 l (by omega)
    rw [pk_un (by omega), g7] at q7
    rw [pk_un (by omega), pk_us] at q8
    rw [pk_us] at q9
    have hW2 : ty_WG cc (1 + ty_sz a + ty_sz b) l c b16 := by
      intro p hp h0
      rw [hK.1 _ (by omega), hd1 _ (by omega)]
      exact g6 p hp h0
    refine pk_le 64 (x + 1 + ty_sp a) (fun z => absurd z (by omega)) (fun _ => pk_lt l 0 (fun z => absurd z (by omega)) (fun _ => ty_work2 (i := ty_sz a) hA hD pa (by omega) (by omega) (by omega) hW2 hsa hma q7 q8 q9 (fun e he1 he2 => nm_r (nI_1 _) ?_)))
    rw [e2] at he2 ⊢
    refine ihb hb (l + 1) c rem (s + 1 + ty_sz a) (x + 1 + ty_sp a + 1) (N + 1) _ e _ _ b19 _ b21 (by omega) (by omega) g3 (by omega) (by omega) he2 pk_us pk_us ?_ k (by omega)
    intro i hi c16 c17 c18 c19 c20 c21 hL i21 iwd
    obtain ⟨i, rfl⟩ : ∃ i', i = i' + 1 := ⟨i - 1, by omega⟩
    rw [nI_pred l]
    obtain ⟨_, r8, _, r20⟩ := hL.2 l (by omega)
    rw [pk_un (by omega), pk_us] at r8
    rw [pk_us] at r20
    refine pk_le 64 (x + 1 + ty_sp a + 1 + ty_sp b) (fun z => absurd z (by omega)) (fun _ => pk_lt l 0 (fun z => absurd z (by omega)) (fun _ => ty_work3 hA (by omega) hsa hsb r8 r20 (nm_r (nI_1 _) ?_)))
    have hfin := K i (by omega) c16 c17 c18 c19 c20 c21 ⟨fun j hj => ?_, fun j hj => ?_⟩ (fun j hj => ?_) ⟨?_, ty_wd_congr a (s + 1) (fun j h1 h2 => i21 j (by omega)) hwd, iwd⟩
    · rw [show x + ty_sp (.add a b) = x + 1 + ty_sp a + 1 + ty_sp b + 1 from (by show x + (3 + ty_sp a + ty_sp b) = _; omega), show s + ty_sz (.add a b) = s + 1 + ty_sz a + ty_sz b from (by show s + (1 + ty_sz a + ty_sz b) = _; omega)] at hfin
      exact hfin
    · rw [hL.1 j (by omega), he1 j (by omega), hK.1 j (by omega), hd1 j (by omega)]
    · obtain ⟨h1, h2, h3, h4⟩ := hK.2 j (by omega)
      obtain ⟨i1, i2, i3, i4⟩ := hL.2 j (by omega)
      rw [i1, i2, i3, i4, pk_un (by omega), pk_un (by omega), pk_un (by omega), pk_un (by omega), h1, h2, h3, h4, pk_un (by omega), pk_un (by omega), pk_un (by omega), pk_un (by omega)]
      exact ⟨rfl, rfl, rfl, rfl⟩
    · rw [i21 j (by omega), h21 j (by omega), pk_un (by omega)]
    · rw [i21 s (by omega), h21 s (by omega), pk_us]
  | num v => intro h; exact h.elim
  | sub a b _ _ => intro h; exact h.elim
  | mulL k a _ => intro h; exact h.elim
  | mulR a k _ => intro h; exact h.elim
end
section
/-! taking over: the word read backwards -/
variable {f0_made f0_height f0_known f0_level f0_left f0_came f0_letters : Int32} {a1 a2 a3 a4 a5 a6 a7 a8 a9 a10 a11 a12 a13 a14 a15 a16 a17 a18 a19 a20 a21 : Nat → Int32}
theorem ty_FO_S {m h : Nat} {S S' : Nat → Int.Internal.Linear.Expr} {a5 a6 a7 a8 a9 : Nat → Int32} (H : ty_FO m h S a5 a6 a7 a8 a9) (e : ∀ j, j < h → S' j = S j) : ty_FO m h S' a5 a6 a7 a8 a9 := by
  obtain ⟨h1, h2, tr, sk, hn, hs⟩ := H
  refine ⟨h1, ?_, tr, sk, hn, fun j hj => by rw [e j hj]; exact hs j hj⟩
  rw [ty_su_congr (g := fun j => ty_sz (S j)) h (fun j hj => by rw [e j hj])]
  exact h2
theorem ty_FO_0 {S : Nat → Int.Internal.Linear.Expr} {a5 a6 a7 a8 a9 : Nat → Int32} : ty_FO 0 0 S a5 a6 a7 a8 a9 :=
  ⟨by omega, Nat.le_refl _, S, fun _ => 0, fun i hi => absurd hi (by omega), fun j hj => absurd hj (by omega)⟩
theorem ty_FO_swap {m g : Nat} {S : Nat → Int.Internal.Linear.Expr} {a5 a6 a7 a8 a9 : Nat → Int32} (H : ty_FO m (g + 2) S a5 a6 a7 a8 a9) : ty_FO m (g + 2) (ty_pu (ty_pu S g (S (g + 1))) (g + 1) (S g)) a5 a6 a7 a8 (upd (upd a9 (g + 1) (a9 g)) g (a9 (g + 1))) := by
  obtain ⟨h1, h2, tr, sk, hn, hs⟩ := H
  have h2 : ty_su (fun j => ty_sz (S j)) g + ty_sz (S g) + ty_sz (S (g + 1)) ≤ m := h2
  refine ⟨h1, ?_, tr, ty_up (ty_up sk (g + 1) (sk g)) g (sk (g + 1)), hn, fun j hj => ?_⟩
  · show ty_su (fun j => ty_sz (ty_pu (ty_pu S g (S (g + 1))) (g + 1) (S g) j)) g + ty_sz (ty_pu (ty_pu S g (S (g + 1))) (g + 1) (S g) g) + ty_sz (ty_pu (ty_pu S g (S (g + 1))) (g + 1) (S g) (g + 1)) ≤ m
    rw [ty_ps, ty_pn (by omega), ty_ps, ty_su_congr (g := fun j => ty_sz (S j)) g (fun j hj => by rw [ty_pn (by omega), ty_pn (by omega)])]
    omega
  · by_cases e1 : j = g
    · rw [e1, ty_us, pk_us, ty_pn (by omega), ty_ps]
      exact hs (g + 1) (by omega)
    · by_cases e2 : j = g + 1
      · rw [e2, ty_un (by omega), ty_us, pk_un (by omega), pk_us, ty_ps]
        exact hs g (by omega)
      · rw [ty_un e1, ty_un e2, pk_un e1, pk_un e2, ty_pn e2, ty_pn e1]
        exact hs j hj
theorem ty_take {post : St2 → Prop} : ∀ T, ty_ok T → ∀ (s m h N : Nat) (S : Nat → Int.Internal.Linear.Expr) (a5 a6 a7 a8 a9 : Nat → Int32), ty_wd a21 s T → ty_FO m h S a5 a6 a7 a8 a9 → m + ty_sz T ≤ 12 → s + ty_sz T ≤ 12 →
    (∀ n, N ≤ n → ∀ b5 b6 b7 b8 b9 : Nat → Int32, ty_FO (m + ty_sz T) (h + 1) (ty_pu S h T) b5 b6 b7 b8 b9 → wX_takeOver_12 post n (nI s + (-1)) (nI (m + ty_sz T)) (nI (h + 1)) f0_known f0_level f0_left f0_came f0_letters a1 a2 a3 a4 b5 b6 b7 b8 b9 a10 a11 a12 a13 a14 a15 a16 a17 a18 a19 a20 a21) →
    ∀ n, N + ty_sz T ≤ n → wX_takeOver_12 post n (nI (s + ty_sz T) + (-1)) (nI m) (nI h) f0_known f0_level f0_left f0_came f0_letters a1 a2 a3 a4 a5 a6 a7 a8 a9 a10 a11 a12 a13 a14 a15 a16 a17 a18 a19 a20 a21 := by
  intro T
  induction T with
  | var l =>
    intro hl s m h N S a5 a6 a7 a8 a9 hw hF g1 g2 K n hn
    have hl : @LT.lt Nat instLTNat l 2 := hl
    have hw : a21 s = nI l := hw
    have g1 : m + 1 ≤ 12 := g1
    have g2 : s + 1 ≤ 12 := g2
    have hn : N + 1 ≤ n := hn
    obtain ⟨n, rfl⟩ : ∃ k, n = k + 1 := ⟨n - 1, by omega⟩
    show wX_takeOver_12 post (n + 1) (nI (s + 1) + (-1)) (nI m) (nI h) f0_known f0_level f0_left f0_came f0_letters a1 a2 a3 a4 a5 a6 a7 a8 a9 a10 a11 a12 a13 a14 a15 a16 a17 a18 a19 a20 a21
    rw [pk_m1 s]
    refine pk_lt s 0 (fun z => absurd z (by omega)) (fun _ => ⟨pk_in s 12 (by omega), nm_r (show a21 (nI s).toNatClampNeg = nI l by rw [nI_clamp (by omega)]; exact hw) (pk_eq l 3 (fun z => absurd z (by omega)) (fun _ => pk_le 2 l (fun z => absurd z (by omega)) (fun _ => ty_makeL l hl hF (by omega) (fun b5 b6 b7 b8 b9 hb => nm_e (K n (by omega) b5 b6 b7 b8 b9 hb)))))⟩)
  | neg a ih =>
    intro ha s m h N S a5 a6 a7 a8 a9 hw hF g1 g2 K n hn
    have ha : ty_ok a := ha
    have hw : a21 s = nI 2 ∧ ty_wd a21 (s + 1) a := hw
    have g1 : m + (1 + ty_sz a) ≤ 12 := g1
    have g2 : s + (1 + ty_sz a) ≤ 12 := g2
    have hn : N + (1 + ty_sz a) ≤ n := hn
    show wX_takeOver_12 post n (nI (s + (1 + ty_sz a)) + (-1)) (nI m) (nI h) f0_known f0_level f0_left f0_came f0_letters a1 a2 a3 a4 a5 a6 a7 a8 a9 a10 a11 a12 a13 a14 a15 a16 a17 a18 a19 a20 a21
    rw [show s + (1 + ty_sz a) = s + 1 + ty_sz a by omega]
    refine ih ha (s + 1) m h (N + 1) S a5 a6 a7 a8 a9 hw.2 hF (by omega) (by omega) (fun n hn b5 b6 b7 b8 b9 hb => ?_) n (by omega)
    obtain ⟨n, rfl⟩ : ∃ k, n = k + 1 := ⟨n - 1, by omega⟩
    rw [pk_m1 s]
    refine pk_lt s 0 (fun z => absurd z (by omega)) (fun _ => ⟨pk_in s 12 (by omega), nm_r (show a21 (nI s).toNatClampNeg = nI 2 by rw [nI_clamp (by omega)]; exact hw.1) (pk_eq 2 3 (fun z => absurd z (by omega)) (fun _ => pk_le 2 2 (fun _ => ty_make1 hb (by omega) (fun c5 c6 c7 c8 c9 hc => nm_e ?_) rfl (pk_sub (a := 2) (b := 1) (by omega))) (fun z => absurd z (by omega))))⟩)
    have hfin := K n (by omega) c5 c6 c7 c8 c9
    rw [show m + ty_sz (.neg a) = m + ty_sz a + 1 from (by show m + (1 + ty_sz a) = _; omega)] at hfin
    refine hfin (ty_FO_S hc (fun j hj => ?_))
    by_cases e : j = h
    · rw [e, ty_ps, ty_ps, ty_ps]
    · rw [ty_pn e, ty_pn e, ty_pn e]
  | add a b iha ihb =>
    intro hab s m h N S a5 a6 a7 a8 a9 hw hF g1 g2 K n hn
    have hw : a21 s = nI 3 ∧ ty_wd a21 (s + 1) a ∧ ty_wd a21 (s + 1 + ty_sz a) b := hw
    have g1 : m + (1 + ty_sz a + ty_sz b) ≤ 12 := g1
    have g2 : s + (1 + ty_sz a + ty_sz b) ≤ 12 := g2
    have hn : N + (1 + ty_sz a + ty_sz b) ≤ n := hn
    show wX_takeOver_12 post n (nI (s + (1 + ty_sz a + ty_sz b)) + (-1)) (nI m) (nI h) f0_known f0_level f0_left f0_came f0_letters a1 a2 a3 a4 a5 a6 a7 a8 a9 a10 a11 a12 a13 a14 a15 a16 a17 a18 a19 a20 a21
    rw [show s + (1 + ty_sz a + ty_sz b) = s + 1 + ty_sz a + ty_sz b by omega]
    refine ihb hab.2 (s + 1 + ty_sz a) m h (N + 1 + ty_sz a) S a5 a6 a7 a8 a9 hw.2.2 hF (by omega) (by omega) (fun n hn b5 b6 b7 b8 b9 hb => ?_) n (by omega)
    refine iha hab.1 (s + 1) (m + ty_sz b) (h + 1) (N + 1) _ b5 b6 b7 b8 b9 hw.2.1 hb (by omega) (by omega) (fun n hn c5 c6 c7 c8 c9 hc => ?_) n (by omega)
    obtain ⟨n, rfl⟩ : ∃ k, n = k + 1 := ⟨n - 1, by omega⟩
    have hh := ty_FO_h hc
    have hsw := ty_FO_swap (g := h) hc
    obtain ⟨_, _, tr, sk, hnn, hs⟩ := hc
    obtain ⟨q1, q2, _⟩ := hs h (by omega)
    obtain ⟨r1, r2, _⟩ := hs (h + 1) (by omega)
    have em1 : nI (h + 1 + 1) - 1 = nI (h + 1) := nI_pred (h + 1)
    have em2 : nI (h + 1 + 1) - 2 = nI h := pk_sub (a := h + 1 + 1) (b := 2) (by omega)
    rw [pk_m1 s]
    refine pk_lt s 0 (fun z => absurd z (by omega)) (fun _ => ⟨pk_in s 12 (by omega), nm_r (show a21 (nI s).toNatClampNeg = nI 3 by rw [nI_clamp (by omega)]; exact hw.1) (br_t rfl ?_)⟩)
    rw [em1, em2, nI_clamp (show h + 1 < 2 ^ 31 by omega), nI_clamp (show h < 2 ^ 31 by omega), q2, ty_nar (by omega), r2, ← q2]
    refine ⟨pk_in (h + 1) 12 (by omega), nm_e ⟨pk_in h 12 (by omega), pk_in (h + 1) 12 (by omega), nm_e ⟨pk_in h 12 (by omega), ?_⟩⟩⟩
    rw [ty_nar (by omega), ← r2]
    refine nm_e (pk_le 2 3 (fun _ => ty_make2 hsw (by omega) (fun d5 d6 d7 d8 d9 hd => nm_e ?_) rfl (pk_sub (a := 3) (b := 1) (by omega))) (fun z => absurd z (by omega)))
    have hfin := K n (by omega) d5 d6 d7 d8 d9
    rw [show m + ty_sz (.add a b) = m + ty_sz b + ty_sz a + 1 from (by show m + (1 + ty_sz a + ty_sz b) = _; omega)] at hfin
    refine hfin (ty_FO_S hd (fun j hj => ?_))
    by_cases e : j = h
    · rw [e, ty_ps, ty_ps]
      rw [ty_pn (by omega), ty_ps, ty_ps, ty_ps, ty_pn (by omega), ty_ps]
    · rw [ty_pn e, ty_pn e, ty_pn (by omega), ty_pn e, ty_pn (by omega), ty_pn e]
  | num v => intro h; exact h.elim
  | sub a b _ _ => intro h; exact h.elim
  | mulL k a _ => intro h; exact h.elim
  | mulR a k _ => intro h; exact h.elim
theorem ty_takeOver {post : St2 → Prop} {T : Int.Internal.Linear.Expr} (hT : ty_ok T) (hs : ty_sz T ≤ 12) (hw : ty_wd a21 0 T) (H : ∀ b5 b6 b7 b8 b9 : Nat → Int32, ty_FO (ty_sz T) 1 (fun _ => T) b5 b6 b7 b8 b9 → post ((nI (ty_sz T)), (nI 1), f0_known, f0_level, f0_left, f0_came, (nI (ty_sz T)), a1, a2, a3, a4, b5, b6, b7, b8, b9, a10, a11, a12, a13, a14, a15, a16, a17, a18, a19, a20, a21)) :
    wpX_takeOver post (f0_made, f0_height, f0_known, f0_level, f0_left, f0_came, (nI (ty_sz T)), a1, a2, a3, a4, a5, a6, a7, a8, a9, a10, a11, a12, a13, a14, a15, a16, a17, a18, a19, a20, a21) := by
  refine nm_r (show nI (ty_sz T) - 1 = nI (0 + ty_sz T) + (-1) by rw [Nat.zero_add]; exact Int32.sub_eq_add_neg _ _) ?_
  refine ⟨1 + ty_sz T, ty_take T hT 0 0 0 1 (fun _ => T) a5 a6 a7 a8 a9 hw ty_FO_0 (by omega) (by omega) (fun n hn b5 b6 b7 b8 b9 hb => ?_) _ (Nat.le_refl _)⟩
  obtain ⟨n, rfl⟩ : ∃ k, n = k + 1 := ⟨n - 1, by omega⟩
  rw [Nat.zero_add] at hb ⊢
  exact br_t (by decide) (H b5 b6 b7 b8 b9 (ty_FO_S hb (fun j hj => by rw [show j = 0 by omega, ty_ps])))
end
section
/-! loading a tree by its number -/
variable {f0_made f0_height f0_known f0_level f0_left f0_came f0_letters : Int32} {a1 a2 a3 a4 a5 a6 a7 a8 a9 a10 a11 a12 a13 a14 a15 a16 a17 a18 a19 a20 a21 : Nat → Int32}
theorem ty_load {post : Int32 → St2 → Prop} {x y : Int32} {lf on tw : Nat → Nat} {fn : Nat} {T : Int.Internal.Linear.Expr} (hA : ty_AU lf on tw fn a1 a2 a3 a4) (hT : ty_ok T) (hs : ty_sz T ≤ 7)
    (H : ∀ (g1 g2 g3 g4 : Int32) (b5 b6 b7 b8 b9 b14 b16 b17 b18 b19 b20 b21 : Nat → Int32), ty_FO (ty_sz T) 1 (fun _ => T) b5 b6 b7 b8 b9 → post 0 ((nI (ty_sz T)), (nI 1), 1, g1, g2, g3, g4, a1, a2, a3, a4, b5, b6, b7, b8, b9, a10, a11, a12, a13, b14, a15, b16, b17, b18, b19, b20, b21)) (hx : x = nI (ty_sz T) := by rfl) (hy : y = nI (ty_rk T) := by rfl) :
    wpX_load post (f0_made, f0_height, 0, f0_level, f0_left, f0_came, f0_letters, a1, a2, a3, a4, a5, a6, a7, a8, a9, a10, a11, a12, a13, a14, a15, a16, a17, a18, a19, a20, a21) 6 x y := by
  subst hx
  subst hy
  have hz := ty_sz_pos T
  have hrk := ty_rk_lt T hT (by omega)
  have hal := ty_al_7 (ty_sz T) (by omega)
  have hsp := ty_sp_le T
  refine br_f (by decide) (br_t (by decide) (br_t rfl (pk_lt (ty_sz T) 1 (fun z => absurd z (by omega)) (fun _ => pk_le (ty_sz T) 7 (fun _ => ty_find hA (fun cc b14 hc hR => ?_)) (fun z => absurd z (by omega))))))
  refine ty_countOf ⟨hc, hR⟩ (by omega) (pk_lt (ty_rk T) 0 (fun z => absurd z (by omega)) (fun _ => pk_lt (ty_rk T) (ty_al (ty_sz T)) (fun _ => ?_) (fun z => absurd z (by omega))))
  refine pk_loop (fun f p s => wX_load_49 post 6 (nI (ty_sz T)) (nI (ty_rk T)) f0_made f0_height 1 f0_level f0_left f0_came f0_letters f (nI p) a1 a2 a3 a4 a5 a6 a7 a8 a9 a10 a11 a12 a13 b14 a15 s a17 a18 a19 a20 a21) (fun p s => ∀ j, j < p → s j = nI 1) 256 0 a16 (by omega) (fun j hj => absurd hj (by omega)) ?_ ?_
  · intro f s h
    refine pk_le 256 256 (fun _ => ty_start 0 (ty_sz T) (by omega) (by omega) ?_ (by decide)) (fun z => absurd z (by omega))
    refine ⟨1 + ty_sp T, ?_⟩
    have hwk := ty_walk (post := post) (f0_made := f0_made) (f0_height := f0_height) (f0_known := 1) (a5 := a5) (a6 := a6) (a7 := a7) (a8 := a8) (a9 := a9) (a10 := a10) (a11 := a11) (a12 := a12) (a13 := a13) (a15 := a15) hA ⟨hc, hR⟩ T hT 0 1 0 0 0 1 f0_came s (upd a17 0 (nI (ty_sz T))) (upd a18 0 (nI 0)) a19 a20 a21 (by omega) (by omega) (by omega) (by omega) (by omega) (fun p hp _ => ?_) pk_us pk_us (fun n hn b16 b17 b18 b19 b20 b21 _ _ hwd => ?_) (1 + ty_sp T) (Nat.le_refl _)
    · rw [Nat.mul_one, Nat.add_zero] at hwk
      exact hwk
    · rw [Nat.mul_zero, Nat.zero_add]
      exact h p hp
    · obtain ⟨n, rfl⟩ : ∃ k, n = k + 1 := ⟨n - 1, by omega⟩
      rw [Nat.zero_add, Nat.zero_add]
      exact pk_le 64 (ty_sp T) (fun z => absurd z (by omega)) (fun _ => br_t (by decide) (ty_takeOver hT (by omega) hwd (fun b5 b6 b7 b8 b9 hb => H _ _ _ _ b5 b6 b7 b8 b9 b14 b16 b17 b18 b19 b20 b21 hb)))
  · intro f p s hp h hw
    refine pk_le 256 p (fun z => absurd z (by omega)) (fun _ => ty_isOf (br_f (by decide) ⟨pk_in p 2048 (by omega), nm_e (nm_r (nI_1 p) (hw _ (fun j hj => ?_)))⟩))
    rw [nI_clamp (show p < 2 ^ 31 by omega)]
    by_cases e : j = p
    · rw [e, pk_us]; rfl
    · rw [pk_un e]; exact h j (by omega)
theorem ty_load_bad {post : Int32 → St2 → Prop} {x y : Int32} (n : Nat) (hn : 8 ≤ n) (hb : n < 1000) (H : post (-1) (f0_made, f0_height, f0_known, f0_level, f0_left, f0_came, f0_letters, a1, a2, a3, a4, a5, a6, a7, a8, a9, a10, a11, a12, a13, a14, a15, a16, a17, a18, a19, a20, a21)) (hx : x = nI n := by rfl) : wpX_load post (f0_made, f0_height, f0_known, f0_level, f0_left, f0_came, f0_letters, a1, a2, a3, a4, a5, a6, a7, a8, a9, a10, a11, a12, a13, a14, a15, a16, a17, a18, a19, a20, a21) 6 x y := by
  subst hx
  exact br_f (by decide) (br_t (by decide) (br_t rfl (pk_lt n 1 (fun z => absurd z (by omega)) (fun _ => pk_le n 7 (fun z => absurd z (by omega)) (fun _ => H)))))
end
section
/-! nibbles of longs (rows on lN after kit/laws/BITS.to-paste, renamed) -/
theorem ty_lb (n : Nat) : (lN n).toBitVec = BitVec.ofNat 64 n := rfl
theorem ty_linj {a b : Int64} (h : a.toBitVec = b.toBitVec) : a = b := Int64.toBitVec_inj.mp h
theorem ty_lc : ∀ k, k < 64 → ((nI k).toInt64 &&& 63) = lN k := by decide +kernel
theorem ty_lsm : ∀ k, k < 64 → (BitVec.ofNat 64 k).smod 64 = BitVec.ofNat 64 k := by decide +kernel
theorem ty_lshl (n : Nat) {k : Nat} (hk : k < 64) : lN n <<< ((nI k).toInt64 &&& 63) = lN (n * 2 ^ k) := by
  rw [ty_lc k hk]
  apply ty_linj
  rw [Int64.toBitVec_shiftLeft, ty_lb, ty_lb, ty_lb, ty_lsm k hk]
  apply BitVec.eq_of_toNat_eq
  rw [BitVec.shiftLeft_eq', BitVec.toNat_shiftLeft, BitVec.toNat_ofNat, BitVec.toNat_ofNat, BitVec.toNat_ofNat, Nat.mod_eq_of_lt (show k < 2 ^ 64 by omega), Nat.shiftLeft_eq, Nat.mul_mod, Nat.mod_mod, ← Nat.mul_mod]
theorem ty_lutn {n : Nat} (h : n < 2 ^ 64) : (UInt64.ofNat n).toNat = n := Nat.mod_eq_of_lt h
theorem ty_land {a b c : Nat} (ha : a < 2 ^ 64) (hb : b < 2 ^ 64) (hc : a &&& b = c) : lN a &&& lN b = lN c := by
  subst hc
  have h : UInt64.ofNat a &&& UInt64.ofNat b = UInt64.ofNat (a &&& b) := UInt64.toNat_inj.mp (by rw [UInt64.toNat_and, ty_lutn ha, ty_lutn hb, ty_lutn (Nat.and_lt_two_pow a hb)])
  have h2 := congrArg UInt64.toInt64 h
  exact h2
theorem ty_lmask {a s : Nat} (hs : s < 64) (ha : a < 2 ^ 64) : lN a &&& lN (2 ^ s - 1) = lN (a % 2 ^ s) := by
  have := Nat.pow_lt_pow_right (show 1 < 2 by decide) hs
  exact ty_land ha (by omega) (Nat.and_two_pow_sub_one_eq_mod a s)
theorem ty_lor {k a b : Nat} (ha : a < 2 ^ k) (h : a + b * 2 ^ k < 2 ^ 64) : lN a ||| lN (b * 2 ^ k) = lN (a + b * 2 ^ k) := by
  have h1 : b * 2 ^ k ||| a = b * 2 ^ k + a := by rw [← Nat.shiftLeft_eq, Nat.shiftLeft_add_eq_or_of_lt ha]
  have h3 : UInt64.ofNat (b * 2 ^ k) ||| UInt64.ofNat a = UInt64.ofNat (b * 2 ^ k + a) := UInt64.toNat_inj.mp (by rw [UInt64.toNat_or, ty_lutn (by omega), ty_lutn (by omega), ty_lutn (by omega), h1])
  have h2 : lN (b * 2 ^ k) ||| lN a = lN (b * 2 ^ k + a) := congrArg UInt64.toInt64 h3
  rw [Int64.or_comm, h2, Nat.add_comm]
theorem ty_lI {a : Nat} (h : a < 2 ^ 63) : (lN a).toInt = (a : Int) := lg_ofNat_toInt h
theorem ty_lshr {a d : Nat} {D : Int64} (hD : (D.toBitVec.smod 64).toNat = d) (h : a < 2 ^ 62) : lN a >>> D = lN (a / 2 ^ d) := by
  have hd : a / 2 ^ d ≤ a := Nat.div_le_self _ _
  apply Int64.toInt_inj.mp
  have e : (lN a >>> D).toInt = (lN a).toInt >>> d := by
    rw [← hD]
    exact BitVec.toInt_sshiftRight ..
  rw [e, Int.shiftRight_eq_div_pow, ty_lI (by omega), ty_lI (by omega)]
  rfl
/-! the tables: nibble j of a long -/
def ty_nb (x : Int64) (j : Nat) : Nat := ((x >>> ((nI (4 * j)).toInt64 &&& 63)).toInt32).toBitVec.toNat % 2 ^ 4
theorem ty_nb_lt (x : Int64) (j : Nat) : ty_nb x j < 16 := Nat.mod_lt _ (by decide)
theorem ty_nb_eq (x : Int64) (j : Nat) : ((x >>> ((nI (4 * j)).toInt64 &&& 63)).toInt32) &&& 15 = nI (ty_nb x j) := pk_and _ 4 (by decide)
theorem ty_4 (j : Nat) : (4 : Int32) * nI j = nI (4 * j) := pk_mul 4 j
theorem ty_44 (g : Nat) : (4 : Int32) * nI (g + 1) - 4 = nI (4 * g) := by
  rw [ty_4]
  have h := pk_sub (a := 4 * (g + 1)) (b := 4) (by omega)
  rw [show 4 * (g + 1) - 4 = 4 * g by omega] at h
  exact h
theorem ty_4p (g : Nat) : (4 : Int32) * nI g + 4 = nI (4 * (g + 1)) := by
  rw [ty_4]
  exact nI_add (4 * g) 4
/-- the low h nibbles of v are w 0 .. w (h - 1), and there is no more -/
def ty_NW (h : Nat) (w : Nat → Nat) (v : Int64) : Prop := ∃ n, v = lN n ∧ n < 16 ^ h ∧ ∀ j, j < h → n / 16 ^ j % 16 = w j
theorem ty_NW_0 (w : Nat → Nat) : ty_NW 0 w 0 := ⟨0, rfl, by decide, fun j hj => absurd hj (by omega)⟩
theorem ty_p16 (j : Nat) : 2 ^ (4 * j) = 16 ^ j := by rw [Nat.pow_mul]
theorem ty_16le {h : Nat} (hh : h ≤ 12) : 16 ^ h ≤ 281474976710656 := by
  have := Nat.pow_le_pow_right (show 0 < 16 by decide) hh
  exact this
theorem ty_NW_get {h : Nat} {w : Nat → Nat} {v : Int64} (H : ty_NW h w v) (hh : h ≤ 12) {j : Nat} (hj : j < h) : ((v >>> ((nI (4 * j)).toInt64 &&& 63)).toInt32) &&& 15 = nI (w j) := by
  obtain ⟨n, rfl, h1, h2⟩ := H
  have hb := ty_16le hh
  rw [ty_lshr (d := 4 * j) (by rw [ty_lc (4 * j) (by omega), ty_lb, ty_lsm (4 * j) (by omega), BitVec.toNat_ofNat]; exact Nat.mod_eq_of_lt (by omega)) (by omega), lN_i, ty_p16]
  have e : nI (n / 16 ^ j) &&& 15 = nI (n / 16 ^ j &&& 15) := ty_and _ 15
  rw [e, show n / 16 ^ j &&& 15 = n / 16 ^ j % 16 from Nat.and_two_pow_sub_one_eq_mod _ 4, h2 j hj]
theorem ty_NW_put {h g r : Nat} {w : Nat → Nat} {v : Int64} (H : ty_NW h w v) (hh : h ≤ 12) (hg : g ≤ h) (hg2 : g < 12) (hr : r < 16) :
    ty_NW (g + 1) (ty_up w g r) ((v &&& (((1 : Int64) <<< ((nI (4 * g)).toInt64 &&& 63)) - 1)) ||| ((nI r).toInt64 <<< ((nI (4 * g)).toInt64 &&& 63))) := by
  obtain ⟨n, rfl, h1, h2⟩ := H
  have hb := ty_16le hh
  have hb2 := ty_16le (show g + 1 ≤ 12 by omega)
  have hp : 0 < 16 ^ g := Nat.pow_pos (by decide)
  have hm : n % 16 ^ g < 16 ^ g := Nat.mod_lt _ hp
  have hr2 : r * 16 ^ g ≤ 15 * 16 ^ g := Nat.mul_le_mul_right _ (by omega)
  rw [Nat.pow_succ] at hb2
  have e1 : (1 : Int64) <<< ((nI (4 * g)).toInt64 &&& 63) = lN (16 ^ g) := by
    have h := ty_lshl 1 (show 4 * g < 64 by omega)
    rw [Nat.one_mul, ty_p16] at h
    exact h
  have e2 : lN (16 ^ g) - 1 = lN (16 ^ g - 1) := lN_sub (a := 16 ^ g) (b := 1) (by omega)
  refine ⟨n % 16 ^ g + r * 16 ^ g, ?_, ?_, ?_⟩
  · rw [e1, e2, nI_l (show r < 2 ^ 31 by omega), ty_lshl r (show 4 * g < 64 by omega), ← ty_p16, ty_lmask (by omega) (by omega), ty_lor (by rw [ty_p16]; exact hm) (by rw [ty_p16]; omega)]
  · rw [Nat.pow_succ]; omega
  · intro j hj
    by_cases e : j = g
    · rw [e, ty_us, Nat.add_mul_div_right _ _ hp, Nat.div_eq_of_lt hm, Nat.zero_add, Nat.mod_eq_of_lt hr]
    · rw [ty_un e, ← h2 j (by omega)]
      have hj2 : 16 ^ g = 16 ^ j * (16 * 16 ^ (g - j - 1)) := by
        rw [← Nat.pow_succ', ← Nat.pow_add]
        congr 1
        omega
      rw [hj2, show r * (16 ^ j * (16 * 16 ^ (g - j - 1))) = 16 ^ j * (16 * (r * 16 ^ (g - j - 1))) from (by rw [Nat.mul_left_comm r, Nat.mul_left_comm r]), Nat.add_mul_div_left _ _ (Nat.pow_pos (by decide)), Nat.mod_mul_right_div_self, Nat.add_mul_mod_self_left, Nat.mod_mul_right_mod]
theorem ty_NW_congr {h : Nat} {w w' : Nat → Nat} {v : Int64} (H : ty_NW h w v) (e : ∀ j, j < h → w' j = w j) : ty_NW h w' v := by
  obtain ⟨n, h0, h1, h2⟩ := H
  exact ⟨n, h0, h1, fun j hj => by rw [e j hj]; exact h2 j hj⟩
end
section
/-! the law's own sets, its totals, its cells -/
theorem ty_cell {post : Int32 → Prop} {L : Nat} {xs : Nat → Int32} {u : St0} {x : Int32} (i : Nat) (hi : i < 100) (hL : L < 100) (H : ∀ r, post r) (hx : x = nI i := by rfl) : wpL_cellAt post L xs u x := by
  subst hx
  exact pk_le L i (fun _ => H 0) (fun z => ⟨pk_in i L z, H _⟩)
theorem ty_total7 {post : Int32 → Prop} {n : Nat} (h : n < 8) (h2 : 6 < n) (H : post (nI (ty_al n))) : post 382 := by
  have z : n = 7 := by omega
  subst z
  exact H
theorem ty_total {post : Int32 → Prop} {u : St0} {n : Nat} (h1 : 1 ≤ n) (h7 : n < 8) (H : post (nI (ty_al n))) : wpL_total post u (nI n) :=
  pk_le 1 n (fun _ => pk_le 3 n
    (fun _ => pk_eq n 3 (fun z => by subst z; exact H) (fun _ => pk_eq n 4 (fun z => by subst z; exact H) (fun _ => pk_eq n 5 (fun z => by subst z; exact H) (fun _ => pk_eq n 6 (fun z => by subst z; exact H) (fun _ => ty_total7 h7 (by omega) H)))))
    (fun z => by
      have z : n = 1 ∨ n = 2 := by omega
      rcases z with z | z
      · subst z; exact H
      · subst z; exact H)) (fun z => absurd z (by omega))
theorem ty_LS0 {post : Int32 → Prop} {u : St0} {x7 x9 x11 : Int64} {p q : Int32} {l : Nat} (hl : l < 2) (H : post (nI (ty_nb x7 l))) : wpL_states post u x7 x9 x11 0 (nI l) p q := by
  refine pk_le 2 l (fun z => absurd z (by omega)) (fun _ => ?_)
  have e : (8 : Int32) * 0 + 4 * nI l = nI (4 * l) := by
    rw [ty_4]
    exact ty_c0 8 (4 * l)
  rw [e, ty_nb_eq]
  exact H
theorem ty_LS2 {post : Int32 → Prop} {u : St0} {x7 x9 x11 : Int64} {q : Int32} {p : Nat} (hp : p < 16) (H : post (nI (ty_o1 (ty_nb x9) p 4))) : wpL_states post u x7 x9 x11 0 2 (nI p) q := by
  refine br_t (by decide) ?_
  refine pk_loop (fun f i s => wL_states_29 post x9 x11 0 2 (nI p) q f s (nI i)) (fun i s => s = nI (ty_o1 (ty_nb x9) p (min i 4))) 16 0 0 (by omega) rfl ?_ ?_
  · intro f s h
    refine pk_le 16 16 (fun _ => ?_) (fun z => absurd z (by omega))
    rw [h]
    exact H
  · intro f i s hi h hw
    refine pk_le 16 i (fun z => absurd z (by omega)) (fun _ => nm_r (ty_m3 (by omega)) (nm_r (ty_s2r (by omega)) (br_t rfl (pk_eq (i / 4) 0 (fun z => ?_) (fun z => br_f (by decide) (nm_r (nI_1 i) (hw s ?_)))))))
    · rw [show i % 4 = i by omega]
      rw [show min i 4 = i by omega] at h
      have e : (16 : Int32) * 0 + 4 * nI i = nI (4 * i) := by
        rw [ty_4]
        exact ty_c0 16 (4 * i)
      refine ty_ifbit p i (fun zb => nm_e (br_f (by decide) (nm_r (nI_1 i) (hw _ ?_)))) (fun zb => br_f (by decide) (nm_r (nI_1 i) (hw s ?_)))
      · rw [e, ty_nb_eq, h, ty_or, show min (i + 1) 4 = i + 1 by omega]
        simp only [ty_o1]
        rw [if_pos zb]
      · rw [h, show min (i + 1) 4 = i + 1 by omega]
        simp only [ty_o1]
        rw [if_neg zb]
    · rw [h, show min (i + 1) 4 = min i 4 by omega]
theorem ty_LS3 {post : Int32 → Prop} {u : St0} {x7 x9 x11 : Int64} {p q : Nat} (hp : p < 16) (hq : q < 16) (H : post (nI (ty_o2 (ty_nb x11) p q 16))) : wpL_states post u x7 x9 x11 0 3 (nI p) (nI q) := by
  refine br_t (by decide) ?_
  refine pk_loop (fun f i s => wL_states_29 post x9 x11 0 3 (nI p) (nI q) f s (nI i)) (fun i s => s = nI (ty_o2 (ty_nb x11) p q i)) 16 0 0 (by omega) rfl ?_ ?_
  · intro f s h
    refine pk_le 16 16 (fun _ => ?_) (fun z => absurd z (by omega))
    rw [h]
    exact H
  · intro f i s hi h hw
    refine pk_le 16 i (fun z => absurd z (by omega)) (fun _ => nm_r (ty_m3 (by omega)) (nm_r (ty_s2r (by omega)) (br_f (by decide) (br_t rfl (ty_ifbit p (i % 4) (fun z1 => ty_ifbit q (i / 4) (fun z2 => nm_e (nm_r (nI_1 i) (hw _ ?_))) (fun z2 => nm_r (nI_1 i) (hw s ?_))) (fun z1 => nm_r (nI_1 i) (hw s ?_)))))))
    · rw [ty_4, ty_nb_eq, h, ty_or]
      simp only [ty_o2]
      rw [if_pos ⟨z1, z2⟩]
    · rw [h]
      simp only [ty_o2]
      rw [if_neg (fun z => z2 z.2)]
    · rw [h]
      simp only [ty_o2]
      rw [if_neg (fun z => z1 z.1)]
end
section
/-! the law's checks after each tree that is made -/
variable {f0_made f0_height f0_known f0_level f0_left f0_came f0_letters : Int32} {a1 a2 a3 a4 a5 a6 a7 a8 a9 a10 a11 a12 a13 a14 a15 a16 a17 a18 a19 a20 a21 : Nat → Int32}
variable {post : Int32 → St0 → Prop} {mc ms kc ks : Nat} {J : Int64 → Int64 → Int32 → Int32 → Int32 → Int32 → Int32 → Int32 → Int32 → Int32 → Int32 → (Nat → Int32) → (Nat → Int32) → (Nat → Int32) → (Nat → Int32) → (Nat → Int32) → (Nat → Int32) → (Nat → Int32) → (Nat → Int32) → (Nat → Int32) → (Nat → Int32) → (Nat → Int32) → (Nat → Int32) → (Nat → Int32) → (Nat → Int32) → (Nat → Int32) → (Nat → Int32) → (Nat → Int32) → (Nat → Int32) → (Nat → Int32) → (Nat → Int32) → (Nat → Int32) → Prop} {x3 x4 x17 x18 x19 : Int32} {x7 x9 x11 x13 x15 : Int64}
theorem ty_rk_b {T : Int.Internal.Linear.Expr} (h : ty_ok T) (hs : ty_sz T ≤ 12) : ty_rk T < 145950 := by
  have h1 := ty_rk_lt T h hs
  have h2 := ty_al_max (ty_sz T) (by omega)
  omega
theorem ty_lt2 {T : Int.Internal.Linear.Expr} (h : ty_ok T) (h2 : ty_lt T = 2) : 1 < ty_sz T := by
  cases T with
  | var l => exact absurd h2 (Nat.ne_of_lt h)
  | neg a => have := ty_sz_pos a; show 1 < 1 + ty_sz a; omega
  | add a b => exact absurd (show (3 : Nat) = 2 from h2) (by decide)
  | num v => exact h.elim
  | sub a b => exact h.elim
  | mulL k a => exact h.elim
  | mulR a k => exact h.elim
theorem ty_lt4 {T : Int.Internal.Linear.Expr} (h : ty_ok T) : ty_lt T < 4 := by
  cases T with
  | var l => exact Nat.lt_trans h (by decide)
  | neg a => exact (by decide : 2 < 4)
  | add a b => exact (by decide : 3 < 4)
  | num v => exact h.elim
  | sub a b => exact h.elim
  | mulL k a => exact h.elim
  | mulR a k => exact h.elim
theorem ty_643 {k m h : Nat} {S : Nat → Int.Internal.Linear.Expr} (hF : ty_FO m h S a5 a6 a7 a8 a9) (hL : ty_AL a15) (hh : 0 < h) (K : ∀ b12 : Nat → Int32, J x13 x15 x18 (nI (k + 1)) f0_made (nI h) f0_known f0_level f0_left f0_came f0_letters a1 a2 a3 a4 a5 a6 a7 a8 a9 a10 a11 b12 a13 a14 a15 a16 a17 a18 a19 a20 a21) :
    wL_lawOf_643 post mc ms J x3 x4 x7 x9 x11 x13 x15 x17 x18 x19 (nI k) kc ks f0_made (nI h) f0_known f0_level f0_left f0_came f0_letters a1 a2 a3 a4 a5 a6 a7 a8 a9 a10 a11 a12 a13 a14 a15 a16 a17 a18 a19 a20 a21 := by
  have ht := ty_FO_at hF (show h - 1 < h by omega)
  have hb := ty_rk_b ht.1 ht.2
  unfold wL_lawOf_643
  exact ty_rank hF hL hh (fun b => pk_le 0 (ty_rk (S (h - 1))) (fun _ => nm_r (nI_1 k) (K b)) (fun z => absurd z (by omega)))
theorem ty_623 {k m h : Nat} {S : Nat → Int.Internal.Linear.Expr} (hF : ty_FO m h S a5 a6 a7 a8 a9) (hL : ty_AL a15) (hh : 0 < h) (K : ∀ b12 : Nat → Int32, J x13 x15 x18 (nI (k + 1)) f0_made (nI h) f0_known f0_level f0_left f0_came f0_letters a1 a2 a3 a4 a5 a6 a7 a8 a9 a10 a11 b12 a13 a14 a15 a16 a17 a18 a19 a20 a21) :
    wL_lawOf_623 post mc ms J x3 x4 x7 x9 x11 x13 x15 x17 x18 x19 (nI k) (nI (ty_sz (S (h - 1)))) kc ks f0_made (nI h) f0_known f0_level f0_left f0_came f0_letters a1 a2 a3 a4 a5 a6 a7 a8 a9 a10 a11 a12 a13 a14 a15 a16 a17 a18 a19 a20 a21 := by
  have ht := ty_FO_at hF (show h - 1 < h by omega)
  have hb := ty_rk_lt _ ht.1 ht.2
  have hb2 := ty_al_max (ty_sz (S (h - 1))) (by omega)
  have hp := ty_sz_pos (S (h - 1))
  refine pk_le 8 (ty_sz (S (h - 1))) (fun _ => ty_643 hF hL hh K) (fun z => ?_)
  exact ty_rank hF hL hh (fun b => ty_total hp z (pk_le (ty_al (ty_sz (S (h - 1)))) (ty_rk (S (h - 1))) (fun z => absurd z (by omega)) (fun _ => ty_643 hF hL hh (fun b12 => K b12))))
theorem ty_573 {k m h fn : Nat} {S : Nat → Int.Internal.Linear.Expr} {lf on tw : Nat → Nat} {z : Int32} (hA : ty_AU lf on tw fn a1 a2 a3 a4) (hF : ty_FO m h S a5 a6 a7 a8 a9) (hL : ty_AL a15) (hh : 0 < h) (K : ∀ b10 b11 b12 b13 : Nat → Int32, J x13 x15 x18 (nI (k + 1)) f0_made (nI h) f0_known f0_level f0_left f0_came f0_letters a1 a2 a3 a4 a5 a6 a7 a8 a9 b10 b11 b12 b13 a14 a15 a16 a17 a18 a19 a20 a21) :
    wL_lawOf_573 post mc ms J x3 x4 x7 x9 x11 x13 x15 x17 x18 x19 (nI k) (nI (ty_lt (S (h - 1)))) (nI (ty_sz (S (h - 1)))) z z kc ks f0_made (nI h) f0_known f0_level f0_left f0_came f0_letters a1 a2 a3 a4 a5 a6 a7 a8 a9 a10 a11 a12 a13 a14 a15 a16 a17 a18 a19 a20 a21 := by
  have ht := ty_FO_at hF (show h - 1 < h by omega)
  have hl4 := ty_lt4 ht.1
  refine br_t rfl (ty_letter (ty_sz (S (h - 1))) hF hh ht.2 (fun b10 b11 r _ k1 _ => br_t (k1 (Nat.le_refl _)) ?_))
  refine ty_states (q := 1) hA hF hh (by omega) (fun b12 => br_t rfl ?_)
  refine ty_runs (lf := fun _ => 0) (on := fun _ => 0) (tw := fun _ => 0) (fn := 0) 1 (by omega) ⟨fun _ _ => (by decide : 0 < 16), fun _ _ => (by decide : 0 < 16), fun _ _ => (by decide : 0 < 16)⟩ (by decide) (fun l hl => (hA.2.2.1 l hl).2) (fun j hj => (hA.2.2.2.1 j hj).2) (fun j hj => (hA.2.2.2.2.1 j hj).2) hA.2.2.2.2.2.2 hF hh (fun b13 => br_t (by rw [ty_rs_0]; rfl) ?_)
  refine pk_eq (ty_lt (S (h - 1))) 2 (fun z => ?_) (fun z => ty_623 hF hL hh (fun c12 => K b10 b11 c12 b13))
  refine ty_letter 1 hF hh (by omega) (fun c10 c11 r _ _ k2 => ?_)
  obtain ⟨c, hc, er⟩ := k2 (ty_lt2 ht.1 z)
  exact pk_lt c 0 (fun z => absurd z (by omega)) (fun _ => ty_623 hF hL hh (fun c12 => K c10 c11 c12 b13)) er
theorem ty_573' {k m g fn : Nat} {S : Nat → Int.Internal.Linear.Expr} {lf on tw : Nat → Nat} (z : Int32) (hA : ty_AU lf on tw fn a1 a2 a3 a4) (hF : ty_FO m (g + 1) S a5 a6 a7 a8 a9) (hL : ty_AL a15) (K : ∀ b10 b11 b12 b13 : Nat → Int32, J x13 x15 x18 (nI (k + 1)) f0_made (nI (g + 1)) f0_known f0_level f0_left f0_came f0_letters a1 a2 a3 a4 a5 a6 a7 a8 a9 b10 b11 b12 b13 a14 a15 a16 a17 a18 a19 a20 a21) :
    wL_lawOf_573 post mc ms J x3 x4 x7 x9 x11 x13 x15 x17 x18 x19 (nI k) (nI (ty_lt (S g))) (nI (ty_sz (S g))) z z kc ks f0_made (nI (g + 1)) f0_known f0_level f0_left f0_came f0_letters a1 a2 a3 a4 a5 a6 a7 a8 a9 a10 a11 a12 a13 a14 a15 a16 a17 a18 a19 a20 a21 := by
  have h := ty_573 (post := post) (mc := mc) (ms := ms) (kc := kc) (ks := ks) (J := J) (x3 := x3) (x4 := x4) (x17 := x17) (x18 := x18) (x19 := x19) (x7 := x7) (x9 := x9) (x11 := x11) (x13 := x13) (x15 := x15) (z := z) (a10 := a10) (a11 := a11) (a12 := a12) (a13 := a13) hA hF hL (by omega) K
  rw [Nat.add_sub_cancel] at h
  exact h
theorem ty_437 {k m g h0 fn : Nat} {S : Nat → Int.Internal.Linear.Expr} {w13 w15 : Nat → Nat} {x25 x26 : Int32} (hA : ty_AU (ty_nb x7) (ty_nb x9) (ty_nb x11) fn a1 a2 a3 a4) (hF : ty_FO m (g + 1) S a5 a6 a7 a8 a9) (hL : ty_AL a15)
    (hst : ∀ ψ : Int32 → Prop, ψ (nI (ty_st (ty_nb x7) (ty_nb x9) (ty_nb x11) (S g))) → wpL_states ψ () x7 x9 x11 0 (nI (ty_lt (S g))) x25 x26)
    (h13 : ty_NW h0 w13 x13) (h15 : ty_NW h0 w15 x15) (hg : g ≤ h0) (hh0 : h0 ≤ 12) (e13 : ∀ j, j < g → w13 j = ty_st (ty_nb x7) (ty_nb x9) (ty_nb x11) (S j)) (e15 : ∀ j, j < g → w15 j = ty_sz (S j))
    (K : ∀ (y13 y15 : Int64) (b10 b11 b12 b13 : Nat → Int32), ty_NW (g + 1) (fun j => ty_st (ty_nb x7) (ty_nb x9) (ty_nb x11) (S j)) y13 → ty_NW (g + 1) (fun j => ty_sz (S j)) y15 → J y13 y15 (nI (g + 1)) (nI (k + 1)) f0_made (nI (g + 1)) f0_known f0_level f0_left f0_came f0_letters a1 a2 a3 a4 a5 a6 a7 a8 a9 b10 b11 b12 b13 a14 a15 a16 a17 a18 a19 a20 a21) :
    wL_lawOf_437 post mc ms J x3 x4 x7 x9 x11 x13 x15 (nI fn) (nI (g + 1)) x19 (nI k) (nI (ty_lt (S g))) (nI (g + 1)) x25 x26 (nI (ty_sz (S g))) kc ks f0_made (nI (g + 1)) f0_known f0_level f0_left f0_came f0_letters a1 a2 a3 a4 a5 a6 a7 a8 a9 a10 a11 a12 a13 a14 a15 a16 a17 a18 a19 a20 a21 := by
  have hgm := ty_FO_h hF
  have hm12 := hF.1
  have ht := ty_FO_at hF (show g < g + 1 by omega)
  have hs16 := ty_st_lt hA.1 _ ht.1
  have hl4 := ty_lt4 ht.1
  have p13 := ty_NW_put h13 hh0 hg (by omega) hs16
  have p15 := ty_NW_put h15 hh0 hg (by omega) (show ty_sz (S g) < 16 by omega)
  have q13 := ty_NW_congr (w' := fun j => ty_st (ty_nb x7) (ty_nb x9) (ty_nb x11) (S j)) p13 (fun j hj => by
    by_cases e : j = g
    · rw [e, ty_us]
    · rw [ty_un e]; exact (e13 j (by omega)).symm)
  have q15 := ty_NW_congr (w' := fun j => ty_sz (S j)) p15 (fun j hj => by
    by_cases e : j = g
    · rw [e, ty_us]
    · rw [ty_un e]; exact (e15 j (by omega)).symm)
  unfold wL_lawOf_437
  refine hst _ ?_
  rw [ty_44 g]
  revert q13 q15
  generalize ((x13 &&& (((1 : Int64) <<< ((nI (4 * g)).toInt64 &&& 63)) - 1)) ||| ((nI (ty_st (ty_nb x7) (ty_nb x9) (ty_nb x11) (S g))).toInt64 <<< ((nI (4 * g)).toInt64 &&& 63))) = y13
  generalize ((x15 &&& (((1 : Int64) <<< ((nI (4 * g)).toInt64 &&& 63)) - 1)) ||| ((nI (ty_sz (S g))).toInt64 <<< ((nI (4 * g)).toInt64 &&& 63))) = y15
  intro q13 q15
  refine nm_e (nm_e (br_t rfl (ty_size hF (by omega) (br_t rfl ?_))))
  refine ty_letter 0 hF (by omega) (by omega) (fun b10 b11 r k0 _ _ => br_t (k0 rfl) ?_)
  refine ty_states (q := 0) hA hF (by omega) (by omega) (fun b12 => br_t (if_pos rfl) ?_)
  refine ty_runs 0 (by omega) hA.1 hA.2.1 (fun l hl => by rw [show 2 * 0 + l = l by omega]; exact (hA.2.2.1 l hl).1) (fun j hj => by rw [show 4 * 0 + j = j by omega]; exact (hA.2.2.2.1 j hj).1) (fun j hj => by rw [show 16 * 0 + j = j by omega]; exact (hA.2.2.2.2.1 j hj).1) hA.2.2.2.2.2.1 hF (by omega) (fun b13 => ?_)
  have hri := ty_runs_iff hA.1 hA.2.1 ht.1
  have hrl := ty_runs_le (lf := ty_nb x7) (on := ty_nb x9) (tw := ty_nb x11) (fn := fn) ht.2
  have hand : nI (ty_st (ty_nb x7) (ty_nb x9) (ty_nb x11) (S g)) &&& nI fn = nI (ty_st (ty_nb x7) (ty_nb x9) (ty_nb x11) (S g) &&& fn) := ty_and _ _
  have hlt : ty_st (ty_nb x7) (ty_nb x9) (ty_nb x11) (S g) &&& fn < 2 ^ 31 := by
    have := Nat.and_lt_two_pow (n := 4) (ty_st (ty_nb x7) (ty_nb x9) (ty_nb x11) (S g)) hA.2.1
    omega
  refine pk_le (ty_rs fn (ty_wy (ty_nb x7) (ty_nb x9) (ty_nb x11) (S g)) 4) 0 (fun z => ?_) (fun z => ?_)
  · refine br_t ?_ (ty_573' 0 hA hF hL (fun c10 c11 c12 c13 => K y13 y15 c10 c11 c12 c13 q13 q15))
    rw [hand]
    by_cases e : ty_st (ty_nb x7) (ty_nb x9) (ty_nb x11) (S g) &&& fn = 0
    · rw [e]; rfl
    · exact absurd (hri.mpr e) (by omega)
  · refine br_f ?_ (ty_573' 1 hA hF hL (fun c10 c11 c12 c13 => K y13 y15 c10 c11 c12 c13 q13 q15))
    rw [hand]
    intro e
    exact hri.mp z ((nI_eq hlt (by omega)).mp e)
end
section
/-! one turn of the law: which tree is made -/
variable {f0_made f0_height f0_known f0_level f0_left f0_came f0_letters : Int32} {a1 a2 a3 a4 a5 a6 a7 a8 a9 a10 a11 a12 a13 a14 a15 a16 a17 a18 a19 a20 a21 : Nat → Int32}
variable {post : Int32 → St0 → Prop} {mc ms kc ks : Nat} {J : Int64 → Int64 → Int32 → Int32 → Int32 → Int32 → Int32 → Int32 → Int32 → Int32 → Int32 → (Nat → Int32) → (Nat → Int32) → (Nat → Int32) → (Nat → Int32) → (Nat → Int32) → (Nat → Int32) → (Nat → Int32) → (Nat → Int32) → (Nat → Int32) → (Nat → Int32) → (Nat → Int32) → (Nat → Int32) → (Nat → Int32) → (Nat → Int32) → (Nat → Int32) → (Nat → Int32) → (Nat → Int32) → (Nat → Int32) → (Nat → Int32) → (Nat → Int32) → (Nat → Int32) → Prop} {x3 x4 x17 x18 x19 : Int32} {x7 x9 x11 x13 x15 : Int64}
/-- what a turn hands on -/
def ty_ON (J : Int64 → Int64 → Int32 → Int32 → Int32 → Int32 → Int32 → Int32 → Int32 → Int32 → Int32 → (Nat → Int32) → (Nat → Int32) → (Nat → Int32) → (Nat → Int32) → (Nat → Int32) → (Nat → Int32) → (Nat → Int32) → (Nat → Int32) → (Nat → Int32) → (Nat → Int32) → (Nat → Int32) → (Nat → Int32) → (Nat → Int32) → (Nat → Int32) → (Nat → Int32) → (Nat → Int32) → (Nat → Int32) → (Nat → Int32) → (Nat → Int32) → (Nat → Int32) → (Nat → Int32) → Prop) (lf on tw : Nat → Nat) (k : Nat) (f0_known f0_level f0_left f0_came f0_letters : Int32) (a1 a2 a3 a4 a14 a15 a16 a17 a18 a19 a20 a21 : Nat → Int32) : Prop :=
  ∀ (h : Nat) (S : Nat → Int.Internal.Linear.Expr) (y13 y15 : Int64) (a5 a6 a7 a8 a9 a10 a11 a12 a13 : Nat → Int32), ty_FO (k + 1) h S a5 a6 a7 a8 a9 → ty_NW h (fun j => ty_st lf on tw (S j)) y13 → ty_NW h (fun j => ty_sz (S j)) y15 →
    J y13 y15 (nI h) (nI (k + 1)) (nI (k + 1)) (nI h) f0_known f0_level f0_left f0_came f0_letters a1 a2 a3 a4 a5 a6 a7 a8 a9 a10 a11 a12 a13 a14 a15 a16 a17 a18 a19 a20 a21
theorem ty_turnL {k h fn l : Nat} {S : Nat → Int.Internal.Linear.Expr} (hl : l < 2) (hk : k < 12) (hA : ty_AU (ty_nb x7) (ty_nb x9) (ty_nb x11) fn a1 a2 a3 a4) (hF : ty_FO k h S a5 a6 a7 a8 a9) (hL : ty_AL a15)
    (h13 : ty_NW h (fun j => ty_st (ty_nb x7) (ty_nb x9) (ty_nb x11) (S j)) x13) (h15 : ty_NW h (fun j => ty_sz (S j)) x15)
    (K : ty_ON J (ty_nb x7) (ty_nb x9) (ty_nb x11) k f0_known f0_level f0_left f0_came f0_letters a1 a2 a3 a4 a14 a15 a16 a17 a18 a19 a20 a21) :
    wL_lawOf_264 post mc ms J x3 x4 x7 x9 x11 x13 x15 (nI fn) (nI h) x19 (nI k) (nI l) kc ks (nI k) (nI h) f0_known f0_level f0_left f0_came f0_letters a1 a2 a3 a4 a5 a6 a7 a8 a9 a10 a11 a12 a13 a14 a15 a16 a17 a18 a19 a20 a21 := by
  have hh := ty_FO_h hF
  refine pk_le 2 l (fun z => absurd z (by omega)) (fun _ => nm_e (pk_le 2 l (fun z => absurd z (by omega)) (fun _ => ?_)))
  refine ty_leaf l hl hF hk (fun b5 b6 b7 b8 b9 hb => ?_)
  refine pk_le 2 l (fun z => absurd z (by omega)) (fun _ => pk_le 3 l (fun z => absurd z (by omega)) (fun _ => pk_le 2 l (fun z => absurd z (by omega)) (fun _ => pk_le 3 l (fun z => absurd z (by omega)) (fun _ => nm_r (show (1 + 0 + 0 : Int32) = nI 1 by decide) (pk_le 2 l (fun z => absurd z (by omega)) (fun _ => nm_r (nI_1 h) (pk_eq l 3 (fun z => absurd z (by omega)) (fun _ => ?_))))))))
  have e : ty_pu S h (.var l) h = .var l := ty_ps
  have h437 := ty_437 (post := post) (mc := mc) (ms := ms) (kc := kc) (ks := ks) (J := J) (x3 := x3) (x4 := x4) (x19 := x19) (x13 := x13) (x15 := x15) (k := k) (f0_made := nI (k + 1)) (f0_known := f0_known) (f0_level := f0_level) (f0_left := f0_left) (f0_came := f0_came) (f0_letters := f0_letters) (a10 := a10) (a11 := a11) (a12 := a12) (a13 := a13) (a14 := a14) (a16 := a16) (a17 := a17) (a18 := a18) (a19 := a19) (a20 := a20) (a21 := a21) (x25 := 0) (x26 := 0) hA hb hL (fun ψ hψ => ?_) h13 h15 (Nat.le_refl h) (by omega) (fun j hj => ?_) (fun j hj => ?_) (fun y13 y15 b10 b11 b12 b13 q13 q15 => K (h + 1) _ y13 y15 b5 b6 b7 b8 b9 b10 b11 b12 b13 hb q13 q15)
  · rw [e] at h437
    exact h437
  · rw [e] at hψ ⊢
    exact ty_LS0 hl hψ
  · rw [ty_pn (by omega)]
  · rw [ty_pn (by omega)]
theorem ty_turn1 {k g fn : Nat} {S : Nat → Int.Internal.Linear.Expr} (hk : k < 12) (hA : ty_AU (ty_nb x7) (ty_nb x9) (ty_nb x11) fn a1 a2 a3 a4) (hF : ty_FO k (g + 1) S a5 a6 a7 a8 a9) (hL : ty_AL a15)
    (h13 : ty_NW (g + 1) (fun j => ty_st (ty_nb x7) (ty_nb x9) (ty_nb x11) (S j)) x13) (h15 : ty_NW (g + 1) (fun j => ty_sz (S j)) x15)
    (K : ty_ON J (ty_nb x7) (ty_nb x9) (ty_nb x11) k f0_known f0_level f0_left f0_came f0_letters a1 a2 a3 a4 a14 a15 a16 a17 a18 a19 a20 a21) :
    wL_lawOf_264 post mc ms J x3 x4 x7 x9 x11 x13 x15 (nI fn) (nI (g + 1)) x19 (nI k) 2 kc ks (nI k) (nI (g + 1)) f0_known f0_level f0_left f0_came f0_letters a1 a2 a3 a4 a5 a6 a7 a8 a9 a10 a11 a12 a13 a14 a15 a16 a17 a18 a19 a20 a21 := by
  have hh := ty_FO_h hF
  have ht := ty_FO_at hF (show g < g + 1 by omega)
  have hs16 := ty_st_lt hA.1 _ ht.1
  have r13 := ty_NW_get h13 (by omega) (show g < g + 1 by omega)
  have r15 := ty_NW_get h15 (by omega) (show g < g + 1 by omega)
  refine br_t (by decide) (nm_r (e' := nI g) ?_ (br_t (by decide) (br_t rfl (ty_one hF hk (fun b5 b6 b7 b8 b9 hb => br_t (by decide) (br_f (by decide) (br_t (by decide) (br_f (by decide) ?_))))))))
  · rw [show (2 : Int32) - 1 = 1 by decide]
    exact nI_pred g
  rw [ty_4, r13, r15]
  refine nm_r (show (1 : Int32) + nI (ty_sz (S g)) + 0 = nI (1 + ty_sz (S g)) from (by rw [Int32.add_zero]; exact nI_add 1 _)) (br_t (by decide) (br_f (by decide) ?_))
  have e : ty_pu S g (.neg (S g)) g = .neg (S g) := ty_ps
  have h437 := ty_437 (post := post) (mc := mc) (ms := ms) (kc := kc) (ks := ks) (J := J) (x3 := x3) (x4 := x4) (x19 := x19) (x13 := x13) (x15 := x15) (k := k) (f0_made := nI (k + 1)) (f0_known := f0_known) (f0_level := f0_level) (f0_left := f0_left) (f0_came := f0_came) (f0_letters := f0_letters) (a10 := a10) (a11 := a11) (a12 := a12) (a13 := a13) (a14 := a14) (a16 := a16) (a17 := a17) (a18 := a18) (a19 := a19) (a20 := a20) (a21 := a21) (x25 := nI (ty_st (ty_nb x7) (ty_nb x9) (ty_nb x11) (S g))) (x26 := 0) hA hb hL (fun ψ hψ => ?_) h13 h15 (show g ≤ g + 1 by omega) (by omega) (fun j hj => ?_) (fun j hj => ?_) (fun y13 y15 b10 b11 b12 b13 q13 q15 => K (g + 1) _ y13 y15 b5 b6 b7 b8 b9 b10 b11 b12 b13 hb q13 q15)
  · rw [e] at h437
    exact h437
  · rw [e] at hψ ⊢
    exact ty_LS2 hs16 hψ
  · rw [ty_pn (by omega)]
  · rw [ty_pn (by omega)]
theorem ty_turn2 {k g fn : Nat} {S : Nat → Int.Internal.Linear.Expr} (hk : k < 12) (hA : ty_AU (ty_nb x7) (ty_nb x9) (ty_nb x11) fn a1 a2 a3 a4) (hF : ty_FO k (g + 2) S a5 a6 a7 a8 a9) (hL : ty_AL a15)
    (h13 : ty_NW (g + 2) (fun j => ty_st (ty_nb x7) (ty_nb x9) (ty_nb x11) (S j)) x13) (h15 : ty_NW (g + 2) (fun j => ty_sz (S j)) x15)
    (K : ty_ON J (ty_nb x7) (ty_nb x9) (ty_nb x11) k f0_known f0_level f0_left f0_came f0_letters a1 a2 a3 a4 a14 a15 a16 a17 a18 a19 a20 a21) :
    wL_lawOf_264 post mc ms J x3 x4 x7 x9 x11 x13 x15 (nI fn) (nI (g + 2)) x19 (nI k) 3 kc ks (nI k) (nI (g + 2)) f0_known f0_level f0_left f0_came f0_letters a1 a2 a3 a4 a5 a6 a7 a8 a9 a10 a11 a12 a13 a14 a15 a16 a17 a18 a19 a20 a21 := by
  have hh := ty_FO_h hF
  have ht := ty_FO_at hF (show g < g + 2 by omega)
  have hs16 := ty_st_lt hA.1 _ ht.1
  have ht2 := ty_FO_at hF (show g + 1 < g + 2 by omega)
  have hs2 := ty_st_lt hA.1 _ ht2.1
  have r13 := ty_NW_get h13 (by omega) (show g < g + 2 by omega)
  have r15 := ty_NW_get h15 (by omega) (show g < g + 2 by omega)
  have r13' := ty_NW_get h13 (by omega) (show g + 1 < g + 2 by omega)
  have r15' := ty_NW_get h15 (by omega) (show g + 1 < g + 2 by omega)
  refine br_t (by decide) (nm_r (e' := nI g) ?_ (br_t (by decide) (br_f (by decide) (ty_two hF hk (fun b5 b6 b7 b8 b9 hb => br_t (by decide) (br_t (by decide) (br_t (by decide) (br_t (by decide) ?_))))))))
  · rw [show (3 : Int32) - 1 = 2 by decide]
    exact pk_sub (a := g + 2) (b := 2) (by omega)
  rw [ty_4p, ty_4, r13, r15, r13', r15']
  refine nm_r (show (1 : Int32) + nI (ty_sz (S g)) + nI (ty_sz (S (g + 1))) = nI (1 + ty_sz (S g) + ty_sz (S (g + 1))) from (by rw [show (1 : Int32) + nI (ty_sz (S g)) = nI (1 + ty_sz (S g)) from nI_add 1 _, nI_add])) (br_t (by decide) (br_t rfl (nm_r (pk_m1 (g + 1)) ?_)))
  have e : ty_pu S g (.add (S g) (S (g + 1))) g = .add (S g) (S (g + 1)) := ty_ps
  have h437 := ty_437 (post := post) (mc := mc) (ms := ms) (kc := kc) (ks := ks) (J := J) (x3 := x3) (x4 := x4) (x19 := x19) (x13 := x13) (x15 := x15) (k := k) (f0_made := nI (k + 1)) (f0_known := f0_known) (f0_level := f0_level) (f0_left := f0_left) (f0_came := f0_came) (f0_letters := f0_letters) (a10 := a10) (a11 := a11) (a12 := a12) (a13 := a13) (a14 := a14) (a16 := a16) (a17 := a17) (a18 := a18) (a19 := a19) (a20 := a20) (a21 := a21) (x25 := nI (ty_st (ty_nb x7) (ty_nb x9) (ty_nb x11) (S g))) (x26 := nI (ty_st (ty_nb x7) (ty_nb x9) (ty_nb x11) (S (g + 1)))) hA hb hL (fun ψ hψ => ?_) h13 h15 (show g ≤ g + 2 by omega) (by omega) (fun j hj => ?_) (fun j hj => ?_) (fun y13 y15 b10 b11 b12 b13 q13 q15 => K (g + 1) _ y13 y15 b5 b6 b7 b8 b9 b10 b11 b12 b13 hb q13 q15)
  · rw [e] at h437
    exact h437
  · rw [e] at hψ ⊢
    exact ty_LS3 hs16 hs2 hψ
  · rw [ty_pn (by omega)]
  · rw [ty_pn (by omega)]
theorem ty_turn {k h fn : Nat} {z0 : Int32} {S : Nat → Int.Internal.Linear.Expr} (hk : k < 12) (hA : ty_AU (ty_nb x7) (ty_nb x9) (ty_nb x11) fn a1 a2 a3 a4) (hF : ty_FO k h S a5 a6 a7 a8 a9) (hL : ty_AL a15)
    (h13 : ty_NW h (fun j => ty_st (ty_nb x7) (ty_nb x9) (ty_nb x11) (S j)) x13) (h15 : ty_NW h (fun j => ty_sz (S j)) x15)
    (K : ty_ON J (ty_nb x7) (ty_nb x9) (ty_nb x11) k f0_known f0_level f0_left f0_came f0_letters a1 a2 a3 a4 a14 a15 a16 a17 a18 a19 a20 a21) :
    wL_lawOf_223 post mc ms J x3 x4 x7 x9 x11 x13 x15 (nI fn) (nI h) x19 (nI k) z0 kc ks (nI k) (nI h) f0_known f0_level f0_left f0_came f0_letters a1 a2 a3 a4 a5 a6 a7 a8 a9 a10 a11 a12 a13 a14 a15 a16 a17 a18 a19 a20 a21 := by
  have hh := ty_FO_h hF
  obtain ⟨o, ho, eo⟩ := pk_andE z0 (m := 15) 4 (by decide)
  have e1 : nI o &&& 1 = nI (o % 2 ^ 1) := pk_andN (by omega) 1 (by decide)
  have hleaf : wL_lawOf_239 post mc ms J x3 x4 x7 x9 x11 x13 x15 (nI fn) (nI h) x19 (nI k) (nI o) kc ks (nI k) (nI h) f0_known f0_level f0_left f0_came f0_letters a1 a2 a3 a4 a5 a6 a7 a8 a9 a10 a11 a12 a13 a14 a15 a16 a17 a18 a19 a20 a21 := by
    unfold wL_lawOf_239
    rw [e1]
    exact ty_turnL (by omega) hk hA hF hL h13 h15 K
  have hone : 0 < h → wL_lawOf_259 post mc ms J x3 x4 x7 x9 x11 x13 x15 (nI fn) (nI h) x19 (nI k) kc ks (nI k) (nI h) f0_known f0_level f0_left f0_came f0_letters a1 a2 a3 a4 a5 a6 a7 a8 a9 a10 a11 a12 a13 a14 a15 a16 a17 a18 a19 a20 a21 := by
    intro h0
    obtain ⟨g, rfl⟩ : ∃ g, h = g + 1 := ⟨h - 1, by omega⟩
    unfold wL_lawOf_259
    exact ty_turn1 hk hA hF hL h13 h15 K
  refine nm_r eo (pk_lt o 5 (fun _ => hleaf) (fun _ => pk_eq h 0 (fun _ => hleaf) (fun z => pk_lt o 8 (fun _ => hone (by omega)) (fun _ => pk_le 2 h (fun z2 => ?_) (fun _ => hone (by omega))))))
  obtain ⟨g, rfl⟩ : ∃ g, h = g + 2 := ⟨h - 2, by omega⟩
  exact ty_turn2 hk hA hF hL h13 h15 K
end
section
/-! the law's end, and its loop over the trees -/
variable {f0_made f0_height f0_known f0_level f0_left f0_came f0_letters : Int32} {a1 a2 a3 a4 a5 a6 a7 a8 a9 a10 a11 a12 a13 a14 a15 a16 a17 a18 a19 a20 a21 : Nat → Int32}
variable {post : Int32 → St0 → Prop} {mc ms kc ks : Nat} {x3 x4 : Int32} {x7 x9 x11 : Int64}
theorem ty_773 {n : Nat} {x21 x22 z : Int32} (hn : 7 < n) (hb : n < 1000) (H : post 1 ()) : wL_lawOf_773 post mc ms (nI n) x21 x22 z z kc ks f0_made f0_height f0_known f0_level f0_left f0_came f0_letters a1 a2 a3 a4 a5 a6 a7 a8 a9 a10 a11 a12 a13 a14 a15 a16 a17 a18 a19 a20 a21 :=
  br_t rfl (pk_lt 7 n (fun _ => H) (fun z => absurd z (by omega)))
theorem ty_773' {fn : Nat} {T : Int.Internal.Linear.Expr} {lf on tw : Nat → Nat} (hs : ty_sz T ≤ 7) (hA : ty_AU lf on tw fn a1 a2 a3 a4) (hF : ty_FO (ty_sz T) 1 (fun _ => T) a5 a6 a7 a8 a9) (hL : ty_AL a15) (H : post 1 ()) :
    wL_lawOf_773 post mc ms (nI (ty_sz T)) (nI (ty_rk T)) (nI (ty_st lf on tw T)) 0 0 kc ks f0_made (nI 1) f0_known f0_level f0_left f0_came f0_letters a1 a2 a3 a4 a5 a6 a7 a8 a9 a10 a11 a12 a13 a14 a15 a16 a17 a18 a19 a20 a21 := by
  refine br_t rfl (pk_lt 7 (ty_sz T) (fun z => absurd z (by omega)) (fun _ => ?_))
  refine ty_states (q := 0) hA hF (by omega) (by omega) (fun b12 => br_t (if_pos rfl) ?_)
  exact ty_size hF (by omega) (br_t rfl (ty_rank hF hL (by omega) (fun b => br_t rfl H)))
theorem ty_tail {m h fn : Nat} {S : Nat → Int.Internal.Linear.Expr} {lf on tw : Nat → Nat} (hA : ty_AU lf on tw fn a1 a2 a3 a4) (hF : ty_FO m h S a5 a6 a7 a8 a9) (hL : ty_AL a15) (H : post 1 ()) :
    wL_lawOf_699 post mc ms (nI h) kc ks f0_made (nI h) 0 f0_level f0_left f0_came f0_letters a1 a2 a3 a4 a5 a6 a7 a8 a9 a10 a11 a12 a13 a14 a15 a16 a17 a18 a19 a20 a21 := by
  have hh := ty_FO_h hF
  have hm := hF.1
  refine pk_le h 0 (fun z => ?_) (fun z => ?_)
  · obtain rfl : h = 0 := by omega
    unfold wL_lawOf_714
    refine ty_rank0 (br_t (by decide) ?_)
    unfold wL_lawOf_738
    refine br_t rfl ?_
    exact ty_load_bad 9 (by omega) (by omega) (br_t (by decide) (ty_773 (n := 9) (by decide) (by decide) H))
  · have ht := ty_FO_at hF (show h - 1 < h by omega)
    have hp := ty_sz_pos (S (h - 1))
    refine ty_size hF z ?_
    unfold wL_lawOf_714
    refine ty_rank hF hL z (fun b => pk_le h 0 (fun z => absurd z (by omega)) (fun _ => ?_))
    refine ty_states (q := 0) hA hF z (by omega) (fun b12 => ?_)
    rw [if_pos rfl]
    unfold wL_lawOf_738
    refine br_t rfl ?_
    by_cases h8 : 8 ≤ ty_sz (S (h - 1))
    · exact ty_load_bad (ty_sz (S (h - 1))) h8 (by omega) (pk_le 8 (ty_sz (S (h - 1))) (fun _ => ty_773 (by omega) (by omega) H) (fun z => absurd z (by omega)))
    · exact ty_load hA ht.1 (by omega) (fun g1 g2 g3 g4 b5 b6 b7 b8 b9 b14 b16 b17 b18 b19 b20 b21 hb => pk_le 8 (ty_sz (S (h - 1))) (fun z => absurd z (by omega)) (fun _ => ty_773' (by omega) hA hb hL H))
theorem ty_190 {fn M : Nat} (hM : M ≤ 12) (hA : ty_AU (ty_nb x7) (ty_nb x9) (ty_nb x11) fn a1 a2 a3 a4) (hL : ty_AL a15) (H : post 1 ()) : ∀ (n k h : Nat) (S : Nat → Int.Internal.Linear.Expr) (x13 x15 : Int64) (a5 a6 a7 a8 a9 a10 a11 a12 a13 : Nat → Int32), k ≤ M → M - k < n → ty_FO k h S a5 a6 a7 a8 a9 →
    ty_NW h (fun j => ty_st (ty_nb x7) (ty_nb x9) (ty_nb x11) (S j)) x13 → ty_NW h (fun j => ty_sz (S j)) x15 →
    wL_lawOf_190 post mc ms x3 x4 x7 x9 x11 (nI fn) (nI M) kc ks n x13 x15 (nI h) (nI k) (nI k) (nI h) 0 f0_level f0_left f0_came f0_letters a1 a2 a3 a4 a5 a6 a7 a8 a9 a10 a11 a12 a13 a14 a15 a16 a17 a18 a19 a20 a21 := by
  intro n
  induction n with
  | zero => intro k h S x13 x15 a5 a6 a7 a8 a9 a10 a11 a12 a13 _ hn; exact absurd hn (by omega)
  | succ n ih =>
    intro k h S x13 x15 a5 a6 a7 a8 a9 a10 a11 a12 a13 hk hn hF h13 h15
    refine pk_le M k (fun z => ?_) (fun z => ?_)
    · refine pk_eq M 12 (fun z2 => ?_) (fun _ => ty_tail hA hF hL H)
      obtain rfl : k = 12 := by omega
      exact ty_full_leaf (br_t rfl (ty_full_one (br_t rfl (ty_full_two (br_t rfl (ty_tail hA hF hL H))))))
    · have K : ty_ON (wL_lawOf_190 post mc ms x3 x4 x7 x9 x11 (nI fn) (nI M) kc ks n) (ty_nb x7) (ty_nb x9) (ty_nb x11) k 0 f0_level f0_left f0_came f0_letters a1 a2 a3 a4 a14 a15 a16 a17 a18 a19 a20 a21 :=
        fun h' S' y13 y15 b5 b6 b7 b8 b9 b10 b11 b12 b13 hb q13 q15 => ih (k + 1) h' S' y13 y15 b5 b6 b7 b8 b9 b10 b11 b12 b13 (by omega) (by omega) hb q13 q15
      exact pk_le 8 k (fun _ => ty_turn (by omega) hA hF hL h13 h15 K) (fun _ => ty_turn (by omega) hA hF hL h13 h15 K)
end
section
/-! the law's loop over the rules -/
variable {f0_made f0_height f0_known f0_level f0_left f0_came f0_letters : Int32} {a1 a2 a3 a4 a5 a6 a7 a8 a9 a10 a11 a12 a13 a14 a15 a16 a17 a18 a19 a20 a21 : Nat → Int32}
variable {post : Int32 → St0 → Prop} {mc ms kc ks : Nat} {x0 x3 x4 x5 : Int32} {x7 x9 x11 : Int64}
/-- the first c places hold a table up to k, all else is 0 -/
def ty_RA (c : Nat) (tb : Nat → Nat) (k : Nat) (a : Nat → Int32) : Prop := (∀ j, j < c → j < k → a j = nI (tb j)) ∧ ∀ j, c ≤ j ∨ k ≤ j → a j = nI 0
theorem ty_RA_0 {c : Nat} {tb : Nat → Nat} : ty_RA c tb 0 (fun _ => 0) := ⟨fun j _ hj => absurd hj (by omega), fun _ _ => rfl⟩
theorem ty_RA_up {c k : Nat} {tb : Nat → Nat} {a : Nat → Int32} (h : ty_RA c tb k a) (hk : k < c) : ty_RA c tb (k + 1) (upd a k (nI (tb k))) := by
  refine ⟨fun j h1 h2 => ?_, fun j hj => ?_⟩
  · by_cases e : j = k
    · rw [e, pk_us]
    · rw [pk_un e]; exact h.1 j h1 (by omega)
  · rw [pk_un (by omega)]; exact h.2 j (by omega)
theorem ty_RA_sk {c k : Nat} {tb : Nat → Nat} {a : Nat → Int32} (h : ty_RA c tb k a) (hk : c ≤ k) : ty_RA c tb (k + 1) a :=
  ⟨fun j h1 h2 => h.1 j h1 (by omega), fun j hj => h.2 j (by omega)⟩
theorem ty_51 (h4 : a4 0 = nI 0) (h4' : a4 1 = nI 0) (hL : ty_AL a15) (H : post 1 ()) : ∃ f, wL_lawOf_51 post mc ms x0 x3 x4 x5 x7 x9 x11 0 0 kc ks f 0 0 0 0 f0_level f0_left f0_came f0_letters (fun _ => 0) (fun _ => 0) (fun _ => 0) a4 a5 a6 a7 a8 a9 a10 a11 a12 a13 a14 a15 a16 a17 a18 a19 a20 a21 := by
  refine pk_loop (fun f k (s : (Nat → Int32) × (Nat → Int32) × (Nat → Int32)) => wL_lawOf_51 post mc ms x0 x3 x4 x5 x7 x9 x11 0 0 kc ks f (nI k) 0 0 0 f0_level f0_left f0_came f0_letters s.1 s.2.1 s.2.2 a4 a5 a6 a7 a8 a9 a10 a11 a12 a13 a14 a15 a16 a17 a18 a19 a20 a21)
    (fun k s => ty_RA 2 (ty_nb x7) k s.1 ∧ ty_RA 4 (ty_nb x9) k s.2.1 ∧ ty_RA 16 (ty_nb x11) k s.2.2) 16 0 (fun _ => 0, fun _ => 0, fun _ => 0) (by omega) ⟨ty_RA_0, ty_RA_0, ty_RA_0⟩ ?_ ?_
  · rintro f ⟨b1, b2, b3⟩ ⟨r1, r2, r3⟩
    have r1 : ty_RA 2 (ty_nb x7) 16 b1 := r1
    have r2 : ty_RA 4 (ty_nb x9) 16 b2 := r2
    have r3 : ty_RA 16 (ty_nb x11) 16 b3 := r3
    obtain ⟨fn, hfn, efn⟩ := pk_andE (x0 >>> ((24 : Int32) &&& 31)) (m := 15) 4 (by decide)
    obtain ⟨w, hw, ew⟩ := pk_andE x5 (m := 127) 7 (by decide)
    have hA : ty_AU (ty_nb x7) (ty_nb x9) (ty_nb x11) fn b1 b2 b3 (upd a4 0 (nI fn)) :=
      ⟨⟨fun _ _ => ty_nb_lt _ _, fun _ _ => ty_nb_lt _ _, fun _ _ => ty_nb_lt _ _⟩, hfn, fun l hl => ⟨r1.1 l hl (by omega), r1.2 _ (by omega)⟩, fun j hj => ⟨r2.1 j hj (by omega), r2.2 _ (by omega)⟩, fun j hj => ⟨r3.1 j hj (by omega), r3.2 _ (by omega)⟩, pk_us, by rw [pk_un (by omega)]; exact h4'⟩
    refine pk_le 16 16 (fun _ => nm_r efn ⟨by decide, nm_r (e' := nI (w % 13)) (by rw [ew]; exact pk_rem (d := 13) (by omega) (by omega) (by omega)) (ty_finals fn hfn (br_t h4 ⟨20, ?_⟩))⟩) (fun z => absurd z (by omega))
    exact ty_190 (by omega) hA hL H 20 0 0 (fun _ => .var 0) 0 0 a5 a6 a7 a8 a9 a10 a11 a12 a13 (by omega) (by omega) ty_FO_0 (ty_NW_0 _) (ty_NW_0 _)
  · rintro f k ⟨b1, b2, b3⟩ hk ⟨r1, r2, r3⟩ hw
    have r1 : ty_RA 2 (ty_nb x7) k b1 := r1
    have r2 : ty_RA 4 (ty_nb x9) k b2 := r2
    have r3 : ty_RA 16 (ty_nb x11) k b3 := r3
    have H116 : ∀ c2 c3 : Nat → Int32, ty_RA 4 (ty_nb x9) (k + 1) c2 → ty_RA 16 (ty_nb x11) (k + 1) c3 → wL_lawOf_116 post mc ms (wL_lawOf_51 post mc ms x0 x3 x4 x5 x7 x9 x11 0 0 kc ks f) x0 x3 x4 x5 x7 x9 x11 0 0 (nI k) kc ks 0 0 0 f0_level f0_left f0_came f0_letters b1 c2 c3 a4 a5 a6 a7 a8 a9 a10 a11 a12 a13 a14 a15 a16 a17 a18 a19 a20 a21 := by
      intro c2 c3 q2 q3
      exact pk_le 2 k (fun z => nm_r (nI_1 k) (hw (b1, c2, c3) ⟨ty_RA_sk r1 z, q2, q3⟩)) (fun z => ty_leafRule k (ty_nb x7 k) z (ty_nb_lt _ _) (br_t (r1.2 k (by omega)) (nm_r (nI_1 k) (hw (_, c2, c3) ⟨ty_RA_up r1 z, q2, q3⟩))) rfl (by rw [ty_4, ty_nb_eq]))
    refine pk_le 16 k (fun z => absurd z (by omega)) (fun _ => nm_r (show ((x11 >>> ((4 * nI k).toInt64 &&& 63)).toInt32) &&& 15 = nI (ty_nb x11 k) by rw [ty_4, ty_nb_eq]) (ty_twoRule k (ty_nb x11 k) hk (ty_nb_lt _ _) (br_t (r3.2 k (by omega)) (pk_le 4 k (fun z => H116 _ _ (ty_RA_sk r2 z) (ty_RA_up r3 hk)) (fun z => ?_)))))
    exact ty_oneRule k (ty_nb x9 k) z (ty_nb_lt _ _) (br_t (r2.2 k (by omega)) (H116 _ _ (ty_RA_up r2 z) (ty_RA_up r3 hk))) rfl (by rw [ty_4, ty_nb_eq])
theorem ty_lawOf {p0 p1 p2 p3 p4 p5 : Int32} (h1 : 22 ≤ mc) (h2 : 4375 ≤ ms) (H : post 1 ()) : wpL_lawOf post mc ms () p0 p1 p2 p3 p4 p5 :=
  ⟨by omega, by omega, 21, 4347, by omega, by omega, ty_init (by omega) (by omega) (fun b hb => nm_e (nm_e (nm_e (ty_51 rfl rfl hb H))))⟩
end
section
/-! the law -/
theorem i_vc (xs : Nat → Int32) (L : Nat) (hL : L ≤ 6) : wpL_law (fun r => r = 1) L xs := by
  unfold wpL_law
  refine ty_cell 0 (by omega) (by omega) (fun r1 => ?_)
  refine ty_cell 1 (by omega) (by omega) (fun r2 => ?_)
  refine ty_cell 2 (by omega) (by omega) (fun r3 => ?_)
  refine ty_cell 3 (by omega) (by omega) (fun r4 => ?_)
  refine ty_cell 4 (by omega) (by omega) (fun r5 => ?_)
  refine ty_cell 5 (by omega) (by omega) (fun r6 => ?_)
  exact ⟨100, 5000, by omega, by omega, ty_lawOf (by omega) (by omega) rfl⟩
end

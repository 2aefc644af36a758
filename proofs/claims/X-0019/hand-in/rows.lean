section
/-! 01 base: an Int as an Int32; branches by Ints -/
def zi_o (z : Int) : Int32 := Int32.ofInt z
theorem zi_add (a b : Int) : zi_o a + zi_o b = zi_o (a + b) := (Int32.ofInt_add a b).symm
theorem zi_sub (a b : Int) : zi_o a - zi_o b = zi_o (a - b) := (Int32.ofInt_sub a b).symm
theorem zi_mul (a b : Int) : zi_o a * zi_o b = zi_o (a * b) := (Int32.ofInt_mul a b).symm
theorem zi_neg (a : Int) : -zi_o a = zi_o (-a) := (Int32.ofInt_neg a).symm
theorem zi_nI (n : Nat) : nI n = zi_o (n : Int) := Int32.ofInt_eq_ofNat.symm
theorem zi_t {a : Int} (h1 : -2147483648 ≤ a) (h2 : a < 2147483648) : (zi_o a).toInt = a := Int32.toInt_ofInt_of_le (by omega) (by omega)
theorem zi_of (x : Int32) : ∃ a : Int, -2147483648 ≤ a ∧ a < 2147483648 ∧ x = zi_o a :=
  ⟨x.toInt, by have := x.le_toInt; omega, by have := x.toInt_lt; omega, (Int32.ofInt_toInt x).symm⟩
theorem zi_le {a b : Int} (h1 : -2147483648 ≤ a) (h2 : a < 2147483648) (h3 : -2147483648 ≤ b) (h4 : b < 2147483648) : zi_o a ≤ zi_o b ↔ a ≤ b := by
  rw [Int32.le_iff_toInt_le, zi_t h1 h2, zi_t h3 h4]
theorem zi_lt {a b : Int} (h1 : -2147483648 ≤ a) (h2 : a < 2147483648) (h3 : -2147483648 ≤ b) (h4 : b < 2147483648) : zi_o a < zi_o b ↔ a < b := by
  rw [Int32.lt_iff_toInt_lt, zi_t h1 h2, zi_t h3 h4]
theorem zi_eq {a b : Int} (h1 : -2147483648 ≤ a) (h2 : a < 2147483648) (h3 : -2147483648 ≤ b) (h4 : b < 2147483648) : zi_o a = zi_o b ↔ a = b := by
  rw [← Int32.toInt_inj, zi_t h1 h2, zi_t h3 h4]
theorem zi_cl {a : Int} (h1 : 0 ≤ a) (h2 : a < 2147483648) : (zi_o a).toNatClampNeg = a.toNat := by
  show (zi_o a).toInt.toNat = _
  rw [zi_t (by omega) h2]
theorem zi_cN {a : Int} (c : Nat) (h1 : a = c) (h2 : c < 2147483648) : (zi_o a).toNatClampNeg = c := by
  rw [zi_cl (by omega) (by omega)]; omega
theorem zi_in {a : Int} {N : Nat} (h1 : 0 ≤ a) (h2 : a < N) (hN : N < 2147483648) : vp_in (zi_o a) N :=
  vp_in_iff.mpr (by rw [zi_t (by omega) (by omega)]; omega)
theorem zi_c {a b : Int} (h : a = b) : zi_o a = zi_o b := congrArg zi_o h
theorem zi_l0 : (0 : Int32) = zi_o 0 := by decide
theorem zi_l1 : (1 : Int32) = zi_o 1 := by decide
theorem zi_l2 : (2 : Int32) = zi_o 2 := by decide
theorem zi_l3 : (3 : Int32) = zi_o 3 := by decide
theorem zi_l4 : (4 : Int32) = zi_o 4 := by decide
theorem zi_l15 : (15 : Int32) = zi_o 15 := by decide
theorem zi_l16 : (16 : Int32) = zi_o 16 := by decide
theorem zi_l31 : (31 : Int32) = zi_o 31 := by decide
theorem zi_l71 : (71 : Int32) = zi_o 71 := by decide
theorem zi_l99 : (99 : Int32) = zi_o 99 := by decide
theorem zi_lF : (1000000 : Int32) = zi_o 1000000 := by decide
/-- branches by Ints -/
theorem zi_ble {x y : Int32} {P Q : Prop} (a b : Int) (hx : x = zi_o a) (hy : y = zi_o b) (r : (-2147483648 ≤ a ∧ a < 2147483648) ∧ (-2147483648 ≤ b ∧ b < 2147483648)) (f : a ≤ b → P) (g : b < a → Q) : (x ≤ y → P) ∧ (¬ x ≤ y → Q) := by
  subst hx hy
  rw [zi_le r.1.1 r.1.2 r.2.1 r.2.2]
  exact ⟨f, fun h => g (by omega)⟩
theorem zi_blt {x y : Int32} {P Q : Prop} (a b : Int) (hx : x = zi_o a) (hy : y = zi_o b) (r : (-2147483648 ≤ a ∧ a < 2147483648) ∧ (-2147483648 ≤ b ∧ b < 2147483648)) (f : a < b → P) (g : b ≤ a → Q) : (x < y → P) ∧ (¬ x < y → Q) := by
  subst hx hy
  rw [zi_lt r.1.1 r.1.2 r.2.1 r.2.2]
  exact ⟨f, fun h => g (by omega)⟩
theorem zi_beq {x y : Int32} {P Q : Prop} (a b : Int) (hx : x = zi_o a) (hy : y = zi_o b) (r : (-2147483648 ≤ a ∧ a < 2147483648) ∧ (-2147483648 ≤ b ∧ b < 2147483648)) (f : a = b → P) (g : a ≠ b → Q) : (x = y → P) ∧ (¬ x = y → Q) := by
  subst hx hy
  rw [zi_eq r.1.1 r.1.2 r.2.1 r.2.2]
  exact ⟨f, g⟩
theorem zi_us {f : Nat → Int32} {k j : Nat} {x : Int32} (h : j = k) : upd f k x j = x := if_pos h
theorem zi_un {f : Nat → Int32} {k j : Nat} {x : Int32} (h : j ≠ k) : upd f k x j = f j := if_neg h
/-- an index: within, and its number -/
theorem zi_ix {x : Int32} {N : Nat} (a : Nat) (hx : x = zi_o a) (h : a < N) (hN : N < 2147483648) : vp_in x N ∧ x.toNatClampNeg = a := by
  subst hx
  exact ⟨zi_in (by omega) (by omega) hN, zi_cN a rfl (by omega)⟩
theorem zi_shr {a : Nat} (h : a < 2147483648) : zi_o a >>> ((1 : Int32) &&& 31) = zi_o ((a / 2 : Nat) : Int) := by
  apply Int32.toInt_inj.mp
  show ((zi_o a).toBitVec.sshiftRight (((1 : Int32) &&& 31).toBitVec.smod 32).toNat).toInt = _
  rw [show ((((1 : Int32) &&& 31).toBitVec.smod 32).toNat) = 1 from by decide, BitVec.toInt_sshiftRight]
  rw [show (zi_o (a : Int)).toBitVec.toInt = (zi_o a).toInt from rfl, zi_t (by omega) (by omega), zi_t (by omega) (by omega), Int.shiftRight_eq_div_pow]
  omega
end
section
/-! 02 the costs of a grid in remaining coordinates (p rows, q columns remain), by layer L: 0 closed, 1 within an insertion, 2 within a deletion.
   bi, bd: the last run is excused; base: what remains at the corner -/
def cw_C (G : Nat → Nat → Bool) (x o e : Nat) (bi bd : Bool) (base : Nat → Nat) (L p q : Nat) : Nat :=
  match p, q with
  | 0, 0 => base L
  | 0, q + 1 => (if L = 1 ∨ bi = true then 0 else o) + e + cw_C G x o e bi bd base 1 0 q
  | p + 1, 0 => (if L = 2 ∨ bd = true then 0 else o) + e + cw_C G x o e bi bd base 2 p 0
  | p + 1, q + 1 => min ((if G p q = true then 0 else x) + cw_C G x o e bi bd base 0 p q) (min ((if L = 1 then 0 else o) + e + cw_C G x o e bi bd base 1 (p + 1) q) ((if L = 2 then 0 else o) + e + cw_C G x o e bi bd base 2 p (q + 1)))
termination_by p + q
section
variable {G : Nat → Nat → Bool} {x o e : Nat} {bi bd : Bool} {base : Nat → Nat}
theorem cw_00 {L : Nat} : cw_C G x o e bi bd base L 0 0 = base L := by rw [cw_C]
theorem cw_0s {L q : Nat} : cw_C G x o e bi bd base L 0 (q + 1) = (if L = 1 ∨ bi = true then 0 else o) + e + cw_C G x o e bi bd base 1 0 q := by rw [cw_C]
theorem cw_s0 {L p : Nat} : cw_C G x o e bi bd base L (p + 1) 0 = (if L = 2 ∨ bd = true then 0 else o) + e + cw_C G x o e bi bd base 2 p 0 := by rw [cw_C]
theorem cw_ss {L p q : Nat} : cw_C G x o e bi bd base L (p + 1) (q + 1) = min ((if G p q = true then 0 else x) + cw_C G x o e bi bd base 0 p q) (min ((if L = 1 then 0 else o) + e + cw_C G x o e bi bd base 1 (p + 1) q) ((if L = 2 then 0 else o) + e + cw_C G x o e bi bd base 2 p (q + 1))) := by rw [cw_C]
/-- what an insertion, a deletion pays at its opening -/
def cw_oi (o : Nat) (bi : Bool) (L p : Nat) : Nat := if L = 1 ∨ (p = 0 ∧ bi = true) then 0 else o
def cw_od (o : Nat) (bd : Bool) (L q : Nat) : Nat := if L = 2 ∨ (q = 0 ∧ bd = true) then 0 else o
def cw_g (G : Nat → Nat → Bool) (x p q : Nat) : Nat := if G p q = true then 0 else x
/-- each column is a way on -/
theorem cw_diag {L p q : Nat} : cw_C G x o e bi bd base L (p + 1) (q + 1) ≤ cw_g G x p q + cw_C G x o e bi bd base 0 p q := by
  rw [cw_ss]; exact Nat.min_le_left _ _
theorem cw_ins {L p q : Nat} : cw_C G x o e bi bd base L p (q + 1) ≤ cw_oi o bi L p + e + cw_C G x o e bi bd base 1 p q := by
  cases p with
  | zero => rw [cw_0s]; unfold cw_oi; simp only [true_and]; exact Nat.le_refl _
  | succ p =>
    rw [cw_ss]; unfold cw_oi
    have h : (if L = 1 ∨ (p + 1 = 0 ∧ bi = true) then 0 else o) = (if L = 1 then 0 else o) := by
      simp only [Nat.add_one_ne_zero, false_and, or_false]
    rw [h]
    exact Nat.le_trans (Nat.min_le_right _ _) (Nat.min_le_left _ _)
theorem cw_del {L p q : Nat} : cw_C G x o e bi bd base L (p + 1) q ≤ cw_od o bd L q + e + cw_C G x o e bi bd base 2 p q := by
  cases q with
  | zero => rw [cw_s0]; unfold cw_od; simp only [true_and]; exact Nat.le_refl _
  | succ q =>
    rw [cw_ss]; unfold cw_od
    have h : (if L = 2 ∨ (q + 1 = 0 ∧ bd = true) then 0 else o) = (if L = 2 then 0 else o) := by
      simp only [Nat.add_one_ne_zero, false_and, or_false]
    rw [h]
    exact Nat.le_trans (Nat.min_le_right _ _) (Nat.min_le_right _ _)
/-- and one of them is the least -/
theorem cw_cases (L p q : Nat) : (p = 0 ∧ q = 0 ∧ cw_C G x o e bi bd base L p q = base L)
    ∨ (∃ p' q', p = p' + 1 ∧ q = q' + 1 ∧ cw_C G x o e bi bd base L p q = cw_g G x p' q' + cw_C G x o e bi bd base 0 p' q')
    ∨ (∃ q', q = q' + 1 ∧ cw_C G x o e bi bd base L p q = cw_oi o bi L p + e + cw_C G x o e bi bd base 1 p q')
    ∨ (∃ p', p = p' + 1 ∧ cw_C G x o e bi bd base L p q = cw_od o bd L q + e + cw_C G x o e bi bd base 2 p' q) := by
  cases p with
  | zero =>
    cases q with
    | zero => exact Or.inl ⟨rfl, rfl, cw_00⟩
    | succ q => exact Or.inr (Or.inr (Or.inl ⟨q, rfl, by rw [cw_0s]; unfold cw_oi; simp only [true_and]⟩))
  | succ p =>
    cases q with
    | zero => exact Or.inr (Or.inr (Or.inr ⟨p, rfl, by rw [cw_s0]; unfold cw_od; simp only [true_and]⟩))
    | succ q =>
      have h1 : (if L = 1 ∨ (p + 1 = 0 ∧ bi = true) then 0 else o) = (if L = 1 then 0 else o) := by
        simp only [Nat.add_one_ne_zero, false_and, or_false]
      have h2 : (if L = 2 ∨ (q + 1 = 0 ∧ bd = true) then 0 else o) = (if L = 2 then 0 else o) := by
        simp only [Nat.add_one_ne_zero, false_and, or_false]
      have h := cw_ss (G := G) (x := x) (o := o) (e := e) (bi := bi) (bd := bd) (base := base) (L := L) (p := p) (q := q)
      unfold cw_oi cw_od cw_g
      rw [h1, h2]
      rcases Nat.le_total ((if G p q = true then 0 else x) + cw_C G x o e bi bd base 0 p q) (min ((if L = 1 then 0 else o) + e + cw_C G x o e bi bd base 1 (p + 1) q) ((if L = 2 then 0 else o) + e + cw_C G x o e bi bd base 2 p (q + 1))) with z | z
      · rw [Nat.min_eq_left z] at h
        exact Or.inr (Or.inl ⟨p, q, rfl, rfl, h⟩)
      · rw [Nat.min_eq_right z] at h
        rcases Nat.le_total ((if L = 1 then 0 else o) + e + cw_C G x o e bi bd base 1 (p + 1) q) ((if L = 2 then 0 else o) + e + cw_C G x o e bi bd base 2 p (q + 1)) with y | y
        · rw [Nat.min_eq_left y] at h
          exact Or.inr (Or.inr (Or.inl ⟨q, rfl, h⟩))
        · rw [Nat.min_eq_right y] at h
          exact Or.inr (Or.inr (Or.inr ⟨p, rfl, h⟩))
theorem cw_oi0 (L p : Nat) : cw_oi o bi L p ≤ cw_oi o bi 0 p := by
  unfold cw_oi
  by_cases h : p = 0 ∧ bi = true
  · rw [if_pos (Or.inr h)]; exact Nat.zero_le _
  · rw [if_neg (c := 0 = 1 ∨ (p = 0 ∧ bi = true)) (by intro z; rcases z with z | z; exact absurd z (by decide); exact h z)]
    split <;> omega
theorem cw_od0 (L q : Nat) : cw_od o bd L q ≤ cw_od o bd 0 q := by
  unfold cw_od
  by_cases h : q = 0 ∧ bd = true
  · rw [if_pos (Or.inr h)]; exact Nat.zero_le _
  · rw [if_neg (c := 0 = 2 ∨ (q = 0 ∧ bd = true)) (by intro z; rcases z with z | z; exact absurd z (by decide); exact h z)]
    split <;> omega
theorem cw_oi_le (L p : Nat) : cw_oi o bi L p ≤ o := by unfold cw_oi; split <;> omega
theorem cw_od_le (L q : Nat) : cw_od o bd L q ≤ o := by unfold cw_od; split <;> omega
theorem cw_oi1 (p : Nat) : cw_oi o bi 1 p = 0 := if_pos (Or.inl rfl)
theorem cw_od2 (q : Nat) : cw_od o bd 2 q = 0 := if_pos (Or.inl rfl)
theorem cw_oi_n {L p : Nat} (h : L ≠ 1) : cw_oi o bi L p = cw_oi o bi 0 p := by
  unfold cw_oi
  have e1 : (L = 1 ∨ (p = 0 ∧ bi = true)) ↔ (0 = 1 ∨ (p = 0 ∧ bi = true)) := by simp [h]
  simp only [e1]
theorem cw_od_n {L q : Nat} (h : L ≠ 2) : cw_od o bd L q = cw_od o bd 0 q := by
  unfold cw_od
  have e1 : (L = 2 ∨ (q = 0 ∧ bd = true)) ↔ (0 = 2 ∨ (q = 0 ∧ bd = true)) := by simp [h]
  simp only [e1]
/-- a gap layer costs no more than the closed one -/
theorem cw_le0 (hb : ∀ L, base L ≤ base 0) (L p q : Nat) : cw_C G x o e bi bd base L p q ≤ cw_C G x o e bi bd base 0 p q := by
  rcases cw_cases (G := G) (x := x) (o := o) (e := e) (bi := bi) (bd := bd) (base := base) 0 p q with ⟨rfl, rfl, h⟩ | ⟨p', q', rfl, rfl, h⟩ | ⟨q', rfl, h⟩ | ⟨p', rfl, h⟩
  · rw [cw_00, cw_00]; exact hb L
  · rw [h]; exact cw_diag
  · rw [h]
    have h1 := cw_ins (G := G) (x := x) (o := o) (e := e) (bi := bi) (bd := bd) (base := base) (L := L) (p := p) (q := q')
    have h2 := cw_oi0 (o := o) (bi := bi) L p
    omega
  · rw [h]
    have h1 := cw_del (G := G) (x := x) (o := o) (e := e) (bi := bi) (bd := bd) (base := base) (L := L) (p := p') (q := q)
    have h2 := cw_od0 (o := o) (bd := bd) L q
    omega
/-- the closed layer costs an opening more at most -/
theorem cw_0le1 (hb : base 0 ≤ cw_oi o bi 0 0 + base 1) (p q : Nat) : cw_C G x o e bi bd base 0 p q ≤ cw_oi o bi 0 p + cw_C G x o e bi bd base 1 p q := by
  rcases cw_cases (G := G) (x := x) (o := o) (e := e) (bi := bi) (bd := bd) (base := base) 1 p q with ⟨rfl, rfl, h⟩ | ⟨p', q', rfl, rfl, h⟩ | ⟨q', rfl, h⟩ | ⟨p', rfl, h⟩
  · rw [cw_00, cw_00]; exact hb
  · rw [h]
    have h1 := cw_diag (G := G) (x := x) (o := o) (e := e) (bi := bi) (bd := bd) (base := base) (L := 0) (p := p') (q := q')
    omega
  · rw [h, cw_oi1]
    have h1 := cw_ins (G := G) (x := x) (o := o) (e := e) (bi := bi) (bd := bd) (base := base) (L := 0) (p := p) (q := q')
    omega
  · rw [h, cw_od_n (by decide)]
    have h1 := cw_del (G := G) (x := x) (o := o) (e := e) (bi := bi) (bd := bd) (base := base) (L := 0) (p := p') (q := q)
    omega
theorem cw_0le2 (hb : base 0 ≤ cw_od o bd 0 0 + base 2) (p q : Nat) : cw_C G x o e bi bd base 0 p q ≤ cw_od o bd 0 q + cw_C G x o e bi bd base 2 p q := by
  rcases cw_cases (G := G) (x := x) (o := o) (e := e) (bi := bi) (bd := bd) (base := base) 2 p q with ⟨rfl, rfl, h⟩ | ⟨p', q', rfl, rfl, h⟩ | ⟨q', rfl, h⟩ | ⟨p', rfl, h⟩
  · rw [cw_00, cw_00]; exact hb
  · rw [h]
    have h1 := cw_diag (G := G) (x := x) (o := o) (e := e) (bi := bi) (bd := bd) (base := base) (L := 0) (p := p') (q := q')
    omega
  · rw [h, cw_oi_n (by decide)]
    have h1 := cw_ins (G := G) (x := x) (o := o) (e := e) (bi := bi) (bd := bd) (base := base) (L := 0) (p := p) (q := q')
    omega
  · rw [h, cw_od2]
    have h1 := cw_del (G := G) (x := x) (o := o) (e := e) (bi := bi) (bd := bd) (base := base) (L := 0) (p := p') (q := q)
    omega
/-- within an insertion: as the closed layer, or one more insertion -/
theorem cw_1or (hb : base 0 ≤ base 1) (p q : Nat) : cw_C G x o e bi bd base 0 p q ≤ cw_C G x o e bi bd base 1 p q ∨ ∃ q', q = q' + 1 ∧ cw_C G x o e bi bd base 1 p q = e + cw_C G x o e bi bd base 1 p q' := by
  rcases cw_cases (G := G) (x := x) (o := o) (e := e) (bi := bi) (bd := bd) (base := base) 1 p q with ⟨rfl, rfl, h⟩ | ⟨p', q', rfl, rfl, h⟩ | ⟨q', rfl, h⟩ | ⟨p', rfl, h⟩
  · left; rw [cw_00, cw_00]; exact hb
  · left; rw [h]; exact cw_diag
  · right; exact ⟨q', rfl, by rw [h, cw_oi1]; omega⟩
  · left; rw [h, cw_od_n (by decide)]; exact cw_del
theorem cw_2or (hb : base 0 ≤ base 2) (p q : Nat) : cw_C G x o e bi bd base 0 p q ≤ cw_C G x o e bi bd base 2 p q ∨ ∃ p', p = p' + 1 ∧ cw_C G x o e bi bd base 2 p q = e + cw_C G x o e bi bd base 2 p' q := by
  rcases cw_cases (G := G) (x := x) (o := o) (e := e) (bi := bi) (bd := bd) (base := base) 2 p q with ⟨rfl, rfl, h⟩ | ⟨p', q', rfl, rfl, h⟩ | ⟨q', rfl, h⟩ | ⟨p', rfl, h⟩
  · left; rw [cw_00, cw_00]; exact hb
  · left; rw [h]; exact cw_diag
  · left; rw [h, cw_oi_n (by decide)]; exact cw_ins
  · right; exact ⟨p', rfl, by rw [h, cw_od2]; omega⟩
/-- a bound -/
theorem cw_b2 {K : Nat} (hb : ∀ L, base L ≤ K) : ∀ p, cw_C G x o e bi bd base 2 p 0 ≤ e * p + K := by
  intro p
  induction p with
  | zero => rw [cw_00]; have := hb 2; omega
  | succ p ih =>
    have h1 := cw_del (G := G) (x := x) (o := o) (e := e) (bi := bi) (bd := bd) (base := base) (L := 2) (p := p) (q := 0)
    rw [cw_od2] at h1
    rw [Nat.mul_succ]
    omega
theorem cw_b0p {K : Nat} (hb : ∀ L, base L ≤ K) : ∀ p, cw_C G x o e bi bd base 1 p 0 ≤ o + e * p + K := by
  intro p
  cases p with
  | zero => rw [cw_00]; have := hb 1; omega
  | succ p =>
    have h1 := cw_del (G := G) (x := x) (o := o) (e := e) (bi := bi) (bd := bd) (base := base) (L := 1) (p := p) (q := 0)
    have h2 := cw_b2 (G := G) (x := x) (o := o) (e := e) (bi := bi) (bd := bd) (base := base) hb p
    have h3 := cw_od_le (o := o) (bd := bd) 1 0
    rw [Nat.mul_succ]
    omega
theorem cw_b1 {K : Nat} (hb : ∀ L, base L ≤ K) (p : Nat) : ∀ q, cw_C G x o e bi bd base 1 p q ≤ o + e * (p + q) + K := by
  intro q
  induction q with
  | zero => exact cw_b0p hb p
  | succ q ih =>
    have h1 := cw_ins (G := G) (x := x) (o := o) (e := e) (bi := bi) (bd := bd) (base := base) (L := 1) (p := p) (q := q)
    rw [cw_oi1] at h1
    rw [show p + (q + 1) = (p + q) + 1 from rfl, Nat.mul_succ]
    omega
theorem cw_b {K : Nat} (hb : ∀ L, base L ≤ K) (L p q : Nat) : cw_C G x o e bi bd base L p q ≤ 2 * o + e * (p + q) + K := by
  cases q with
  | succ q =>
    have h1 := cw_ins (G := G) (x := x) (o := o) (e := e) (bi := bi) (bd := bd) (base := base) (L := L) (p := p) (q := q)
    have h2 := cw_b1 (G := G) (x := x) (o := o) (e := e) (bi := bi) (bd := bd) (base := base) hb p q
    have h3 := cw_oi_le (o := o) (bi := bi) L p
    rw [show p + (q + 1) = (p + q) + 1 from rfl, Nat.mul_succ]
    omega
  | zero =>
    cases p with
    | zero => rw [cw_00]; have := hb L; omega
    | succ p =>
      have h1 := cw_del (G := G) (x := x) (o := o) (e := e) (bi := bi) (bd := bd) (base := base) (L := L) (p := p) (q := 0)
      have h2 := cw_b2 (G := G) (x := x) (o := o) (e := e) (bi := bi) (bd := bd) (base := base) hb p
      have h3 := cw_od_le (o := o) (bd := bd) L 0
      rw [show p + 1 + 0 = p + 1 from rfl, Nat.mul_succ]
      omega
end
section
variable {G : Nat → Nat → Bool} {x o e : Nat} {bi bd : Bool}
/-- nothing remains at the corner -/
def cw_z : Nat → Nat := fun _ => 0
theorem cw_z0 (L : Nat) : cw_z L ≤ 0 := Nat.le_refl 0
theorem cw_zz (L : Nat) : cw_z L = 0 := rfl
theorem cw_p1 (p : Nat) : ∀ q, cw_C G x o e bi bd cw_z 1 p q ≤ e + cw_C G x o e bi bd cw_z 1 (p + 1) q := by
  intro q
  induction q with
  | zero =>
    rcases cw_cases (G := G) (x := x) (o := o) (e := e) (bi := bi) (bd := bd) (base := cw_z) 1 (p + 1) 0 with ⟨h0, _⟩ | ⟨p', q', _, h0, _⟩ | ⟨q', h0, _⟩ | ⟨p', h0, h⟩
    · omega
    · omega
    · omega
    · obtain rfl : p' = p := by omega
      rw [h, cw_od_n (by decide)]
      have h1 := cw_le0 (G := G) (x := x) (o := o) (e := e) (bi := bi) (bd := bd) (base := cw_z) (fun L => Nat.le_refl 0) 1 p' 0
      have h2 := cw_0le2 (G := G) (x := x) (o := o) (e := e) (bi := bi) (bd := bd) (base := cw_z) (Nat.zero_le _) p' 0
      omega
  | succ q ih =>
    have hi := cw_ins (G := G) (x := x) (o := o) (e := e) (bi := bi) (bd := bd) (base := cw_z) (L := 1) (p := p) (q := q)
    rw [cw_oi1] at hi
    rcases cw_cases (G := G) (x := x) (o := o) (e := e) (bi := bi) (bd := bd) (base := cw_z) 1 (p + 1) (q + 1) with ⟨h0, _⟩ | ⟨p', q', h0, h0', h⟩ | ⟨q', h0, h⟩ | ⟨p', h0, h⟩
    · omega
    · obtain rfl : p' = p := by omega
      obtain rfl : q' = q := by omega
      have h1 := cw_le0 (G := G) (x := x) (o := o) (e := e) (bi := bi) (bd := bd) (base := cw_z) (fun L => Nat.le_refl 0) 1 p' q'
      omega
    · obtain rfl : q' = q := by omega
      omega
    · obtain rfl : p' = p := by omega
      rw [h, cw_od_n (by decide)]
      have h1 := cw_le0 (G := G) (x := x) (o := o) (e := e) (bi := bi) (bd := bd) (base := cw_z) (fun L => Nat.le_refl 0) 1 p' (q + 1)
      have h2 := cw_0le2 (G := G) (x := x) (o := o) (e := e) (bi := bi) (bd := bd) (base := cw_z) (Nat.zero_le _) p' (q + 1)
      omega
theorem cw_p2 (q : Nat) : ∀ p, cw_C G x o e bi bd cw_z 2 p q ≤ e + cw_C G x o e bi bd cw_z 2 p (q + 1) := by
  intro p
  induction p with
  | zero =>
    rcases cw_cases (G := G) (x := x) (o := o) (e := e) (bi := bi) (bd := bd) (base := cw_z) 2 0 (q + 1) with ⟨_, h0, _⟩ | ⟨p', q', h0, _⟩ | ⟨q', h0, h⟩ | ⟨p', h0, _⟩
    · omega
    · omega
    · obtain rfl : q' = q := by omega
      rw [h, cw_oi_n (by decide)]
      have h1 := cw_le0 (G := G) (x := x) (o := o) (e := e) (bi := bi) (bd := bd) (base := cw_z) (fun L => Nat.le_refl 0) 2 0 q'
      have h2 := cw_0le1 (G := G) (x := x) (o := o) (e := e) (bi := bi) (bd := bd) (base := cw_z) (Nat.zero_le _) 0 q'
      omega
    · omega
  | succ p ih =>
    have hi := cw_del (G := G) (x := x) (o := o) (e := e) (bi := bi) (bd := bd) (base := cw_z) (L := 2) (p := p) (q := q)
    rw [cw_od2] at hi
    rcases cw_cases (G := G) (x := x) (o := o) (e := e) (bi := bi) (bd := bd) (base := cw_z) 2 (p + 1) (q + 1) with ⟨h0, _⟩ | ⟨p', q', h0, h0', h⟩ | ⟨q', h0, h⟩ | ⟨p', h0, h⟩
    · omega
    · obtain rfl : p' = p := by omega
      obtain rfl : q' = q := by omega
      have h1 := cw_le0 (G := G) (x := x) (o := o) (e := e) (bi := bi) (bd := bd) (base := cw_z) (fun L => Nat.le_refl 0) 2 p' q'
      omega
    · obtain rfl : q' = q := by omega
      rw [h, cw_oi_n (by decide)]
      have h1 := cw_le0 (G := G) (x := x) (o := o) (e := e) (bi := bi) (bd := bd) (base := cw_z) (fun L => Nat.le_refl 0) 2 (p + 1) q'
      have h2 := cw_0le1 (G := G) (x := x) (o := o) (e := e) (bi := bi) (bd := bd) (base := cw_z) (Nat.zero_le _) (p + 1) q'
      omega
    · obtain rfl : p' = p := by omega
      omega
/-- along a diagonal the cost falls -/
theorem cw_mono (L p q : Nat) : cw_C G x o e bi bd cw_z L p q ≤ cw_C G x o e bi bd cw_z L (p + 1) (q + 1) := by
  have h0 := cw_le0 (G := G) (x := x) (o := o) (e := e) (bi := bi) (bd := bd) (base := cw_z) (fun L => Nat.le_refl 0) L p q
  have h01 := cw_0le1 (G := G) (x := x) (o := o) (e := e) (bi := bi) (bd := bd) (base := cw_z) (Nat.zero_le _) p q
  have h02 := cw_0le2 (G := G) (x := x) (o := o) (e := e) (bi := bi) (bd := bd) (base := cw_z) (Nat.zero_le _) p q
  have h1 := cw_p1 (G := G) (x := x) (o := o) (e := e) (bi := bi) (bd := bd) p q
  have h2 := cw_p2 (G := G) (x := x) (o := o) (e := e) (bi := bi) (bd := bd) q p
  have hoi := cw_oi_le (o := o) (bi := bi) 0 p
  have hod := cw_od_le (o := o) (bd := bd) 0 q
  rw [cw_ss]
  refine Nat.le_min.mpr ⟨by omega, Nat.le_min.mpr ⟨?_, ?_⟩⟩
  · by_cases z : L = 1
    · subst z; rw [if_pos rfl]; omega
    · rw [if_neg z]; omega
  · by_cases z : L = 2
    · subst z; rw [if_pos rfl]; omega
    · rw [if_neg z]; omega
/-- the borders with an excused last run -/
theorem cw_bi (hb : bi = true) (L : Nat) : ∀ q, cw_C G x o e bi bd cw_z L 0 q = e * q := by
  intro q
  induction q generalizing L with
  | zero => rw [cw_00, Nat.mul_zero]; rfl
  | succ q ih => rw [cw_0s, if_pos (Or.inr hb), ih, Nat.mul_succ]; omega
theorem cw_bd (hb : bd = true) (L : Nat) : ∀ p, cw_C G x o e bi bd cw_z L p 0 = e * p := by
  intro p
  induction p generalizing L with
  | zero => rw [cw_00, Nat.mul_zero]; rfl
  | succ p ih => rw [cw_s0, if_pos (Or.inr hb), ih, Nat.mul_succ]; omega
end
end
section
/-! 03 wavefronts: the least row of a diagonal whose cost is at most s -/
def cw_D (G : Nat → Nat → Bool) (x o e : Nat) (bi bd : Bool) (n m L : Nat) (i k : Int) : Int :=
  ((cw_C G x o e bi bd cw_z L ((n : Int) - i).toNat ((m : Int) - i - k).toNat : Nat) : Int)
def cw_in (n m : Nat) (i k : Int) : Prop := 0 ≤ i ∧ 0 ≤ i + k ∧ i ≤ n ∧ i + k ≤ m
def cw_W (G : Nat → Nat → Bool) (x o e : Nat) (bi bd : Bool) (n m L : Nat) (s k r : Int) : Prop :=
  (r = 99 ∨ (cw_in n m r k ∧ cw_D G x o e bi bd n m L r k ≤ s)) ∧ ∀ i, cw_in n m i k → cw_D G x o e bi bd n m L i k ≤ s → r ≤ i
def cw_E (G : Nat → Nat → Bool) (n m : Nat) (i j : Int) : Prop := G ((n : Int) - 1 - i).toNat ((m : Int) - 1 - j).toNat = true
def cw_bm (k r : Int) : Int := if r = 99 ∨ r ≤ max 0 (-k) then r else r - 1
def cw_bn (n m : Nat) (k r : Int) : Int := if max r (-k) ≤ min (n : Int) ((m : Int) - (k + 1)) then max r (-k) else 99
def cw_bl (n m : Nat) (k r : Int) : Int := if max r 1 ≤ min (n : Int) ((m : Int) - (k - 1)) then max r 1 - 1 else 99
def cw_sd (e edge n m : Nat) (s k : Int) : Int :=
  if (m : Int) - n - k = 0 then n else if 0 < (m : Int) - n - k ∧ edge = 1 ∧ ((m : Int) - n - k) * e ≤ s then n
  else if (m : Int) - n - k < 0 ∧ edge = 2 ∧ (-((m : Int) - n - k)) * e ≤ s then (m : Int) - k else 99
def cw_SL (G : Nat → Nat → Bool) (n m : Nat) (k r r' : Int) : Prop :=
  max 0 (-k) ≤ r' ∧ r' ≤ r ∧ (∀ t, r' ≤ t → t < r → cw_E G n m t (t + k)) ∧ (r' = max 0 (-k) ∨ ¬ cw_E G n m (r' - 1) (r' - 1 + k))
section
variable {G : Nat → Nat → Bool} {x o e : Nat} {bi bd : Bool} {n m : Nat}
theorem cw_Dpq {L : Nat} {i k : Int} (p q : Nat) (hp : (n : Int) - i = p) (hq : (m : Int) - i - k = q) : cw_D G x o e bi bd n m L i k = ((cw_C G x o e bi bd cw_z L p q : Nat) : Int) := by
  unfold cw_D
  rw [hp, hq]
  rfl
theorem cw_Epq {i j : Int} (p q : Nat) (hp : (n : Int) - i = p + 1) (hq : (m : Int) - j = q + 1) : cw_E G n m i j ↔ G p q = true := by
  unfold cw_E
  rw [show ((n : Int) - 1 - i).toNat = p by omega, show ((m : Int) - 1 - j).toNat = q by omega]
theorem cw_D0 {L : Nat} {i k : Int} : 0 ≤ cw_D G x o e bi bd n m L i k := Int.natCast_nonneg _
theorem cw_Dmono1 {L : Nat} {i k : Int} (h : cw_in n m i k) (h' : cw_in n m (i + 1) k) : cw_D G x o e bi bd n m L (i + 1) k ≤ cw_D G x o e bi bd n m L i k := by
  obtain ⟨a1, a2, a3, a4⟩ := h
  obtain ⟨b1, b2, b3, b4⟩ := h'
  obtain ⟨p, hp⟩ : ∃ p : Nat, (n : Int) - (i + 1) = p := ⟨((n : Int) - (i + 1)).toNat, by omega⟩
  obtain ⟨q, hq⟩ : ∃ q : Nat, (m : Int) - (i + 1) - k = q := ⟨((m : Int) - (i + 1) - k).toNat, by omega⟩
  rw [cw_Dpq p q hp hq, cw_Dpq (p + 1) (q + 1) (by omega) (by omega)]
  exact Int.ofNat_le.mpr (cw_mono L p q)
theorem cw_Dmono {L : Nat} {i j k : Int} (h : cw_in n m i k) (h' : cw_in n m j k) (hij : i ≤ j) : cw_D G x o e bi bd n m L j k ≤ cw_D G x o e bi bd n m L i k := by
  obtain ⟨d, rfl⟩ : ∃ d : Nat, j = i + d := ⟨(j - i).toNat, by omega⟩
  induction d with
  | zero => rw [show i + ((0 : Nat) : Int) = i by omega]; exact Int.le_refl _
  | succ d ih =>
    obtain ⟨a1, a2, a3, a4⟩ := h
    obtain ⟨b1, b2, b3, b4⟩ := h'
    have hd : cw_in n m (i + d) k := ⟨by omega, by omega, by omega, by omega⟩
    have h1 := ih hd (by omega)
    have h2 := cw_Dmono1 (G := G) (x := x) (o := o) (e := e) (bi := bi) (bd := bd) (L := L) hd (show cw_in n m (i + d + 1) k from ⟨by omega, by omega, by omega, by omega⟩)
    rw [show i + ((d + 1 : Nat) : Int) = i + d + 1 by omega]
    exact Int.le_trans h2 h1
theorem cw_W_le {L : Nat} {s k r i : Int} (hn : n ≤ 15) (h : cw_W G x o e bi bd n m L s k r) (hi : cw_in n m i k) : r ≤ i ↔ cw_D G x o e bi bd n m L i k ≤ s := by
  refine ⟨fun hr => ?_, h.2 i hi⟩
  rcases h.1 with z | ⟨z1, z2⟩
  · obtain ⟨a1, a2, a3, a4⟩ := hi; omega
  · exact Int.le_trans (cw_Dmono z1 hi hr) z2
theorem cw_W_neg {L : Nat} {s k : Int} (hs : s < 0) : cw_W G x o e bi bd n m L s k 99 :=
  ⟨Or.inl rfl, fun i _ hd => by have := cw_D0 (G := G) (x := x) (o := o) (e := e) (bi := bi) (bd := bd) (n := n) (m := m) (L := L) (i := i) (k := k); omega⟩
theorem cw_W_out {L : Nat} {s k : Int} (hk : k < -n ∨ (m : Int) < k) : cw_W G x o e bi bd n m L s k 99 :=
  ⟨Or.inl rfl, fun i hi _ => by obtain ⟨a1, a2, a3, a4⟩ := hi; omega⟩
theorem cw_W_r {L : Nat} {s k r : Int} (h : cw_W G x o e bi bd n m L s k r) (hn : n ≤ 15) : 0 ≤ r ∧ r ≤ 99 := by
  rcases h.1 with z | ⟨⟨a1, a2, a3, a4⟩, z2⟩ <;> omega
/-- the columns, by rows and diagonals -/
theorem cw_Ddiag {L : Nat} {i k : Int} (h : cw_in n m i k) (h' : cw_in n m (i + 1) k) : cw_D G x o e bi bd n m L i k ≤ x + cw_D G x o e bi bd n m 0 (i + 1) k ∧ (cw_E G n m i (i + k) → cw_D G x o e bi bd n m L i k ≤ cw_D G x o e bi bd n m 0 (i + 1) k) := by
  obtain ⟨a1, a2, a3, a4⟩ := h
  obtain ⟨b1, b2, b3, b4⟩ := h'
  obtain ⟨p, hp⟩ : ∃ p : Nat, (n : Int) - (i + 1) = p := ⟨((n : Int) - (i + 1)).toNat, by omega⟩
  obtain ⟨q, hq⟩ : ∃ q : Nat, (m : Int) - (i + 1) - k = q := ⟨((m : Int) - (i + 1) - k).toNat, by omega⟩
  rw [cw_Dpq p q hp hq, cw_Dpq (p + 1) (q + 1) (by omega) (by omega), cw_Epq p q (by omega) (by omega)]
  have h1 := cw_diag (G := G) (x := x) (o := o) (e := e) (bi := bi) (bd := bd) (base := cw_z) (L := L) (p := p) (q := q)
  unfold cw_g at h1
  constructor
  · have : (if G p q = true then 0 else x) ≤ x := by split <;> omega
    omega
  · intro hg
    rw [if_pos hg] at h1
    omega
theorem cw_Dins {i k : Int} (h : cw_in n m i k) (h' : i + k + 1 ≤ m) : cw_D G x o e bi bd n m 0 i k ≤ o + e + cw_D G x o e bi bd n m 1 i (k + 1) ∧ cw_D G x o e bi bd n m 1 i k ≤ e + cw_D G x o e bi bd n m 1 i (k + 1) := by
  obtain ⟨a1, a2, a3, a4⟩ := h
  obtain ⟨p, hp⟩ : ∃ p : Nat, (n : Int) - i = p := ⟨((n : Int) - i).toNat, by omega⟩
  obtain ⟨q, hq⟩ : ∃ q : Nat, (m : Int) - i - (k + 1) = q := ⟨((m : Int) - i - (k + 1)).toNat, by omega⟩
  rw [cw_Dpq p q hp hq, cw_Dpq p (q + 1) (by omega) (by omega), cw_Dpq p (q + 1) (by omega) (by omega)]
  have h0 := cw_ins (G := G) (x := x) (o := o) (e := e) (bi := bi) (bd := bd) (base := cw_z) (L := 0) (p := p) (q := q)
  have h1 := cw_ins (G := G) (x := x) (o := o) (e := e) (bi := bi) (bd := bd) (base := cw_z) (L := 1) (p := p) (q := q)
  have h2 := cw_oi_le (o := o) (bi := bi) 0 p
  rw [cw_oi1] at h1
  omega
theorem cw_Ddel {i k : Int} (h : cw_in n m i k) (h' : i + 1 ≤ n) : cw_D G x o e bi bd n m 0 i k ≤ o + e + cw_D G x o e bi bd n m 2 (i + 1) (k - 1) ∧ cw_D G x o e bi bd n m 2 i k ≤ e + cw_D G x o e bi bd n m 2 (i + 1) (k - 1) := by
  obtain ⟨a1, a2, a3, a4⟩ := h
  obtain ⟨p, hp⟩ : ∃ p : Nat, (n : Int) - (i + 1) = p := ⟨((n : Int) - (i + 1)).toNat, by omega⟩
  obtain ⟨q, hq⟩ : ∃ q : Nat, (m : Int) - (i + 1) - (k - 1) = q := ⟨((m : Int) - (i + 1) - (k - 1)).toNat, by omega⟩
  rw [cw_Dpq p q hp hq, cw_Dpq (p + 1) q (by omega) (by omega), cw_Dpq (p + 1) q (by omega) (by omega)]
  have h0 := cw_del (G := G) (x := x) (o := o) (e := e) (bi := bi) (bd := bd) (base := cw_z) (L := 0) (p := p) (q := q)
  have h1 := cw_del (G := G) (x := x) (o := o) (e := e) (bi := bi) (bd := bd) (base := cw_z) (L := 2) (p := p) (q := q)
  have h2 := cw_od_le (o := o) (bd := bd) 0 q
  rw [cw_od2] at h1
  omega
theorem cw_Dcases {i k : Int} (h : cw_in n m i k) : (i = n ∧ i + k = m)
    ∨ (cw_in n m (i + 1) k ∧ cw_E G n m i (i + k) ∧ cw_D G x o e bi bd n m 0 i k = cw_D G x o e bi bd n m 0 (i + 1) k)
    ∨ (cw_in n m (i + 1) k ∧ cw_D G x o e bi bd n m 0 i k = x + cw_D G x o e bi bd n m 0 (i + 1) k)
    ∨ (i + k + 1 ≤ m ∧ ((i = n ∧ bi = true) ∨ cw_D G x o e bi bd n m 0 i k = o + e + cw_D G x o e bi bd n m 1 i (k + 1)))
    ∨ (i + 1 ≤ n ∧ ((i + k = m ∧ bd = true) ∨ cw_D G x o e bi bd n m 0 i k = o + e + cw_D G x o e bi bd n m 2 (i + 1) (k - 1))) := by
  obtain ⟨a1, a2, a3, a4⟩ := h
  obtain ⟨p, hp⟩ : ∃ p : Nat, (n : Int) - i = p := ⟨((n : Int) - i).toNat, by omega⟩
  obtain ⟨q, hq⟩ : ∃ q : Nat, (m : Int) - i - k = q := ⟨((m : Int) - i - k).toNat, by omega⟩
  rcases cw_cases (G := G) (x := x) (o := o) (e := e) (bi := bi) (bd := bd) (base := cw_z) 0 p q with ⟨h1, h2, _⟩ | ⟨p', q', h1, h2, h3⟩ | ⟨q', h1, h3⟩ | ⟨p', h1, h3⟩
  · left; omega
  · have hin : cw_in n m (i + 1) k := ⟨by omega, by omega, by omega, by omega⟩
    rw [cw_Dpq p q hp hq, cw_Dpq (L := 0) (i := i + 1) p' q' (by omega) (by omega), cw_Epq p' q' (by omega) (by omega), h3]
    unfold cw_g
    by_cases hg : G p' q' = true
    · right; left; refine ⟨hin, hg, ?_⟩; rw [if_pos hg]; omega
    · right; right; left; refine ⟨hin, ?_⟩; rw [if_neg hg]; omega
  · right; right; right; left
    refine ⟨by omega, ?_⟩
    rw [cw_Dpq p q hp hq, cw_Dpq (L := 1) (i := i) p q' (by omega) (by omega), h3]
    unfold cw_oi
    by_cases hg : p = 0 ∧ bi = true
    · left; exact ⟨by omega, hg.2⟩
    · right; rw [if_neg (by intro z; rcases z with z | z; exact absurd z (by decide); exact hg z)]; omega
  · right; right; right; right
    refine ⟨by omega, ?_⟩
    rw [cw_Dpq p q hp hq, cw_Dpq (L := 2) (i := i + 1) p' q (by omega) (by omega), h3]
    unfold cw_od
    by_cases hg : q = 0 ∧ bd = true
    · left; exact ⟨by omega, hg.2⟩
    · right; rw [if_neg (by intro z; rcases z with z | z; exact absurd z (by decide); exact hg z)]; omega
theorem cw_D1or {i k : Int} (h : cw_in n m i k) : cw_D G x o e bi bd n m 0 i k ≤ cw_D G x o e bi bd n m 1 i k ∨ (i + k + 1 ≤ m ∧ cw_D G x o e bi bd n m 1 i k = e + cw_D G x o e bi bd n m 1 i (k + 1)) := by
  obtain ⟨a1, a2, a3, a4⟩ := h
  obtain ⟨p, hp⟩ : ∃ p : Nat, (n : Int) - i = p := ⟨((n : Int) - i).toNat, by omega⟩
  obtain ⟨q, hq⟩ : ∃ q : Nat, (m : Int) - i - k = q := ⟨((m : Int) - i - k).toNat, by omega⟩
  rcases cw_1or (G := G) (x := x) (o := o) (e := e) (bi := bi) (bd := bd) (base := cw_z) (Nat.le_refl 0) p q with h1 | ⟨q', h1, h2⟩
  · left; rw [cw_Dpq p q hp hq, cw_Dpq p q hp hq]; exact Int.ofNat_le.mpr h1
  · right; refine ⟨by omega, ?_⟩
    rw [cw_Dpq p q hp hq, cw_Dpq (L := 1) (i := i) (k := k + 1) p q' (by omega) (by omega), h2]; omega
theorem cw_D2or {i k : Int} (h : cw_in n m i k) : cw_D G x o e bi bd n m 0 i k ≤ cw_D G x o e bi bd n m 2 i k ∨ (i + 1 ≤ n ∧ cw_D G x o e bi bd n m 2 i k = e + cw_D G x o e bi bd n m 2 (i + 1) (k - 1)) := by
  obtain ⟨a1, a2, a3, a4⟩ := h
  obtain ⟨p, hp⟩ : ∃ p : Nat, (n : Int) - i = p := ⟨((n : Int) - i).toNat, by omega⟩
  obtain ⟨q, hq⟩ : ∃ q : Nat, (m : Int) - i - k = q := ⟨((m : Int) - i - k).toNat, by omega⟩
  rcases cw_2or (G := G) (x := x) (o := o) (e := e) (bi := bi) (bd := bd) (base := cw_z) (Nat.le_refl 0) p q with h1 | ⟨p', h1, h2⟩
  · left; rw [cw_Dpq p q hp hq, cw_Dpq p q hp hq]; exact Int.ofNat_le.mpr h1
  · right; refine ⟨by omega, ?_⟩
    rw [cw_Dpq p q hp hq, cw_Dpq (L := 2) (i := i + 1) (k := k - 1) p' q (by omega) (by omega), h2]; omega
theorem cw_Dle0 {L : Nat} {i k : Int} : cw_D G x o e bi bd n m L i k ≤ cw_D G x o e bi bd n m 0 i k :=
  Int.ofNat_le.mpr (cw_le0 (fun _ => Nat.le_refl 0) L _ _)
/-- one row before an insertion, before a deletion -/
theorem cw_BN {s k r : Int} (hn : n ≤ 15) (h : cw_W G x o e bi bd n m 1 s (k + 1) r) :
    (cw_bn n m k r = 99 ∨ (cw_in n m (cw_bn n m k r) k ∧ cw_bn n m k r + k + 1 ≤ m ∧ cw_D G x o e bi bd n m 1 (cw_bn n m k r) (k + 1) ≤ s))
    ∧ ∀ i, cw_in n m i k → i + k + 1 ≤ m → cw_D G x o e bi bd n m 1 i (k + 1) ≤ s → cw_bn n m k r ≤ i := by
  obtain ⟨h1, h2⟩ := h
  constructor
  · unfold cw_bn
    split
    · rename_i z
      rcases h1 with h1 | ⟨⟨a1, a2, a3, a4⟩, hd⟩
      · omega
      · right
        have hb : cw_in n m (max r (-k)) (k + 1) := ⟨by omega, by omega, by omega, by omega⟩
        exact ⟨⟨by omega, by omega, by omega, by omega⟩, by omega, Int.le_trans (cw_Dmono ⟨a1, a2, a3, a4⟩ hb (by omega)) hd⟩
    · exact Or.inl rfl
  · intro i hi hk hd
    obtain ⟨b1, b2, b3, b4⟩ := hi
    have := h2 i ⟨b1, by omega, b3, by omega⟩ hd
    unfold cw_bn
    split <;> omega
theorem cw_BL {s k r : Int} (hn : n ≤ 15) (h : cw_W G x o e bi bd n m 2 s (k - 1) r) :
    (cw_bl n m k r = 99 ∨ (cw_in n m (cw_bl n m k r) k ∧ cw_bl n m k r + 1 ≤ n ∧ cw_D G x o e bi bd n m 2 (cw_bl n m k r + 1) (k - 1) ≤ s))
    ∧ ∀ i, cw_in n m i k → i + 1 ≤ n → cw_D G x o e bi bd n m 2 (i + 1) (k - 1) ≤ s → cw_bl n m k r ≤ i := by
  obtain ⟨h1, h2⟩ := h
  constructor
  · unfold cw_bl
    split
    · rename_i z
      rcases h1 with h1 | ⟨⟨a1, a2, a3, a4⟩, hd⟩
      · omega
      · right
        have hb : cw_in n m (max r 1) (k - 1) := ⟨by omega, by omega, by omega, by omega⟩
        refine ⟨⟨by omega, by omega, by omega, by omega⟩, by omega, ?_⟩
        rw [show max r 1 - 1 + 1 = max r 1 by omega]
        exact Int.le_trans (cw_Dmono ⟨a1, a2, a3, a4⟩ hb (by omega)) hd
    · exact Or.inl rfl
  · intro i hi hk hd
    obtain ⟨b1, b2, b3, b4⟩ := hi
    have := h2 (i + 1) ⟨by omega, by omega, by omega, by omega⟩ hd
    unfold cw_bl
    split <;> omega
theorem cw_BM {s k r : Int} (hn : n ≤ 15) (h : cw_W G x o e bi bd n m 0 (s - x) k r) :
    (cw_bm k r = 99 ∨ (cw_in n m (cw_bm k r) k ∧ cw_D G x o e bi bd n m 0 (cw_bm k r) k ≤ s))
    ∧ ∀ i, cw_in n m i k → cw_in n m (i + 1) k → cw_D G x o e bi bd n m 0 (i + 1) k ≤ s - x → cw_bm k r ≤ i := by
  obtain ⟨h1, h2⟩ := h
  constructor
  · unfold cw_bm
    split
    · rcases h1 with h1 | ⟨hi, hd⟩
      · exact Or.inl h1
      · exact Or.inr ⟨hi, by omega⟩
    · rename_i z
      rcases h1 with h1 | ⟨hi, hd⟩
      · exact absurd (Or.inl h1) z
      · right
        have hr : ¬ r ≤ max 0 (-k) := fun y => z (Or.inr y)
        have hi' := hi
        obtain ⟨a1, a2, a3, a4⟩ := hi'
        have hj : cw_in n m (r - 1) k := ⟨by omega, by omega, by omega, by omega⟩
        refine ⟨hj, ?_⟩
        have := (cw_Ddiag (G := G) (x := x) (o := o) (e := e) (bi := bi) (bd := bd) (L := 0) hj (by rw [show r - 1 + 1 = r by omega]; exact hi)).1
        rw [show r - 1 + 1 = r by omega] at this
        omega
  · intro i hi hi' hd
    have := h2 (i + 1) hi' hd
    obtain ⟨b1, b2, b3, b4⟩ := hi
    unfold cw_bm
    split
    · rename_i z
      rcases z with z | z <;> omega
    · omega
end
end
section
/-! 04 one cell of a wavefront from those before it -/
section
variable {G : Nat → Nat → Bool} {x o e edge : Nat} {n m : Nat}
theorem cw_SD {s k : Int} (hs : 0 ≤ s) (hk1 : -(n : Int) ≤ k) (hk2 : k ≤ m) :
    (cw_sd e edge n m s k = 99 ∨ (cw_in n m (cw_sd e edge n m s k) k ∧ cw_D G x o e (decide (edge = 1)) (decide (edge = 2)) n m 0 (cw_sd e edge n m s k) k ≤ s))
    ∧ (∀ i, i = (n : Int) → i + k = m → cw_sd e edge n m s k ≤ i)
    ∧ (∀ i, cw_in n m i k → i = (n : Int) → decide (edge = 1) = true → cw_D G x o e (decide (edge = 1)) (decide (edge = 2)) n m 0 i k ≤ s → cw_sd e edge n m s k ≤ i)
    ∧ (∀ i, cw_in n m i k → i + k = m → decide (edge = 2) = true → cw_D G x o e (decide (edge = 1)) (decide (edge = 2)) n m 0 i k ≤ s → cw_sd e edge n m s k ≤ i) := by
  refine ⟨?_, ?_, ?_, ?_⟩
  · unfold cw_sd
    split
    · rename_i z
      right
      refine ⟨⟨by omega, by omega, by omega, by omega⟩, ?_⟩
      rw [cw_Dpq 0 0 (by omega) (by omega), cw_00]
      exact hs
    · split
      · rename_i z
        obtain ⟨z1, z2, z3⟩ := z
        right
        refine ⟨⟨by omega, by omega, by omega, by omega⟩, ?_⟩
        obtain ⟨q, hq⟩ : ∃ q : Nat, (m : Int) - n - k = q := ⟨((m : Int) - n - k).toNat, by omega⟩
        rw [cw_Dpq 0 q (by omega) hq, cw_bi (by exact decide_eq_true z2)]
        rw [hq] at z3
        rw [Int.natCast_mul, Int.mul_comm]
        exact z3
      · split
        · rename_i z
          obtain ⟨z1, z2, z3⟩ := z
          right
          refine ⟨⟨by omega, by omega, by omega, by omega⟩, ?_⟩
          obtain ⟨p, hp⟩ : ∃ p : Nat, -((m : Int) - n - k) = p := ⟨(-((m : Int) - n - k)).toNat, by omega⟩
          rw [cw_Dpq p 0 (by omega) (by omega), cw_bd (by exact decide_eq_true z2)]
          rw [hp] at z3
          rw [Int.natCast_mul, Int.mul_comm]
          exact z3
        · exact Or.inl rfl
  · intro i hi hik
    unfold cw_sd
    rw [if_pos (by omega)]
    omega
  · intro i hin hi hb hd
    obtain ⟨a1, a2, a3, a4⟩ := hin
    obtain ⟨q, hq⟩ : ∃ q : Nat, (m : Int) - n - k = q := ⟨((m : Int) - n - k).toNat, by omega⟩
    rw [cw_Dpq 0 q (by omega) (by omega), cw_bi hb, Int.natCast_mul, Int.mul_comm] at hd
    unfold cw_sd
    split
    · omega
    · rw [if_pos ⟨by omega, of_decide_eq_true hb, by rw [hq]; exact hd⟩]
      omega
  · intro i hin hi hb hd
    obtain ⟨a1, a2, a3, a4⟩ := hin
    obtain ⟨p, hp⟩ : ∃ p : Nat, -((m : Int) - n - k) = p := ⟨(-((m : Int) - n - k)).toNat, by omega⟩
    rw [cw_Dpq p 0 (by omega) (by omega), cw_bd hb, Int.natCast_mul, Int.mul_comm] at hd
    unfold cw_sd
    split
    · omega
    · have h2 := of_decide_eq_true hb
      rw [if_neg (by intro z; omega), if_pos ⟨by omega, h2, by rw [hp]; exact hd⟩]
      omega
theorem cw_SLex {k r : Int} (h : max 0 (-k) ≤ r) : ∃ r', cw_SL G n m k r r' := by
  obtain ⟨d, rfl⟩ : ∃ d : Nat, r = max 0 (-k) + d := ⟨(r - max 0 (-k)).toNat, by omega⟩
  induction d with
  | zero => exact ⟨max 0 (-k), Int.le_refl _, by omega, fun t h1 h2 => by omega, Or.inl rfl⟩
  | succ d ih =>
    by_cases hE : cw_E G n m (max 0 (-k) + d) (max 0 (-k) + d + k)
    · obtain ⟨r', h1, h2, h3, h4⟩ := ih (by omega)
      refine ⟨r', h1, by omega, fun t t1 t2 => ?_, h4⟩
      by_cases z : t = max 0 (-k) + d
      · rw [z]; exact hE
      · exact h3 t t1 (by omega)
    · refine ⟨max 0 (-k) + ((d + 1 : Nat) : Int), by omega, Int.le_refl _, fun t t1 t2 => by omega, Or.inr ?_⟩
      rw [show max 0 (-k) + ((d + 1 : Nat) : Int) - 1 = max 0 (-k) + d by omega]
      exact hE
/-- the candidate ahead of the slide -/
def cw_p0 (e edge n m : Nat) (s k r1 r2 r3 : Int) : Int := min (min (min (cw_sd e edge n m s k) (cw_bm k r1)) (cw_bn n m k r2)) (cw_bl n m k r3)
theorem cw_P0 {s k r1 r2 r3 : Int} (hn : n ≤ 15) (hs : 0 ≤ s) (hk1 : -(n : Int) ≤ k) (hk2 : k ≤ m)
    (w1 : cw_W G x o e (decide (edge = 1)) (decide (edge = 2)) n m 0 (s - x) k r1)
    (w2 : cw_W G x o e (decide (edge = 1)) (decide (edge = 2)) n m 1 (s - o - e) (k + 1) r2)
    (w3 : cw_W G x o e (decide (edge = 1)) (decide (edge = 2)) n m 2 (s - o - e) (k - 1) r3) :
    cw_p0 e edge n m s k r1 r2 r3 = 99 ∨ (cw_in n m (cw_p0 e edge n m s k r1 r2 r3) k ∧ cw_D G x o e (decide (edge = 1)) (decide (edge = 2)) n m 0 (cw_p0 e edge n m s k r1 r2 r3) k ≤ s) := by
  have hsd := (cw_SD (G := G) (x := x) (o := o) (e := e) (edge := edge) hs hk1 hk2).1
  have hbm := (cw_BM hn w1).1
  have hbn : cw_bn n m k r2 = 99 ∨ (cw_in n m (cw_bn n m k r2) k ∧ cw_D G x o e (decide (edge = 1)) (decide (edge = 2)) n m 0 (cw_bn n m k r2) k ≤ s) := by
    rcases (cw_BN hn w2).1 with z | ⟨z1, z2, z3⟩
    · exact Or.inl z
    · have := (cw_Dins (G := G) (x := x) (o := o) (e := e) (bi := decide (edge = 1)) (bd := decide (edge = 2)) z1 z2).1
      exact Or.inr ⟨z1, by omega⟩
  have hbl : cw_bl n m k r3 = 99 ∨ (cw_in n m (cw_bl n m k r3) k ∧ cw_D G x o e (decide (edge = 1)) (decide (edge = 2)) n m 0 (cw_bl n m k r3) k ≤ s) := by
    rcases (cw_BL hn w3).1 with z | ⟨z1, z2, z3⟩
    · exact Or.inl z
    · have := (cw_Ddel (G := G) (x := x) (o := o) (e := e) (bi := decide (edge = 1)) (bd := decide (edge = 2)) z1 z2).1
      exact Or.inr ⟨z1, by omega⟩
  have hmin : ∀ a b : Int, (a = 99 ∨ (cw_in n m a k ∧ cw_D G x o e (decide (edge = 1)) (decide (edge = 2)) n m 0 a k ≤ s)) →
      (b = 99 ∨ (cw_in n m b k ∧ cw_D G x o e (decide (edge = 1)) (decide (edge = 2)) n m 0 b k ≤ s)) →
      (min a b = 99 ∨ (cw_in n m (min a b) k ∧ cw_D G x o e (decide (edge = 1)) (decide (edge = 2)) n m 0 (min a b) k ≤ s)) := by
    intro a b ha hb
    rcases Int.le_total a b with z | z
    · rw [Int.min_eq_left z]; exact ha
    · rw [Int.min_eq_right z]; exact hb
  exact hmin _ _ (hmin _ _ (hmin _ _ hsd hbm) hbn) hbl
theorem cw_grow0 {s k r1 r2 r3 p1 : Int} (hn : n ≤ 15) (hs : 0 ≤ s) (hk1 : -(n : Int) ≤ k) (hk2 : k ≤ m)
    (w1 : cw_W G x o e (decide (edge = 1)) (decide (edge = 2)) n m 0 (s - x) k r1)
    (w2 : cw_W G x o e (decide (edge = 1)) (decide (edge = 2)) n m 1 (s - o - e) (k + 1) r2)
    (w3 : cw_W G x o e (decide (edge = 1)) (decide (edge = 2)) n m 2 (s - o - e) (k - 1) r3)
    (hp : (cw_p0 e edge n m s k r1 r2 r3 = 99 ∧ p1 = 99) ∨ (cw_p0 e edge n m s k r1 r2 r3 ≠ 99 ∧ cw_SL G n m k (cw_p0 e edge n m s k r1 r2 r3) p1)) :
    cw_W G x o e (decide (edge = 1)) (decide (edge = 2)) n m 0 s k p1 := by
  obtain ⟨s1, s2, s3, s4⟩ := cw_SD (G := G) (x := x) (o := o) (e := e) (edge := edge) hs hk1 hk2
  have hP := cw_P0 hn hs hk1 hk2 w1 w2 w3
  have hle : p1 ≤ cw_p0 e edge n m s k r1 r2 r3 := by
    rcases hp with ⟨z1, z2⟩ | ⟨_, z1, z2, _⟩ <;> omega
  have m1 : cw_p0 e edge n m s k r1 r2 r3 ≤ cw_sd e edge n m s k := by unfold cw_p0; omega
  have m2 : cw_p0 e edge n m s k r1 r2 r3 ≤ cw_bm k r1 := by unfold cw_p0; omega
  have m3 : cw_p0 e edge n m s k r1 r2 r3 ≤ cw_bn n m k r2 := by unfold cw_p0; omega
  have m4 : cw_p0 e edge n m s k r1 r2 r3 ≤ cw_bl n m k r3 := by unfold cw_p0; omega
  have b2 := (cw_BM hn w1).2
  have b3 := (cw_BN hn w2).2
  have b4 := (cw_BL hn w3).2
  generalize hp0 : cw_p0 e edge n m s k r1 r2 r3 = p0 at *
  constructor
  · rcases hp with ⟨_, z⟩ | ⟨z0, z1, z2, z3, z4⟩
    · exact Or.inl z
    · right
      rcases hP with z | ⟨hin, hD⟩
      · exact absurd z z0
      · clear b2 b3 b4 s1 s2 s3 s4 m1 m2 m3 m4 hp0 z4 w1 w2 w3 hle
        obtain ⟨d, rfl⟩ : ∃ d : Nat, p0 = p1 + d := ⟨(p0 - p1).toNat, by omega⟩
        have key : ∀ t : Nat, t ≤ d → cw_in n m (p1 + d - t) k ∧ cw_D G x o e (decide (edge = 1)) (decide (edge = 2)) n m 0 (p1 + d - t) k ≤ s := by
          intro t
          induction t with
          | zero => intro _; rw [show p1 + d - ((0 : Nat) : Int) = p1 + d by omega]; exact ⟨hin, hD⟩
          | succ t ih =>
            intro ht
            obtain ⟨i1, i2⟩ := ih (by omega)
            have i1' := i1
            obtain ⟨a1, a2, a3, a4⟩ := i1'
            have hj : cw_in n m (p1 + d - ((t + 1 : Nat) : Int)) k := ⟨by omega, by omega, by omega, by omega⟩
            refine ⟨hj, ?_⟩
            have e1 : p1 + d - ((t + 1 : Nat) : Int) + 1 = p1 + d - t := by omega
            have h5 := (cw_Ddiag (G := G) (x := x) (o := o) (e := e) (bi := decide (edge = 1)) (bd := decide (edge = 2)) (L := 0) hj (by rw [e1]; exact i1)).2 (z3 _ (by omega) (by omega))
            rw [e1] at h5
            omega
        have := key d (Nat.le_refl d)
        rw [show p1 + d - (d : Int) = p1 by omega] at this
        exact this
  · have key : ∀ (t : Nat) (i : Int), i + t = n → cw_in n m i k → cw_D G x o e (decide (edge = 1)) (decide (edge = 2)) n m 0 i k ≤ s → p1 ≤ i := by
      intro t
      induction t with
      | zero =>
        intro i hi hin hD
        rcases cw_Dcases (G := G) (x := x) (o := o) (e := e) (bi := decide (edge = 1)) (bd := decide (edge = 2)) hin with ⟨_, h2⟩ | ⟨h1, _⟩ | ⟨h1, _⟩ | ⟨h1, h2⟩ | ⟨h1, _⟩
        · have := s2 i (by omega) h2; omega
        · obtain ⟨c1, c2, c3, c4⟩ := h1; omega
        · obtain ⟨c1, c2, c3, c4⟩ := h1; omega
        · rcases h2 with ⟨z1, z2⟩ | z
          · have := s3 i hin (by omega) z2 hD; omega
          · have := b3 i hin h1 (by omega); omega
        · omega
      | succ t ih =>
        intro i hi hin hD
        rcases cw_Dcases (G := G) (x := x) (o := o) (e := e) (bi := decide (edge = 1)) (bd := decide (edge = 2)) hin with ⟨_, h2⟩ | ⟨h1, hE, h2⟩ | ⟨h1, h2⟩ | ⟨h1, h2⟩ | ⟨h1, h2⟩
        · omega
        · have h3 := ih (i + 1) (by omega) h1 (by omega)
          by_cases z : p1 = i + 1
          · exfalso
            rcases hp with ⟨_, y⟩ | ⟨_, y1, y2, y3, y4⟩
            · omega
            · obtain ⟨c1, c2, c3, c4⟩ := hin
              rcases y4 with y4 | y4
              · omega
              · rw [z, show i + 1 - 1 = i by omega] at y4
                exact y4 hE
          · omega
        · have := b2 i hin h1 (by omega); omega
        · rcases h2 with ⟨z1, z2⟩ | z
          · omega
          · have := b3 i hin h1 (by omega); omega
        · rcases h2 with ⟨z1, z2⟩ | z
          · have := s4 i hin z1 z2 hD; omega
          · have := b4 i hin h1 (by omega); omega
    intro i hin hD
    have hin' := hin
    obtain ⟨c1, c2, c3, c4⟩ := hin'
    exact key ((n : Int) - i).toNat i (by omega) hin hD
theorem cw_grow1 {s k p1 r4 : Int} (hn : n ≤ 15)
    (w0 : cw_W G x o e (decide (edge = 1)) (decide (edge = 2)) n m 0 s k p1)
    (w4 : cw_W G x o e (decide (edge = 1)) (decide (edge = 2)) n m 1 (s - e) (k + 1) r4) :
    cw_W G x o e (decide (edge = 1)) (decide (edge = 2)) n m 1 s k (min p1 (cw_bn n m k r4)) := by
  obtain ⟨b1, b2⟩ := cw_BN hn w4
  constructor
  · rcases Int.le_total p1 (cw_bn n m k r4) with z | z
    · rw [Int.min_eq_left z]
      rcases w0.1 with y | ⟨y1, y2⟩
      · exact Or.inl y
      · exact Or.inr ⟨y1, Int.le_trans cw_Dle0 y2⟩
    · rw [Int.min_eq_right z]
      rcases b1 with y | ⟨y1, y2, y3⟩
      · exact Or.inl y
      · have := (cw_Dins (G := G) (x := x) (o := o) (e := e) (bi := decide (edge = 1)) (bd := decide (edge = 2)) y1 y2).2
        exact Or.inr ⟨y1, by omega⟩
  · intro i hin hD
    rcases cw_D1or (G := G) (x := x) (o := o) (e := e) (bi := decide (edge = 1)) (bd := decide (edge = 2)) hin with z | ⟨z1, z2⟩
    · have := w0.2 i hin (by omega); omega
    · have := b2 i hin z1 (by omega); omega
theorem cw_grow2 {s k p1 r5 : Int} (hn : n ≤ 15)
    (w0 : cw_W G x o e (decide (edge = 1)) (decide (edge = 2)) n m 0 s k p1)
    (w5 : cw_W G x o e (decide (edge = 1)) (decide (edge = 2)) n m 2 (s - e) (k - 1) r5) :
    cw_W G x o e (decide (edge = 1)) (decide (edge = 2)) n m 2 s k (min p1 (cw_bl n m k r5)) := by
  obtain ⟨b1, b2⟩ := cw_BL hn w5
  constructor
  · rcases Int.le_total p1 (cw_bl n m k r5) with z | z
    · rw [Int.min_eq_left z]
      rcases w0.1 with y | ⟨y1, y2⟩
      · exact Or.inl y
      · exact Or.inr ⟨y1, Int.le_trans cw_Dle0 y2⟩
    · rw [Int.min_eq_right z]
      rcases b1 with y | ⟨y1, y2, y3⟩
      · exact Or.inl y
      · have := (cw_Ddel (G := G) (x := x) (o := o) (e := e) (bi := decide (edge = 1)) (bd := decide (edge = 2)) y1 y2).2
        exact Or.inr ⟨y1, by omega⟩
  · intro i hin hD
    rcases cw_D2or (G := G) (x := x) (o := o) (e := e) (bi := decide (edge = 1)) (bd := decide (edge = 2)) hin with z | ⟨z1, z2⟩
    · have := w0.2 i hin (by omega); omega
    · have := b2 i hin z1 (by omega); omega
end
end
section
/-! 05 the least cost through a point: from the start over the point (T), and split at the point (B and F) -/
def th_gf (A B : Nat → Int32) (n m : Nat) : Nat → Nat → Bool := fun p q => decide (A (n - 1 - p) = B (m - 1 - q))
def th_gb (A B : Nat → Int32) : Nat → Nat → Bool := fun p q => decide (A p = B q)
def th_F (A B : Nat → Int32) (x o e f n m L p q : Nat) : Nat := cw_C (th_gf A B n m) x o e (decide (f = 1)) (decide (f = 2)) cw_z L p q
def th_B (A B : Nat → Int32) (x o e b L i j : Nat) : Nat := cw_C (th_gb A B) x o e (decide (b = 1)) (decide (b = 2)) cw_z L i j
def th_T (A B : Nat → Int32) (x o e f n m pi pj L p q : Nat) : Nat :=
  cw_C (th_gf A B pi pj) x o e (decide (pi = n ∧ f = 1)) (decide (pj = m ∧ f = 2)) (fun L => th_F A B x o e f n m L (n - pi) (m - pj)) L p q
def th_o1 (o b f n i : Nat) : Nat := if (i = 0 ∧ b = 1) ∨ (i = n ∧ f = 1) then 0 else o
def th_o2 (o b f m j : Nat) : Nat := if (j = 0 ∧ b = 2) ∨ (j = m ∧ f = 2) then 0 else o
section
variable {A B : Nat → Int32} {x o e b f n m pi pj : Nat}
theorem th_o1_le (i : Nat) : th_o1 o b f n i ≤ o := by unfold th_o1; split <;> omega
theorem th_o2_le (j : Nat) : th_o2 o b f m j ≤ o := by unfold th_o2; split <;> omega
theorem th_oi (bi : Bool) (p : Nat) : (p = 0 ∧ bi = true ∧ cw_oi o bi 0 p = 0) ∨ (¬ (p = 0 ∧ bi = true) ∧ cw_oi o bi 0 p = o) := by
  by_cases h : p = 0 ∧ bi = true
  · exact Or.inl ⟨h.1, h.2, if_pos (Or.inr h)⟩
  · exact Or.inr ⟨h, if_neg (by intro z; rcases z with z | z; exact absurd z (by decide); exact h z)⟩
theorem th_od (bd : Bool) (q : Nat) : (q = 0 ∧ bd = true ∧ cw_od o bd 0 q = 0) ∨ (¬ (q = 0 ∧ bd = true) ∧ cw_od o bd 0 q = o) := by
  by_cases h : q = 0 ∧ bd = true
  · exact Or.inl ⟨h.1, h.2, if_pos (Or.inr h)⟩
  · exact Or.inr ⟨h, if_neg (by intro z; rcases z with z | z; exact absurd z (by decide); exact h z)⟩
theorem th_o1c (i : Nat) : ((i = 0 ∧ b = 1) ∧ th_o1 o b f n i = 0) ∨ ((i = n ∧ f = 1) ∧ th_o1 o b f n i = 0) ∨ (¬ (i = 0 ∧ b = 1) ∧ ¬ (i = n ∧ f = 1) ∧ th_o1 o b f n i = o) := by
  by_cases h1 : i = 0 ∧ b = 1
  · exact Or.inl ⟨h1, if_pos (Or.inl h1)⟩
  · by_cases h2 : i = n ∧ f = 1
    · exact Or.inr (Or.inl ⟨h2, if_pos (Or.inr h2)⟩)
    · exact Or.inr (Or.inr ⟨h1, h2, if_neg (by intro z; rcases z with z | z; exact h1 z; exact h2 z)⟩)
theorem th_o2c (j : Nat) : ((j = 0 ∧ b = 2) ∧ th_o2 o b f m j = 0) ∨ ((j = m ∧ f = 2) ∧ th_o2 o b f m j = 0) ∨ (¬ (j = 0 ∧ b = 2) ∧ ¬ (j = m ∧ f = 2) ∧ th_o2 o b f m j = o) := by
  by_cases h1 : j = 0 ∧ b = 2
  · exact Or.inl ⟨h1, if_pos (Or.inl h1)⟩
  · by_cases h2 : j = m ∧ f = 2
    · exact Or.inr (Or.inl ⟨h2, if_pos (Or.inr h2)⟩)
    · exact Or.inr (Or.inr ⟨h1, h2, if_neg (by intro z; rcases z with z | z; exact h1 z; exact h2 z)⟩)
theorem th_oi_b (i : Nat) : th_o1 o b f n i ≤ cw_oi o (decide (b = 1)) 0 i := by
  rcases th_oi (o := o) (decide (b = 1)) i with ⟨h1, h2, h3⟩ | ⟨_, h3⟩
  · rw [h3]; exact Nat.le_of_eq (if_pos (Or.inl ⟨h1, of_decide_eq_true h2⟩))
  · rw [h3]; exact th_o1_le i
theorem th_od_b (j : Nat) : th_o2 o b f m j ≤ cw_od o (decide (b = 2)) 0 j := by
  rcases th_od (o := o) (decide (b = 2)) j with ⟨h1, h2, h3⟩ | ⟨_, h3⟩
  · rw [h3]; exact Nat.le_of_eq (if_pos (Or.inl ⟨h1, of_decide_eq_true h2⟩))
  · rw [h3]; exact th_o2_le j
theorem th_oi_t (p : Nat) : th_o1 o b f n (pi - p) ≤ cw_oi o (decide (pi = n ∧ f = 1)) 0 p := by
  rcases th_oi (o := o) (decide (pi = n ∧ f = 1)) p with ⟨h1, h2, h3⟩ | ⟨_, h3⟩
  · rw [h3]
    have h4 := of_decide_eq_true h2
    exact Nat.le_of_eq (if_pos (Or.inr ⟨by omega, h4.2⟩))
  · rw [h3]; exact th_o1_le _
theorem th_od_t (q : Nat) : th_o2 o b f m (pj - q) ≤ cw_od o (decide (pj = m ∧ f = 2)) 0 q := by
  rcases th_od (o := o) (decide (pj = m ∧ f = 2)) q with ⟨h1, h2, h3⟩ | ⟨_, h3⟩
  · rw [h3]
    have h4 := of_decide_eq_true h2
    exact Nat.le_of_eq (if_pos (Or.inr ⟨by omega, h4.2⟩))
  · rw [h3]; exact th_o2_le _
/-- what the three functions give at once -/
theorem th_F_le0 (L p q : Nat) : th_F A B x o e f n m L p q ≤ th_F A B x o e f n m 0 p q := cw_le0 (fun _ => Nat.le_refl 0) L p q
theorem th_B_le0 (L p q : Nat) : th_B A B x o e b L p q ≤ th_B A B x o e b 0 p q := cw_le0 (fun _ => Nat.le_refl 0) L p q
theorem th_T_le0 (L p q : Nat) : th_T A B x o e f n m pi pj L p q ≤ th_T A B x o e f n m pi pj 0 p q := cw_le0 (fun L => th_F_le0 L _ _) L p q
theorem th_T00 (L : Nat) : th_T A B x o e f n m pi pj L 0 0 = th_F A B x o e f n m L (n - pi) (m - pj) := cw_00
theorem th_B00 (L : Nat) : th_B A B x o e b L 0 0 = 0 := cw_00
theorem th_B_01 (i j : Nat) : th_B A B x o e b 0 i j ≤ cw_oi o (decide (b = 1)) 0 i + th_B A B x o e b 1 i j := cw_0le1 (Nat.zero_le _) i j
theorem th_B_02 (i j : Nat) : th_B A B x o e b 0 i j ≤ cw_od o (decide (b = 2)) 0 j + th_B A B x o e b 2 i j := cw_0le2 (Nat.zero_le _) i j
theorem th_T_01 (p q : Nat) (hpi : pi ≤ n) : th_T A B x o e f n m pi pj 0 p q ≤ cw_oi o (decide (pi = n ∧ f = 1)) 0 p + th_T A B x o e f n m pi pj 1 p q := by
  refine cw_0le1 ?_ p q
  have h1 : th_F A B x o e f n m 0 (n - pi) (m - pj) ≤ cw_oi o (decide (f = 1)) 0 (n - pi) + th_F A B x o e f n m 1 (n - pi) (m - pj) := cw_0le1 (Nat.zero_le _) _ _
  have h2 : cw_oi o (decide (f = 1)) 0 (n - pi) ≤ cw_oi o (decide (pi = n ∧ f = 1)) 0 0 := by
    rcases th_oi (o := o) (decide (pi = n ∧ f = 1)) 0 with ⟨_, h4, h5⟩ | ⟨_, h5⟩
    · have h6 := of_decide_eq_true h4
      rw [h5]
      exact Nat.le_of_eq (if_pos (Or.inr ⟨by omega, decide_eq_true h6.2⟩))
    · rw [h5]; exact cw_oi_le _ _
  show th_F A B x o e f n m 0 (n - pi) (m - pj) ≤ cw_oi o (decide (pi = n ∧ f = 1)) 0 0 + th_F A B x o e f n m 1 (n - pi) (m - pj)
  omega
theorem th_T_02 (p q : Nat) (hpj : pj ≤ m) : th_T A B x o e f n m pi pj 0 p q ≤ cw_od o (decide (pj = m ∧ f = 2)) 0 q + th_T A B x o e f n m pi pj 2 p q := by
  refine cw_0le2 ?_ p q
  have h1 : th_F A B x o e f n m 0 (n - pi) (m - pj) ≤ cw_od o (decide (f = 2)) 0 (m - pj) + th_F A B x o e f n m 2 (n - pi) (m - pj) := cw_0le2 (Nat.zero_le _) _ _
  have h2 : cw_od o (decide (f = 2)) 0 (m - pj) ≤ cw_od o (decide (pj = m ∧ f = 2)) 0 0 := by
    rcases th_od (o := o) (decide (pj = m ∧ f = 2)) 0 with ⟨_, h4, h5⟩ | ⟨_, h5⟩
    · have h6 := of_decide_eq_true h4
      rw [h5]
      exact Nat.le_of_eq (if_pos (Or.inr ⟨by omega, decide_eq_true h6.2⟩))
    · rw [h5]; exact cw_od_le _ _
  show th_F A B x o e f n m 0 (n - pi) (m - pj) ≤ cw_od o (decide (pj = m ∧ f = 2)) 0 0 + th_F A B x o e f n m 2 (n - pi) (m - pj)
  omega
/-- the same symbols -/
theorem th_geq {i j : Nat} (hi : i + 1 ≤ pi) (hj : j + 1 ≤ pj) : cw_g (th_gf A B pi pj) x (pi - (i + 1)) (pj - (j + 1)) = cw_g (th_gb A B) x i j := by
  unfold cw_g th_gf th_gb
  rw [show pi - 1 - (pi - (i + 1)) = i by omega, show pj - 1 - (pj - (j + 1)) = j by omega]
theorem th_Td (L i j : Nat) (hi : i + 1 ≤ pi) (hj : j + 1 ≤ pj) : th_T A B x o e f n m pi pj L (pi - i) (pj - j) ≤ cw_g (th_gb A B) x i j + th_T A B x o e f n m pi pj 0 (pi - (i + 1)) (pj - (j + 1)) := by
  rw [← th_geq (x := x) hi hj]
  have h := cw_diag (G := th_gf A B pi pj) (x := x) (o := o) (e := e) (bi := decide (pi = n ∧ f = 1)) (bd := decide (pj = m ∧ f = 2)) (base := fun L => th_F A B x o e f n m L (n - pi) (m - pj)) (L := L) (p := pi - (i + 1)) (q := pj - (j + 1))
  rw [show pi - (i + 1) + 1 = pi - i by omega, show pj - (j + 1) + 1 = pj - j by omega] at h
  exact h
theorem th_Ti (L p j : Nat) (hj : j + 1 ≤ pj) : th_T A B x o e f n m pi pj L p (pj - j) ≤ cw_oi o (decide (pi = n ∧ f = 1)) L p + e + th_T A B x o e f n m pi pj 1 p (pj - (j + 1)) := by
  have h := cw_ins (G := th_gf A B pi pj) (x := x) (o := o) (e := e) (bi := decide (pi = n ∧ f = 1)) (bd := decide (pj = m ∧ f = 2)) (base := fun L => th_F A B x o e f n m L (n - pi) (m - pj)) (L := L) (p := p) (q := pj - (j + 1))
  rw [show pj - (j + 1) + 1 = pj - j by omega] at h
  exact h
theorem th_Te (L i q : Nat) (hi : i + 1 ≤ pi) : th_T A B x o e f n m pi pj L (pi - i) q ≤ cw_od o (decide (pj = m ∧ f = 2)) L q + e + th_T A B x o e f n m pi pj 2 (pi - (i + 1)) q := by
  have h := cw_del (G := th_gf A B pi pj) (x := x) (o := o) (e := e) (bi := decide (pi = n ∧ f = 1)) (bd := decide (pj = m ∧ f = 2)) (base := fun L => th_F A B x o e f n m L (n - pi) (m - pj)) (L := L) (p := pi - (i + 1)) (q := q)
  rw [show pi - (i + 1) + 1 = pi - i by omega] at h
  exact h
theorem th_le (hb : b ≤ 2) (hpi : pi ≤ n) (hpj : pj ≤ m) : ∀ s i j, i + j = s → i ≤ pi → j ≤ pj →
    th_T A B x o e f n m pi pj b pi pj ≤ th_B A B x o e b 0 i j + th_T A B x o e f n m pi pj 0 (pi - i) (pj - j)
    ∧ th_T A B x o e f n m pi pj b pi pj ≤ th_B A B x o e b 1 i j + th_o1 o b f n i + th_T A B x o e f n m pi pj 1 (pi - i) (pj - j)
    ∧ th_T A B x o e f n m pi pj b pi pj ≤ th_B A B x o e b 2 i j + th_o2 o b f m j + th_T A B x o e f n m pi pj 2 (pi - i) (pj - j) := by
  intro s
  induction s using Nat.strongRecOn with
  | _ s ih =>
    intro i j hs hi hj
    have ha : th_T A B x o e f n m pi pj b pi pj ≤ th_B A B x o e b 0 i j + th_T A B x o e f n m pi pj 0 (pi - i) (pj - j) := by
      rcases cw_cases (G := th_gb A B) (x := x) (o := o) (e := e) (bi := decide (b = 1)) (bd := decide (b = 2)) (base := cw_z) 0 i j with ⟨h1, h2, _⟩ | ⟨i', j', h1, h2, h3⟩ | ⟨j', h1, h3⟩ | ⟨i', h1, h3⟩
      · subst h1 h2
        have := th_T_le0 (A := A) (B := B) (x := x) (o := o) (e := e) (f := f) (n := n) (m := m) (pi := pi) (pj := pj) b pi pj
        rw [Nat.sub_zero, Nat.sub_zero]
        omega
      · subst h1 h2
        have h4 := (ih (i' + j') (by omega) i' j' rfl (by omega) (by omega)).1
        have h5 := th_Td (A := A) (B := B) (x := x) (o := o) (e := e) (f := f) (n := n) (m := m) 0 i' j' hi hj
        have h6 : th_B A B x o e b 0 (i' + 1) (j' + 1) = cw_g (th_gb A B) x i' j' + th_B A B x o e b 0 i' j' := h3
        omega
      · subst h1
        have h4 := (ih (i + j') (by omega) i j' rfl (by omega) (by omega)).2.1
        have h5 := th_Ti (A := A) (B := B) (x := x) (o := o) (e := e) (f := f) (n := n) (m := m) (pi := pi) 1 (pi - i) j' hj
        have h6 : th_B A B x o e b 0 i (j' + 1) = cw_oi o (decide (b = 1)) 0 i + e + th_B A B x o e b 1 i j' := h3
        have h7 := th_oi_b (o := o) (b := b) (f := f) (n := n) i
        have h8 := th_T_le0 (A := A) (B := B) (x := x) (o := o) (e := e) (f := f) (n := n) (m := m) (pi := pi) (pj := pj) 1 (pi - i) (pj - (j' + 1))
        rw [cw_oi1] at h5
        omega
      · subst h1
        have h4 := (ih (i' + j) (by omega) i' j rfl (by omega) (by omega)).2.2
        have h5 := th_Te (A := A) (B := B) (x := x) (o := o) (e := e) (f := f) (n := n) (m := m) (pj := pj) 2 i' (pj - j) hi
        have h6 : th_B A B x o e b 0 (i' + 1) j = cw_od o (decide (b = 2)) 0 j + e + th_B A B x o e b 2 i' j := h3
        have h7 := th_od_b (o := o) (b := b) (f := f) (m := m) j
        have h8 := th_T_le0 (A := A) (B := B) (x := x) (o := o) (e := e) (f := f) (n := n) (m := m) (pi := pi) (pj := pj) 2 (pi - (i' + 1)) (pj - j)
        rw [cw_od2] at h5
        omega
    have go1 : ∀ j', j = j' + 1 → th_B A B x o e b 1 i j = e + th_B A B x o e b 1 i j' → th_T A B x o e f n m pi pj b pi pj ≤ th_B A B x o e b 1 i j + th_o1 o b f n i + th_T A B x o e f n m pi pj 1 (pi - i) (pj - j) := by
      intro j' h1 h3
      subst h1
      have h4 := (ih (i + j') (by omega) i j' rfl (by omega) (by omega)).2.1
      have h5 := th_Ti (A := A) (B := B) (x := x) (o := o) (e := e) (f := f) (n := n) (m := m) (pi := pi) 1 (pi - i) j' hj
      rw [cw_oi1] at h5
      omega
    have go2 : ∀ i', i = i' + 1 → th_B A B x o e b 2 i j = e + th_B A B x o e b 2 i' j → th_T A B x o e f n m pi pj b pi pj ≤ th_B A B x o e b 2 i j + th_o2 o b f m j + th_T A B x o e f n m pi pj 2 (pi - i) (pj - j) := by
      intro i' h1 h3
      subst h1
      have h4 := (ih (i' + j) (by omega) i' j rfl (by omega) (by omega)).2.2
      have h5 := th_Te (A := A) (B := B) (x := x) (o := o) (e := e) (f := f) (n := n) (m := m) (pj := pj) 2 i' (pj - j) hi
      rw [cw_od2] at h5
      omega
    refine ⟨ha, ?_, ?_⟩
    · by_cases hz : i = 0 ∧ b = 1
      · obtain ⟨hz1, hz2⟩ := hz
        cases j with
        | zero => subst hz1 hz2; rw [Nat.sub_zero, Nat.sub_zero]; omega
        | succ j' =>
          refine go1 j' rfl ?_
          subst hz1
          have h := cw_0s (G := th_gb A B) (x := x) (o := o) (e := e) (bi := decide (b = 1)) (bd := decide (b = 2)) (base := cw_z) (L := 1) (q := j')
          rw [if_pos (Or.inl rfl), Nat.zero_add] at h
          exact h
      · rcases cw_1or (G := th_gb A B) (x := x) (o := o) (e := e) (bi := decide (b = 1)) (bd := decide (b = 2)) (base := cw_z) (Nat.le_refl 0) i j with h1 | ⟨j', h1, h2⟩
        · have h2 : th_B A B x o e b 0 i j ≤ th_B A B x o e b 1 i j := h1
          have h3 := th_T_01 (A := A) (B := B) (x := x) (o := o) (e := e) (f := f) (n := n) (m := m) (pi := pi) (pj := pj) (pi - i) (pj - j) hpi
          rcases th_o1c (o := o) (b := b) (f := f) (n := n) i with ⟨y, _⟩ | ⟨y, y2⟩ | ⟨_, _, y⟩
          · exact absurd y hz
          · rcases th_oi (o := o) (decide (pi = n ∧ f = 1)) (pi - i) with ⟨_, _, z⟩ | ⟨z, _⟩
            · omega
            · exact absurd ⟨by omega, decide_eq_true ⟨by omega, y.2⟩⟩ z
          · have := cw_oi_le (o := o) (bi := decide (pi = n ∧ f = 1)) 0 (pi - i)
            omega
        · exact go1 j' h1 h2
    · by_cases hz : j = 0 ∧ b = 2
      · obtain ⟨hz1, hz2⟩ := hz
        cases i with
        | zero => subst hz1 hz2; rw [Nat.sub_zero, Nat.sub_zero]; omega
        | succ i' =>
          refine go2 i' rfl ?_
          subst hz1
          have h := cw_s0 (G := th_gb A B) (x := x) (o := o) (e := e) (bi := decide (b = 1)) (bd := decide (b = 2)) (base := cw_z) (L := 2) (p := i')
          rw [if_pos (Or.inl rfl), Nat.zero_add] at h
          exact h
      · rcases cw_2or (G := th_gb A B) (x := x) (o := o) (e := e) (bi := decide (b = 1)) (bd := decide (b = 2)) (base := cw_z) (Nat.le_refl 0) i j with h1 | ⟨i', h1, h2⟩
        · have h2 : th_B A B x o e b 0 i j ≤ th_B A B x o e b 2 i j := h1
          have h3 := th_T_02 (A := A) (B := B) (x := x) (o := o) (e := e) (f := f) (n := n) (m := m) (pi := pi) (pj := pj) (pi - i) (pj - j) hpj
          rcases th_o2c (o := o) (b := b) (f := f) (m := m) j with ⟨y, _⟩ | ⟨y, y2⟩ | ⟨_, _, y⟩
          · exact absurd y hz
          · rcases th_od (o := o) (decide (pj = m ∧ f = 2)) (pj - j) with ⟨_, _, z⟩ | ⟨z, _⟩
            · omega
            · exact absurd ⟨by omega, decide_eq_true ⟨by omega, y.2⟩⟩ z
          · have := cw_od_le (o := o) (bd := decide (pj = m ∧ f = 2)) 0 (pj - j)
            omega
        · exact go2 i' h1 h2
theorem th_Bd (L i j : Nat) : th_B A B x o e b L (i + 1) (j + 1) ≤ cw_g (th_gb A B) x i j + th_B A B x o e b 0 i j := cw_diag
theorem th_Bi (L i j : Nat) : th_B A B x o e b L i (j + 1) ≤ cw_oi o (decide (b = 1)) L i + e + th_B A B x o e b 1 i j := cw_ins
theorem th_Be (L i j : Nat) : th_B A B x o e b L (i + 1) j ≤ cw_od o (decide (b = 2)) L j + e + th_B A B x o e b 2 i j := cw_del
theorem th_ge (hpi : pi ≤ n) (hpj : pj ≤ m) (Z : Nat)
    (z0 : Z ≤ th_B A B x o e b 0 pi pj + th_F A B x o e f n m 0 (n - pi) (m - pj))
    (z1 : Z ≤ th_B A B x o e b 1 pi pj + th_o1 o b f n pi + th_F A B x o e f n m 1 (n - pi) (m - pj))
    (z2 : Z ≤ th_B A B x o e b 2 pi pj + th_o2 o b f m pj + th_F A B x o e f n m 2 (n - pi) (m - pj)) : ∀ s p q, p + q = s → p ≤ pi → q ≤ pj →
    Z ≤ th_B A B x o e b 0 (pi - p) (pj - q) + th_T A B x o e f n m pi pj 0 p q
    ∧ Z ≤ th_B A B x o e b 1 (pi - p) (pj - q) + th_o1 o b f n (pi - p) + th_T A B x o e f n m pi pj 1 p q
    ∧ Z ≤ th_B A B x o e b 2 (pi - p) (pj - q) + th_o2 o b f m (pj - q) + th_T A B x o e f n m pi pj 2 p q := by
  intro s
  induction s using Nat.strongRecOn with
  | _ s ih =>
    intro p q hs hp hq
    have ha : Z ≤ th_B A B x o e b 0 (pi - p) (pj - q) + th_T A B x o e f n m pi pj 0 p q := by
      rcases cw_cases (G := th_gf A B pi pj) (x := x) (o := o) (e := e) (bi := decide (pi = n ∧ f = 1)) (bd := decide (pj = m ∧ f = 2)) (base := fun L => th_F A B x o e f n m L (n - pi) (m - pj)) 0 p q with ⟨h1, h2, _⟩ | ⟨p', q', h1, h2, h3⟩ | ⟨q', h1, h3⟩ | ⟨p', h1, h3⟩
      · subst h1 h2
        rw [th_T00]
        exact z0
      · subst h1 h2
        have h4 := (ih (p' + q') (by omega) p' q' rfl (by omega) (by omega)).1
        have h5 := th_Bd (A := A) (B := B) (x := x) (o := o) (e := e) (b := b) 0 (pi - (p' + 1)) (pj - (q' + 1))
        rw [← th_geq (pi := pi) (pj := pj) (by omega) (by omega), show pi - (pi - (p' + 1) + 1) = p' by omega, show pj - (pj - (q' + 1) + 1) = q' by omega, show pi - (p' + 1) + 1 = pi - p' by omega, show pj - (q' + 1) + 1 = pj - q' by omega] at h5
        have h6 : th_T A B x o e f n m pi pj 0 (p' + 1) (q' + 1) = cw_g (th_gf A B pi pj) x p' q' + th_T A B x o e f n m pi pj 0 p' q' := h3
        omega
      · subst h1
        have h4 := (ih (p + q') (by omega) p q' rfl (by omega) (by omega)).2.1
        have h5 := th_Bi (A := A) (B := B) (x := x) (o := o) (e := e) (b := b) 1 (pi - p) (pj - (q' + 1))
        rw [show pj - (q' + 1) + 1 = pj - q' by omega, cw_oi1] at h5
        have h6 : th_T A B x o e f n m pi pj 0 p (q' + 1) = cw_oi o (decide (pi = n ∧ f = 1)) 0 p + e + th_T A B x o e f n m pi pj 1 p q' := h3
        have h7 := th_oi_t (o := o) (b := b) (f := f) (n := n) (pi := pi) p
        have h8 := th_B_le0 (A := A) (B := B) (x := x) (o := o) (e := e) (b := b) 1 (pi - p) (pj - (q' + 1))
        omega
      · subst h1
        have h4 := (ih (p' + q) (by omega) p' q rfl (by omega) (by omega)).2.2
        have h5 := th_Be (A := A) (B := B) (x := x) (o := o) (e := e) (b := b) 2 (pi - (p' + 1)) (pj - q)
        rw [show pi - (p' + 1) + 1 = pi - p' by omega, cw_od2] at h5
        have h6 : th_T A B x o e f n m pi pj 0 (p' + 1) q = cw_od o (decide (pj = m ∧ f = 2)) 0 q + e + th_T A B x o e f n m pi pj 2 p' q := h3
        have h7 := th_od_t (o := o) (b := b) (f := f) (m := m) (pj := pj) q
        have h8 := th_B_le0 (A := A) (B := B) (x := x) (o := o) (e := e) (b := b) 2 (pi - (p' + 1)) (pj - q)
        omega
    refine ⟨ha, ?_, ?_⟩
    · have hfall : 0 < p → th_T A B x o e f n m pi pj 0 p q ≤ th_T A B x o e f n m pi pj 1 p q → Z ≤ th_B A B x o e b 1 (pi - p) (pj - q) + th_o1 o b f n (pi - p) + th_T A B x o e f n m pi pj 1 p q := by
        intro hp0 hT
        have h1 := th_B_01 (A := A) (B := B) (x := x) (o := o) (e := e) (b := b) (pi - p) (pj - q)
        rcases th_o1c (o := o) (b := b) (f := f) (n := n) (pi - p) with ⟨y, y2⟩ | ⟨y, y2⟩ | ⟨_, _, y⟩
        · rcases th_oi (o := o) (decide (b = 1)) (pi - p) with ⟨_, _, z⟩ | ⟨z, _⟩
          · omega
          · exact absurd ⟨y.1, decide_eq_true y.2⟩ z
        · omega
        · have := cw_oi_le (o := o) (bi := decide (b = 1)) 0 (pi - p)
          omega
      rcases cw_cases (G := th_gf A B pi pj) (x := x) (o := o) (e := e) (bi := decide (pi = n ∧ f = 1)) (bd := decide (pj = m ∧ f = 2)) (base := fun L => th_F A B x o e f n m L (n - pi) (m - pj)) 1 p q with ⟨h1, h2, _⟩ | ⟨p', q', h1, h2, h3⟩ | ⟨q', h1, h3⟩ | ⟨p', h1, h3⟩
      · subst h1 h2
        rw [th_T00]
        exact z1
      · refine hfall (by omega) ?_
        have h6 : th_T A B x o e f n m pi pj 1 p q = cw_g (th_gf A B pi pj) x p' q' + th_T A B x o e f n m pi pj 0 p' q' := h3
        rw [h6, h1, h2]
        exact cw_diag
      · subst h1
        have h4 := (ih (p + q') (by omega) p q' rfl (by omega) (by omega)).2.1
        have h5 := th_Bi (A := A) (B := B) (x := x) (o := o) (e := e) (b := b) 1 (pi - p) (pj - (q' + 1))
        rw [show pj - (q' + 1) + 1 = pj - q' by omega, cw_oi1] at h5
        have h6 : th_T A B x o e f n m pi pj 1 p (q' + 1) = cw_oi o (decide (pi = n ∧ f = 1)) 1 p + e + th_T A B x o e f n m pi pj 1 p q' := h3
        rw [cw_oi1] at h6
        omega
      · refine hfall (by omega) ?_
        have h6 : th_T A B x o e f n m pi pj 1 p q = cw_od o (decide (pj = m ∧ f = 2)) 1 q + e + th_T A B x o e f n m pi pj 2 p' q := h3
        rw [h6, h1, cw_od_n (by decide)]
        exact cw_del
    · have hfall : 0 < q → th_T A B x o e f n m pi pj 0 p q ≤ th_T A B x o e f n m pi pj 2 p q → Z ≤ th_B A B x o e b 2 (pi - p) (pj - q) + th_o2 o b f m (pj - q) + th_T A B x o e f n m pi pj 2 p q := by
        intro hq0 hT
        have h1 := th_B_02 (A := A) (B := B) (x := x) (o := o) (e := e) (b := b) (pi - p) (pj - q)
        rcases th_o2c (o := o) (b := b) (f := f) (m := m) (pj - q) with ⟨y, y2⟩ | ⟨y, y2⟩ | ⟨_, _, y⟩
        · rcases th_od (o := o) (decide (b = 2)) (pj - q) with ⟨_, _, z⟩ | ⟨z, _⟩
          · omega
          · exact absurd ⟨y.1, decide_eq_true y.2⟩ z
        · omega
        · have := cw_od_le (o := o) (bd := decide (b = 2)) 0 (pj - q)
          omega
      rcases cw_cases (G := th_gf A B pi pj) (x := x) (o := o) (e := e) (bi := decide (pi = n ∧ f = 1)) (bd := decide (pj = m ∧ f = 2)) (base := fun L => th_F A B x o e f n m L (n - pi) (m - pj)) 2 p q with ⟨h1, h2, _⟩ | ⟨p', q', h1, h2, h3⟩ | ⟨q', h1, h3⟩ | ⟨p', h1, h3⟩
      · subst h1 h2
        rw [th_T00]
        exact z2
      · refine hfall (by omega) ?_
        have h6 : th_T A B x o e f n m pi pj 2 p q = cw_g (th_gf A B pi pj) x p' q' + th_T A B x o e f n m pi pj 0 p' q' := h3
        rw [h6, h1, h2]
        exact cw_diag
      · refine hfall (by omega) ?_
        have h6 : th_T A B x o e f n m pi pj 2 p q = cw_oi o (decide (pi = n ∧ f = 1)) 2 p + e + th_T A B x o e f n m pi pj 1 p q' := h3
        rw [h6, h1, cw_oi_n (by decide)]
        exact cw_ins
      · subst h1
        have h4 := (ih (p' + q) (by omega) p' q rfl (by omega) (by omega)).2.2
        have h5 := th_Be (A := A) (B := B) (x := x) (o := o) (e := e) (b := b) 2 (pi - (p' + 1)) (pj - q)
        rw [show pi - (p' + 1) + 1 = pi - p' by omega, cw_od2] at h5
        have h6 : th_T A B x o e f n m pi pj 2 (p' + 1) q = cw_od o (decide (pj = m ∧ f = 2)) 2 q + e + th_T A B x o e f n m pi pj 2 p' q := h3
        rw [cw_od2] at h6
        omega
/-- both agree -/
theorem th_eq (hb : b ≤ 2) (hpi : pi ≤ n) (hpj : pj ≤ m) : th_T A B x o e f n m pi pj b pi pj
    = min (th_B A B x o e b 0 pi pj + th_F A B x o e f n m 0 (n - pi) (m - pj))
      (min (th_B A B x o e b 1 pi pj + th_F A B x o e f n m 1 (n - pi) (m - pj) + th_o1 o b f n pi)
        (th_B A B x o e b 2 pi pj + th_F A B x o e f n m 2 (n - pi) (m - pj) + th_o2 o b f m pj)) := by
  obtain ⟨h1, h2, h3⟩ := th_le (A := A) (B := B) (x := x) (o := o) (e := e) (f := f) hb hpi hpj (pi + pj) pi pj rfl (Nat.le_refl _) (Nat.le_refl _)
  rw [Nat.sub_self, Nat.sub_self, th_T00] at h1 h2 h3
  have hge := th_ge (A := A) (B := B) (x := x) (o := o) (e := e) (f := f) (b := b) hpi hpj
    (min (th_B A B x o e b 0 pi pj + th_F A B x o e f n m 0 (n - pi) (m - pj))
      (min (th_B A B x o e b 1 pi pj + th_F A B x o e f n m 1 (n - pi) (m - pj) + th_o1 o b f n pi)
        (th_B A B x o e b 2 pi pj + th_F A B x o e f n m 2 (n - pi) (m - pj) + th_o2 o b f m pj)))
    (by omega) (by omega) (by omega) (pi + pj) pi pj rfl (Nat.le_refl _) (Nat.le_refl _)
  rw [Nat.sub_self, Nat.sub_self, th_B00, th_B00, th_B00] at hge
  obtain ⟨g0, g1, g2⟩ := hge
  have h4 : b = 0 ∨ b = 1 ∨ b = 2 := by omega
  rcases h4 with rfl | rfl | rfl
  · omega
  · have : th_o1 o 1 f n 0 = 0 := if_pos (Or.inl ⟨rfl, rfl⟩)
    omega
  · have : th_o2 o 2 f m 0 = 0 := if_pos (Or.inl ⟨rfl, rfl⟩)
    omega
end
end
section
/-! 06 the transcript: always the least kind that keeps the least cost -/
def tp_lay (k : Nat) : Nat := if k < 2 then 0 else k - 1
def cw_V (G : Nat → Nat → Bool) (x o e : Nat) (bi bd : Bool) (base : Nat → Nat) (kind L p q : Nat) : Nat :=
  if kind = 0 then (if 0 < p ∧ 0 < q ∧ G (p - 1) (q - 1) = true then cw_C G x o e bi bd base 0 (p - 1) (q - 1) else 1000000)
  else if kind = 1 then (if 0 < p ∧ 0 < q ∧ ¬ G (p - 1) (q - 1) = true then x + cw_C G x o e bi bd base 0 (p - 1) (q - 1) else 1000000)
  else if kind = 2 then (if 0 < q then cw_oi o bi L p + e + cw_C G x o e bi bd base 1 p (q - 1) else 1000000)
  else (if 0 < p then cw_od o bd L q + e + cw_C G x o e bi bd base 2 (p - 1) q else 1000000)
section
variable {G : Nat → Nat → Bool} {x o e : Nat} {bi bd : Bool} {base : Nat → Nat}
theorem cw_Vge {L p q : Nat} (hC : cw_C G x o e bi bd base L p q < 1000000) (kind : Nat) : cw_C G x o e bi bd base L p q ≤ cw_V G x o e bi bd base kind L p q := by
  unfold cw_V
  split
  · split
    · rename_i h
      obtain ⟨h1, h2, h3⟩ := h
      have := cw_diag (G := G) (x := x) (o := o) (e := e) (bi := bi) (bd := bd) (base := base) (L := L) (p := p - 1) (q := q - 1)
      unfold cw_g at this
      rw [if_pos h3, show p - 1 + 1 = p by omega, show q - 1 + 1 = q by omega] at this
      omega
    · omega
  · split
    · split
      · rename_i h
        obtain ⟨h1, h2, h3⟩ := h
        have := cw_diag (G := G) (x := x) (o := o) (e := e) (bi := bi) (bd := bd) (base := base) (L := L) (p := p - 1) (q := q - 1)
        unfold cw_g at this
        rw [if_neg h3, show p - 1 + 1 = p by omega, show q - 1 + 1 = q by omega] at this
        omega
      · omega
    · split
      · split
        · have := cw_ins (G := G) (x := x) (o := o) (e := e) (bi := bi) (bd := bd) (base := base) (L := L) (p := p) (q := q - 1)
          rw [show q - 1 + 1 = q by omega] at this
          omega
        · omega
      · split
        · have := cw_del (G := G) (x := x) (o := o) (e := e) (bi := bi) (bd := bd) (base := base) (L := L) (p := p - 1) (q := q)
          rw [show p - 1 + 1 = p by omega] at this
          omega
        · omega
theorem cw_Vex {L p q : Nat} (hpq : 0 < p ∨ 0 < q) : ∃ kind, kind < 4 ∧ cw_V G x o e bi bd base kind L p q = cw_C G x o e bi bd base L p q := by
  rcases cw_cases (G := G) (x := x) (o := o) (e := e) (bi := bi) (bd := bd) (base := base) L p q with ⟨h1, h2, _⟩ | ⟨p', q', h1, h2, h3⟩ | ⟨q', h1, h3⟩ | ⟨p', h1, h3⟩
  · omega
  · unfold cw_g at h3
    by_cases hg : G p' q' = true
    · refine ⟨0, by omega, ?_⟩
      subst h1 h2
      rw [if_pos hg] at h3
      unfold cw_V
      rw [if_pos rfl, if_pos ⟨by omega, by omega, hg⟩, h3, Nat.zero_add]
      rfl
    · refine ⟨1, by omega, ?_⟩
      subst h1 h2
      rw [if_neg hg] at h3
      unfold cw_V
      rw [if_neg (by decide), if_pos rfl, if_pos ⟨by omega, by omega, hg⟩, h3]
      rfl
  · refine ⟨2, by omega, ?_⟩
    subst h1
    unfold cw_V
    rw [if_neg (by decide), if_neg (by decide), if_pos rfl, if_pos (by omega), h3]
    rfl
  · refine ⟨3, by omega, ?_⟩
    subst h1
    unfold cw_V
    rw [if_neg (by decide), if_neg (by decide), if_neg (by decide), if_pos (by omega), h3]
    rfl
end
def tp_k (V : Nat → Nat) (c : Nat) : Nat := if V 0 = c then 0 else if V 1 = c then 1 else if V 2 = c then 2 else 3
theorem tp_k4 (V : Nat → Nat) (c : Nat) : tp_k V c < 4 := by unfold tp_k; split <;> (try split) <;> (try split) <;> omega
theorem tp_kV {V : Nat → Nat} {c : Nat} (h : ∃ k, k < 4 ∧ V k = c) : V (tp_k V c) = c := by
  obtain ⟨k, hk, hV⟩ := h
  unfold tp_k
  by_cases h0 : V 0 = c
  · rw [if_pos h0]; exact h0
  · rw [if_neg h0]
    by_cases h1 : V 1 = c
    · rw [if_pos h1]; exact h1
    · rw [if_neg h1]
      by_cases h2 : V 2 = c
      · rw [if_pos h2]; exact h2
      · rw [if_neg h2]
        have : k = 0 ∨ k = 1 ∨ k = 2 ∨ k = 3 := by omega
        rcases this with rfl | rfl | rfl | rfl
        · exact absurd hV h0
        · exact absurd hV h1
        · exact absurd hV h2
        · exact hV
def tp_V (A B : Nat → Int32) (x o e f n m kind L p q : Nat) : Nat := cw_V (th_gf A B n m) x o e (decide (f = 1)) (decide (f = 2)) cw_z kind L p q
def tp_K (A B : Nat → Int32) (x o e f n m L p q : Nat) : Nat := tp_k (fun k => tp_V A B x o e f n m k L p q) (th_F A B x o e f n m L p q)
/-- a path of T columns from layer L0 at p0, q0 -/
def tp_P (A B : Nat → Int32) (x o e f n m L0 p0 q0 T : Nat) (ks Ls ps qs : Nat → Nat) : Prop :=
  Ls 0 = L0 ∧ ps 0 = p0 ∧ qs 0 = q0 ∧ ps T = 0 ∧ qs T = 0 ∧ T ≤ p0 + q0 ∧ ∀ c, c < T →
    (0 < ps c ∨ 0 < qs c) ∧ ks c = tp_K A B x o e f n m (Ls c) (ps c) (qs c) ∧ Ls (c + 1) = tp_lay (ks c)
    ∧ ps (c + 1) = (if ks c = 2 then ps c else ps c - 1) ∧ qs (c + 1) = (if ks c = 3 then qs c else qs c - 1)
def tp_c (a : Nat) (g : Nat → Nat) : Nat → Nat
  | 0 => a
  | c + 1 => g c
section
variable {A B : Nat → Int32} {x o e f n m : Nat}
theorem tp_Fb (L p q : Nat) : th_F A B x o e f n m L p q ≤ 2 * o + e * (p + q) := by
  have := cw_b (G := th_gf A B n m) (x := x) (o := o) (e := e) (bi := decide (f = 1)) (bd := decide (f = 2)) (base := cw_z) (K := 0) cw_z0 L p q
  exact this
theorem tp_kind {L p q : Nat} (hpq : 0 < p ∨ 0 < q) : tp_K A B x o e f n m L p q < 4 ∧ tp_V A B x o e f n m (tp_K A B x o e f n m L p q) L p q = th_F A B x o e f n m L p q :=
  ⟨tp_k4 _ _, tp_kV (V := fun k => tp_V A B x o e f n m k L p q) (cw_Vex hpq)⟩
/-- what each kind says at a place -/
theorem tp_step {L p q : Nat} (hF : 2 * o + e * (p + q) < 1000000) (hpq : 0 < p ∨ 0 < q) :
    (tp_K A B x o e f n m L p q = 0 ∧ 0 < p ∧ 0 < q ∧ th_F A B x o e f n m L p q = th_F A B x o e f n m 0 (p - 1) (q - 1))
    ∨ (tp_K A B x o e f n m L p q = 1 ∧ 0 < p ∧ 0 < q ∧ th_F A B x o e f n m L p q = x + th_F A B x o e f n m 0 (p - 1) (q - 1))
    ∨ (tp_K A B x o e f n m L p q = 2 ∧ 0 < q ∧ th_F A B x o e f n m L p q = cw_oi o (decide (f = 1)) L p + e + th_F A B x o e f n m 1 p (q - 1))
    ∨ (tp_K A B x o e f n m L p q = 3 ∧ 0 < p ∧ th_F A B x o e f n m L p q = cw_od o (decide (f = 2)) L q + e + th_F A B x o e f n m 2 (p - 1) q) := by
  obtain ⟨h4, hV⟩ := tp_kind (A := A) (B := B) (x := x) (o := o) (e := e) (f := f) (n := n) (m := m) (L := L) hpq
  have hb := tp_Fb (A := A) (B := B) (x := x) (o := o) (e := e) (f := f) (n := n) (m := m) L p q
  generalize tp_K A B x o e f n m L p q = k at h4 hV ⊢
  have : k = 0 ∨ k = 1 ∨ k = 2 ∨ k = 3 := by omega
  unfold tp_V cw_V at hV
  rcases this with rfl | rfl | rfl | rfl
  · left
    rw [if_pos rfl] at hV
    split at hV
    · rename_i h
      exact ⟨rfl, h.1, h.2.1, hV.symm⟩
    · omega
  · right; left
    rw [if_neg (by decide), if_pos rfl] at hV
    split at hV
    · rename_i h
      exact ⟨rfl, h.1, h.2.1, hV.symm⟩
    · omega
  · right; right; left
    rw [if_neg (by decide), if_neg (by decide), if_pos rfl] at hV
    split at hV
    · rename_i h
      exact ⟨rfl, h, hV.symm⟩
    · omega
  · right; right; right
    rw [if_neg (by decide), if_neg (by decide), if_neg (by decide)] at hV
    split at hV
    · rename_i h
      exact ⟨rfl, h, hV.symm⟩
    · omega
theorem tp_ex (he : e * (n + m) + 2 * o < 1000000) : ∀ s L p q, p + q ≤ s → p ≤ n → q ≤ m → ∃ T ks Ls ps qs, tp_P A B x o e f n m L p q T ks Ls ps qs := by
  intro s
  induction s with
  | zero =>
    intro L p q hs hp hq
    obtain rfl : p = 0 := by omega
    obtain rfl : q = 0 := by omega
    exact ⟨0, fun _ => 0, fun _ => L, fun _ => 0, fun _ => 0, rfl, rfl, rfl, rfl, rfl, by omega, fun c hc => by omega⟩
  | succ s ih =>
    intro L p q hs hp hq
    by_cases hpq : 0 < p ∨ 0 < q
    · have hbb : 2 * o + e * (p + q) < 1000000 := by
        have : e * (p + q) ≤ e * (n + m) := Nat.mul_le_mul_left e (by omega)
        omega
      have hst := tp_step (A := A) (B := B) (x := x) (o := o) (e := e) (f := f) (n := n) (m := m) (L := L) hbb hpq
      have hlt : (if tp_K A B x o e f n m L p q = 2 then p else p - 1) + (if tp_K A B x o e f n m L p q = 3 then q else q - 1) + 1 ≤ p + q := by
        rcases hst with ⟨h, h1, h2, _⟩ | ⟨h, h1, h2, _⟩ | ⟨h, h1, _⟩ | ⟨h, h1, _⟩ <;> rw [h] <;> simp <;> omega
      obtain ⟨T, ks, Ls, ps, qs, h1, h2, h3, h4, h5, h6, h7⟩ := ih (tp_lay (tp_K A B x o e f n m L p q)) (if tp_K A B x o e f n m L p q = 2 then p else p - 1) (if tp_K A B x o e f n m L p q = 3 then q else q - 1) (by omega) (by split <;> omega) (by split <;> omega)
      refine ⟨T + 1, tp_c (tp_K A B x o e f n m L p q) ks, tp_c L Ls, tp_c p ps, tp_c q qs, rfl, rfl, rfl, h4, h5, by omega, ?_⟩
      intro c hc
      cases c with
      | zero => exact ⟨hpq, rfl, h1, h2, h3⟩
      | succ c => exact h7 c (by omega)
    · exact ⟨0, fun _ => 0, fun _ => L, fun _ => p, fun _ => q, rfl, rfl, rfl, show p = 0 by omega, show q = 0 by omega, by omega, fun c hc => by omega⟩
end
end
section
/-! 07 runs of a string of kinds, charges, counts -/
def rn_S (g : Nat → Nat) : Nat → Nat
  | 0 => 0
  | c + 1 => rn_S g c + g c
def rn_R (ks : Nat → Nat) (T R : Nat) (rs : Nat → Nat) : Prop :=
  rs 0 = 0 ∧ rs R = T ∧ (∀ r, r < R → rs r < rs (r + 1)) ∧ (∀ r, r < R → ∀ c, rs r ≤ c → c < rs (r + 1) → ks c = ks (rs r))
  ∧ (∀ r, r + 1 < R → ks (rs r) ≠ ks (rs (r + 1)))
/-- all columns from c on are of kind k -/
def rn_all (ks : Nat → Nat) (k T c : Nat) : Bool := decide (∀ d, d < T → c ≤ d → ks d = k)
def rn_ch (x o e b f T : Nat) (ks : Nat → Nat) (c : Nat) : Nat :=
  if ks c = 0 then 0 else if ks c = 1 then x else if 0 < c ∧ ks c = ks (c - 1) then e
  else if (c = 0 ∧ b = ks c - 1) ∨ (rn_all ks (ks c) T c = true ∧ f = ks c - 1) then e else o + e
def rn_u (ks : Nat → Nat) (skip c : Nat) : Nat := if ks c = skip then 0 else 1
theorem rn_R0 (ks : Nat → Nat) : rn_R ks 0 0 (fun _ => 0) := ⟨rfl, rfl, fun r h => by omega, fun r h => by omega, fun r h => by omega⟩
theorem rn_mono {ks : Nat → Nat} {T R : Nat} {rs : Nat → Nat} (h : rn_R ks T R rs) : ∀ d r, r + d ≤ R → rs r + d ≤ rs (r + d) := by
  intro d
  induction d with
  | zero => intro r _; exact Nat.le_refl _
  | succ d ih =>
    intro r hr
    have h1 := ih r (by omega)
    have h2 := h.2.2.1 (r + d) (by omega)
    rw [show r + (d + 1) = r + d + 1 from rfl]
    omega
theorem rn_le {ks : Nat → Nat} {T R : Nat} {rs : Nat → Nat} (h : rn_R ks T R rs) {r r' : Nat} (h1 : r ≤ r') (h2 : r' ≤ R) : rs r ≤ rs r' := by
  have := rn_mono h (r' - r) r (by omega)
  rw [show r + (r' - r) = r' by omega] at this
  omega
theorem rn_RT {ks : Nat → Nat} {T R : Nat} {rs : Nat → Nat} (h : rn_R ks T R rs) : R ≤ T := by
  have := rn_mono h R 0 (by omega)
  rw [Nat.zero_add, h.2.1] at this
  omega
theorem rn_same {ks : Nat → Nat} {T R : Nat} {rs : Nat → Nat} (h : rn_R ks T R rs) (hR : 0 < R) (hk : ks T = ks (rs (R - 1))) : rn_R ks (T + 1) R (fun r => if r = R then T + 1 else rs r) := by
  obtain ⟨h1, h2, h3, h4, h5⟩ := h
  refine ⟨?_, ?_, ?_, ?_, ?_⟩
  · dsimp only; rw [if_neg (by omega)]; exact h1
  · dsimp only; rw [if_pos rfl]
  · intro r hr
    have := h3 r hr
    dsimp only
    rw [if_neg (by omega)]
    split
    · rename_i z; rw [z, h2] at this; omega
    · exact this
  · intro r hr c hc1 hc2
    dsimp only at hc1 hc2 ⊢
    rw [if_neg (by omega)] at hc1 ⊢
    split at hc2
    · rename_i z
      by_cases hc : c = T
      · rw [hc, hk, show R - 1 = r by omega]
      · exact h4 r hr c hc1 (by rw [z, h2]; omega)
    · exact h4 r hr c hc1 hc2
  · intro r hr
    dsimp only
    rw [if_neg (by omega), if_neg (by omega)]
    exact h5 r hr
theorem rn_new {ks : Nat → Nat} {T R : Nat} {rs : Nat → Nat} (h : rn_R ks T R rs) (hk : 0 < R → ks T ≠ ks (rs (R - 1))) : rn_R ks (T + 1) (R + 1) (fun r => if r = R + 1 then T + 1 else rs r) := by
  obtain ⟨h1, h2, h3, h4, h5⟩ := h
  refine ⟨?_, ?_, ?_, ?_, ?_⟩
  · dsimp only; rw [if_neg (by omega)]; exact h1
  · dsimp only; rw [if_pos rfl]
  · intro r hr
    dsimp only
    rw [if_neg (by omega)]
    split
    · rename_i z
      obtain rfl : r = R := by omega
      omega
    · exact h3 r (by omega)
  · intro r hr c hc1 hc2
    dsimp only at hc1 hc2 ⊢
    rw [if_neg (by omega)] at hc1 ⊢
    split at hc2
    · rename_i z
      obtain rfl : r = R := by omega
      rw [show c = rs r by omega]
    · exact h4 r (by omega) c hc1 hc2
  · intro r hr
    dsimp only
    rw [if_neg (by omega), if_neg (by omega)]
    by_cases z : r + 1 = R
    · rw [z, h2]
      have := hk (by omega)
      rw [show R - 1 = r by omega] at this
      exact fun y => this y.symm
    · exact h5 r (by omega)
/-- a start of a run -/
theorem rn_start {ks : Nat → Nat} {T R : Nat} {rs : Nat → Nat} (h : rn_R ks T R rs) {r : Nat} (hr : r < R) : rs r = 0 ∨ ks (rs r) ≠ ks (rs r - 1) := by
  obtain ⟨h1, h2, h3, h4, h5⟩ := h
  cases r with
  | zero => exact Or.inl h1
  | succ r =>
    right
    have e1 := h3 r (by omega)
    have e2 := h4 r (by omega) (rs (r + 1) - 1) (by omega) (by omega)
    rw [e2]
    exact fun y => h5 r hr y.symm
theorem rn_nstart {ks : Nat → Nat} {T R : Nat} {rs : Nat → Nat} (h : rn_R ks T R rs) {r c : Nat} (hr : r < R) (h1 : rs r < c) (h2 : c < rs (r + 1)) : 0 < c ∧ ks c = ks (c - 1) := by
  refine ⟨by omega, ?_⟩
  rw [h.2.2.2.1 r hr c (by omega) h2, h.2.2.2.1 r hr (c - 1) (by omega) (by omega)]
theorem rn_last {ks : Nat → Nat} {T R : Nat} {rs : Nat → Nat} (h : rn_R ks T R rs) {r : Nat} (hr : r < R) : rn_all ks (ks (rs r)) T (rs r) = true ↔ r + 1 = R := by
  unfold rn_all
  rw [decide_eq_true_iff]
  constructor
  · intro ha
    by_cases z : r + 1 = R
    · exact z
    · exfalso
      have e1 := h.2.2.1 r hr
      have e2 := h.2.2.1 (r + 1) (by omega)
      have e3 := rn_le h (r := r + 1 + 1) (r' := R) (by omega) (Nat.le_refl _)
      rw [h.2.1] at e3
      exact h.2.2.2.2 r (by omega) (ha (rs (r + 1)) (by omega) (by omega)).symm
  · intro z d hd hc
    exact h.2.2.2.1 r hr d hc (by rw [z, h.2.1]; exact hd)
/-- sums over a run -/
def rn_cc (x e k : Nat) : Nat := if k = 0 then 0 else if k = 1 then x else e
def rn_pay (o b f R k r : Nat) : Nat := if k < 2 ∨ (r = 0 ∧ b = k - 1) ∨ (r + 1 = R ∧ f = k - 1) then 0 else o
theorem rn_ch0 {ks : Nat → Nat} {x o e b f T R : Nat} {rs : Nat → Nat} (h : rn_R ks T R rs) {r : Nat} (hr : r < R) : rn_ch x o e b f T ks (rs r) = rn_cc x e (ks (rs r)) + rn_pay o b f R (ks (rs r)) r := by
  have hl := rn_last h hr
  have hs := rn_start h hr
  have h0 : rs r = 0 ↔ r = 0 := by
    constructor
    · intro z
      have := rn_mono h r 0 (by omega)
      rw [Nat.zero_add] at this
      omega
    · intro z; rw [z]; exact h.1
  unfold rn_ch rn_cc rn_pay
  by_cases k0 : ks (rs r) = 0
  · rw [if_pos k0, if_pos k0, if_pos (Or.inl (by omega))]
  · rw [if_neg k0, if_neg k0]
    by_cases k1 : ks (rs r) = 1
    · rw [if_pos k1, if_pos k1, if_pos (Or.inl (by omega))]; rfl
    · rw [if_neg k1, if_neg k1, if_neg (by intro z; rcases hs with y | y; omega; exact y z.2)]
      by_cases hx : (r = 0 ∧ b = ks (rs r) - 1) ∨ (r + 1 = R ∧ f = ks (rs r) - 1)
      · rw [if_pos (Or.inr hx), if_pos (by rcases hx with y | y; exact Or.inl ⟨h0.mpr y.1, y.2⟩; exact Or.inr ⟨hl.mpr y.1, y.2⟩)]
        rfl
      · rw [if_neg (by intro y; apply hx; rcases y with y | y; exact Or.inl ⟨h0.mp y.1, y.2⟩; exact Or.inr ⟨hl.mp y.1, y.2⟩), if_neg (by intro y; rcases y with y | y; omega; exact hx y)]
        omega
theorem rn_ch1 {ks : Nat → Nat} {x o e b f T R : Nat} {rs : Nat → Nat} (h : rn_R ks T R rs) {r c : Nat} (hr : r < R) (h1 : rs r < c) (h2 : c < rs (r + 1)) : rn_ch x o e b f T ks c = rn_cc x e (ks (rs r)) := by
  have hn := rn_nstart h hr h1 h2
  have hk := h.2.2.2.1 r hr c (by omega) h2
  unfold rn_ch rn_cc
  rw [if_pos hn, hk]
theorem rn_Sch {ks : Nat → Nat} {x o e b f T R : Nat} {rs : Nat → Nat} (h : rn_R ks T R rs) {r : Nat} (hr : r < R) : ∀ t, rs r + t + 1 ≤ rs (r + 1) →
    rn_S (rn_ch x o e b f T ks) (rs r + t + 1) = rn_S (rn_ch x o e b f T ks) (rs r) + (t + 1) * rn_cc x e (ks (rs r)) + rn_pay o b f R (ks (rs r)) r := by
  intro t
  induction t with
  | zero =>
    intro _
    show rn_S _ (rs r) + rn_ch x o e b f T ks (rs r) = _
    rw [rn_ch0 h hr]
    omega
  | succ t ih =>
    intro ht
    show rn_S _ (rs r + t + 1) + rn_ch x o e b f T ks (rs r + t + 1) = _
    rw [ih (by omega), rn_ch1 h hr (by omega) (by omega), Nat.succ_mul (t + 1)]
    omega
theorem rn_Su {ks : Nat → Nat} {T R : Nat} {rs : Nat → Nat} (h : rn_R ks T R rs) (skip : Nat) {r : Nat} (hr : r < R) : ∀ t, rs r + t ≤ rs (r + 1) →
    rn_S (rn_u ks skip) (rs r + t) = rn_S (rn_u ks skip) (rs r) + (if ks (rs r) = skip then 0 else t) := by
  intro t
  induction t with
  | zero => intro _; split <;> rfl
  | succ t ih =>
    intro ht
    show rn_S _ (rs r + t) + rn_u ks skip (rs r + t) = _
    rw [ih (by omega)]
    unfold rn_u
    rw [h.2.2.2.1 r hr (rs r + t) (by omega) (by omega)]
    split <;> omega
theorem rn_Smono (g : Nat → Nat) {a b : Nat} (h : a ≤ b) : rn_S g a ≤ rn_S g b := by
  obtain ⟨d, rfl⟩ : ∃ d, b = a + d := ⟨b - a, by omega⟩
  induction d with
  | zero => exact Nat.le_refl _
  | succ d ih => exact Nat.le_trans (ih (by omega)) (Nat.le_add_right _ _)
/-! the path's kinds, its charges and its counts -/
section
variable {A B : Nat → Int32} {x o e f n m b T : Nat} {ks Ls ps qs : Nat → Nat}
theorem tp_pq (hF : e * (n + m) + 2 * o < 1000000) (h : tp_P A B x o e f n m b n m T ks Ls ps qs) : ∀ c, c ≤ T → ps c ≤ n ∧ qs c ≤ m := by
  obtain ⟨h1, h2, h3, h4, h5, h6, h7⟩ := h
  intro c
  induction c with
  | zero => intro _; omega
  | succ c ih =>
    intro hc
    have i1 := ih (by omega)
    obtain ⟨_, _, _, g4, g5⟩ := h7 c (by omega)
    rw [g4, g5]
    constructor <;> split <;> omega
theorem tp_stepc (hF : e * (n + m) + 2 * o < 1000000) (h : tp_P A B x o e f n m b n m T ks Ls ps qs) {c : Nat} (hc : c < T) :
    (ks c = 0 ∧ 0 < ps c ∧ 0 < qs c ∧ Ls (c + 1) = 0 ∧ ps (c + 1) = ps c - 1 ∧ qs (c + 1) = qs c - 1 ∧ th_F A B x o e f n m (Ls c) (ps c) (qs c) = th_F A B x o e f n m (Ls (c + 1)) (ps (c + 1)) (qs (c + 1)))
    ∨ (ks c = 1 ∧ 0 < ps c ∧ 0 < qs c ∧ Ls (c + 1) = 0 ∧ ps (c + 1) = ps c - 1 ∧ qs (c + 1) = qs c - 1 ∧ th_F A B x o e f n m (Ls c) (ps c) (qs c) = x + th_F A B x o e f n m (Ls (c + 1)) (ps (c + 1)) (qs (c + 1)))
    ∨ (ks c = 2 ∧ 0 < qs c ∧ Ls (c + 1) = 1 ∧ ps (c + 1) = ps c ∧ qs (c + 1) = qs c - 1 ∧ th_F A B x o e f n m (Ls c) (ps c) (qs c) = cw_oi o (decide (f = 1)) (Ls c) (ps c) + e + th_F A B x o e f n m (Ls (c + 1)) (ps (c + 1)) (qs (c + 1)))
    ∨ (ks c = 3 ∧ 0 < ps c ∧ Ls (c + 1) = 2 ∧ ps (c + 1) = ps c - 1 ∧ qs (c + 1) = qs c ∧ th_F A B x o e f n m (Ls c) (ps c) (qs c) = cw_od o (decide (f = 2)) (Ls c) (qs c) + e + th_F A B x o e f n m (Ls (c + 1)) (ps (c + 1)) (qs (c + 1))) := by
  have hpq := tp_pq hF h c (by omega)
  obtain ⟨h1, h2, h3, h4, h5, h6, h7⟩ := h
  obtain ⟨g1, g2, g3, g4, g5⟩ := h7 c hc
  have hbb : 2 * o + e * (ps c + qs c) < 1000000 := by
    have : e * (ps c + qs c) ≤ e * (n + m) := Nat.mul_le_mul_left e (by omega)
    omega
  have hst := tp_step (A := A) (B := B) (x := x) (o := o) (e := e) (f := f) (n := n) (m := m) (L := Ls c) hbb g1
  rw [← g2] at hst
  rcases hst with ⟨k, a1, a2, a3⟩ | ⟨k, a1, a2, a3⟩ | ⟨k, a1, a3⟩ | ⟨k, a1, a3⟩
  · left
    rw [k] at g3 g4 g5
    rw [g3, g4, g5]
    exact ⟨k, a1, a2, rfl, rfl, rfl, a3⟩
  · right; left
    rw [k] at g3 g4 g5
    rw [g3, g4, g5]
    exact ⟨k, a1, a2, rfl, rfl, rfl, a3⟩
  · right; right; left
    rw [k] at g3 g4 g5
    rw [g3, g4, g5]
    exact ⟨k, a1, rfl, rfl, rfl, a3⟩
  · right; right; right
    rw [k] at g3 g4 g5
    rw [g3, g4, g5]
    exact ⟨k, a1, rfl, rfl, rfl, a3⟩
theorem tp_k4c (hF : e * (n + m) + 2 * o < 1000000) (h : tp_P A B x o e f n m b n m T ks Ls ps qs) {c : Nat} (hc : c < T) : ks c < 4 := by
  rcases tp_stepc hF h hc with ⟨k, _⟩ | ⟨k, _⟩ | ⟨k, _⟩ | ⟨k, _⟩ <;> omega
/-- counts -/
theorem tp_cnt (hF : e * (n + m) + 2 * o < 1000000) (h : tp_P A B x o e f n m b n m T ks Ls ps qs) : ∀ c, c ≤ T → rn_S (rn_u ks 2) c + ps c = n ∧ rn_S (rn_u ks 3) c + qs c = m := by
  intro c
  induction c with
  | zero => intro _; obtain ⟨h1, h2, h3, _⟩ := h; rw [h2, h3]; exact ⟨Nat.zero_add _, Nat.zero_add _⟩
  | succ c ih =>
    intro hc
    obtain ⟨i1, i2⟩ := ih (by omega)
    show rn_S (rn_u ks 2) c + rn_u ks 2 c + ps (c + 1) = n ∧ rn_S (rn_u ks 3) c + rn_u ks 3 c + qs (c + 1) = m
    unfold rn_u at i1 i2 ⊢
    rcases tp_stepc hF h (show c < T by omega) with ⟨k, a1, a2, _, a4, a5, _⟩ | ⟨k, a1, a2, _, a4, a5, _⟩ | ⟨k, a1, _, a4, a5, _⟩ | ⟨k, a1, _, a4, a5, _⟩ <;> rw [k, a4, a5] <;> simp <;> omega
/-- the last run -/
theorem tp_p0 (hF : e * (n + m) + 2 * o < 1000000) (h : tp_P A B x o e f n m b n m T ks Ls ps qs) {c : Nat} (hc : c < T) : rn_all ks 2 T c = true ↔ ps c = 0 := by
  unfold rn_all
  rw [decide_eq_true_iff]
  constructor
  · intro ha
    have key : ∀ d, c + d ≤ T → ps (c + d) = ps c := by
      intro d
      induction d with
      | zero => intro _; rfl
      | succ d ih =>
        intro hd
        have e1 := ha (c + d) (by omega) (by omega)
        rcases tp_stepc hF h (show c + d < T by omega) with ⟨k, _⟩ | ⟨k, _⟩ | ⟨k, _, _, a4, _⟩ | ⟨k, _⟩
        · omega
        · omega
        · rw [show c + (d + 1) = c + d + 1 from rfl, a4]; exact ih (by omega)
        · omega
    have := key (T - c) (by omega)
    rw [show c + (T - c) = T by omega] at this
    rw [← this]
    exact h.2.2.2.1
  · intro hp
    have key : ∀ d, c + d < T → ps (c + d) = 0 ∧ ks (c + d) = 2 := by
      intro d
      induction d with
      | zero =>
        intro hd
        rcases tp_stepc hF h (show c < T by omega) with ⟨k, a1, _⟩ | ⟨k, a1, _⟩ | ⟨k, _⟩ | ⟨k, a1, _⟩
        · omega
        · omega
        · exact ⟨hp, k⟩
        · omega
      | succ d ih =>
        intro hd
        obtain ⟨i1, i2⟩ := ih (by omega)
        have e1 : ps (c + (d + 1)) = 0 := by
          rcases tp_stepc hF h (show c + d < T by omega) with ⟨k, _⟩ | ⟨k, _⟩ | ⟨k, _, _, a4, _⟩ | ⟨k, _⟩
          · omega
          · omega
          · rw [show c + (d + 1) = c + d + 1 from rfl, a4]; exact i1
          · omega
        refine ⟨e1, ?_⟩
        rcases tp_stepc hF h hd with ⟨k, a1, _⟩ | ⟨k, a1, _⟩ | ⟨k, _⟩ | ⟨k, a1, _⟩
        · omega
        · omega
        · exact k
        · omega
    intro d hd hcd
    have := (key (d - c) (by omega)).2
    rw [show c + (d - c) = d by omega] at this
    exact this
theorem tp_q0 (hF : e * (n + m) + 2 * o < 1000000) (h : tp_P A B x o e f n m b n m T ks Ls ps qs) {c : Nat} (hc : c < T) : rn_all ks 3 T c = true ↔ qs c = 0 := by
  unfold rn_all
  rw [decide_eq_true_iff]
  constructor
  · intro ha
    have key : ∀ d, c + d ≤ T → qs (c + d) = qs c := by
      intro d
      induction d with
      | zero => intro _; rfl
      | succ d ih =>
        intro hd
        have e1 := ha (c + d) (by omega) (by omega)
        rcases tp_stepc hF h (show c + d < T by omega) with ⟨k, _⟩ | ⟨k, _⟩ | ⟨k, _⟩ | ⟨k, _, _, _, a4, _⟩
        · omega
        · omega
        · omega
        · rw [show c + (d + 1) = c + d + 1 from rfl, a4]; exact ih (by omega)
    have := key (T - c) (by omega)
    rw [show c + (T - c) = T by omega] at this
    rw [← this]
    exact h.2.2.2.2.1
  · intro hp
    have key : ∀ d, c + d < T → qs (c + d) = 0 ∧ ks (c + d) = 3 := by
      intro d
      induction d with
      | zero =>
        intro hd
        rcases tp_stepc hF h (show c < T by omega) with ⟨k, _, a1, _⟩ | ⟨k, _, a1, _⟩ | ⟨k, a1, _⟩ | ⟨k, _⟩
        · omega
        · omega
        · omega
        · exact ⟨hp, k⟩
      | succ d ih =>
        intro hd
        obtain ⟨i1, i2⟩ := ih (by omega)
        have e1 : qs (c + (d + 1)) = 0 := by
          rcases tp_stepc hF h (show c + d < T by omega) with ⟨k, _⟩ | ⟨k, _⟩ | ⟨k, _⟩ | ⟨k, _, _, _, a4, _⟩
          · omega
          · omega
          · omega
          · rw [show c + (d + 1) = c + d + 1 from rfl, a4]; exact i1
        refine ⟨e1, ?_⟩
        rcases tp_stepc hF h hd with ⟨k, _, a1, _⟩ | ⟨k, _, a1, _⟩ | ⟨k, a1, _⟩ | ⟨k, _⟩
        · omega
        · omega
        · omega
        · exact k
    intro d hd hcd
    have := (key (d - c) (by omega)).2
    rw [show c + (d - c) = d by omega] at this
    exact this
theorem tp_L (hF : e * (n + m) + 2 * o < 1000000) (h : tp_P A B x o e f n m b n m T ks Ls ps qs) {c : Nat} (hc : c < T) : (Ls c = 1 ↔ (c = 0 ∧ b = 1) ∨ (0 < c ∧ ks (c - 1) = 2)) ∧ (Ls c = 2 ↔ (c = 0 ∧ b = 2) ∨ (0 < c ∧ ks (c - 1) = 3)) := by
  cases c with
  | zero => rw [h.1]; constructor <;> constructor <;> intro z <;> omega
  | succ c =>
    rw [show c + 1 - 1 = c by omega]
    rcases tp_stepc hF h (show c < T by omega) with ⟨k, _, _, a, _⟩ | ⟨k, _, _, a, _⟩ | ⟨k, _, a, _⟩ | ⟨k, _, a, _⟩ <;> rw [a, k] <;> constructor <;> constructor <;> intro z <;> omega
/-- a charge is the cost that falls away -/
theorem tp_ch (hF : e * (n + m) + 2 * o < 1000000) (h : tp_P A B x o e f n m b n m T ks Ls ps qs) {c : Nat} (hc : c < T) :
    th_F A B x o e f n m (Ls c) (ps c) (qs c) = rn_ch x o e b f T ks c + th_F A B x o e f n m (Ls (c + 1)) (ps (c + 1)) (qs (c + 1)) := by
  obtain ⟨hL1, hL2⟩ := tp_L hF h hc
  have hp0 := tp_p0 hF h hc
  have hq0 := tp_q0 hF h hc
  unfold rn_ch
  rcases tp_stepc hF h hc with ⟨k, _, _, _, _, _, a⟩ | ⟨k, _, _, _, _, _, a⟩ | ⟨k, _, _, _, _, a⟩ | ⟨k, _, _, _, _, a⟩
  · rw [a, k, if_pos rfl, Nat.zero_add]
  · rw [a, k, if_neg (by decide), if_pos rfl]
  · rw [a, k, if_neg (by decide), if_neg (by decide)]
    unfold cw_oi
    by_cases h1 : 0 < c ∧ 2 = ks (c - 1)
    · rw [if_pos h1, if_pos (Or.inl (hL1.mpr (Or.inr ⟨h1.1, h1.2.symm⟩)))]; omega
    · rw [if_neg h1]
      by_cases h2 : (c = 0 ∧ b = 2 - 1) ∨ (rn_all ks 2 T c = true ∧ f = 2 - 1)
      · rw [if_pos h2, if_pos]
        · omega
        · rcases h2 with z | z
          · exact Or.inl (hL1.mpr (Or.inl ⟨z.1, by omega⟩))
          · exact Or.inr ⟨hp0.mp z.1, decide_eq_true (by omega)⟩
      · rw [if_neg h2, if_neg]
        intro z
        rcases z with z | z
        · rcases hL1.mp z with y | y
          · exact h2 (Or.inl ⟨y.1, by omega⟩)
          · exact h1 ⟨y.1, y.2.symm⟩
        · have := of_decide_eq_true z.2
          exact h2 (Or.inr ⟨hp0.mpr z.1, by omega⟩)
  · rw [a, k, if_neg (by decide), if_neg (by decide)]
    unfold cw_od
    by_cases h1 : 0 < c ∧ 3 = ks (c - 1)
    · rw [if_pos h1, if_pos (Or.inl (hL2.mpr (Or.inr ⟨h1.1, h1.2.symm⟩)))]; omega
    · rw [if_neg h1]
      by_cases h2 : (c = 0 ∧ b = 3 - 1) ∨ (rn_all ks 3 T c = true ∧ f = 3 - 1)
      · rw [if_pos h2, if_pos]
        · omega
        · rcases h2 with z | z
          · exact Or.inl (hL2.mpr (Or.inl ⟨z.1, by omega⟩))
          · exact Or.inr ⟨hq0.mp z.1, decide_eq_true (by omega)⟩
      · rw [if_neg h2, if_neg]
        intro z
        rcases z with z | z
        · rcases hL2.mp z with y | y
          · exact h2 (Or.inl ⟨y.1, by omega⟩)
          · exact h1 ⟨y.1, y.2.symm⟩
        · have := of_decide_eq_true z.2
          exact h2 (Or.inr ⟨hq0.mpr z.1, by omega⟩)
theorem tp_sum (hF : e * (n + m) + 2 * o < 1000000) (h : tp_P A B x o e f n m b n m T ks Ls ps qs) : rn_S (rn_ch x o e b f T ks) T = th_F A B x o e f n m b n m := by
  have key : ∀ c, c ≤ T → rn_S (rn_ch x o e b f T ks) c + th_F A B x o e f n m (Ls c) (ps c) (qs c) = th_F A B x o e f n m b n m := by
    intro c
    induction c with
    | zero => intro _; obtain ⟨h1, h2, h3, _⟩ := h; rw [h1, h2, h3]; exact Nat.zero_add _
    | succ c ih =>
      intro hc
      have i1 := ih (by omega)
      have i2 := tp_ch hF h (show c < T by omega)
      show rn_S _ c + rn_ch x o e b f T ks c + _ = _
      omega
  have := key T (Nat.le_refl _)
  obtain ⟨h1, h2, h3, h4, h5, _⟩ := h
  rw [h4, h5] at this
  have h00 : th_F A B x o e f n m (Ls T) 0 0 = 0 := cw_00
  omega
/-- the excuse at the start is the layer -/
theorem tp_b1 (hF : e * (n + m) + 2 * o < 1000000) (h : tp_P A B x o e f n m b n m T ks Ls ps qs) (hb : b = 1) : ∀ c, c ≤ T → ps c = n → Ls c = 1 := by
  intro c
  induction c with
  | zero => intro _ _; rw [h.1]; exact hb
  | succ c ih =>
    intro hc hp
    have := (tp_pq hF h c (by omega)).1
    rcases tp_stepc hF h (show c < T by omega) with ⟨k, a1, a2, a3, a4, _⟩ | ⟨k, a1, a2, a3, a4, _⟩ | ⟨k, a1, a3, a4, _⟩ | ⟨k, a1, a3, a4, _⟩
    · omega
    · omega
    · exact a3
    · omega
theorem tp_b2 (hF : e * (n + m) + 2 * o < 1000000) (h : tp_P A B x o e f n m b n m T ks Ls ps qs) (hb : b = 2) : ∀ c, c ≤ T → qs c = m → Ls c = 2 := by
  intro c
  induction c with
  | zero => intro _ _; rw [h.1]; exact hb
  | succ c ih =>
    intro hc hp
    have := (tp_pq hF h c (by omega)).2
    rcases tp_stepc hF h (show c < T by omega) with ⟨k, a1, a2, a3, a4, a5, _⟩ | ⟨k, a1, a2, a3, a4, a5, _⟩ | ⟨k, a1, a3, a4, a5, _⟩ | ⟨k, a1, a3, a4, a5, _⟩
    · omega
    · omega
    · omega
    · exact a3
end
end
section
/-! 08 the component's wavefronts: small methods -/
/-- what both sides hold: lengths, symbols, prices -/
def xc_ok (off n m x o e : Nat) (A B : Nat → Int32) (mis op ex : Int32) (len sym : Nat → Int32) : Prop :=
  n ≤ 15 ∧ m ≤ 15 ∧ 1 ≤ x ∧ x ≤ 7 ∧ o ≤ 5 ∧ 1 ≤ e ∧ e ≤ 2 ∧ mis = zi_o x ∧ op = zi_o o ∧ ex = zi_o e ∧ len 0 = zi_o n ∧ len 1 = zi_o m
  ∧ (∀ i, i < n → sym i = A i) ∧ (∀ j, j < m → sym (off + j) = B j)
def xc_cell (w L : Nat) (s k : Int) : Nat := ((w * 3 + L) * 71 + s.toNat) * 31 + (k + 15).toNat
def xc_G (A B : Nat → Int32) (n m w : Nat) : Nat → Nat → Bool := if w = 0 then th_gf A B n m else th_gb A B
def xc_Wv (G : Nat → Nat → Bool) (x o e edge n m w : Nat) (S K : Int) (wv : Nat → Int32) : Prop :=
  ∀ (L : Nat) (s k : Int), L < 3 → 0 ≤ s → -(n : Int) ≤ k → k ≤ m → (s < S ∨ (s = S ∧ k < K)) →
    ∃ r, wv (xc_cell w L s k) = zi_o r ∧ cw_W G x o e (decide (edge = 1)) (decide (edge = 2)) n m L s k r
theorem zi_p {post : Int32 → Prop} {y : Int32} {a : Int} (h : post (zi_o a)) (e : y = zi_o a) : post y := by rw [e]; exact h
section
variable {f_room f_levels f_width f_none f_ahead f_behind f_capacity f_mismatch f_open f_extend f_runs f_columnTotal f_aligned f_begin f_end f_best f_heading f_position : Int32} {a_symbols a_lengths a_scratch a_waves a_runKinds a_runSizes : Nat → Int32} {n m x o e : Nat} {A B : Nat → Int32} {post : Int32 → Prop} {p0 p1 p2 p3 : Int32}
theorem xw_lesser (a b : Int) (e0 : p0 = zi_o a) (e1 : p1 = zi_o b) (ra : -1000000 ≤ a ∧ a ≤ 1000000) (rb : -1000000 ≤ b ∧ b ≤ 1000000) (h : post (zi_o (min a b))) : wpX_lesser post (f_room, f_levels, f_width, f_none, f_ahead, f_behind, f_capacity, f_mismatch, f_open, f_extend, f_runs, f_columnTotal, f_aligned, f_begin, f_end, f_best, f_heading, f_position, a_symbols, a_lengths, a_scratch, a_waves, a_runKinds, a_runSizes) p0 p1 := by
  refine zi_ble b a e1 e0 (by omega) (fun z => ?_) (fun z => ?_)
  · exact zi_p h (e1.trans (zi_c (by omega)))
  · exact zi_p h (e0.trans (zi_c (by omega)))
theorem xw_cell (w L : Nat) (s k : Int) (hs : 0 ≤ s) (hk : -15 ≤ k) (e0 : p0 = zi_o w) (e1 : p1 = zi_o L) (e2 : p2 = zi_o s) (e3 : p3 = zi_o k) (h : post (zi_o (xc_cell w L s k : Nat))) : wpX_cell post (f_room, f_levels, f_width, f_none, f_ahead, f_behind, f_capacity, f_mismatch, f_open, f_extend, f_runs, f_columnTotal, f_aligned, f_begin, f_end, f_best, f_heading, f_position, a_symbols, a_lengths, a_scratch, a_waves, a_runKinds, a_runSizes) p0 p1 p2 p3 := by
  subst e0 e1 e2 e3
  refine zi_p (post := post) h ?_
  simp only [zi_l3, zi_l71, zi_l31, zi_l15, zi_mul, zi_add]
  refine zi_c ?_
  unfold xc_cell
  omega
theorem xc_cell_lt {w L : Nat} {s k : Int} (hw : w < 2) (hL : L < 3) (hs : s ≤ 70) (hk : k ≤ 15) : xc_cell w L s k < 13206 := by
  unfold xc_cell
  omega
theorem xw_top (k : Int) (hk : -1000 ≤ k ∧ k ≤ 1000) (e0 : p0 = zi_o k) (h : post (zi_o (max 0 (-k)))) : wpX_topRow post (f_room, f_levels, f_width, f_none, f_ahead, f_behind, f_capacity, f_mismatch, f_open, f_extend, f_runs, f_columnTotal, f_aligned, f_begin, f_end, f_best, f_heading, f_position, a_symbols, a_lengths, a_scratch, a_waves, a_runKinds, a_runSizes) p0 := by
  subst e0
  refine zi_ble 0 k zi_l0 rfl (by omega) (fun z => ?_) (fun z => ?_)
  · exact zi_p h (zi_l0.trans (zi_c (by omega)))
  · exact zi_p h ((zi_neg k).trans (zi_c (by omega)))
theorem xw_bot (hc : xc_ok 15 n m x o e A B f_mismatch f_open f_extend a_lengths a_symbols) (k : Int) (hk : -1000 ≤ k ∧ k ≤ 1000) (e0 : p0 = zi_o k) (h : post (zi_o (min (n : Int) ((m : Int) - k)))) : wpX_bottomRow post (f_room, f_levels, f_width, f_none, f_ahead, f_behind, f_capacity, f_mismatch, f_open, f_extend, f_runs, f_columnTotal, f_aligned, f_begin, f_end, f_best, f_heading, f_position, a_symbols, a_lengths, a_scratch, a_waves, a_runKinds, a_runSizes) p0 := by
  obtain ⟨hn, hm, hx1, hx7, ho5, he1, he2, hmis, hop, hex, hl0, hl1, hA, hB⟩ := hc
  subst e0
  unfold wpX_bottomRow
  refine xw_lesser (n : Int) ((m : Int) - k) hl0 ?_ (by omega) (by omega) h
  rw [hl1, zi_sub]
theorem xw_reach (hc : xc_ok 15 n m x o e A B f_mismatch f_open f_extend a_lengths a_symbols) (w L : Nat) (s k : Int) (hw : w < 2) (hL : L < 3) (hs : -1000 ≤ s ∧ s ≤ 70) (hk : -100 ≤ k ∧ k ≤ 100)
    (e0 : p0 = zi_o w) (e1 : p1 = zi_o L) (e2 : p2 = zi_o s) (e3 : p3 = zi_o k) (h : (s < 0 ∨ k < -(n : Int) ∨ (m : Int) < k) → post (zi_o 99))
    (h' : 0 ≤ s → -(n : Int) ≤ k → k ≤ m → post (a_waves (xc_cell w L s k))) : wpX_reach post (f_room, f_levels, f_width, f_none, f_ahead, f_behind, f_capacity, f_mismatch, f_open, f_extend, f_runs, f_columnTotal, f_aligned, f_begin, f_end, f_best, f_heading, f_position, a_symbols, a_lengths, a_scratch, a_waves, a_runKinds, a_runSizes) p0 p1 p2 p3 := by
  obtain ⟨hn, hm, hx1, hx7, ho5, he1, he2, hmis, hop, hex, hl0, hl1, hA, hB⟩ := hc
  subst e2 e3
  refine zi_blt s 0 rfl zi_l0 (by omega) (fun z => h (Or.inl z)) (fun z0 => ?_)
  refine zi_blt k (-(n : Int)) rfl (by rw [hl0, zi_neg]) (by omega) (fun z => h (Or.inr (Or.inl z))) (fun z1 => ?_)
  refine zi_ble k m rfl hl1 (by omega) (fun z2 => ?_) (fun z => h (Or.inr (Or.inr z)))
  refine xw_cell w L s k z0 (by omega) e0 e1 rfl rfl ?_
  obtain ⟨hi, hcl⟩ := zi_ix (x := zi_o (xc_cell w L s k : Nat)) (N := 13206) (xc_cell w L s k) rfl (xc_cell_lt hw hL (by omega) (by omega)) (by omega)
  exact ⟨hi, by rw [hcl]; exact h' z0 z1 z2⟩
theorem xw_reachW (hc : xc_ok 15 n m x o e A B f_mismatch f_open f_extend a_lengths a_symbols) {edge : Nat} {S K : Int} (w L : Nat) (s k : Int) (hw : w < 2) (hL : L < 3) (hs : -1000 ≤ s ∧ s ≤ 70) (hk : -100 ≤ k ∧ k ≤ 100)
    (hW : xc_Wv (xc_G A B n m w) x o e edge n m w S K a_waves) (hS : s < S)
    (e0 : p0 = zi_o w) (e1 : p1 = zi_o L) (e2 : p2 = zi_o s) (e3 : p3 = zi_o k) :
    ∃ r, cw_W (xc_G A B n m w) x o e (decide (edge = 1)) (decide (edge = 2)) n m L s k r ∧ ∀ post : Int32 → Prop, post (zi_o r) → wpX_reach post (f_room, f_levels, f_width, f_none, f_ahead, f_behind, f_capacity, f_mismatch, f_open, f_extend, f_runs, f_columnTotal, f_aligned, f_begin, f_end, f_best, f_heading, f_position, a_symbols, a_lengths, a_scratch, a_waves, a_runKinds, a_runSizes) p0 p1 p2 p3 := by
  by_cases hin : 0 ≤ s ∧ -(n : Int) ≤ k ∧ k ≤ m
  · obtain ⟨z0, z1, z2⟩ := hin
    obtain ⟨r, hr, hw'⟩ := hW L s k hL z0 z1 z2 (Or.inl hS)
    refine ⟨r, hw', fun post hp => xw_reach hc w L s k hw hL hs hk e0 e1 e2 e3 (fun z => by omega) (fun _ _ _ => ?_)⟩
    rw [hr]; exact hp
  · refine ⟨99, ?_, fun post hp => xw_reach hc w L s k hw hL hs hk e0 e1 e2 e3 (fun _ => hp) (fun a b c => absurd ⟨a, b, c⟩ hin)⟩
    by_cases z : s < 0
    · exact cw_W_neg z
    · exact cw_W_out (by omega)
theorem xw_seed (hc : xc_ok 15 n m x o e A B f_mismatch f_open f_extend a_lengths a_symbols) (edge : Nat) (s k : Int) (hedge : edge ≤ 2) (hs : -1000 ≤ s ∧ s ≤ 1000) (hk : -15 ≤ k ∧ k ≤ 15)
    (e0 : p0 = zi_o edge) (e1 : p1 = zi_o s) (e2 : p2 = zi_o k) (h : post (zi_o (cw_sd e edge n m s k))) : wpX_seed post (f_room, f_levels, f_width, f_none, f_ahead, f_behind, f_capacity, f_mismatch, f_open, f_extend, f_runs, f_columnTotal, f_aligned, f_begin, f_end, f_best, f_heading, f_position, a_symbols, a_lengths, a_scratch, a_waves, a_runKinds, a_runSizes) p0 p1 p2 := by
  obtain ⟨hn, hm, hx1, hx7, ho5, he1, he2, hmis, hop, hex, hl0, hl1, hA, hB⟩ := hc
  subst e0 e1 e2
  have hrem : (a_lengths 1 - a_lengths 0) - zi_o k = zi_o ((m : Int) - n - k) := by rw [hl0, hl1, zi_sub, zi_sub]
  have he : (e : Int) = 1 ∨ (e : Int) = 2 := by omega
  have hb1 : -1000 ≤ ((m : Int) - n - k) * e ∧ ((m : Int) - n - k) * e ≤ 1000 := by rcases he with z | z <;> rw [z] <;> omega
  have hb2 : -1000 ≤ (-((m : Int) - n - k)) * e ∧ (-((m : Int) - n - k)) * e ≤ 1000 := by rcases he with z | z <;> rw [z] <;> omega
  have hmul : ∀ z : Int, zi_o z * f_extend = zi_o (z * e) := fun z => by rw [hex, zi_mul]
  unfold cw_sd at h
  unfold wpX_seed
  refine nm_r hrem ?_
  refine zi_beq ((m : Int) - n - k) 0 rfl zi_l0 (by omega) (fun z => ?_) (fun z => ?_)
  · rw [if_pos z] at h
    exact zi_p h hl0
  · rw [if_neg z] at h
    have h57 : ¬ (0 < (m : Int) - n - k ∧ edge = 1 ∧ ((m : Int) - n - k) * e ≤ s) → wX_seed_57 post (zi_o edge) (zi_o s) (zi_o k) (zi_o ((m : Int) - n - k)) f_room f_levels f_width f_none f_ahead f_behind f_capacity f_mismatch f_open f_extend f_runs f_columnTotal f_aligned f_begin f_end f_best f_heading f_position a_symbols a_lengths a_scratch a_waves a_runKinds a_runSizes := by
      intro hneg
      rw [if_neg hneg] at h
      refine zi_ble 0 ((m : Int) - n - k) zi_l0 rfl (by omega) (fun z1 => ?_) (fun z1 => ?_)
      · rw [if_neg (by intro y; omega)] at h
        exact zi_p h zi_l99
      · refine zi_beq edge 2 rfl zi_l2 (by omega) (fun z2 => ?_) (fun z2 => ?_)
        · refine zi_blt s ((-((m : Int) - n - k)) * e) rfl (by rw [zi_neg, hmul]) (by omega) (fun z3 => ?_) (fun z3 => ?_)
          · rw [if_neg (by intro y; omega)] at h
            exact zi_p h zi_l99
          · rw [if_pos ⟨z1, by omega, z3⟩] at h
            exact zi_p h (by rw [hl1, zi_sub])
        · rw [if_neg (by intro y; omega)] at h
          exact zi_p h zi_l99
    refine zi_ble ((m : Int) - n - k) 0 rfl zi_l0 (by omega) (fun z1 => h57 (by intro y; omega)) (fun z1 => ?_)
    refine zi_beq edge 1 rfl zi_l1 (by omega) (fun z2 => ?_) (fun z2 => h57 (by intro y; omega))
    refine zi_blt s (((m : Int) - n - k) * e) rfl (by rw [hmul]) (by omega) (fun z3 => h57 (by intro y; omega)) (fun z3 => ?_)
    rw [if_pos ⟨z1, by omega, z3⟩] at h
    exact zi_p h hl0
theorem xw_bm (k r : Int) (hk : -1000 ≤ k ∧ k ≤ 1000) (hr0 : 0 ≤ r ∧ r ≤ 99) (e2 : p2 = zi_o k) (hr : ∀ post : Int32 → Prop, post (zi_o r) → wpX_reach post (f_room, f_levels, f_width, f_none, f_ahead, f_behind, f_capacity, f_mismatch, f_open, f_extend, f_runs, f_columnTotal, f_aligned, f_begin, f_end, f_best, f_heading, f_position, a_symbols, a_lengths, a_scratch, a_waves, a_runKinds, a_runSizes) p0 0 p1 p2) (h : post (zi_o (cw_bm k r))) : wpX_beforeMismatch post (f_room, f_levels, f_width, f_none, f_ahead, f_behind, f_capacity, f_mismatch, f_open, f_extend, f_runs, f_columnTotal, f_aligned, f_begin, f_end, f_best, f_heading, f_position, a_symbols, a_lengths, a_scratch, a_waves, a_runKinds, a_runSizes) p0 p1 p2 := by
  unfold wpX_beforeMismatch
  unfold cw_bm at h
  refine hr _ ?_
  refine zi_beq r 99 rfl zi_l99 (by omega) (fun z => ?_) (fun z => ?_)
  · rw [if_pos (Or.inl z)] at h; exact h
  · refine xw_top k hk e2 ?_
    refine zi_blt (max 0 (-k)) r rfl rfl (by omega) (fun z1 => ?_) (fun z1 => ?_)
    · rw [if_neg (by intro y; omega)] at h
      exact zi_p h (by first | (simp only [zi_l0, zi_l1, zi_l2, zi_l3, zi_l4, zi_l15, zi_l16, zi_l31, zi_l71, zi_l99, zi_lF, zi_neg, zi_add, zi_sub, zi_mul]; done) | (simp only [zi_l0, zi_l1, zi_l2, zi_l3, zi_l4, zi_l15, zi_l16, zi_l31, zi_l71, zi_l99, zi_lF, zi_neg, zi_add, zi_sub, zi_mul]; exact zi_c (by omega)) | exact zi_c (by omega))
    · rw [if_pos (Or.inr z1)] at h; exact h
theorem xw_bn (hc : xc_ok 15 n m x o e A B f_mismatch f_open f_extend a_lengths a_symbols) (k r : Int) (hk : -100 ≤ k ∧ k ≤ 100) (hr0 : 0 ≤ r ∧ r ≤ 99) (e2 : p2 = zi_o k) (hr : ∀ post : Int32 → Prop, post (zi_o r) → wpX_reach post (f_room, f_levels, f_width, f_none, f_ahead, f_behind, f_capacity, f_mismatch, f_open, f_extend, f_runs, f_columnTotal, f_aligned, f_begin, f_end, f_best, f_heading, f_position, a_symbols, a_lengths, a_scratch, a_waves, a_runKinds, a_runSizes) p0 1 p1 (p2 + 1)) (h : post (zi_o (cw_bn n m k r))) : wpX_beforeInsert post (f_room, f_levels, f_width, f_none, f_ahead, f_behind, f_capacity, f_mismatch, f_open, f_extend, f_runs, f_columnTotal, f_aligned, f_begin, f_end, f_best, f_heading, f_position, a_symbols, a_lengths, a_scratch, a_waves, a_runKinds, a_runSizes) p0 p1 p2 := by
  have hn := hc.1
  have hm := hc.2.1
  have h23 : wX_beforeInsert_23 post p2 (zi_o (max r (-k))) f_room f_levels f_width f_none f_ahead f_behind f_capacity f_mismatch f_open f_extend f_runs f_columnTotal f_aligned f_begin f_end f_best f_heading f_position a_symbols a_lengths a_scratch a_waves a_runKinds a_runSizes := by
    unfold wX_beforeInsert_23
    refine xw_bot hc (k + 1) (by omega) (by rw [e2, zi_l1, zi_add]) ?_
    unfold cw_bn at h
    refine zi_ble (max r (-k)) (min (n : Int) ((m : Int) - (k + 1))) rfl rfl (by omega) (fun z => ?_) (fun z => ?_)
    · rw [if_pos z] at h; exact h
    · rw [if_neg (by omega)] at h; exact zi_p h zi_l99
  unfold wpX_beforeInsert
  refine hr _ ?_
  refine zi_ble (-k) r (by rw [e2, zi_neg]) rfl (by omega) (fun z => ?_) (fun z => ?_)
  · rw [show max r (-k) = r by omega] at h23; exact h23
  · rw [show max r (-k) = -k by omega] at h23
    refine nm_r (e' := zi_o (-k)) (by rw [e2, zi_neg]) ?_
    exact h23
theorem xw_bl (hc : xc_ok 15 n m x o e A B f_mismatch f_open f_extend a_lengths a_symbols) (k r : Int) (hk : -100 ≤ k ∧ k ≤ 100) (hr0 : 0 ≤ r ∧ r ≤ 99) (e2 : p2 = zi_o k) (hr : ∀ post : Int32 → Prop, post (zi_o r) → wpX_reach post (f_room, f_levels, f_width, f_none, f_ahead, f_behind, f_capacity, f_mismatch, f_open, f_extend, f_runs, f_columnTotal, f_aligned, f_begin, f_end, f_best, f_heading, f_position, a_symbols, a_lengths, a_scratch, a_waves, a_runKinds, a_runSizes) p0 2 p1 (p2 - 1)) (h : post (zi_o (cw_bl n m k r))) : wpX_beforeDelete post (f_room, f_levels, f_width, f_none, f_ahead, f_behind, f_capacity, f_mismatch, f_open, f_extend, f_runs, f_columnTotal, f_aligned, f_begin, f_end, f_best, f_heading, f_position, a_symbols, a_lengths, a_scratch, a_waves, a_runKinds, a_runSizes) p0 p1 p2 := by
  have hn := hc.1
  have hm := hc.2.1
  have h21 : wX_beforeDelete_21 post p2 (zi_o (max r 1)) f_room f_levels f_width f_none f_ahead f_behind f_capacity f_mismatch f_open f_extend f_runs f_columnTotal f_aligned f_begin f_end f_best f_heading f_position a_symbols a_lengths a_scratch a_waves a_runKinds a_runSizes := by
    unfold wX_beforeDelete_21
    refine xw_bot hc (k - 1) (by omega) (by rw [e2, zi_l1, zi_sub]) ?_
    unfold cw_bl at h
    refine zi_ble (max r 1) (min (n : Int) ((m : Int) - (k - 1))) rfl rfl (by omega) (fun z => ?_) (fun z => ?_)
    · rw [if_pos z] at h; exact zi_p h (by rw [zi_l1, zi_sub])
    · rw [if_neg (by omega)] at h; exact zi_p h zi_l99
  unfold wpX_beforeDelete
  refine hr _ ?_
  refine zi_ble 1 r zi_l1 rfl (by omega) (fun z => ?_) (fun z => ?_)
  · rw [show max r 1 = r by omega] at h21; exact h21
  · rw [show max r 1 = 1 by omega, ← zi_l1] at h21; exact h21
theorem xw_eq (hc : xc_ok 15 n m x o e A B f_mismatch f_open f_extend a_lengths a_symbols) (w : Nat) (i j : Int) (hw : w < 2) (hi : 0 ≤ i ∧ i < n) (hj : 0 ≤ j ∧ j < m)
    (e0 : p0 = zi_o w) (e1 : p1 = zi_o i) (e2 : p2 = zi_o j) (ht : cw_E (xc_G A B n m w) n m i j → post 1) (hf : ¬ cw_E (xc_G A B n m w) n m i j → post 0) : wpX_equalAt post (f_room, f_levels, f_width, f_none, f_ahead, f_behind, f_capacity, f_mismatch, f_open, f_extend, f_runs, f_columnTotal, f_aligned, f_begin, f_end, f_best, f_heading, f_position, a_symbols, a_lengths, a_scratch, a_waves, a_runKinds, a_runSizes) p0 p1 p2 := by
  obtain ⟨hn, hm, hx1, hx7, ho5, he1, he2, hmis, hop, hex, hl0, hl1, hA, hB⟩ := hc
  have h35 : ∀ (y4 y5 : Int32) (a b : Nat), y4 = zi_o a → y5 = zi_o b → a < n → b < m → (A a = B b ↔ cw_E (xc_G A B n m w) n m i j) → wX_equalAt_35 post y4 y5 f_room f_levels f_width f_none f_ahead f_behind f_capacity f_mismatch f_open f_extend f_runs f_columnTotal f_aligned f_begin f_end f_best f_heading f_position a_symbols a_lengths a_scratch a_waves a_runKinds a_runSizes := by
    intro y4 y5 a b ea eb ha hb hab
    obtain ⟨i1, c1⟩ := zi_ix (x := y4) (N := 30) a ea (by omega) (by omega)
    obtain ⟨i2, c2⟩ := zi_ix (x := 15 + y5) (N := 30) (15 + b) (by rw [eb, zi_l15, zi_add]; exact zi_c (by omega)) (by omega) (by omega)
    unfold wX_equalAt_35
    rw [c1, c2, hA a ha, hB b hb]
    exact ⟨i1, i2, fun z => ht (hab.mp z), fun z => hf (fun y => z (hab.mpr y))⟩
  subst e0 e1 e2
  have hw2 : w = 0 ∨ w = 1 := by omega
  unfold wpX_equalAt
  rcases hw2 with rfl | rfl
  · refine zi_beq ((0 : Nat) : Int) 1 rfl zi_l1 (by omega) (fun z => by omega) (fun z => ?_)
    refine h35 _ _ i.toNat j.toNat (zi_c (by omega)) (zi_c (by omega)) (by omega) (by omega) ?_
    unfold cw_E xc_G
    rw [if_pos rfl]
    unfold th_gf
    rw [decide_eq_true_iff, show n - 1 - ((n : Int) - 1 - i).toNat = i.toNat by omega, show m - 1 - ((m : Int) - 1 - j).toNat = j.toNat by omega]
  · refine zi_beq ((1 : Nat) : Int) 1 rfl zi_l1 (by omega) (fun z => ?_) (fun z => by omega)
    refine nm_r (e' := zi_o ((n : Int) - 1 - i)) (by rw [hl0, zi_l1, zi_sub, zi_sub]) ?_
    refine nm_r (e' := zi_o ((m : Int) - 1 - j)) (by rw [hl1, zi_l1, zi_sub, zi_sub]) ?_
    refine h35 _ _ ((n : Int) - 1 - i).toNat ((m : Int) - 1 - j).toNat (zi_c (by omega)) (zi_c (by omega)) (by omega) (by omega) ?_
    unfold cw_E xc_G
    rw [if_neg (by decide)]
    unfold th_gb
    rw [decide_eq_true_iff]
theorem xw_slide19 (hc : xc_ok 15 n m x o e A B f_mismatch f_open f_extend a_lengths a_symbols) (w : Nat) (hw : w < 2) (k r' : Int) (hk : -100 ≤ k ∧ k ≤ 100) (hr' : max 0 (-k) ≤ r') (hend : r' = max 0 (-k) ∨ ¬ cw_E (xc_G A B n m w) n m (r' - 1) (r' - 1 + k)) (hp : post (zi_o r')) :
    ∀ (d : Nat) (r : Int), r = r' + d → r ≤ n → r + k ≤ m → (∀ t, r' ≤ t → t < r → cw_E (xc_G A B n m w) n m t (t + k)) → ∀ N, d < N → wX_slide_19 post (zi_o w) (zi_o k) (zi_o (max 0 (-k))) f_room f_levels f_width f_none f_ahead f_behind f_capacity f_mismatch f_open f_extend f_runs f_columnTotal f_aligned f_begin f_end f_best f_heading f_position a_symbols a_lengths a_scratch a_waves a_runKinds a_runSizes N (zi_o r) := by
  have hn := hc.1
  have hm := hc.2.1
  intro d
  induction d with
  | zero =>
    intro r hr hrn hrm hE N hN
    cases N with
    | zero => omega
    | succ N =>
      have hrr : r = r' := by omega
      refine zi_ble r (max 0 (-k)) rfl rfl (by omega) (fun z => ?_) (fun z => ?_)
      · rw [hrr]; exact hp
      · refine xw_eq hc w (r - 1) (r - 1 + k) hw (by omega) (by omega) rfl (by rw [zi_l1, zi_sub]) (by rw [zi_l1, zi_sub, zi_add]) (fun y => ?_) (fun y => ?_)
        · exfalso
          rcases hend with q | q
          · omega
          · rw [hrr] at y; exact q y
        · refine br_t rfl ?_
          rw [hrr]; exact hp
  | succ d ih =>
    intro r hr hrn hrm hE N hN
    cases N with
    | zero => omega
    | succ N =>
      refine zi_ble r (max 0 (-k)) rfl rfl (by omega) (fun z => by omega) (fun z => ?_)
      refine xw_eq hc w (r - 1) (r - 1 + k) hw (by omega) (by omega) rfl (by rw [zi_l1, zi_sub]) (by rw [zi_l1, zi_sub, zi_add]) (fun y => ?_) (fun y => absurd (hE (r - 1) (by omega) (by omega)) y)
      refine br_f (by decide) ?_
      refine nm_r (e' := zi_o (r - 1)) (by first | (simp only [zi_l0, zi_l1, zi_l2, zi_l3, zi_l4, zi_l15, zi_l16, zi_l31, zi_l71, zi_l99, zi_lF, zi_neg, zi_add, zi_sub, zi_mul]; done) | (simp only [zi_l0, zi_l1, zi_l2, zi_l3, zi_l4, zi_l15, zi_l16, zi_l31, zi_l71, zi_l99, zi_lF, zi_neg, zi_add, zi_sub, zi_mul]; exact zi_c (by omega)) | exact zi_c (by omega)) ?_
      exact ih (r - 1) (by omega) (by omega) (by omega) (fun t t1 t2 => hE t t1 (by omega)) N (by omega)
theorem xw_slide (hc : xc_ok 15 n m x o e A B f_mismatch f_open f_extend a_lengths a_symbols) (w : Nat) (hw : w < 2) (k r r' : Int) (hk : -100 ≤ k ∧ k ≤ 100) (hr : r ≤ 99)
    (hs : (r = 99 ∧ r' = 99) ∨ (r ≠ 99 ∧ r ≤ n ∧ r + k ≤ m ∧ cw_SL (xc_G A B n m w) n m k r r'))
    (e0 : p0 = zi_o w) (e1 : p1 = zi_o k) (e2 : p2 = zi_o r) (h : post (zi_o r')) : wpX_slide post (f_room, f_levels, f_width, f_none, f_ahead, f_behind, f_capacity, f_mismatch, f_open, f_extend, f_runs, f_columnTotal, f_aligned, f_begin, f_end, f_best, f_heading, f_position, a_symbols, a_lengths, a_scratch, a_waves, a_runKinds, a_runSizes) p0 p1 p2 := by
  subst e0 e1 e2
  unfold wpX_slide
  rcases hs with ⟨z1, z2⟩ | ⟨z1, z2, z3, z4, z5, z6, z7⟩
  · refine zi_beq r 99 rfl zi_l99 (by omega) (fun _ => ?_) (fun z => absurd z1 z)
    rw [z2] at h; exact zi_p h zi_l99
  · refine zi_beq r 99 rfl zi_l99 (by omega) (fun z => absurd z z1) (fun _ => ?_)
    refine xw_top k (by omega) rfl ?_
    refine ⟨(r - r').toNat + 1, ?_⟩
    exact xw_slide19 hc w hw k r' hk z4 z7 h (r - r').toNat r (by omega) z2 z3 z6 _ (by omega)
end
end
section
/-! 09 the component grows a wavefront, and reads a cost from it -/
section
variable {f_room f_levels f_width f_none f_ahead f_behind f_capacity f_mismatch f_open f_extend f_runs f_columnTotal f_aligned f_begin f_end f_best f_heading f_position : Int32} {a_symbols a_lengths a_scratch a_waves a_runKinds a_runSizes : Nat → Int32} {n m x o e edge w : Nat} {A B : Nat → Int32}
theorem xw_growCell (hc : xc_ok 15 n m x o e A B f_mismatch f_open f_extend a_lengths a_symbols) (hw : w < 2) (hedge : edge ≤ 2) (s k : Int) (hs : 0 ≤ s ∧ s ≤ 70) (hk1 : -(n : Int) ≤ k) (hk2 : k ≤ m)
    (hW : xc_Wv (xc_G A B n m w) x o e edge n m w s k a_waves) :
    ∃ v0 v1 v2 : Int, cw_W (xc_G A B n m w) x o e (decide (edge = 1)) (decide (edge = 2)) n m 0 s k v0
      ∧ cw_W (xc_G A B n m w) x o e (decide (edge = 1)) (decide (edge = 2)) n m 1 s k v1
      ∧ cw_W (xc_G A B n m w) x o e (decide (edge = 1)) (decide (edge = 2)) n m 2 s k v2
      ∧ ∀ post : SX → Prop, post (f_room, f_levels, f_width, f_none, f_ahead, f_behind, f_capacity, f_mismatch, f_open, f_extend, f_runs, f_columnTotal, f_aligned, f_begin, f_end, f_best, f_heading, f_position, a_symbols, a_lengths, a_scratch, upd (upd (upd a_waves (xc_cell w 0 s k) (zi_o v0)) (xc_cell w 1 s k) (zi_o v1)) (xc_cell w 2 s k) (zi_o v2), a_runKinds, a_runSizes) → wpX_growCell post (f_room, f_levels, f_width, f_none, f_ahead, f_behind, f_capacity, f_mismatch, f_open, f_extend, f_runs, f_columnTotal, f_aligned, f_begin, f_end, f_best, f_heading, f_position, a_symbols, a_lengths, a_scratch, a_waves, a_runKinds, a_runSizes) (zi_o w) (zi_o edge) (zi_o s) (zi_o k) := by
  have hc' := hc
  obtain ⟨hn, hm, hx1, hx7, ho5, he1, he2, hmis, hop, hex, hl0, hl1, hA, hB⟩ := hc'
  obtain ⟨r1, w1, hr1⟩ := xw_reachW (K := k) (p0 := zi_o w) (p1 := 0) (p2 := zi_o s - f_mismatch) (p3 := zi_o k) hc w 0 (s - x) k hw (by omega) (by omega) (by omega) hW (by omega) rfl zi_l0 (by rw [hmis, zi_sub]) rfl
  obtain ⟨r2, w2, hr2⟩ := xw_reachW (K := k) (p0 := zi_o w) (p1 := 1) (p2 := zi_o (s - o - e)) (p3 := zi_o k + 1) hc w 1 (s - o - e) (k + 1) hw (by omega) (by omega) (by omega) hW (by omega) rfl zi_l1 rfl (by rw [zi_l1, zi_add])
  obtain ⟨r3, w3, hr3⟩ := xw_reachW (K := k) (p0 := zi_o w) (p1 := 2) (p2 := zi_o (s - o - e)) (p3 := zi_o k - 1) hc w 2 (s - o - e) (k - 1) hw (by omega) (by omega) (by omega) hW (by omega) rfl zi_l2 rfl (by rw [zi_l1, zi_sub])
  obtain ⟨r4, w4, hr4⟩ := xw_reachW (K := k) (p0 := zi_o w) (p1 := 1) (p2 := zi_o s - f_extend) (p3 := zi_o k + 1) hc w 1 (s - e) (k + 1) hw (by omega) (by omega) (by omega) hW (by omega) rfl zi_l1 (by rw [hex, zi_sub]) (by rw [zi_l1, zi_add])
  obtain ⟨r5, w5, hr5⟩ := xw_reachW (K := k) (p0 := zi_o w) (p1 := 2) (p2 := zi_o s - f_extend) (p3 := zi_o k - 1) hc w 2 (s - e) (k - 1) hw (by omega) (by omega) (by omega) hW (by omega) rfl zi_l2 (by rw [hex, zi_sub]) (by rw [zi_l1, zi_sub])
  have q1 := cw_W_r w1 hn
  have q2 := cw_W_r w2 hn
  have q3 := cw_W_r w3 hn
  have q4 := cw_W_r w4 hn
  have q5 := cw_W_r w5 hn
  have hP := cw_P0 hn hs.1 hk1 hk2 w1 w2 w3
  obtain ⟨p1, hp⟩ : ∃ p1, (cw_p0 e edge n m s k r1 r2 r3 = 99 ∧ p1 = 99) ∨ (cw_p0 e edge n m s k r1 r2 r3 ≠ 99 ∧ cw_SL (xc_G A B n m w) n m k (cw_p0 e edge n m s k r1 r2 r3) p1) := by
    rcases hP with z | ⟨⟨a1, a2, a3, a4⟩, _⟩
    · exact ⟨99, Or.inl ⟨z, rfl⟩⟩
    · obtain ⟨r', hr'⟩ := cw_SLex (G := xc_G A B n m w) (n := n) (m := m) (k := k) (r := cw_p0 e edge n m s k r1 r2 r3) (by omega)
      exact ⟨r', Or.inr ⟨by omega, hr'⟩⟩
  have W0 := cw_grow0 hn hs.1 hk1 hk2 w1 w2 w3 hp
  have W1 := cw_grow1 hn W0 w4
  have W2 := cw_grow2 hn W0 w5
  refine ⟨p1, min p1 (cw_bn n m k r4), min p1 (cw_bl n m k r5), W0, W1, W2, ?_⟩
  have b0 : -1 ≤ cw_sd e edge n m s k ∧ cw_sd e edge n m s k ≤ 99 := by
    unfold cw_sd
    split
    · omega
    · split
      · omega
      · split <;> omega
  have b1 : -1 ≤ cw_bm k r1 ∧ cw_bm k r1 ≤ 99 := by unfold cw_bm; split <;> omega
  have b2 : -1 ≤ cw_bn n m k r2 ∧ cw_bn n m k r2 ≤ 99 := by unfold cw_bn; split <;> omega
  have b3 : -1 ≤ cw_bl n m k r3 ∧ cw_bl n m k r3 ≤ 99 := by unfold cw_bl; split <;> omega
  have b4 : -1 ≤ cw_bn n m k r4 ∧ cw_bn n m k r4 ≤ 99 := by unfold cw_bn; split <;> omega
  have b5 : -1 ≤ cw_bl n m k r5 ∧ cw_bl n m k r5 ≤ 99 := by unfold cw_bl; split <;> omega
  have b6 := cw_W_r W0 hn
  have b7 : cw_p0 e edge n m s k r1 r2 r3 ≤ 99 := by unfold cw_p0; omega
  obtain ⟨i0, c0⟩ := zi_ix (x := zi_o (xc_cell w 0 s k : Nat)) (N := 13206) (xc_cell w 0 s k) rfl (xc_cell_lt hw (by omega) (by omega) (by omega)) (by omega)
  obtain ⟨i1, c1⟩ := zi_ix (x := zi_o (xc_cell w 1 s k : Nat)) (N := 13206) (xc_cell w 1 s k) rfl (xc_cell_lt hw (by omega) (by omega) (by omega)) (by omega)
  obtain ⟨i2, c2⟩ := zi_ix (x := zi_o (xc_cell w 2 s k : Nat)) (N := 13206) (xc_cell w 2 s k) rfl (xc_cell_lt hw (by omega) (by omega) (by omega)) (by omega)
  intro post h
  unfold wpX_growCell
  refine nm_r (e' := zi_o (s - o - e)) (by rw [hop, hex, zi_sub, zi_sub]) ?_
  refine xw_seed hc edge s k hedge (by omega) (by omega) rfl rfl rfl ?_
  refine xw_bm k r1 (by omega) q1 rfl hr1 ?_
  refine xw_lesser _ _ rfl rfl (by omega) (by omega) ?_
  refine xw_bn hc k r2 (by omega) q2 rfl hr2 ?_
  refine xw_lesser _ _ rfl rfl (by omega) (by omega) ?_
  refine xw_bl hc k r3 (by omega) q3 rfl hr3 ?_
  refine xw_lesser _ _ rfl rfl (by omega) (by omega) ?_
  refine xw_slide hc w hw k (cw_p0 e edge n m s k r1 r2 r3) p1 (by omega) b7 ?_ rfl rfl rfl ?_
  · rcases hp with z | ⟨z1, z2⟩
    · exact Or.inl z
    · rcases hP with y | ⟨⟨a1, a2, a3, a4⟩, _⟩
      · exact absurd y z1
      · exact Or.inr ⟨z1, a3, a4, z2⟩
  refine xw_bn hc k r4 (by omega) q4 rfl hr4 ?_
  refine xw_bl hc k r5 (by omega) q5 rfl hr5 ?_
  refine xw_cell w 0 s k hs.1 (by omega) rfl zi_l0 rfl rfl ?_
  refine ⟨i0, nm_r (e' := upd a_waves (xc_cell w 0 s k) (zi_o p1)) (by rw [c0]) ?_⟩
  refine xw_cell w 1 s k hs.1 (by omega) rfl zi_l1 rfl rfl ?_
  refine xw_lesser _ _ rfl rfl (by omega) (by omega) ?_
  refine ⟨i1, nm_r (e' := upd (upd a_waves (xc_cell w 0 s k) (zi_o p1)) (xc_cell w 1 s k) (zi_o (min p1 (cw_bn n m k r4)))) (by rw [c1]) ?_⟩
  refine xw_cell w 2 s k hs.1 (by omega) rfl zi_l2 rfl rfl ?_
  refine xw_lesser _ _ rfl rfl (by omega) (by omega) ?_
  refine ⟨i2, nm_r (e' := upd (upd (upd a_waves (xc_cell w 0 s k) (zi_o p1)) (xc_cell w 1 s k) (zi_o (min p1 (cw_bn n m k r4)))) (xc_cell w 2 s k) (zi_o (min p1 (cw_bl n m k r5)))) (by rw [c2]) ?_⟩
  exact h
/-- what the stores keep -/
def xc_fr (w : Nat) (wv wv' : Nat → Int32) : Prop := ∀ j, (j < w * 6603 ∨ (w + 1) * 6603 ≤ j) → wv' j = wv j
theorem xc_step {G : Nat → Nat → Bool} {s k v0 v1 v2 : Int} {wv : Nat → Int32} (hn : n ≤ 15) (hm : m ≤ 15) (hs : 0 ≤ s ∧ s ≤ 70) (hk1 : -(n : Int) ≤ k) (hk2 : k ≤ m)
    (hW : xc_Wv G x o e edge n m w s k wv)
    (W0 : cw_W G x o e (decide (edge = 1)) (decide (edge = 2)) n m 0 s k v0)
    (W1 : cw_W G x o e (decide (edge = 1)) (decide (edge = 2)) n m 1 s k v1)
    (W2 : cw_W G x o e (decide (edge = 1)) (decide (edge = 2)) n m 2 s k v2) :
    xc_Wv G x o e edge n m w s (k + 1) (upd (upd (upd wv (xc_cell w 0 s k) (zi_o v0)) (xc_cell w 1 s k) (zi_o v1)) (xc_cell w 2 s k) (zi_o v2)) := by
  intro L s' k' hL hs' hk1' hk2' hlt
  have hne : ∀ L', L' < 3 → ¬ (L = L' ∧ s' = s ∧ k' = k) → xc_cell w L s' k' ≠ xc_cell w L' s k := by
    intro L' hL' hno
    unfold xc_cell
    omega
  by_cases hsk : s' = s ∧ k' = k
  · obtain ⟨rfl, rfl⟩ := hsk
    have hL3 : L = 0 ∨ L = 1 ∨ L = 2 := by omega
    rcases hL3 with rfl | rfl | rfl
    · refine ⟨v0, ?_, W0⟩
      rw [zi_un (hne 2 (by omega) (by omega)), zi_un (hne 1 (by omega) (by omega)), zi_us rfl]
    · refine ⟨v1, ?_, W1⟩
      rw [zi_un (hne 2 (by omega) (by omega)), zi_us rfl]
    · refine ⟨v2, ?_, W2⟩
      rw [zi_us rfl]
  · obtain ⟨r, hr, hw'⟩ := hW L s' k' hL hs' hk1' hk2' (by omega)
    refine ⟨r, ?_, hw'⟩
    rw [zi_un (hne 2 (by omega) (by omega)), zi_un (hne 1 (by omega) (by omega)), zi_un (hne 0 (by omega) (by omega))]
    exact hr
theorem xc_frs {s k : Int} {z0 z1 z2 : Int32} {wv wv' : Nat → Int32} (hs : 0 ≤ s ∧ s ≤ 70) (hk : -15 ≤ k ∧ k ≤ 15) (h : xc_fr w wv wv') : xc_fr w wv (upd (upd (upd wv' (xc_cell w 0 s k) z0) (xc_cell w 1 s k) z1) (xc_cell w 2 s k) z2) := by
  intro j hj
  have hne : ∀ L, L < 3 → j ≠ xc_cell w L s k := by
    intro L hL
    unfold xc_cell
    omega
  rw [zi_un (hne 2 (by omega)), zi_un (hne 1 (by omega)), zi_un (hne 0 (by omega))]
  exact h j hj
theorem xw_grow23 (hc : xc_ok 15 n m x o e A B f_mismatch f_open f_extend a_lengths a_symbols) (hw : w < 2) (hedge : edge ≤ 2) {wv0 : Nat → Int32} {post : SX → Prop} {x3 : Int32} {J8 : Int32 → Int32 → Int32 → Int32 → Int32 → Int32 → Int32 → Int32 → Int32 → Int32 → Int32 → Int32 → Int32 → Int32 → Int32 → Int32 → Int32 → Int32 → Int32 → (Nat → Int32) → (Nat → Int32) → (Nat → Int32) → (Nat → Int32) → (Nat → Int32) → (Nat → Int32) → Prop}
    (s : Int) (hs : 0 ≤ s ∧ s ≤ 70)
    (hJ : ∀ wv', xc_Wv (xc_G A B n m w) x o e edge n m w (s + 1) (-(n : Int)) wv' → xc_fr w wv0 wv' → J8 (zi_o (s + 1)) f_room f_levels f_width f_none f_ahead f_behind f_capacity f_mismatch f_open f_extend f_runs f_columnTotal f_aligned f_begin f_end f_best f_heading f_position a_symbols a_lengths a_scratch wv' a_runKinds a_runSizes) :
    ∀ (d : Nat) (k : Int) (wv : Nat → Int32), k + d = (m : Int) + 1 → -(n : Int) ≤ k → xc_Wv (xc_G A B n m w) x o e edge n m w s k wv → xc_fr w wv0 wv → ∀ N, d < N →
      wX_grow_23 post J8 (zi_o w) (zi_o edge) x3 (zi_o s) N (zi_o k) f_room f_levels f_width f_none f_ahead f_behind f_capacity f_mismatch f_open f_extend f_runs f_columnTotal f_aligned f_begin f_end f_best f_heading f_position a_symbols a_lengths a_scratch wv a_runKinds a_runSizes := by
  have hn := hc.1
  have hm := hc.2.1
  have hl1 : a_lengths 1 = zi_o m := hc.2.2.2.2.2.2.2.2.2.2.2.1
  intro d
  induction d with
  | zero =>
    intro k wv hk hk1 hW hf N hN
    cases N with
    | zero => omega
    | succ N =>
      refine zi_blt (m : Int) k hl1 rfl (by omega) (fun z => ?_) (fun z => by omega)
      refine nm_r (e' := zi_o (s + 1)) (by first | (simp only [zi_l0, zi_l1, zi_l2, zi_l3, zi_l4, zi_l15, zi_l16, zi_l31, zi_l71, zi_l99, zi_lF, zi_neg, zi_add, zi_sub, zi_mul]; done) | (simp only [zi_l0, zi_l1, zi_l2, zi_l3, zi_l4, zi_l15, zi_l16, zi_l31, zi_l71, zi_l99, zi_lF, zi_neg, zi_add, zi_sub, zi_mul]; exact zi_c (by omega)) | exact zi_c (by omega)) ?_
      refine hJ wv ?_ hf
      intro L s' k' hL hs' hk1' hk2' hlt
      exact hW L s' k' hL hs' hk1' hk2' (by omega)
  | succ d ih =>
    intro k wv hk hk1 hW hf N hN
    cases N with
    | zero => omega
    | succ N =>
      refine zi_blt (m : Int) k hl1 rfl (by omega) (fun z => by omega) (fun z => ?_)
      obtain ⟨v0, v1, v2, W0, W1, W2, hg⟩ := xw_growCell (f_room := f_room) (f_levels := f_levels) (f_width := f_width) (f_none := f_none) (f_ahead := f_ahead) (f_behind := f_behind) (f_capacity := f_capacity) (f_runs := f_runs) (f_columnTotal := f_columnTotal) (f_aligned := f_aligned) (f_begin := f_begin) (f_end := f_end) (f_best := f_best) (f_heading := f_heading) (f_position := f_position) (a_scratch := a_scratch) (a_runKinds := a_runKinds) (a_runSizes := a_runSizes) hc hw hedge s k hs hk1 z hW
      refine hg _ ?_
      refine nm_r (e' := zi_o (k + 1)) (by first | (simp only [zi_l0, zi_l1, zi_l2, zi_l3, zi_l4, zi_l15, zi_l16, zi_l31, zi_l71, zi_l99, zi_lF, zi_neg, zi_add, zi_sub, zi_mul]; done) | (simp only [zi_l0, zi_l1, zi_l2, zi_l3, zi_l4, zi_l15, zi_l16, zi_l31, zi_l71, zi_l99, zi_lF, zi_neg, zi_add, zi_sub, zi_mul]; exact zi_c (by omega)) | exact zi_c (by omega)) ?_
      exact ih (k + 1) _ (by omega) (by omega) (xc_step hn hm hs hk1 z hW W0 W1 W2) (xc_frs hs (by omega) hf) N (by omega)
theorem xw_grow8 (hc : xc_ok 15 n m x o e A B f_mismatch f_open f_extend a_lengths a_symbols) (hw : w < 2) (hedge : edge ≤ 2) {wv0 : Nat → Int32} {post : SX → Prop} (cg : Nat) (hcg : cg ≤ 70)
    (h : ∀ wv', xc_Wv (xc_G A B n m w) x o e edge n m w (cg + 1) (-(n : Int)) wv' → xc_fr w wv0 wv' → post (f_room, f_levels, f_width, f_none, f_ahead, f_behind, f_capacity, f_mismatch, f_open, f_extend, f_runs, f_columnTotal, f_aligned, f_begin, f_end, f_best, f_heading, f_position, a_symbols, a_lengths, a_scratch, wv', a_runKinds, a_runSizes)) :
    ∀ (d : Nat) (s : Int) (wv : Nat → Int32), s + d = (cg : Int) + 1 → 0 ≤ s → xc_Wv (xc_G A B n m w) x o e edge n m w s (-(n : Int)) wv → xc_fr w wv0 wv → ∀ N, d < N →
      wX_grow_8 post (zi_o w) (zi_o edge) (zi_o cg) N (zi_o s) f_room f_levels f_width f_none f_ahead f_behind f_capacity f_mismatch f_open f_extend f_runs f_columnTotal f_aligned f_begin f_end f_best f_heading f_position a_symbols a_lengths a_scratch wv a_runKinds a_runSizes := by
  have hn := hc.1
  have hm := hc.2.1
  have hl0 : a_lengths 0 = zi_o n := hc.2.2.2.2.2.2.2.2.2.2.1
  intro d
  induction d with
  | zero =>
    intro s wv hs hs0 hW hf N hN
    cases N with
    | zero => omega
    | succ N =>
      refine zi_blt (cg : Int) s rfl rfl (by omega) (fun z => ?_) (fun z => by omega)
      refine h wv ?_ hf
      rw [← show s = (cg : Int) + 1 by omega]; exact hW
  | succ d ih =>
    intro s wv hs hs0 hW hf N hN
    cases N with
    | zero => omega
    | succ N =>
      refine zi_blt (cg : Int) s rfl rfl (by omega) (fun z => by omega) (fun z => ?_)
      refine nm_r (e' := zi_o (-(n : Int))) (by rw [hl0, zi_neg]) ?_
      refine ⟨n + m + 2, ?_⟩
      refine xw_grow23 (edge := edge) (wv0 := wv0) hc hw hedge s (by omega) (fun wv' h1 h2 => ?_) (n + m + 1) (-(n : Int)) wv (by omega) (by omega) hW hf _ (by omega)
      exact ih (s + 1) wv' (by omega) (by omega) h1 h2 N (by omega)
theorem xc_ceil (ho : o ≤ 5) (he1 : 1 ≤ e) (he2 : e ≤ 2) (hn : n ≤ 15) (hm : m ≤ 15) : 2 * o + e * (n + m) ≤ 70 := by
  have he : e = 1 ∨ e = 2 := by omega
  rcases he with rfl | rfl <;> omega
theorem xw_ceil (hc : xc_ok 15 n m x o e A B f_mismatch f_open f_extend a_lengths a_symbols) {post : Int32 → Prop} (h : post (zi_o ((2 * o + e * (n + m) : Nat) : Int))) : wpX_ceiling post (f_room, f_levels, f_width, f_none, f_ahead, f_behind, f_capacity, f_mismatch, f_open, f_extend, f_runs, f_columnTotal, f_aligned, f_begin, f_end, f_best, f_heading, f_position, a_symbols, a_lengths, a_scratch, a_waves, a_runKinds, a_runSizes) := by
  obtain ⟨hn, hm, hx1, hx7, ho5, he1, he2, hmis, hop, hex, hl0, hl1, hA, hB⟩ := hc
  refine zi_p h ?_
  rw [hop, hex, hl0, hl1, zi_l2, zi_add, zi_mul, zi_mul, zi_add]
  refine zi_c ?_
  rw [Int.natCast_add, Int.natCast_mul, Int.natCast_mul, Int.natCast_add]
  rfl
theorem xw_grow (hc : xc_ok 15 n m x o e A B f_mismatch f_open f_extend a_lengths a_symbols) (hw : w < 2) (hedge : edge ≤ 2) {post : SX → Prop} {p0 p1 : Int32} (e0 : p0 = zi_o w) (e1 : p1 = zi_o edge)
    (h : ∀ wv', xc_Wv (xc_G A B n m w) x o e edge n m w ((2 * o + e * (n + m) : Nat) + 1) (-(n : Int)) wv' → xc_fr w a_waves wv' → post (f_room, f_levels, f_width, f_none, f_ahead, f_behind, f_capacity, f_mismatch, f_open, f_extend, f_runs, f_columnTotal, f_aligned, f_begin, f_end, f_best, f_heading, f_position, a_symbols, a_lengths, a_scratch, wv', a_runKinds, a_runSizes)) : wpX_grow post (f_room, f_levels, f_width, f_none, f_ahead, f_behind, f_capacity, f_mismatch, f_open, f_extend, f_runs, f_columnTotal, f_aligned, f_begin, f_end, f_best, f_heading, f_position, a_symbols, a_lengths, a_scratch, a_waves, a_runKinds, a_runSizes) p0 p1 := by
  subst e0 e1
  have hcg := xc_ceil hc.2.2.2.2.1 hc.2.2.2.2.2.1 hc.2.2.2.2.2.2.1 hc.1 hc.2.1
  unfold wpX_grow
  refine xw_ceil hc ?_
  refine ⟨2 * o + e * (n + m) + 2, ?_⟩
  have := xw_grow8 (f_room := f_room) (f_levels := f_levels) (f_width := f_width) (f_none := f_none) (f_ahead := f_ahead) (f_behind := f_behind) (f_capacity := f_capacity) (f_runs := f_runs) (f_columnTotal := f_columnTotal) (f_aligned := f_aligned) (f_begin := f_begin) (f_end := f_end) (f_best := f_best) (f_heading := f_heading) (f_position := f_position) (a_scratch := a_scratch) (a_runKinds := a_runKinds) (a_runSizes := a_runSizes) hc hw hedge (wv0 := a_waves) (2 * o + e * (n + m)) hcg h (2 * o + e * (n + m) + 1) 0 a_waves (by omega) (by omega) (by intro L s k _ _ _ _ hlt; omega) (fun j _ => rfl) (2 * o + e * (n + m) + 2) (by omega)
  exact this
end
end
section
/-! 10 the component's binary search over the scores -/
section
variable {f_room f_levels f_width f_none f_ahead f_behind f_capacity f_mismatch f_open f_extend f_runs f_columnTotal f_aligned f_begin f_end f_best f_heading f_position : Int32} {a_symbols a_lengths a_scratch a_waves a_runKinds a_runSizes : Nat → Int32} {n m x o e edge w : Nat} {A B : Nat → Int32} {post : Int32 → Prop}
theorem xw_cost0 {x1 x2 x5 x6 x7 y8 y9 : Int32} (b : Int) (e8 : y8 = zi_o b) (e9 : y9 = 0) (h : post (zi_o (b + 1))) (N : Nat) : wX_cost_46 post x1 x2 x5 x6 x7 f_room f_levels f_width f_none f_ahead f_behind f_capacity f_mismatch f_open f_extend f_runs f_columnTotal f_aligned f_begin f_end f_best f_heading f_position a_symbols a_lengths a_scratch a_waves a_runKinds a_runSizes (N + 1) y8 y9 := by
  subst e8 e9
  refine br_t (by decide) ?_
  exact zi_p h (by rw [zi_l1, zi_add])
theorem xw_cost46 (hc : xc_ok 15 n m x o e A B f_mismatch f_open f_extend a_lengths a_symbols) (hw : w < 2) (L : Nat) (hL : L < 3) (row col : Int) (hrow : 0 ≤ row ∧ row ≤ n) (hcol : 0 ≤ col ∧ col ≤ m)
    (hW : xc_Wv (xc_G A B n m w) x o e edge n m w ((2 * o + e * (n + m) : Nat) + 1) (-(n : Int)) a_waves) (d : Int)
    (hd : d = cw_D (xc_G A B n m w) x o e (decide (edge = 1)) (decide (edge = 2)) n m L row (col - row)) (hdc : d ≤ (2 * o + e * (n + m) : Nat)) (h : post (zi_o d)) :
    ∀ (t : Nat) (b : Int), t ≤ 6 → -1 ≤ b → b < d → d ≤ b + ((2 ^ (t + 1) : Nat) : Int) → b ≤ 70 → ∀ N, t + 1 < N → ∀ y9, y9 = zi_o ((2 ^ t : Nat) : Int) →
      wX_cost_46 post (zi_o w) (zi_o L) (zi_o row) (zi_o col) (zi_o ((2 * o + e * (n + m) : Nat) : Int)) f_room f_levels f_width f_none f_ahead f_behind f_capacity f_mismatch f_open f_extend f_runs f_columnTotal f_aligned f_begin f_end f_best f_heading f_position a_symbols a_lengths a_scratch a_waves a_runKinds a_runSizes N (zi_o b) y9 := by
  have hcg := xc_ceil hc.2.2.2.2.1 hc.2.2.2.2.2.1 hc.2.2.2.2.2.2.1 hc.1 hc.2.1
  have hn := hc.1
  have hm := hc.2.1
  generalize hG : 2 * o + e * (n + m) = cg at *
  intro t
  induction t with
  | zero =>
    intro b _ hb1 hb2 hb3 hb7 N hN y9 e9
    cases N with
    | zero => omega
    | succ N =>
      cases N with
      | zero => omega
      | succ N =>
        have e9' : y9 = zi_o 1 := e9
        subst e9'
        have hsh : zi_o 1 >>> ((1 : Int32) &&& 31) = 0 := by decide
        have hb3' : d ≤ b + 2 := hb3
        refine zi_ble 1 0 rfl zi_l0 (by omega) (fun z => by omega) (fun _ => ?_)
        refine nm_r (e' := zi_o (b + 1)) (by rw [zi_add]) ?_
        refine zi_ble (cg : Int) (b + 1) rfl rfl (by omega) (fun z => ?_) (fun z => ?_)
        · refine nm_r hsh ?_
          exact xw_cost0 b rfl rfl (by rw [show b + 1 = d by omega]; exact h) N
        · obtain ⟨r, hr1, hr2⟩ := xw_reachW (p0 := zi_o w) (p1 := zi_o L) (p2 := zi_o (b + 1)) (p3 := zi_o col - zi_o row) hc w L (b + 1) (col - row) hw hL (by omega) (by omega) hW (by omega) rfl rfl rfl (by rw [zi_sub])
          have hle := cw_W_le hn hr1 (i := row) ⟨hrow.1, by omega, hrow.2, by omega⟩
          rw [← hd] at hle
          have hr0 := cw_W_r hr1 hn
          refine hr2 _ ?_
          refine zi_ble r row rfl rfl (by omega) (fun z2 => ?_) (fun z2 => ?_)
          · refine nm_r hsh ?_
            exact xw_cost0 b rfl rfl (by rw [show b + 1 = d by omega]; exact h) N
          · refine nm_r hsh ?_
            exact xw_cost0 (b + 1) rfl rfl (by rw [show b + 1 + 1 = d by omega]; exact h) N
  | succ t ih =>
    intro b ht hb1 hb2 hb3 hb7 N hN y9 e9
    cases N with
    | zero => omega
    | succ N =>
      subst e9
      have hpow : (2 : Nat) ^ (t + 1) ≤ 64 := Nat.pow_le_pow_right (n := 2) (by decide) (show t + 1 ≤ 6 by omega)
      have hpos : 0 < (2 : Nat) ^ (t + 1) := Nat.two_pow_pos _
      have hdbl : (2 : Nat) ^ (t + 1 + 1) = 2 * 2 ^ (t + 1) := by rw [Nat.pow_succ 2 (t + 1)]; omega
      rw [hdbl] at hb3
      have hsh : zi_o ((2 ^ (t + 1) : Nat) : Int) >>> ((1 : Int32) &&& 31) = zi_o ((2 ^ t : Nat) : Int) := by
        rw [zi_shr (by omega), Nat.pow_succ, Nat.mul_div_cancel _ (by decide)]
      generalize hP : (2 : Nat) ^ (t + 1) = P at *
      refine zi_ble (P : Int) 0 rfl zi_l0 (by omega) (fun z => by omega) (fun _ => ?_)
      refine nm_r (e' := zi_o (b + P)) (by rw [zi_add]) ?_
      refine zi_ble (cg : Int) (b + P) rfl rfl (by omega) (fun z => ?_) (fun z => ?_)
      · refine nm_r hsh ?_
        exact ih b (by omega) hb1 hb2 (by omega) hb7 N (by omega) _ rfl
      · obtain ⟨r, hr1, hr2⟩ := xw_reachW (p0 := zi_o w) (p1 := zi_o L) (p2 := zi_o (b + P)) (p3 := zi_o col - zi_o row) hc w L (b + P) (col - row) hw hL (by omega) (by omega) hW (by omega) rfl rfl rfl (by rw [zi_sub])
        have hle := cw_W_le hn hr1 (i := row) ⟨hrow.1, by omega, hrow.2, by omega⟩
        rw [← hd] at hle
        have hr0 := cw_W_r hr1 hn
        refine hr2 _ ?_
        refine zi_ble r row rfl rfl (by omega) (fun z2 => ?_) (fun z2 => ?_)
        · refine nm_r hsh ?_
          exact ih b (by omega) hb1 hb2 (by omega) hb7 N (by omega) _ rfl
        · refine nm_r hsh ?_
          exact ih (b + P) (by omega) (by omega) (by omega) (by omega) (by omega) N (by omega) _ rfl
theorem xw_cost33 (hc : xc_ok 15 n m x o e A B f_mismatch f_open f_extend a_lengths a_symbols) (hw : w < 2) (L : Nat) (hL : L < 3) (row col : Int) (hrow : 0 ≤ row ∧ row ≤ n) (hcol : 0 ≤ col ∧ col ≤ m)
    (hW : xc_Wv (xc_G A B n m w) x o e edge n m w ((2 * o + e * (n + m) : Nat) + 1) (-(n : Int)) a_waves) {x1 x2 x5 x6 : Int32} (e1 : x1 = zi_o w) (e2 : x2 = zi_o L) (e5 : x5 = zi_o row) (e6 : x6 = zi_o col)
    (h : post (zi_o (cw_D (xc_G A B n m w) x o e (decide (edge = 1)) (decide (edge = 2)) n m L row (col - row)))) : wX_cost_33 post x1 x2 x5 x6 f_room f_levels f_width f_none f_ahead f_behind f_capacity f_mismatch f_open f_extend f_runs f_columnTotal f_aligned f_begin f_end f_best f_heading f_position a_symbols a_lengths a_scratch a_waves a_runKinds a_runSizes := by
  subst e1 e2 e5 e6
  have hcg := xc_ceil hc.2.2.2.2.1 hc.2.2.2.2.2.1 hc.2.2.2.2.2.2.1 hc.1 hc.2.1
  have hd0 := cw_D0 (G := xc_G A B n m w) (x := x) (o := o) (e := e) (bi := decide (edge = 1)) (bd := decide (edge = 2)) (n := n) (m := m) (L := L) (i := row) (k := col - row)
  have hdc : cw_D (xc_G A B n m w) x o e (decide (edge = 1)) (decide (edge = 2)) n m L row (col - row) ≤ (2 * o + e * (n + m) : Nat) := by
    have h1 := cw_b (G := xc_G A B n m w) (x := x) (o := o) (e := e) (bi := decide (edge = 1)) (bd := decide (edge = 2)) (base := cw_z) (K := 0) cw_z0 L ((n : Int) - row).toNat ((m : Int) - row - (col - row)).toNat
    have h2 : e * (((n : Int) - row).toNat + ((m : Int) - row - (col - row)).toNat) ≤ e * (n + m) := Nat.mul_le_mul_left e (by omega)
    refine Int.ofNat_le.mpr ?_
    omega
  unfold wX_cost_33
  refine xw_ceil hc ?_
  refine ⟨8, ?_⟩
  exact xw_cost46 hc hw L hL row col hrow hcol hW _ rfl hdc h 6 (-1) (by omega) (by omega) (by omega) (by rw [show ((2 ^ (6 + 1) : Nat) : Int) = 128 from rfl]; omega) (by omega) 8 (by omega) 64 (by decide)
/-- the cost ahead of a point, and behind it -/
theorem xw_ahead (hc : xc_ok 15 n m x o e A B f_mismatch f_open f_extend a_lengths a_symbols) (f : Nat)
    (hW : xc_Wv (xc_G A B n m 0) x o e f n m 0 ((2 * o + e * (n + m) : Nat) + 1) (-(n : Int)) a_waves) (L : Nat) (hL : L < 3) (i j p q : Nat) (hi : i + p = n) (hj : j + q = m)
    {p0 p1 p2 p3 : Int32} (e0 : p0 = 0) (e1 : p1 = zi_o L) (e2 : p2 = zi_o i) (e3 : p3 = zi_o j)
    (h : post (zi_o (th_F A B x o e f n m L p q : Nat))) : wpX_cost post (f_room, f_levels, f_width, f_none, f_ahead, f_behind, f_capacity, f_mismatch, f_open, f_extend, f_runs, f_columnTotal, f_aligned, f_begin, f_end, f_best, f_heading, f_position, a_symbols, a_lengths, a_scratch, a_waves, a_runKinds, a_runSizes) p0 p1 p2 p3 := by
  have hn := hc.1
  have hm := hc.2.1
  unfold wpX_cost
  refine br_f (by rw [e0]; decide) ?_
  refine xw_cost33 hc (w := 0) (by omega) L hL i j (by omega) (by omega) hW (e0.trans zi_l0) e1 e2 e3 ?_
  rw [cw_Dpq p q (by omega) (by omega)]
  exact h
theorem xw_behind (hc : xc_ok 15 n m x o e A B f_mismatch f_open f_extend a_lengths a_symbols) (b : Nat)
    (hW : xc_Wv (xc_G A B n m 1) x o e b n m 1 ((2 * o + e * (n + m) : Nat) + 1) (-(n : Int)) a_waves) (L : Nat) (hL : L < 3) (i j : Nat) (hi : i ≤ n) (hj : j ≤ m)
    {p0 p1 p2 p3 : Int32} (e0 : p0 = 1) (e1 : p1 = zi_o L) (e2 : p2 = zi_o i) (e3 : p3 = zi_o j)
    (h : post (zi_o (th_B A B x o e b L i j : Nat))) : wpX_cost post (f_room, f_levels, f_width, f_none, f_ahead, f_behind, f_capacity, f_mismatch, f_open, f_extend, f_runs, f_columnTotal, f_aligned, f_begin, f_end, f_best, f_heading, f_position, a_symbols, a_lengths, a_scratch, a_waves, a_runKinds, a_runSizes) p0 p1 p2 p3 := by
  have hn := hc.1
  have hm := hc.2.1
  have hl0 : a_lengths 0 = zi_o n := hc.2.2.2.2.2.2.2.2.2.2.1
  have hl1 : a_lengths 1 = zi_o m := hc.2.2.2.2.2.2.2.2.2.2.2.1
  unfold wpX_cost
  refine br_t e0 ?_
  refine nm_r (e' := zi_o ((n : Int) - i)) (by rw [hl0, e2, zi_sub]) ?_
  refine nm_r (e' := zi_o ((m : Int) - j)) (by rw [hl1, e3, zi_sub]) ?_
  refine xw_cost33 hc (w := 1) (by omega) L hL ((n : Int) - i) ((m : Int) - j) (by omega) (by omega) hW (e0.trans zi_l1) e1 rfl rfl ?_
  rw [cw_Dpq i j (by omega) (by omega)]
  exact h
end
end
section
/-! 11 the component's transcript -/
/-- the runs of the first c columns, as the component keeps them -/
def xr_ok (ks : Nat → Nat) (c R : Nat) (rs : Nat → Nat) (rk rz : Nat → Int32) : Prop :=
  rn_R ks c R rs ∧ (∀ r, r < R → rk r = zi_o (ks (rs r)) ∧ rz r = zi_o ((rs (r + 1) : Int) - (rs r : Int)))
section
variable {f_room f_levels f_width f_none f_ahead f_behind f_capacity f_mismatch f_open f_extend f_runs f_columnTotal f_aligned f_begin f_end f_best f_heading f_position : Int32} {a_symbols a_lengths a_scratch a_waves a_runKinds a_runSizes : Nat → Int32} {n m x o e b f : Nat} {A B : Nat → Int32} {post : Int32 → Prop}
theorem xw_open37 (hc : xc_ok 15 n m x o e A B f_mismatch f_open f_extend a_lengths a_symbols) (hf : f ≤ 2) (hend : f_end = zi_o f) (ly at_ side len : Nat) (hside : side < 2) (hlen : a_lengths side = zi_o len) (hly : ly ≤ 2) (hat : at_ ≤ 15) (hl15 : len ≤ 15)
    {x1 x4 x5 : Int32} (e1 : x1 = zi_o ly) (e4 : x4 = zi_o at_) (e5 : x5 = zi_o side) (h : post (zi_o ((if at_ = len ∧ f = ly then 0 else o : Nat) : Int))) : wX_opening_37 post x1 x4 x5 f_room f_levels f_width f_none f_ahead f_behind f_capacity f_mismatch f_open f_extend f_runs f_columnTotal f_aligned f_begin f_end f_best f_heading f_position a_symbols a_lengths a_scratch a_waves a_runKinds a_runSizes := by
  obtain ⟨hn, hm, hx1, hx7, ho5, he1, he2, hmis, hop, hex, hl0, hl1, hA, hB⟩ := hc
  obtain ⟨i5, c5⟩ := zi_ix (x := x5) (N := 2) side e5 hside (by omega)
  unfold wX_opening_37
  rw [c5]
  refine ⟨i5, ?_⟩
  refine zi_beq (at_ : Int) len e4 hlen (by omega) (fun z => ?_) (fun z => ?_)
  · refine zi_beq (f : Int) ly hend e1 (by omega) (fun z2 => ?_) (fun z2 => ?_)
    · rw [if_pos ⟨by omega, by omega⟩] at h
      exact br_f (by decide) (zi_p (post := post) h zi_l0)
    · rw [if_neg (by intro y; omega)] at h
      exact br_t rfl (zi_p (post := post) h hop)
  · rw [if_neg (by intro y; omega)] at h
    exact br_t rfl (zi_p (post := post) h hop)
theorem xw_open22 (hc : xc_ok 15 n m x o e A B f_mismatch f_open f_extend a_lengths a_symbols) (hb : b ≤ 2) (hf : f ≤ 2) (hbeg : f_begin = zi_o b) (hend : f_end = zi_o f) (ly at_ side len : Nat) (hside : side < 2) (hlen : a_lengths side = zi_o len) (hly : ly ≤ 2) (hat : at_ ≤ 15) (hl15 : len ≤ 15)
    {x1 x4 z0 : Int32} (e1 : x1 = zi_o ly) (e4 : x4 = zi_o at_) (e5 : z0 = zi_o side) (h : post (zi_o ((if (at_ = 0 ∧ b = ly) ∨ (at_ = len ∧ f = ly) then 0 else o : Nat) : Int))) : wX_opening_22 post x1 x4 z0 f_room f_levels f_width f_none f_ahead f_behind f_capacity f_mismatch f_open f_extend f_runs f_columnTotal f_aligned f_begin f_end f_best f_heading f_position a_symbols a_lengths a_scratch a_waves a_runKinds a_runSizes := by
  have h37 : ¬ (at_ = 0 ∧ b = ly) → wX_opening_37 post x1 x4 z0 f_room f_levels f_width f_none f_ahead f_behind f_capacity f_mismatch f_open f_extend f_runs f_columnTotal f_aligned f_begin f_end f_best f_heading f_position a_symbols a_lengths a_scratch a_waves a_runKinds a_runSizes := by
    intro hno
    refine xw_open37 hc hf hend ly at_ side len hside hlen hly hat hl15 e1 e4 e5 ?_
    by_cases hz : at_ = len ∧ f = ly
    · rw [if_pos hz]; rw [if_pos (Or.inr hz)] at h; exact h
    · rw [if_neg hz]; rw [if_neg (by intro y; rcases y with y | y; exact hno y; exact hz y)] at h; exact h
  refine zi_beq (at_ : Int) 0 e4 zi_l0 (by omega) (fun z => ?_) (fun z => h37 (by intro y; omega))
  refine zi_beq (b : Int) ly hbeg e1 (by omega) (fun z2 => ?_) (fun z2 => h37 (by intro y; omega))
  rw [if_pos (Or.inl ⟨by omega, by omega⟩)] at h
  exact br_f (by decide) (zi_p (post := post) h zi_l0)
theorem xw_open1 (hc : xc_ok 15 n m x o e A B f_mismatch f_open f_extend a_lengths a_symbols) (hb : b ≤ 2) (hf : f ≤ 2) (hbeg : f_begin = zi_o b) (hend : f_end = zi_o f) (i : Nat) (hi : i ≤ n) {p0 p1 p2 : Int32} (e0 : p0 = zi_o 1) (e1 : p1 = zi_o i)
    (h : post (zi_o (th_o1 o b f n i : Nat))) : wpX_opening post (f_room, f_levels, f_width, f_none, f_ahead, f_behind, f_capacity, f_mismatch, f_open, f_extend, f_runs, f_columnTotal, f_aligned, f_begin, f_end, f_best, f_heading, f_position, a_symbols, a_lengths, a_scratch, a_waves, a_runKinds, a_runSizes) p0 p1 p2 := by
  have hn := hc.1
  have hl0 : a_lengths 0 = zi_o n := hc.2.2.2.2.2.2.2.2.2.2.1
  have h1 : p0 = 1 := e0.trans zi_l1.symm
  unfold wpX_opening
  refine br_t h1 ?_
  refine br_t h1 ?_
  exact xw_open22 hc hb hf hbeg hend 1 i 0 n (by omega) hl0 (by omega) (by omega) (by omega) e0 e1 zi_l0 h
theorem xw_open2 (hc : xc_ok 15 n m x o e A B f_mismatch f_open f_extend a_lengths a_symbols) (hb : b ≤ 2) (hf : f ≤ 2) (hbeg : f_begin = zi_o b) (hend : f_end = zi_o f) (j : Nat) (hj : j ≤ m) {p0 p1 p2 : Int32} (e0 : p0 = zi_o 2) (e2 : p2 = zi_o j)
    (h : post (zi_o (th_o2 o b f m j : Nat))) : wpX_opening post (f_room, f_levels, f_width, f_none, f_ahead, f_behind, f_capacity, f_mismatch, f_open, f_extend, f_runs, f_columnTotal, f_aligned, f_begin, f_end, f_best, f_heading, f_position, a_symbols, a_lengths, a_scratch, a_waves, a_runKinds, a_runSizes) p0 p1 p2 := by
  have hm := hc.2.1
  have hl1 : a_lengths 1 = zi_o m := hc.2.2.2.2.2.2.2.2.2.2.2.1
  have h1 : ¬ p0 = 1 := by rw [e0]; decide
  unfold wpX_opening
  refine br_f h1 ?_
  refine br_f h1 ?_
  exact xw_open22 hc hb hf hbeg hend 2 j 1 m (by omega) hl1 (by omega) (by omega) (by omega) e0 e2 zi_l1 h
/-- may a column of that kind stand there -/
def xc_fit (A B : Nat → Int32) (n m kind p q : Nat) : Prop :=
  if kind = 2 then 0 < q else 0 < p ∧ 0 < q ∧ (th_gf A B n m (p - 1) (q - 1) = true ↔ kind = 0)
theorem xw_fits (hc : xc_ok 15 n m x o e A B f_mismatch f_open f_extend a_lengths a_symbols) (kind : Nat) (hk : kind < 3) (i j p q : Nat) (hi : i + p = n) (hj : j + q = m) {p0 p1 p2 : Int32} (e0 : p0 = zi_o kind) (e1 : p1 = zi_o i) (e2 : p2 = zi_o j)
    (h1 : xc_fit A B n m kind p q → post 1) (h0 : ¬ xc_fit A B n m kind p q → post 0) : wpX_fits post (f_room, f_levels, f_width, f_none, f_ahead, f_behind, f_capacity, f_mismatch, f_open, f_extend, f_runs, f_columnTotal, f_aligned, f_begin, f_end, f_best, f_heading, f_position, a_symbols, a_lengths, a_scratch, a_waves, a_runKinds, a_runSizes) p0 p1 p2 := by
  have hc' := hc
  obtain ⟨hn, hm, hx1, hx7, ho5, he1, he2, hmis, hop, hex, hl0, hl1, hA, hB⟩ := hc'
  unfold xc_fit at h1 h0
  unfold wpX_fits
  refine zi_beq (kind : Int) 2 e0 zi_l2 (by omega) (fun z => ?_) (fun z => ?_)
  · rw [if_pos (by omega)] at h1 h0
    exact zi_ble (m : Int) j hl1 e2 (by omega) (fun z2 => h0 (by omega)) (fun z2 => h1 (by omega))
  · rw [if_neg (by omega)] at h1 h0
    refine zi_beq (kind : Int) 3 e0 zi_l3 (by omega) (fun z2 => by omega) (fun z2 => ?_)
    refine zi_ble (n : Int) i hl0 e1 (by omega) (fun z3 => h0 (by intro y; omega)) (fun z3 => ?_)
    refine zi_blt (j : Int) m e2 hl1 (by omega) (fun z4 => ?_) (fun z4 => h0 (by intro y; omega))
    have hE : cw_E (xc_G A B n m 0) n m i j ↔ th_gf A B n m (p - 1) (q - 1) = true := cw_Epq (p - 1) (q - 1) (by omega) (by omega)
    refine xw_eq hc 0 i j (by omega) (by omega) (by omega) zi_l0 e1 e2 (fun y => ?_) (fun y => ?_)
    · refine zi_beq (kind : Int) 0 e0 zi_l0 (by omega) (fun z5 => ?_) (fun z5 => ?_)
      · exact br_t rfl (h1 ⟨by omega, by omega, ⟨fun _ => by omega, fun _ => hE.mp y⟩⟩)
      · exact br_f (by decide) (h0 (fun w => z5 (by have := w.2.2.mp (hE.mp y); omega)))
    · refine zi_beq (kind : Int) 0 e0 zi_l0 (by omega) (fun z5 => ?_) (fun z5 => ?_)
      · exact br_f (by decide) (h0 (fun w => y (hE.mpr (w.2.2.mpr (by omega)))))
      · exact br_t rfl (h1 ⟨by omega, by omega, ⟨fun w => absurd (hE.mpr w) y, fun w => by omega⟩⟩)
theorem xw_layer (kind : Nat) (hk : kind ≤ 4) {p0 : Int32} (e0 : p0 = zi_o kind) (h : post (zi_o (tp_lay kind : Nat))) : wpX_layerAfter post (f_room, f_levels, f_width, f_none, f_ahead, f_behind, f_capacity, f_mismatch, f_open, f_extend, f_runs, f_columnTotal, f_aligned, f_begin, f_end, f_best, f_heading, f_position, a_symbols, a_lengths, a_scratch, a_waves, a_runKinds, a_runSizes) p0 := by
  unfold tp_lay at h
  refine zi_ble 2 (kind : Int) zi_l2 e0 (by omega) (fun z => ?_) (fun z => ?_)
  · rw [if_neg (by omega)] at h
    exact zi_p (post := post) h (by rw [e0, zi_l1, zi_sub]; exact zi_c (by omega))
  · rw [if_pos (by omega)] at h
    exact zi_p (post := post) h zi_l0
theorem xw_charge (hc : xc_ok 15 n m x o e A B f_mismatch f_open f_extend a_lengths a_symbols) (kind : Nat) (hk : kind ≤ 4) {p0 : Int32} (e0 : p0 = zi_o kind) (h : post (zi_o (rn_cc x e kind : Nat))) : wpX_columnCharge post (f_room, f_levels, f_width, f_none, f_ahead, f_behind, f_capacity, f_mismatch, f_open, f_extend, f_runs, f_columnTotal, f_aligned, f_begin, f_end, f_best, f_heading, f_position, a_symbols, a_lengths, a_scratch, a_waves, a_runKinds, a_runSizes) p0 := by
  obtain ⟨hn, hm, hx1, hx7, ho5, he1, he2, hmis, hop, hex, hl0, hl1, hA, hB⟩ := hc
  unfold rn_cc at h
  refine zi_beq (kind : Int) 0 e0 zi_l0 (by omega) (fun z => ?_) (fun z => ?_)
  · rw [if_pos (by omega)] at h
    exact zi_p (post := post) h zi_l0
  · rw [if_neg (by omega)] at h
    refine zi_beq (kind : Int) 1 e0 zi_l1 (by omega) (fun z2 => ?_) (fun z2 => ?_)
    · rw [if_pos (by omega)] at h
      exact zi_p (post := post) h hmis
    · rw [if_neg (by omega)] at h
      exact zi_p (post := post) h hex
/-- the cost by way of a kind that fits -/
theorem xw_via39 (hc : xc_ok 15 n m x o e A B f_mismatch f_open f_extend a_lengths a_symbols)
    (hW : xc_Wv (xc_G A B n m 0) x o e f n m 0 ((2 * o + e * (n + m) : Nat) + 1) (-(n : Int)) a_waves) (kind : Nat) (hk : kind < 4) (i j p q L : Nat) (hL : L < 3) (ch : Nat) (hi : (if kind = 2 then i else i + 1) + p = n) (hj : (if kind = 3 then j else j + 1) + q = m)
    {x1 x3 x4 x5 x6 : Int32} (e1 : x1 = zi_o kind) (e3 : x3 = zi_o i) (e4 : x4 = zi_o j) (e5 : x5 = zi_o L) (e6 : x6 = zi_o ch)
    (h : post (zi_o ((ch + th_F A B x o e f n m L p q : Nat) : Int))) : wX_costVia_39 post x1 x3 x4 x5 x6 f_room f_levels f_width f_none f_ahead f_behind f_capacity f_mismatch f_open f_extend f_runs f_columnTotal f_aligned f_begin f_end f_best f_heading f_position a_symbols a_lengths a_scratch a_waves a_runKinds a_runSizes := by
  have h67 : ∀ (x7 z0 : Int32) (i' j' : Nat), x7 = zi_o i' → z0 = zi_o j' → i' + p = n → j' + q = m → wX_costVia_67 post x5 x6 x7 z0 f_room f_levels f_width f_none f_ahead f_behind f_capacity f_mismatch f_open f_extend f_runs f_columnTotal f_aligned f_begin f_end f_best f_heading f_position a_symbols a_lengths a_scratch a_waves a_runKinds a_runSizes := by
    intro x7 z0 i' j' e7 e8 hi' hj'
    unfold wX_costVia_67
    refine xw_ahead hc f hW L hL i' j' p q hi' hj' rfl e5 e7 e8 ?_
    exact zi_p (post := post) h (by rw [e6, zi_add]; exact zi_c (by omega))
  have h51 : ∀ (z0 : Int32) (i' : Nat), z0 = zi_o i' → i' + p = n → wX_costVia_51 post x1 x4 x5 x6 z0 f_room f_levels f_width f_none f_ahead f_behind f_capacity f_mismatch f_open f_extend f_runs f_columnTotal f_aligned f_begin f_end f_best f_heading f_position a_symbols a_lengths a_scratch a_waves a_runKinds a_runSizes := by
    intro z0 i' e7 hi'
    refine zi_beq (kind : Int) 3 e1 zi_l3 (by omega) (fun z => ?_) (fun z => ?_)
    · rw [if_pos (by omega)] at hj
      exact h67 z0 x4 i' j e7 e4 hi' hj
    · rw [if_neg (by omega)] at hj
      exact h67 z0 (x4 + 1) i' (j + 1) e7 (by rw [e4, zi_l1, zi_add]; exact zi_c (by omega)) hi' hj
  refine zi_beq (kind : Int) 2 e1 zi_l2 (by omega) (fun z => ?_) (fun z => ?_)
  · rw [if_pos (by omega)] at hi
    exact h51 x3 i e3 hi
  · rw [if_neg (by omega)] at hi
    exact h51 (x3 + 1) (i + 1) (by rw [e3, zi_l1, zi_add]; exact zi_c (by omega)) hi
theorem xw_via (hc : xc_ok 15 n m x o e A B f_mismatch f_open f_extend a_lengths a_symbols)
    (hW : xc_Wv (xc_G A B n m 0) x o e f n m 0 ((2 * o + e * (n + m) : Nat) + 1) (-(n : Int)) a_waves) (hb : b ≤ 2) (hf : f ≤ 2) (hbeg : f_begin = zi_o b) (hend : f_end = zi_o f)
    (kind : Nat) (hk : kind < 3) (i j p q L : Nat) (hL : L < 3) (hi : i + p = n) (hj : j + q = m) (hfit : xc_fit A B n m kind p q) (hb1 : i = 0 → b = 1 → L = 1)
    {p0 p1 p2 p3 : Int32} (e0 : p0 = zi_o kind) (e1 : p1 = zi_o L) (e2 : p2 = zi_o i) (e3 : p3 = zi_o j)
    (h : post (zi_o (tp_V A B x o e f n m kind L p q : Nat))) : wpX_costVia post (f_room, f_levels, f_width, f_none, f_ahead, f_behind, f_capacity, f_mismatch, f_open, f_extend, f_runs, f_columnTotal, f_aligned, f_begin, f_end, f_best, f_heading, f_position, a_symbols, a_lengths, a_scratch, a_waves, a_runKinds, a_runSizes) p0 p1 p2 p3 := by
  unfold wpX_costVia
  refine xw_layer kind (by omega) e0 ?_
  refine xw_charge hc kind (by omega) e0 ?_
  unfold xc_fit at hfit
  unfold tp_V cw_V at h
  have hk3 : kind = 0 ∨ kind = 1 ∨ kind = 2 := by omega
  rcases hk3 with rfl | rfl | rfl
  · rw [if_neg (by decide)] at hfit
    obtain ⟨f1, f2, f3⟩ := hfit
    rw [if_pos rfl, if_pos ⟨f1, f2, f3.mpr rfl⟩] at h
    refine br_t (by decide) ?_
    refine xw_via39 hc hW 0 (by omega) i j (p - 1) (q - 1) 0 (by omega) 0 (by rw [if_neg (by decide)]; omega) (by rw [if_neg (by decide)]; omega) e0 e2 e3 rfl rfl ?_
    rw [Nat.zero_add]; exact h
  · rw [if_neg (by decide)] at hfit
    obtain ⟨f1, f2, f3⟩ := hfit
    rw [if_neg (by decide), if_pos rfl, if_pos ⟨f1, f2, fun y => absurd (f3.mp y) (by decide)⟩] at h
    refine br_t (by decide) ?_
    exact xw_via39 hc hW 1 (by omega) i j (p - 1) (q - 1) 0 (by omega) x (by rw [if_neg (by decide)]; omega) (by rw [if_neg (by decide)]; omega) e0 e2 e3 rfl rfl h
  · rw [if_pos rfl] at hfit
    rw [if_neg (by decide), if_neg (by decide), if_pos rfl, if_pos hfit] at h
    refine br_f (by decide) ?_
    refine zi_beq 1 (L : Int) rfl e1 (by omega) (fun z => ?_) (fun z => ?_)
    · obtain rfl : L = 1 := by omega
      rw [cw_oi1, Nat.zero_add] at h
      exact xw_via39 hc hW 2 (by omega) i j p (q - 1) 1 (by omega) e (by rw [if_pos rfl]; omega) (by rw [if_neg (by decide)]; omega) e0 e2 e3 rfl rfl h
    · refine xw_open1 hc hb hf hbeg hend i (by omega) rfl e2 ?_
      refine nm_r (e' := zi_o ((e + th_o1 o b f n i : Nat) : Int)) (by show zi_o ((e : Nat) : Int) + zi_o _ = _; rw [zi_add]; exact zi_c (by omega)) ?_
      refine xw_via39 hc hW 2 (by omega) i j p (q - 1) 1 (by omega) (e + th_o1 o b f n i) (by rw [if_pos rfl]; omega) (by rw [if_neg (by decide)]; omega) e0 e2 e3 rfl rfl ?_
      have ho : cw_oi o (decide (f = 1)) L p = th_o1 o b f n i := by
        rw [cw_oi_n (by omega)]
        rcases th_o1c (o := o) (b := b) (f := f) (n := n) i with ⟨y, _⟩ | ⟨y, y2⟩ | ⟨_, y, y2⟩
        · exact absurd (hb1 y.1 y.2) (by omega)
        · rw [y2]; exact if_pos (Or.inr ⟨by omega, decide_eq_true y.2⟩)
        · rw [y2]; exact if_neg (by intro w; rcases w with w | w; exact absurd w (by decide); exact y ⟨by omega, of_decide_eq_true w.2⟩)
      rw [ho, Nat.add_comm (th_o1 o b f n i) e] at h
      exact h
theorem xw_lk (hc : xc_ok 15 n m x o e A B f_mismatch f_open f_extend a_lengths a_symbols)
    (hW : xc_Wv (xc_G A B n m 0) x o e f n m 0 ((2 * o + e * (n + m) : Nat) + 1) (-(n : Int)) a_waves) (hb : b ≤ 2) (hf : f ≤ 2) (hbeg : f_begin = zi_o b) (hend : f_end = zi_o f)
    (kind : Nat) (hk : kind < 3) (i j p q L c : Nat) (hL : L < 3) (hcc : c ≤ 70) (hi : i + p = n) (hj : j + q = m) (hb1 : i = 0 → b = 1 → L = 1)
    {x1 x2 x3 x4 x5 : Int32} (e1 : x1 = zi_o L) (e2 : x2 = zi_o i) (e3 : x3 = zi_o j) (e4 : x4 = zi_o c) (e5 : x5 = zi_o kind) (N : Nat)
    (hy : tp_V A B x o e f n m kind L p q = c → post (zi_o kind)) (hno : tp_V A B x o e f n m kind L p q ≠ c → wX_leastKind_13 post x1 x2 x3 x4 f_room f_levels f_width f_none f_ahead f_behind f_capacity f_mismatch f_open f_extend f_runs f_columnTotal f_aligned f_begin f_end f_best f_heading f_position a_symbols a_lengths a_scratch a_waves a_runKinds a_runSizes N (zi_o ((kind + 1 : Nat) : Int))) :
    wX_leastKind_13 post x1 x2 x3 x4 f_room f_levels f_width f_none f_ahead f_behind f_capacity f_mismatch f_open f_extend f_runs f_columnTotal f_aligned f_begin f_end f_best f_heading f_position a_symbols a_lengths a_scratch a_waves a_runKinds a_runSizes (N + 1) x5 := by
  have hcg := xc_ceil hc.2.2.2.2.1 hc.2.2.2.2.2.1 hc.2.2.2.2.2.2.1 hc.1 hc.2.1
  have hx7 := hc.2.2.2.1
  have ho5 := hc.2.2.2.2.1
  have he2 := hc.2.2.2.2.2.2.1
  have hFb : ∀ L' p' q', p' ≤ n → q' ≤ m → th_F A B x o e f n m L' p' q' ≤ 70 := by
    intro L' p' q' hp hq
    have h1 := tp_Fb (A := A) (B := B) (x := x) (o := o) (e := e) (f := f) (n := n) (m := m) L' p' q'
    have h2 : e * (p' + q') ≤ e * (n + m) := Nat.mul_le_mul_left e (by omega)
    omega
  have hVb : xc_fit A B n m kind p q → tp_V A B x o e f n m kind L p q ≤ 100 := by
    intro hfit
    unfold xc_fit at hfit
    unfold tp_V cw_V
    have hk3 : kind = 0 ∨ kind = 1 ∨ kind = 2 := by omega
    rcases hk3 with rfl | rfl | rfl
    · rw [if_neg (by decide)] at hfit
      rw [if_pos rfl, if_pos ⟨hfit.1, hfit.2.1, hfit.2.2.mpr rfl⟩]
      have := hFb 0 (p - 1) (q - 1) (by omega) (by omega)
      unfold th_F at this
      omega
    · rw [if_neg (by decide)] at hfit
      rw [if_neg (by decide), if_pos rfl, if_pos ⟨hfit.1, hfit.2.1, fun y => absurd (hfit.2.2.mp y) (by decide)⟩]
      have := hFb 0 (p - 1) (q - 1) (by omega) (by omega)
      unfold th_F at this
      omega
    · rw [if_pos rfl] at hfit
      rw [if_neg (by decide), if_neg (by decide), if_pos rfl, if_pos hfit]
      have := hFb 1 p (q - 1) (by omega) (by omega)
      have h5 := cw_oi_le (o := o) (bi := decide (f = 1)) L p
      unfold th_F at this
      omega
  have hVn : ¬ xc_fit A B n m kind p q → tp_V A B x o e f n m kind L p q ≠ c := by
    intro hfit
    unfold xc_fit at hfit
    unfold tp_V cw_V
    have hk3 : kind = 0 ∨ kind = 1 ∨ kind = 2 := by omega
    rcases hk3 with rfl | rfl | rfl
    · rw [if_neg (by decide)] at hfit
      rw [if_pos rfl, if_neg (fun y => hfit ⟨y.1, y.2.1, ⟨fun _ => rfl, fun _ => y.2.2⟩⟩)]
      omega
    · rw [if_neg (by decide)] at hfit
      rw [if_neg (by decide), if_pos rfl, if_neg (fun y => hfit ⟨y.1, y.2.1, ⟨fun w => absurd w y.2.2, fun w => absurd w (by decide)⟩⟩)]
      omega
    · rw [if_pos rfl] at hfit
      rw [if_neg (by decide), if_neg (by decide), if_pos rfl, if_neg hfit]
      omega
  refine zi_ble 3 (kind : Int) zi_l3 e5 (by omega) (fun z => by omega) (fun z => ?_)
  refine xw_fits hc kind hk i j p q hi hj e5 e2 e3 (fun hfit => ?_) (fun hfit => ?_)
  · refine br_f (by decide) ?_
    refine xw_via hc hW hb hf hbeg hend kind hk i j p q L hL hi hj hfit hb1 e5 e1 e2 e3 ?_
    have hV := hVb hfit
    refine zi_beq (tp_V A B x o e f n m kind L p q : Int) c rfl e4 (by omega) (fun z2 => ?_) (fun z2 => ?_)
    · exact zi_p (post := post) (hy (by omega)) e5
    · refine nm_r (e' := zi_o ((kind + 1 : Nat) : Int)) (by rw [e5, zi_l1, zi_add]; exact zi_c (by omega)) ?_
      exact hno (by omega)
  · refine br_t rfl ?_
    refine nm_r (e' := zi_o ((kind + 1 : Nat) : Int)) (by rw [e5, zi_l1, zi_add]; exact zi_c (by omega)) ?_
    exact hno (hVn hfit)
theorem xw_least (hc : xc_ok 15 n m x o e A B f_mismatch f_open f_extend a_lengths a_symbols)
    (hW : xc_Wv (xc_G A B n m 0) x o e f n m 0 ((2 * o + e * (n + m) : Nat) + 1) (-(n : Int)) a_waves) (hb : b ≤ 2) (hf : f ≤ 2) (hbeg : f_begin = zi_o b) (hend : f_end = zi_o f)
    (i j p q L : Nat) (hL : L < 3) (hi : i + p = n) (hj : j + q = m) (hb1 : i = 0 → b = 1 → L = 1)
    {p0 p1 p2 : Int32} (e0 : p0 = zi_o L) (e1 : p1 = zi_o i) (e2 : p2 = zi_o j) (h : post (zi_o (tp_K A B x o e f n m L p q : Nat))) : wpX_leastKind post (f_room, f_levels, f_width, f_none, f_ahead, f_behind, f_capacity, f_mismatch, f_open, f_extend, f_runs, f_columnTotal, f_aligned, f_begin, f_end, f_best, f_heading, f_position, a_symbols, a_lengths, a_scratch, a_waves, a_runKinds, a_runSizes) p0 p1 p2 := by
  have hcg := xc_ceil hc.2.2.2.2.1 hc.2.2.2.2.2.1 hc.2.2.2.2.2.2.1 hc.1 hc.2.1
  have hFb : th_F A B x o e f n m L p q ≤ 70 := by
    have h1 := tp_Fb (A := A) (B := B) (x := x) (o := o) (e := e) (f := f) (n := n) (m := m) L p q
    have h2 : e * (p + q) ≤ e * (n + m) := Nat.mul_le_mul_left e (by omega)
    omega
  unfold wpX_leastKind
  refine xw_ahead hc f hW L hL i j p q hi hj rfl e0 e1 e2 ?_
  unfold tp_K tp_k at h
  refine ⟨4, ?_⟩
  refine xw_lk hc hW hb hf hbeg hend 0 (by omega) i j p q L (th_F A B x o e f n m L p q) hL hFb hi hj hb1 e0 e1 e2 rfl zi_l0 3 (fun z => ?_) (fun z => ?_)
  · rw [if_pos z] at h; exact h
  rw [if_neg z] at h
  refine xw_lk hc hW hb hf hbeg hend 1 (by omega) i j p q L (th_F A B x o e f n m L p q) hL hFb hi hj hb1 e0 e1 e2 rfl rfl 2 (fun z => ?_) (fun z => ?_)
  · rw [if_pos z] at h; exact h
  rw [if_neg z] at h
  refine xw_lk hc hW hb hf hbeg hend 2 (by omega) i j p q L (th_F A B x o e f n m L p q) hL hFb hi hj hb1 e0 e1 e2 rfl rfl 1 (fun z => ?_) (fun z => ?_)
  · rw [if_pos z] at h; exact h
  rw [if_neg z] at h
  exact br_t (by decide) (zi_p (post := post) h zi_l3)
end
end
section
/-! 12 the component writes its transcript -/
section
variable {f_room f_levels f_width f_none f_ahead f_behind f_capacity f_mismatch f_open f_extend f_runs f_columnTotal f_aligned f_begin f_end f_best f_heading f_position : Int32} {a_symbols a_lengths a_scratch a_waves a_runKinds a_runSizes : Nat → Int32} {n m x o e b f : Nat} {A B : Nat → Int32}
theorem xw_add {post : SX → Prop} {ks rs : Nat → Nat} {c R : Nat} (hr : xr_ok ks c R rs a_runKinds a_runSizes) (hc30 : c < 30) (hks : ∀ d, d ≤ c → ks d < 4) (eR : f_runs = zi_o R) (eT : f_columnTotal = zi_o c) {p0 : Int32} (e0 : p0 = zi_o (ks c))
    (h : ∀ R' rs' rk' rz', xr_ok ks (c + 1) R' rs' rk' rz' → post (f_room, f_levels, f_width, f_none, f_ahead, f_behind, f_capacity, f_mismatch, f_open, f_extend, zi_o (R' : Nat), zi_o ((c + 1 : Nat) : Int), f_aligned, f_begin, f_end, f_best, f_heading, f_position, a_symbols, a_lengths, a_scratch, a_waves, rk', rz')) : wpX_addColumn post (f_room, f_levels, f_width, f_none, f_ahead, f_behind, f_capacity, f_mismatch, f_open, f_extend, f_runs, f_columnTotal, f_aligned, f_begin, f_end, f_best, f_heading, f_position, a_symbols, a_lengths, a_scratch, a_waves, a_runKinds, a_runSizes) p0 := by
  obtain ⟨hR, hk⟩ := hr
  have hRT := rn_RT hR
  have hR' := hR
  obtain ⟨r1, r2, r3, r4, r5⟩ := hR'
  have h40 : (0 < R → ks c ≠ ks (rs (R - 1))) → wX_addColumn_40 post p0 f_room f_levels f_width f_none f_ahead f_behind f_capacity f_mismatch f_open f_extend f_runs f_columnTotal f_aligned f_begin f_end f_best f_heading f_position a_symbols a_lengths a_scratch a_waves a_runKinds a_runSizes := by
    intro hne
    obtain ⟨iR, cR⟩ := zi_ix (x := f_runs) (N := 30) R eR (by omega) (by omega)
    unfold wX_addColumn_40
    refine ⟨iR, nm_r (e' := upd a_runKinds R p0) (by rw [cR]) ?_⟩
    refine ⟨iR, nm_r (e' := upd a_runSizes R 1) (by rw [cR]) ?_⟩
    refine nm_r (e' := zi_o ((R + 1 : Nat) : Int)) (by rw [eR, zi_l1, zi_add]; exact zi_c (by omega)) ?_
    refine nm_r (e' := zi_o ((c + 1 : Nat) : Int)) (by rw [eT, zi_l1, zi_add]; exact zi_c (by omega)) ?_
    refine h (R + 1) _ _ _ ⟨rn_new hR hne, ?_⟩
    intro r hr
    by_cases z : r = R
    · subst z
      rw [zi_us rfl, zi_us rfl, if_neg (by omega), if_pos rfl, r2]
      refine ⟨e0, zi_l1.trans (zi_c (by omega))⟩
    · rw [zi_un z, zi_un z, if_neg (by omega), if_neg (by omega)]
      exact hk r (by omega)
  refine zi_ble (R : Int) 0 eR zi_l0 (by omega) (fun z => h40 (by omega)) (fun z => ?_)
  obtain ⟨iR, cR⟩ := zi_ix (x := f_runs - 1) (N := 30) (R - 1) (by rw [eR, zi_l1, zi_sub]; exact zi_c (by omega)) (by omega) (by omega)
  obtain ⟨k1, k2⟩ := hk (R - 1) (by omega)
  have hlt : rs (R - 1) < c := by
    have := r3 (R - 1) (by omega)
    rw [show R - 1 + 1 = R by omega, r2] at this
    exact this
  have hk4 := hks c (Nat.le_refl _)
  have hk5 := hks (rs (R - 1)) (by omega)
  refine ⟨iR, ?_⟩
  refine zi_beq (ks (rs (R - 1)) : Int) (ks c) (by rw [cR]; exact k1) e0 (by omega) (fun z2 => ?_) (fun z2 => h40 (by intro _; omega))
  refine ⟨iR, iR, nm_r (e' := upd a_runSizes (R - 1) (zi_o ((c + 1 : Int) - (rs (R - 1) : Int)))) ?_ ?_⟩
  · rw [cR, k2, show R - 1 + 1 = R by omega, r2, zi_l1, zi_add]
    exact congrArg (upd a_runSizes (R - 1)) (zi_c (by omega))
  refine nm_r (e' := zi_o ((c + 1 : Nat) : Int)) (by rw [eT, zi_l1, zi_add]; exact zi_c (by omega)) ?_
  have hfin := h R _ a_runKinds (upd a_runSizes (R - 1) (zi_o ((c + 1 : Int) - (rs (R - 1) : Int)))) ⟨rn_same hR (by omega) (by omega), ?_⟩
  · rw [← eR] at hfin
    exact hfin
  · intro r hr
    rw [if_neg (by omega)]
    by_cases z3 : r = R - 1
    · subst z3
      rw [zi_us rfl, if_pos (by omega)]
      exact ⟨k1, zi_c (by omega)⟩
    · rw [zi_un z3, if_neg (by omega)]
      exact hk r hr
theorem xw_write37 (hc : xc_ok 15 n m x o e A B f_mismatch f_open f_extend a_lengths a_symbols)
    (hW : xc_Wv (xc_G A B n m 0) x o e f n m 0 ((2 * o + e * (n + m) : Nat) + 1) (-(n : Int)) a_waves) (hb : b ≤ 2) (hf : f ≤ 2) (hbeg : f_begin = zi_o b) (hend : f_end = zi_o f)
    {T : Nat} {ks Ls ps qs : Nat → Nat} (hP : tp_P A B x o e f n m b n m T ks Ls ps qs) {post : SX → Prop}
    (h : ∀ R rs rk rz, xr_ok ks T R rs rk rz → post (f_room, f_levels, f_width, f_none, f_ahead, f_behind, f_capacity, f_mismatch, f_open, f_extend, zi_o (R : Nat), zi_o (T : Nat), f_aligned, f_begin, f_end, f_best, f_heading, f_position, a_symbols, a_lengths, a_scratch, a_waves, rk, rz)) :
    ∀ (d c R : Nat) (rs : Nat → Nat) (rk rz : Nat → Int32) (y1 y2 y3 y5 : Int32), c + d = T → y1 = zi_o ((n : Int) - (ps c : Int)) → y2 = zi_o ((m : Int) - (qs c : Int)) → y3 = zi_o (Ls c) → y5 = zi_o c → xr_ok ks c R rs rk rz → ∀ N, d < N →
      wX_writeTranscript_37 post (zi_o ((n + m : Nat) : Int)) N y1 y2 y3 y5 f_room f_levels f_width f_none f_ahead f_behind f_capacity f_mismatch f_open f_extend (zi_o (R : Nat)) (zi_o (c : Nat)) f_aligned f_begin f_end f_best f_heading f_position a_symbols a_lengths a_scratch a_waves rk rz := by
  have hcg := xc_ceil hc.2.2.2.2.1 hc.2.2.2.2.2.1 hc.2.2.2.2.2.2.1 hc.1 hc.2.1
  have hF : e * (n + m) + 2 * o < 1000000 := by omega
  have hn := hc.1
  have hm := hc.2.1
  have hl0 : a_lengths 0 = zi_o n := hc.2.2.2.2.2.2.2.2.2.2.1
  have hl1 : a_lengths 1 = zi_o m := hc.2.2.2.2.2.2.2.2.2.2.2.1
  have hT : T ≤ n + m := hP.2.2.2.2.2.1
  intro d
  induction d with
  | zero =>
    intro c R rs rk rz y1 y2 y3 y5 hcd e1 e2 e3 e5 hr N hN
    obtain rfl : c = T := by omega
    have hp0 := hP.2.2.2.1
    have hq0 := hP.2.2.2.2.1
    rw [hp0] at e1
    rw [hq0] at e2
    cases N with
    | zero => omega
    | succ N =>
      refine zi_ble ((n + m : Nat) : Int) c rfl e5 (by omega) (fun z => h R rs rk rz hr) (fun z => ?_)
      refine zi_blt ((n : Int) - ((0 : Nat) : Int)) n e1 hl0 (by omega) (fun z2 => by omega) (fun z2 => ?_)
      refine zi_ble (m : Int) ((m : Int) - ((0 : Nat) : Int)) hl1 e2 (by omega) (fun z3 => h R rs rk rz hr) (fun z3 => by omega)
  | succ d ih =>
    intro c R rs rk rz y1 y2 y3 y5 hcd e1 e2 e3 e5 hr N hN
    cases N with
    | zero => omega
    | succ N =>
      obtain ⟨hpn, hqm⟩ := tp_pq hF hP c (by omega)
      obtain ⟨g1, g2, g3, g4, g5⟩ := hP.2.2.2.2.2.2 c (by omega)
      have hk4 := tp_k4c hF hP (show c < T by omega)
      have hL3 : Ls c < 3 := by
        cases c with
        | zero => rw [hP.1]; omega
        | succ c =>
          have h5 := (hP.2.2.2.2.2.2 c (by omega)).2.2.1
          have h6 := tp_k4c hF hP (show c < T by omega)
          rw [h5]; unfold tp_lay; split <;> omega
      have h64 : wX_writeTranscript_64 post (wX_writeTranscript_37 post (zi_o ((n + m : Nat) : Int)) N) y1 y2 y3 (zi_o ((n + m : Nat) : Int)) y5 f_room f_levels f_width f_none f_ahead f_behind f_capacity f_mismatch f_open f_extend (zi_o (R : Nat)) (zi_o (c : Nat)) f_aligned f_begin f_end f_best f_heading f_position a_symbols a_lengths a_scratch a_waves rk rz := by
        unfold wX_writeTranscript_64
        refine xw_least (b := b) hc hW hb hf hbeg hend (n - ps c) (m - qs c) (ps c) (qs c) (Ls c) hL3 (by omega) (by omega) (fun z1 z2 => tp_b1 hF hP z2 c (by omega) (by omega)) e3 (e1.trans (zi_c (by omega))) (e2.trans (zi_c (by omega))) ?_
        rw [← g2]
        have h99 : ∀ (a0 a1 : Int32), a0 = zi_o ((n : Int) - (ps (c + 1) : Int)) → a1 + y2 = zi_o ((m : Int) - (qs (c + 1) : Int)) → wX_writeTranscript_99 post (wX_writeTranscript_37 post (zi_o ((n + m : Nat) : Int)) N) a0 (zi_o ((n + m : Nat) : Int)) y5 (zi_o (ks c : Nat)) a1 y2 f_room f_levels f_width f_none f_ahead f_behind f_capacity f_mismatch f_open f_extend (zi_o (R : Nat)) (zi_o (c : Nat)) f_aligned f_begin f_end f_best f_heading f_position a_symbols a_lengths a_scratch a_waves rk rz := by
          intro a0 a1 ea0 ea1
          unfold wX_writeTranscript_99
          refine nm_r (e' := zi_o ((m : Int) - (qs (c + 1) : Int))) (by rw [← ea1, Int32.add_comm]) ?_
          refine xw_layer (ks c) (by omega) rfl ?_
          refine xw_add hr (by omega) (fun d' hd' => tp_k4c hF hP (by omega)) rfl rfl rfl ?_
          intro R' rs' rk' rz' hr'
          refine nm_r (e' := zi_o ((c + 1 : Nat) : Int)) (by rw [e5, zi_l1, zi_add]; exact zi_c (by omega)) ?_
          exact ih (c + 1) R' rs' rk' rz' _ _ _ _ (by omega) ea0 rfl (by rw [g3]) rfl hr' N (by omega)
        have h85 : ∀ a0 : Int32, y1 + a0 = zi_o ((n : Int) - (ps (c + 1) : Int)) → wX_writeTranscript_85 post (wX_writeTranscript_37 post (zi_o ((n + m : Nat) : Int)) N) y2 (zi_o ((n + m : Nat) : Int)) y5 (zi_o (ks c : Nat)) a0 y1 f_room f_levels f_width f_none f_ahead f_behind f_capacity f_mismatch f_open f_extend (zi_o (R : Nat)) (zi_o (c : Nat)) f_aligned f_begin f_end f_best f_heading f_position a_symbols a_lengths a_scratch a_waves rk rz := by
          intro a0 ea0
          unfold wX_writeTranscript_85
          refine nm_r (e' := zi_o ((n : Int) - (ps (c + 1) : Int))) ea0 ?_
          refine zi_beq (ks c : Int) 3 rfl zi_l3 (by omega) (fun z => ?_) (fun z => ?_)
          · refine h99 _ 0 rfl ?_
            rw [if_pos (by omega)] at g5
            rw [e2, g5, zi_l0, zi_add]; exact zi_c (by omega)
          · refine h99 _ 1 rfl ?_
            rw [if_neg (by omega)] at g5
            have hq : 0 < qs c := by
              rcases tp_stepc hF hP (show c < T by omega) with ⟨_, _, y, _⟩ | ⟨_, _, y, _⟩ | ⟨_, y, _⟩ | ⟨y, _⟩
              · exact y
              · exact y
              · exact y
              · omega
            rw [e2, g5, zi_l1, zi_add]; exact zi_c (by omega)
        refine zi_beq (ks c : Int) 2 rfl zi_l2 (by omega) (fun z => ?_) (fun z => ?_)
        · refine h85 0 ?_
          rw [if_pos (by omega)] at g4
          rw [e1, g4, zi_l0, zi_add]; exact zi_c (by omega)
        · refine h85 1 ?_
          rw [if_neg (by omega)] at g4
          have hp : 0 < ps c := by
            rcases tp_stepc hF hP (show c < T by omega) with ⟨_, y, _⟩ | ⟨_, y, _⟩ | ⟨y, _⟩ | ⟨_, y, _⟩
            · exact y
            · exact y
            · omega
            · exact y
          rw [e1, g4, zi_l1, zi_add]; exact zi_c (by omega)
      refine zi_ble ((n + m : Nat) : Int) c rfl e5 (by omega) (fun z => by omega) (fun z => ?_)
      refine zi_blt ((n : Int) - (ps c : Int)) n e1 hl0 (by omega) (fun z2 => h64) (fun z2 => ?_)
      refine zi_ble (m : Int) ((m : Int) - (qs c : Int)) hl1 e2 (by omega) (fun z3 => by omega) (fun z3 => h64)
theorem xw_write (hc : xc_ok 15 n m x o e A B f_mismatch f_open f_extend a_lengths a_symbols)
    (hW : xc_Wv (xc_G A B n m 0) x o e f n m 0 ((2 * o + e * (n + m) : Nat) + 1) (-(n : Int)) a_waves) (hb : b ≤ 2) (hf : f ≤ 2) (hbeg : f_begin = zi_o b) (hend : f_end = zi_o f)
    {T : Nat} {ks Ls ps qs : Nat → Nat} (hP : tp_P A B x o e f n m b n m T ks Ls ps qs) {post : SX → Prop}
    (h : ∀ R rs rk rz, xr_ok ks T R rs rk rz → post (f_room, f_levels, f_width, f_none, f_ahead, f_behind, f_capacity, f_mismatch, f_open, f_extend, zi_o (R : Nat), zi_o (T : Nat), f_aligned, f_begin, f_end, f_best, f_heading, f_position, a_symbols, a_lengths, a_scratch, a_waves, rk, rz)) : wpX_writeTranscript post (f_room, f_levels, f_width, f_none, f_ahead, f_behind, f_capacity, f_mismatch, f_open, f_extend, f_runs, f_columnTotal, f_aligned, f_begin, f_end, f_best, f_heading, f_position, a_symbols, a_lengths, a_scratch, a_waves, a_runKinds, a_runSizes) := by
  have hl0 : a_lengths 0 = zi_o n := hc.2.2.2.2.2.2.2.2.2.2.1
  have hl1 : a_lengths 1 = zi_o m := hc.2.2.2.2.2.2.2.2.2.2.2.1
  unfold wpX_writeTranscript
  refine nm_r (e' := zi_o ((n + m : Nat) : Int)) (by rw [hl0, hl1, zi_add]; exact zi_c (by omega)) ?_
  refine ⟨T + 1, ?_⟩
  have h1 := hP.1
  have h2 := hP.2.1
  have h3 := hP.2.2.1
  exact xw_write37 hc hW hb hf hbeg hend hP h T 0 0 (fun _ => 0) a_runKinds a_runSizes 0 0 f_begin 0 (by omega) (by rw [h2]; exact zi_l0.trans (zi_c (by omega))) (by rw [h3]; exact zi_l0.trans (zi_c (by omega))) (by rw [h1]; exact hbeg) zi_l0 ⟨rn_R0 ks, fun r hr => by omega⟩ (T + 1) (by omega)
end
end
section
/-! 13 the component aligns -/
section
variable {f_room f_levels f_width f_none f_ahead f_behind f_capacity f_mismatch f_open f_extend f_runs f_columnTotal f_aligned f_begin f_end f_best f_heading f_position : Int32} {a_symbols a_lengths a_scratch a_waves a_runKinds a_runSizes : Nat → Int32} {n m x o e b f : Nat} {A B : Nat → Int32}
theorem xc_keep {G : Nat → Nat → Bool} {edge : Nat} {S : Int} {wv wv' : Nat → Int32} (hS : S ≤ 71) (hm : m ≤ 15) (hW : xc_Wv G x o e edge n m 0 S (-(n : Int)) wv) (hf : xc_fr 1 wv wv') : xc_Wv G x o e edge n m 0 S (-(n : Int)) wv' := by
  intro L s k hL hs hk1 hk2 hlt
  obtain ⟨r, h1, h2⟩ := hW L s k hL hs hk1 hk2 hlt
  refine ⟨r, ?_, h2⟩
  rw [hf _ (by left; unfold xc_cell; omega)]
  exact h1
theorem xw_align (hc : xc_ok 15 n m x o e A B f_mismatch f_open f_extend a_lengths a_symbols) (hb : b ≤ 2) (hf : f ≤ 2)
    {T : Nat} {ks Ls ps qs : Nat → Nat} (hP : tp_P A B x o e f n m b n m T ks Ls ps qs) {post : Int32 → SX → Prop} {p0 p1 : Int32} (e0 : p0 = zi_o b) (e1 : p1 = zi_o f)
    (h : ∀ R rs rk rz wv, xr_ok ks T R rs rk rz → xc_Wv (xc_G A B n m 0) x o e f n m 0 ((2 * o + e * (n + m) : Nat) + 1) (-(n : Int)) wv → xc_Wv (xc_G A B n m 1) x o e b n m 1 ((2 * o + e * (n + m) : Nat) + 1) (-(n : Int)) wv →
      post (zi_o (th_F A B x o e f n m b n m : Nat)) (f_room, f_levels, f_width, f_none, f_ahead, f_behind, f_capacity, f_mismatch, f_open, f_extend, zi_o (R : Nat), zi_o (T : Nat), 1, p0, p1, zi_o (th_F A B x o e f n m b n m : Nat), 0, 0, a_symbols, a_lengths, a_scratch, wv, rk, rz)) : wpX_align post (f_room, f_levels, f_width, f_none, f_ahead, f_behind, f_capacity, f_mismatch, f_open, f_extend, f_runs, f_columnTotal, f_aligned, f_begin, f_end, f_best, f_heading, f_position, a_symbols, a_lengths, a_scratch, a_waves, a_runKinds, a_runSizes) p0 p1 := by
  have hcg := xc_ceil hc.2.2.2.2.1 hc.2.2.2.2.2.1 hc.2.2.2.2.2.2.1 hc.1 hc.2.1
  unfold wpX_align
  refine zi_blt (b : Int) 0 e0 zi_l0 (by omega) (fun z => by omega) (fun z => ?_)
  refine zi_blt 2 (b : Int) zi_l2 e0 (by omega) (fun z => by omega) (fun z => ?_)
  refine zi_blt (f : Int) 0 e1 zi_l0 (by omega) (fun z => by omega) (fun z => ?_)
  refine zi_ble (f : Int) 2 e1 zi_l2 (by omega) (fun z => ?_) (fun z => by omega)
  refine xw_grow (w := 0) (edge := f) hc (by omega) hf zi_l0 e1 (fun wv1 hW1 _ => ?_)
  refine xw_grow (w := 1) (edge := b) hc (by omega) hb zi_l1 e0 (fun wv2 hW2 hfr => ?_)
  have hW1' := xc_keep (by omega) hc.2.1 hW1 hfr
  refine xw_ahead hc f hW1' b (by omega) 0 0 n m (by omega) (by omega) rfl e0 zi_l0 zi_l0 ?_
  refine xw_write hc hW1' hb hf e0 e1 hP (fun R rs rk rz hr => ?_)
  exact h R rs rk rz wv2 hr hW1' hW2
theorem xw_alignBad {post : Int32 → SX → Prop} {p0 p1 : Int32} (hbad : ¬ (∃ b f : Nat, b ≤ 2 ∧ f ≤ 2 ∧ p0 = zi_o b ∧ p1 = zi_o f)) (h : post (-1) (f_room, f_levels, f_width, f_none, f_ahead, f_behind, f_capacity, f_mismatch, f_open, f_extend, f_runs, f_columnTotal, f_aligned, f_begin, f_end, f_best, f_heading, f_position, a_symbols, a_lengths, a_scratch, a_waves, a_runKinds, a_runSizes)) : wpX_align post (f_room, f_levels, f_width, f_none, f_ahead, f_behind, f_capacity, f_mismatch, f_open, f_extend, f_runs, f_columnTotal, f_aligned, f_begin, f_end, f_best, f_heading, f_position, a_symbols, a_lengths, a_scratch, a_waves, a_runKinds, a_runSizes) p0 p1 := by
  obtain ⟨a0, l0, u0, e0⟩ := zi_of p0
  obtain ⟨a1, l1, u1, e1⟩ := zi_of p1
  unfold wpX_align
  refine zi_blt a0 0 e0 zi_l0 (by omega) (fun z => h) (fun z => ?_)
  refine zi_blt 2 a0 zi_l2 e0 (by omega) (fun z => h) (fun z2 => ?_)
  refine zi_blt a1 0 e1 zi_l0 (by omega) (fun z => h) (fun z3 => ?_)
  refine zi_ble a1 2 e1 zi_l2 (by omega) (fun z4 => ?_) (fun z => h)
  exact absurd ⟨a0.toNat, a1.toNat, by omega, by omega, e0.trans (zi_c (by omega)), e1.trans (zi_c (by omega))⟩ hbad
end
end
section
/-! 14 the reference: the cost by way of a kind -/
def yt_lay (b last : Nat) : Nat := if last = 4 then b else tp_lay last
def yt_ix (last i j : Nat) : Nat := (last * 16 + i) * 16 + j
section
variable {g_capacity g_mismatch g_open g_extend g_aligned g_columns g_begin g_end g_direction g_position : Int32} {b_symbols b_size b_kinds b_rest b_tape : Nat → Int32} {n m x o e b f : Nat} {A B : Nat → Int32} {post : Int32 → Prop}
theorem yw_267 (kind a c ch rv : Nat) (hk : kind < 5) (ha : a < 16) (hcc : c < 16) {x1 x7 x8 x9 : Int32} (e1 : x1 = zi_o kind) (e7 : x7 = zi_o a) (e8 : x8 = zi_o c) (e9 : x9 = zi_o ch) (hr : b_rest (yt_ix kind a c) = zi_o rv)
    (h : post (zi_o ((ch + rv : Nat) : Int))) : wY_costVia_267 post x1 x7 x8 x9 g_capacity g_mismatch g_open g_extend g_aligned g_columns g_begin g_end g_direction g_position b_symbols b_size b_kinds b_rest b_tape := by
  obtain ⟨i1, c1⟩ := zi_ix (x := ((x1 * 16) + x7) * 16 + x8) (N := 1280) (yt_ix kind a c) (by rw [e1, e7, e8]; simp only [zi_l16, zi_mul, zi_add]; exact zi_c (by unfold yt_ix; omega)) (by unfold yt_ix; omega) (by omega)
  unfold wY_costVia_267
  rw [c1, hr]
  exact ⟨i1, zi_p (post := post) h (by rw [e9, zi_add]; exact zi_c (by omega))⟩
theorem yw_94 (hc : xc_ok 16 n m x o e A B g_mismatch g_open g_extend b_size b_symbols) (kind i j a c rv : Nat) (hk : kind < 2) (hi : i < n) (hj : j < m) (ha : a < 16) (hcc : c < 16) {x1 x2 x3 x7 x8 : Int32} (e1 : x1 = zi_o kind) (e2 : x2 = zi_o i) (e3 : x3 = zi_o j) (e7 : x7 = zi_o a) (e8 : x8 = zi_o c) (hr : b_rest (yt_ix kind a c) = zi_o rv)
    (h1 : (A i = B j ↔ kind = 0) → post (zi_o (((if kind = 0 then 0 else x) + rv : Nat) : Int))) (h0 : ¬ (A i = B j ↔ kind = 0) → post (zi_o 1000000)) : wY_costVia_94 post x1 x2 x3 x7 x8 0 g_capacity g_mismatch g_open g_extend g_aligned g_columns g_begin g_end g_direction g_position b_symbols b_size b_kinds b_rest b_tape := by
  obtain ⟨hn, hm, hx1, hx7, ho5, he1, he2, hmis, hop, hex, hl0, hl1, hA, hB⟩ := hc
  obtain ⟨i2, c2⟩ := zi_ix (x := x2) (N := 32) i e2 (by omega) (by omega)
  obtain ⟨i3, c3⟩ := zi_ix (x := 16 + x3) (N := 32) (16 + j) (by rw [e3, zi_l16, zi_add]; exact zi_c (by omega)) (by omega) (by omega)
  unfold wY_costVia_94
  rw [c2, c3, hA i hi, hB j hj]
  refine ⟨i2, i3, fun z => ?_, fun z => ?_⟩
  · refine zi_beq (kind : Int) 0 e1 zi_l0 (by omega) (fun y => ?_) (fun y => ?_)
    · have h2 := h1 ⟨fun _ => by omega, fun _ => z⟩
      rw [if_pos (by omega)] at h2
      refine br_t rfl (br_f (by decide) ?_)
      exact yw_267 kind a c 0 rv (by omega) ha hcc e1 e7 e8 zi_l0 hr h2
    · refine br_f (by decide) ?_
      exact zi_p (post := post) (h0 (fun w => y (by have := w.mp z; omega))) zi_lF
  · refine zi_beq (kind : Int) 0 e1 zi_l0 (by omega) (fun y => ?_) (fun y => ?_)
    · refine br_f (by decide) ?_
      exact zi_p (post := post) (h0 (fun w => z (w.mpr (by omega)))) zi_lF
    · have h2 := h1 ⟨fun w => absurd w z, fun w => by omega⟩
      rw [if_neg (by omega)] at h2
      refine br_t rfl (br_t rfl ?_)
      exact yw_267 kind a c x rv (by omega) ha hcc e1 e7 e8 hmis hr h2
theorem yw_200 (hc : xc_ok 16 n m x o e A B g_mismatch g_open g_extend b_size b_symbols) (hb : b ≤ 2) (hf : f ≤ 2) (hbeg : g_begin = zi_o b) (hend : g_end = zi_o f) (kind last a c rv : Nat) (lr : Bool) (hk2 : 2 ≤ kind) (hk : kind < 4) (hlast : last ≤ 4) (ha : a < 16) (hcc : c < 16)
    {x1 x4 x7 x8 x10 z0 : Int32} (e1 : x1 = zi_o kind) (e4 : x4 = zi_o last) (e7 : x7 = zi_o a) (e8 : x8 = zi_o c) (e10 : x10 = zi_o ((kind - 1 : Nat) : Int)) (ez : z0 = zi_o (if lr = true then 1 else 0)) (hr : b_rest (yt_ix kind a c) = zi_o rv)
    (h : post (zi_o (((if yt_lay b last = kind - 1 ∨ (lr = true ∧ f = kind - 1) then 0 else o) + e + rv : Nat) : Int))) : wY_costVia_200 post x1 x4 x7 x8 x10 z0 g_capacity g_mismatch g_open g_extend g_aligned g_columns g_begin g_end g_direction g_position b_symbols b_size b_kinds b_rest b_tape := by
  obtain ⟨hn, hm, hx1, hx7, ho5, he1, he2, hmis, hop, hex, hl0, hl1, hA, hB⟩ := hc
  have h249 : (yt_lay b last = kind - 1 ∨ (lr = true ∧ f = kind - 1)) → wY_costVia_249 post x1 x7 x8 g_capacity g_mismatch g_open g_extend g_aligned g_columns g_begin g_end g_direction g_position b_symbols b_size b_kinds b_rest b_tape := by
    intro hz
    rw [if_pos hz, Nat.zero_add] at h
    unfold wY_costVia_249 wY_costVia_265
    exact yw_267 kind a c e rv (by omega) ha hcc e1 e7 e8 hex hr h
  have h231 : (yt_lay b last = kind - 1 ∨ (lr = true ∧ f = kind - 1)) → wY_costVia_231 post x1 x4 x7 x8 g_capacity g_mismatch g_open g_extend g_aligned g_columns g_begin g_end g_direction g_position b_symbols b_size b_kinds b_rest b_tape := by
    intro hz
    refine br_c (fun _ => h249 hz) (fun _ => br_f (by decide) (h249 hz))
  have h235 : ¬ (last = 4 ∧ b = kind - 1) → ¬ (lr = true ∧ f = kind - 1) → wY_costVia_235 post x1 x4 x7 x8 g_capacity g_mismatch g_open g_extend g_aligned g_columns g_begin g_end g_direction g_position b_symbols b_size b_kinds b_rest b_tape := by
    intro hz1 hz2
    refine zi_beq (last : Int) kind e4 e1 (by omega) (fun z => h249 (Or.inl ?_)) (fun z => br_t rfl ?_)
    · unfold yt_lay tp_lay
      rw [if_neg (by omega), if_neg (by omega)]
      omega
    · have hno : ¬ (yt_lay b last = kind - 1 ∨ (lr = true ∧ f = kind - 1)) := by
        intro y
        rcases y with y | y
        · unfold yt_lay tp_lay at y
          by_cases w : last = 4
          · rw [if_pos w] at y; exact hz1 ⟨w, y⟩
          · rw [if_neg w] at y
            split at y <;> omega
        · exact hz2 y
      rw [if_neg hno] at h
      exact yw_267 kind a c (o + e) rv (by omega) ha hcc e1 e7 e8 (by rw [hop, hex, zi_add]; exact zi_c (by omega)) hr h
  have h217 : ¬ (last = 4 ∧ b = kind - 1) → wY_costVia_217 post x1 x4 x7 x8 x10 z0 g_capacity g_mismatch g_open g_extend g_aligned g_columns g_begin g_end g_direction g_position b_symbols b_size b_kinds b_rest b_tape := by
    intro hz1
    cases lr with
    | false =>
      refine br_t (by rw [ez]; decide) (h235 hz1 (by intro y; exact absurd y.1 (by decide)))
    | true =>
      refine br_f (by rw [ez]; decide) ?_
      refine zi_beq (f : Int) ((kind - 1 : Nat) : Int) hend e10 (by omega) (fun z => h231 (Or.inr ⟨rfl, by omega⟩)) (fun z => h235 hz1 (by intro y; omega))
  refine zi_beq (last : Int) 4 e4 zi_l4 (by omega) (fun z => ?_) (fun z => h217 (by intro y; omega))
  refine zi_beq (b : Int) ((kind - 1 : Nat) : Int) hbeg e10 (by omega) (fun z2 => h231 (Or.inl ?_)) (fun z2 => h217 (by intro y; omega))
  unfold yt_lay
  rw [if_pos (by omega)]
  omega
/-- within a box with the far corner N, M -/
theorem yw_viaC (hc : xc_ok 16 n m x o e A B g_mismatch g_open g_extend b_size b_symbols) (hb : b ≤ 2) (hf : f ≤ 2) (hbeg : g_begin = zi_o b) (hend : g_end = zi_o f)
    (kind i j last pi pj N M : Nat) (bi bd : Bool) (base : Nat → Nat) (hk : kind < 4) (hlast : last ≤ 4) (hi : i ≤ N) (hj : j ≤ M) (hN : N ≤ n) (hM : M ≤ m) (hpi : pi ≤ 15) (hpj : pj ≤ 15)
    (hbox : (N = pi ∧ M = pj ∧ (i < pi ∨ j < pj)) ∨ (N = n ∧ M = m ∧ pi ≤ i ∧ pj ≤ j))
    (hbi : (i = N ∧ bi = true) ↔ (i = n ∧ f = 1)) (hbd : (j = M ∧ bd = true) ↔ (j = m ∧ f = 2))
    (hrest : ∀ a c : Nat, a ≤ N → c ≤ M → i ≤ a → j ≤ c → (i < a ∨ j < c) → b_rest (yt_ix kind a c) = zi_o (cw_C (th_gf A B N M) x o e bi bd base (tp_lay kind) (N - a) (M - c) : Nat))
    {p0 p1 p2 p3 p4 p5 : Int32} (e0 : p0 = zi_o kind) (e1 : p1 = zi_o i) (e2 : p2 = zi_o j) (e3 : p3 = zi_o last) (e4 : p4 = zi_o pi) (e5 : p5 = zi_o pj)
    (h : post (zi_o (cw_V (th_gf A B N M) x o e bi bd base kind (yt_lay b last) (N - i) (M - j) : Nat))) : wpY_costVia post (g_capacity, g_mismatch, g_open, g_extend, g_aligned, g_columns, g_begin, g_end, g_direction, g_position, b_symbols, b_size, b_kinds, b_rest, b_tape) p0 p1 p2 p3 p4 p5 := by
  have hc' := hc
  obtain ⟨hn, hm, hx1, hx7, ho5, he1, he2, hmis, hop, hex, hl0, hl1, hA, hB⟩ := hc'
  have h26 : ∀ (x7 z0 : Int32) (a c : Nat), x7 = zi_o a → z0 = zi_o c → a ≤ n + 1 → c ≤ m + 1 → i ≤ a → j ≤ c → (¬ (a ≤ N ∧ c ≤ M) → post (zi_o 1000000)) → (a ≤ N → c ≤ M → wY_costVia_82 post p0 p1 p2 p3 x7 z0 g_capacity g_mismatch g_open g_extend g_aligned g_columns g_begin g_end g_direction g_position b_symbols b_size b_kinds b_rest b_tape) → wY_costVia_26 post p0 p1 p2 p3 p4 p5 x7 z0 g_capacity g_mismatch g_open g_extend g_aligned g_columns g_begin g_end g_direction g_position b_symbols b_size b_kinds b_rest b_tape := by
    intro x7 z0 a c e7 e8 ha hcc hia hjc hno hyes
    have hfar : ¬ (a ≤ N ∧ c ≤ M) → post 1000000 := fun y => zi_p (post := post) (hno y) zi_lF
    have h67 : (pi < a ∨ pj < c) → c ≤ m → a ≤ n → wY_costVia_67 post p0 p1 p2 p3 p4 p5 x7 z0 g_capacity g_mismatch g_open g_extend g_aligned g_columns g_begin g_end g_direction g_position b_symbols b_size b_kinds b_rest b_tape := by
      intro hgt hcm han
      refine zi_blt (i : Int) pi e1 e4 (by omega) (fun z => hfar (by omega)) (fun z => ?_)
      refine zi_ble (pj : Int) j e5 e2 (by omega) (fun z2 => hyes (by omega) (by omega)) (fun z2 => hfar (by omega))
    refine zi_blt (n : Int) a hl0 e7 (by omega) (fun z => hfar (by omega)) (fun z => ?_)
    refine zi_ble (c : Int) m e8 hl1 (by omega) (fun z2 => ?_) (fun z2 => hfar (by omega))
    refine zi_blt (pi : Int) a e4 e7 (by omega) (fun z3 => h67 (by omega) (by omega) (by omega)) (fun z3 => ?_)
    refine zi_ble (c : Int) pj e8 e5 (by omega) (fun z4 => hyes (by omega) (by omega)) (fun z4 => h67 (by omega) (by omega) (by omega))
  have e1s : p1 + 1 = zi_o ((i + 1 : Nat) : Int) := by rw [e1, zi_l1, zi_add]; exact zi_c (by omega)
  have e2s : p2 + 1 = zi_o ((j + 1 : Nat) : Int) := by rw [e2, zi_l1, zi_add]; exact zi_c (by omega)
  unfold cw_V at h
  unfold wpY_costVia
  have hk4 : kind = 0 ∨ kind = 1 ∨ kind = 2 ∨ kind = 3 := by omega
  have hgf : 0 < N - i → 0 < M - j → (th_gf A B N M (N - i - 1) (M - j - 1) = true ↔ A i = B j) := by
    intro y1 y2
    unfold th_gf
    rw [decide_eq_true_iff, show N - 1 - (N - i - 1) = i by omega, show M - 1 - (M - j - 1) = j by omega]
  rcases hk4 with rfl | rfl | rfl | rfl
  · rw [if_pos rfl] at h
    refine br_f (by rw [e0]; decide) (br_f (by rw [e0]; decide) ?_)
    refine h26 _ _ (i + 1) (j + 1) e1s e2s (by omega) (by omega) (by omega) (by omega) (fun y => ?_) (fun y1 y2 => ?_)
    · rw [if_neg (by intro w; omega)] at h; exact h
    · have hg := hgf (by omega) (by omega)
      refine br_t (by rw [e0]; decide) ?_
      refine yw_94 hc 0 i j (i + 1) (j + 1) _ (by omega) (by omega) (by omega) (by omega) (by omega) e0 e1 e2 e1s e2s (hrest (i + 1) (j + 1) y1 y2 (by omega) (by omega) (by omega)) (fun y => ?_) (fun y => ?_)
      · rw [if_pos ⟨by omega, by omega, hg.mpr (y.mpr rfl)⟩] at h
        rw [if_pos rfl, Nat.zero_add]; exact h
      · rw [if_neg (fun w => y ⟨fun _ => rfl, fun _ => hg.mp w.2.2⟩)] at h; exact h
  · rw [if_neg (by decide), if_pos rfl] at h
    refine br_f (by rw [e0]; decide) (br_f (by rw [e0]; decide) ?_)
    refine h26 _ _ (i + 1) (j + 1) e1s e2s (by omega) (by omega) (by omega) (by omega) (fun y => ?_) (fun y1 y2 => ?_)
    · rw [if_neg (by intro w; omega)] at h; exact h
    · have hg := hgf (by omega) (by omega)
      refine br_f (by rw [e0]; decide) (br_t (by rw [e0]; decide) ?_)
      refine yw_94 hc 1 i j (i + 1) (j + 1) _ (by omega) (by omega) (by omega) (by omega) (by omega) e0 e1 e2 e1s e2s (hrest (i + 1) (j + 1) y1 y2 (by omega) (by omega) (by omega)) (fun y => ?_) (fun y => ?_)
      · rw [if_pos ⟨by omega, by omega, fun w => absurd (y.mp (hg.mp w)) (by decide)⟩] at h
        rw [if_neg (by decide)]; exact h
      · rw [if_neg (fun w => y ⟨fun v => absurd (hg.mpr v) w.2.2, fun v => absurd v (by decide)⟩)] at h; exact h
  · rw [if_neg (by decide), if_neg (by decide), if_pos rfl] at h
    refine br_t (by rw [e0]; decide) (br_f (by rw [e0]; decide) ?_)
    refine h26 _ _ i (j + 1) e1 e2s (by omega) (by omega) (by omega) (by omega) (fun y => ?_) (fun y1 y2 => ?_)
    · rw [if_neg (by omega)] at h; exact h
    · rw [if_pos (by omega)] at h
      refine br_f (by rw [e0]; decide) (br_f (by rw [e0]; decide) (br_t (by rw [e0]; decide) ?_))
      refine br_t (by rw [e0]; decide) ?_
      have hfin : ∀ (lr : Bool) (z0 : Int32), (lr = true ↔ i = n) → z0 = zi_o (if lr = true then 1 else 0) → wY_costVia_200 post p0 p3 p1 (p2 + 1) 1 z0 g_capacity g_mismatch g_open g_extend g_aligned g_columns g_begin g_end g_direction g_position b_symbols b_size b_kinds b_rest b_tape := by
        intro lr z0 hlr ez
        refine yw_200 hc hb hf hbeg hend 2 last i (j + 1) _ lr (by omega) (by omega) hlast (by omega) (by omega) e0 e3 e1 e2s zi_l1 ez (hrest i (j + 1) y1 y2 (by omega) (by omega) (by omega)) ?_
        have hoi : (if yt_lay b last = 2 - 1 ∨ (lr = true ∧ f = 2 - 1) then 0 else o) = cw_oi o bi (yt_lay b last) (N - i) := by
          unfold cw_oi
          have hiff : (yt_lay b last = 2 - 1 ∨ (lr = true ∧ f = 2 - 1)) ↔ (yt_lay b last = 1 ∨ (N - i = 0 ∧ bi = true)) := by
            constructor
            · intro w
              rcases w with w | w
              · exact Or.inl w
              · have := hbi.mpr ⟨hlr.mp w.1, w.2⟩
                exact Or.inr ⟨by omega, this.2⟩
            · intro w
              rcases w with w | w
              · exact Or.inl w
              · have := hbi.mp ⟨by omega, w.2⟩
                exact Or.inr ⟨hlr.mpr this.1, this.2⟩
          by_cases w : yt_lay b last = 1 ∨ (N - i = 0 ∧ bi = true)
          · rw [if_pos w, if_pos (hiff.mpr w)]
          · rw [if_neg w, if_neg (fun v => w (hiff.mp v))]
        rw [hoi]
        exact h
      refine zi_beq (i : Int) n e1 hl0 (by omega) (fun z => hfin true 1 ⟨fun _ => by omega, fun _ => rfl⟩ zi_l1) (fun z => hfin false 0 ⟨fun w => absurd w (by decide), fun w => by omega⟩ zi_l0)
  · rw [if_neg (by decide), if_neg (by decide), if_neg (by decide)] at h
    refine br_f (by rw [e0]; decide) (br_t (by rw [e0]; decide) ?_)
    refine h26 _ _ (i + 1) j e1s e2 (by omega) (by omega) (by omega) (by omega) (fun y => ?_) (fun y1 y2 => ?_)
    · rw [if_neg (by omega)] at h; exact h
    · rw [if_pos (by omega)] at h
      refine br_f (by rw [e0]; decide) (br_f (by rw [e0]; decide) (br_f (by rw [e0]; decide) ?_))
      refine br_f (by rw [e0]; decide) ?_
      have hfin : ∀ (lr : Bool) (z0 : Int32), (lr = true ↔ j = m) → z0 = zi_o (if lr = true then 1 else 0) → wY_costVia_200 post p0 p3 (p1 + 1) p2 2 z0 g_capacity g_mismatch g_open g_extend g_aligned g_columns g_begin g_end g_direction g_position b_symbols b_size b_kinds b_rest b_tape := by
        intro lr z0 hlr ez
        refine yw_200 hc hb hf hbeg hend 3 last (i + 1) j _ lr (by omega) (by omega) hlast (by omega) (by omega) e0 e3 e1s e2 zi_l2 ez (hrest (i + 1) j y1 y2 (by omega) (by omega) (by omega)) ?_
        have hod : (if yt_lay b last = 3 - 1 ∨ (lr = true ∧ f = 3 - 1) then 0 else o) = cw_od o bd (yt_lay b last) (M - j) := by
          unfold cw_od
          have hiff : (yt_lay b last = 3 - 1 ∨ (lr = true ∧ f = 3 - 1)) ↔ (yt_lay b last = 2 ∨ (M - j = 0 ∧ bd = true)) := by
            constructor
            · intro w
              rcases w with w | w
              · exact Or.inl w
              · have := hbd.mpr ⟨hlr.mp w.1, w.2⟩
                exact Or.inr ⟨by omega, this.2⟩
            · intro w
              rcases w with w | w
              · exact Or.inl w
              · have := hbd.mp ⟨by omega, w.2⟩
                exact Or.inr ⟨hlr.mpr this.1, this.2⟩
          by_cases w : yt_lay b last = 2 ∨ (M - j = 0 ∧ bd = true)
          · rw [if_pos w, if_pos (hiff.mpr w)]
          · rw [if_neg w, if_neg (fun v => w (hiff.mp v))]
        rw [hod]
        exact h
      refine zi_beq (j : Int) m e2 hl1 (by omega) (fun z => hfin true 1 ⟨fun _ => by omega, fun _ => rfl⟩ zi_l1) (fun z => hfin false 0 ⟨fun w => absurd w (by decide), fun w => by omega⟩ zi_l0)
/-- outside of both boxes -/
theorem yw_viaN (hc : xc_ok 16 n m x o e A B g_mismatch g_open g_extend b_size b_symbols) (kind i j last pi pj : Nat) (hk : kind < 4) (hi : i ≤ n) (hj : j ≤ m) (hpi : pi ≤ 15) (hpj : pj ≤ 15) (hbox : (i < pi ∧ pj < j) ∨ (pi < i ∧ j < pj))
    {p0 p1 p2 p3 p4 p5 : Int32} (e0 : p0 = zi_o kind) (e1 : p1 = zi_o i) (e2 : p2 = zi_o j) (e4 : p4 = zi_o pi) (e5 : p5 = zi_o pj)
    (h : post (zi_o 1000000)) : wpY_costVia post (g_capacity, g_mismatch, g_open, g_extend, g_aligned, g_columns, g_begin, g_end, g_direction, g_position, b_symbols, b_size, b_kinds, b_rest, b_tape) p0 p1 p2 p3 p4 p5 := by
  have hc' := hc
  obtain ⟨hn, hm, hx1, hx7, ho5, he1, he2, hmis, hop, hex, hl0, hl1, hA, hB⟩ := hc'
  have hfar : post 1000000 := zi_p (post := post) h zi_lF
  have h26 : ∀ (x7 z0 : Int32) (a c : Nat), x7 = zi_o a → z0 = zi_o c → a ≤ n + 1 → c ≤ m + 1 → i ≤ a → j ≤ c → wY_costVia_26 post p0 p1 p2 p3 p4 p5 x7 z0 g_capacity g_mismatch g_open g_extend g_aligned g_columns g_begin g_end g_direction g_position b_symbols b_size b_kinds b_rest b_tape := by
    intro x7 z0 a c e7 e8 ha hcc hia hjc
    have h67 : wY_costVia_67 post p0 p1 p2 p3 p4 p5 x7 z0 g_capacity g_mismatch g_open g_extend g_aligned g_columns g_begin g_end g_direction g_position b_symbols b_size b_kinds b_rest b_tape := by
      refine zi_blt (i : Int) pi e1 e4 (by omega) (fun z => hfar) (fun z => ?_)
      refine zi_ble (pj : Int) j e5 e2 (by omega) (fun z2 => by omega) (fun z2 => hfar)
    refine zi_blt (n : Int) a hl0 e7 (by omega) (fun z => hfar) (fun z => ?_)
    refine zi_ble (c : Int) m e8 hl1 (by omega) (fun z2 => ?_) (fun z2 => hfar)
    refine zi_blt (pi : Int) a e4 e7 (by omega) (fun z3 => h67) (fun z3 => ?_)
    refine zi_ble (c : Int) pj e8 e5 (by omega) (fun z4 => by omega) (fun z4 => h67)
  have e1s : p1 + 1 = zi_o ((i + 1 : Nat) : Int) := by rw [e1, zi_l1, zi_add]; exact zi_c (by omega)
  have e2s : p2 + 1 = zi_o ((j + 1 : Nat) : Int) := by rw [e2, zi_l1, zi_add]; exact zi_c (by omega)
  unfold wpY_costVia
  refine br_c (fun _ => br_c (fun _ => ?_) (fun _ => ?_)) (fun _ => br_c (fun _ => ?_) (fun _ => ?_))
  · exact h26 _ _ i j e1 e2 (by omega) (by omega) (by omega) (by omega)
  · exact h26 _ _ i (j + 1) e1 e2s (by omega) (by omega) (by omega) (by omega)
  · exact h26 _ _ (i + 1) j e1s e2 (by omega) (by omega) (by omega) (by omega)
  · exact h26 _ _ (i + 1) (j + 1) e1s e2s (by omega) (by omega) (by omega) (by omega)
end
end
section
/-! 15 the reference fills its table -/
def yt_R (A B : Nat → Int32) (x o e b f n m pi pj last i j : Nat) : Nat :=
  if i ≤ pi ∧ j ≤ pj then th_T A B x o e f n m pi pj (yt_lay b last) (pi - i) (pj - j)
  else if pi ≤ i ∧ pj ≤ j then th_F A B x o e f n m (yt_lay b last) (n - i) (m - j) else 1000000
def yt_V (A B : Nat → Int32) (x o e b f n m pi pj kind last i j : Nat) : Nat :=
  if i ≤ pi ∧ j ≤ pj ∧ (i < pi ∨ j < pj) then cw_V (th_gf A B pi pj) x o e (decide (pi = n ∧ f = 1)) (decide (pj = m ∧ f = 2)) (fun L => th_F A B x o e f n m L (n - pi) (m - pj)) kind (yt_lay b last) (pi - i) (pj - j)
  else if pi ≤ i ∧ pj ≤ j then cw_V (th_gf A B n m) x o e (decide (f = 1)) (decide (f = 2)) cw_z kind (yt_lay b last) (n - i) (m - j) else 1000000
def yt_ok (A B : Nat → Int32) (x o e b f n m pi pj : Nat) (i0 j0 : Int) (rest : Nat → Int32) : Prop :=
  ∀ last i j : Nat, last ≤ 4 → i ≤ n → j ≤ m → (i0 < i ∨ (i0 = i ∧ j0 < j)) → rest (yt_ix last i j) = zi_o (yt_R A B x o e b f n m pi pj last i j : Nat)
theorem cw_Vle {G : Nat → Nat → Bool} {x o e : Nat} {bi bd : Bool} {base : Nat → Nat} (hb : ∀ L, base L ≤ 70) {p q : Nat} (hp : p ≤ 15) (hq : q ≤ 15) (hx : x ≤ 7) (ho : o ≤ 5) (he : e ≤ 2) (kind L : Nat) : cw_V G x o e bi bd base kind L p q ≤ 1000000 := by
  have hC : ∀ L' p' q', p' ≤ 15 → q' ≤ 15 → cw_C G x o e bi bd base L' p' q' ≤ 200 := by
    intro L' p' q' h1 h2
    have h3 := cw_b (G := G) (x := x) (o := o) (e := e) (bi := bi) (bd := bd) (base := base) hb L' p' q'
    have h4 : e * (p' + q') ≤ 2 * (p' + q') := Nat.mul_le_mul_right _ he
    omega
  have h1 := hC 0 (p - 1) (q - 1) (by omega) (by omega)
  have h2 := hC 1 p (q - 1) (by omega) (by omega)
  have h3 := hC 2 (p - 1) q (by omega) (by omega)
  have h4 := cw_oi_le (o := o) (bi := bi) L p
  have h5 := cw_od_le (o := o) (bd := bd) L q
  unfold cw_V
  split
  · split <;> omega
  · split
    · split <;> omega
    · split
      · split <;> omega
      · split <;> omega
theorem cw_Vm {G : Nat → Nat → Bool} {x o e : Nat} {bi bd : Bool} {base : Nat → Nat} {L p q : Nat} (hpq : 0 < p ∨ 0 < q) (hC : cw_C G x o e bi bd base L p q < 1000000) :
    min (min (min (min 1000000 (cw_V G x o e bi bd base 0 L p q)) (cw_V G x o e bi bd base 1 L p q)) (cw_V G x o e bi bd base 2 L p q)) (cw_V G x o e bi bd base 3 L p q) = cw_C G x o e bi bd base L p q := by
  have h0 := cw_Vge hC 0
  have h1 := cw_Vge hC 1
  have h2 := cw_Vge hC 2
  have h3 := cw_Vge hC 3
  obtain ⟨k, hk, hV⟩ := cw_Vex (G := G) (x := x) (o := o) (e := e) (bi := bi) (bd := bd) (base := base) (L := L) hpq
  have : k = 0 ∨ k = 1 ∨ k = 2 ∨ k = 3 := by omega
  rcases this with rfl | rfl | rfl | rfl <;> omega
theorem cw_V00 {G : Nat → Nat → Bool} {x o e : Nat} {bi bd : Bool} {base : Nat → Nat} {L : Nat} (kind : Nat) : cw_V G x o e bi bd base kind L 0 0 = 1000000 := by
  unfold cw_V
  split
  · rw [if_neg (by omega)]
  · split
    · rw [if_neg (by omega)]
    · split
      · rw [if_neg (by omega)]
      · rw [if_neg (by omega)]
section
variable {n m x o e b f pi pj : Nat} {A B : Nat → Int32}
theorem yt_Fb (ho : o ≤ 5) (he : e ≤ 2) (L p q : Nat) (hp : p ≤ 15) (hq : q ≤ 15) : th_F A B x o e f n m L p q ≤ 70 := by
  have h1 := tp_Fb (A := A) (B := B) (x := x) (o := o) (e := e) (f := f) (n := n) (m := m) L p q
  have h2 : e * (p + q) ≤ 2 * (p + q) := Nat.mul_le_mul_right _ he
  omega
theorem yt_Tb (ho : o ≤ 5) (he : e ≤ 2) (hn : n ≤ 15) (hm : m ≤ 15) (L p q : Nat) (hp : p ≤ 15) (hq : q ≤ 15) : th_T A B x o e f n m pi pj L p q ≤ 140 := by
  have h1 := cw_b (G := th_gf A B pi pj) (x := x) (o := o) (e := e) (bi := decide (pi = n ∧ f = 1)) (bd := decide (pj = m ∧ f = 2)) (base := fun L => th_F A B x o e f n m L (n - pi) (m - pj)) (K := 70) (fun L => yt_Fb ho he L _ _ (by omega) (by omega)) L p q
  have h2 : e * (p + q) ≤ 2 * (p + q) := Nat.mul_le_mul_right _ he
  unfold th_T
  omega
theorem yt_Vle (hx : x ≤ 7) (ho : o ≤ 5) (he : e ≤ 2) (hn : n ≤ 15) (hm : m ≤ 15) (hpi : pi ≤ n) (hpj : pj ≤ m) (kind last i j : Nat) : yt_V A B x o e b f n m pi pj kind last i j ≤ 1000000 := by
  unfold yt_V
  split
  · exact cw_Vle (fun L => yt_Fb ho he L _ _ (by omega) (by omega)) (by omega) (by omega) hx ho he _ _
  · split
    · exact cw_Vle (fun L => Nat.zero_le _) (by omega) (by omega) hx ho he _ _
    · omega
theorem yt_Rle (ho : o ≤ 5) (he : e ≤ 2) (hn : n ≤ 15) (hm : m ≤ 15) (hpi : pi ≤ n) (hpj : pj ≤ m) (last i j : Nat) : yt_R A B x o e b f n m pi pj last i j ≤ 1000000 := by
  unfold yt_R
  split
  · have := yt_Tb (A := A) (B := B) (x := x) (f := f) (pi := pi) (pj := pj) ho he hn hm (yt_lay b last) (pi - i) (pj - j) (by omega) (by omega)
    omega
  · split
    · have := yt_Fb (A := A) (B := B) (x := x) (f := f) (n := n) (m := m) ho he (yt_lay b last) (n - i) (m - j) (by omega) (by omega)
      omega
    · omega
theorem yt_min (ho : o ≤ 5) (he : e ≤ 2) (hn : n ≤ 15) (hm : m ≤ 15) (hpi : pi ≤ n) (hpj : pj ≤ m) (last i j : Nat) (hi : i ≤ n) (hj : j ≤ m) :
    min (min (min (min (if i = n ∧ j = m then 0 else 1000000) (yt_V A B x o e b f n m pi pj 0 last i j)) (yt_V A B x o e b f n m pi pj 1 last i j)) (yt_V A B x o e b f n m pi pj 2 last i j)) (yt_V A B x o e b f n m pi pj 3 last i j) = yt_R A B x o e b f n m pi pj last i j := by
  unfold yt_V yt_R
  by_cases h2 : i ≤ pi ∧ j ≤ pj ∧ (i < pi ∨ j < pj)
  · simp only [if_pos h2]
    rw [if_neg (by intro y; omega), if_pos ⟨h2.1, h2.2.1⟩]
    exact cw_Vm (by omega) (Nat.lt_of_le_of_lt (yt_Tb (A := A) (B := B) (x := x) (f := f) (pi := pi) (pj := pj) ho he hn hm (yt_lay b last) (pi - i) (pj - j) (by omega) (by omega)) (by decide))
  · simp only [if_neg h2]
    by_cases h1 : pi ≤ i ∧ pj ≤ j
    · simp only [if_pos h1]
      have hR : (if i ≤ pi ∧ j ≤ pj then th_T A B x o e f n m pi pj (yt_lay b last) (pi - i) (pj - j) else th_F A B x o e f n m (yt_lay b last) (n - i) (m - j)) = th_F A B x o e f n m (yt_lay b last) (n - i) (m - j) := by
        by_cases h3 : i ≤ pi ∧ j ≤ pj
        · rw [if_pos h3]
          obtain rfl : i = pi := by omega
          obtain rfl : j = pj := by omega
          rw [Nat.sub_self, Nat.sub_self, th_T00]
        · rw [if_neg h3]
      rw [hR]
      by_cases h4 : i = n ∧ j = m
      · rw [if_pos h4, h4.1, h4.2, Nat.sub_self, Nat.sub_self]
        simp only [cw_V00]
        exact (cw_00 (G := th_gf A B n m) (x := x) (o := o) (e := e) (bi := decide (f = 1)) (bd := decide (f = 2)) (base := cw_z) (L := yt_lay b last)).symm
      · rw [if_neg h4]
        exact cw_Vm (by omega) (Nat.lt_of_le_of_lt (yt_Fb (A := A) (B := B) (x := x) (f := f) (n := n) (m := m) ho he (yt_lay b last) (n - i) (m - j) (by omega) (by omega)) (by decide))
    · simp only [if_neg h1]
      rw [if_neg (by intro y; omega), if_neg (by intro y; omega)]
      rfl
end
section
variable {g_capacity g_mismatch g_open g_extend g_aligned g_columns g_begin g_end g_direction g_position : Int32} {b_symbols b_size b_kinds b_rest b_tape : Nat → Int32} {n m x o e b f pi pj : Nat} {A B : Nat → Int32}
theorem yw_via (hc : xc_ok 16 n m x o e A B g_mismatch g_open g_extend b_size b_symbols) (hb : b ≤ 2) (hf : f ≤ 2) (hbeg : g_begin = zi_o b) (hend : g_end = zi_o f) {post : Int32 → Prop}
    (kind i j last : Nat) (hk : kind < 4) (hlast : last ≤ 4) (hi : i ≤ n) (hj : j ≤ m) (hpi : pi ≤ n) (hpj : pj ≤ m)
    (hrest : ∀ a c : Nat, a ≤ n → c ≤ m → (i < a ∨ (i = a ∧ j < c)) → b_rest (yt_ix kind a c) = zi_o (yt_R A B x o e b f n m pi pj kind a c : Nat))
    {p0 p1 p2 p3 p4 p5 : Int32} (e0 : p0 = zi_o kind) (e1 : p1 = zi_o i) (e2 : p2 = zi_o j) (e3 : p3 = zi_o last) (e4 : p4 = zi_o pi) (e5 : p5 = zi_o pj)
    (h : post (zi_o (yt_V A B x o e b f n m pi pj kind last i j : Nat))) : wpY_costVia post (g_capacity, g_mismatch, g_open, g_extend, g_aligned, g_columns, g_begin, g_end, g_direction, g_position, b_symbols, b_size, b_kinds, b_rest, b_tape) p0 p1 p2 p3 p4 p5 := by
  have hn := hc.1
  have hm := hc.2.1
  have hlay : yt_lay b kind = tp_lay kind := if_neg (by omega)
  unfold yt_V at h
  by_cases h2 : i ≤ pi ∧ j ≤ pj ∧ (i < pi ∨ j < pj)
  · rw [if_pos h2] at h
    refine yw_viaC hc hb hf hbeg hend kind i j last pi pj pi pj (decide (pi = n ∧ f = 1)) (decide (pj = m ∧ f = 2)) (fun L => th_F A B x o e f n m L (n - pi) (m - pj)) hk hlast h2.1 h2.2.1 hpi hpj (by omega) (by omega) (Or.inl ⟨rfl, rfl, h2.2.2⟩) ?_ ?_ ?_ e0 e1 e2 e3 e4 e5 h
    · rw [decide_eq_true_iff]; constructor <;> intro y <;> omega
    · rw [decide_eq_true_iff]; constructor <;> intro y <;> omega
    · intro a c ha hcc hia hjc hlt
      rw [hrest a c (by omega) (by omega) (by omega)]
      unfold yt_R
      rw [if_pos ⟨ha, hcc⟩, hlay]
      rfl
  · rw [if_neg h2] at h
    by_cases h1 : pi ≤ i ∧ pj ≤ j
    · rw [if_pos h1] at h
      refine yw_viaC hc hb hf hbeg hend kind i j last pi pj n m (decide (f = 1)) (decide (f = 2)) cw_z hk hlast hi hj (Nat.le_refl _) (Nat.le_refl _) (by omega) (by omega) (Or.inr ⟨rfl, rfl, h1⟩) ?_ ?_ ?_ e0 e1 e2 e3 e4 e5 h
      · rw [decide_eq_true_iff]
      · rw [decide_eq_true_iff]
      · intro a c ha hcc hia hjc hlt
        rw [hrest a c (by omega) (by omega) (by omega)]
        unfold yt_R
        rw [if_neg (by intro y; omega), if_pos ⟨by omega, by omega⟩, hlay]
        rfl
    · rw [if_neg h1] at h
      exact yw_viaN hc kind i j last pi pj hk hi hj (by omega) (by omega) (by omega) e0 e1 e2 e4 e5 h
theorem yw_fp40 {post : SY → Prop} {J3 : Int32 → (Nat → Int32) → (Nat → Int32) → (Nat → Int32) → (Nat → Int32) → (Nat → Int32) → Prop} {x1 x2 x3 x4 x5 x7 : Int32} (kind bst V : Nat) (hk : kind < 4) (hbst : bst ≤ 1000000) (hV : V ≤ 1000000)
    (e7 : x7 = zi_o kind) (hvia : ∀ post : Int32 → Prop, post (zi_o V) → wpY_costVia post (g_capacity, g_mismatch, g_open, g_extend, g_aligned, g_columns, g_begin, g_end, g_direction, g_position, b_symbols, b_size, b_kinds, b_rest, b_tape) (zi_o kind) x1 x2 x5 x3 x4) (N : Nat)
    (h : wY_fillPoint_40 post J3 x1 x2 x3 x4 x5 g_capacity g_mismatch g_open g_extend g_aligned g_columns g_begin g_end g_direction g_position b_symbols b_size b_kinds b_rest b_tape N (zi_o ((min bst V : Nat) : Int)) (zi_o ((kind + 1 : Nat) : Int))) : wY_fillPoint_40 post J3 x1 x2 x3 x4 x5 g_capacity g_mismatch g_open g_extend g_aligned g_columns g_begin g_end g_direction g_position b_symbols b_size b_kinds b_rest b_tape (N + 1) (zi_o bst) x7 := by
  have es : x7 + 1 = zi_o ((kind + 1 : Nat) : Int) := by rw [e7, zi_l1, zi_add]; exact zi_c (by omega)
  refine zi_blt 3 (kind : Int) zi_l3 e7 (by omega) (fun z => by omega) (fun z => ?_)
  rw [e7]
  refine hvia _ ?_
  rw [← e7]
  refine zi_ble (bst : Int) V rfl rfl (by omega) (fun z2 => ?_) (fun z2 => ?_)
  · refine nm_r es ?_
    rw [Nat.min_eq_left (by omega)] at h
    exact h
  · refine nm_r es ?_
    rw [Nat.min_eq_right (by omega)] at h
    exact h
theorem yw_fp3 (hc : xc_ok 16 n m x o e A B g_mismatch g_open g_extend b_size b_symbols) (hb : b ≤ 2) (hf : f ≤ 2) (hbeg : g_begin = zi_o b) (hend : g_end = zi_o f) {post : SY → Prop}
    (i j : Nat) (hi : i ≤ n) (hj : j ≤ m) (hpi : pi ≤ n) (hpj : pj ≤ m) {rest0 : Nat → Int32} (hok : yt_ok A B x o e b f n m pi pj i j rest0)
    (h : ∀ rest' : Nat → Int32, (∀ l a c, l ≤ 4 → a ≤ n → c ≤ m → (a ≠ i ∨ c ≠ j) → rest' (yt_ix l a c) = rest0 (yt_ix l a c)) → (∀ l, l < 5 → rest' (yt_ix l i j) = zi_o (yt_R A B x o e b f n m pi pj l i j : Nat)) → post (g_capacity, g_mismatch, g_open, g_extend, g_aligned, g_columns, g_begin, g_end, g_direction, g_position, b_symbols, b_size, b_kinds, rest', b_tape)) :
    ∀ (d last : Nat) (rest : Nat → Int32) (y5 : Int32), last + d = 5 → y5 = zi_o last → (∀ l a c, l ≤ 4 → a ≤ n → c ≤ m → (a ≠ i ∨ c ≠ j) → rest (yt_ix l a c) = rest0 (yt_ix l a c)) → (∀ l, l < last → rest (yt_ix l i j) = zi_o (yt_R A B x o e b f n m pi pj l i j : Nat)) → ∀ N, d < N →
      wY_fillPoint_3 post (zi_o i) (zi_o j) (zi_o pi) (zi_o pj) g_capacity g_mismatch g_open g_extend g_aligned g_columns g_begin g_end g_direction g_position N y5 b_symbols b_size b_kinds rest b_tape := by
  have hc' := hc
  obtain ⟨hn, hm, hx1, hx7, ho5, he1, he2, hmis, hop, hex, hl0, hl1, hA, hB⟩ := hc'
  intro d
  induction d with
  | zero =>
    intro last rest y5 hd e5 hfr hdone N hN
    cases N with
    | zero => omega
    | succ N =>
      refine zi_blt 4 (last : Int) zi_l4 e5 (by omega) (fun z => ?_) (fun z => by omega)
      exact h rest hfr (fun l hl => hdone l (by omega))
  | succ d ih =>
    intro last rest y5 hd e5 hfr hdone N hN
    cases N with
    | zero => omega
    | succ N =>
      have hvia : ∀ kind, kind < 4 → ∀ post' : Int32 → Prop, post' (zi_o (yt_V A B x o e b f n m pi pj kind last i j : Nat)) → wpY_costVia post' (g_capacity, g_mismatch, g_open, g_extend, g_aligned, g_columns, g_begin, g_end, g_direction, g_position, b_symbols, b_size, b_kinds, rest, b_tape) (zi_o kind) (zi_o i) (zi_o j) y5 (zi_o pi) (zi_o pj) := by
        intro kind hk post' hp
        refine yw_via hc hb hf hbeg hend kind i j last hk (by omega) hi hj hpi hpj (fun a c ha hcc hlt => ?_) rfl rfl rfl e5 rfl rfl hp
        rw [hfr kind a c (by omega) ha hcc (by omega)]
        exact hok kind a c (by omega) ha hcc (by omega)
      have hVle : ∀ kind, yt_V A B x o e b f n m pi pj kind last i j ≤ 1000000 := fun kind => yt_Vle hx7 ho5 he2 hn hm hpi hpj kind last i j
      have h40 : ∀ (init : Nat) (y6 : Int32), init ≤ 1000000 → y6 = zi_o init → init = (if i = n ∧ j = m then 0 else 1000000) → ∃ n40, wY_fillPoint_40 post (wY_fillPoint_3 post (zi_o i) (zi_o j) (zi_o pi) (zi_o pj) g_capacity g_mismatch g_open g_extend g_aligned g_columns g_begin g_end g_direction g_position N) (zi_o i) (zi_o j) (zi_o pi) (zi_o pj) y5 g_capacity g_mismatch g_open g_extend g_aligned g_columns g_begin g_end g_direction g_position b_symbols b_size b_kinds rest b_tape n40 y6 0 := by
        intro init y6 hinit e6 hie
        have hmin := yt_min (A := A) (B := B) (x := x) (b := b) (f := f) (pi := pi) (pj := pj) ho5 he2 hn hm hpi hpj last i j hi hj
        rw [← hie] at hmin
        subst e6
        refine ⟨5, ?_⟩
        refine yw_fp40 0 init _ (by omega) hinit (hVle 0) zi_l0 (hvia 0 (by omega)) 4 ?_
        refine yw_fp40 1 _ _ (by omega) (by omega) (hVle 1) rfl (hvia 1 (by omega)) 3 ?_
        refine yw_fp40 2 _ _ (by omega) (by omega) (hVle 2) rfl (hvia 2 (by omega)) 2 ?_
        refine yw_fp40 3 _ _ (by omega) (by omega) (hVle 3) rfl (hvia 3 (by omega)) 1 ?_
        rw [hmin]
        refine br_t (by decide) ?_
        obtain ⟨i1, c1⟩ := zi_ix (x := ((y5 * 16) + zi_o i) * 16 + zi_o j) (N := 1280) (yt_ix last i j) (by rw [e5]; simp only [zi_l16, zi_mul, zi_add]; exact zi_c (by unfold yt_ix; omega)) (by unfold yt_ix; omega) (by omega)
        refine ⟨i1, nm_r (e' := upd rest (yt_ix last i j) (zi_o (yt_R A B x o e b f n m pi pj last i j : Nat))) (by rw [c1]) ?_⟩
        refine nm_r (e' := zi_o ((last + 1 : Nat) : Int)) (by rw [e5, zi_l1, zi_add]; exact zi_c (by omega)) ?_
        refine ih (last + 1) _ _ (by omega) rfl ?_ ?_ N (by omega)
        · intro l a c hl ha hcc hne
          rw [zi_un (by unfold yt_ix; omega)]
          exact hfr l a c hl ha hcc hne
        · intro l hl
          by_cases z : l = last
          · rw [z, zi_us rfl]
          · rw [zi_un (by unfold yt_ix; omega)]
            exact hdone l (by omega)
      refine zi_blt 4 (last : Int) zi_l4 e5 (by omega) (fun z => by omega) (fun z => ?_)
      refine zi_beq (i : Int) n rfl hl0 (by omega) (fun z1 => ?_) (fun z1 => ?_)
      · refine zi_beq (j : Int) m rfl hl1 (by omega) (fun z2 => ?_) (fun z2 => ?_)
        · exact h40 0 0 (by omega) zi_l0 (if_pos ⟨by omega, by omega⟩).symm
        · exact h40 1000000 1000000 (by omega) zi_lF (if_neg (by intro y; omega)).symm
      · exact h40 1000000 1000000 (by omega) zi_lF (if_neg (by intro y; omega)).symm
theorem yw_fp (hc : xc_ok 16 n m x o e A B g_mismatch g_open g_extend b_size b_symbols) (hb : b ≤ 2) (hf : f ≤ 2) (hbeg : g_begin = zi_o b) (hend : g_end = zi_o f) {post : SY → Prop}
    (i j : Nat) (hi : i ≤ n) (hj : j ≤ m) (hpi : pi ≤ n) (hpj : pj ≤ m) (hok : yt_ok A B x o e b f n m pi pj i j b_rest)
    {p0 p1 p2 p3 : Int32} (e0 : p0 = zi_o i) (e1 : p1 = zi_o j) (e2 : p2 = zi_o pi) (e3 : p3 = zi_o pj)
    (h : ∀ rest', yt_ok A B x o e b f n m pi pj i ((j : Int) - 1) rest' → post (g_capacity, g_mismatch, g_open, g_extend, g_aligned, g_columns, g_begin, g_end, g_direction, g_position, b_symbols, b_size, b_kinds, rest', b_tape)) : wpY_fillPoint post (g_capacity, g_mismatch, g_open, g_extend, g_aligned, g_columns, g_begin, g_end, g_direction, g_position, b_symbols, b_size, b_kinds, b_rest, b_tape) p0 p1 p2 p3 := by
  subst e0 e1 e2 e3
  unfold wpY_fillPoint
  refine ⟨6, ?_⟩
  refine yw_fp3 hc hb hf hbeg hend i j hi hj hpi hpj hok (fun rest' hfr hdone => h rest' ?_) 5 0 b_rest 0 (by omega) zi_l0 (fun _ _ _ _ _ _ _ => rfl) (fun l hl => by omega) 6 (by omega)
  intro l a c hl ha hcc hlt
  by_cases z : a = i ∧ c = j
  · obtain ⟨rfl, rfl⟩ := z
    exact hdone l (by omega)
  · rw [hfr l a c hl ha hcc (by omega)]
    exact hok l a c hl ha hcc (by omega)
theorem yw_fill19 (hc : xc_ok 16 n m x o e A B g_mismatch g_open g_extend b_size b_symbols) (hb : b ≤ 2) (hf : f ≤ 2) (hbeg : g_begin = zi_o b) (hend : g_end = zi_o f) {post : SY → Prop}
    {J7 : Int32 → Int32 → Int32 → Int32 → Int32 → Int32 → Int32 → Int32 → Int32 → Int32 → Int32 → (Nat → Int32) → (Nat → Int32) → (Nat → Int32) → (Nat → Int32) → (Nat → Int32) → Prop}
    (i : Nat) (hi : i ≤ n) (hpi : pi ≤ n) (hpj : pj ≤ m)
    (hJ : ∀ rest', yt_ok A B x o e b f n m pi pj ((i : Int) - 1) m rest' → J7 (zi_o ((i : Int) - 1)) g_capacity g_mismatch g_open g_extend g_aligned g_columns g_begin g_end g_direction g_position b_symbols b_size b_kinds rest' b_tape) :
    ∀ (d : Nat) (j : Int) (rest : Nat → Int32), j + 1 = d → j ≤ m → yt_ok A B x o e b f n m pi pj i j rest → ∀ N, d < N →
      wY_fill_19 post J7 (zi_o pi) (zi_o pj) (zi_o i) N (zi_o j) g_capacity g_mismatch g_open g_extend g_aligned g_columns g_begin g_end g_direction g_position b_symbols b_size b_kinds rest b_tape := by
  have hn := hc.1
  have hm := hc.2.1
  intro d
  induction d with
  | zero =>
    intro j rest hd hj hok N hN
    cases N with
    | zero => omega
    | succ N =>
      refine zi_blt j 0 rfl zi_l0 (by omega) (fun z => ?_) (fun z => by omega)
      refine nm_r (e' := zi_o ((i : Int) - 1)) (by first | (simp only [zi_l0, zi_l1, zi_l2, zi_l3, zi_l4, zi_l15, zi_l16, zi_l31, zi_l71, zi_l99, zi_lF, zi_neg, zi_add, zi_sub, zi_mul]; done) | (simp only [zi_l0, zi_l1, zi_l2, zi_l3, zi_l4, zi_l15, zi_l16, zi_l31, zi_l71, zi_l99, zi_lF, zi_neg, zi_add, zi_sub, zi_mul]; exact zi_c (by omega)) | exact zi_c (by omega)) ?_
      refine hJ rest ?_
      intro l a c hl ha hcc hlt
      exact hok l a c hl ha hcc (by omega)
  | succ d ih =>
    intro j rest hd hj hok N hN
    cases N with
    | zero => omega
    | succ N =>
      refine zi_blt j 0 rfl zi_l0 (by omega) (fun z => by omega) (fun z => ?_)
      obtain ⟨jn, rfl⟩ : ∃ jn : Nat, j = jn := ⟨j.toNat, by omega⟩
      refine yw_fp hc hb hf hbeg hend i jn hi (by omega) hpi hpj hok rfl rfl rfl rfl (fun rest' hok' => ?_)
      refine nm_r (e' := zi_o ((jn : Int) - 1)) (by first | (simp only [zi_l0, zi_l1, zi_l2, zi_l3, zi_l4, zi_l15, zi_l16, zi_l31, zi_l71, zi_l99, zi_lF, zi_neg, zi_add, zi_sub, zi_mul]; done) | (simp only [zi_l0, zi_l1, zi_l2, zi_l3, zi_l4, zi_l15, zi_l16, zi_l31, zi_l71, zi_l99, zi_lF, zi_neg, zi_add, zi_sub, zi_mul]; exact zi_c (by omega)) | exact zi_c (by omega)) ?_
      exact ih ((jn : Int) - 1) rest' (by omega) (by omega) hok' N (by omega)
theorem yw_fill7 (hc : xc_ok 16 n m x o e A B g_mismatch g_open g_extend b_size b_symbols) (hb : b ≤ 2) (hf : f ≤ 2) (hbeg : g_begin = zi_o b) (hend : g_end = zi_o f) {post : SY → Prop} (hpi : pi ≤ n) (hpj : pj ≤ m)
    (h : ∀ rest', yt_ok A B x o e b f n m pi pj (-1) m rest' → post (g_capacity, g_mismatch, g_open, g_extend, g_aligned, g_columns, g_begin, g_end, g_direction, g_position, b_symbols, b_size, b_kinds, rest', b_tape)) :
    ∀ (d : Nat) (i : Int) (rest : Nat → Int32), i + 1 = d → i ≤ n → yt_ok A B x o e b f n m pi pj i m rest → ∀ N, d < N →
      wY_fill_7 post (zi_o pi) (zi_o pj) N (zi_o i) g_capacity g_mismatch g_open g_extend g_aligned g_columns g_begin g_end g_direction g_position b_symbols b_size b_kinds rest b_tape := by
  have hn := hc.1
  have hm := hc.2.1
  have hl1 : b_size 1 = zi_o m := hc.2.2.2.2.2.2.2.2.2.2.2.1
  intro d
  induction d with
  | zero =>
    intro i rest hd hi hok N hN
    cases N with
    | zero => omega
    | succ N =>
      refine zi_blt i 0 rfl zi_l0 (by omega) (fun z => ?_) (fun z => by omega)
      refine h rest ?_
      rw [← show i = (-1 : Int) by omega]; exact hok
  | succ d ih =>
    intro i rest hd hi hok N hN
    cases N with
    | zero => omega
    | succ N =>
      refine zi_blt i 0 rfl zi_l0 (by omega) (fun z => by omega) (fun z => ?_)
      obtain ⟨i_n, rfl⟩ : ∃ i_n : Nat, i = i_n := ⟨i.toNat, by omega⟩
      refine nm_r hl1 ?_
      refine ⟨m + 2, ?_⟩
      refine yw_fill19 hc hb hf hbeg hend i_n (by omega) hpi hpj (fun rest' hok' => ?_) (m + 1) (m : Int) rest (by omega) (by omega) hok _ (by omega)
      exact ih ((i_n : Int) - 1) rest' (by omega) (by omega) hok' N (by omega)
theorem yw_fill (hc : xc_ok 16 n m x o e A B g_mismatch g_open g_extend b_size b_symbols) (hb : b ≤ 2) (hf : f ≤ 2) (hbeg : g_begin = zi_o b) (hend : g_end = zi_o f) {post : SY → Prop} (hpi : pi ≤ n) (hpj : pj ≤ m)
    {p0 p1 : Int32} (e0 : p0 = zi_o pi) (e1 : p1 = zi_o pj)
    (h : ∀ rest', yt_ok A B x o e b f n m pi pj (-1) m rest' → post (g_capacity, g_mismatch, g_open, g_extend, g_aligned, g_columns, g_begin, g_end, g_direction, g_position, b_symbols, b_size, b_kinds, rest', b_tape)) : wpY_fill post (g_capacity, g_mismatch, g_open, g_extend, g_aligned, g_columns, g_begin, g_end, g_direction, g_position, b_symbols, b_size, b_kinds, b_rest, b_tape) p0 p1 := by
  subst e0 e1
  have hl0 : b_size 0 = zi_o n := hc.2.2.2.2.2.2.2.2.2.2.1
  unfold wpY_fill
  refine nm_r hl0 ?_
  refine ⟨n + 2, ?_⟩
  exact yw_fill7 hc hb hf hbeg hend hpi hpj h (n + 1) (n : Int) b_rest (by omega) (by omega) (by intro l a c hl ha hcc hlt; omega) (n + 2) (by omega)
end
end
section
/-! 16 the reference's transcript and its charges -/
section
variable {n m x o e b f : Nat} {A B : Nat → Int32}
theorem yt_R0 (last i j : Nat) : yt_R A B x o e b f n m 0 0 last i j = th_F A B x o e f n m (yt_lay b last) (n - i) (m - j) := by
  unfold yt_R
  by_cases h : i ≤ 0 ∧ j ≤ 0
  · obtain rfl : i = 0 := by omega
    obtain rfl : j = 0 := by omega
    rw [if_pos h]
    exact th_T00 _
  · rw [if_neg h, if_pos ⟨Nat.zero_le _, Nat.zero_le _⟩]
theorem yt_V0 (kind last i j : Nat) : yt_V A B x o e b f n m 0 0 kind last i j = tp_V A B x o e f n m kind (yt_lay b last) (n - i) (m - j) := by
  unfold yt_V
  rw [if_neg (by omega), if_pos ⟨Nat.zero_le _, Nat.zero_le _⟩]
  rfl
end
section
variable {g_capacity g_mismatch g_open g_extend g_aligned g_columns g_begin g_end g_direction g_position : Int32} {b_symbols b_size b_kinds b_rest b_tape : Nat → Int32} {n m x o e b f : Nat} {A B : Nat → Int32}
theorem yw_lk6 {post : Int32 → Prop} {x1 x2 x3 x5 : Int32} (kind least c V i j last : Nat) (hk : kind < 4) (hV : V ≤ 1000000) (hcc : c ≤ 1000000) (hi : i ≤ 15) (hj : j ≤ 15) (hlast : last ≤ 4) (e1 : x1 = zi_o i) (e2 : x2 = zi_o j) (e3 : x3 = zi_o last) (e5 : x5 = zi_o kind)
    (hr : b_rest (yt_ix last i j) = zi_o c) (hvia : ∀ post : Int32 → Prop, post (zi_o V) → wpY_costVia post (g_capacity, g_mismatch, g_open, g_extend, g_aligned, g_columns, g_begin, g_end, g_direction, g_position, b_symbols, b_size, b_kinds, b_rest, b_tape) (zi_o kind) x1 x2 x3 0 0) (N : Nat)
    (h : wY_leastKind_6 post x1 x2 x3 g_capacity g_mismatch g_open g_extend g_aligned g_columns g_begin g_end g_direction g_position b_symbols b_size b_kinds b_rest b_tape N (zi_o ((if V = c then kind else least : Nat) : Int)) (zi_o ((kind : Int) - 1))) : wY_leastKind_6 post x1 x2 x3 g_capacity g_mismatch g_open g_extend g_aligned g_columns g_begin g_end g_direction g_position b_symbols b_size b_kinds b_rest b_tape (N + 1) (zi_o least) x5 := by
  have es : x5 + (-1) = zi_o ((kind : Int) - 1) := by rw [e5]; exact (by first | (simp only [zi_l0, zi_l1, zi_l2, zi_l3, zi_l4, zi_l15, zi_l16, zi_l31, zi_l71, zi_l99, zi_lF, zi_neg, zi_add, zi_sub, zi_mul]; done) | (simp only [zi_l0, zi_l1, zi_l2, zi_l3, zi_l4, zi_l15, zi_l16, zi_l31, zi_l71, zi_l99, zi_lF, zi_neg, zi_add, zi_sub, zi_mul]; exact zi_c (by omega)) | exact zi_c (by omega))
  refine zi_blt (kind : Int) 0 e5 zi_l0 (by omega) (fun z => by omega) (fun z => ?_)
  rw [e5]
  refine hvia _ ?_
  rw [← e5]
  obtain ⟨i1, c1⟩ := zi_ix (x := ((x3 * 16) + x1) * 16 + x2) (N := 1280) (yt_ix last i j) (by rw [e1, e2, e3]; simp only [zi_l16, zi_mul, zi_add]; exact zi_c (by unfold yt_ix; omega)) (by unfold yt_ix; omega) (by omega)
  refine ⟨i1, ?_⟩
  refine zi_beq (V : Int) c rfl (by rw [c1]; exact hr) (by omega) (fun z2 => ?_) (fun z2 => ?_)
  · refine nm_r es ?_
    rw [if_pos (by omega), ← e5] at h
    exact h
  · refine nm_r es ?_
    rw [if_neg (by omega)] at h
    exact h
theorem yw_least (hc : xc_ok 16 n m x o e A B g_mismatch g_open g_extend b_size b_symbols) (hb : b ≤ 2) (hf : f ≤ 2) (hbeg : g_begin = zi_o b) (hend : g_end = zi_o f) {post : Int32 → Prop} (hok : yt_ok A B x o e b f n m 0 0 (-1) m b_rest)
    (i j last : Nat) (hi : i ≤ n) (hj : j ≤ m) (hlast : last ≤ 4) {p0 p1 p2 : Int32} (e0 : p0 = zi_o i) (e1 : p1 = zi_o j) (e2 : p2 = zi_o last)
    (h : post (zi_o (tp_K A B x o e f n m (yt_lay b last) (n - i) (m - j) : Nat))) : wpY_leastKind post (g_capacity, g_mismatch, g_open, g_extend, g_aligned, g_columns, g_begin, g_end, g_direction, g_position, b_symbols, b_size, b_kinds, b_rest, b_tape) p0 p1 p2 := by
  have hc' := hc
  obtain ⟨hn, hm, hx1, hx7, ho5, he1, he2, hmis, hop, hex, hl0, hl1, hA, hB⟩ := hc'
  have hr : b_rest (yt_ix last i j) = zi_o (th_F A B x o e f n m (yt_lay b last) (n - i) (m - j) : Nat) := by
    rw [hok last i j hlast hi hj (by omega), yt_R0]
  have hFb : th_F A B x o e f n m (yt_lay b last) (n - i) (m - j) ≤ 70 := yt_Fb ho5 he2 _ _ _ (by omega) (by omega)
  have hvia : ∀ kind, kind < 4 → ∀ post' : Int32 → Prop, post' (zi_o (tp_V A B x o e f n m kind (yt_lay b last) (n - i) (m - j) : Nat)) → wpY_costVia post' (g_capacity, g_mismatch, g_open, g_extend, g_aligned, g_columns, g_begin, g_end, g_direction, g_position, b_symbols, b_size, b_kinds, b_rest, b_tape) (zi_o kind) p0 p1 p2 0 0 := by
    intro kind hk post' hp
    refine yw_via (pi := 0) (pj := 0) hc hb hf hbeg hend kind i j last hk hlast hi hj (by omega) (by omega) (fun a c ha hcc hlt => hok kind a c (by omega) ha hcc (by omega)) rfl e0 e1 e2 zi_l0 zi_l0 ?_
    rw [yt_V0]; exact hp
  have hVle : ∀ kind, tp_V A B x o e f n m kind (yt_lay b last) (n - i) (m - j) ≤ 1000000 := by
    intro kind
    have := yt_Vle (A := A) (B := B) (b := b) (f := f) (pi := 0) (pj := 0) hx7 ho5 he2 hn hm (Nat.zero_le _) (Nat.zero_le _) kind last i j
    rw [yt_V0] at this
    exact this
  unfold wpY_leastKind
  unfold tp_K tp_k at h
  refine ⟨5, ?_⟩
  rw [zi_l3]
  refine yw_lk6 3 3 _ _ i j last (by omega) (hVle 3) (by omega) (by omega) (by omega) hlast e0 e1 e2 rfl hr (hvia 3 (by omega)) 4 ?_
  refine yw_lk6 2 _ _ _ i j last (by omega) (hVle 2) (by omega) (by omega) (by omega) hlast e0 e1 e2 rfl hr (hvia 2 (by omega)) 3 ?_
  refine yw_lk6 1 _ _ _ i j last (by omega) (hVle 1) (by omega) (by omega) (by omega) hlast e0 e1 e2 rfl hr (hvia 1 (by omega)) 2 ?_
  refine yw_lk6 0 _ _ _ i j last (by omega) (hVle 0) (by omega) (by omega) (by omega) hlast e0 e1 e2 rfl hr (hvia 0 (by omega)) 1 ?_
  refine br_t (by decide) ?_
  have e33 : (if tp_V A B x o e f n m 3 (yt_lay b last) (n - i) (m - j) = th_F A B x o e f n m (yt_lay b last) (n - i) (m - j) then 3 else 3) = 3 := by split <;> rfl
  rw [e33]
  exact h
/-- the kinds as the reference keeps them -/
def yk_ok (ks : Nat → Nat) (T : Nat) (kinds : Nat → Int32) : Prop := T ≤ 30 ∧ ∀ c, c < T → kinds c = zi_o (ks c) ∧ ks c < 4
theorem yw_start {post : Int32 → Prop} {ks : Nat → Nat} {T : Nat} (hk : yk_ok ks T b_kinds) (c : Nat) (hcT : c < T) {p0 : Int32} (e0 : p0 = zi_o c)
    (h1 : ¬ (0 < c ∧ ks c = ks (c - 1)) → post 1) (h0 : (0 < c ∧ ks c = ks (c - 1)) → post 0) : wpY_startsRun post (g_capacity, g_mismatch, g_open, g_extend, g_aligned, g_columns, g_begin, g_end, g_direction, g_position, b_symbols, b_size, b_kinds, b_rest, b_tape) p0 := by
  obtain ⟨hT, hk⟩ := hk
  unfold wpY_startsRun
  refine zi_beq (c : Int) 0 e0 zi_l0 (by omega) (fun z => h1 (by intro y; omega)) (fun z => ?_)
  obtain ⟨i1, c1⟩ := zi_ix (x := p0) (N := 32) c e0 (by omega) (by omega)
  obtain ⟨i2, c2⟩ := zi_ix (x := p0 - 1) (N := 32) (c - 1) (by rw [e0, zi_l1, zi_sub]; exact zi_c (by omega)) (by omega) (by omega)
  obtain ⟨k1, k1'⟩ := hk c hcT
  obtain ⟨k2, k2'⟩ := hk (c - 1) (by omega)
  refine ⟨i1, i2, ?_⟩
  exact zi_beq (ks c : Int) (ks (c - 1)) (by rw [c1]; exact k1) (by rw [c2]; exact k2) (by omega) (fun z2 => h0 ⟨by omega, by omega⟩) (fun z2 => h1 (by intro y; omega))
theorem rn_all_s {ks : Nat → Nat} {k T d : Nat} (hd : d < T) : rn_all ks k T d = true ↔ (ks d = k ∧ rn_all ks k T (d + 1) = true) := by
  unfold rn_all
  rw [decide_eq_true_iff, decide_eq_true_iff]
  constructor
  · intro h
    exact ⟨h d hd (Nat.le_refl _), fun c hc1 hc2 => h c hc1 (by omega)⟩
  · intro h c hc1 hc2
    by_cases z : c = d
    · rw [z]; exact h.1
    · exact h.2 c hc1 (by omega)
theorem yw_cc41 {post : Int32 → Prop} {ks : Nat → Nat} {T : Nat} (hk : yk_ok ks T b_kinds) (eT : g_columns = zi_o T) (k : Nat) (hk4 : k < 4) {x1 x2 : Int32} (e2 : x2 = zi_o k) :
    ∀ (r d : Nat) (fl : Bool) (y3 y4 : Int32), d + r = T → y3 = zi_o (if fl = true then 1 else 0) → y4 = zi_o d →
      (∀ (fl' : Bool) (y : Int32), (fl' = true ↔ (fl = true ∧ rn_all ks k T d = true)) → y = zi_o (if fl' = true then 1 else 0) → ((x2 = 2 → wY_columnCharge_79 post x1 y 1 g_capacity g_mismatch g_open g_extend g_aligned g_columns g_begin g_end g_direction g_position b_symbols b_size b_kinds b_rest b_tape) ∧ (¬ x2 = 2 → wY_columnCharge_79 post x1 y 2 g_capacity g_mismatch g_open g_extend g_aligned g_columns g_begin g_end g_direction g_position b_symbols b_size b_kinds b_rest b_tape))) → ∀ N, r < N →
      wY_columnCharge_41 post x1 x2 g_capacity g_mismatch g_open g_extend g_aligned g_columns g_begin g_end g_direction g_position b_symbols b_size b_kinds b_rest b_tape N y3 y4 := by
  obtain ⟨hT, hk⟩ := hk
  intro r
  induction r with
  | zero =>
    intro d fl y3 y4 hd e3 e4 hfin N hN
    cases N with
    | zero => omega
    | succ N =>
      refine zi_ble (T : Int) d eT e4 (by omega) (fun z => ?_) (fun z => by omega)
      refine hfin fl y3 ⟨fun y => ⟨y, ?_⟩, fun y => y.1⟩ e3
      unfold rn_all
      exact decide_eq_true (fun c hc1 hc2 => by omega)
  | succ r ih =>
    intro d fl y3 y4 hd e3 e4 hfin N hN
    cases N with
    | zero => omega
    | succ N =>
      have hs := rn_all_s (ks := ks) (k := k) (T := T) (d := d) (by omega)
      have es : y4 + 1 = zi_o ((d + 1 : Nat) : Int) := by rw [e4, zi_l1, zi_add]; exact zi_c (by omega)
      obtain ⟨i1, c1⟩ := zi_ix (x := y4) (N := 32) d e4 (by omega) (by omega)
      obtain ⟨k1, k1'⟩ := hk d (by omega)
      refine zi_ble (T : Int) d eT e4 (by omega) (fun z => by omega) (fun z => ⟨i1, ?_⟩)
      refine zi_beq (ks d : Int) k (by rw [c1]; exact k1) e2 (by omega) (fun z2 => ?_) (fun z2 => ?_)
      · refine nm_r es ?_
        refine ih (d + 1) fl y3 _ (by omega) e3 rfl (fun fl' y hfl ey => hfin fl' y ?_ ey) N (by omega)
        rw [hfl, hs]
        exact ⟨fun w => ⟨w.1, by omega, w.2⟩, fun w => ⟨w.1, w.2.2⟩⟩
      · refine nm_r es ?_
        refine ih (d + 1) false 0 _ (by omega) zi_l0 rfl (fun fl' y hfl ey => hfin fl' y ?_ ey) N (by omega)
        rw [hfl, hs]
        exact ⟨fun w => absurd w.1 (by decide), fun w => absurd w.2.1 (by omega)⟩
theorem yw_charge (hc : xc_ok 16 n m x o e A B g_mismatch g_open g_extend b_size b_symbols) (hb : b ≤ 2) (hf : f ≤ 2) (hbeg : g_begin = zi_o b) (hend : g_end = zi_o f) {post : Int32 → Prop} {ks : Nat → Nat} {T : Nat} (hk : yk_ok ks T b_kinds) (eT : g_columns = zi_o T)
    (c : Nat) (hcT : c < T) {p0 : Int32} (e0 : p0 = zi_o c) (h : post (zi_o (rn_ch x o e b f T ks c : Nat))) : wpY_columnCharge post (g_capacity, g_mismatch, g_open, g_extend, g_aligned, g_columns, g_begin, g_end, g_direction, g_position, b_symbols, b_size, b_kinds, b_rest, b_tape) p0 := by
  obtain ⟨hn, hm, hx1, hx7, ho5, he1, he2, hmis, hop, hex, hl0, hl1, hA, hB⟩ := hc
  have hT := hk.1
  obtain ⟨k1, k4⟩ := hk.2 c hcT
  obtain ⟨i1, c1⟩ := zi_ix (x := p0) (N := 32) c e0 (by omega) (by omega)
  unfold rn_ch at h
  unfold wpY_columnCharge
  refine ⟨i1, nm_r (e' := zi_o (ks c : Nat)) (by rw [c1]; exact k1) ?_⟩
  refine zi_beq (ks c : Int) 0 rfl zi_l0 (by omega) (fun z => ?_) (fun z => ?_)
  · rw [if_pos (by omega)] at h
    exact zi_p (post := post) h zi_l0
  rw [if_neg (by omega)] at h
  refine zi_beq (ks c : Int) 1 rfl zi_l1 (by omega) (fun z2 => ?_) (fun z2 => ?_)
  · rw [if_pos (by omega)] at h
    exact zi_p (post := post) h hmis
  rw [if_neg (by omega)] at h
  refine yw_start hk c hcT e0 (fun z3 => ?_) (fun z3 => ?_)
  · rw [if_neg z3] at h
    refine br_f (by decide) ?_
    refine ⟨T + 2, ?_⟩
    refine yw_cc41 hk eT (ks c) k4 rfl (T - c) c true 1 p0 (by omega) zi_l1 e0 (fun fl' y hfl ey => ?_) _ (by omega)
    have h79 : ∀ z0 : Int32, z0 = zi_o ((ks c - 1 : Nat) : Int) → wY_columnCharge_79 post p0 y z0 g_capacity g_mismatch g_open g_extend g_aligned g_columns g_begin g_end g_direction g_position b_symbols b_size b_kinds b_rest b_tape := by
      intro z0 ez
      have h107 : ((c = 0 ∧ b = ks c - 1) ∨ (rn_all ks (ks c) T c = true ∧ f = ks c - 1)) → wY_columnCharge_107 post g_capacity g_mismatch g_open g_extend g_aligned g_columns g_begin g_end g_direction g_position b_symbols b_size b_kinds b_rest b_tape := by
        intro w
        rw [if_pos w] at h
        exact br_f (by decide) (zi_p (post := post) h hex)
      have h111 : ¬ ((c = 0 ∧ b = ks c - 1) ∨ (rn_all ks (ks c) T c = true ∧ f = ks c - 1)) → wY_columnCharge_111 post g_capacity g_mismatch g_open g_extend g_aligned g_columns g_begin g_end g_direction g_position b_symbols b_size b_kinds b_rest b_tape := by
        intro w
        rw [if_neg w] at h
        exact br_t rfl (zi_p (post := post) h (by rw [hop, hex, zi_add]; exact zi_c (by omega)))
      have h94 : ¬ (c = 0 ∧ b = ks c - 1) → wY_columnCharge_94 post y z0 g_capacity g_mismatch g_open g_extend g_aligned g_columns g_begin g_end g_direction g_position b_symbols b_size b_kinds b_rest b_tape := by
        intro w
        cases fl' with
        | false =>
          refine br_t (by rw [ey]; decide) (h111 ?_)
          intro v
          rcases v with v | v
          · exact w v
          · exact absurd (hfl.mpr ⟨rfl, v.1⟩) (by decide)
        | true =>
          refine br_f (by rw [ey]; decide) ?_
          refine zi_beq (f : Int) ((ks c - 1 : Nat) : Int) hend ez (by omega) (fun z4 => h107 (Or.inr ⟨(hfl.mp rfl).2, by omega⟩)) (fun z4 => h111 ?_)
          intro v
          rcases v with v | v
          · exact w v
          · omega
      refine zi_beq (c : Int) 0 e0 zi_l0 (by omega) (fun z4 => ?_) (fun z4 => h94 (by intro v; omega))
      refine zi_beq (b : Int) ((ks c - 1 : Nat) : Int) hbeg ez (by omega) (fun z5 => h107 (Or.inl ⟨by omega, by omega⟩)) (fun z5 => h94 (by intro v; omega))
    refine zi_beq (ks c : Int) 2 rfl zi_l2 (by omega) (fun z4 => h79 1 (zi_l1.trans (zi_c (by omega)))) (fun z4 => h79 2 (zi_l2.trans (zi_c (by omega))))
  · rw [if_pos z3] at h
    exact br_t rfl (zi_p (post := post) h hex)
theorem yw_sum (hc : xc_ok 16 n m x o e A B g_mismatch g_open g_extend b_size b_symbols) (hb : b ≤ 2) (hf : f ≤ 2) (hbeg : g_begin = zi_o b) (hend : g_end = zi_o f) {post : Int32 → Prop} {ks : Nat → Nat} {T : Nat} (hk : yk_ok ks T b_kinds) (eT : g_columns = zi_o T)
    (cnt : Nat) (hcnt : cnt ≤ T) {p0 : Int32} (e0 : p0 = zi_o cnt) (h : post (zi_o (rn_S (rn_ch x o e b f T ks) cnt : Nat))) : wpY_chargeOf post (g_capacity, g_mismatch, g_open, g_extend, g_aligned, g_columns, g_begin, g_end, g_direction, g_position, b_symbols, b_size, b_kinds, b_rest, b_tape) p0 := by
  have hT := hk.1
  have key : ∀ (d c : Nat) (y2 y3 : Int32), c + d = cnt → y2 = zi_o (rn_S (rn_ch x o e b f T ks) c : Nat) → y3 = zi_o c → ∀ N, d < N → wY_chargeOf_4 post p0 g_capacity g_mismatch g_open g_extend g_aligned g_columns g_begin g_end g_direction g_position b_symbols b_size b_kinds b_rest b_tape N y2 y3 := by
    intro d
    induction d with
    | zero =>
      intro c y2 y3 hd e2 e3 N hN
      cases N with
      | zero => omega
      | succ N =>
        refine zi_ble (cnt : Int) c e0 e3 (by omega) (fun z => ?_) (fun z => by omega)
        obtain rfl : c = cnt := by omega
        exact zi_p (post := post) h e2
    | succ d ih =>
      intro c y2 y3 hd e2 e3 N hN
      cases N with
      | zero => omega
      | succ N =>
        refine zi_ble (cnt : Int) c e0 e3 (by omega) (fun z => by omega) (fun z => ?_)
        refine yw_charge hc hb hf hbeg hend hk eT c (by omega) e3 ?_
        refine nm_r (e' := zi_o (rn_S (rn_ch x o e b f T ks) (c + 1) : Nat)) ?_ ?_
        · rw [e2, zi_add]
          exact zi_c (by show _ = ((rn_S (rn_ch x o e b f T ks) c + rn_ch x o e b f T ks c : Nat) : Int); omega)
        · refine nm_r (e' := zi_o ((c + 1 : Nat) : Int)) (by rw [e3, zi_l1, zi_add]; exact zi_c (by omega)) ?_
          exact ih (c + 1) _ _ (by omega) rfl rfl N (by omega)
  unfold wpY_chargeOf
  exact ⟨cnt + 1, key cnt 0 0 0 (by omega) zi_l0 zi_l0 _ (by omega)⟩
end
end
section
/-! 17 the reference aligns -/
section
variable {g_capacity g_mismatch g_open g_extend g_aligned g_columns g_begin g_end g_direction g_position : Int32} {b_symbols b_size b_kinds b_rest b_tape : Nat → Int32} {n m x o e b f : Nat} {A B : Nat → Int32}
theorem yw_al2 (hc : xc_ok 16 n m x o e A B g_mismatch g_open g_extend b_size b_symbols) (hb : b ≤ 2) (hf : f ≤ 2) (hbeg : g_begin = zi_o b) (hend : g_end = zi_o f) {post : Int32 → SY → Prop} {ks : Nat → Nat} {T : Nat} (hk : yk_ok ks T b_kinds) (eT : g_columns = zi_o T) {y5 : Int32}
    (h : post (zi_o (rn_S (rn_ch x o e b f T ks) T : Nat)) (g_capacity, g_mismatch, g_open, g_extend, g_aligned, g_columns, g_begin, g_end, g_direction, g_position, b_symbols, b_size, b_kinds, b_rest, b_tape)) : ∀ (d step : Nat) (y3 y4 y6 : Int32), step + d = n + m → y3 = zi_o n → y4 = zi_o m → y6 = zi_o step → ∀ N, d < N →
      wY_align_67 post g_capacity g_mismatch g_open g_extend g_aligned g_begin g_end g_direction g_position N y3 y4 y5 y6 g_columns b_symbols b_size b_kinds b_rest b_tape := by
  have hc' := hc
  obtain ⟨hn, hm, hx1, hx7, ho5, he1, he2, hmis, hop, hex, hl0, hl1, hA, hB⟩ := hc'
  have hsum : b_size 0 + b_size 1 = zi_o ((n + m : Nat) : Int) := by rw [hl0, hl1, zi_add]; exact zi_c (by omega)
  intro d
  induction d with
  | zero =>
    intro step y3 y4 y6 hd e3 e4 e6 N hN
    cases N with
    | zero => omega
    | succ N =>
      refine zi_ble ((n + m : Nat) : Int) step hsum e6 (by omega) (fun z => ?_) (fun z => by omega)
      exact yw_sum hc hb hf hbeg hend hk eT T (Nat.le_refl _) eT h
  | succ d ih =>
    intro step y3 y4 y6 hd e3 e4 e6 N hN
    cases N with
    | zero => omega
    | succ N =>
      refine zi_ble ((n + m : Nat) : Int) step hsum e6 (by omega) (fun z => by omega) (fun z => ?_)
      refine zi_blt (n : Int) n e3 hl0 (by omega) (fun z => by omega) (fun z => ?_)
      refine zi_ble (m : Int) m hl1 e4 (by omega) (fun z => ?_) (fun z => by omega)
      refine nm_r (e' := zi_o ((step + 1 : Nat) : Int)) (by rw [e6, zi_l1, zi_add]; exact zi_c (by omega)) ?_
      exact ih (step + 1) _ _ _ (by omega) e3 e4 rfl N (by omega)
theorem yw_al1 (hc : xc_ok 16 n m x o e A B g_mismatch g_open g_extend b_size b_symbols) (hb : b ≤ 2) (hf : f ≤ 2) (hbeg : g_begin = zi_o b) (hend : g_end = zi_o f) {post : Int32 → SY → Prop} (hok : yt_ok A B x o e b f n m 0 0 (-1) m b_rest)
    {T : Nat} {ks Ls ps qs : Nat → Nat} (hP : tp_P A B x o e f n m b n m T ks Ls ps qs)
    (h : ∀ kinds, yk_ok ks T kinds → post (zi_o (rn_S (rn_ch x o e b f T ks) T : Nat)) (g_capacity, g_mismatch, g_open, g_extend, g_aligned, zi_o (T : Nat), g_begin, g_end, g_direction, g_position, b_symbols, b_size, kinds, b_rest, b_tape)) :
    ∀ (d c : Nat) (kinds : Nat → Int32) (y3 y4 y5 y6 : Int32), c + d = T → y3 = zi_o ((n : Int) - (ps c : Int)) → y4 = zi_o ((m : Int) - (qs c : Int)) → y5 = zi_o ((if c = 0 then 4 else ks (c - 1) : Nat) : Int) → y6 = zi_o c → (∀ c', c' < c → kinds c' = zi_o (ks c') ∧ ks c' < 4) → ∀ N, d + (n + m) < N →
      wY_align_67 post g_capacity g_mismatch g_open g_extend g_aligned g_begin g_end g_direction g_position N y3 y4 y5 y6 (zi_o (c : Nat)) b_symbols b_size kinds b_rest b_tape := by
  have hc' := hc
  obtain ⟨hn, hm, hx1, hx7, ho5, he1, he2, hmis, hop, hex, hl0, hl1, hA, hB⟩ := hc'
  have hcg := xc_ceil ho5 he1 he2 hn hm
  have hF : e * (n + m) + 2 * o < 1000000 := by omega
  have hT : T ≤ n + m := hP.2.2.2.2.2.1
  have hsum : b_size 0 + b_size 1 = zi_o ((n + m : Nat) : Int) := by rw [hl0, hl1, zi_add]; exact zi_c (by omega)
  intro d
  induction d with
  | zero =>
    intro c kinds y3 y4 y5 y6 hd e3 e4 e5 e6 hk N hN
    obtain rfl : c = T := by omega
    have hp0 := hP.2.2.2.1
    have hq0 := hP.2.2.2.2.1
    have hk' : yk_ok ks c kinds := ⟨by omega, hk⟩
    exact yw_al2 hc hb hf hbeg hend hk' rfl (h kinds hk') (n + m - c) c y3 y4 y6 (by omega) (by rw [e3, hp0]; exact zi_c (by omega)) (by rw [e4, hq0]; exact zi_c (by omega)) e6 N (by omega)
  | succ d ih =>
    intro c kinds y3 y4 y5 y6 hd e3 e4 e5 e6 hk N hN
    cases N with
    | zero => omega
    | succ N =>
      obtain ⟨hpn, hqm⟩ := tp_pq hF hP c (by omega)
      obtain ⟨g1, g2, g3, g4, g5⟩ := hP.2.2.2.2.2.2 c (by omega)
      have hk4 := tp_k4c hF hP (show c < T by omega)
      have hlast : (if c = 0 then 4 else ks (c - 1)) ≤ 4 := by
        split
        · omega
        · have := (hk (c - 1) (by omega)).2; omega
      have hlay : yt_lay b (if c = 0 then 4 else ks (c - 1)) = Ls c := by
        unfold yt_lay
        cases c with
        | zero => rw [if_pos rfl, if_pos rfl, hP.1]
        | succ c =>
          have h4 := (hk c (by omega)).2
          rw [if_neg (by omega : ¬ c + 1 = 0), show c + 1 - 1 = c from rfl, if_neg (by omega)]
          exact (hP.2.2.2.2.2.2 c (by omega)).2.2.1.symm
      have es : y6 + 1 = zi_o ((c + 1 : Nat) : Int) := by rw [e6, zi_l1, zi_add]; exact zi_c (by omega)
      have h106 : wY_align_106 post (wY_align_67 post g_capacity g_mismatch g_open g_extend g_aligned g_begin g_end g_direction g_position N) y3 y4 y5 y6 g_capacity g_mismatch g_open g_extend g_aligned (zi_o (c : Nat)) g_begin g_end g_direction g_position b_symbols b_size kinds b_rest b_tape := by
        unfold wY_align_106
        refine yw_least hc hb hf hbeg hend hok (n - ps c) (m - qs c) (if c = 0 then 4 else ks (c - 1)) (by omega) (by omega) hlast (e3.trans (zi_c (by omega))) (e4.trans (zi_c (by omega))) e5 ?_
        rw [hlay, show n - (n - ps c) = ps c by omega, show m - (m - qs c) = qs c by omega, ← g2]
        obtain ⟨i1, c1⟩ := zi_ix (x := zi_o (c : Nat)) (N := 32) c rfl (by omega) (by omega)
        refine ⟨i1, nm_r (e' := upd kinds c (zi_o (ks c : Nat))) (by rw [c1]) ?_⟩
        refine nm_r (e' := zi_o ((c + 1 : Nat) : Int)) (by rw [zi_l1, zi_add]; exact zi_c (by omega)) ?_
        have hk' : ∀ c', c' < c + 1 → upd kinds c (zi_o (ks c : Nat)) c' = zi_o (ks c') ∧ ks c' < 4 := by
          intro c' hc2
          by_cases z : c' = c
          · rw [z, zi_us rfl]; exact ⟨rfl, hk4⟩
          · rw [zi_un z]; exact hk c' (by omega)
        have h147 : ∀ a3 : Int32, a3 = zi_o ((n : Int) - (ps (c + 1) : Int)) → wY_align_147 post (wY_align_67 post g_capacity g_mismatch g_open g_extend g_aligned g_begin g_end g_direction g_position N) a3 y4 (zi_o (ks c : Nat)) y6 g_capacity g_mismatch g_open g_extend g_aligned (zi_o ((c + 1 : Nat) : Int)) g_begin g_end g_direction g_position b_symbols b_size (upd kinds c (zi_o (ks c : Nat))) b_rest b_tape := by
          intro a3 ea3
          unfold wY_align_147
          refine zi_beq (ks c : Int) 3 rfl zi_l3 (by omega) (fun z => ?_) (fun z => ?_)
          · rw [if_pos (by omega)] at g5
            refine nm_r es ?_
            exact ih (c + 1) _ _ _ _ _ (by omega) ea3 (by rw [g5]; exact e4) (by rw [if_neg (by omega)]; rfl) rfl hk' N (by omega)
          · rw [if_neg (by omega)] at g5
            have hq : 0 < qs c := by
              rcases tp_stepc hF hP (show c < T by omega) with ⟨_, _, y, _⟩ | ⟨_, _, y, _⟩ | ⟨_, y, _⟩ | ⟨y, _⟩
              · exact y
              · exact y
              · exact y
              · omega
            refine nm_r (e' := zi_o ((m : Int) - (qs (c + 1) : Int))) (by rw [e4, g5, zi_l1, zi_add]; exact zi_c (by omega)) ?_
            refine nm_r es ?_
            exact ih (c + 1) _ _ _ _ _ (by omega) ea3 rfl (by rw [if_neg (by omega)]; rfl) rfl hk' N (by omega)
        refine zi_beq (ks c : Int) 2 rfl zi_l2 (by omega) (fun z => ?_) (fun z => ?_)
        · rw [if_pos (by omega)] at g4
          exact h147 y3 (by rw [g4]; exact e3)
        · rw [if_neg (by omega)] at g4
          have hp : 0 < ps c := by
            rcases tp_stepc hF hP (show c < T by omega) with ⟨_, y, _⟩ | ⟨_, y, _⟩ | ⟨y, _⟩ | ⟨_, y, _⟩
            · exact y
            · exact y
            · omega
            · exact y
          refine nm_r (e' := zi_o ((n : Int) - (ps (c + 1) : Int))) (by rw [e3, g4, zi_l1, zi_add]; exact zi_c (by omega)) ?_
          exact h147 _ rfl
      refine zi_ble ((n + m : Nat) : Int) c hsum e6 (by omega) (fun z => by omega) (fun z => ?_)
      refine zi_blt ((n : Int) - (ps c : Int)) n e3 hl0 (by omega) (fun z2 => h106) (fun z2 => ?_)
      refine zi_ble (m : Int) ((m : Int) - (qs c : Int)) hl1 e4 (by omega) (fun z3 => by omega) (fun z3 => h106)
theorem yw_align (hc : xc_ok 16 n m x o e A B g_mismatch g_open g_extend b_size b_symbols) (hb : b ≤ 2) (hf : f ≤ 2)
    {T : Nat} {ks Ls ps qs : Nat → Nat} (hP : tp_P A B x o e f n m b n m T ks Ls ps qs) {post : Int32 → SY → Prop} {p0 p1 : Int32} (e0 : p0 = zi_o b) (e1 : p1 = zi_o f)
    (h : ∀ rest kinds, yk_ok ks T kinds → post (zi_o (rn_S (rn_ch x o e b f T ks) T : Nat)) (g_capacity, g_mismatch, g_open, g_extend, 1, zi_o (T : Nat), p0, p1, 0, 0, b_symbols, b_size, kinds, rest, b_tape)) : wpY_align post (g_capacity, g_mismatch, g_open, g_extend, g_aligned, g_columns, g_begin, g_end, g_direction, g_position, b_symbols, b_size, b_kinds, b_rest, b_tape) p0 p1 := by
  unfold wpY_align
  refine zi_blt (b : Int) 0 e0 zi_l0 (by omega) (fun z => by omega) (fun z => ?_)
  refine zi_blt 2 (b : Int) zi_l2 e0 (by omega) (fun z => by omega) (fun z => ?_)
  refine zi_blt (f : Int) 0 e1 zi_l0 (by omega) (fun z => by omega) (fun z => ?_)
  refine zi_ble (f : Int) 2 e1 zi_l2 (by omega) (fun z => ?_) (fun z => by omega)
  refine yw_fill (pi := 0) (pj := 0) hc hb hf e0 e1 (by omega) (by omega) zi_l0 zi_l0 (fun rest hok => ?_)
  refine ⟨T + (n + m) + 1, ?_⟩
  exact yw_al1 hc hb hf e0 e1 hok hP (fun kinds hk => h rest kinds hk) T 0 b_kinds 0 0 4 0 (by omega) (by rw [hP.2.1]; exact zi_l0.trans (zi_c (by omega))) (by rw [hP.2.2.1]; exact zi_l0.trans (zi_c (by omega))) zi_l4 zi_l0 (fun c' hc2 => by omega) _ (by omega)
theorem yw_alignBad {post : Int32 → SY → Prop} {p0 p1 : Int32} (hbad : ¬ (∃ b f : Nat, b ≤ 2 ∧ f ≤ 2 ∧ p0 = zi_o b ∧ p1 = zi_o f)) (h : post (-1) (g_capacity, g_mismatch, g_open, g_extend, g_aligned, g_columns, g_begin, g_end, g_direction, g_position, b_symbols, b_size, b_kinds, b_rest, b_tape)) : wpY_align post (g_capacity, g_mismatch, g_open, g_extend, g_aligned, g_columns, g_begin, g_end, g_direction, g_position, b_symbols, b_size, b_kinds, b_rest, b_tape) p0 p1 := by
  obtain ⟨a0, l0, u0, e0⟩ := zi_of p0
  obtain ⟨a1, l1, u1, e1⟩ := zi_of p1
  unfold wpY_align
  refine zi_blt a0 0 e0 zi_l0 (by omega) (fun z => h) (fun z => ?_)
  refine zi_blt 2 a0 zi_l2 e0 (by omega) (fun z => h) (fun z2 => ?_)
  refine zi_blt a1 0 e1 zi_l0 (by omega) (fun z => h) (fun z3 => ?_)
  refine zi_ble a1 2 e1 zi_l2 (by omega) (fun z4 => ?_) (fun z => h)
  exact absurd ⟨a0.toNat, a1.toNat, by omega, by omega, e0.trans (zi_c (by omega)), e1.trans (zi_c (by omega))⟩ hbad
end
end
section
/-! 18 loops over runs (component) and over columns (reference) -/
section
variable {f_room f_levels f_width f_none f_ahead f_behind f_capacity f_mismatch f_open f_extend f_runs f_columnTotal f_aligned f_begin f_end f_best f_heading f_position : Int32} {a_symbols a_lengths a_scratch a_waves a_runKinds a_runSizes : Nat → Int32} {n m x o e b f T R pos : Nat} {A B : Nat → Int32} {ks rs : Nat → Nat} {post : Int32 → Prop}
theorem xw_pays (hr : xr_ok ks T R rs a_runKinds a_runSizes) (hT : T ≤ 30) (hks : ∀ c, c < T → ks c < 4) (hb : b ≤ 2) (hf : f ≤ 2) (hbeg : f_begin = zi_o b) (hend : f_end = zi_o f) (eR : f_runs = zi_o R) (r : Nat) (hrR : r < R) {p0 : Int32} (e0 : p0 = zi_o r)
    (h0 : rn_pay o b f R (ks (rs r)) r = 0 → post 0) (h1 : rn_pay o b f R (ks (rs r)) r = o → post 1) : wpX_paysOpening post (f_room, f_levels, f_width, f_none, f_ahead, f_behind, f_capacity, f_mismatch, f_open, f_extend, f_runs, f_columnTotal, f_aligned, f_begin, f_end, f_best, f_heading, f_position, a_symbols, a_lengths, a_scratch, a_waves, a_runKinds, a_runSizes) p0 := by
  obtain ⟨hR, hk⟩ := hr
  have hRT := rn_RT hR
  have hrs : rs r < T := by
    have h3 := hR.2.2.1 r hrR
    have h4 := rn_le hR (r := r + 1) (r' := R) (by omega) (Nat.le_refl _)
    rw [hR.2.1] at h4
    omega
  have hk4 := hks _ hrs
  obtain ⟨i1, c1⟩ := zi_ix (x := p0) (N := 30) r e0 (by omega) (by omega)
  obtain ⟨k1, k2⟩ := hk r hrR
  have hpay0 : (ks (rs r) < 2 ∨ (r = 0 ∧ b = ks (rs r) - 1) ∨ (r + 1 = R ∧ f = ks (rs r) - 1)) → post 0 := fun z => h0 (if_pos z)
  have hpay1 : ¬ (ks (rs r) < 2 ∨ (r = 0 ∧ b = ks (rs r) - 1) ∨ (r + 1 = R ∧ f = ks (rs r) - 1)) → post 1 := fun z => h1 (if_neg z)
  unfold wpX_paysOpening
  refine ⟨i1, ?_⟩
  refine xw_layer (ks (rs r)) (by omega) (by rw [c1]; exact k1) ?_
  have hlay : tp_lay (ks (rs r)) = 0 ↔ ks (rs r) < 2 := by unfold tp_lay; split <;> omega
  have hlay2 : ¬ ks (rs r) < 2 → tp_lay (ks (rs r)) = ks (rs r) - 1 := by intro z; unfold tp_lay; exact if_neg z
  have hl3 : tp_lay (ks (rs r)) < 3 := by unfold tp_lay; split <;> omega
  refine zi_beq (tp_lay (ks (rs r)) : Int) 0 rfl zi_l0 (by omega) (fun z => hpay0 (Or.inl (by omega))) (fun z => ?_)
  have hge : ¬ ks (rs r) < 2 := by omega
  have hl4 := hlay2 hge
  have h29 : ¬ (r = 0 ∧ b = ks (rs r) - 1) → wX_paysOpening_29 post p0 (zi_o (tp_lay (ks (rs r)) : Nat)) f_room f_levels f_width f_none f_ahead f_behind f_capacity f_mismatch f_open f_extend f_runs f_columnTotal f_aligned f_begin f_end f_best f_heading f_position a_symbols a_lengths a_scratch a_waves a_runKinds a_runSizes := by
    intro hno
    refine zi_beq (r : Int) ((R : Int) - 1) e0 (by rw [eR, zi_l1, zi_sub]) (by omega) (fun z2 => ?_) (fun z2 => hpay1 (by intro y; omega))
    refine zi_beq (f : Int) (tp_lay (ks (rs r)) : Int) hend rfl (by omega) (fun z3 => hpay0 (Or.inr (Or.inr ⟨by omega, by omega⟩))) (fun z3 => hpay1 (by intro y; omega))
  refine zi_beq (r : Int) 0 e0 zi_l0 (by omega) (fun z2 => ?_) (fun z2 => h29 (by intro y; omega))
  refine zi_beq (b : Int) (tp_lay (ks (rs r)) : Int) hbeg rfl (by omega) (fun z3 => hpay0 (Or.inr (Or.inl ⟨by omega, by omega⟩))) (fun z3 => h29 (by intro y; omega))
theorem xw_spent19 (hc : xc_ok 15 n m x o e A B f_mismatch f_open f_extend a_lengths a_symbols) (hr : xr_ok ks T R rs a_runKinds a_runSizes) (hT : T ≤ 30) (hks : ∀ c, c < T → ks c < 4) (hb : b ≤ 2) (hf : f ≤ 2) (hbeg : f_begin = zi_o b) (hend : f_end = zi_o f) (eR : f_runs = zi_o R) (hpos : pos ≤ T)
    (h : post (zi_o (rn_S (rn_ch x o e b f T ks) pos : Nat))) :
    ∀ (d r : Nat) (y1 y2 y3 : Int32), r + d = R → y1 = zi_o ((pos - rs r : Nat) : Int) → y2 = zi_o (rn_S (rn_ch x o e b f T ks) (min pos (rs r)) : Nat) → y3 = zi_o r → ∀ N, d < N → wX_spent_19 post f_room f_levels f_width f_none f_ahead f_behind f_capacity f_mismatch f_open f_extend f_runs f_columnTotal f_aligned f_begin f_end f_best f_heading f_position a_symbols a_lengths a_scratch a_waves a_runKinds a_runSizes N y1 y2 y3 := by
  have hop : f_open = zi_o o := hc.2.2.2.2.2.2.2.2.1
  have hr' := hr
  obtain ⟨hR, hk⟩ := hr'
  have hRT := rn_RT hR
  intro d
  induction d with
  | zero =>
    intro r y1 y2 y3 hd e1 e2 e3 N hN
    obtain rfl : r = R := by omega
    rw [hR.2.1, Nat.min_eq_left hpos] at e2
    cases N with
    | zero => omega
    | succ N =>
      refine zi_ble (r : Int) r eR e3 (by omega) (fun z => ?_) (fun z => by omega)
      exact zi_p (post := post) h e2
  | succ d ih =>
    intro r y1 y2 y3 hd e1 e2 e3 N hN
    cases N with
    | zero => omega
    | succ N =>
      have h3 := hR.2.2.1 r (by omega)
      have h4 := rn_le hR (r := r + 1) (r' := R) (by omega) (Nat.le_refl _)
      rw [hR.2.1] at h4
      obtain ⟨k1, k2⟩ := hk r (by omega)
      have hk4 := hks (rs r) (by omega)
      obtain ⟨i1, c1⟩ := zi_ix (x := y3) (N := 30) r e3 (by omega) (by omega)
      refine zi_ble (R : Int) r eR e3 (by omega) (fun z => by omega) (fun z => ?_)
      refine zi_ble ((pos - rs r : Nat) : Int) 0 e1 zi_l0 (by omega) (fun z2 => ?_) (fun z2 => ⟨i1, ?_⟩)
      · rw [Nat.min_eq_left (by omega)] at e2
        exact zi_p (post := post) h e2
      · obtain ⟨t, ht⟩ : ∃ t, min pos (rs (r + 1)) = rs r + t + 1 := ⟨min pos (rs (r + 1)) - rs r - 1, by omega⟩
        have hS := rn_Sch (x := x) (o := o) (e := e) (b := b) (f := f) hR (r := r) (by omega) t (by omega)
        rw [Nat.min_eq_right (by omega)] at e2
        refine xw_lesser ((pos - rs r : Nat) : Int) ((rs (r + 1) : Int) - (rs r : Int)) e1 (by rw [c1]; exact k2) (by omega) (by omega) ?_
        rw [show min ((pos - rs r : Nat) : Int) ((rs (r + 1) : Int) - (rs r : Int)) = ((t + 1 : Nat) : Int) by omega]
        refine ⟨i1, ?_⟩
        refine xw_charge hc (ks (rs r)) (by omega) (by rw [c1]; exact k1) ?_
        refine nm_r (e' := zi_o ((rn_S (rn_ch x o e b f T ks) (rs r) + (t + 1) * rn_cc x e (ks (rs r)) : Nat) : Int)) ?_ ?_
        · rw [e2, zi_mul, zi_add]
          exact zi_c (by rw [Int.natCast_add (rn_S _ _), Int.natCast_mul])
        have e1' : y1 - zi_o ((t + 1 : Nat) : Int) = zi_o ((pos - rs (r + 1) : Nat) : Int) := by rw [e1, zi_sub]; exact zi_c (by omega)
        have e3' : y3 + 1 = zi_o ((r + 1 : Nat) : Int) := by rw [e3, zi_l1, zi_add]; exact zi_c (by omega)
        refine xw_pays hr hT hks hb hf hbeg hend eR r (by omega) e3 (o := o) (fun hp => ?_) (fun hp => ?_)
        · rw [hp, ← ht] at hS
          refine br_t rfl (nm_r e1' (nm_r e3' ?_))
          exact ih (r + 1) _ _ _ (by omega) rfl (by rw [hS]; rfl) rfl N (by omega)
        · rw [hp, ← ht] at hS
          refine br_f (by decide) ?_
          refine nm_r (e' := zi_o (rn_S (rn_ch x o e b f T ks) (min pos (rs (r + 1))) : Nat)) ?_ (nm_r e1' (nm_r e3' ?_))
          · rw [hop, zi_add, hS]
            exact zi_c (by omega)
          · exact ih (r + 1) _ _ _ (by omega) rfl rfl rfl N (by omega)
theorem xw_used21 (hr : xr_ok ks T R rs a_runKinds a_runSizes) (hT : T ≤ 30) (hks : ∀ c, c < T → ks c < 4) (eR : f_runs = zi_o R) (hpos : pos ≤ T) (skip : Nat) (hskip : skip < 4) {x2 : Int32} (ex : x2 = zi_o skip)
    (h : post (zi_o (rn_S (rn_u ks skip) pos : Nat))) :
    ∀ (d r : Nat) (y1 y2 y3 : Int32), r + d = R → y1 = zi_o ((pos - rs r : Nat) : Int) → y2 = zi_o (rn_S (rn_u ks skip) (min pos (rs r)) : Nat) → y3 = zi_o r → ∀ N, d < N → wX_usedOf_21 post x2 f_room f_levels f_width f_none f_ahead f_behind f_capacity f_mismatch f_open f_extend f_runs f_columnTotal f_aligned f_begin f_end f_best f_heading f_position a_symbols a_lengths a_scratch a_waves a_runKinds a_runSizes N y1 y2 y3 := by
  have hr' := hr
  obtain ⟨hR, hk⟩ := hr'
  have hRT := rn_RT hR
  intro d
  induction d with
  | zero =>
    intro r y1 y2 y3 hd e1 e2 e3 N hN
    obtain rfl : r = R := by omega
    rw [hR.2.1, Nat.min_eq_left hpos] at e2
    cases N with
    | zero => omega
    | succ N =>
      refine zi_ble (r : Int) r eR e3 (by omega) (fun z => ?_) (fun z => by omega)
      exact zi_p (post := post) h e2
  | succ d ih =>
    intro r y1 y2 y3 hd e1 e2 e3 N hN
    cases N with
    | zero => omega
    | succ N =>
      have h3 := hR.2.2.1 r (by omega)
      have h4 := rn_le hR (r := r + 1) (r' := R) (by omega) (Nat.le_refl _)
      rw [hR.2.1] at h4
      obtain ⟨k1, k2⟩ := hk r (by omega)
      have hk4 := hks (rs r) (by omega)
      obtain ⟨i1, c1⟩ := zi_ix (x := y3) (N := 30) r e3 (by omega) (by omega)
      refine zi_ble (R : Int) r eR e3 (by omega) (fun z => by omega) (fun z => ?_)
      refine zi_ble ((pos - rs r : Nat) : Int) 0 e1 zi_l0 (by omega) (fun z2 => ?_) (fun z2 => ⟨i1, ?_⟩)
      · rw [Nat.min_eq_left (by omega)] at e2
        exact zi_p (post := post) h e2
      · obtain ⟨t, ht⟩ : ∃ t, min pos (rs (r + 1)) = rs r + t := ⟨min pos (rs (r + 1)) - rs r, by omega⟩
        have hS := rn_Su hR skip (r := r) (by omega) t (by omega)
        rw [← ht] at hS
        rw [Nat.min_eq_right (by omega)] at e2
        refine xw_lesser ((pos - rs r : Nat) : Int) ((rs (r + 1) : Int) - (rs r : Int)) e1 (by rw [c1]; exact k2) (by omega) (by omega) ?_
        rw [show min ((pos - rs r : Nat) : Int) ((rs (r + 1) : Int) - (rs r : Int)) = (t : Int) by omega]
        refine ⟨i1, ?_⟩
        have e1' : y1 - zi_o (t : Int) = zi_o ((pos - rs (r + 1) : Nat) : Int) := by rw [e1, zi_sub]; exact zi_c (by omega)
        have e3' : y3 + 1 = zi_o ((r + 1 : Nat) : Int) := by rw [e3, zi_l1, zi_add]; exact zi_c (by omega)
        refine zi_beq (ks (rs r) : Int) skip (by rw [c1]; exact k1) ex (by omega) (fun z3 => ?_) (fun z3 => ?_)
        · rw [if_pos (by omega), Nat.add_zero] at hS
          refine nm_r e1' (nm_r e3' ?_)
          exact ih (r + 1) _ _ _ (by omega) rfl (by rw [hS]; exact e2) rfl N (by omega)
        · rw [if_neg (by omega)] at hS
          refine nm_r (e' := zi_o (rn_S (rn_u ks skip) (min pos (rs (r + 1))) : Nat)) ?_ (nm_r e1' (nm_r e3' ?_))
          · rw [e2, zi_add, hS]
            exact zi_c (by omega)
          · exact ih (r + 1) _ _ _ (by omega) rfl rfl rfl N (by omega)
/-- the columns before the position, by side -/
def ta_us (ks : Nat → Nat) (pos side : Nat) : Nat := rn_S (rn_u ks (if side = 0 then 2 else 3)) pos
theorem xw_spent (hc : xc_ok 15 n m x o e A B f_mismatch f_open f_extend a_lengths a_symbols) (hr : xr_ok ks T R rs a_runKinds a_runSizes) (hT : T ≤ 30) (hks : ∀ c, c < T → ks c < 4) (hb : b ≤ 2) (hf : f ≤ 2) (hbeg : f_begin = zi_o b) (hend : f_end = zi_o f) (eR : f_runs = zi_o R) (hpos : pos ≤ T) (ep : f_position = zi_o pos) (hal : ¬ f_aligned = 0)
    (h : post (zi_o (rn_S (rn_ch x o e b f T ks) pos : Nat))) : wpX_spent post (f_room, f_levels, f_width, f_none, f_ahead, f_behind, f_capacity, f_mismatch, f_open, f_extend, f_runs, f_columnTotal, f_aligned, f_begin, f_end, f_best, f_heading, f_position, a_symbols, a_lengths, a_scratch, a_waves, a_runKinds, a_runSizes) := by
  unfold wpX_spent
  refine br_f hal ⟨R + 1, ?_⟩
  have h0 := hr.1.1
  exact xw_spent19 hc hr hT hks hb hf hbeg hend eR hpos h R 0 _ _ _ (by omega) (by rw [h0]; exact ep) (by rw [h0, Nat.min_eq_right (Nat.zero_le _)]; exact zi_l0) zi_l0 _ (by omega)
theorem xw_used (hr : xr_ok ks T R rs a_runKinds a_runSizes) (hT : T ≤ 30) (hks : ∀ c, c < T → ks c < 4) (eR : f_runs = zi_o R) (hpos : pos ≤ T) (ep : f_position = zi_o pos) (side : Nat) (hside : side < 2) {p0 : Int32} (e0 : p0 = zi_o side)
    (h : post (zi_o (ta_us ks pos side : Nat))) : wpX_usedOf post (f_room, f_levels, f_width, f_none, f_ahead, f_behind, f_capacity, f_mismatch, f_open, f_extend, f_runs, f_columnTotal, f_aligned, f_begin, f_end, f_best, f_heading, f_position, a_symbols, a_lengths, a_scratch, a_waves, a_runKinds, a_runSizes) p0 := by
  have h0 := hr.1.1
  have h9 : ∀ (skip : Nat) (z0 : Int32), skip < 4 → z0 = zi_o skip → post (zi_o (rn_S (rn_u ks skip) pos : Nat)) → wX_usedOf_9 post z0 f_room f_levels f_width f_none f_ahead f_behind f_capacity f_mismatch f_open f_extend f_runs f_columnTotal f_aligned f_begin f_end f_best f_heading f_position a_symbols a_lengths a_scratch a_waves a_runKinds a_runSizes := by
    intro skip z0 hs ez hp
    exact ⟨R + 1, xw_used21 hr hT hks eR hpos skip hs ez hp R 0 _ _ _ (by omega) (by rw [h0]; exact ep) (by rw [h0, Nat.min_eq_right (Nat.zero_le _)]; exact zi_l0) zi_l0 _ (by omega)⟩
  unfold ta_us at h
  unfold wpX_usedOf
  refine zi_beq (side : Int) 0 e0 zi_l0 (by omega) (fun z => ?_) (fun z => ?_)
  · rw [if_pos (by omega)] at h
    exact h9 2 2 (by omega) zi_l2 h
  · rw [if_neg (by omega)] at h
    exact h9 3 3 (by omega) zi_l3 h
end
section
variable {g_capacity g_mismatch g_open g_extend g_aligned g_columns g_begin g_end g_direction g_position : Int32} {b_symbols b_size b_kinds b_rest b_tape : Nat → Int32} {n m x o e b f T R pos : Nat} {A B : Nat → Int32} {ks rs : Nat → Nat} {post : Int32 → Prop}
theorem yw_used (hk : yk_ok ks T b_kinds) (hpos : pos ≤ T) (ep : g_position = zi_o pos) (side : Nat) (hside : side < 2) {p0 : Int32} (e0 : p0 = zi_o side)
    (h : post (zi_o (ta_us ks pos side : Nat))) : wpY_used post (g_capacity, g_mismatch, g_open, g_extend, g_aligned, g_columns, g_begin, g_end, g_direction, g_position, b_symbols, b_size, b_kinds, b_rest, b_tape) p0 := by
  obtain ⟨hT, hk⟩ := hk
  have key : ∀ (d c : Nat) (y2 y3 : Int32), c + d = pos → y2 = zi_o (ta_us ks c side : Nat) → y3 = zi_o c → ∀ N, d < N → wY_used_4 post p0 g_capacity g_mismatch g_open g_extend g_aligned g_columns g_begin g_end g_direction g_position b_symbols b_size b_kinds b_rest b_tape N y2 y3 := by
    intro d
    induction d with
    | zero =>
      intro c y2 y3 hd e2 e3 N hN
      cases N with
      | zero => omega
      | succ N =>
        refine zi_ble (pos : Int) c ep e3 (by omega) (fun z => ?_) (fun z => by omega)
        obtain rfl : c = pos := by omega
        exact zi_p (post := post) h e2
    | succ d ih =>
      intro c y2 y3 hd e2 e3 N hN
      cases N with
      | zero => omega
      | succ N =>
        obtain ⟨i1, c1⟩ := zi_ix (x := y3) (N := 32) c e3 (by omega) (by omega)
        obtain ⟨k1, k4⟩ := hk c (by omega)
        have e3' : y3 + 1 = zi_o ((c + 1 : Nat) : Int) := by rw [e3, zi_l1, zi_add]; exact zi_c (by omega)
        have h27 : ∀ z0 : Int32, z0 = zi_o ((if side = 0 then 2 else 3 : Nat) : Int) → wY_used_27 post (wY_used_4 post p0 g_capacity g_mismatch g_open g_extend g_aligned g_columns g_begin g_end g_direction g_position b_symbols b_size b_kinds b_rest b_tape N) p0 y2 y3 z0 (b_kinds y3.toNatClampNeg) g_capacity g_mismatch g_open g_extend g_aligned g_columns g_begin g_end g_direction g_position b_symbols b_size b_kinds b_rest b_tape := by
          intro z0 ez
          have hstep : ta_us ks (c + 1) side = ta_us ks c side + rn_u ks (if side = 0 then 2 else 3) c := rfl
          unfold rn_u at hstep
          have hsk : (if side = 0 then 2 else 3) < 4 := by split <;> omega
          refine zi_beq (ks c : Int) ((if side = 0 then 2 else 3 : Nat) : Int) (by rw [c1]; exact k1) ez (by omega) (fun z => ?_) (fun z => ?_)
          · rw [if_pos (by omega), Nat.add_zero] at hstep
            refine nm_r e3' ?_
            exact ih (c + 1) _ _ (by omega) (by rw [hstep]; exact e2) rfl N (by omega)
          · rw [if_neg (by omega)] at hstep
            refine nm_r (e' := zi_o (ta_us ks (c + 1) side : Nat)) (by rw [e2, zi_l1, zi_add, hstep]; exact zi_c (by omega)) (nm_r e3' ?_)
            exact ih (c + 1) _ _ (by omega) rfl rfl N (by omega)
        refine zi_ble (pos : Int) c ep e3 (by omega) (fun z => by omega) (fun z => ⟨i1, ?_⟩)
        refine zi_beq (side : Int) 0 e0 zi_l0 (by omega) (fun z2 => ?_) (fun z2 => ?_)
        · exact h27 2 (by rw [if_pos (by omega)]; exact zi_l2)
        · exact h27 3 (by rw [if_neg (by omega)]; exact zi_l3)
  unfold wpY_used
  exact ⟨pos + 1, key pos 0 0 0 (by omega) zi_l0 zi_l0 _ (by omega)⟩
/-- where the count of runs stands at a column -/
def rn_at (rs : Nat → Nat) (R s c : Nat) : Prop := s ≤ R ∧ (s = 0 ∨ rs (s - 1) < c) ∧ c ≤ rs s
theorem rn_at_st (h : rn_R ks T R rs) {s c : Nat} (ha : rn_at rs R s c) (hc : c < T) : (c = rs s ∧ s < R ∧ ¬ (0 < c ∧ ks c = ks (c - 1)) ∧ rn_at rs R (s + 1) (c + 1)) ∨ (c < rs s ∧ (0 < c ∧ ks c = ks (c - 1)) ∧ rn_at rs R s (c + 1)) := by
  obtain ⟨h1, h2, h3⟩ := ha
  by_cases z : c = rs s
  · left
    have hsR : s < R := by
      by_cases y : s = R
      · rw [y, h.2.1] at z; omega
      · omega
    refine ⟨z, hsR, ?_, by omega, Or.inr (by rw [show s + 1 - 1 = s from rfl]; omega), ?_⟩
    · rw [z]
      intro w
      rcases rn_start h hsR with v | v
      · omega
      · exact v w.2
    · have := h.2.2.1 s hsR
      omega
  · right
    refine ⟨by omega, ?_, h1, by omega, by omega⟩
    cases s with
    | zero => have := h.1; omega
    | succ s =>
      exact rn_nstart h (r := s) (by omega) (by rcases h2 with w | w; omega; exact w) (by omega)
theorem rn_at_T (h : rn_R ks T R rs) {s : Nat} (ha : rn_at rs R s T) : s = R := by
  obtain ⟨h1, h2, h3⟩ := ha
  by_cases z : s = R
  · exact z
  · have h4 := h.2.2.1 s (by omega)
    have h5 := rn_le h (r := s + 1) (r' := R) (by omega) (Nat.le_refl _)
    rw [h.2.1] at h5
    omega
theorem yw_runCount (hk : yk_ok ks T b_kinds) (hR : rn_R ks T R rs) (eT : g_columns = zi_o T) (hal : ¬ g_aligned = 0) (h : post (zi_o (R : Nat))) : wpY_runCount post (g_capacity, g_mismatch, g_open, g_extend, g_aligned, g_columns, g_begin, g_end, g_direction, g_position, b_symbols, b_size, b_kinds, b_rest, b_tape) := by
  have hT := hk.1
  have hRT := rn_RT hR
  have key : ∀ (d c s : Nat) (y1 y2 : Int32), c + d = T → rn_at rs R s c → y1 = zi_o s → y2 = zi_o c → ∀ N, d < N → wY_runCount_14 post g_capacity g_mismatch g_open g_extend g_aligned g_columns g_begin g_end g_direction g_position b_symbols b_size b_kinds b_rest b_tape N y1 y2 := by
    intro d
    induction d with
    | zero =>
      intro c s y1 y2 hd ha e1 e2 N hN
      cases N with
      | zero => omega
      | succ N =>
        refine zi_ble (T : Int) c eT e2 (by omega) (fun z => ?_) (fun z => by omega)
        obtain rfl : c = T := by omega
        have := rn_at_T hR ha
        exact zi_p (post := post) h (by rw [e1, this])
    | succ d ih =>
      intro c s y1 y2 hd ha e1 e2 N hN
      cases N with
      | zero => omega
      | succ N =>
        have e2' : y2 + 1 = zi_o ((c + 1 : Nat) : Int) := by rw [e2, zi_l1, zi_add]; exact zi_c (by omega)
        refine zi_ble (T : Int) c eT e2 (by omega) (fun z => by omega) (fun z => ?_)
        rcases rn_at_st hR ha (by omega) with ⟨_, _, w, w'⟩ | ⟨_, w, w'⟩
        · refine yw_start hk c (by omega) e2 (fun _ => ?_) (fun y => absurd y w)
          refine br_f (by decide) (nm_r (e' := zi_o ((s + 1 : Nat) : Int)) (by rw [e1, zi_l1, zi_add]; exact zi_c (by omega)) (nm_r e2' ?_))
          exact ih (c + 1) (s + 1) _ _ (by omega) w' rfl rfl N (by omega)
        · refine yw_start hk c (by omega) e2 (fun y => absurd w y) (fun _ => ?_)
          refine br_t rfl (nm_r e2' ?_)
          exact ih (c + 1) s _ _ (by omega) w' e1 rfl N (by omega)
  unfold wpY_runCount
  refine br_f hal ⟨T + 1, key T 0 0 0 0 (by omega) ⟨Nat.zero_le _, Or.inl rfl, Nat.zero_le _⟩ zi_l0 zi_l0 _ (by omega)⟩
theorem yw_runStart (hk : yk_ok ks T b_kinds) (hR : rn_R ks T R rs) (eT : g_columns = zi_o T) (run : Nat) (hrun : run ≤ R) {p0 : Int32} (e0 : p0 = zi_o run) (h : post (zi_o (rs run : Nat))) : wpY_runStart post (g_capacity, g_mismatch, g_open, g_extend, g_aligned, g_columns, g_begin, g_end, g_direction, g_position, b_symbols, b_size, b_kinds, b_rest, b_tape) p0 := by
  have hT := hk.1
  have hRT := rn_RT hR
  have key : ∀ (d c s : Nat) (y1 y2 : Int32), c + d = T → rn_at rs R s c → s ≤ run → y1 = zi_o s → y2 = zi_o c → ∀ N, d < N → wY_runStart_4 post p0 g_capacity g_mismatch g_open g_extend g_aligned g_columns g_begin g_end g_direction g_position b_symbols b_size b_kinds b_rest b_tape N y1 y2 := by
    intro d
    induction d with
    | zero =>
      intro c s y1 y2 hd ha hs e1 e2 N hN
      cases N with
      | zero => omega
      | succ N =>
        refine zi_ble (T : Int) c eT e2 (by omega) (fun z => ?_) (fun z => by omega)
        obtain rfl : c = T := by omega
        have h5 := rn_at_T hR ha
        obtain rfl : run = R := by omega
        exact zi_p (post := post) h (by rw [eT, hR.2.1])
    | succ d ih =>
      intro c s y1 y2 hd ha hs e1 e2 N hN
      cases N with
      | zero => omega
      | succ N =>
        have e2' : y2 + 1 = zi_o ((c + 1 : Nat) : Int) := by rw [e2, zi_l1, zi_add]; exact zi_c (by omega)
        refine zi_ble (T : Int) c eT e2 (by omega) (fun z => by omega) (fun z => ?_)
        rcases rn_at_st hR ha (by omega) with ⟨v, v2, w, w'⟩ | ⟨_, w, w'⟩
        · refine yw_start hk c (by omega) e2 (fun _ => ?_) (fun y => absurd y w)
          refine br_f (by decide) ?_
          refine zi_beq (s : Int) run e1 e0 (by omega) (fun z2 => ?_) (fun z2 => ?_)
          · obtain rfl : s = run := by omega
            exact zi_p (post := post) h (by rw [e2, v])
          · refine br_f (by decide) (nm_r (e' := zi_o ((s + 1 : Nat) : Int)) (by rw [e1, zi_l1, zi_add]; exact zi_c (by omega)) (nm_r e2' ?_))
            exact ih (c + 1) (s + 1) _ _ (by omega) w' (by omega) rfl rfl N (by omega)
        · refine yw_start hk c (by omega) e2 (fun y => absurd w y) (fun _ => ?_)
          refine br_t rfl (br_t rfl (nm_r e2' ?_))
          exact ih (c + 1) s _ _ (by omega) w' hs e1 rfl N (by omega)
  unfold wpY_runStart
  exact ⟨T + 1, key T 0 0 0 0 (by omega) ⟨Nat.zero_le _, Or.inl rfl, Nat.zero_le _⟩ (by omega) zi_l0 zi_l0 _ (by omega)⟩
end
end
section
/-! 19 the tape, and what is kept of it -/
def ta_len (n m side : Nat) : Nat := if side = 0 then n else m
def ta_S (A B : Nat → Int32) (side : Nat) : Nat → Int32 := if side = 0 then A else B
def ta_sz (ks : Nat → Nat) (n m pos hd : Nat) : Nat := ta_us ks pos (1 - hd) + (ta_len n m hd - ta_us ks pos hd)
def ta_sym (A B : Nat → Int32) (ks : Nat → Nat) (pos hd t : Nat) : Int32 :=
  if t < ta_us ks pos (1 - hd) then ta_S A B (1 - hd) t else ta_S A B hd (ta_us ks pos hd + t - ta_us ks pos (1 - hd))
/-- what stands while an alignment stands: component, reference -/
def ax_ok (n m T R pos hd : Nat) (ks rs : Nat → Nat) (runs heading position : Int32) (rk rz : Nat → Int32) : Prop :=
  xr_ok ks T R rs rk rz ∧ T ≤ 30 ∧ (∀ c, c < T → ks c < 4) ∧ runs = zi_o (R : Nat) ∧ pos ≤ T ∧ position = zi_o (pos : Nat) ∧ heading = zi_o (hd : Nat) ∧ hd < 2
  ∧ rn_S (rn_u ks 2) T = n ∧ rn_S (rn_u ks 3) T = m
def ay_ok (n m T pos hd : Nat) (ks : Nat → Nat) (columns direction position : Int32) (kinds : Nat → Int32) : Prop :=
  yk_ok ks T kinds ∧ columns = zi_o (T : Nat) ∧ pos ≤ T ∧ position = zi_o (pos : Nat) ∧ direction = zi_o (hd : Nat) ∧ hd < 2
  ∧ rn_S (rn_u ks 2) T = n ∧ rn_S (rn_u ks 3) T = m
theorem ta_le {n m T pos : Nat} {ks : Nat → Nat} (hpos : pos ≤ T) (h2 : rn_S (rn_u ks 2) T = n) (h3 : rn_S (rn_u ks 3) T = m) (side : Nat) : ta_us ks pos side ≤ ta_len n m side := by
  unfold ta_us ta_len
  split
  · rw [← h2]; exact rn_Smono _ hpos
  · rw [← h3]; exact rn_Smono _ hpos
section
variable {off n m x o e : Nat} {A B : Nat → Int32} {mis op ex : Int32} {len sym : Nat → Int32}
theorem xc_len (hc : xc_ok off n m x o e A B mis op ex len sym) (side : Nat) (hs : side < 2) : len side = zi_o (ta_len n m side : Nat) ∧ ta_len n m side ≤ 15 := by
  obtain ⟨hn, hm, hx1, hx7, ho5, he1, he2, hmis, hop, hex, hl0, hl1, hA, hB⟩ := hc
  have : side = 0 ∨ side = 1 := by omega
  unfold ta_len
  rcases this with rfl | rfl
  · exact ⟨hl0, hn⟩
  · exact ⟨hl1, hm⟩
theorem xc_sym (hc : xc_ok off n m x o e A B mis op ex len sym) (side t : Nat) (hs : side < 2) (ht : t < ta_len n m side) : sym (side * off + t) = ta_S A B side t := by
  obtain ⟨hn, hm, hx1, hx7, ho5, he1, he2, hmis, hop, hex, hl0, hl1, hA, hB⟩ := hc
  have : side = 0 ∨ side = 1 := by omega
  unfold ta_len at ht
  unfold ta_S
  rcases this with rfl | rfl
  · rw [Nat.zero_mul, Nat.zero_add]; exact hA t ht
  · rw [Nat.one_mul]; exact hB t ht
theorem xc_new (hoff : 15 ≤ off) (hc : xc_ok off n m x o e A B mis op ex len sym) (side ln : Nat) (hs : side < 2) (hln : ln ≤ 15) (S' : Nat → Int32) {sym' : Nat → Int32} (h1 : ∀ t, t < ln → sym' (side * off + t) = S' t) (h2 : ∀ j, (j < side * off ∨ side * off + ln ≤ j) → sym' j = sym j) :
    xc_ok off (if side = 0 then ln else n) (if side = 0 then m else ln) x o e (if side = 0 then S' else A) (if side = 0 then B else S') mis op ex (upd len side (zi_o (ln : Nat))) sym' := by
  obtain ⟨hn, hm, hx1, hx7, ho5, he1, he2, hmis, hop, hex, hl0, hl1, hA, hB⟩ := hc
  have : side = 0 ∨ side = 1 := by omega
  rcases this with rfl | rfl
  · rw [if_pos rfl, if_pos rfl, if_pos rfl, if_pos rfl]
    refine ⟨hln, hm, hx1, hx7, ho5, he1, he2, hmis, hop, hex, zi_us rfl, by rw [zi_un (by decide)]; exact hl1, ?_, ?_⟩
    · intro i hi
      have := h1 i hi
      rw [Nat.zero_mul, Nat.zero_add] at this
      exact this
    · intro j hj
      rw [h2 (off + j) (by omega)]
      exact hB j hj
  · rw [if_neg (by decide), if_neg (by decide), if_neg (by decide), if_neg (by decide)]
    refine ⟨hn, hln, hx1, hx7, ho5, he1, he2, hmis, hop, hex, by rw [zi_un (by decide)]; exact hl0, zi_us rfl, ?_, ?_⟩
    · intro i hi
      rw [h2 i (by omega)]
      exact hA i hi
    · intro j hj
      have := h1 j hj
      rw [Nat.one_mul] at this
      exact this
end
section
variable {f_room f_levels f_width f_none f_ahead f_behind f_capacity f_mismatch f_open f_extend f_runs f_columnTotal f_aligned f_begin f_end f_best f_heading f_position : Int32} {a_symbols a_lengths a_scratch a_waves a_runKinds a_runSizes : Nat → Int32} {cap n m x o e T R pos hd : Nat} {A B : Nat → Int32} {ks rs : Nat → Nat}
theorem xw_lead {post : Int32 → Prop} (hhd : hd < 2) (eh : f_heading = zi_o (hd : Nat)) (h : post (zi_o ((1 - hd : Nat) : Int))) : wpX_leadSide post (f_room, f_levels, f_width, f_none, f_ahead, f_behind, f_capacity, f_mismatch, f_open, f_extend, f_runs, f_columnTotal, f_aligned, f_begin, f_end, f_best, f_heading, f_position, a_symbols, a_lengths, a_scratch, a_waves, a_runKinds, a_runSizes) := by
  unfold wpX_leadSide
  refine zi_beq (hd : Int) 0 eh zi_l0 (by omega) (fun z => ?_) (fun z => ?_)
  · exact zi_p (post := post) h (zi_l1.trans (zi_c (by omega)))
  · exact zi_p (post := post) h (zi_l0.trans (zi_c (by omega)))
theorem xw_tapeSize (hc : xc_ok 15 n m x o e A B f_mismatch f_open f_extend a_lengths a_symbols) (ha : ax_ok n m T R pos hd ks rs f_runs f_heading f_position a_runKinds a_runSizes) {post : Int32 → Prop} (h : post (zi_o (ta_sz ks n m pos hd : Nat))) : wpX_tapeSize post (f_room, f_levels, f_width, f_none, f_ahead, f_behind, f_capacity, f_mismatch, f_open, f_extend, f_runs, f_columnTotal, f_aligned, f_begin, f_end, f_best, f_heading, f_position, a_symbols, a_lengths, a_scratch, a_waves, a_runKinds, a_runSizes) := by
  obtain ⟨hr, hT, hks, eR, hpos, ep, eh, hhd, t2, t3⟩ := ha
  obtain ⟨hl, _⟩ := xc_len hc hd hhd
  have hle := ta_le hpos t2 t3 hd
  unfold wpX_tapeSize
  refine xw_lead hhd eh ?_
  refine nm_r (e' := zi_o (hd : Nat)) (by rw [zi_l1, zi_sub]; exact zi_c (by omega)) ?_
  obtain ⟨i1, c1⟩ := zi_ix (x := zi_o (hd : Nat)) (N := 2) hd rfl hhd (by omega)
  refine xw_used hr hT hks eR hpos ep (1 - hd) (by omega) rfl ?_
  refine ⟨i1, ?_⟩
  refine xw_used hr hT hks eR hpos ep hd hhd rfl ?_
  refine zi_p (post := post) h ?_
  rw [c1, hl, zi_add, zi_sub]
  exact zi_c (by unfold ta_sz; omega)
theorem xw_tapeSym (hc : xc_ok 15 n m x o e A B f_mismatch f_open f_extend a_lengths a_symbols) (ha : ax_ok n m T R pos hd ks rs f_runs f_heading f_position a_runKinds a_runSizes) {post : Int32 → Prop} (t : Nat) (ht : t < ta_sz ks n m pos hd) {p0 : Int32} (e0 : p0 = zi_o (t : Nat)) (h : post (ta_sym A B ks pos hd t)) : wpX_tapeSymbol post (f_room, f_levels, f_width, f_none, f_ahead, f_behind, f_capacity, f_mismatch, f_open, f_extend, f_runs, f_columnTotal, f_aligned, f_begin, f_end, f_best, f_heading, f_position, a_symbols, a_lengths, a_scratch, a_waves, a_runKinds, a_runSizes) p0 := by
  obtain ⟨hr, hT, hks, eR, hpos, ep, eh, hhd, t2, t3⟩ := ha
  obtain ⟨_, hl⟩ := xc_len hc hd hhd
  obtain ⟨_, hl'⟩ := xc_len hc (1 - hd) (by omega)
  have hle := ta_le hpos t2 t3 hd
  have hle' := ta_le hpos t2 t3 (1 - hd)
  unfold ta_sz at ht
  unfold ta_sym at h
  unfold wpX_tapeSymbol
  refine xw_lead hhd eh ?_
  refine nm_r (e' := zi_o (hd : Nat)) (by rw [zi_l1, zi_sub]; exact zi_c (by omega)) ?_
  refine xw_used hr hT hks eR hpos ep (1 - hd) (by omega) rfl ?_
  refine zi_ble (ta_us ks pos (1 - hd) : Int) t rfl e0 (by omega) (fun z => ?_) (fun z => ?_)
  · rw [if_neg (by omega)] at h
    refine xw_used hr hT hks eR hpos ep hd hhd rfl ?_
    refine nm_r (e' := zi_o ((ta_us ks pos hd + t - ta_us ks pos (1 - hd) : Nat) : Int)) (by rw [e0, zi_add, zi_sub]; exact zi_c (by omega)) ?_
    obtain ⟨i1, c1⟩ := zi_ix (x := zi_o (hd : Nat) * 15 + zi_o ((ta_us ks pos hd + t - ta_us ks pos (1 - hd) : Nat) : Int)) (N := 30) (hd * 15 + (ta_us ks pos hd + t - ta_us ks pos (1 - hd))) (by rw [zi_l15, zi_mul, zi_add]; exact zi_c (by omega)) (by omega) (by omega)
    refine ⟨i1, ?_⟩
    rw [c1, xc_sym hc hd _ hhd (by omega)]
    exact h
  · rw [if_pos (by omega)] at h
    obtain ⟨i1, c1⟩ := zi_ix (x := zi_o ((1 - hd : Nat) : Int) * 15 + p0) (N := 30) ((1 - hd) * 15 + t) (by rw [e0, zi_l15, zi_mul, zi_add]; exact zi_c (by omega)) (by omega) (by omega)
    refine ⟨i1, ?_⟩
    rw [c1, xc_sym hc (1 - hd) t (by omega) (by omega)]
    exact h
theorem xw_keep62 {post : Int32 → SX → Prop} (side sz : Nat) (hside : side < 2) (hsz : sz ≤ 15) {x1 x2 : Int32} (e1 : x1 = zi_o (side : Nat)) (e2 : x2 = zi_o (sz : Nat)) {sy0 : Nat → Int32}
    (h : ∀ sy, (∀ t, t < sz → sy (side * 15 + t) = a_scratch t) → (∀ j, (j < side * 15 ∨ side * 15 + sz ≤ j) → sy j = sy0 j) → post (zi_o (sz : Nat)) (f_room, f_levels, f_width, f_none, f_ahead, f_behind, f_capacity, f_mismatch, f_open, f_extend, f_runs, f_columnTotal, 0, f_begin, f_end, f_best, f_heading, f_position, sy, upd a_lengths side (zi_o (sz : Nat)), a_scratch, a_waves, a_runKinds, a_runSizes)) :
    ∀ (d t : Nat) (sy : Nat → Int32) (y3 : Int32), t + d = sz → y3 = zi_o (t : Nat) → (∀ t', t' < t → sy (side * 15 + t') = a_scratch t') → (∀ j, (j < side * 15 ∨ side * 15 + t ≤ j) → sy j = sy0 j) → ∀ N, d < N →
      wX_keep_62 post x1 x2 f_room f_levels f_width f_none f_ahead f_behind f_capacity f_mismatch f_open f_extend f_runs f_columnTotal f_aligned f_begin f_end f_best f_heading f_position N y3 sy a_lengths a_scratch a_waves a_runKinds a_runSizes := by
  intro d
  induction d with
  | zero =>
    intro t sy y3 hd e3 h1 h2 N hN
    obtain rfl : t = sz := by omega
    cases N with
    | zero => omega
    | succ N =>
      obtain ⟨i1, c1⟩ := zi_ix (x := x1) (N := 2) side e1 hside (by omega)
      refine zi_ble (t : Int) t e2 e3 (by omega) (fun z => ?_) (fun z => by omega)
      refine ⟨i1, nm_r (e' := upd a_lengths side (zi_o (t : Nat))) (by rw [c1, e2]) ?_⟩
      rw [e2]
      exact h sy h1 h2
  | succ d ih =>
    intro t sy y3 hd e3 h1 h2 N hN
    cases N with
    | zero => omega
    | succ N =>
      obtain ⟨i3, c3⟩ := zi_ix (x := y3) (N := 15) t e3 (by omega) (by omega)
      obtain ⟨i1, c1⟩ := zi_ix (x := x1 * 15 + y3) (N := 30) (side * 15 + t) (by rw [e1, e3, zi_l15, zi_mul, zi_add]; exact zi_c (by omega)) (by omega) (by omega)
      refine zi_ble (sz : Int) t e2 e3 (by omega) (fun z => by omega) (fun z => ?_)
      refine ⟨i3, i1, nm_r (e' := upd sy (side * 15 + t) (a_scratch t)) (by rw [c1, c3]) ?_⟩
      refine nm_r (e' := zi_o ((t + 1 : Nat) : Int)) (by rw [e3, zi_l1, zi_add]; exact zi_c (by omega)) ?_
      refine ih (t + 1) _ _ (by omega) rfl ?_ ?_ N (by omega)
      · intro t' ht'
        by_cases z2 : t' = t
        · rw [z2, zi_us rfl]
        · rw [zi_un (by omega)]; exact h1 t' (by omega)
      · intro j hj
        rw [zi_un (by omega)]; exact h2 j (by omega)
theorem xw_keep38 (hc : xc_ok 15 n m x o e A B f_mismatch f_open f_extend a_lengths a_symbols) (ha : ax_ok n m T R pos hd ks rs f_runs f_heading f_position a_runKinds a_runSizes) {post : Int32 → SX → Prop} (side : Nat) (hside : side < 2) (hsz : ta_sz ks n m pos hd ≤ 15) {x1 x2 : Int32} (e1 : x1 = zi_o (side : Nat)) (e2 : x2 = zi_o (ta_sz ks n m pos hd : Nat))
    (h : ∀ sy sc, (∀ t, t < ta_sz ks n m pos hd → sy (side * 15 + t) = ta_sym A B ks pos hd t) → (∀ j, (j < side * 15 ∨ side * 15 + ta_sz ks n m pos hd ≤ j) → sy j = a_symbols j) → post (zi_o (ta_sz ks n m pos hd : Nat)) (f_room, f_levels, f_width, f_none, f_ahead, f_behind, f_capacity, f_mismatch, f_open, f_extend, f_runs, f_columnTotal, 0, f_begin, f_end, f_best, f_heading, f_position, sy, upd a_lengths side (zi_o (ta_sz ks n m pos hd : Nat)), sc, a_waves, a_runKinds, a_runSizes)) :
    ∀ (d t : Nat) (sc : Nat → Int32) (y3 : Int32), t + d = ta_sz ks n m pos hd → y3 = zi_o (t : Nat) → (∀ t', t' < t → sc t' = ta_sym A B ks pos hd t') → ∀ N, d < N →
      wX_keep_38 post x1 x2 f_room f_levels f_width f_none f_ahead f_behind f_capacity f_mismatch f_open f_extend f_runs f_columnTotal f_aligned f_begin f_end f_best f_heading f_position N y3 a_symbols a_lengths sc a_waves a_runKinds a_runSizes := by
  intro d
  induction d with
  | zero =>
    intro t sc y3 hd' e3 h1 N hN
    cases N with
    | zero => omega
    | succ N =>
      refine zi_ble (ta_sz ks n m pos hd : Int) t e2 e3 (by omega) (fun z => ?_) (fun z => by omega)
      refine ⟨ta_sz ks n m pos hd + 1, ?_⟩
      refine xw_keep62 (sy0 := a_symbols) side (ta_sz ks n m pos hd) hside hsz e1 e2 (fun sy g1 g2 => ?_) (ta_sz ks n m pos hd) 0 a_symbols 0 (by omega) zi_l0 (fun t' ht' => by omega) (fun j _ => rfl) _ (by omega)
      refine h sy sc (fun t' ht' => ?_) g2
      rw [g1 t' ht']; exact h1 t' (by omega)
  | succ d ih =>
    intro t sc y3 hd' e3 h1 N hN
    cases N with
    | zero => omega
    | succ N =>
      obtain ⟨i3, c3⟩ := zi_ix (x := y3) (N := 15) t e3 (by omega) (by omega)
      refine zi_ble (ta_sz ks n m pos hd : Int) t e2 e3 (by omega) (fun z => by omega) (fun z => ?_)
      refine xw_tapeSym hc ha t (by omega) e3 ?_
      refine ⟨i3, nm_r (e' := upd sc t (ta_sym A B ks pos hd t)) (by rw [c3]) ?_⟩
      refine nm_r (e' := zi_o ((t + 1 : Nat) : Int)) (by rw [e3, zi_l1, zi_add]; exact zi_c (by omega)) ?_
      refine ih (t + 1) _ _ (by omega) rfl ?_ N (by omega)
      intro t' ht'
      by_cases z2 : t' = t
      · rw [z2, zi_us rfl]
      · rw [zi_un z2]; exact h1 t' (by omega)
end
section
variable {g_capacity g_mismatch g_open g_extend g_aligned g_columns g_begin g_end g_direction g_position : Int32} {b_symbols b_size b_kinds b_rest b_tape : Nat → Int32} {cap n m x o e T pos hd : Nat} {A B : Nat → Int32} {ks : Nat → Nat}
theorem yw_tapeLen (hc : xc_ok 16 n m x o e A B g_mismatch g_open g_extend b_size b_symbols) (ha : ay_ok n m T pos hd ks g_columns g_direction g_position b_kinds) (hal : ¬ g_aligned = 0) {post : Int32 → Prop} (h : post (zi_o (ta_sz ks n m pos hd : Nat))) : wpY_tapeLength post (g_capacity, g_mismatch, g_open, g_extend, g_aligned, g_columns, g_begin, g_end, g_direction, g_position, b_symbols, b_size, b_kinds, b_rest, b_tape) := by
  obtain ⟨hk, eT, hpos, ep, eh, hhd, t2, t3⟩ := ha
  obtain ⟨hl, _⟩ := xc_len hc hd hhd
  have hle := ta_le hpos t2 t3 hd
  obtain ⟨i1, c1⟩ := zi_ix (x := g_direction) (N := 2) hd eh hhd (by omega)
  unfold wpY_tapeLength
  refine br_f hal ?_
  refine yw_used hk hpos ep (1 - hd) (by omega) (by rw [eh, zi_l1, zi_sub]; exact zi_c (by omega)) ?_
  refine ⟨i1, ?_⟩
  refine yw_used hk hpos ep hd hhd eh ?_
  refine zi_p (post := post) h ?_
  rw [c1, hl, zi_add, zi_sub]
  exact zi_c (by unfold ta_sz; omega)
theorem yw_tapeAt (hc : xc_ok 16 n m x o e A B g_mismatch g_open g_extend b_size b_symbols) (ha : ay_ok n m T pos hd ks g_columns g_direction g_position b_kinds) (hal : ¬ g_aligned = 0) {post : Int32 → Prop} (t : Nat) (ht : t < ta_sz ks n m pos hd) {p0 : Int32} (e0 : p0 = zi_o (t : Nat)) (h : post (ta_sym A B ks pos hd t)) : wpY_tapeAt post (g_capacity, g_mismatch, g_open, g_extend, g_aligned, g_columns, g_begin, g_end, g_direction, g_position, b_symbols, b_size, b_kinds, b_rest, b_tape) p0 := by
  have ha' := ha
  obtain ⟨hk, eT, hpos, ep, eh, hhd, t2, t3⟩ := ha'
  obtain ⟨_, hl⟩ := xc_len hc hd hhd
  obtain ⟨_, hl'⟩ := xc_len hc (1 - hd) (by omega)
  have hle := ta_le hpos t2 t3 hd
  have hle' := ta_le hpos t2 t3 (1 - hd)
  have hT := hk.1
  have htsz := ht
  unfold ta_sz at ht
  unfold ta_sym at h
  have hsb : ta_sz ks n m pos hd ≤ 1000 := by unfold ta_sz; omega
  unfold wpY_tapeAt
  refine br_f hal ?_
  refine zi_blt (t : Int) 0 e0 zi_l0 (by omega) (fun z => by omega) (fun z => ?_)
  refine yw_tapeLen hc ha hal ?_
  refine zi_blt (t : Int) (ta_sz ks n m pos hd : Int) e0 rfl (by omega) (fun z => ?_) (fun z => by omega)
  refine yw_used hk hpos ep (1 - hd) (by omega) (by rw [eh, zi_l1, zi_sub]; exact zi_c (by omega)) ?_
  refine zi_ble (ta_us ks pos (1 - hd) : Int) t rfl e0 (by omega) (fun z => ?_) (fun z => ?_)
  · rw [if_neg (by omega)] at h
    refine yw_used hk hpos ep hd hhd eh ?_
    obtain ⟨i1, c1⟩ := zi_ix (x := ((g_direction * 16 + zi_o (ta_us ks pos hd : Nat)) + p0) - zi_o (ta_us ks pos (1 - hd) : Nat)) (N := 32) (hd * 16 + (ta_us ks pos hd + t - ta_us ks pos (1 - hd))) (by rw [e0, eh, zi_l16, zi_mul, zi_add, zi_add, zi_sub]; exact zi_c (by omega)) (by omega) (by omega)
    refine ⟨i1, ?_⟩
    rw [c1, xc_sym hc hd _ hhd (by omega)]
    exact h
  · rw [if_pos (by omega)] at h
    obtain ⟨i1, c1⟩ := zi_ix (x := (1 - g_direction) * 16 + p0) (N := 32) ((1 - hd) * 16 + t) (by rw [e0, eh, zi_l16, zi_l1, zi_sub, zi_mul, zi_add]; exact zi_c (by omega)) (by omega) (by omega)
    refine ⟨i1, ?_⟩
    rw [c1, xc_sym hc (1 - hd) t (by omega) (by omega)]
    exact h
theorem yw_keep63 {post : Int32 → SY → Prop} (side sz : Nat) (hside : side < 2) (hsz : sz ≤ 15) {x1 x2 : Int32} (e1 : x1 = zi_o (side : Nat)) (e2 : x2 = zi_o (sz : Nat)) {sy0 : Nat → Int32}
    (h : ∀ sy, (∀ t, t < sz → sy (side * 16 + t) = b_tape t) → (∀ j, (j < side * 16 ∨ side * 16 + sz ≤ j) → sy j = sy0 j) → post (zi_o (sz : Nat)) (g_capacity, g_mismatch, g_open, g_extend, 0, g_columns, g_begin, g_end, g_direction, g_position, sy, upd b_size side (zi_o (sz : Nat)), b_kinds, b_rest, b_tape)) :
    ∀ (d t : Nat) (sy : Nat → Int32) (y3 : Int32), t + d = sz → y3 = zi_o (t : Nat) → (∀ t', t' < t → sy (side * 16 + t') = b_tape t') → (∀ j, (j < side * 16 ∨ side * 16 + t ≤ j) → sy j = sy0 j) → ∀ N, d < N →
      wY_keep_63 post x1 x2 g_capacity g_mismatch g_open g_extend g_aligned g_columns g_begin g_end g_direction g_position N y3 sy b_size b_kinds b_rest b_tape := by
  intro d
  induction d with
  | zero =>
    intro t sy y3 hd e3 h1 h2 N hN
    obtain rfl : t = sz := by omega
    cases N with
    | zero => omega
    | succ N =>
      obtain ⟨i1, c1⟩ := zi_ix (x := x1) (N := 2) side e1 hside (by omega)
      refine zi_ble (t : Int) t e2 e3 (by omega) (fun z => ?_) (fun z => by omega)
      refine ⟨i1, nm_r (e' := upd b_size side (zi_o (t : Nat))) (by rw [c1, e2]) ?_⟩
      rw [e2]
      exact h sy h1 h2
  | succ d ih =>
    intro t sy y3 hd e3 h1 h2 N hN
    cases N with
    | zero => omega
    | succ N =>
      obtain ⟨i3, c3⟩ := zi_ix (x := y3) (N := 32) t e3 (by omega) (by omega)
      obtain ⟨i1, c1⟩ := zi_ix (x := x1 * 16 + y3) (N := 32) (side * 16 + t) (by rw [e1, e3, zi_l16, zi_mul, zi_add]; exact zi_c (by omega)) (by omega) (by omega)
      refine zi_ble (sz : Int) t e2 e3 (by omega) (fun z => by omega) (fun z => ?_)
      refine ⟨i3, i1, nm_r (e' := upd sy (side * 16 + t) (b_tape t)) (by rw [c1, c3]) ?_⟩
      refine nm_r (e' := zi_o ((t + 1 : Nat) : Int)) (by rw [e3, zi_l1, zi_add]; exact zi_c (by omega)) ?_
      refine ih (t + 1) _ _ (by omega) rfl ?_ ?_ N (by omega)
      · intro t' ht'
        by_cases z2 : t' = t
        · rw [z2, zi_us rfl]
        · rw [zi_un (by omega)]; exact h1 t' (by omega)
      · intro j hj
        rw [zi_un (by omega)]; exact h2 j (by omega)
theorem yw_keep39 (hc : xc_ok 16 n m x o e A B g_mismatch g_open g_extend b_size b_symbols) (ha : ay_ok n m T pos hd ks g_columns g_direction g_position b_kinds) (hal : ¬ g_aligned = 0) {post : Int32 → SY → Prop} (side : Nat) (hside : side < 2) (hsz : ta_sz ks n m pos hd ≤ 15) {x1 x2 : Int32} (e1 : x1 = zi_o (side : Nat)) (e2 : x2 = zi_o (ta_sz ks n m pos hd : Nat))
    (h : ∀ sy tp, (∀ t, t < ta_sz ks n m pos hd → sy (side * 16 + t) = ta_sym A B ks pos hd t) → (∀ j, (j < side * 16 ∨ side * 16 + ta_sz ks n m pos hd ≤ j) → sy j = b_symbols j) → post (zi_o (ta_sz ks n m pos hd : Nat)) (g_capacity, g_mismatch, g_open, g_extend, 0, g_columns, g_begin, g_end, g_direction, g_position, sy, upd b_size side (zi_o (ta_sz ks n m pos hd : Nat)), b_kinds, b_rest, tp)) :
    ∀ (d t : Nat) (tp : Nat → Int32) (y3 : Int32), t + d = ta_sz ks n m pos hd → y3 = zi_o (t : Nat) → (∀ t', t' < t → tp t' = ta_sym A B ks pos hd t') → ∀ N, d < N →
      wY_keep_39 post x1 x2 g_capacity g_mismatch g_open g_extend g_aligned g_columns g_begin g_end g_direction g_position N y3 b_symbols b_size b_kinds b_rest tp := by
  intro d
  induction d with
  | zero =>
    intro t tp y3 hd' e3 h1 N hN
    cases N with
    | zero => omega
    | succ N =>
      refine zi_ble (ta_sz ks n m pos hd : Int) t e2 e3 (by omega) (fun z => ?_) (fun z => by omega)
      refine ⟨ta_sz ks n m pos hd + 1, ?_⟩
      refine yw_keep63 (sy0 := b_symbols) side (ta_sz ks n m pos hd) hside hsz e1 e2 (fun sy g1 g2 => ?_) (ta_sz ks n m pos hd) 0 b_symbols 0 (by omega) zi_l0 (fun t' ht' => by omega) (fun j _ => rfl) _ (by omega)
      refine h sy tp (fun t' ht' => ?_) g2
      rw [g1 t' ht']; exact h1 t' (by omega)
  | succ d ih =>
    intro t tp y3 hd' e3 h1 N hN
    cases N with
    | zero => omega
    | succ N =>
      obtain ⟨i3, c3⟩ := zi_ix (x := y3) (N := 32) t e3 (by omega) (by omega)
      refine zi_ble (ta_sz ks n m pos hd : Int) t e2 e3 (by omega) (fun z => by omega) (fun z => ?_)
      refine yw_tapeAt hc ha hal t (by omega) e3 ?_
      refine ⟨i3, nm_r (e' := upd tp t (ta_sym A B ks pos hd t)) (by rw [c3]) ?_⟩
      refine nm_r (e' := zi_o ((t + 1 : Nat) : Int)) (by rw [e3, zi_l1, zi_add]; exact zi_c (by omega)) ?_
      refine ih (t + 1) _ _ (by omega) rfl ?_ N (by omega)
      intro t' ht'
      by_cases z2 : t' = t
      · rw [z2, zi_us rfl]
      · rw [zi_un z2]; exact h1 t' (by omega)
end
end
section
/-! 20 the relation, and the walks that are left -/
def ir_al (n m x o e : Nat) (A B : Nat → Int32) (f_begin f_end f_columnTotal f_best f_runs f_heading f_position : Int32) (a_waves a_runKinds a_runSizes : Nat → Int32) (g_begin g_end g_columns g_direction g_position : Int32) (b_kinds : Nat → Int32) : Prop :=
  ∃ (b f T R pos hd : Nat) (ks rs : Nat → Nat), b ≤ 2 ∧ f ≤ 2 ∧ f_begin = zi_o (b : Nat) ∧ f_end = zi_o (f : Nat) ∧ g_begin = zi_o (b : Nat) ∧ g_end = zi_o (f : Nat) ∧ f_columnTotal = zi_o (T : Nat) ∧ f_best = zi_o (rn_S (rn_ch x o e b f T ks) T : Nat)
    ∧ ax_ok n m T R pos hd ks rs f_runs f_heading f_position a_runKinds a_runSizes ∧ ay_ok n m T pos hd ks g_columns g_direction g_position b_kinds
    ∧ xc_Wv (xc_G A B n m 0) x o e f n m 0 ((2 * o + e * (n + m) : Nat) + 1) (-(n : Int)) a_waves ∧ xc_Wv (xc_G A B n m 1) x o e b n m 1 ((2 * o + e * (n + m) : Nat) + 1) (-(n : Int)) a_waves
/-- the relation at the head of a turn -/
def i_Rel (k : Nat) (u : SX) (v : SY) : Prop :=
  match u with
  | (f_room, f_levels, f_width, f_none, f_ahead, f_behind, f_capacity, f_mismatch, f_open, f_extend, f_runs, f_columnTotal, f_aligned, f_begin, f_end, f_best, f_heading, f_position, a_symbols, a_lengths, a_scratch, a_waves, a_runKinds, a_runSizes) => match v with
    | (g_capacity, g_mismatch, g_open, g_extend, g_aligned, g_columns, g_begin, g_end, g_direction, g_position, b_symbols, b_size, b_kinds, b_rest, b_tape) => ∃ (cap n m x o e : Nat) (A B : Nat → Int32), cap ≤ 15 ∧ n ≤ cap ∧ m ≤ cap ∧ f_capacity = zi_o (cap : Nat) ∧ g_capacity = zi_o (cap : Nat)
      ∧ xc_ok 15 n m x o e A B f_mismatch f_open f_extend a_lengths a_symbols ∧ xc_ok 16 n m x o e A B g_mismatch g_open g_extend b_size b_symbols
      ∧ ((f_aligned = 0 ∧ g_aligned = 0) ∨ (¬ f_aligned = 0 ∧ ¬ g_aligned = 0 ∧ ir_al n m x o e A B f_begin f_end f_columnTotal f_best f_runs f_heading f_position a_waves a_runKinds a_runSizes g_begin g_end g_columns g_direction g_position b_kinds))
theorem i_up {k : Nat} {u : SX} {v : SY} (h : i_Rel k u v) : i_Rel (k + 4) u v := h
section
variable {f_room f_levels f_width f_none f_ahead f_behind f_capacity f_mismatch f_open f_extend f_runs f_columnTotal f_aligned f_begin f_end f_best f_heading f_position : Int32} {a_symbols a_lengths a_scratch a_waves a_runKinds a_runSizes : Nat → Int32} {g_capacity g_mismatch g_open g_extend g_aligned g_columns g_begin g_end g_direction g_position : Int32} {b_symbols b_size b_kinds b_rest b_tape : Nat → Int32} {cap n m x o e : Nat} {A B : Nat → Int32}
theorem ir_mk0 (k : Nat) (hcap : cap ≤ 15) (hn : n ≤ cap) (hm : m ≤ cap) (ecx : f_capacity = zi_o (cap : Nat)) (ecy : g_capacity = zi_o (cap : Nat)) (hX : xc_ok 15 n m x o e A B f_mismatch f_open f_extend a_lengths a_symbols) (hY : xc_ok 16 n m x o e A B g_mismatch g_open g_extend b_size b_symbols) (h1 : f_aligned = 0) (h2 : g_aligned = 0) : i_Rel k (f_room, f_levels, f_width, f_none, f_ahead, f_behind, f_capacity, f_mismatch, f_open, f_extend, f_runs, f_columnTotal, f_aligned, f_begin, f_end, f_best, f_heading, f_position, a_symbols, a_lengths, a_scratch, a_waves, a_runKinds, a_runSizes) (g_capacity, g_mismatch, g_open, g_extend, g_aligned, g_columns, g_begin, g_end, g_direction, g_position, b_symbols, b_size, b_kinds, b_rest, b_tape) :=
  ⟨cap, n, m, x, o, e, A, B, hcap, hn, hm, ecx, ecy, hX, hY, Or.inl ⟨h1, h2⟩⟩
theorem ir_mk1 (k : Nat) (hcap : cap ≤ 15) (hn : n ≤ cap) (hm : m ≤ cap) (ecx : f_capacity = zi_o (cap : Nat)) (ecy : g_capacity = zi_o (cap : Nat)) (hX : xc_ok 15 n m x o e A B f_mismatch f_open f_extend a_lengths a_symbols) (hY : xc_ok 16 n m x o e A B g_mismatch g_open g_extend b_size b_symbols) (h1 : ¬ f_aligned = 0) (h2 : ¬ g_aligned = 0)
    (h : ir_al n m x o e A B f_begin f_end f_columnTotal f_best f_runs f_heading f_position a_waves a_runKinds a_runSizes g_begin g_end g_columns g_direction g_position b_kinds) : i_Rel k (f_room, f_levels, f_width, f_none, f_ahead, f_behind, f_capacity, f_mismatch, f_open, f_extend, f_runs, f_columnTotal, f_aligned, f_begin, f_end, f_best, f_heading, f_position, a_symbols, a_lengths, a_scratch, a_waves, a_runKinds, a_runSizes) (g_capacity, g_mismatch, g_open, g_extend, g_aligned, g_columns, g_begin, g_end, g_direction, g_position, b_symbols, b_size, b_kinds, b_rest, b_tape) :=
  ⟨cap, n, m, x, o, e, A, B, hcap, hn, hm, ecx, ecy, hX, hY, Or.inr ⟨h1, h2, h⟩⟩
end
/-- a bit, or not -/
theorem zi_bit {p : Int32} (h1 : ¬ p < 0) (h2 : ¬ 1 < p) : ∃ s : Nat, s < 2 ∧ p = zi_o (s : Nat) := by
  obtain ⟨a, l, u, e⟩ := zi_of p
  subst e
  rw [zi_l0, zi_lt l u (by omega) (by omega)] at h1
  rw [zi_l1, zi_lt (by omega) (by omega) l u] at h2
  exact ⟨a.toNat, by omega, zi_c (by omega)⟩
theorem zi_bit' {p : Int32} (h1 : ¬ p < 0) (h2 : p ≤ 1) : ∃ s : Nat, s < 2 ∧ p = zi_o (s : Nat) :=
  zi_bit h1 (Int32.not_lt.mpr h2)
theorem zi_bitr {s : Nat} (hs : s < 2) : ¬ zi_o (s : Nat) < 0 ∧ ¬ 1 < zi_o (s : Nat) ∧ zi_o (s : Nat) ≤ 1 := by
  refine ⟨?_, ?_, ?_⟩
  · rw [zi_l0, zi_lt (by omega) (by omega) (by omega) (by omega)]; omega
  · rw [zi_l1, zi_lt (by omega) (by omega) (by omega) (by omega)]; omega
  · rw [zi_l1, zi_le (by omega) (by omega) (by omega) (by omega)]; omega
def ap_good (p0 p1 p2 : Int32) : Prop := (∃ s : Nat, s < 2 ∧ p0 = zi_o (s : Nat)) ∧ ¬ p1 < 0 ∧ ¬ 3 < p1 ∧ 1 ≤ p2
section
variable {f_room f_levels f_width f_none f_ahead f_behind f_capacity f_mismatch f_open f_extend f_runs f_columnTotal f_aligned f_begin f_end f_best f_heading f_position : Int32} {a_symbols a_lengths a_scratch a_waves a_runKinds a_runSizes : Nat → Int32} {cap n m x o e : Nat} {A B : Nat → Int32} {p0 p1 p2 : Int32}
theorem xw_isBit {post : Int32 → Prop} (h1 : (∃ s : Nat, s < 2 ∧ p0 = zi_o (s : Nat)) → post 1) (h0 : ¬ (∃ s : Nat, s < 2 ∧ p0 = zi_o (s : Nat)) → post 0) : wpX_isBit post (f_room, f_levels, f_width, f_none, f_ahead, f_behind, f_capacity, f_mismatch, f_open, f_extend, f_runs, f_columnTotal, f_aligned, f_begin, f_end, f_best, f_heading, f_position, a_symbols, a_lengths, a_scratch, a_waves, a_runKinds, a_runSizes) p0 := by
  unfold wpX_isBit
  refine br_c (fun z => h1 ⟨0, by omega, z.trans zi_l0⟩) (fun z => br_c (fun z2 => h1 ⟨1, by omega, z2.trans zi_l1⟩) (fun z2 => h0 ?_))
  intro y
  obtain ⟨s, hs, e0⟩ := y
  have : s = 0 ∨ s = 1 := by omega
  rcases this with rfl | rfl
  · exact z (e0.trans zi_l0.symm)
  · exact z2 (e0.trans zi_l1.symm)
theorem xw_appBad {post : Int32 → SX → Prop} (hbad : ¬ ap_good p0 p1 p2) (h : post (-1) (f_room, f_levels, f_width, f_none, f_ahead, f_behind, f_capacity, f_mismatch, f_open, f_extend, f_runs, f_columnTotal, f_aligned, f_begin, f_end, f_best, f_heading, f_position, a_symbols, a_lengths, a_scratch, a_waves, a_runKinds, a_runSizes)) : wpX_append post (f_room, f_levels, f_width, f_none, f_ahead, f_behind, f_capacity, f_mismatch, f_open, f_extend, f_runs, f_columnTotal, f_aligned, f_begin, f_end, f_best, f_heading, f_position, a_symbols, a_lengths, a_scratch, a_waves, a_runKinds, a_runSizes) p0 p1 p2 := by
  unfold wpX_append
  exact xw_isBit (fun hs => br_f (by decide) (br_c (fun _ => h) (fun z1 => br_c (fun _ => h) (fun z2 => br_c (fun z3 => absurd ⟨hs, z1, z2, z3⟩ hbad) (fun _ => h))))) (fun _ => br_t rfl h)
theorem xw_app58 {post : Int32 → SX → Prop} (side L cnt : Nat) (hside : side < 2) (hL : a_lengths side = zi_o (L : Nat)) (hLc : L + cnt ≤ 15) {x1 x2 x3 x4 : Int32} (e1 : x1 = zi_o (side : Nat)) (e3 : x3 = zi_o (cnt : Nat)) (e4 : x4 = zi_o ((side * 15 + L : Nat) : Int)) {sy0 : Nat → Int32}
    (h : ∀ sy, (∀ t, L ≤ t → t < L + cnt → sy (side * 15 + t) = x2) → (∀ j, (j < side * 15 + L ∨ side * 15 + L + cnt ≤ j) → sy j = sy0 j) → post (zi_o ((L + cnt : Nat) : Int)) (f_room, f_levels, f_width, f_none, f_ahead, f_behind, f_capacity, f_mismatch, f_open, f_extend, f_runs, f_columnTotal, 0, f_begin, f_end, f_best, f_heading, f_position, sy, upd a_lengths side (zi_o ((L + cnt : Nat) : Int)), a_scratch, a_waves, a_runKinds, a_runSizes)) :
    ∀ (d c : Nat) (sy : Nat → Int32) (y5 : Int32), c + d = cnt → y5 = zi_o (c : Nat) → (∀ t, L ≤ t → t < L + c → sy (side * 15 + t) = x2) → (∀ j, (j < side * 15 + L ∨ side * 15 + L + c ≤ j) → sy j = sy0 j) → ∀ N, d < N →
      wX_append_58 post x1 x2 x3 x4 f_room f_levels f_width f_none f_ahead f_behind f_capacity f_mismatch f_open f_extend f_runs f_columnTotal f_aligned f_begin f_end f_best f_heading f_position N y5 sy a_lengths a_scratch a_waves a_runKinds a_runSizes := by
  intro d
  induction d with
  | zero =>
    intro c sy y5 hd e5 h1 h2 N hN
    obtain rfl : c = cnt := by omega
    cases N with
    | zero => omega
    | succ N =>
      obtain ⟨i1, c1⟩ := zi_ix (x := x1) (N := 2) side e1 hside (by omega)
      refine zi_ble (c : Int) c e3 e5 (by omega) (fun z => ?_) (fun z => by omega)
      refine ⟨i1, i1, nm_r (e' := upd a_lengths side (zi_o ((L + c : Nat) : Int))) ?_ ⟨i1, ?_⟩⟩
      · rw [c1, hL, e3, zi_add]
        exact congrArg (upd a_lengths side) (zi_c (by omega))
      · rw [c1, zi_us rfl]
        exact h sy h1 h2
  | succ d ih =>
    intro c sy y5 hd e5 h1 h2 N hN
    cases N with
    | zero => omega
    | succ N =>
      obtain ⟨i1, c1⟩ := zi_ix (x := x4 + y5) (N := 30) (side * 15 + L + c) (by rw [e4, e5, zi_add]; exact zi_c (by omega)) (by omega) (by omega)
      refine zi_ble (cnt : Int) c e3 e5 (by omega) (fun z => by omega) (fun z => ?_)
      refine ⟨i1, nm_r (e' := upd sy (side * 15 + L + c) x2) (by rw [c1]) ?_⟩
      refine nm_r (e' := zi_o ((c + 1 : Nat) : Int)) (by rw [e5, zi_l1, zi_add]; exact zi_c (by omega)) ?_
      refine ih (c + 1) _ _ (by omega) rfl ?_ ?_ N (by omega)
      · intro t ht1 ht2
        by_cases z2 : t = L + c
        · rw [zi_us (by omega)]
        · rw [zi_un (by omega)]; exact h1 t ht1 (by omega)
      · intro j hj
        rw [zi_un (by omega)]; exact h2 j (by omega)
theorem xw_appGo {post : Int32 → SX → Prop} (hc : xc_ok 15 n m x o e A B f_mismatch f_open f_extend a_lengths a_symbols) (hcap : cap ≤ 15) (ecx : f_capacity = zi_o (cap : Nat)) (side : Nat) (hside : side < 2) (a : Int) (ha1 : 1 ≤ a) (ha2 : a < 2147483648) (hlen : ta_len n m side ≤ cap)
    (e0 : p0 = zi_o (side : Nat)) (e2 : p2 = zi_o a) (h1 : ¬ p1 < 0) (h3 : ¬ 3 < p1)
    (hfull : (cap : Int) - (ta_len n m side : Nat) < a → post (-3) (f_room, f_levels, f_width, f_none, f_ahead, f_behind, f_capacity, f_mismatch, f_open, f_extend, f_runs, f_columnTotal, f_aligned, f_begin, f_end, f_best, f_heading, f_position, a_symbols, a_lengths, a_scratch, a_waves, a_runKinds, a_runSizes))
    (h : ∀ (cnt : Nat) sy, a = cnt → ta_len n m side + cnt ≤ cap → (∀ t, ta_len n m side ≤ t → t < ta_len n m side + cnt → sy (side * 15 + t) = p1) → (∀ j, (j < side * 15 + ta_len n m side ∨ side * 15 + ta_len n m side + cnt ≤ j) → sy j = a_symbols j) → post (zi_o ((ta_len n m side + cnt : Nat) : Int)) (f_room, f_levels, f_width, f_none, f_ahead, f_behind, f_capacity, f_mismatch, f_open, f_extend, f_runs, f_columnTotal, 0, f_begin, f_end, f_best, f_heading, f_position, sy, upd a_lengths side (zi_o ((ta_len n m side + cnt : Nat) : Int)), a_scratch, a_waves, a_runKinds, a_runSizes)) : wpX_append post (f_room, f_levels, f_width, f_none, f_ahead, f_behind, f_capacity, f_mismatch, f_open, f_extend, f_runs, f_columnTotal, f_aligned, f_begin, f_end, f_best, f_heading, f_position, a_symbols, a_lengths, a_scratch, a_waves, a_runKinds, a_runSizes) p0 p1 p2 := by
  obtain ⟨hl, hl15⟩ := xc_len hc side hside
  obtain ⟨i1, c1⟩ := zi_ix (x := p0) (N := 2) side e0 hside (by omega)
  unfold wpX_append
  refine xw_isBit (fun _ => br_f (by decide) (br_f h1 (br_f h3 ?_))) (fun y => absurd ⟨side, hside, e0⟩ y)
  refine zi_ble 1 a zi_l1 e2 (by omega) (fun _ => ⟨i1, ?_⟩) (fun z => by omega)
  refine zi_ble a ((cap : Int) - (ta_len n m side : Nat)) e2 (by rw [c1, hl, ecx, zi_sub]) (by omega) (fun z => ⟨i1, ?_⟩) (fun z => hfull z)
  obtain ⟨cnt, rfl⟩ : ∃ cnt : Nat, a = cnt := ⟨a.toNat, by omega⟩
  refine nm_r (e' := zi_o ((side * 15 + ta_len n m side : Nat) : Int)) (by rw [c1, hl, e0, zi_l15, zi_mul, zi_add]; exact zi_c (by omega)) ?_
  refine ⟨cnt + 1, ?_⟩
  exact xw_app58 (sy0 := a_symbols) side (ta_len n m side) cnt hside hl (by omega) e0 e2 rfl (fun sy g1 g2 => h cnt sy rfl (by omega) g1 g2) cnt 0 a_symbols 0 (by omega) zi_l0 (fun t ht1 ht2 => by omega) (fun j _ => rfl) _ (by omega)
end
section
variable {g_capacity g_mismatch g_open g_extend g_aligned g_columns g_begin g_end g_direction g_position : Int32} {b_symbols b_size b_kinds b_rest b_tape : Nat → Int32} {cap n m x o e : Nat} {A B : Nat → Int32} {p0 p1 p2 : Int32}
theorem yw_appBad {post : Int32 → SY → Prop} (hbad : ¬ ap_good p0 p1 p2) (h : post (-1) (g_capacity, g_mismatch, g_open, g_extend, g_aligned, g_columns, g_begin, g_end, g_direction, g_position, b_symbols, b_size, b_kinds, b_rest, b_tape)) : wpY_append post (g_capacity, g_mismatch, g_open, g_extend, g_aligned, g_columns, g_begin, g_end, g_direction, g_position, b_symbols, b_size, b_kinds, b_rest, b_tape) p0 p1 p2 := by
  unfold wpY_append
  exact br_c (fun _ => h) (fun y1 => br_c (fun _ => h) (fun y2 => br_c (fun _ => h) (fun z1 => br_c (fun _ => h) (fun z2 => br_c (fun z3 => absurd ⟨zi_bit y1 y2, z1, z2, z3⟩ hbad) (fun _ => h)))))
theorem yw_app46 {post : Int32 → SY → Prop} (side L cnt : Nat) (hside : side < 2) (hL : b_size side = zi_o (L : Nat)) (hLc : L + cnt ≤ 15) {x1 x2 x3 : Int32} (e1 : x1 = zi_o (side : Nat)) (e3 : x3 = zi_o (cnt : Nat)) {sy0 : Nat → Int32}
    (h : ∀ sy, (∀ t, L ≤ t → t < L + cnt → sy (side * 16 + t) = x2) → (∀ j, (j < side * 16 + L ∨ side * 16 + L + cnt ≤ j) → sy j = sy0 j) → post (zi_o ((L + cnt : Nat) : Int)) (g_capacity, g_mismatch, g_open, g_extend, 0, g_columns, g_begin, g_end, g_direction, g_position, sy, upd b_size side (zi_o ((L + cnt : Nat) : Int)), b_kinds, b_rest, b_tape)) :
    ∀ (d c : Nat) (sy : Nat → Int32) (y5 : Int32), c + d = cnt → y5 = zi_o (c : Nat) → (∀ t, L ≤ t → t < L + c → sy (side * 16 + t) = x2) → (∀ j, (j < side * 16 + L ∨ side * 16 + L + c ≤ j) → sy j = sy0 j) → ∀ N, d < N →
      wY_append_46 post x1 x2 x3 g_capacity g_mismatch g_open g_extend g_aligned g_columns g_begin g_end g_direction g_position N y5 sy b_size b_kinds b_rest b_tape := by
  intro d
  induction d with
  | zero =>
    intro c sy y5 hd e5 h1 h2 N hN
    obtain rfl : c = cnt := by omega
    cases N with
    | zero => omega
    | succ N =>
      obtain ⟨i1, c1⟩ := zi_ix (x := x1) (N := 2) side e1 hside (by omega)
      refine zi_ble (c : Int) c e3 e5 (by omega) (fun z => ?_) (fun z => by omega)
      refine ⟨i1, i1, nm_r (e' := upd b_size side (zi_o ((L + c : Nat) : Int))) ?_ ⟨i1, ?_⟩⟩
      · rw [c1, hL, e3, zi_add]
        exact congrArg (upd b_size side) (zi_c (by omega))
      · rw [c1, zi_us rfl]
        exact h sy h1 h2
  | succ d ih =>
    intro c sy y5 hd e5 h1 h2 N hN
    cases N with
    | zero => omega
    | succ N =>
      obtain ⟨i0, c0⟩ := zi_ix (x := x1) (N := 2) side e1 hside (by omega)
      obtain ⟨i1, c1⟩ := zi_ix (x := ((x1 * 16) + b_size x1.toNatClampNeg) + y5) (N := 32) (side * 16 + L + c) (by rw [c0, hL, e1, e5, zi_l16, zi_mul, zi_add, zi_add]; exact zi_c (by omega)) (by omega) (by omega)
      refine zi_ble (cnt : Int) c e3 e5 (by omega) (fun z => by omega) (fun z => ?_)
      refine ⟨i0, i1, nm_r (e' := upd sy (side * 16 + L + c) x2) (by rw [c1]) ?_⟩
      refine nm_r (e' := zi_o ((c + 1 : Nat) : Int)) (by rw [e5, zi_l1, zi_add]; exact zi_c (by omega)) ?_
      refine ih (c + 1) _ _ (by omega) rfl ?_ ?_ N (by omega)
      · intro t ht1 ht2
        by_cases z2 : t = L + c
        · rw [zi_us (by omega)]
        · rw [zi_un (by omega)]; exact h1 t ht1 (by omega)
      · intro j hj
        rw [zi_un (by omega)]; exact h2 j (by omega)
theorem yw_appGo {post : Int32 → SY → Prop} (hc : xc_ok 16 n m x o e A B g_mismatch g_open g_extend b_size b_symbols) (hcap : cap ≤ 15) (ecx : g_capacity = zi_o (cap : Nat)) (side : Nat) (hside : side < 2) (a : Int) (ha1 : 1 ≤ a) (ha2 : a < 2147483648) (hlen : ta_len n m side ≤ cap)
    (e0 : p0 = zi_o (side : Nat)) (e2 : p2 = zi_o a) (h1 : ¬ p1 < 0) (h3 : ¬ 3 < p1)
    (hfull : (cap : Int) - (ta_len n m side : Nat) < a → post (-3) (g_capacity, g_mismatch, g_open, g_extend, g_aligned, g_columns, g_begin, g_end, g_direction, g_position, b_symbols, b_size, b_kinds, b_rest, b_tape))
    (h : ∀ (cnt : Nat) sy, a = cnt → ta_len n m side + cnt ≤ cap → (∀ t, ta_len n m side ≤ t → t < ta_len n m side + cnt → sy (side * 16 + t) = p1) → (∀ j, (j < side * 16 + ta_len n m side ∨ side * 16 + ta_len n m side + cnt ≤ j) → sy j = b_symbols j) → post (zi_o ((ta_len n m side + cnt : Nat) : Int)) (g_capacity, g_mismatch, g_open, g_extend, 0, g_columns, g_begin, g_end, g_direction, g_position, sy, upd b_size side (zi_o ((ta_len n m side + cnt : Nat) : Int)), b_kinds, b_rest, b_tape)) : wpY_append post (g_capacity, g_mismatch, g_open, g_extend, g_aligned, g_columns, g_begin, g_end, g_direction, g_position, b_symbols, b_size, b_kinds, b_rest, b_tape) p0 p1 p2 := by
  obtain ⟨hl, hl15⟩ := xc_len hc side hside
  obtain ⟨i1, c1⟩ := zi_ix (x := p0) (N := 2) side e0 hside (by omega)
  obtain ⟨b1, b2, b3⟩ := zi_bitr hside
  rw [← e0] at b1 b2 b3
  unfold wpY_append
  refine br_f b1 (br_f b2 (br_f h1 (br_f h3 ?_)))
  refine zi_ble 1 a zi_l1 e2 (by omega) (fun _ => ⟨i1, ?_⟩) (fun z => by omega)
  refine zi_ble a ((cap : Int) - (ta_len n m side : Nat)) e2 (by rw [c1, hl, ecx, zi_sub]) (by omega) (fun z => ?_) (fun z => hfull z)
  obtain ⟨cnt, rfl⟩ : ∃ cnt : Nat, a = cnt := ⟨a.toNat, by omega⟩
  refine ⟨cnt + 1, ?_⟩
  exact yw_app46 (sy0 := b_symbols) side (ta_len n m side) cnt hside hl (by omega) e0 e2 (fun sy g1 g2 => h cnt sy rfl (by omega) g1 g2) cnt 0 b_symbols 0 (by omega) zi_l0 (fun t ht1 ht2 => by omega) (fun j _ => rfl) _ (by omega)
end
end
section
/-! 21 owed: the constructors, the sequences, the alignment -/
theorem zi_clamp (p0 : Int32) (lo hi : Nat) (hlh : lo ≤ hi) (hhi : hi ≤ 100) {p1 p2 : Int32} (e1 : p1 = zi_o (lo : Nat)) (e2 : p2 = zi_o (hi : Nat)) :
    ∃ c : Nat, lo ≤ c ∧ c ≤ hi ∧ (∀ (post : Int32 → Prop) (u : SX), post (zi_o (c : Nat)) → wpX_clamp post u p0 p1 p2) ∧ (∀ (post : Int32 → Prop) (v : SY), post (zi_o (c : Nat)) → wpY_clamp post v p0 p1 p2) := by
  obtain ⟨a, l, h, e0⟩ := zi_of p0
  by_cases z1 : a < lo
  · refine ⟨lo, Nat.le_refl _, hlh, ?_, ?_⟩
    · intro post u hp
      obtain ⟨f_room, f_levels, f_width, f_none, f_ahead, f_behind, f_capacity, f_mismatch, f_open, f_extend, f_runs, f_columnTotal, f_aligned, f_begin, f_end, f_best, f_heading, f_position, a_symbols, a_lengths, a_scratch, a_waves, a_runKinds, a_runSizes⟩ := u
      exact zi_ble (lo : Int) a e1 e0 (by omega) (fun z => by omega) (fun z => zi_p (post := post) hp e1)
    · intro post v hp
      obtain ⟨g_capacity, g_mismatch, g_open, g_extend, g_aligned, g_columns, g_begin, g_end, g_direction, g_position, b_symbols, b_size, b_kinds, b_rest, b_tape⟩ := v
      exact zi_ble (lo : Int) a e1 e0 (by omega) (fun z => by omega) (fun z => zi_p (post := post) hp e1)
  · by_cases z2 : a ≤ hi
    · refine ⟨a.toNat, by omega, by omega, ?_, ?_⟩
      · intro post u hp
        obtain ⟨f_room, f_levels, f_width, f_none, f_ahead, f_behind, f_capacity, f_mismatch, f_open, f_extend, f_runs, f_columnTotal, f_aligned, f_begin, f_end, f_best, f_heading, f_position, a_symbols, a_lengths, a_scratch, a_waves, a_runKinds, a_runSizes⟩ := u
        exact zi_ble (lo : Int) a e1 e0 (by omega) (fun z => zi_ble a hi e0 e2 (by omega) (fun _ => zi_p (post := post) hp (e0.trans (zi_c (by omega)))) (fun _ => by omega)) (fun z => by omega)
      · intro post v hp
        obtain ⟨g_capacity, g_mismatch, g_open, g_extend, g_aligned, g_columns, g_begin, g_end, g_direction, g_position, b_symbols, b_size, b_kinds, b_rest, b_tape⟩ := v
        exact zi_ble (lo : Int) a e1 e0 (by omega) (fun z => zi_ble a hi e0 e2 (by omega) (fun _ => zi_p (post := post) hp (e0.trans (zi_c (by omega)))) (fun _ => by omega)) (fun z => by omega)
    · refine ⟨hi, hlh, Nat.le_refl _, ?_, ?_⟩
      · intro post u hp
        obtain ⟨f_room, f_levels, f_width, f_none, f_ahead, f_behind, f_capacity, f_mismatch, f_open, f_extend, f_runs, f_columnTotal, f_aligned, f_begin, f_end, f_best, f_heading, f_position, a_symbols, a_lengths, a_scratch, a_waves, a_runKinds, a_runSizes⟩ := u
        exact zi_ble (lo : Int) a e1 e0 (by omega) (fun z => zi_ble a hi e0 e2 (by omega) (fun _ => by omega) (fun _ => zi_p (post := post) hp e2)) (fun z => by omega)
      · intro post v hp
        obtain ⟨g_capacity, g_mismatch, g_open, g_extend, g_aligned, g_columns, g_begin, g_end, g_direction, g_position, b_symbols, b_size, b_kinds, b_rest, b_tape⟩ := v
        exact zi_ble (lo : Int) a e1 e0 (by omega) (fun z => zi_ble a hi e0 e2 (by omega) (fun _ => by omega) (fun _ => zi_p (post := post) hp e2)) (fun z => by omega)
theorem i_vc0 (k0 : Int32) (k1 : Int32) (k2 : Int32) (k3 : Int32) : wpX_init (fun u => wpY_init (fun v => i_Rel 4 u v) k0 k1 k2 k3) k0 k1 k2 k3 := by
  obtain ⟨cap, c1, c2, hx0, hy0⟩ := zi_clamp k0 8 15 (by omega) (by omega) (p1 := 8) (p2 := 15) (by decide) (by decide)
  obtain ⟨x, x1, x2, hx1, hy1⟩ := zi_clamp k1 1 7 (by omega) (by omega) (p1 := 1) (p2 := 7) (by decide) (by decide)
  obtain ⟨o, o1, o2, hx2, hy2⟩ := zi_clamp k2 0 5 (by omega) (by omega) (p1 := 0) (p2 := 5) (by decide) (by decide)
  obtain ⟨e, e1, e2, hx3, hy3⟩ := zi_clamp k3 1 2 (by omega) (by omega) (p1 := 1) (p2 := 2) (by decide) (by decide)
  unfold wpX_init
  refine hx0 _ _ ?_
  refine hx1 _ _ ?_
  refine hx2 _ _ ?_
  refine hx3 _ _ ?_
  unfold wpY_init
  refine hy0 _ _ ?_
  refine hy1 _ _ ?_
  refine hy2 _ _ ?_
  refine hy3 _ _ ?_
  exact ir_mk0 (cap := cap) (n := 0) (m := 0) (x := x) (o := o) (e := e) (A := fun _ => 0) (B := fun _ => 0) 4 c2 (by omega) (by omega) rfl rfl
    ⟨by omega, by omega, x1, x2, o2, e1, e2, rfl, rfl, rfl, zi_l0, zi_l0, fun i hi => by omega, fun j hj => by omega⟩
    ⟨by omega, by omega, x1, x2, o2, e1, e2, rfl, rfl, rfl, zi_l0, zi_l0, fun i hi => by omega, fun j hj => by omega⟩ rfl rfl
theorem i_vc_append {k : Nat} {u : SX} {v : SY} (I : i_Rel k u v) (hk : k + 4 ≤ 2052) (v1 : Int32) (v2 : Int32) (v3 : Int32) : wpX_append (fun r u' => wpY_append (fun r' v' => r' = r ∧ i_Rel (k + 4) u' v') v v1 v2 v3) u v1 v2 v3 := by
  obtain ⟨f_room, f_levels, f_width, f_none, f_ahead, f_behind, f_capacity, f_mismatch, f_open, f_extend, f_runs, f_columnTotal, f_aligned, f_begin, f_end, f_best, f_heading, f_position, a_symbols, a_lengths, a_scratch, a_waves, a_runKinds, a_runSizes⟩ := u
  obtain ⟨g_capacity, g_mismatch, g_open, g_extend, g_aligned, g_columns, g_begin, g_end, g_direction, g_position, b_symbols, b_size, b_kinds, b_rest, b_tape⟩ := v
  have I' : i_Rel (k + 4) (f_room, f_levels, f_width, f_none, f_ahead, f_behind, f_capacity, f_mismatch, f_open, f_extend, f_runs, f_columnTotal, f_aligned, f_begin, f_end, f_best, f_heading, f_position, a_symbols, a_lengths, a_scratch, a_waves, a_runKinds, a_runSizes) (g_capacity, g_mismatch, g_open, g_extend, g_aligned, g_columns, g_begin, g_end, g_direction, g_position, b_symbols, b_size, b_kinds, b_rest, b_tape) := I
  obtain ⟨cap, n, m, x, o, e, A, B, hcap, hnc, hmc, ecx, ecy, hX, hY, hal⟩ := I
  by_cases hg : ap_good v1 v2 v3
  · obtain ⟨⟨s, hs, e0⟩, h1, h3, h4⟩ := hg
    obtain ⟨a, l, hh, e2⟩ := zi_of v3
    have ha1 : 1 ≤ a := by
      rw [e2, zi_l1, zi_le (by omega) (by omega) l hh] at h4
      exact h4
    have hlen : ta_len n m s ≤ cap := by unfold ta_len; split <;> omega
    refine xw_appGo hX hcap ecx s hs a ha1 hh hlen e0 e2 h1 h3 (fun hf => ?_) (fun cnt sy ea hle g1 g2 => ?_)
    · refine yw_appGo hY hcap ecy s hs a ha1 hh hlen e0 e2 h1 h3 (fun _ => ⟨rfl, I'⟩) (fun cnt sy' ea hle g1' g2' => ?_)
      omega
    · refine yw_appGo hY hcap ecy s hs a ha1 hh hlen e0 e2 h1 h3 (fun hf => ?_) (fun cnt' sy' ea' hle' g1' g2' => ?_)
      · omega
      · obtain rfl : cnt' = cnt := by omega
        have hX' := xc_new (by omega) hX s (ta_len n m s + cnt') hs (by omega) (fun t => if t < ta_len n m s then ta_S A B s t else v2) (sym' := sy) (by
          intro t ht
          by_cases z : t < ta_len n m s
          · rw [if_pos z, g2 _ (by omega)]; exact xc_sym hX s t hs z
          · rw [if_neg z]; exact g1 t (by omega) ht) (fun j hj => g2 j (by omega))
        have hY' := xc_new (by omega) hY s (ta_len n m s + cnt') hs (by omega) (fun t => if t < ta_len n m s then ta_S A B s t else v2) (sym' := sy') (by
          intro t ht
          by_cases z : t < ta_len n m s
          · rw [if_pos z, g2' _ (by omega)]; exact xc_sym hY s t hs z
          · rw [if_neg z]; exact g1' t (by omega) ht) (fun j hj => g2' j (by omega))
        exact ⟨rfl, ir_mk0 (k + 4) hcap (by split <;> omega) (by split <;> omega) ecx ecy hX' hY' rfl rfl⟩
  · exact xw_appBad hg (yw_appBad hg ⟨rfl, I'⟩)
theorem i_vc_clear {k : Nat} {u : SX} {v : SY} (I : i_Rel k u v) (hk : k + 4 ≤ 2052) (v1 : Int32) : wpX_clear (fun r u' => wpY_clear (fun r' v' => r' = r ∧ i_Rel (k + 4) u' v') v v1) u v1 := by
  obtain ⟨f_room, f_levels, f_width, f_none, f_ahead, f_behind, f_capacity, f_mismatch, f_open, f_extend, f_runs, f_columnTotal, f_aligned, f_begin, f_end, f_best, f_heading, f_position, a_symbols, a_lengths, a_scratch, a_waves, a_runKinds, a_runSizes⟩ := u
  obtain ⟨g_capacity, g_mismatch, g_open, g_extend, g_aligned, g_columns, g_begin, g_end, g_direction, g_position, b_symbols, b_size, b_kinds, b_rest, b_tape⟩ := v
  have I' : i_Rel (k + 4) (f_room, f_levels, f_width, f_none, f_ahead, f_behind, f_capacity, f_mismatch, f_open, f_extend, f_runs, f_columnTotal, f_aligned, f_begin, f_end, f_best, f_heading, f_position, a_symbols, a_lengths, a_scratch, a_waves, a_runKinds, a_runSizes) (g_capacity, g_mismatch, g_open, g_extend, g_aligned, g_columns, g_begin, g_end, g_direction, g_position, b_symbols, b_size, b_kinds, b_rest, b_tape) := I
  obtain ⟨cap, n, m, x, o, e, A, B, hcap, hnc, hmc, ecx, ecy, hX, hY, hal⟩ := I
  unfold wpX_clear
  refine xw_isBit (fun hs => br_f (by decide) ?_) (fun hs => br_t rfl ?_)
  · obtain ⟨s, hs, e0⟩ := hs
    obtain ⟨i1, c1⟩ := zi_ix (x := v1) (N := 2) s e0 hs (by omega)
    obtain ⟨b1, b2, b3⟩ := zi_bitr hs
    rw [← e0] at b1 b2 b3
    refine ⟨i1, nm_r (e' := upd a_lengths s (zi_o ((0 : Nat) : Int))) (by rw [c1]; exact congrArg (upd a_lengths s) zi_l0) ?_⟩
    unfold wpY_clear
    refine br_f b1 (br_t b3 ⟨i1, nm_r (e' := upd b_size s (zi_o ((0 : Nat) : Int))) (by rw [c1]; exact congrArg (upd b_size s) zi_l0) ?_⟩)
    have hX' := xc_new (by omega) hX s 0 hs (by omega) A (sym' := a_symbols) (fun t ht => by omega) (fun j _ => rfl)
    have hY' := xc_new (by omega) hY s 0 hs (by omega) A (sym' := b_symbols) (fun t ht => by omega) (fun j _ => rfl)
    exact ⟨rfl, ir_mk0 (k + 4) hcap (by split <;> omega) (by split <;> omega) ecx ecy hX' hY' rfl rfl⟩
  · unfold wpY_clear
    exact br_c (fun _ => ⟨rfl, I'⟩) (fun z1 => br_c (fun z2 => absurd (zi_bit' z1 z2) hs) (fun _ => ⟨rfl, I'⟩))
theorem i_vc_length {k : Nat} {u : SX} {v : SY} (I : i_Rel k u v) (hk : k + 4 ≤ 2052) (v1 : Int32) : wpX_length (fun r => wpY_length (fun r' => r' = r ∧ i_Rel (k + 4) u v) v v1) u v1 := by
  obtain ⟨f_room, f_levels, f_width, f_none, f_ahead, f_behind, f_capacity, f_mismatch, f_open, f_extend, f_runs, f_columnTotal, f_aligned, f_begin, f_end, f_best, f_heading, f_position, a_symbols, a_lengths, a_scratch, a_waves, a_runKinds, a_runSizes⟩ := u
  obtain ⟨g_capacity, g_mismatch, g_open, g_extend, g_aligned, g_columns, g_begin, g_end, g_direction, g_position, b_symbols, b_size, b_kinds, b_rest, b_tape⟩ := v
  have I' : i_Rel (k + 4) (f_room, f_levels, f_width, f_none, f_ahead, f_behind, f_capacity, f_mismatch, f_open, f_extend, f_runs, f_columnTotal, f_aligned, f_begin, f_end, f_best, f_heading, f_position, a_symbols, a_lengths, a_scratch, a_waves, a_runKinds, a_runSizes) (g_capacity, g_mismatch, g_open, g_extend, g_aligned, g_columns, g_begin, g_end, g_direction, g_position, b_symbols, b_size, b_kinds, b_rest, b_tape) := I
  obtain ⟨cap, n, m, x, o, e, A, B, hcap, hnc, hmc, ecx, ecy, hX, hY, hal⟩ := I
  unfold wpX_length
  refine xw_isBit (fun hs => br_f (by decide) ?_) (fun hs => br_t rfl ?_)
  · obtain ⟨s, hs, e0⟩ := hs
    obtain ⟨i1, c1⟩ := zi_ix (x := v1) (N := 2) s e0 hs (by omega)
    obtain ⟨b1, b2, b3⟩ := zi_bitr hs
    rw [← e0] at b1 b2 b3
    refine ⟨i1, ?_⟩
    unfold wpY_length
    refine br_f b1 (br_t b3 ⟨i1, ?_, I'⟩)
    rw [c1, (xc_len hX s hs).1, (xc_len hY s hs).1]
  · unfold wpY_length
    exact br_c (fun _ => ⟨rfl, I'⟩) (fun z1 => br_c (fun z2 => absurd (zi_bit' z1 z2) hs) (fun _ => ⟨rfl, I'⟩))
theorem i_vc_symbolAt {k : Nat} {u : SX} {v : SY} (I : i_Rel k u v) (hk : k + 4 ≤ 2052) (v1 : Int32) (v2 : Int32) : wpX_symbolAt (fun r => wpY_symbolAt (fun r' => r' = r ∧ i_Rel (k + 4) u v) v v1 v2) u v1 v2 := by
  obtain ⟨f_room, f_levels, f_width, f_none, f_ahead, f_behind, f_capacity, f_mismatch, f_open, f_extend, f_runs, f_columnTotal, f_aligned, f_begin, f_end, f_best, f_heading, f_position, a_symbols, a_lengths, a_scratch, a_waves, a_runKinds, a_runSizes⟩ := u
  obtain ⟨g_capacity, g_mismatch, g_open, g_extend, g_aligned, g_columns, g_begin, g_end, g_direction, g_position, b_symbols, b_size, b_kinds, b_rest, b_tape⟩ := v
  have I' : i_Rel (k + 4) (f_room, f_levels, f_width, f_none, f_ahead, f_behind, f_capacity, f_mismatch, f_open, f_extend, f_runs, f_columnTotal, f_aligned, f_begin, f_end, f_best, f_heading, f_position, a_symbols, a_lengths, a_scratch, a_waves, a_runKinds, a_runSizes) (g_capacity, g_mismatch, g_open, g_extend, g_aligned, g_columns, g_begin, g_end, g_direction, g_position, b_symbols, b_size, b_kinds, b_rest, b_tape) := I
  obtain ⟨cap, n, m, x, o, e, A, B, hcap, hnc, hmc, ecx, ecy, hX, hY, hal⟩ := I
  unfold wpX_symbolAt
  refine xw_isBit (fun hs => br_f (by decide) ?_) (fun hs => br_t rfl ?_)
  · obtain ⟨s, hs, e0⟩ := hs
    obtain ⟨i1, c1⟩ := zi_ix (x := v1) (N := 2) s e0 hs (by omega)
    obtain ⟨b1, b2, b3⟩ := zi_bitr hs
    rw [← e0] at b1 b2 b3
    obtain ⟨hlx, hl15⟩ := xc_len hX s hs
    have hly := (xc_len hY s hs).1
    obtain ⟨a, l, hh, e2⟩ := zi_of v2
    unfold wpY_symbolAt
    refine br_c (fun z => br_f b1 (br_f b2 (br_t z ⟨rfl, I'⟩))) (fun z => ?_)
    have ha : 0 ≤ a := by
      rw [e2, zi_l0, zi_lt l hh (by omega) (by omega)] at z
      omega
    refine ⟨i1, zi_blt a (ta_len n m s : Int) e2 (by rw [c1]; exact hlx) (by omega) (fun z2 => ?_) (fun z2 => ?_)⟩
    · obtain ⟨t, rfl⟩ : ∃ t : Nat, a = t := ⟨a.toNat, by omega⟩
      obtain ⟨j1, d1⟩ := zi_ix (x := v1 * 15 + v2) (N := 30) (s * 15 + t) (by rw [e0, e2, zi_l15, zi_mul, zi_add]; exact zi_c (by omega)) (by omega) (by omega)
      obtain ⟨j2, d2⟩ := zi_ix (x := v1 * 16 + v2) (N := 32) (s * 16 + t) (by rw [e0, e2, zi_l16, zi_mul, zi_add]; exact zi_c (by omega)) (by omega) (by omega)
      refine ⟨j1, br_f b1 (br_f b2 (br_f z ⟨i1, zi_blt (t : Int) (ta_len n m s : Int) e2 (by rw [c1]; exact hly) (by omega) (fun _ => ⟨j2, ?_, I'⟩) (fun y => by omega)⟩))⟩
      rw [d1, d2, xc_sym hX s t hs (by omega), xc_sym hY s t hs (by omega)]
    · refine br_f b1 (br_f b2 (br_f z ⟨i1, zi_blt a (ta_len n m s : Int) e2 (by rw [c1]; exact hly) (by omega) (fun y => by omega) (fun _ => ⟨rfl, I'⟩)⟩))
  · unfold wpY_symbolAt
    exact br_c (fun _ => ⟨rfl, I'⟩) (fun z1 => br_c (fun _ => ⟨rfl, I'⟩) (fun z2 => absurd (zi_bit z1 z2) hs))
theorem i_vc_align {k : Nat} {u : SX} {v : SY} (I : i_Rel k u v) (hk : k + 4 ≤ 2052) (v1 : Int32) (v2 : Int32) : wpX_align (fun r u' => wpY_align (fun r' v' => r' = r ∧ i_Rel (k + 4) u' v') v v1 v2) u v1 v2 := by
  obtain ⟨f_room, f_levels, f_width, f_none, f_ahead, f_behind, f_capacity, f_mismatch, f_open, f_extend, f_runs, f_columnTotal, f_aligned, f_begin, f_end, f_best, f_heading, f_position, a_symbols, a_lengths, a_scratch, a_waves, a_runKinds, a_runSizes⟩ := u
  obtain ⟨g_capacity, g_mismatch, g_open, g_extend, g_aligned, g_columns, g_begin, g_end, g_direction, g_position, b_symbols, b_size, b_kinds, b_rest, b_tape⟩ := v
  have I' : i_Rel (k + 4) (f_room, f_levels, f_width, f_none, f_ahead, f_behind, f_capacity, f_mismatch, f_open, f_extend, f_runs, f_columnTotal, f_aligned, f_begin, f_end, f_best, f_heading, f_position, a_symbols, a_lengths, a_scratch, a_waves, a_runKinds, a_runSizes) (g_capacity, g_mismatch, g_open, g_extend, g_aligned, g_columns, g_begin, g_end, g_direction, g_position, b_symbols, b_size, b_kinds, b_rest, b_tape) := I
  obtain ⟨cap, n, m, x, o, e, A, B, hcap, hnc, hmc, ecx, ecy, hX, hY, hal⟩ := I
  by_cases hbf : ∃ b f : Nat, b ≤ 2 ∧ f ≤ 2 ∧ v1 = zi_o (b : Nat) ∧ v2 = zi_o (f : Nat)
  · obtain ⟨b, f, hb, hf, e0, e1⟩ := hbf
    have hcg := xc_ceil hX.2.2.2.2.1 hX.2.2.2.2.2.1 hX.2.2.2.2.2.2.1 hX.1 hX.2.1
    have hF : e * (n + m) + 2 * o < 1000000 := by omega
    obtain ⟨T, ks, Ls, ps, qs, hP⟩ := tp_ex (A := A) (B := B) (x := x) (o := o) (e := e) (f := f) (n := n) (m := m) hF (n + m) b n m (Nat.le_refl _) (Nat.le_refl _) (Nat.le_refl _)
    have hT : T ≤ n + m := hP.2.2.2.2.2.1
    have hn15 := hX.1
    have hm15 := hX.2.1
    have hsum := tp_sum hF hP
    obtain ⟨t2, t3⟩ := tp_cnt hF hP T (Nat.le_refl _)
    rw [hP.2.2.2.1, Nat.add_zero] at t2
    rw [hP.2.2.2.2.1, Nat.add_zero] at t3
    refine xw_align hX hb hf hP e0 e1 (fun R rs rk rz wv hr hW0 hW1 => ?_)
    refine yw_align hY hb hf hP e0 e1 (fun rest kinds hkk => ⟨by rw [hsum], ?_⟩)
    refine ir_mk1 (k + 4) hcap hnc hmc ecx ecy hX hY (by decide) (by decide) ?_
    exact ⟨b, f, T, R, 0, 0, ks, rs, hb, hf, e0, e1, e0, e1, rfl, by rw [hsum], ⟨hr, by omega, fun c hc => tp_k4c hF hP hc, rfl, Nat.zero_le _, zi_l0, zi_l0, by omega, t2, t3⟩, ⟨hkk, rfl, Nat.zero_le _, zi_l0, zi_l0, by omega, t2, t3⟩, hW0, hW1⟩
  · exact xw_alignBad hbf (yw_alignBad hbf ⟨rfl, I'⟩)
end
section
/-! 22 owed: what is asked of an alignment -/
theorem i_vc_penalty {k : Nat} {u : SX} {v : SY} (I : i_Rel k u v) (hk : k + 4 ≤ 2052) : wpX_penalty (fun r => wpY_penalty (fun r' => r' = r ∧ i_Rel (k + 4) u v) v) u := by
  obtain ⟨f_room, f_levels, f_width, f_none, f_ahead, f_behind, f_capacity, f_mismatch, f_open, f_extend, f_runs, f_columnTotal, f_aligned, f_begin, f_end, f_best, f_heading, f_position, a_symbols, a_lengths, a_scratch, a_waves, a_runKinds, a_runSizes⟩ := u
  obtain ⟨g_capacity, g_mismatch, g_open, g_extend, g_aligned, g_columns, g_begin, g_end, g_direction, g_position, b_symbols, b_size, b_kinds, b_rest, b_tape⟩ := v
  have I' : i_Rel (k + 4) (f_room, f_levels, f_width, f_none, f_ahead, f_behind, f_capacity, f_mismatch, f_open, f_extend, f_runs, f_columnTotal, f_aligned, f_begin, f_end, f_best, f_heading, f_position, a_symbols, a_lengths, a_scratch, a_waves, a_runKinds, a_runSizes) (g_capacity, g_mismatch, g_open, g_extend, g_aligned, g_columns, g_begin, g_end, g_direction, g_position, b_symbols, b_size, b_kinds, b_rest, b_tape) := I
  obtain ⟨cap, n, m, x, o, e, A, B, hcap, hnc, hmc, ecx, ecy, hX, hY, hal⟩ := I
  unfold wpX_penalty
  rcases hal with ⟨a1, a2⟩ | ⟨a1, a2, b, f, T, R, pos, hd, ks, rs, hb, hf, bx, fx, b_y, fy, eT, ebest, hax, hay, hW0, hW1⟩
  · refine br_t a1 ?_
    unfold wpY_penalty
    exact br_t a2 ⟨rfl, I'⟩
  · refine br_f a1 ?_
    unfold wpY_penalty
    refine br_f a2 ?_
    exact yw_sum hY hb hf b_y fy hay.1 hay.2.1 T (Nat.le_refl _) hay.2.1 ⟨ebest.symm, I'⟩
theorem xw_joined {f_room f_levels f_width f_none f_ahead f_behind f_capacity f_mismatch f_open f_extend f_runs f_columnTotal f_aligned f_begin f_end f_best f_heading f_position : Int32} {a_symbols a_lengths a_scratch a_waves a_runKinds a_runSizes : Nat → Int32} {n m x o e b f : Nat} {A B : Nat → Int32} {post : Int32 → Prop} (hc : xc_ok 15 n m x o e A B f_mismatch f_open f_extend a_lengths a_symbols)
    (hW0 : xc_Wv (xc_G A B n m 0) x o e f n m 0 ((2 * o + e * (n + m) : Nat) + 1) (-(n : Int)) a_waves) (hW1 : xc_Wv (xc_G A B n m 1) x o e b n m 1 ((2 * o + e * (n + m) : Nat) + 1) (-(n : Int)) a_waves)
    (L : Nat) (hL : L < 3) (i j : Nat) (hi : i ≤ n) (hj : j ≤ m) {p0 p1 p2 : Int32} (e0 : p0 = zi_o (L : Nat)) (e1 : p1 = zi_o (i : Nat)) (e2 : p2 = zi_o (j : Nat))
    (h : post (zi_o ((th_B A B x o e b L i j + th_F A B x o e f n m L (n - i) (m - j) : Nat) : Int))) : wpX_joined post (f_room, f_levels, f_width, f_none, f_ahead, f_behind, f_capacity, f_mismatch, f_open, f_extend, f_runs, f_columnTotal, f_aligned, f_begin, f_end, f_best, f_heading, f_position, a_symbols, a_lengths, a_scratch, a_waves, a_runKinds, a_runSizes) p0 p1 p2 := by
  unfold wpX_joined
  refine xw_behind hc b hW1 L hL i j hi hj rfl e0 e1 e2 ?_
  refine xw_ahead hc f hW0 L hL i j (n - i) (m - j) (by omega) (by omega) rfl e0 e1 e2 ?_
  exact zi_p (post := post) h (by rw [zi_add]; exact zi_c (by omega))
theorem i_vc_penaltyThrough {k : Nat} {u : SX} {v : SY} (I : i_Rel k u v) (hk : k + 4 ≤ 2052) (v1 : Int32) (v2 : Int32) : wpX_penaltyThrough (fun r => wpY_penaltyThrough (fun r' v' => r' = r ∧ i_Rel (k + 4) u v') v v1 v2) u v1 v2 := by
  obtain ⟨f_room, f_levels, f_width, f_none, f_ahead, f_behind, f_capacity, f_mismatch, f_open, f_extend, f_runs, f_columnTotal, f_aligned, f_begin, f_end, f_best, f_heading, f_position, a_symbols, a_lengths, a_scratch, a_waves, a_runKinds, a_runSizes⟩ := u
  obtain ⟨g_capacity, g_mismatch, g_open, g_extend, g_aligned, g_columns, g_begin, g_end, g_direction, g_position, b_symbols, b_size, b_kinds, b_rest, b_tape⟩ := v
  have I' : i_Rel (k + 4) (f_room, f_levels, f_width, f_none, f_ahead, f_behind, f_capacity, f_mismatch, f_open, f_extend, f_runs, f_columnTotal, f_aligned, f_begin, f_end, f_best, f_heading, f_position, a_symbols, a_lengths, a_scratch, a_waves, a_runKinds, a_runSizes) (g_capacity, g_mismatch, g_open, g_extend, g_aligned, g_columns, g_begin, g_end, g_direction, g_position, b_symbols, b_size, b_kinds, b_rest, b_tape) := I
  obtain ⟨cap, n, m, x, o, e, A, B, hcap, hnc, hmc, ecx, ecy, hX, hY, hal⟩ := I
  unfold wpX_penaltyThrough
  rcases hal with ⟨a1, a2⟩ | ⟨a1, a2, hA⟩
  · refine br_t a1 ?_
    unfold wpY_penaltyThrough
    exact br_t a2 ⟨rfl, I'⟩
  · have hA' := hA
    obtain ⟨b, f, T, R, pos, hd, ks, rs, hb, hf, bx, fx, b_y, fy, eT, ebest, hax, hay, hW0, hW1⟩ := hA'
    have hX' := hX
    obtain ⟨hn, hm, hx1, hx7, ho5, he1, he2, hmis, hop, hex, hl0, hl1, hSA, hSB⟩ := hX'
    have hm0 : b_size 0 = zi_o n := hY.2.2.2.2.2.2.2.2.2.2.1
    have hm1 : b_size 1 = zi_o m := hY.2.2.2.2.2.2.2.2.2.2.2.1
    obtain ⟨i0, l0, u0, e0⟩ := zi_of v1
    obtain ⟨j0, l1, u1, e1⟩ := zi_of v2
    refine br_f a1 ?_
    unfold wpY_penaltyThrough
    refine zi_blt i0 0 e0 zi_l0 (by omega) (fun z => br_f a2 (zi_blt i0 0 e0 zi_l0 (by omega) (fun _ => ⟨rfl, I'⟩) (fun y => by omega))) (fun z1 => ?_)
    refine zi_blt (n : Int) i0 hl0 e0 (by omega) (fun z => br_f a2 (zi_blt i0 0 e0 zi_l0 (by omega) (fun y => by omega) (fun _ => zi_blt (n : Int) i0 hm0 e0 (by omega) (fun _ => ⟨rfl, I'⟩) (fun y => by omega)))) (fun z2 => ?_)
    refine zi_blt j0 0 e1 zi_l0 (by omega) (fun z => br_f a2 (zi_blt i0 0 e0 zi_l0 (by omega) (fun y => by omega) (fun _ => zi_blt (n : Int) i0 hm0 e0 (by omega) (fun y => by omega) (fun _ => zi_blt j0 0 e1 zi_l0 (by omega) (fun _ => ⟨rfl, I'⟩) (fun y => by omega))))) (fun z3 => ?_)
    refine zi_ble j0 (m : Int) e1 hl1 (by omega) (fun z4 => ?_) (fun z => br_f a2 (zi_blt i0 0 e0 zi_l0 (by omega) (fun y => by omega) (fun _ => zi_blt (n : Int) i0 hm0 e0 (by omega) (fun y => by omega) (fun _ => zi_blt j0 0 e1 zi_l0 (by omega) (fun y => by omega) (fun _ => zi_ble j0 (m : Int) e1 hm1 (by omega) (fun y => by omega) (fun _ => ⟨rfl, I'⟩))))))
    obtain ⟨i, rfl⟩ : ∃ i : Nat, i0 = i := ⟨i0.toNat, by omega⟩
    obtain ⟨j, rfl⟩ : ∃ j : Nat, j0 = j := ⟨j0.toNat, by omega⟩
    have hBb : ∀ L, th_B A B x o e b L i j ≤ 70 := by
      intro L
      have h1 := cw_b (G := th_gb A B) (x := x) (o := o) (e := e) (bi := decide (b = 1)) (bd := decide (b = 2)) (base := cw_z) (K := 0) cw_z0 L i j
      have h2 : e * (i + j) ≤ 2 * (i + j) := Nat.mul_le_mul_right _ he2
      unfold th_B
      omega
    have hFb : ∀ L, th_F A B x o e f n m L (n - i) (m - j) ≤ 70 := fun L => yt_Fb ho5 he2 L _ _ (by omega) (by omega)
    have q0 := hBb 0
    have q1 := hBb 1
    have q2 := hBb 2
    have w0 := hFb 0
    have w1 := hFb 1
    have w2 := hFb 2
    have ho1 := th_o1_le (o := o) (b := b) (f := f) (n := n) i
    have ho2 := th_o2_le (o := o) (b := b) (f := f) (m := m) j
    have hth := th_eq (A := A) (B := B) (x := x) (o := o) (e := e) (b := b) (f := f) (n := n) (m := m) (pi := i) (pj := j) hb (by omega) (by omega)
    refine xw_joined hX hW0 hW1 0 (by omega) i j (by omega) (by omega) zi_l0 e0 e1 ?_
    refine xw_joined hX hW0 hW1 1 (by omega) i j (by omega) (by omega) zi_l1 e0 e1 ?_
    refine xw_open1 hX hb hf bx fx i (by omega) zi_l1 e0 ?_
    refine nm_r (e' := zi_o ((th_B A B x o e b 1 i j + th_F A B x o e f n m 1 (n - i) (m - j) + th_o1 o b f n i : Nat) : Int)) (by rw [zi_add]; exact zi_c (by omega)) ?_
    refine xw_joined hX hW0 hW1 2 (by omega) i j (by omega) (by omega) zi_l2 e0 e1 ?_
    refine xw_open2 hX hb hf bx fx j (by omega) zi_l2 e1 ?_
    refine nm_r (e' := zi_o ((th_B A B x o e b 2 i j + th_F A B x o e f n m 2 (n - i) (m - j) + th_o2 o b f m j : Nat) : Int)) (by rw [zi_add]; exact zi_c (by omega)) ?_
    refine xw_lesser _ _ rfl rfl (by omega) (by omega) ?_
    refine xw_lesser _ _ rfl rfl (by omega) (by omega) ?_
    refine br_f a2 (zi_blt (i : Int) 0 e0 zi_l0 (by omega) (fun y => by omega) (fun _ => zi_blt (n : Int) i hm0 e0 (by omega) (fun y => by omega) (fun _ => zi_blt (j : Int) 0 e1 zi_l0 (by omega) (fun y => by omega) (fun _ => zi_ble (j : Int) (m : Int) e1 hm1 (by omega) (fun _ => ?_) (fun y => by omega)))))
    refine yw_fill (pi := i) (pj := j) hY hb hf b_y fy (by omega) (by omega) e0 e1 (fun rest' hok => ⟨?_, ?_⟩)
    · have h5 := hok 4 0 0 (by omega) (by omega) (by omega) (by omega)
      have h6 : rest' 1024 = zi_o (yt_R A B x o e b f n m i j 4 0 0 : Nat) := h5
      have h7 : yt_R A B x o e b f n m i j 4 0 0 = th_T A B x o e f n m i j b i j := by
        unfold yt_R
        rw [if_pos ⟨Nat.zero_le _, Nat.zero_le _⟩]
        rfl
      rw [h6, h7, hth]
      exact zi_c (by omega)
    · exact ir_mk1 (k + 4) hcap hnc hmc ecx ecy hX hY a1 a2 hA
theorem i_vc_runCount {k : Nat} {u : SX} {v : SY} (I : i_Rel k u v) (hk : k + 4 ≤ 2052) : wpX_runCount (fun r => wpY_runCount (fun r' => r' = r ∧ i_Rel (k + 4) u v) v) u := by
  obtain ⟨f_room, f_levels, f_width, f_none, f_ahead, f_behind, f_capacity, f_mismatch, f_open, f_extend, f_runs, f_columnTotal, f_aligned, f_begin, f_end, f_best, f_heading, f_position, a_symbols, a_lengths, a_scratch, a_waves, a_runKinds, a_runSizes⟩ := u
  obtain ⟨g_capacity, g_mismatch, g_open, g_extend, g_aligned, g_columns, g_begin, g_end, g_direction, g_position, b_symbols, b_size, b_kinds, b_rest, b_tape⟩ := v
  have I' : i_Rel (k + 4) (f_room, f_levels, f_width, f_none, f_ahead, f_behind, f_capacity, f_mismatch, f_open, f_extend, f_runs, f_columnTotal, f_aligned, f_begin, f_end, f_best, f_heading, f_position, a_symbols, a_lengths, a_scratch, a_waves, a_runKinds, a_runSizes) (g_capacity, g_mismatch, g_open, g_extend, g_aligned, g_columns, g_begin, g_end, g_direction, g_position, b_symbols, b_size, b_kinds, b_rest, b_tape) := I
  obtain ⟨cap, n, m, x, o, e, A, B, hcap, hnc, hmc, ecx, ecy, hX, hY, hal⟩ := I
  unfold wpX_runCount
  rcases hal with ⟨a1, a2⟩ | ⟨a1, a2, b, f, T, R, pos, hd, ks, rs, hb, hf, bx, fx, b_y, fy, eT, ebest, hax, hay, hW0, hW1⟩
  · refine br_t a1 ?_
    unfold wpY_runCount
    exact br_t a2 ⟨rfl, I'⟩
  · refine br_f a1 ?_
    exact yw_runCount hay.1 hax.1.1 hay.2.1 a2 ⟨hax.2.2.2.1.symm, I'⟩
theorem i_vc_runKind {k : Nat} {u : SX} {v : SY} (I : i_Rel k u v) (hk : k + 4 ≤ 2052) (v1 : Int32) : wpX_runKind (fun r => wpY_runKind (fun r' => r' = r ∧ i_Rel (k + 4) u v) v v1) u v1 := by
  obtain ⟨f_room, f_levels, f_width, f_none, f_ahead, f_behind, f_capacity, f_mismatch, f_open, f_extend, f_runs, f_columnTotal, f_aligned, f_begin, f_end, f_best, f_heading, f_position, a_symbols, a_lengths, a_scratch, a_waves, a_runKinds, a_runSizes⟩ := u
  obtain ⟨g_capacity, g_mismatch, g_open, g_extend, g_aligned, g_columns, g_begin, g_end, g_direction, g_position, b_symbols, b_size, b_kinds, b_rest, b_tape⟩ := v
  have I' : i_Rel (k + 4) (f_room, f_levels, f_width, f_none, f_ahead, f_behind, f_capacity, f_mismatch, f_open, f_extend, f_runs, f_columnTotal, f_aligned, f_begin, f_end, f_best, f_heading, f_position, a_symbols, a_lengths, a_scratch, a_waves, a_runKinds, a_runSizes) (g_capacity, g_mismatch, g_open, g_extend, g_aligned, g_columns, g_begin, g_end, g_direction, g_position, b_symbols, b_size, b_kinds, b_rest, b_tape) := I
  obtain ⟨cap, n, m, x, o, e, A, B, hcap, hnc, hmc, ecx, ecy, hX, hY, hal⟩ := I
  unfold wpX_runKind
  rcases hal with ⟨a1, a2⟩ | ⟨a1, a2, b, f, T, R, pos, hd, ks, rs, hb, hf, bx, fx, b_y, fy, eT, ebest, hax, hay, hW0, hW1⟩
  · refine br_t a1 ?_
    unfold wpY_runKind
    exact br_t a2 ⟨rfl, I'⟩
  · refine br_f a1 ?_
    unfold wpY_runKind
    obtain ⟨a, l, hh, e0⟩ := zi_of v1
    have hR := hax.1.1
    have hT := hax.2.1
    have hRT := rn_RT hR
    refine zi_blt a 0 e0 zi_l0 (by omega) (fun z => br_f a2 (zi_blt a 0 e0 zi_l0 (by omega) (fun _ => ⟨rfl, I'⟩) (fun y => by omega))) (fun z1 => ?_)
    refine zi_blt a (R : Int) e0 hax.2.2.2.1 (by omega) (fun z2 => ?_) (fun z2 => ?_)
    · obtain ⟨r, rfl⟩ : ∃ r : Nat, a = r := ⟨a.toNat, by omega⟩
      obtain ⟨i1, c1⟩ := zi_ix (x := v1) (N := 30) r e0 (by omega) (by omega)
      refine ⟨i1, br_f a2 (zi_blt (r : Int) 0 e0 zi_l0 (by omega) (fun y => by omega) (fun _ => ?_))⟩
      refine yw_runCount hay.1 hR hay.2.1 a2 ?_
      refine zi_blt (r : Int) (R : Int) e0 rfl (by omega) (fun _ => ?_) (fun y => by omega)
      refine yw_runStart hay.1 hR hay.2.1 r (by omega) e0 ?_
      have hrs : rs r < T := by
        have h3 := hR.2.2.1 r (by omega)
        have h4 := rn_le hR (r := r + 1) (r' := R) (by omega) (Nat.le_refl _)
        rw [hR.2.1] at h4
        omega
      obtain ⟨i2, c2⟩ := zi_ix (x := zi_o (rs r : Nat)) (N := 32) (rs r) rfl (by omega) (by omega)
      refine ⟨i2, ?_, I'⟩
      rw [c1, c2, (hay.1.2 (rs r) hrs).1, (hax.1.2 r (by omega)).1]
    · refine br_f a2 (zi_blt a 0 e0 zi_l0 (by omega) (fun y => by omega) (fun _ => ?_))
      refine yw_runCount hay.1 hR hay.2.1 a2 ?_
      exact zi_blt a (R : Int) e0 rfl (by omega) (fun y => by omega) (fun _ => ⟨rfl, I'⟩)
theorem i_vc_runLength {k : Nat} {u : SX} {v : SY} (I : i_Rel k u v) (hk : k + 4 ≤ 2052) (v1 : Int32) : wpX_runLength (fun r => wpY_runLength (fun r' => r' = r ∧ i_Rel (k + 4) u v) v v1) u v1 := by
  obtain ⟨f_room, f_levels, f_width, f_none, f_ahead, f_behind, f_capacity, f_mismatch, f_open, f_extend, f_runs, f_columnTotal, f_aligned, f_begin, f_end, f_best, f_heading, f_position, a_symbols, a_lengths, a_scratch, a_waves, a_runKinds, a_runSizes⟩ := u
  obtain ⟨g_capacity, g_mismatch, g_open, g_extend, g_aligned, g_columns, g_begin, g_end, g_direction, g_position, b_symbols, b_size, b_kinds, b_rest, b_tape⟩ := v
  have I' : i_Rel (k + 4) (f_room, f_levels, f_width, f_none, f_ahead, f_behind, f_capacity, f_mismatch, f_open, f_extend, f_runs, f_columnTotal, f_aligned, f_begin, f_end, f_best, f_heading, f_position, a_symbols, a_lengths, a_scratch, a_waves, a_runKinds, a_runSizes) (g_capacity, g_mismatch, g_open, g_extend, g_aligned, g_columns, g_begin, g_end, g_direction, g_position, b_symbols, b_size, b_kinds, b_rest, b_tape) := I
  obtain ⟨cap, n, m, x, o, e, A, B, hcap, hnc, hmc, ecx, ecy, hX, hY, hal⟩ := I
  unfold wpX_runLength
  rcases hal with ⟨a1, a2⟩ | ⟨a1, a2, b, f, T, R, pos, hd, ks, rs, hb, hf, bx, fx, b_y, fy, eT, ebest, hax, hay, hW0, hW1⟩
  · refine br_t a1 ?_
    unfold wpY_runLength
    exact br_t a2 ⟨rfl, I'⟩
  · refine br_f a1 ?_
    unfold wpY_runLength
    obtain ⟨a, l, hh, e0⟩ := zi_of v1
    have hR := hax.1.1
    have hT := hax.2.1
    have hRT := rn_RT hR
    refine zi_blt a 0 e0 zi_l0 (by omega) (fun z => br_f a2 (zi_blt a 0 e0 zi_l0 (by omega) (fun _ => ⟨rfl, I'⟩) (fun y => by omega))) (fun z1 => ?_)
    refine zi_blt a (R : Int) e0 hax.2.2.2.1 (by omega) (fun z2 => ?_) (fun z2 => ?_)
    · obtain ⟨r, rfl⟩ : ∃ r : Nat, a = r := ⟨a.toNat, by omega⟩
      obtain ⟨i1, c1⟩ := zi_ix (x := v1) (N := 30) r e0 (by omega) (by omega)
      refine ⟨i1, br_f a2 (zi_blt (r : Int) 0 e0 zi_l0 (by omega) (fun y => by omega) (fun _ => ?_))⟩
      refine yw_runCount hay.1 hR hay.2.1 a2 ?_
      refine zi_blt (r : Int) (R : Int) e0 rfl (by omega) (fun _ => ?_) (fun y => by omega)
      refine yw_runStart hay.1 hR hay.2.1 (r + 1) (by omega) (by rw [e0, zi_l1, zi_add]; exact zi_c (by omega)) ?_
      refine yw_runStart hay.1 hR hay.2.1 r (by omega) e0 ?_
      refine ⟨?_, I'⟩
      rw [c1, (hax.1.2 r (by omega)).2, zi_sub]
    · refine br_f a2 (zi_blt a 0 e0 zi_l0 (by omega) (fun y => by omega) (fun _ => ?_))
      refine yw_runCount hay.1 hR hay.2.1 a2 ?_
      exact zi_blt a (R : Int) e0 rfl (by omega) (fun y => by omega) (fun _ => ⟨rfl, I'⟩)
theorem i_vc_rewind {k : Nat} {u : SX} {v : SY} (I : i_Rel k u v) (hk : k + 4 ≤ 2052) (v1 : Int32) : wpX_rewind (fun r u' => wpY_rewind (fun r' v' => r' = r ∧ i_Rel (k + 4) u' v') v v1) u v1 := by
  obtain ⟨f_room, f_levels, f_width, f_none, f_ahead, f_behind, f_capacity, f_mismatch, f_open, f_extend, f_runs, f_columnTotal, f_aligned, f_begin, f_end, f_best, f_heading, f_position, a_symbols, a_lengths, a_scratch, a_waves, a_runKinds, a_runSizes⟩ := u
  obtain ⟨g_capacity, g_mismatch, g_open, g_extend, g_aligned, g_columns, g_begin, g_end, g_direction, g_position, b_symbols, b_size, b_kinds, b_rest, b_tape⟩ := v
  have I' : i_Rel (k + 4) (f_room, f_levels, f_width, f_none, f_ahead, f_behind, f_capacity, f_mismatch, f_open, f_extend, f_runs, f_columnTotal, f_aligned, f_begin, f_end, f_best, f_heading, f_position, a_symbols, a_lengths, a_scratch, a_waves, a_runKinds, a_runSizes) (g_capacity, g_mismatch, g_open, g_extend, g_aligned, g_columns, g_begin, g_end, g_direction, g_position, b_symbols, b_size, b_kinds, b_rest, b_tape) := I
  obtain ⟨cap, n, m, x, o, e, A, B, hcap, hnc, hmc, ecx, ecy, hX, hY, hal⟩ := I
  unfold wpX_rewind
  rcases hal with ⟨a1, a2⟩ | ⟨a1, a2, b, f, T, R, pos, hd, ks, rs, hb, hf, bx, fx, b_y, fy, eT, ebest, hax, hay, hW0, hW1⟩
  · refine br_t a1 ?_
    unfold wpY_rewind
    exact br_t a2 ⟨rfl, I'⟩
  · refine br_f a1 ?_
    unfold wpY_rewind
    refine xw_isBit (fun hs => br_f (by decide) ?_) (fun hs => br_t rfl ?_)
    · obtain ⟨s, hs, e0⟩ := hs
      obtain ⟨b1, b2, b3⟩ := zi_bitr hs
      rw [← e0] at b1 b2 b3
      refine br_f a2 (br_f b1 (br_t b3 ⟨rfl, ?_⟩))
      refine ir_mk1 (k + 4) hcap hnc hmc ecx ecy hX hY a1 a2 ?_
      obtain ⟨x1, x2, x3, x4, x5, x6, x7, x8, x9, x10⟩ := hax
      obtain ⟨y1, y2, y3, y4, y5, y6, y7, y8⟩ := hay
      exact ⟨b, f, T, R, 0, s, ks, rs, hb, hf, bx, fx, b_y, fy, eT, ebest, ⟨x1, x2, x3, x4, Nat.zero_le _, zi_l0, e0, hs, x9, x10⟩, ⟨y1, y2, Nat.zero_le _, zi_l0, e0, hs, y7, y8⟩, hW0, hW1⟩
    · exact br_f a2 (br_c (fun _ => ⟨rfl, I'⟩) (fun z1 => br_c (fun z2 => absurd (zi_bit' z1 z2) hs) (fun _ => ⟨rfl, I'⟩)))
theorem zi_64 {p a : Int} (hp : 0 ≤ p ∧ p ≤ 1000) (l : -2147483648 ≤ a) (h : a < 2147483648) : ((zi_o p).toInt64 + (zi_o a).toInt64).toInt = p + a := by
  rw [Int64.toInt_add, Int32.toInt_toInt64, Int32.toInt_toInt64, zi_t (by omega) (by omega), zi_t l h]
  exact Int.bmod_eq_of_le (by omega) (by omega)
theorem zi_64c {p : Int} (hp : 0 ≤ p ∧ p ≤ 1000) : ((zi_o p).toInt64).toInt = p := by
  rw [Int32.toInt_toInt64, zi_t (by omega) (by omega)]
theorem i_vc_move {k : Nat} {u : SX} {v : SY} (I : i_Rel k u v) (hk : k + 4 ≤ 2052) (v1 : Int32) : wpX_move (fun r u' => wpY_move (fun r' v' => r' = r ∧ i_Rel (k + 4) u' v') v v1) u v1 := by
  obtain ⟨f_room, f_levels, f_width, f_none, f_ahead, f_behind, f_capacity, f_mismatch, f_open, f_extend, f_runs, f_columnTotal, f_aligned, f_begin, f_end, f_best, f_heading, f_position, a_symbols, a_lengths, a_scratch, a_waves, a_runKinds, a_runSizes⟩ := u
  obtain ⟨g_capacity, g_mismatch, g_open, g_extend, g_aligned, g_columns, g_begin, g_end, g_direction, g_position, b_symbols, b_size, b_kinds, b_rest, b_tape⟩ := v
  have I' : i_Rel (k + 4) (f_room, f_levels, f_width, f_none, f_ahead, f_behind, f_capacity, f_mismatch, f_open, f_extend, f_runs, f_columnTotal, f_aligned, f_begin, f_end, f_best, f_heading, f_position, a_symbols, a_lengths, a_scratch, a_waves, a_runKinds, a_runSizes) (g_capacity, g_mismatch, g_open, g_extend, g_aligned, g_columns, g_begin, g_end, g_direction, g_position, b_symbols, b_size, b_kinds, b_rest, b_tape) := I
  obtain ⟨cap, n, m, x, o, e, A, B, hcap, hnc, hmc, ecx, ecy, hX, hY, hal⟩ := I
  unfold wpX_move
  rcases hal with ⟨a1, a2⟩ | ⟨a1, a2, b, f, T, R, pos, hd, ks, rs, hb, hf, bx, fx, b_y, fy, eT, ebest, hax, hay, hW0, hW1⟩
  · refine br_t a1 ?_
    unfold wpY_move
    exact br_t a2 ⟨rfl, I'⟩
  · refine br_f a1 ?_
    unfold wpY_move
    obtain ⟨x1, x2, x3, x4, x5, x6, x7, x8, x9, x10⟩ := hax
    obtain ⟨y1, y2, y3, y4, y5, y6, y7, y8⟩ := hay
    obtain ⟨a, l, hh, e0⟩ := zi_of v1
    have hmk : ∀ (q : Nat) (fp gp : Int32), q ≤ T → fp = zi_o (q : Nat) → gp = zi_o (q : Nat) → i_Rel (k + 4) (f_room, f_levels, f_width, f_none, f_ahead, f_behind, f_capacity, f_mismatch, f_open, f_extend, f_runs, f_columnTotal, f_aligned, f_begin, f_end, f_best, f_heading, fp, a_symbols, a_lengths, a_scratch, a_waves, a_runKinds, a_runSizes) (g_capacity, g_mismatch, g_open, g_extend, g_aligned, g_columns, g_begin, g_end, g_direction, gp, b_symbols, b_size, b_kinds, b_rest, b_tape) := by
      intro q fp gp hq ef eg
      refine ir_mk1 (k + 4) hcap hnc hmc ecx ecy hX hY a1 a2 ?_
      exact ⟨b, f, T, R, q, hd, ks, rs, hb, hf, bx, fx, b_y, fy, eT, ebest, ⟨x1, x2, x3, x4, hq, ef, x7, x8, x9, x10⟩, ⟨y1, y2, hq, eg, y5, y6, y7, y8⟩, hW0, hW1⟩
    have h64 := zi_64 (p := (pos : Int)) (a := a) (by omega) l hh
    have h64T := zi_64c (p := (T : Int)) (by omega)
    have hz0 : (0 : Int64).toInt = 0 := by decide
    refine zi_ble a ((T : Int) - (pos : Int)) e0 (by rw [eT, x6, zi_sub]) (by omega) (fun z => ?_) (fun z => ?_)
    · refine zi_ble (-(pos : Int)) a (by rw [x6, zi_neg]) e0 (by omega) (fun z2 => ?_) (fun z2 => ?_)
      · refine nm_r (e' := zi_o ((pos : Int) + a)) (by rw [x6, e0, zi_add]) ?_
        refine br_f a2 (nm_r (e' := (zi_o (pos : Int)).toInt64 + (zi_o a).toInt64) (by rw [y4, e0]) ?_)
        refine br_t (by rw [Int64.le_iff_toInt_le, h64, hz0]; omega) (br_t (by rw [Int64.le_iff_toInt_le, h64, y2, h64T]; omega) ?_)
        have h32 : ((zi_o (pos : Int)).toInt64 + (zi_o a).toInt64).toInt32 = zi_o ((pos : Int) + a) := by
          rw [← Int32.ofInt_int64ToInt, h64]; rfl
        refine ⟨h32, hmk ((pos : Int) + a).toNat _ _ (by omega) (zi_c (by omega)) (h32.trans (zi_c (by omega)))⟩
      · refine br_f a2 (nm_r (e' := (zi_o (pos : Int)).toInt64 + (zi_o a).toInt64) (by rw [y4, e0]) ?_)
        refine br_f (by rw [Int64.le_iff_toInt_le, h64, hz0]; omega) ⟨rfl, hmk 0 0 0 (Nat.zero_le _) zi_l0 zi_l0⟩
    · refine br_f a2 (nm_r (e' := (zi_o (pos : Int)).toInt64 + (zi_o a).toInt64) (by rw [y4, e0]) ?_)
      refine br_t (by rw [Int64.le_iff_toInt_le, h64, hz0]; omega) (br_f (by rw [Int64.le_iff_toInt_le, h64, y2, h64T]; omega) ?_)
      exact ⟨y2.trans eT.symm, hmk T _ _ (Nat.le_refl _) eT y2⟩
theorem i_vc_spent {k : Nat} {u : SX} {v : SY} (I : i_Rel k u v) (hk : k + 4 ≤ 2052) : wpX_spent (fun r => wpY_spent (fun r' => r' = r ∧ i_Rel (k + 4) u v) v) u := by
  obtain ⟨f_room, f_levels, f_width, f_none, f_ahead, f_behind, f_capacity, f_mismatch, f_open, f_extend, f_runs, f_columnTotal, f_aligned, f_begin, f_end, f_best, f_heading, f_position, a_symbols, a_lengths, a_scratch, a_waves, a_runKinds, a_runSizes⟩ := u
  obtain ⟨g_capacity, g_mismatch, g_open, g_extend, g_aligned, g_columns, g_begin, g_end, g_direction, g_position, b_symbols, b_size, b_kinds, b_rest, b_tape⟩ := v
  have I' : i_Rel (k + 4) (f_room, f_levels, f_width, f_none, f_ahead, f_behind, f_capacity, f_mismatch, f_open, f_extend, f_runs, f_columnTotal, f_aligned, f_begin, f_end, f_best, f_heading, f_position, a_symbols, a_lengths, a_scratch, a_waves, a_runKinds, a_runSizes) (g_capacity, g_mismatch, g_open, g_extend, g_aligned, g_columns, g_begin, g_end, g_direction, g_position, b_symbols, b_size, b_kinds, b_rest, b_tape) := I
  obtain ⟨cap, n, m, x, o, e, A, B, hcap, hnc, hmc, ecx, ecy, hX, hY, hal⟩ := I
  rcases hal with ⟨a1, a2⟩ | ⟨a1, a2, b, f, T, R, pos, hd, ks, rs, hb, hf, bx, fx, b_y, fy, eT, ebest, hax, hay, hW0, hW1⟩
  · unfold wpX_spent
    refine br_t a1 ?_
    unfold wpY_spent
    exact br_t a2 ⟨rfl, I'⟩
  · obtain ⟨x1, x2, x3, x4, x5, x6, x7, x8, x9, x10⟩ := hax
    obtain ⟨y1, y2, y3, y4, y5, y6, y7, y8⟩ := hay
    refine xw_spent hX x1 x2 x3 hb hf bx fx x4 x5 x6 a1 ?_
    unfold wpY_spent
    refine br_f a2 ?_
    exact yw_sum hY hb hf b_y fy y1 y2 pos y3 y4 ⟨rfl, I'⟩
theorem i_vc_tapeLength {k : Nat} {u : SX} {v : SY} (I : i_Rel k u v) (hk : k + 4 ≤ 2052) : wpX_tapeLength (fun r => wpY_tapeLength (fun r' => r' = r ∧ i_Rel (k + 4) u v) v) u := by
  obtain ⟨f_room, f_levels, f_width, f_none, f_ahead, f_behind, f_capacity, f_mismatch, f_open, f_extend, f_runs, f_columnTotal, f_aligned, f_begin, f_end, f_best, f_heading, f_position, a_symbols, a_lengths, a_scratch, a_waves, a_runKinds, a_runSizes⟩ := u
  obtain ⟨g_capacity, g_mismatch, g_open, g_extend, g_aligned, g_columns, g_begin, g_end, g_direction, g_position, b_symbols, b_size, b_kinds, b_rest, b_tape⟩ := v
  have I' : i_Rel (k + 4) (f_room, f_levels, f_width, f_none, f_ahead, f_behind, f_capacity, f_mismatch, f_open, f_extend, f_runs, f_columnTotal, f_aligned, f_begin, f_end, f_best, f_heading, f_position, a_symbols, a_lengths, a_scratch, a_waves, a_runKinds, a_runSizes) (g_capacity, g_mismatch, g_open, g_extend, g_aligned, g_columns, g_begin, g_end, g_direction, g_position, b_symbols, b_size, b_kinds, b_rest, b_tape) := I
  obtain ⟨cap, n, m, x, o, e, A, B, hcap, hnc, hmc, ecx, ecy, hX, hY, hal⟩ := I
  unfold wpX_tapeLength
  rcases hal with ⟨a1, a2⟩ | ⟨a1, a2, b, f, T, R, pos, hd, ks, rs, hb, hf, bx, fx, b_y, fy, eT, ebest, hax, hay, hW0, hW1⟩
  · refine br_t a1 ?_
    unfold wpY_tapeLength
    exact br_t a2 ⟨rfl, I'⟩
  · refine br_f a1 ?_
    refine xw_tapeSize hX hax ?_
    exact yw_tapeLen hY hay a2 ⟨rfl, I'⟩
theorem yw_tapeOut {g_capacity g_mismatch g_open g_extend g_aligned g_columns g_begin g_end g_direction g_position : Int32} {b_symbols b_size b_kinds b_rest b_tape : Nat → Int32} {n m x o e T pos hd : Nat} {A B : Nat → Int32} {ks : Nat → Nat} (hc : xc_ok 16 n m x o e A B g_mismatch g_open g_extend b_size b_symbols) (ha : ay_ok n m T pos hd ks g_columns g_direction g_position b_kinds) (hal : ¬ g_aligned = 0) {post : Int32 → Prop} {p0 : Int32} (a : Int) (l : -2147483648 ≤ a) (hh : a < 2147483648) (e0 : p0 = zi_o a) (hs : ta_sz ks n m pos hd ≤ 1000) (ho : a < 0 ∨ (ta_sz ks n m pos hd : Int) ≤ a) (h : post (-1)) : wpY_tapeAt post (g_capacity, g_mismatch, g_open, g_extend, g_aligned, g_columns, g_begin, g_end, g_direction, g_position, b_symbols, b_size, b_kinds, b_rest, b_tape) p0 := by
  unfold wpY_tapeAt
  refine br_f hal ?_
  refine zi_blt a 0 e0 zi_l0 (by omega) (fun z => h) (fun z => ?_)
  refine yw_tapeLen hc ha hal ?_
  exact zi_blt a (ta_sz ks n m pos hd : Int) e0 rfl (by omega) (fun z => by omega) (fun z => h)
theorem ta_sb {off n m x o e T pos hd : Nat} {A B : Nat → Int32} {ks : Nat → Nat} {mis op ex : Int32} {len sym : Nat → Int32} (hc : xc_ok off n m x o e A B mis op ex len sym) (hpos : pos ≤ T) (h2 : rn_S (rn_u ks 2) T = n) (h3 : rn_S (rn_u ks 3) T = m) (hhd : hd < 2) : ta_sz ks n m pos hd ≤ 30 := by
  have h1 := ta_le hpos h2 h3 (1 - hd)
  have h4 := (xc_len hc (1 - hd) (by omega)).2
  have h5 := (xc_len hc hd hhd).2
  unfold ta_sz
  omega
theorem i_vc_tapeAt {k : Nat} {u : SX} {v : SY} (I : i_Rel k u v) (hk : k + 4 ≤ 2052) (v1 : Int32) : wpX_tapeAt (fun r => wpY_tapeAt (fun r' => r' = r ∧ i_Rel (k + 4) u v) v v1) u v1 := by
  obtain ⟨f_room, f_levels, f_width, f_none, f_ahead, f_behind, f_capacity, f_mismatch, f_open, f_extend, f_runs, f_columnTotal, f_aligned, f_begin, f_end, f_best, f_heading, f_position, a_symbols, a_lengths, a_scratch, a_waves, a_runKinds, a_runSizes⟩ := u
  obtain ⟨g_capacity, g_mismatch, g_open, g_extend, g_aligned, g_columns, g_begin, g_end, g_direction, g_position, b_symbols, b_size, b_kinds, b_rest, b_tape⟩ := v
  have I' : i_Rel (k + 4) (f_room, f_levels, f_width, f_none, f_ahead, f_behind, f_capacity, f_mismatch, f_open, f_extend, f_runs, f_columnTotal, f_aligned, f_begin, f_end, f_best, f_heading, f_position, a_symbols, a_lengths, a_scratch, a_waves, a_runKinds, a_runSizes) (g_capacity, g_mismatch, g_open, g_extend, g_aligned, g_columns, g_begin, g_end, g_direction, g_position, b_symbols, b_size, b_kinds, b_rest, b_tape) := I
  obtain ⟨cap, n, m, x, o, e, A, B, hcap, hnc, hmc, ecx, ecy, hX, hY, hal⟩ := I
  unfold wpX_tapeAt
  rcases hal with ⟨a1, a2⟩ | ⟨a1, a2, b, f, T, R, pos, hd, ks, rs, hb, hf, bx, fx, b_y, fy, eT, ebest, hax, hay, hW0, hW1⟩
  · refine br_t a1 ?_
    unfold wpY_tapeAt
    exact br_t a2 ⟨rfl, I'⟩
  · refine br_f a1 ?_
    obtain ⟨a, l, hh, e0⟩ := zi_of v1
    have hsb := ta_sb hY hay.2.2.1 hay.2.2.2.2.2.2.1 hay.2.2.2.2.2.2.2 hay.2.2.2.2.2.1
    refine xw_tapeSize hX hax ?_
    refine zi_blt a 0 e0 zi_l0 (by omega) (fun z => yw_tapeOut hY hay a2 a l hh e0 (by omega) (Or.inl z) ⟨rfl, I'⟩) (fun z => ?_)
    refine zi_blt a (ta_sz ks n m pos hd : Int) e0 rfl (by omega) (fun z2 => ?_) (fun z2 => yw_tapeOut hY hay a2 a l hh e0 (by omega) (Or.inr z2) ⟨rfl, I'⟩)
    obtain ⟨t, rfl⟩ : ∃ t : Nat, a = t := ⟨a.toNat, by omega⟩
    refine xw_tapeSym hX hax t (by omega) e0 ?_
    exact yw_tapeAt hY hay a2 t (by omega) e0 ⟨rfl, I'⟩
theorem i_vc_keep {k : Nat} {u : SX} {v : SY} (I : i_Rel k u v) (hk : k + 4 ≤ 2052) (v1 : Int32) : wpX_keep (fun r u' => wpY_keep (fun r' v' => r' = r ∧ i_Rel (k + 4) u' v') v v1) u v1 := by
  obtain ⟨f_room, f_levels, f_width, f_none, f_ahead, f_behind, f_capacity, f_mismatch, f_open, f_extend, f_runs, f_columnTotal, f_aligned, f_begin, f_end, f_best, f_heading, f_position, a_symbols, a_lengths, a_scratch, a_waves, a_runKinds, a_runSizes⟩ := u
  obtain ⟨g_capacity, g_mismatch, g_open, g_extend, g_aligned, g_columns, g_begin, g_end, g_direction, g_position, b_symbols, b_size, b_kinds, b_rest, b_tape⟩ := v
  have I' : i_Rel (k + 4) (f_room, f_levels, f_width, f_none, f_ahead, f_behind, f_capacity, f_mismatch, f_open, f_extend, f_runs, f_columnTotal, f_aligned, f_begin, f_end, f_best, f_heading, f_position, a_symbols, a_lengths, a_scratch, a_waves, a_runKinds, a_runSizes) (g_capacity, g_mismatch, g_open, g_extend, g_aligned, g_columns, g_begin, g_end, g_direction, g_position, b_symbols, b_size, b_kinds, b_rest, b_tape) := I
  obtain ⟨cap, n, m, x, o, e, A, B, hcap, hnc, hmc, ecx, ecy, hX, hY, hal⟩ := I
  unfold wpX_keep
  rcases hal with ⟨a1, a2⟩ | ⟨a1, a2, b, f, T, R, pos, hd, ks, rs, hb, hf, bx, fx, b_y, fy, eT, ebest, hax, hay, hW0, hW1⟩
  · refine br_t a1 ?_
    unfold wpY_keep
    exact br_t a2 ⟨rfl, I'⟩
  · refine br_f a1 ?_
    unfold wpY_keep
    have hsb := ta_sb hY hay.2.2.1 hay.2.2.2.2.2.2.1 hay.2.2.2.2.2.2.2 hay.2.2.2.2.2.1
    refine xw_isBit (fun hs => br_f (by decide) ?_) (fun hs => br_t rfl ?_)
    · obtain ⟨s, hs, e0⟩ := hs
      obtain ⟨b1, b2, b3⟩ := zi_bitr hs
      rw [← e0] at b1 b2 b3
      refine xw_tapeSize hX hax ?_
      refine zi_ble (ta_sz ks n m pos hd : Int) cap rfl ecx (by omega) (fun z => ?_) (fun z => ?_)
      · refine ⟨ta_sz ks n m pos hd + 1, ?_⟩
        refine xw_keep38 hX hax s hs (by omega) e0 rfl (fun sy sc g1 g2 => ?_) (ta_sz ks n m pos hd) 0 a_scratch 0 (by omega) zi_l0 (fun t' ht' => by omega) _ (by omega)
        refine br_f a2 (br_f b1 (br_t b3 ?_))
        refine yw_tapeLen hY hay a2 ?_
        refine zi_ble (ta_sz ks n m pos hd : Int) cap rfl ecy (by omega) (fun _ => ?_) (fun y => by omega)
        refine ⟨ta_sz ks n m pos hd + 1, ?_⟩
        refine yw_keep39 hY hay a2 s hs (by omega) e0 rfl (fun sy' tp g1' g2' => ⟨rfl, ?_⟩) (ta_sz ks n m pos hd) 0 b_tape 0 (by omega) zi_l0 (fun t' ht' => by omega) _ (by omega)
        have hX' := xc_new (by omega) hX s (ta_sz ks n m pos hd) hs (by omega) (ta_sym A B ks pos hd) (sym' := sy) g1 g2
        have hY' := xc_new (by omega) hY s (ta_sz ks n m pos hd) hs (by omega) (ta_sym A B ks pos hd) (sym' := sy') g1' g2'
        exact ir_mk0 (k + 4) hcap (by split <;> omega) (by split <;> omega) ecx ecy hX' hY' rfl rfl
      · refine br_f a2 (br_f b1 (br_t b3 ?_))
        refine yw_tapeLen hY hay a2 ?_
        exact zi_ble (ta_sz ks n m pos hd : Int) cap rfl ecy (by omega) (fun y => by omega) (fun _ => ⟨rfl, I'⟩)
    · exact br_f a2 (br_c (fun _ => ⟨rfl, I'⟩) (fun z1 => br_c (fun z2 => absurd (zi_bit' z1 z2) hs) (fun _ => ⟨rfl, I'⟩)))
end

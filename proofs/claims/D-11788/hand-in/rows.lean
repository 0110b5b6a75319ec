section
/-! ===== part 01: bits, ints, sums over sets of roads ===== -/
theorem tj_sl : ∀ n, n < 32 → ((nI n &&& 31).toBitVec.smod 32).toNat = n := by decide +kernel
theorem tj_andn (a b : Nat) : nI a &&& nI b = nI (a &&& b) := by
  apply Int32.toBitVec_inj.1
  show BitVec.ofNat 32 a &&& BitVec.ofNat 32 b = BitVec.ofNat 32 (a &&& b)
  apply BitVec.eq_of_getLsbD_eq
  intro i hi
  simp [hi]
theorem tj_xor (a b : Nat) : nI a ^^^ nI b = nI (a ^^^ b) := by
  apply Int32.toBitVec_inj.1
  show BitVec.ofNat 32 a ^^^ BitVec.ofNat 32 b = BitVec.ofNat 32 (a ^^^ b)
  apply BitVec.eq_of_getLsbD_eq
  intro i hi
  simp [hi]
theorem tj_or (a b : Nat) : nI a ||| nI b = nI (a ||| b) := by
  apply Int32.toBitVec_inj.1
  show BitVec.ofNat 32 a ||| BitVec.ofNat 32 b = BitVec.ofNat 32 (a ||| b)
  apply BitVec.eq_of_getLsbD_eq
  intro i hi
  simp [hi]
theorem tj_bitn {s k : Nat} (hs : s < 2 ^ 31) (hk : k < 31) : ((nI s >>> (nI k &&& 31)) &&& 1) = nI (s / 2 ^ k % 2) := by
  rw [pk_shrN hs (nI k &&& 31) k (tj_sl k (by omega))]
  show nI (s / 2 ^ k) &&& nI 1 = _
  rw [tj_andn, Nat.and_one_is_mod]
theorem tj_bt1 {s k : Nat} (hs : s < 2 ^ 31) (hk : k < 31) : ((nI s >>> (nI k &&& 31)) &&& 1) = 1 ↔ s.testBit k = true := by
  rw [tj_bitn hs hk, show (1 : Int32) = nI 1 from rfl, nI_eq (by omega) (by omega), Nat.testBit_eq_decide_div_mod_eq, decide_eq_true_iff]
theorem tj_bt0 {s k : Nat} (hs : s < 2 ^ 31) (hk : k < 31) : ((nI s >>> (nI k &&& 31)) &&& 1) = 0 ↔ s.testBit k = false := by
  rw [tj_bitn hs hk, show (0 : Int32) = nI 0 from rfl, nI_eq (by omega) (by omega), Nat.testBit_eq_decide_div_mod_eq, decide_eq_false_iff_not]
  generalize s / 2 ^ k = z
  omega
theorem tj_p2 : ∀ k, k < 31 → (1 : Int32) <<< (nI k &&& 31) = nI (2 ^ k) := by decide +kernel
theorem tj_bm {x : Int} (h1 : -2147483648 ≤ x) (h2 : x < 2147483648) : x.bmod (2 ^ 32) = x :=
  Int.bmod_eq_of_le (by omega) (by omega)
theorem tj_add {a b : Int32} {x y : Int} (ha : a.toInt = x) (hb : b.toInt = y) (h1 : -2147483648 ≤ x + y) (h2 : x + y < 2147483648) : (a + b).toInt = x + y := by
  rw [Int32.toInt_add, ha, hb]
  exact tj_bm h1 h2
theorem tj_sub {a b : Int32} {x y : Int} (ha : a.toInt = x) (hb : b.toInt = y) (h1 : -2147483648 ≤ x - y) (h2 : x - y < 2147483648) : (a - b).toInt = x - y := by
  rw [Int32.toInt_sub, ha, hb]
  exact tj_bm h1 h2
theorem tj_mul {a b : Int32} {x y : Int} (ha : a.toInt = x) (hb : b.toInt = y) (h1 : -2147483648 ≤ x * y) (h2 : x * y < 2147483648) : (a * b).toInt = x * y := by
  rw [Int32.toInt_mul, ha, hb]
  exact tj_bm h1 h2
theorem tj_neg {a : Int32} {x : Int} (ha : a.toInt = x) (h1 : -2147483648 < x) : (-a).toInt = -x := by
  have h := Int32.toInt_lt a
  rw [Int32.toInt_neg, ha]
  exact tj_bm (by omega) (by omega)
theorem tj_le {a b : Int32} {x y : Int} (ha : a.toInt = x) (hb : b.toInt = y) : a ≤ b ↔ x ≤ y := by
  rw [Int32.le_iff_toInt_le, ha, hb]
theorem tj_lt {a b : Int32} {x y : Int} (ha : a.toInt = x) (hb : b.toInt = y) : a < b ↔ x < y := by
  rw [Int32.lt_iff_toInt_lt, ha, hb]
theorem tj_eq {a b : Int32} {x y : Int} (ha : a.toInt = x) (hb : b.toInt = y) : a = b ↔ x = y := by
  rw [← Int32.toInt_inj, ha, hb]
theorem tj_xx (X Y b : Nat) : (X ^^^ b) ^^^ (Y ^^^ b) = X ^^^ Y := by
  apply Nat.eq_of_testBit_eq
  intro i
  simp only [Nat.testBit_xor]
  cases X.testBit i <;> cases Y.testBit i <;> cases b.testBit i <;> rfl
theorem tj_xl (X Y b : Nat) : (X ^^^ b) ^^^ Y = (X ^^^ Y) ^^^ b := by
  apply Nat.eq_of_testBit_eq
  intro i
  simp only [Nat.testBit_xor]
  cases X.testBit i <;> cases Y.testBit i <;> cases b.testBit i <;> rfl
theorem tj_xr (X Y b : Nat) : X ^^^ (Y ^^^ b) = (X ^^^ Y) ^^^ b := by
  apply Nat.eq_of_testBit_eq
  intro i
  simp only [Nat.testBit_xor]
  cases X.testBit i <;> cases Y.testBit i <;> cases b.testBit i <;> rfl
theorem tj_xc (X b : Nat) : (X ^^^ b) ^^^ b = X := by
  apply Nat.eq_of_testBit_eq
  intro i
  simp only [Nat.testBit_xor]
  cases X.testBit i <;> cases b.testBit i <;> rfl
/-- the odd places of a set of roads, by the first m roads -/
def tj_od (E O : Nat → Nat) : Nat → Nat → Nat
  | 0, _ => 0
  | m + 1, S => if S.testBit m then tj_od E O m S ^^^ (2 ^ E m ^^^ 2 ^ O m) else tj_od E O m S
/-- the sum of c over a set of roads -/
def tj_cs (c : Nat → Int) : Nat → Nat → Int
  | 0, _ => 0
  | m + 1, S => if S.testBit m then tj_cs c m S + c m else tj_cs c m S
/-- c without its sign -/
def tj_ab (c : Nat → Int) (i : Nat) : Int := if c i < 0 then -(c i) else c i
theorem tj_od_t {E O : Nat → Nat} {m S : Nat} (h : S.testBit m = true) : tj_od E O (m + 1) S = tj_od E O m S ^^^ (2 ^ E m ^^^ 2 ^ O m) := by
  show (if S.testBit m then _ else _) = _
  rw [if_pos h]
theorem tj_od_f {E O : Nat → Nat} {m S : Nat} (h : S.testBit m = false) : tj_od E O (m + 1) S = tj_od E O m S := by
  show (if S.testBit m then _ else _) = _
  rw [if_neg (by rw [h]; exact Bool.false_ne_true)]
theorem tj_cs_t {c : Nat → Int} {m S : Nat} (h : S.testBit m = true) : tj_cs c (m + 1) S = tj_cs c m S + c m := by
  show (if S.testBit m then _ else _) = _
  rw [if_pos h]
theorem tj_cs_f {c : Nat → Int} {m S : Nat} (h : S.testBit m = false) : tj_cs c (m + 1) S = tj_cs c m S := by
  show (if S.testBit m then _ else _) = _
  rw [if_neg (by rw [h]; exact Bool.false_ne_true)]
theorem tj_bb (b : Bool) : b = true ∨ b = false := by cases b <;> simp
theorem tj_p16 {e : Nat} (h : e < 4) : 2 ^ e < 2 ^ 4 := Nat.pow_lt_pow_right (by decide) h
theorem tj_e16 {p q : Nat} (hp : p < 4) (hq : q < 4) : 2 ^ p ^^^ 2 ^ q < 2 ^ 4 := Nat.xor_lt_two_pow (tj_p16 hp) (tj_p16 hq)
theorem tj_od_lt {E O : Nat → Nat} {S : Nat} : ∀ m, (∀ i, i < m → E i < 4 ∧ O i < 4) → tj_od E O m S < 2 ^ 4
  | 0, _ => by show (0 : Nat) < 16; omega
  | m + 1, h => by
    have ih := tj_od_lt (S := S) m (fun i hi => h i (by omega))
    obtain ⟨h1, h2⟩ := h m (by omega)
    rcases tj_bb (S.testBit m) with b | b
    · rw [tj_od_t b]
      exact Nat.xor_lt_two_pow ih (tj_e16 h1 h2)
    · rw [tj_od_f b]
      exact ih
theorem tj_od_xor {E O : Nat → Nat} {S R : Nat} : ∀ m, tj_od E O m (S ^^^ R) = tj_od E O m S ^^^ tj_od E O m R
  | 0 => (Nat.xor_self 0).symm
  | m + 1 => by
    have ih := tj_od_xor (E := E) (O := O) (S := S) (R := R) m
    have hx := Nat.testBit_xor S R m
    rcases tj_bb (S.testBit m) with b | b <;> rcases tj_bb (R.testBit m) with d | d <;> rw [b, d] at hx
    · rw [tj_od_t b, tj_od_t d, tj_od_f hx, ih, tj_xx]
    · rw [tj_od_t b, tj_od_f d, tj_od_t hx, ih, tj_xl]
    · rw [tj_od_f b, tj_od_t d, tj_od_t hx, ih]; exact (tj_xr _ _ _).symm
    · rw [tj_od_f b, tj_od_f d, tj_od_f hx, ih]
theorem tj_cs_xor {c : Nat → Int} {S R : Nat} : ∀ m, (∀ i, i < m → 0 ≤ c i) → tj_cs c m (S ^^^ R) ≤ tj_cs c m S + tj_cs c m R
  | 0, _ => by show (0 : Int) ≤ 0 + 0; omega
  | m + 1, h => by
    have ih := tj_cs_xor (c := c) (S := S) (R := R) m (fun i hi => h i (by omega))
    have h0 := h m (by omega)
    have hx := Nat.testBit_xor S R m
    rcases tj_bb (S.testBit m) with b | b <;> rcases tj_bb (R.testBit m) with d | d <;> rw [b, d] at hx
    · rw [tj_cs_t b, tj_cs_t d, tj_cs_f hx]; omega
    · rw [tj_cs_t b, tj_cs_f d, tj_cs_t hx]; omega
    · rw [tj_cs_f b, tj_cs_t d, tj_cs_t hx]; omega
    · rw [tj_cs_f b, tj_cs_f d, tj_cs_f hx]; omega
theorem tj_ab_n {c : Nat → Int} {i : Nat} (h : c i < 0) : tj_ab c i = -(c i) := if_pos h
theorem tj_ab_p {c : Nat → Int} {i : Nat} (h : ¬ c i < 0) : tj_ab c i = c i := if_neg h
theorem tj_ab_0 (c : Nat → Int) (i : Nat) : 0 ≤ tj_ab c i := by
  by_cases h : c i < 0
  · rw [tj_ab_n h]; omega
  · rw [tj_ab_p h]; omega
/-- the flip: what is negative is taken first -/
theorem tj_cs_flip {c : Nat → Int} {S N : Nat} : ∀ m, (∀ i, i < m → N.testBit i = decide (c i < 0)) → tj_cs c m (S ^^^ N) = tj_cs c m N + tj_cs (tj_ab c) m S
  | 0, _ => rfl
  | m + 1, h => by
    have ih := tj_cs_flip (c := c) (S := S) (N := N) m (fun i hi => h i (by omega))
    have h0 := h m (by omega)
    have hx := Nat.testBit_xor S N m
    by_cases g : c m < 0
    · have d : N.testBit m = true := by rw [h0]; exact decide_eq_true g
      rcases tj_bb (S.testBit m) with b | b <;> rw [b, d] at hx
      · rw [tj_cs_t b, tj_cs_t d, tj_cs_f hx, tj_ab_n g]; omega
      · rw [tj_cs_f b, tj_cs_t d, tj_cs_t hx]; omega
    · have d : N.testBit m = false := by rw [h0]; exact decide_eq_false g
      rcases tj_bb (S.testBit m) with b | b <;> rw [b, d] at hx
      · rw [tj_cs_t b, tj_cs_f d, tj_cs_t hx, tj_ab_p g]; omega
      · rw [tj_cs_f b, tj_cs_f d, tj_cs_f hx]; omega
theorem tj_od_0 {E O : Nat → Nat} : ∀ m, tj_od E O m 0 = 0
  | 0 => rfl
  | m + 1 => by rw [tj_od_f (Nat.zero_testBit m)]; exact tj_od_0 m
theorem tj_cs_0 {c : Nat → Int} : ∀ m, tj_cs c m 0 = 0
  | 0 => rfl
  | m + 1 => by rw [tj_cs_f (Nat.zero_testBit m)]; exact tj_cs_0 m
theorem tj_od_lo {E O : Nat → Nat} {e : Nat} : ∀ m, m ≤ e → tj_od E O m (2 ^ e) = 0
  | 0, _ => rfl
  | m + 1, h => by rw [tj_od_f (Nat.testBit_two_pow_of_ne (by omega))]; exact tj_od_lo m (by omega)
theorem tj_cs_lo {c : Nat → Int} {e : Nat} : ∀ m, m ≤ e → tj_cs c m (2 ^ e) = 0
  | 0, _ => rfl
  | m + 1, h => by rw [tj_cs_f (Nat.testBit_two_pow_of_ne (by omega))]; exact tj_cs_lo m (by omega)
theorem tj_od_2 {E O : Nat → Nat} {e : Nat} : ∀ m, e < m → tj_od E O m (2 ^ e) = 2 ^ E e ^^^ 2 ^ O e
  | 0, h => absurd h (by omega)
  | m + 1, h => by
    by_cases g : e = m
    · subst g
      rw [tj_od_t Nat.testBit_two_pow_self, tj_od_lo e (Nat.le_refl e), Nat.zero_xor]
    · rw [tj_od_f (Nat.testBit_two_pow_of_ne g)]; exact tj_od_2 m (by omega)
theorem tj_cs_2 {c : Nat → Int} {e : Nat} : ∀ m, e < m → tj_cs c m (2 ^ e) = c e
  | 0, h => absurd h (by omega)
  | m + 1, h => by
    by_cases g : e = m
    · subst g
      rw [tj_cs_t Nat.testBit_two_pow_self, tj_cs_lo e (Nat.le_refl e)]; omega
    · rw [tj_cs_f (Nat.testBit_two_pow_of_ne g)]; exact tj_cs_2 m (by omega)
theorem tj_cs_nn {c : Nat → Int} {S : Nat} : ∀ m, (∀ i, i < m → 0 ≤ c i) → 0 ≤ tj_cs c m S
  | 0, _ => by show (0 : Int) ≤ 0; omega
  | m + 1, h => by
    have ih := tj_cs_nn (c := c) (S := S) m (fun i hi => h i (by omega))
    have h0 := h m (by omega)
    rcases tj_bb (S.testBit m) with b | b
    · rw [tj_cs_t b]; omega
    · rw [tj_cs_f b]; omega
theorem tj_cs_bd {c : Nat → Int} {S : Nat} {A B : Int} (hA : A ≤ 0) (hB : 0 ≤ B) : ∀ m : Nat, (∀ i, i < m → A ≤ c i ∧ c i ≤ B) → m * A ≤ tj_cs c m S ∧ tj_cs c m S ≤ m * B
  | 0, _ => by
    show ((0 : Nat) : Int) * A ≤ 0 ∧ 0 ≤ ((0 : Nat) : Int) * B
    simp
  | m + 1, h => by
    have ih := tj_cs_bd (c := c) (S := S) hA hB m (fun i hi => h i (by omega))
    have h0 := h m (by omega)
    have e1 : ((m + 1 : Nat) : Int) * A = m * A + A := by rw [Int.natCast_add, Int.add_mul]; simp
    have e2 : ((m + 1 : Nat) : Int) * B = m * B + B := by rw [Int.natCast_add, Int.add_mul]; simp
    rcases tj_bb (S.testBit m) with b | b
    · rw [tj_cs_t b]; omega
    · rw [tj_cs_f b]; omega
theorem tj_cs_congr {c c' : Nat → Int} {S : Nat} : ∀ m, (∀ i, i < m → c i = c' i) → tj_cs c m S = tj_cs c' m S
  | 0, _ => rfl
  | m + 1, h => by
    have ih := tj_cs_congr (c := c) (c' := c') (S := S) m (fun i hi => h i (by omega))
    have h0 := h m (by omega)
    rcases tj_bb (S.testBit m) with b | b
    · rw [tj_cs_t b, tj_cs_t b, ih, h0]
    · rw [tj_cs_f b, tj_cs_f b, ih]
/-- one road's cost is changed by a force -/
theorem tj_cs_force {c c' : Nat → Int} {S e : Nat} {f : Int} (he : c' e = c e + f) : ∀ m, (∀ i, i < m → i ≠ e → c' i = c i) → tj_cs c' m S = tj_cs c m S + (if e < m ∧ S.testBit e = true then f else 0)
  | 0, _ => by
    rw [if_neg (by omega)]; rfl
  | m + 1, h => by
    have ih := tj_cs_force (c := c) (c' := c') (S := S) he m (fun i hi => h i (by omega))
    by_cases g : m = e
    · subst g
      rw [if_neg (by omega)] at ih
      rcases tj_bb (S.testBit m) with b | b
      · rw [tj_cs_t b, tj_cs_t b, ih, he, if_pos ⟨by omega, b⟩]; omega
      · rw [tj_cs_f b, tj_cs_f b, ih, if_neg (by rw [b]; intro z; exact Bool.false_ne_true z.2)]
    · have h0 := h m (by omega) g
      have e2 : (e < m + 1 ∧ S.testBit e = true) ↔ (e < m ∧ S.testBit e = true) := by
        constructor
        · intro z; exact ⟨by have := z.1; omega, z.2⟩
        · intro z; exact ⟨by have := z.1; omega, z.2⟩
      simp only [e2]
      rcases tj_bb (S.testBit m) with b | b
      · rw [tj_cs_t b, tj_cs_t b, ih, h0]; omega
      · rw [tj_cs_f b, tj_cs_f b, ih]
/-- the costs of the component: 4096 times the weight, and two to the road's number -/
theorem tj_cs_cost {c W : Nat → Int} {S : Nat} : ∀ m, (∀ i, i < m → c i = 4096 * W i + ((2 ^ i : Nat) : Int)) → tj_cs c m S = 4096 * tj_cs W m S + ((S % 2 ^ m : Nat) : Int)
  | 0, _ => by
    show (0 : Int) = 4096 * 0 + ((S % 1 : Nat) : Int)
    rw [Nat.mod_one]; rfl
  | m + 1, h => by
    have ih := tj_cs_cost (c := c) (W := W) (S := S) m (fun i hi => h i (by omega))
    have h0 := h m (by omega)
    have hm : S % 2 ^ (m + 1) = if S.testBit m then S % 2 ^ m + 2 ^ m else S % 2 ^ m := by
      rw [Nat.mod_pow_succ, Nat.testBit_eq_decide_div_mod_eq]
      by_cases g : S / 2 ^ m % 2 = 1
      · rw [g]; simp
      · rw [show S / 2 ^ m % 2 = 0 by omega]; simp
    rcases tj_bb (S.testBit m) with b | b
    · rw [b, if_pos rfl] at hm
      rw [tj_cs_t b, tj_cs_t b, ih, h0, hm]; omega
    · rw [b, if_neg Bool.false_ne_true] at hm
      rw [tj_cs_f b, tj_cs_f b, ih, hm]
end
section
/-! ===== part 02: the cheapest pairing of wanted places, over a metric d on four places (printed by gen02.py) ===== -/
def tj_f (a b c e f g : Int) : Nat → Int
  | 0 => 0
  | 3 => a
  | 5 => b
  | 6 => e
  | 9 => c
  | 10 => f
  | 12 => g
  | 15 => min (min (min 268435456 (c + e)) (f + b)) (g + a)
  | _ => 268435456
theorem tj_c16 {P : Nat → Prop} (h0 : P 0) (h1 : P 1) (h2 : P 2) (h3 : P 3) (h4 : P 4) (h5 : P 5) (h6 : P 6) (h7 : P 7) (h8 : P 8) (h9 : P 9) (h10 : P 10) (h11 : P 11) (h12 : P 12) (h13 : P 13) (h14 : P 14) (h15 : P 15) : ∀ T, T < 16 → P T
  | 0, _ => h0
  | 1, _ => h1
  | 2, _ => h2
  | 3, _ => h3
  | 4, _ => h4
  | 5, _ => h5
  | 6, _ => h6
  | 7, _ => h7
  | 8, _ => h8
  | 9, _ => h9
  | 10, _ => h10
  | 11, _ => h11
  | 12, _ => h12
  | 13, _ => h13
  | 14, _ => h14
  | 15, _ => h15
  | T + 16, h => absurd h (by omega)
theorem tj_f_10 {a b c e f g : Int} (pa : 0 ≤ a) (qa : a ≤ 268435456) (pb : 0 ≤ b) (qb : b ≤ 268435456) (pc : 0 ≤ c) (qc : c ≤ 268435456) (pe : 0 ≤ e) (qe : e ≤ 268435456) (pf : 0 ≤ f) (qf : f ≤ 268435456) (pg : 0 ≤ g) (qg : g ≤ 268435456) (t1 : a ≤ b + e) (t2 : b ≤ a + e) (t3 : e ≤ a + b) (t4 : a ≤ c + f) (t5 : c ≤ a + f) (t6 : f ≤ a + c) (t7 : b ≤ c + g) (t8 : c ≤ b + g) (t9 : g ≤ b + c) (t10 : e ≤ f + g) (t11 : f ≤ e + g) (t12 : g ≤ e + f) : ∀ T, T < 16 → tj_f a b c e f g (T ^^^ (2 ^ 1 ^^^ 2 ^ 0)) ≤ tj_f a b c e f g T + a := by
  refine tj_c16 (P := fun T => tj_f a b c e f g (T ^^^ (2 ^ 1 ^^^ 2 ^ 0)) ≤ tj_f a b c e f g T + a) ?_ ?_ ?_ ?_ ?_ ?_ ?_ ?_ ?_ ?_ ?_ ?_ ?_ ?_ ?_ ?_
  · show (a : Int) ≤ (0 : Int) + a; omega
  · show (268435456 : Int) ≤ (268435456 : Int) + a; omega
  · show (268435456 : Int) ≤ (268435456 : Int) + a; omega
  · show (0 : Int) ≤ (a : Int) + a; omega
  · show (268435456 : Int) ≤ (268435456 : Int) + a; omega
  · show (e : Int) ≤ (b : Int) + a; omega
  · show (b : Int) ≤ (e : Int) + a; omega
  · show (268435456 : Int) ≤ (268435456 : Int) + a; omega
  · show (268435456 : Int) ≤ (268435456 : Int) + a; omega
  · show (f : Int) ≤ (c : Int) + a; omega
  · show (c : Int) ≤ (f : Int) + a; omega
  · show (268435456 : Int) ≤ (268435456 : Int) + a; omega
  · show (min (min (min 268435456 (c + e)) (f + b)) (g + a) : Int) ≤ (g : Int) + a; omega
  · show (268435456 : Int) ≤ (268435456 : Int) + a; omega
  · show (268435456 : Int) ≤ (268435456 : Int) + a; omega
  · show (g : Int) ≤ (min (min (min 268435456 (c + e)) (f + b)) (g + a) : Int) + a; omega
theorem tj_f_20 {a b c e f g : Int} (pa : 0 ≤ a) (qa : a ≤ 268435456) (pb : 0 ≤ b) (qb : b ≤ 268435456) (pc : 0 ≤ c) (qc : c ≤ 268435456) (pe : 0 ≤ e) (qe : e ≤ 268435456) (pf : 0 ≤ f) (qf : f ≤ 268435456) (pg : 0 ≤ g) (qg : g ≤ 268435456) (t1 : a ≤ b + e) (t2 : b ≤ a + e) (t3 : e ≤ a + b) (t4 : a ≤ c + f) (t5 : c ≤ a + f) (t6 : f ≤ a + c) (t7 : b ≤ c + g) (t8 : c ≤ b + g) (t9 : g ≤ b + c) (t10 : e ≤ f + g) (t11 : f ≤ e + g) (t12 : g ≤ e + f) : ∀ T, T < 16 → tj_f a b c e f g (T ^^^ (2 ^ 2 ^^^ 2 ^ 0)) ≤ tj_f a b c e f g T + b := by
  refine tj_c16 (P := fun T => tj_f a b c e f g (T ^^^ (2 ^ 2 ^^^ 2 ^ 0)) ≤ tj_f a b c e f g T + b) ?_ ?_ ?_ ?_ ?_ ?_ ?_ ?_ ?_ ?_ ?_ ?_ ?_ ?_ ?_ ?_
  · show (b : Int) ≤ (0 : Int) + b; omega
  · show (268435456 : Int) ≤ (268435456 : Int) + b; omega
  · show (268435456 : Int) ≤ (268435456 : Int) + b; omega
  · show (e : Int) ≤ (a : Int) + b; omega
  · show (268435456 : Int) ≤ (268435456 : Int) + b; omega
  · show (0 : Int) ≤ (b : Int) + b; omega
  · show (a : Int) ≤ (e : Int) + b; omega
  · show (268435456 : Int) ≤ (268435456 : Int) + b; omega
  · show (268435456 : Int) ≤ (268435456 : Int) + b; omega
  · show (g : Int) ≤ (c : Int) + b; omega
  · show (min (min (min 268435456 (c + e)) (f + b)) (g + a) : Int) ≤ (f : Int) + b; omega
  · show (268435456 : Int) ≤ (268435456 : Int) + b; omega
  · show (c : Int) ≤ (g : Int) + b; omega
  · show (268435456 : Int) ≤ (268435456 : Int) + b; omega
  · show (268435456 : Int) ≤ (268435456 : Int) + b; omega
  · show (f : Int) ≤ (min (min (min 268435456 (c + e)) (f + b)) (g + a) : Int) + b; omega
theorem tj_f_30 {a b c e f g : Int} (pa : 0 ≤ a) (qa : a ≤ 268435456) (pb : 0 ≤ b) (qb : b ≤ 268435456) (pc : 0 ≤ c) (qc : c ≤ 268435456) (pe : 0 ≤ e) (qe : e ≤ 268435456) (pf : 0 ≤ f) (qf : f ≤ 268435456) (pg : 0 ≤ g) (qg : g ≤ 268435456) (t1 : a ≤ b + e) (t2 : b ≤ a + e) (t3 : e ≤ a + b) (t4 : a ≤ c + f) (t5 : c ≤ a + f) (t6 : f ≤ a + c) (t7 : b ≤ c + g) (t8 : c ≤ b + g) (t9 : g ≤ b + c) (t10 : e ≤ f + g) (t11 : f ≤ e + g) (t12 : g ≤ e + f) : ∀ T, T < 16 → tj_f a b c e f g (T ^^^ (2 ^ 3 ^^^ 2 ^ 0)) ≤ tj_f a b c e f g T + c := by
  refine tj_c16 (P := fun T => tj_f a b c e f g (T ^^^ (2 ^ 3 ^^^ 2 ^ 0)) ≤ tj_f a b c e f g T + c) ?_ ?_ ?_ ?_ ?_ ?_ ?_ ?_ ?_ ?_ ?_ ?_ ?_ ?_ ?_ ?_
  · show (c : Int) ≤ (0 : Int) + c; omega
  · show (268435456 : Int) ≤ (268435456 : Int) + c; omega
  · show (268435456 : Int) ≤ (268435456 : Int) + c; omega
  · show (f : Int) ≤ (a : Int) + c; omega
  · show (268435456 : Int) ≤ (268435456 : Int) + c; omega
  · show (g : Int) ≤ (b : Int) + c; omega
  · show (min (min (min 268435456 (c + e)) (f + b)) (g + a) : Int) ≤ (e : Int) + c; omega
  · show (268435456 : Int) ≤ (268435456 : Int) + c; omega
  · show (268435456 : Int) ≤ (268435456 : Int) + c; omega
  · show (0 : Int) ≤ (c : Int) + c; omega
  · show (a : Int) ≤ (f : Int) + c; omega
  · show (268435456 : Int) ≤ (268435456 : Int) + c; omega
  · show (b : Int) ≤ (g : Int) + c; omega
  · show (268435456 : Int) ≤ (268435456 : Int) + c; omega
  · show (268435456 : Int) ≤ (268435456 : Int) + c; omega
  · show (e : Int) ≤ (min (min (min 268435456 (c + e)) (f + b)) (g + a) : Int) + c; omega
theorem tj_f_21 {a b c e f g : Int} (pa : 0 ≤ a) (qa : a ≤ 268435456) (pb : 0 ≤ b) (qb : b ≤ 268435456) (pc : 0 ≤ c) (qc : c ≤ 268435456) (pe : 0 ≤ e) (qe : e ≤ 268435456) (pf : 0 ≤ f) (qf : f ≤ 268435456) (pg : 0 ≤ g) (qg : g ≤ 268435456) (t1 : a ≤ b + e) (t2 : b ≤ a + e) (t3 : e ≤ a + b) (t4 : a ≤ c + f) (t5 : c ≤ a + f) (t6 : f ≤ a + c) (t7 : b ≤ c + g) (t8 : c ≤ b + g) (t9 : g ≤ b + c) (t10 : e ≤ f + g) (t11 : f ≤ e + g) (t12 : g ≤ e + f) : ∀ T, T < 16 → tj_f a b c e f g (T ^^^ (2 ^ 2 ^^^ 2 ^ 1)) ≤ tj_f a b c e f g T + e := by
  refine tj_c16 (P := fun T => tj_f a b c e f g (T ^^^ (2 ^ 2 ^^^ 2 ^ 1)) ≤ tj_f a b c e f g T + e) ?_ ?_ ?_ ?_ ?_ ?_ ?_ ?_ ?_ ?_ ?_ ?_ ?_ ?_ ?_ ?_
  · show (e : Int) ≤ (0 : Int) + e; omega
  · show (268435456 : Int) ≤ (268435456 : Int) + e; omega
  · show (268435456 : Int) ≤ (268435456 : Int) + e; omega
  · show (b : Int) ≤ (a : Int) + e; omega
  · show (268435456 : Int) ≤ (268435456 : Int) + e; omega
  · show (a : Int) ≤ (b : Int) + e; omega
  · show (0 : Int) ≤ (e : Int) + e; omega
  · show (268435456 : Int) ≤ (268435456 : Int) + e; omega
  · show (268435456 : Int) ≤ (268435456 : Int) + e; omega
  · show (min (min (min 268435456 (c + e)) (f + b)) (g + a) : Int) ≤ (c : Int) + e; omega
  · show (g : Int) ≤ (f : Int) + e; omega
  · show (268435456 : Int) ≤ (268435456 : Int) + e; omega
  · show (f : Int) ≤ (g : Int) + e; omega
  · show (268435456 : Int) ≤ (268435456 : Int) + e; omega
  · show (268435456 : Int) ≤ (268435456 : Int) + e; omega
  · show (c : Int) ≤ (min (min (min 268435456 (c + e)) (f + b)) (g + a) : Int) + e; omega
theorem tj_f_31 {a b c e f g : Int} (pa : 0 ≤ a) (qa : a ≤ 268435456) (pb : 0 ≤ b) (qb : b ≤ 268435456) (pc : 0 ≤ c) (qc : c ≤ 268435456) (pe : 0 ≤ e) (qe : e ≤ 268435456) (pf : 0 ≤ f) (qf : f ≤ 268435456) (pg : 0 ≤ g) (qg : g ≤ 268435456) (t1 : a ≤ b + e) (t2 : b ≤ a + e) (t3 : e ≤ a + b) (t4 : a ≤ c + f) (t5 : c ≤ a + f) (t6 : f ≤ a + c) (t7 : b ≤ c + g) (t8 : c ≤ b + g) (t9 : g ≤ b + c) (t10 : e ≤ f + g) (t11 : f ≤ e + g) (t12 : g ≤ e + f) : ∀ T, T < 16 → tj_f a b c e f g (T ^^^ (2 ^ 3 ^^^ 2 ^ 1)) ≤ tj_f a b c e f g T + f := by
  refine tj_c16 (P := fun T => tj_f a b c e f g (T ^^^ (2 ^ 3 ^^^ 2 ^ 1)) ≤ tj_f a b c e f g T + f) ?_ ?_ ?_ ?_ ?_ ?_ ?_ ?_ ?_ ?_ ?_ ?_ ?_ ?_ ?_ ?_
  · show (f : Int) ≤ (0 : Int) + f; omega
  · show (268435456 : Int) ≤ (268435456 : Int) + f; omega
  · show (268435456 : Int) ≤ (268435456 : Int) + f; omega
  · show (c : Int) ≤ (a : Int) + f; omega
  · show (268435456 : Int) ≤ (268435456 : Int) + f; omega
  · show (min (min (min 268435456 (c + e)) (f + b)) (g + a) : Int) ≤ (b : Int) + f; omega
  · show (g : Int) ≤ (e : Int) + f; omega
  · show (268435456 : Int) ≤ (268435456 : Int) + f; omega
  · show (268435456 : Int) ≤ (268435456 : Int) + f; omega
  · show (a : Int) ≤ (c : Int) + f; omega
  · show (0 : Int) ≤ (f : Int) + f; omega
  · show (268435456 : Int) ≤ (268435456 : Int) + f; omega
  · show (e : Int) ≤ (g : Int) + f; omega
  · show (268435456 : Int) ≤ (268435456 : Int) + f; omega
  · show (268435456 : Int) ≤ (268435456 : Int) + f; omega
  · show (b : Int) ≤ (min (min (min 268435456 (c + e)) (f + b)) (g + a) : Int) + f; omega
theorem tj_f_32 {a b c e f g : Int} (pa : 0 ≤ a) (qa : a ≤ 268435456) (pb : 0 ≤ b) (qb : b ≤ 268435456) (pc : 0 ≤ c) (qc : c ≤ 268435456) (pe : 0 ≤ e) (qe : e ≤ 268435456) (pf : 0 ≤ f) (qf : f ≤ 268435456) (pg : 0 ≤ g) (qg : g ≤ 268435456) (t1 : a ≤ b + e) (t2 : b ≤ a + e) (t3 : e ≤ a + b) (t4 : a ≤ c + f) (t5 : c ≤ a + f) (t6 : f ≤ a + c) (t7 : b ≤ c + g) (t8 : c ≤ b + g) (t9 : g ≤ b + c) (t10 : e ≤ f + g) (t11 : f ≤ e + g) (t12 : g ≤ e + f) : ∀ T, T < 16 → tj_f a b c e f g (T ^^^ (2 ^ 3 ^^^ 2 ^ 2)) ≤ tj_f a b c e f g T + g := by
  refine tj_c16 (P := fun T => tj_f a b c e f g (T ^^^ (2 ^ 3 ^^^ 2 ^ 2)) ≤ tj_f a b c e f g T + g) ?_ ?_ ?_ ?_ ?_ ?_ ?_ ?_ ?_ ?_ ?_ ?_ ?_ ?_ ?_ ?_
  · show (g : Int) ≤ (0 : Int) + g; omega
  · show (268435456 : Int) ≤ (268435456 : Int) + g; omega
  · show (268435456 : Int) ≤ (268435456 : Int) + g; omega
  · show (min (min (min 268435456 (c + e)) (f + b)) (g + a) : Int) ≤ (a : Int) + g; omega
  · show (268435456 : Int) ≤ (268435456 : Int) + g; omega
  · show (c : Int) ≤ (b : Int) + g; omega
  · show (f : Int) ≤ (e : Int) + g; omega
  · show (268435456 : Int) ≤ (268435456 : Int) + g; omega
  · show (268435456 : Int) ≤ (268435456 : Int) + g; omega
  · show (b : Int) ≤ (c : Int) + g; omega
  · show (e : Int) ≤ (f : Int) + g; omega
  · show (268435456 : Int) ≤ (268435456 : Int) + g; omega
  · show (0 : Int) ≤ (g : Int) + g; omega
  · show (268435456 : Int) ≤ (268435456 : Int) + g; omega
  · show (268435456 : Int) ≤ (268435456 : Int) + g; omega
  · show (a : Int) ≤ (min (min (min 268435456 (c + e)) (f + b)) (g + a) : Int) + g; omega
/-- a metric on four places -/
def tj_M (d : Nat → Nat → Int) : Prop := (∀ i j, i < 4 → j < 4 → 0 ≤ d i j ∧ d i j ≤ 268435456) ∧ (∀ i, i < 4 → d i i = 0) ∧ (∀ i j, i < 4 → j < 4 → d i j = d j i) ∧ (∀ v i j, v < 4 → i < 4 → j < 4 → d i j ≤ d i v + d v j)
def tj_F (d : Nat → Nat → Int) (T : Nat) : Int := tj_f (d 1 0) (d 2 0) (d 3 0) (d 2 1) (d 3 1) (d 3 2) T
theorem tj_c4 {P : Nat → Prop} (h0 : P 0) (h1 : P 1) (h2 : P 2) (h3 : P 3) : ∀ T, T < 4 → P T
  | 0, _ => h0
  | 1, _ => h1
  | 2, _ => h2
  | 3, _ => h3
  | T + 4, h => absurd h (by omega)
theorem tj_F_gt {d : Nat → Nat → Int} (h : tj_M d) {T : Nat} (hT : T < 16) : ∀ p, p < 4 → ∀ q, q < 4 → q < p → tj_F d (T ^^^ (2 ^ p ^^^ 2 ^ q)) ≤ tj_F d T + d p q := by
  obtain ⟨hb, hz, hs, ht⟩ := h
  have ba := hb 1 0 (by omega) (by omega)
  have bb := hb 2 0 (by omega) (by omega)
  have bc := hb 3 0 (by omega) (by omega)
  have be := hb 2 1 (by omega) (by omega)
  have bf := hb 3 1 (by omega) (by omega)
  have bg := hb 3 2 (by omega) (by omega)
  have sa := hs 0 1 (by omega) (by omega)
  have sb := hs 0 2 (by omega) (by omega)
  have sc := hs 0 3 (by omega) (by omega)
  have se := hs 1 2 (by omega) (by omega)
  have sf := hs 1 3 (by omega) (by omega)
  have sg := hs 2 3 (by omega) (by omega)
  have t1 := ht 2 1 0 (by omega) (by omega) (by omega)
  have t2 := ht 1 2 0 (by omega) (by omega) (by omega)
  have t3 := ht 0 2 1 (by omega) (by omega) (by omega)
  have t4 := ht 3 1 0 (by omega) (by omega) (by omega)
  have t5 := ht 1 3 0 (by omega) (by omega) (by omega)
  have t6 := ht 0 3 1 (by omega) (by omega) (by omega)
  have t7 := ht 3 2 0 (by omega) (by omega) (by omega)
  have t8 := ht 2 3 0 (by omega) (by omega) (by omega)
  have t9 := ht 0 3 2 (by omega) (by omega) (by omega)
  have t10 := ht 3 2 1 (by omega) (by omega) (by omega)
  have t11 := ht 2 3 1 (by omega) (by omega) (by omega)
  have t12 := ht 1 3 2 (by omega) (by omega) (by omega)
  have r10 := tj_f_10 ba.1 ba.2 bb.1 bb.2 bc.1 bc.2 be.1 be.2 bf.1 bf.2 bg.1 bg.2 (by omega) (by omega) (by omega) (by omega) (by omega) (by omega) (by omega) (by omega) (by omega) (by omega) (by omega) (by omega) T hT
  have r20 := tj_f_20 ba.1 ba.2 bb.1 bb.2 bc.1 bc.2 be.1 be.2 bf.1 bf.2 bg.1 bg.2 (by omega) (by omega) (by omega) (by omega) (by omega) (by omega) (by omega) (by omega) (by omega) (by omega) (by omega) (by omega) T hT
  have r30 := tj_f_30 ba.1 ba.2 bb.1 bb.2 bc.1 bc.2 be.1 be.2 bf.1 bf.2 bg.1 bg.2 (by omega) (by omega) (by omega) (by omega) (by omega) (by omega) (by omega) (by omega) (by omega) (by omega) (by omega) (by omega) T hT
  have r21 := tj_f_21 ba.1 ba.2 bb.1 bb.2 bc.1 bc.2 be.1 be.2 bf.1 bf.2 bg.1 bg.2 (by omega) (by omega) (by omega) (by omega) (by omega) (by omega) (by omega) (by omega) (by omega) (by omega) (by omega) (by omega) T hT
  have r31 := tj_f_31 ba.1 ba.2 bb.1 bb.2 bc.1 bc.2 be.1 be.2 bf.1 bf.2 bg.1 bg.2 (by omega) (by omega) (by omega) (by omega) (by omega) (by omega) (by omega) (by omega) (by omega) (by omega) (by omega) (by omega) T hT
  have r32 := tj_f_32 ba.1 ba.2 bb.1 bb.2 bc.1 bc.2 be.1 be.2 bf.1 bf.2 bg.1 bg.2 (by omega) (by omega) (by omega) (by omega) (by omega) (by omega) (by omega) (by omega) (by omega) (by omega) (by omega) (by omega) T hT
  refine tj_c4 ?_ ?_ ?_ ?_ <;> refine tj_c4 ?_ ?_ ?_ ?_ <;> intro hq
  · exact absurd hq (by omega)
  · exact absurd hq (by omega)
  · exact absurd hq (by omega)
  · exact absurd hq (by omega)
  · exact r10
  · exact absurd hq (by omega)
  · exact absurd hq (by omega)
  · exact absurd hq (by omega)
  · exact r20
  · exact r21
  · exact absurd hq (by omega)
  · exact absurd hq (by omega)
  · exact r30
  · exact r31
  · exact r32
  · exact absurd hq (by omega)
theorem tj_F_st {d : Nat → Nat → Int} (h : tj_M d) {T p q : Nat} (hT : T < 16) (hp : p < 4) (hq : q < 4) : tj_F d (T ^^^ (2 ^ p ^^^ 2 ^ q)) ≤ tj_F d T + d p q := by
  rcases Nat.lt_trichotomy p q with g | g | g
  · rw [Nat.xor_comm (2 ^ p) (2 ^ q), h.2.2.1 p q hp hq]
    exact tj_F_gt h hT q hq p hp g
  · subst g
    rw [Nat.xor_self, Nat.xor_zero, h.2.1 p hp]; omega
  · exact tj_F_gt h hT p hp q hq g
/-- no set of roads is cheaper than the pairing of its odd places -/
theorem tj_F_low {d : Nat → Nat → Int} (h : tj_M d) {E O : Nat → Nat} {c : Nat → Int} {S : Nat} : ∀ m, (∀ i, i < m → E i < 4 ∧ O i < 4 ∧ d (E i) (O i) ≤ c i) → tj_F d (tj_od E O m S) ≤ tj_cs c m S
  | 0, _ => by show (0 : Int) ≤ 0; omega
  | m + 1, g => by
    have ih := tj_F_low h (E := E) (O := O) (c := c) (S := S) m (fun i hi => g i (by omega))
    obtain ⟨h1, h2, h3⟩ := g m (by omega)
    rcases tj_bb (S.testBit m) with b | b
    · rw [tj_od_t b, tj_cs_t b]
      have hl : tj_od E O m S < 16 := tj_od_lt m (fun i hi => ⟨(g i (by omega)).1, (g i (by omega)).2.1⟩)
      have := tj_F_st h hl h1 h2
      omega
    · rw [tj_od_f b, tj_cs_f b]
      exact ih
def tj_top (T : Nat) : Nat := if T < 2 then 0 else if T < 4 then 1 else if T < 8 then 2 else 3
/-- what the component finds for T when the greatest place has met the places below i -/
def tj_gp (d : Nat → Nat → Int) (T t : Nat) : Nat → Int
  | 0 => 268435456
  | i + 1 => if T.testBit i then min (tj_gp d T t i) (tj_F d (T ^^^ (2 ^ t ^^^ 2 ^ i)) + d t i) else tj_gp d T t i
theorem tj_gp_t {d : Nat → Nat → Int} {T t i : Nat} (h : T.testBit i = true) : tj_gp d T t (i + 1) = min (tj_gp d T t i) (tj_F d (T ^^^ (2 ^ t ^^^ 2 ^ i)) + d t i) := by
  show (if T.testBit i then _ else _) = _
  rw [if_pos h]
theorem tj_gp_f {d : Nat → Nat → Int} {T t i : Nat} (h : T.testBit i = false) : tj_gp d T t (i + 1) = tj_gp d T t i := by
  show (if T.testBit i then _ else _) = _
  rw [if_neg (by rw [h]; exact Bool.false_ne_true)]
theorem tj_gp_F {d : Nat → Nat → Int} (h : tj_M d) : ∀ T, T < 16 → 0 < T → tj_gp d T (tj_top T) (tj_top T) = tj_F d T := by
  obtain ⟨hb, -, -, -⟩ := h
  have ba := hb 1 0 (by omega) (by omega)
  have bb := hb 2 0 (by omega) (by omega)
  have bc := hb 3 0 (by omega) (by omega)
  have be := hb 2 1 (by omega) (by omega)
  have bf := hb 3 1 (by omega) (by omega)
  have bg := hb 3 2 (by omega) (by omega)
  refine tj_c16 (P := fun T => 0 < T → tj_gp d T (tj_top T) (tj_top T) = tj_F d T) ?_ ?_ ?_ ?_ ?_ ?_ ?_ ?_ ?_ ?_ ?_ ?_ ?_ ?_ ?_ ?_ <;> intro h0
  · exact absurd h0 (by omega)
  · show (268435456 : Int) = 268435456; omega
  · show (268435456 : Int) = 268435456; omega
  · show (min (268435456) ((0) + d 1 0) : Int) = d 1 0; omega
  · show (268435456 : Int) = 268435456; omega
  · show (min (268435456) ((0) + d 2 0) : Int) = d 2 0; omega
  · show (min (268435456) ((0) + d 2 1) : Int) = d 2 1; omega
  · show (min (min (268435456) ((268435456) + d 2 0)) ((268435456) + d 2 1) : Int) = 268435456; omega
  · show (268435456 : Int) = 268435456; omega
  · show (min (268435456) ((0) + d 3 0) : Int) = d 3 0; omega
  · show (min (268435456) ((0) + d 3 1) : Int) = d 3 1; omega
  · show (min (min (268435456) ((268435456) + d 3 0)) ((268435456) + d 3 1) : Int) = 268435456; omega
  · show (min (268435456) ((0) + d 3 2) : Int) = d 3 2; omega
  · show (min (min (268435456) ((268435456) + d 3 0)) ((268435456) + d 3 2) : Int) = 268435456; omega
  · show (min (min (268435456) ((268435456) + d 3 1)) ((268435456) + d 3 2) : Int) = 268435456; omega
  · show (min (min (min (268435456) ((d 2 1) + d 3 0)) ((d 2 0) + d 3 1)) ((d 1 0) + d 3 2) : Int) = min (min (min 268435456 (d 3 0 + d 2 1)) (d 3 1 + d 2 0)) (d 3 2 + d 1 0); omega
end
section
/-! ===== part 03: parts of joined places; how many joins there are ===== -/
def tj_pc (c x : Nat) : Nat := c / 4 ^ x % 4
def tj_pf (c p q x : Nat) : Nat := bif Nat.beq (tj_pc c x) (tj_pc c q) then tj_pc c p else tj_pc c x
def tj_ps (c p q : Nat) : Nat := tj_pf c p q 0 + 4 * tj_pf c p q 1 + 16 * tj_pf c p q 2 + 64 * tj_pf c p q 3
/-- the parity of the wanted places of the part a, by the first m places -/
def tj_pr (P : Nat → Nat) (T a : Nat) : Nat → Bool
  | 0 => false
  | m + 1 => Bool.xor (tj_pr P T a m) (Nat.beq (P m) a && T.testBit m)
def tj_po (P : Nat → Nat) (T : Nat) : Bool := !(tj_pr P T 0 4) && (!(tj_pr P T 1 4) && (!(tj_pr P T 2 4) && !(tj_pr P T 3 4)))
def tj_fi (P : Nat → Nat) (p : Nat) : Nat → Bool
  | 0 => true
  | q + 1 => tj_fi P p q && !(Nat.beq (P q) (P p))
def tj_cp (P : Nat → Nat) : Nat → Nat
  | 0 => 0
  | p + 1 => tj_cp P p + (bif tj_fi P p p then 1 else 0)
def tj_all (f : Nat → Bool) : Nat → Bool
  | 0 => true
  | n + 1 => f n && tj_all f n
theorem tj_all_h {f : Nat → Bool} : ∀ n, tj_all f n = true → ∀ i, i < n → f i = true
  | 0, _, i, hi => absurd hi (by omega)
  | n + 1, h, i, hi => by
    have h' : (f n && tj_all f n) = true := h
    rw [Bool.and_eq_true] at h'
    by_cases g : i = n
    · rw [g]; exact h'.1
    · exact tj_all_h n h'.2 i (by omega)
def tj_id (c : Nat) : Bool := tj_all (fun x => Nat.beq (tj_pc c (tj_pc c x)) (tj_pc c x)) 4
def tj_k1 (c p q d : Nat) : Bool := tj_id d && (Nat.blt d 256 && (bif Nat.beq (tj_pc c p) (tj_pc c q) then Nat.beq (tj_cp (tj_pc d) 4) (tj_cp (tj_pc c) 4) else Nat.beq (tj_cp (tj_pc d) 4 + 1) (tj_cp (tj_pc c) 4)))
def tj_k2 (c p q d T : Nat) : Bool := bif Nat.beq (tj_pc c p) (tj_pc c q) then ((tj_po (tj_pc d) T == tj_po (tj_pc c) T) && (tj_po (tj_pc c) (T ^^^ (2 ^ p ^^^ 2 ^ q)) == tj_po (tj_pc c) T)) else ((tj_po (tj_pc d) T == (tj_po (tj_pc c) T || tj_po (tj_pc c) (T ^^^ (2 ^ p ^^^ 2 ^ q)))) && !(tj_po (tj_pc c) T && tj_po (tj_pc c) (T ^^^ (2 ^ p ^^^ 2 ^ q))))
theorem tj_ckA : tj_all (fun c => !(tj_id c) || tj_all (fun p => tj_all (fun q => tj_k1 c p q (tj_ps c p q) && tj_all (fun T => tj_k2 c p q (tj_ps c p q) T) 16) 4) 4) 256 = true := by decide +kernel
theorem tj_ck {c p q : Nat} (hc : c < 256) (hi : tj_id c = true) (hp : p < 4) (hq : q < 4) : tj_k1 c p q (tj_ps c p q) = true ∧ ∀ T, T < 16 → tj_k2 c p q (tj_ps c p q) T = true := by
  have h1 := tj_all_h _ tj_ckA c hc
  rw [hi] at h1
  have h2 : tj_all (fun p => tj_all (fun q => tj_k1 c p q (tj_ps c p q) && tj_all (fun T => tj_k2 c p q (tj_ps c p q) T) 16) 4) 4 = true := h1
  have h3 := tj_all_h _ h2 p hp
  have h4 := tj_all_h _ h3 q hq
  rw [Bool.and_eq_true] at h4
  exact ⟨h4.1, fun T hT => tj_all_h _ h4.2 T hT⟩
/-- joining two parts: the weights of the possible sets -/
theorem tj_pstep {c p q : Nat} (hc : c < 256) (hi : tj_id c = true) (hp : p < 4) (hq : q < 4) : tj_ps c p q < 256 ∧ tj_id (tj_ps c p q) = true ∧ ∀ T, T < 16 →
    (if tj_po (tj_pc (tj_ps c p q)) T = true then 2 ^ (tj_cp (tj_pc (tj_ps c p q)) 4 + 1) else 0) = (if tj_po (tj_pc c) T = true then 2 ^ tj_cp (tj_pc c) 4 else 0) + (if tj_po (tj_pc c) (T ^^^ (2 ^ p ^^^ 2 ^ q)) = true then 2 ^ tj_cp (tj_pc c) 4 else 0) := by
  obtain ⟨h1, h2⟩ := tj_ck hc hi hp hq
  generalize tj_ps c p q = d at h1 h2
  unfold tj_k1 at h1
  rw [Bool.and_eq_true, Bool.and_eq_true] at h1
  obtain ⟨a1, a2, a3⟩ := h1
  refine ⟨by simpa [Nat.blt_eq] using a2, a1, fun T hT => ?_⟩
  have h3 := h2 T hT
  unfold tj_k2 at h3
  generalize tj_cp (tj_pc d) 4 = k' at a3
  generalize tj_cp (tj_pc c) 4 = k at a3
  generalize tj_po (tj_pc d) T = x at h3
  generalize tj_po (tj_pc c) T = y at h3
  generalize tj_po (tj_pc c) (T ^^^ (2 ^ p ^^^ 2 ^ q)) = z at h3
  cases g : Nat.beq (tj_pc c p) (tj_pc c q) <;> rw [g] at a3 h3
  · have e : k' + 1 = k := Nat.eq_of_beq_eq_true a3
    rw [e]
    revert h3
    cases x <;> cases y <;> cases z <;> simp
  · have e : k' = k := Nat.eq_of_beq_eq_true a3
    have e2 : 2 ^ (k + 1) = 2 ^ k + 2 ^ k := by rw [Nat.pow_succ]; omega
    rw [e, e2]
    revert h3
    cases x <;> cases y <;> cases z <;> simp
theorem tj_pf_lt (c p q x : Nat) : tj_pf c p q x < 4 := by
  unfold tj_pf tj_pc
  cases Nat.beq (c / 4 ^ x % 4) (c / 4 ^ q % 4)
  · exact Nat.mod_lt _ (by decide)
  · exact Nat.mod_lt _ (by decide)
theorem tj_ps_x {c p q : Nat} : ∀ x, x < 4 → tj_pc (tj_ps c p q) x = tj_pf c p q x := by
  have h0 := tj_pf_lt c p q 0
  have h1 := tj_pf_lt c p q 1
  have h2 := tj_pf_lt c p q 2
  have h3 := tj_pf_lt c p q 3
  unfold tj_ps tj_pc
  refine tj_c4 ?_ ?_ ?_ ?_
  · show (_ : Nat) / 1 % 4 = _; omega
  · show (_ : Nat) / 4 % 4 = _; omega
  · show (_ : Nat) / 16 % 4 = _; omega
  · show (_ : Nat) / 64 % 4 = _; omega
theorem tj_pc_lt (c x : Nat) : tj_pc c x < 4 := Nat.mod_lt _ (by decide)
/-- counting -/
def tj_ct (f : Nat → Bool) : Nat → Nat
  | 0 => 0
  | k + 1 => tj_ct f k + (if f k = true then 1 else 0)
theorem tj_ct_add (f : Nat → Bool) (a : Nat) : ∀ k, tj_ct f (a + k) = tj_ct f a + tj_ct (fun i => f (a + i)) k
  | 0 => rfl
  | k + 1 => by
    show tj_ct f (a + k) + _ = tj_ct f a + (tj_ct (fun i => f (a + i)) k + _)
    rw [tj_ct_add f a k, Nat.add_assoc]; rfl
theorem tj_ct_congr {f g : Nat → Bool} : ∀ k, (∀ i, i < k → f i = g i) → tj_ct f k = tj_ct g k
  | 0, _ => rfl
  | k + 1, h => by
    show tj_ct f k + _ = tj_ct g k + _
    rw [tj_ct_congr k (fun i hi => h i (by omega)), h k (by omega)]
theorem tj_ct_pos {f : Nat → Bool} : ∀ k, 0 < tj_ct f k → ∃ i, i < k ∧ f i = true
  | 0, h => absurd h (by show ¬ 0 < 0; omega)
  | k + 1, h => by
    by_cases g : f k = true
    · exact ⟨k, by omega, g⟩
    · have h' : 0 < tj_ct f k + (if f k = true then 1 else 0) := h
      rw [if_neg g] at h'
      obtain ⟨i, hi, e⟩ := tj_ct_pos k h'
      exact ⟨i, by omega, e⟩
theorem tj_ct_ne {f : Nat → Bool} : ∀ k, tj_ct f k = 0 → ∀ i, i < k → f i = false
  | 0, _, i, hi => absurd hi (by omega)
  | k + 1, h, i, hi => by
    have h' : tj_ct f k + (if f k = true then 1 else 0) = 0 := h
    by_cases g : f k = true
    · rw [if_pos g] at h'; omega
    · by_cases e : i = k
      · rw [e]; exact Bool.eq_false_iff.mpr g
      · exact tj_ct_ne k (by omega) i (by omega)
theorem tj_od_congr {E O : Nat → Nat} {S R : Nat} : ∀ m, (∀ i, i < m → S.testBit i = R.testBit i) → tj_od E O m S = tj_od E O m R
  | 0, _ => rfl
  | m + 1, h => by
    have ih := tj_od_congr (E := E) (O := O) (S := S) (R := R) m (fun i hi => h i (by omega))
    have h0 := h m (by omega)
    rcases tj_bb (S.testBit m) with b | b
    · rw [tj_od_t b, tj_od_t (by rw [← h0]; exact b), ih]
    · rw [tj_od_f b, tj_od_f (by rw [← h0]; exact b), ih]
def tj_N (E O : Nat → Nat) (m T : Nat) : Nat := tj_ct (fun S => decide (tj_od E O m S = T)) (2 ^ m)
theorem tj_N_s {E O : Nat → Nat} {m T : Nat} : tj_N E O (m + 1) T = tj_N E O m T + tj_N E O m (T ^^^ (2 ^ E m ^^^ 2 ^ O m)) := by
  unfold tj_N
  rw [show 2 ^ (m + 1) = 2 ^ m + 2 ^ m by rw [Nat.pow_succ]; omega, tj_ct_add]
  congr 1
  · refine tj_ct_congr _ (fun i hi => ?_)
    rw [tj_od_f (Nat.testBit_lt_two_pow hi)]
  · refine tj_ct_congr _ (fun i hi => ?_)
    have b : (2 ^ m + i).testBit m = true := by rw [Nat.testBit_two_pow_add_eq, Nat.testBit_lt_two_pow hi]; rfl
    have e : tj_od E O m (2 ^ m + i) = tj_od E O m i := tj_od_congr m (fun j hj => Nat.testBit_two_pow_add_gt hj i)
    show decide (tj_od E O (m + 1) (2 ^ m + i) = T) = decide (tj_od E O m i = T ^^^ (2 ^ E m ^^^ 2 ^ O m))
    rw [tj_od_t b, e]
    apply decide_eq_decide.mpr
    constructor
    · intro h; rw [← h, tj_xc]
    · intro h; rw [h, tj_xc]
def tj_pt (E O : Nat → Nat) : Nat → Nat
  | 0 => 228
  | m + 1 => tj_ps (tj_pt E O m) (E m) (O m)
theorem tj_N_0 : ∀ T, T < 16 → (if (0 : Nat) = T then 1 else 0) * 16 = if tj_po (tj_pc 228) T = true then 2 ^ (0 + tj_cp (tj_pc 228) 4) else 0 := by decide +kernel
theorem tj_N_m {E O : Nat → Nat} : ∀ m, (∀ i, i < m → E i < 4 ∧ O i < 4) → tj_pt E O m < 256 ∧ tj_id (tj_pt E O m) = true ∧ ∀ T, T < 16 → tj_N E O m T * 16 = if tj_po (tj_pc (tj_pt E O m)) T = true then 2 ^ (m + tj_cp (tj_pc (tj_pt E O m)) 4) else 0
  | 0, _ => by
    refine ⟨(by decide : 228 < 256), (by decide +kernel : tj_id 228 = true), fun T hT => ?_⟩
    refine Eq.trans ?_ (tj_N_0 T hT)
    show (0 + (if decide ((0 : Nat) = T) = true then 1 else 0)) * 16 = _
    rw [Nat.zero_add]
    by_cases g : 0 = T
    · rw [if_pos g, if_pos (decide_eq_true g)]
    · rw [if_neg g, if_neg (by rw [decide_eq_false g]; exact Bool.false_ne_true)]
  | m + 1, h => by
    obtain ⟨h1, h2, h3⟩ := tj_N_m (E := E) (O := O) m (fun i hi => h i (by omega))
    obtain ⟨e1, e2⟩ := h m (by omega)
    obtain ⟨g1, g2, g3⟩ := tj_pstep h1 h2 e1 e2
    refine ⟨g1, g2, fun T hT => ?_⟩
    have hb : T ^^^ (2 ^ E m ^^^ 2 ^ O m) < 16 := Nat.xor_lt_two_pow (n := 4) hT (tj_e16 e1 e2)
    have r1 := h3 T hT
    have r2 := h3 _ hb
    have r3 := g3 T hT
    show tj_N E O (m + 1) T * 16 = if tj_po (tj_pc (tj_ps (tj_pt E O m) (E m) (O m))) T = true then 2 ^ (m + 1 + tj_cp (tj_pc (tj_ps (tj_pt E O m) (E m) (O m))) 4) else 0
    rw [tj_N_s, Nat.add_mul, r1, r2]
    generalize tj_cp (tj_pc (tj_ps (tj_pt E O m) (E m) (O m))) 4 = k' at r3
    generalize tj_cp (tj_pc (tj_pt E O m)) 4 = k at r3
    have q1 : 2 ^ (m + 1 + k') = 2 ^ m * 2 ^ (k' + 1) := by rw [← Nat.pow_add]; congr 1; omega
    have q2 : 2 ^ (m + k) = 2 ^ m * 2 ^ k := by rw [← Nat.pow_add]
    have r4 := congrArg (fun z => 2 ^ m * z) r3
    simp only [Nat.mul_add] at r4
    rw [q1, q2]
    generalize 2 ^ m = M at r4
    have f : ∀ (b : Bool) (z : Nat), (if b = true then M * z else 0) = M * (if b = true then z else 0) := by
      intro b z; cases b <;> simp
    rw [f, f, f]
    exact r4.symm
/-- a join is possible just if there is one -/
theorem tj_po_iff {E O : Nat → Nat} (h : ∀ i, i < 6 → E i < 4 ∧ O i < 4) {T : Nat} (hT : T < 16) : tj_po (tj_pc (tj_pt E O 6)) T = true ↔ ∃ S, S < 64 ∧ tj_od E O 6 S = T := by
  obtain ⟨-, -, h3⟩ := tj_N_m 6 h
  have r := h3 T hT
  constructor
  · intro g
    rw [if_pos g] at r
    have hp : 0 < 2 ^ (6 + tj_cp (tj_pc (tj_pt E O 6)) 4) := Nat.two_pow_pos _
    obtain ⟨S, hS, e⟩ := tj_ct_pos (2 ^ 6) (show 0 < tj_N E O 6 T by omega)
    exact ⟨S, hS, of_decide_eq_true e⟩
  · intro ⟨S, hS, e⟩
    cases g : tj_po (tj_pc (tj_pt E O 6)) T
    · rw [g, if_neg Bool.false_ne_true] at r
      have z := tj_ct_ne (2 ^ 6) (show tj_N E O 6 T = 0 by omega) S hS
      exact absurd e (of_decide_eq_false z)
    · rfl
theorem tj_N_6 {E O : Nat → Nat} (h : ∀ i, i < 6 → E i < 4 ∧ O i < 4) {T : Nat} (hT : T < 16) : tj_N E O 6 T = if tj_po (tj_pc (tj_pt E O 6)) T = true then 2 ^ (2 + tj_cp (tj_pc (tj_pt E O 6)) 4) else 0 := by
  obtain ⟨-, -, h3⟩ := tj_N_m 6 h
  have r := h3 T hT
  have q : 2 ^ (6 + tj_cp (tj_pc (tj_pt E O 6)) 4) = 2 ^ (2 + tj_cp (tj_pc (tj_pt E O 6)) 4) * 16 := by
    rw [show (16 : Nat) = 2 ^ 4 from rfl, ← Nat.pow_add]; congr 1; omega
  rw [q] at r
  cases g : tj_po (tj_pc (tj_pt E O 6)) T
  · rw [g, if_neg Bool.false_ne_true] at r
    rw [if_neg Bool.false_ne_true]; omega
  · rw [g, if_pos rfl] at r
    rw [if_pos rfl]; omega
theorem tj_cp_le (P : Nat → Nat) : ∀ m, tj_cp P m ≤ m
  | 0 => Nat.le_refl 0
  | m + 1 => by
    have ih := tj_cp_le P m
    show tj_cp P m + (bif tj_fi P m m then 1 else 0) ≤ m + 1
    cases tj_fi P m m <;> simp <;> omega
end
section
/-! ===== part 04: the law's least sums over the sets below k ===== -/
def tj_mn (Q : Nat → Bool) (w : Nat → Int) : Nat → Int
  | 0 => 9999
  | k + 1 => if Q k = true ∧ w k < tj_mn Q w k then w k else tj_mn Q w k
def tj_st (Q : Nat → Bool) (w : Nat → Int) : Nat → Int
  | 0 => -1
  | k + 1 => if Q k = true ∧ w k < tj_mn Q w k then (k : Int) else tj_st Q w k
theorem tj_mn_s (Q : Nat → Bool) (w : Nat → Int) (k : Nat) : tj_mn Q w (k + 1) = if Q k = true ∧ w k < tj_mn Q w k then w k else tj_mn Q w k := rfl
theorem tj_st_s (Q : Nat → Bool) (w : Nat → Int) (k : Nat) : tj_st Q w (k + 1) = if Q k = true ∧ w k < tj_mn Q w k then (k : Int) else tj_st Q w k := rfl
theorem tj_mn_no {Q : Nat → Bool} {w : Nat → Int} : ∀ k, (∀ S, S < k → ¬ Q S = true) → tj_mn Q w k = 9999 ∧ tj_st Q w k = -1
  | 0, _ => ⟨rfl, rfl⟩
  | k + 1, h => by
    have ih := tj_mn_no (Q := Q) (w := w) k (fun S hS => h S (by omega))
    rw [tj_mn_s, tj_st_s, if_neg (fun z => h k (by omega) z.1), if_neg (fun z => h k (by omega) z.1)]
    exact ih
theorem tj_mn_gt {Q : Nat → Bool} {w : Nat → Int} {x : Int} (hx : x < 9999) : ∀ k, (∀ S, S < k → Q S = true → x < w S) → x < tj_mn Q w k
  | 0, _ => hx
  | k + 1, h => by
    have ih := tj_mn_gt (Q := Q) (w := w) hx k (fun S hS => h S (by omega))
    rw [tj_mn_s]
    by_cases g : Q k = true ∧ w k < tj_mn Q w k
    · rw [if_pos g]; exact h k (by omega) g.1
    · rw [if_neg g]; exact ih
theorem tj_mn_is {Q : Nat → Bool} {w : Nat → Int} {S : Nat} (hQ : Q S = true) (hw : w S < 9999) : ∀ k, S < k → (∀ R, R < k → Q R = true → w S < w R ∨ (w S = w R ∧ S ≤ R)) → tj_mn Q w k = w S ∧ tj_st Q w k = S
  | 0, h, _ => absurd h (by omega)
  | k + 1, h, g => by
    rw [tj_mn_s, tj_st_s]
    by_cases e : S = k
    · have l : w S < tj_mn Q w k := tj_mn_gt hw k (fun R hR q => by
        rcases g R (by omega) q with z | z
        · exact z
        · omega)
      subst e
      rw [if_pos ⟨hQ, l⟩, if_pos ⟨hQ, l⟩]
      exact ⟨rfl, rfl⟩
    · have ih := tj_mn_is hQ hw k (by omega) (fun R hR => g R (by omega))
      have n : ¬ (Q k = true ∧ w k < tj_mn Q w k) := fun z => by
        rw [ih.1] at z
        rcases g k (by omega) z.1 with y | y
        · have := z.2; omega
        · have := z.2; omega
      rw [if_neg n, if_neg n]
      exact ih
/-- the cheapest join by the component's costs is the first of the least weight -/
theorem tj_lex {c W : Nat → Int} {S R : Nat} (hS : S < 64) (hR : R < 64) (hc : ∀ i, i < 6 → c i = 4096 * W i + ((2 ^ i : Nat) : Int)) (h : tj_cs c 6 S ≤ tj_cs c 6 R) : tj_cs W 6 S < tj_cs W 6 R ∨ (tj_cs W 6 S = tj_cs W 6 R ∧ S ≤ R) := by
  rw [tj_cs_cost 6 hc, tj_cs_cost 6 hc, Nat.mod_eq_of_lt hS, Nat.mod_eq_of_lt hR] at h
  omega
end
section
/-! ===== part 05: the small walks ===== -/
/-- the roads as the arrays hold them -/
def tj_G (E O : Nat → Nat) (W : Nat → Int) (a1 a2 a3 : Nat → Int32) : Prop := ∀ i, i < 6 → (E i < 4 ∧ O i < 4) ∧ a1 i = nI (E i) ∧ a2 i = nI (O i) ∧ (a3 i).toInt = W i ∧ -9 ≤ W i ∧ W i ≤ 20
theorem tj_G_e {E O : Nat → Nat} {W : Nat → Int} {a1 a2 a3 : Nat → Int32} (h : tj_G E O W a1 a2 a3) : ∀ i, i < 6 → E i < 4 ∧ O i < 4 := fun i hi => (h i hi).1
theorem tj_takeCosts {post : St2 → Prop} {wa : Int32} {E O : Nat → Nat} {W : Nat → Int} {a1 a2 a3 a4 a5 a6 a7 a8 a9 : Nat → Int32} (hG : tj_G E O W a1 a2 a3)
    (H : ∀ a, (∀ i, i < 6 → (a i).toInt = 4096 * W i + ((2 ^ i : Nat) : Int)) → post (nI 4, nI 6, wa, a1, a2, a3, a, a5, a6, a7, a8, a9)) : wpX_takeCosts post (nI 4, nI 6, wa, a1, a2, a3, a4, a5, a6, a7, a8, a9) := by
  refine pk_loop (fun n i s => wX_takeCosts_2 post (nI 4) (nI 6) wa n (nI i) a1 a2 a3 s a5 a6 a7 a8 a9) (fun i s => ∀ j, j < i → (s j).toInt = 4096 * W j + ((2 ^ j : Nat) : Int)) 6 0 a4 (by omega) (fun j hj => absurd hj (by omega))
    (fun n s h => pk_le 6 6 (fun _ => H s h) (fun z => absurd z (by omega)))
    (fun n i s hi h hw => pk_le 6 i (fun z => absurd z (by omega)) (fun _ => ⟨pk_in i 12 (by omega), pk_in i 12 (by omega), nm_e (nm_r (nI_1 i) (hw _ ?_))⟩))
  rw [nI_clamp (show i < 2 ^ 31 by omega)]
  intro j hj
  by_cases e : j = i
  · obtain ⟨-, -, -, g1, g2, g3⟩ := hG i hi
    have hp : 2 ^ i < 2 ^ 6 := Nat.pow_lt_pow_right (by decide) hi
    rw [e, pk_us, tj_p2 i (by omega)]
    generalize 2 ^ i = z at hp ⊢
    exact tj_add (tj_mul (show (4096 : Int32).toInt = 4096 from rfl) g1 (by omega) (by omega)) (nI_toInt (by omega)) (by omega) (by omega)
  · rw [pk_un e]
    exact h j (by omega)
theorem tj_oddOf {post : Int32 → Prop} {wa : Int32} {E O : Nat → Nat} {W : Nat → Int} {S : Nat} {a1 a2 a3 a4 a5 a6 a7 a8 a9 : Nat → Int32} (hG : tj_G E O W a1 a2 a3) (hS : S < 64)
    (H : post (nI (tj_od E O 6 S))) : wpX_oddOf post (nI 4, nI 6, wa, a1, a2, a3, a4, a5, a6, a7, a8, a9) (nI S) := by
  refine pk_loop (σ := Unit) (fun n i _ => wX_oddOf_4 post (nI S) (nI 4) (nI 6) wa a1 a2 a3 a4 a5 a6 a7 a8 a9 n (nI (tj_od E O i S)) (nI i)) (fun _ _ => True) 6 0 () (by omega) trivial
    (fun n s h => pk_le 6 6 (fun _ => H) (fun z => absurd z (by omega)))
    (fun n i s hi h hw => pk_le 6 i (fun z => absurd z (by omega)) (fun _ => ek_if (tj_bt1 (by omega) (by omega)) (fun b => ⟨pk_in i 12 (by omega), pk_in i 12 (by omega), nm_r ?_ (nm_r (nI_1 i) (hw () trivial))⟩) (fun b => nm_r (nI_1 i) ?_)))
  · obtain ⟨g1, g2, g3, -⟩ := hG i hi
    rw [nI_clamp (show i < 2 ^ 31 by omega), g2, g3, tj_p2 _ (by omega), tj_p2 _ (by omega), tj_xor, tj_xor, tj_od_t b, Nat.xor_assoc]
  · have t := hw () trivial
    rw [tj_od_f (Bool.eq_false_iff.mpr b)] at t
    exact t
theorem tj_weightOf {post : Int32 → Prop} {wa : Int32} {E O : Nat → Nat} {W : Nat → Int} {S : Nat} {a1 a2 a3 a4 a5 a6 a7 a8 a9 : Nat → Int32} (hG : tj_G E O W a1 a2 a3) (hS : S < 64)
    (H : ∀ r : Int32, r.toInt = tj_cs W 6 S → post r) : wpX_weightOf post (nI 4, nI 6, wa, a1, a2, a3, a4, a5, a6, a7, a8, a9) (nI S) := by
  have bd : ∀ i, i ≤ 6 → -54 ≤ tj_cs W i S ∧ tj_cs W i S ≤ 120 := fun i hi => by
    have := tj_cs_bd (c := W) (S := S) (A := -9) (B := 20) (by omega) (by omega) i (fun j hj => (hG j (by omega)).2.2.2.2)
    omega
  refine pk_loop (fun n i s => wX_weightOf_4 post (nI S) (nI 4) (nI 6) wa a1 a2 a3 a4 a5 a6 a7 a8 a9 n s (nI i)) (fun i s => s.toInt = tj_cs W i S) 6 0 0 (by omega) rfl
    (fun n s h => pk_le 6 6 (fun _ => H s h) (fun z => absurd z (by omega)))
    (fun n i s hi h hw => pk_le 6 i (fun z => absurd z (by omega)) (fun _ => ek_if (tj_bt1 (by omega) (by omega)) (fun b => ⟨pk_in i 12 (by omega), nm_e (nm_r (nI_1 i) (hw _ ?_))⟩) (fun b => nm_e (nm_r (nI_1 i) (hw _ ?_)))))
  · obtain ⟨-, -, -, g, g2, g3⟩ := hG i hi
    have := bd i (by omega)
    rw [nI_clamp (show i < 2 ^ 31 by omega), tj_cs_t b]
    exact tj_add h g (by omega) (by omega)
  · have := bd i (by omega)
    rw [tj_cs_f (Bool.eq_false_iff.mpr b)]
    have t := tj_add h (show (0 : Int32).toInt = 0 from rfl) (by omega) (by omega)
    rw [t]; omega
/-! parts -/
theorem tj_fp60 {post : St2 → Prop} {J : Int32 → (Nat → Int32) → (Nat → Int32) → (Nat → Int32) → (Nat → Int32) → (Nat → Int32) → (Nat → Int32) → (Nat → Int32) → (Nat → Int32) → (Nat → Int32) → Prop} {wa : Int32} {e A B : Nat} {P : Nat → Nat} {a1 a2 a3 a4 a5 a6 a7 a8 a9 : Nat → Int32}
    (hP : ∀ x, P x < 4) (hB : B < 4) (h9 : ∀ x, x < 4 → a9 x = nI (P x))
    (H : ∀ a, (∀ x, x < 4 → a x = nI (bif Nat.beq (P x) B then A else P x)) → J (nI (e + 1)) a1 a2 a3 a4 a5 a6 a7 a8 a) :
    ∃ n, wX_findParts_60 post J (nI e) (nI A) (nI B) (nI 4) (nI 6) wa n 0 a1 a2 a3 a4 a5 a6 a7 a8 a9 := by
  refine pk_loop (fun n i s => wX_findParts_60 post J (nI e) (nI A) (nI B) (nI 4) (nI 6) wa n (nI i) a1 a2 a3 a4 a5 a6 a7 a8 s) (fun i s => (∀ x, x < i → s x = nI (bif Nat.beq (P x) B then A else P x)) ∧ ∀ x, i ≤ x → x < 4 → s x = nI (P x)) 4 0 a9 (by omega) ⟨fun x hx => absurd hx (by omega), fun x _ hx => h9 x hx⟩
    (fun n s h => pk_le 4 4 (fun _ => nm_r (nI_1 e) (H s h.1)) (fun z => absurd z (by omega)))
    (fun n i s hi h hw => pk_le 4 i (fun z => absurd z (by omega)) (fun _ => ⟨pk_in i 7 (by omega), ?_⟩))
  have hpi := hP i
  have e0 : s (nI i).toNatClampNeg = nI (P i) := by rw [nI_clamp (show i < 2 ^ 31 by omega)]; exact h.2 i (by omega) hi
  refine pk_eq (P i) B (fun g => ⟨pk_in i 7 (by omega), nm_e (nm_r (nI_1 i) (hw _ ?_))⟩) (fun g => ⟨pk_in i 7 (by omega), pk_in i 7 (by omega), nm_e (nm_r (nI_1 i) (hw _ ?_))⟩) e0 rfl
  · rw [nI_clamp (show i < 2 ^ 31 by omega)]
    refine ⟨fun x hx => ?_, fun x h1 h2 => ?_⟩
    · by_cases z : x = i
      · subst z
        rw [pk_us, g, Nat.beq_refl]; rfl
      · rw [pk_un z]; exact h.1 x (by omega)
    · rw [pk_un (by omega)]; exact h.2 x (by omega) h2
  · rw [nI_clamp (show i < 2 ^ 31 by omega)] at e0 ⊢
    refine ⟨fun x hx => ?_, fun x h1 h2 => ?_⟩
    · by_cases z : x = i
      · subst z
        rw [pk_us, e0]
        cases q : Nat.beq (P x) B
        · rfl
        · exact absurd (Nat.eq_of_beq_eq_true q) g
      · rw [pk_un z]; exact h.1 x (by omega)
    · rw [pk_un (by omega)]; exact h.2 x (by omega) h2
theorem tj_fp25 {post : St2 → Prop} {wa : Int32} {E O : Nat → Nat} {W : Nat → Int} {a1 a2 a3 a4 a5 a6 a7 a8 a9 : Nat → Int32} (hG : tj_G E O W a1 a2 a3) (h9 : ∀ x, x < 4 → a9 x = nI (tj_pc 228 x))
    (H : ∀ a, (∀ x, x < 4 → a x = nI (tj_pc (tj_pt E O 6) x)) → post (nI 4, nI 6, wa, a1, a2, a3, a4, a5, a6, a7, a8, a)) :
    ∃ n, wX_findParts_25 post (nI 4) (nI 6) wa n 0 a1 a2 a3 a4 a5 a6 a7 a8 a9 := by
  refine pk_loop (fun n i s => wX_findParts_25 post (nI 4) (nI 6) wa n (nI i) a1 a2 a3 a4 a5 a6 a7 a8 s) (fun i s => ∀ x, x < 4 → s x = nI (tj_pc (tj_pt E O i) x)) 6 0 a9 (by omega) h9
    (fun n s h => pk_le 6 6 (fun _ => H s h) (fun z => absurd z (by omega)))
    (fun n i s hi h hw => pk_le 6 i (fun z => absurd z (by omega)) (fun _ => ?_))
  obtain ⟨⟨g1, g2⟩, g3, g4, -⟩ := hG i hi
  have ci : (nI i).toNatClampNeg = i := nI_clamp (by omega)
  have e1 : a1 (nI i).toNatClampNeg = nI (E i) := by rw [ci, g3]
  have e2 : a2 (nI i).toNatClampNeg = nI (O i) := by rw [ci, g4]
  have f1 : s (a1 (nI i).toNatClampNeg).toNatClampNeg = nI (tj_pc (tj_pt E O i) (E i)) := by rw [e1, nI_clamp (by omega)]; exact h _ g1
  have f2 : s (a2 (nI i).toNatClampNeg).toNatClampNeg = nI (tj_pc (tj_pt E O i) (O i)) := by rw [e2, nI_clamp (by omega)]; exact h _ g2
  refine ⟨pk_in i 12 (by omega), pk_in (E i) 7 (by omega) e1, nm_r f1 ⟨pk_in i 12 (by omega), pk_in (O i) 7 (by omega) e2, nm_r f2 ?_⟩⟩
  exact tj_fp60 (fun x => tj_pc_lt _ x) (tj_pc_lt _ _) h (fun a ha => hw a (fun x hx => by
    rw [ha x hx]
    show _ = nI (tj_pc (tj_ps (tj_pt E O i) (E i) (O i)) x)
    rw [tj_ps_x x hx]; rfl))
theorem tj_findParts {post : St2 → Prop} {wa : Int32} {E O : Nat → Nat} {W : Nat → Int} {a1 a2 a3 a4 a5 a6 a7 a8 a9 : Nat → Int32} (hG : tj_G E O W a1 a2 a3)
    (H : ∀ a, (∀ x, x < 4 → a x = nI (tj_pc (tj_pt E O 6) x)) → post (nI 4, nI 6, wa, a1, a2, a3, a4, a5, a6, a7, a8, a)) : wpX_findParts post (nI 4, nI 6, wa, a1, a2, a3, a4, a5, a6, a7, a8, a9) := by
  refine pk_loop (fun n i s => wX_findParts_2 post (nI 4) (nI 6) wa n (nI i) a1 a2 a3 a4 a5 a6 a7 a8 s) (fun i s => ∀ x, x < i → s x = nI x) 4 0 a9 (by omega) (fun j hj => absurd hj (by omega))
    (fun n s h => pk_le 4 4 (fun _ => tj_fp25 hG (fun x hx => by
      rw [h x hx]
      exact congrArg nI ((by decide : ∀ x, x < 4 → x = tj_pc 228 x) x hx)) H) (fun z => absurd z (by omega)))
    (fun n i s hi h hw => pk_le 4 i (fun z => absurd z (by omega)) (fun _ => ⟨pk_in i 7 (by omega), nm_e (nm_r (nI_1 i) (hw _ ?_))⟩))
  rw [nI_clamp (show i < 2 ^ 31 by omega)]
  intro x hx
  by_cases z : x = i
  · rw [z, pk_us]
  · rw [pk_un z]; exact h x (by omega)
theorem tj_bitb {s k : Nat} (hs : s < 2 ^ 31) (hk : k < 31) : ((nI s >>> (nI k &&& 31)) &&& 1) = nI (s.testBit k).toNat := by
  rw [tj_bitn hs hk, Nat.testBit_eq_decide_div_mod_eq]
  by_cases g : s / 2 ^ k % 2 = 1
  · rw [g]; rfl
  · rw [show s / 2 ^ k % 2 = 0 by omega]; rfl
theorem tj_xb (a b : Bool) : nI a.toNat ^^^ nI b.toNat = nI (Bool.xor a b).toNat := by
  rw [tj_xor]
  cases a <;> cases b <;> rfl
theorem tj_po_f {P : Nat → Nat} {T a : Nat} (ha : a < 4) (h : tj_pr P T a 4 = true) : tj_po P T = false := by
  unfold tj_po
  revert h
  refine tj_c4 (P := fun a => tj_pr P T a 4 = true → _) ?_ ?_ ?_ ?_ a ha <;> intro h <;> rw [h] <;> simp
theorem tj_po_t {P : Nat → Nat} {T : Nat} (h : ∀ a, a < 4 → tj_pr P T a 4 = false) : tj_po P T = true := by
  unfold tj_po
  rw [h 0 (by omega), h 1 (by omega), h 2 (by omega), h 3 (by omega)]; rfl
theorem tj_ip19 {post : Int32 → St2 → Prop} {J : Int32 → Prop} {wa : Int32} {T a : Nat} {P : Nat → Nat} {a1 a2 a3 a4 a5 a6 a7 a8 a9 : Nat → Int32} (hT : T < 2 ^ 31) (ha : a < 4) (hP : ∀ x, P x < 4) (h9 : ∀ x, x < 4 → a9 x = nI (P x))
    (H1 : tj_pr P T a 4 = true → post 0 (nI 4, nI 6, wa, a1, a2, a3, a4, a5, a6, a7, a8, a9)) (H0 : tj_pr P T a 4 = false → J (nI (a + 1))) :
    ∃ n, wX_isPossible_19 post J (nI T) (nI a) (nI 4) (nI 6) wa a1 a2 a3 a4 a5 a6 a7 a8 a9 n 0 0 := by
  refine pk_loop (σ := Unit) (fun n i _ => wX_isPossible_19 post J (nI T) (nI a) (nI 4) (nI 6) wa a1 a2 a3 a4 a5 a6 a7 a8 a9 n (nI (tj_pr P T a i).toNat) (nI i)) (fun _ _ => True) 4 0 () (by omega) trivial
    (fun n s h => pk_le 4 4 (fun _ => ?_) (fun z => absurd z (by omega)))
    (fun n i s hi h hw => pk_le 4 i (fun z => absurd z (by omega)) (fun _ => ⟨pk_in i 7 (by omega), ?_⟩))
  · cases g : tj_pr P T a 4
    · exact br_f (by decide) (nm_r (nI_1 a) (H0 g))
    · exact br_t rfl (H1 g)
  · have t := hw () trivial
    have hpi := hP i
    have e0 : a9 (nI i).toNatClampNeg = nI (P i) := by rw [nI_clamp (show i < 2 ^ 31 by omega)]; exact h9 i hi
    have ex : tj_pr P T a (i + 1) = Bool.xor (tj_pr P T a i) (Nat.beq (P i) a && T.testBit i) := rfl
    refine pk_eq (P i) a (fun g => nm_r ?_ (nm_r (nI_1 i) t)) (fun g => nm_r ?_ (nm_r (nI_1 i) t)) e0 rfl
    · rw [tj_bitb hT (by omega), tj_xb, ex, g, Nat.beq_refl, Bool.true_and]
    · have q : Nat.beq (P i) a = false := by
        cases q : Nat.beq (P i) a
        · rfl
        · exact absurd (Nat.eq_of_beq_eq_true q) g
      rw [show (0 : Int32) = nI (false).toNat from rfl, tj_xb, ex, q, Bool.false_and]
theorem tj_isPossible {post : Int32 → St2 → Prop} {wa : Int32} {E O : Nat → Nat} {W : Nat → Int} {T : Nat} {a1 a2 a3 a4 a5 a6 a7 a8 a9 : Nat → Int32} (hG : tj_G E O W a1 a2 a3) (hT : T < 2 ^ 31)
    (H : ∀ a, (∀ x, x < 4 → a x = nI (tj_pc (tj_pt E O 6) x)) → post (nI (tj_po (tj_pc (tj_pt E O 6)) T).toNat) (nI 4, nI 6, wa, a1, a2, a3, a4, a5, a6, a7, a8, a)) : wpX_isPossible post (nI 4, nI 6, wa, a1, a2, a3, a4, a5, a6, a7, a8, a9) (nI T) := by
  refine tj_findParts hG (fun b hb => ?_)
  have Hb := H b hb
  refine pk_loop (σ := Unit) (fun n i _ => wX_isPossible_6 post (nI T) (nI 4) (nI 6) wa a1 a2 a3 a4 a5 a6 a7 a8 b n (nI i)) (fun i _ => ∀ a, a < i → tj_pr (tj_pc (tj_pt E O 6)) T a 4 = false) 4 0 () (by omega) (fun a h => absurd h (by omega))
    (fun n s h => pk_le 4 4 (fun _ => ?_) (fun z => absurd z (by omega)))
    (fun n i s hi h hw => pk_le 4 i (fun z => absurd z (by omega)) (fun _ => tj_ip19 hT hi (fun x => tj_pc_lt _ x) hb (fun g => ?_) (fun g => hw () (fun a ha => ?_))))
  · rw [tj_po_t h] at Hb
    exact Hb
  · rw [tj_po_f hi g] at Hb
    exact Hb
  · by_cases z : a = i
    · rw [z]; exact g
    · exact h a (by omega)
theorem tj_cp21 {post : Int32 → St2 → Prop} {J : Int32 → Int32 → Prop} {wa : Int32} {k p : Nat} {P : Nat → Nat} {a1 a2 a3 a4 a5 a6 a7 a8 a9 : Nat → Int32} (hp : p < 4) (hP : ∀ x, P x < 4) (h9 : ∀ x, x < 4 → a9 x = nI (P x))
    (H : J (nI (k + (bif tj_fi P p p then 1 else 0))) (nI (p + 1))) :
    ∃ n, wX_countParts_21 post J (nI k) (nI p) (nI 4) (nI 6) wa a1 a2 a3 a4 a5 a6 a7 a8 a9 n 1 0 := by
  refine pk_loop (σ := Unit) (fun n i _ => wX_countParts_21 post J (nI k) (nI p) (nI 4) (nI 6) wa a1 a2 a3 a4 a5 a6 a7 a8 a9 n (nI (tj_fi P p i).toNat) (nI i)) (fun _ _ => True) p 0 () (by omega) trivial
    (fun n s h => pk_le p p (fun _ => ?_) (fun z => absurd z (by omega)))
    (fun n i s hi h hw => pk_le p i (fun z => absurd z (by omega)) (fun _ => ?_))
  · cases g : tj_fi P p p <;> rw [g] at H
    · exact br_t rfl (nm_r (show nI k + 0 = nI (k + 0) from nI_add k 0) (nm_r (nI_1 p) H))
    · exact br_f (by decide) (nm_r (nI_1 k) (nm_r (nI_1 p) H))
  · have t := hw () trivial
    have ex : tj_fi P p (i + 1) = (tj_fi P p i && !(Nat.beq (P i) (P p))) := rfl
    have hpi := hP i
    have hpp := hP p
    have e0 : a9 (nI i).toNatClampNeg = nI (P i) := by rw [nI_clamp (show i < 2 ^ 31 by omega)]; exact h9 i (by omega)
    have e1 : a9 (nI p).toNatClampNeg = nI (P p) := by rw [nI_clamp (show p < 2 ^ 31 by omega)]; exact h9 p hp
    rw [ex] at t
    cases g : tj_fi P p i <;> rw [g] at t
    · exact br_t rfl (nm_r (nI_1 i) t)
    · refine br_f (by decide) ⟨pk_in i 7 (by omega), pk_in p 7 (by omega), pk_eq (P i) (P p) (fun q => nm_r (nI_1 i) ?_) (fun q => nm_r (nI_1 i) ?_) e0 e1⟩
      · rw [q, Nat.beq_refl] at t
        exact t
      · have q' : Nat.beq (P i) (P p) = false := by
          cases q' : Nat.beq (P i) (P p)
          · rfl
          · exact absurd (Nat.eq_of_beq_eq_true q') q
        rw [q'] at t
        exact t
theorem tj_countParts {post : Int32 → St2 → Prop} {wa : Int32} {E O : Nat → Nat} {W : Nat → Int} {a1 a2 a3 a4 a5 a6 a7 a8 a9 : Nat → Int32} (hG : tj_G E O W a1 a2 a3)
    (H : ∀ a, post (nI (tj_cp (tj_pc (tj_pt E O 6)) 4)) (nI 4, nI 6, wa, a1, a2, a3, a4, a5, a6, a7, a8, a)) : wpX_countParts post (nI 4, nI 6, wa, a1, a2, a3, a4, a5, a6, a7, a8, a9) := by
  refine tj_findParts hG (fun b hb => ?_)
  exact pk_loop (σ := Unit) (fun n i _ => wX_countParts_8 post (nI 4) (nI 6) wa a1 a2 a3 a4 a5 a6 a7 a8 b n (nI (tj_cp (tj_pc (tj_pt E O 6)) i)) (nI i)) (fun _ _ => True) 4 0 () (by omega) trivial
    (fun n s h => pk_le 4 4 (fun _ => H b) (fun z => absurd z (by omega)))
    (fun n i s hi h hw => pk_le 4 i (fun z => absurd z (by omega)) (fun _ => tj_cp21 hi (fun x => tj_pc_lt _ x) hb (hw () trivial)))
theorem tj_joins {post : Int32 → St2 → Prop} {E O : Nat → Nat} {W : Nat → Int} {T : Nat} {a1 a2 a3 a4 a5 a6 a7 a8 a9 : Nat → Int32} (hG : tj_G E O W a1 a2 a3) (hT : T < 16)
    (H : ∀ a, post (nI (tj_N E O 6 T)) (nI 4, nI 6, nI T, a1, a2, a3, a4, a5, a6, a7, a8, a)) : wpX_joins post (nI 4, nI 6, nI T, a1, a2, a3, a4, a5, a6, a7, a8, a9) := by
  have hN := tj_N_6 (tj_G_e hG) hT
  refine tj_isPossible hG (by omega) (fun b hb => ?_)
  cases g : tj_po (tj_pc (tj_pt E O 6)) T <;> rw [g] at hN
  · rw [if_neg Bool.false_ne_true] at hN
    rw [hN] at H
    exact br_t rfl (H b)
  · rw [if_pos rfl] at hN
    refine br_f (by decide) (tj_countParts hG (fun a => ?_))
    have Ha := H a
    have hc := tj_cp_le (tj_pc (tj_pt E O 6)) 4
    rw [hN, ← tj_p2 _ (by omega), ← nI_add] at Ha
    exact Ha
end
section
/-! ===== part 06: shortest ways ===== -/
/-- a set of roads v whose odd places are T, not dearer than x, if x is not FAR -/
def tj_ok (E O : Nat → Nat) (c : Nat → Int) (T : Nat) (v : Int32) (x : Int) : Prop := x < 268435456 → ∃ S, S < 64 ∧ v = nI S ∧ tj_od E O 6 S = T ∧ tj_cs (tj_ab c) 6 S ≤ x
/-- the table of distances when o places and m roads are taken -/
def tj_Wd (E O : Nat → Nat) (c : Nat → Int) (o m : Nat) (D : Nat → Int) : Prop :=
  (∀ k, k < 49 → 0 ≤ D k ∧ D k ≤ 268435456) ∧ (∀ i, i < 7 → D (8 * i) = 0) ∧ (∀ i j, i < 4 → j < 4 → D (7 * i + j) = D (7 * j + i)) ∧
  (∀ v i j, v < o → i < 4 → j < 4 → D (7 * i + j) ≤ D (7 * i + v) + D (7 * v + j)) ∧ (∀ e, e < m → D (7 * E e + O e) ≤ tj_ab c e)
def tj_Ok (E O : Nat → Nat) (c : Nat → Int) (a5 a6 : Nat → Int32) : Prop := ∀ i j, i < 4 → j < 4 → tj_ok E O c (2 ^ i ^^^ 2 ^ j) (a6 (7 * i + j)) (a5 (7 * i + j)).toInt
/-- one stage: ways over the place o -/
theorem tj_stage {E O : Nat → Nat} {c : Nat → Int} {o m : Nat} {D D' : Nat → Int} (ho : o < 4) (hm : ∀ e, e < m → E e < 4 ∧ O e < 4) (h : tj_Wd E O c o m D)
    (hD : ∀ k, k < 49 → D' k = min (D k) (D (7 * (k / 7) + o) + D (7 * o + k % 7))) : tj_Wd E O c (o + 1) m D' := by
  obtain ⟨h1, h2, h3, h4, h5⟩ := h
  have e : ∀ i j, i < 7 → j < 7 → D' (7 * i + j) = min (D (7 * i + j)) (D (7 * i + o) + D (7 * o + j)) := fun i j hi hj => by
    rw [hD (7 * i + j) (by omega), show (7 * i + j) / 7 = i by omega, show (7 * i + j) % 7 = j by omega]
  have oo : D (7 * o + o) = 0 := by
    rw [show 7 * o + o = 8 * o by omega]; exact h2 o (by omega)
  refine ⟨fun k hk => ?_, fun i hi => ?_, fun i j hi hj => ?_, fun v i j hv hi hj => ?_, fun q hq => ?_⟩
  · have a := h1 k hk
    have b := h1 (7 * (k / 7) + o) (by omega)
    have d := h1 (7 * o + k % 7) (by omega)
    rw [hD k hk]; omega
  · have a := h1 (7 * i + o) (by omega)
    have b := h1 (7 * o + i) (by omega)
    have z := h2 i hi
    have t := e i i hi hi
    rw [show 7 * i + i = 8 * i by omega] at t
    rw [t, z]; omega
  · rw [e i j (by omega) (by omega), e j i (by omega) (by omega), h3 i j hi hj, h3 i o hi ho, h3 o j ho hj, Int.add_comm]
  · rw [e i j (by omega) (by omega), e i v (by omega) (by omega), e v j (by omega) (by omega)]
    have b1 := h1 (7 * i + o) (by omega)
    have b2 := h1 (7 * o + j) (by omega)
    have b3 := h1 (7 * o + v) (by omega)
    have b4 := h1 (7 * v + o) (by omega)
    by_cases g : v = o
    · subst g
      rw [oo]; omega
    · have t1 := h4 v i j (by omega) hi hj
      have t2 := h4 v o j (by omega) ho hj
      have t3 := h4 v i o (by omega) hi ho
      generalize D (7 * i + j) = x1 at *
      generalize D (7 * i + v) = x2 at *
      generalize D (7 * v + j) = x3 at *
      generalize D (7 * i + o) = x4 at *
      generalize D (7 * o + j) = x5 at *
      generalize D (7 * o + v) = x6 at *
      generalize D (7 * v + o) = x7 at *
      clear h1 h2 h3 h4 h5 hD e
      omega
  · obtain ⟨g1, g2⟩ := hm q hq
    have t := h5 q hq
    rw [e (E q) (O q) (by omega) (by omega)]
    omega
theorem tj_take {post : St2 → Prop} {wa x0 len roads : Int32} {k : Nat} {L : Int} {a1 a2 a3 a4 a5 a6 a7 a8 a9 : Nat → Int32} (hk : k < 49) (hx : x0 = nI k) (hL : len.toInt = L)
    (H : ∀ b5 b6, (∀ j, j ≠ k → b5 j = a5 j ∧ b6 j = a6 j) → ((L < (a5 k).toInt ∧ (b5 k).toInt = L ∧ b6 k = roads) ∨ ((a5 k).toInt ≤ L ∧ b5 k = a5 k ∧ b6 k = a6 k)) → post (nI 4, nI 6, wa, a1, a2, a3, a4, b5, b6, a7, a8, a9)) :
    wpX_take post (nI 4, nI 6, wa, a1, a2, a3, a4, a5, a6, a7, a8, a9) x0 len roads := by
  subst hx
  have ck : (nI k).toNatClampNeg = k := nI_clamp (by omega)
  refine ⟨pk_in k 49 hk, ek_if (tj_le (x := (a5 k).toInt) (y := L) (by rw [ck]) hL) (fun g => H a5 a6 (fun _ _ => ⟨rfl, rfl⟩) (Or.inr ⟨g, rfl, rfl⟩)) (fun g => ⟨pk_in k 49 hk, nm_e ⟨pk_in k 49 hk, nm_e (H _ _ (fun j hj => ?_) (Or.inl ?_))⟩⟩)⟩
  · rw [ck]; exact ⟨pk_un hj, pk_un hj⟩
  · rw [ck]; exact ⟨by omega, by rw [pk_us]; exact hL, pk_us⟩
/-- a take keeps the table's sets good -/
theorem tj_Ok_take {E O : Nat → Nat} {c : Nat → Int} {k : Nat} {L : Int} {roads : Int32} {a5 a6 b5 b6 : Nat → Int32} (hok : tj_Ok E O c a5 a6)
    (h1 : ∀ j, j ≠ k → b5 j = a5 j ∧ b6 j = a6 j) (h2 : (L < (a5 k).toInt ∧ (b5 k).toInt = L ∧ b6 k = roads) ∨ ((a5 k).toInt ≤ L ∧ b5 k = a5 k ∧ b6 k = a6 k))
    (hR : ∀ p q, p < 4 → q < 4 → 7 * p + q = k → L < (a5 k).toInt → ∃ S, S < 64 ∧ roads = nI S ∧ tj_od E O 6 S = 2 ^ p ^^^ 2 ^ q ∧ tj_cs (tj_ab c) 6 S ≤ L) : tj_Ok E O c b5 b6 := by
  intro i j hi hj
  by_cases g : 7 * i + j = k
  · rcases h2 with ⟨z1, z2, z3⟩ | ⟨z1, z2, z3⟩
    · intro _
      rw [g, z2, z3]
      exact hR i j hi hj g z1
    · have t := hok i j hi hj
      rw [g] at t ⊢
      rw [z2, z3]; exact t
  · obtain ⟨z1, z2⟩ := h1 _ g
    rw [z1, z2]
    exact hok i j hi hj
theorem tj_fw146 {post : St2 → Prop} {J : Int32 → Int32 → Int32 → Int32 → (Nat → Int32) → (Nat → Int32) → (Nat → Int32) → (Nat → Int32) → (Nat → Int32) → (Nat → Int32) → (Nat → Int32) → (Nat → Int32) → (Nat → Int32) → Prop}
    {wa : Int32} {o : Nat} {E O : Nat → Nat} {c D : Nat → Int} {a1 a2 a3 a4 a5 a6 a7 a8 a9 : Nat → Int32} (ho : o < 4) (hD : ∀ k, k < 49 → 0 ≤ D k ∧ D k ≤ 268435456) (hD0 : D (8 * o) = 0) (h5 : ∀ k, k < 49 → (a5 k).toInt = D k) (hok : tj_Ok E O c a5 a6)
    (H : ∀ b5 b6, (∀ k, k < 49 → (b5 k).toInt = min (D k) (D (7 * (k / 7) + o) + D (7 * o + k % 7))) → tj_Ok E O c b5 b6 → J (nI (o + 1)) (nI 4) (nI 6) wa a1 a2 a3 a4 b5 b6 a7 a8 a9) :
    ∃ n, wX_findWays_146 post J (nI o) n 0 (nI 4) (nI 6) wa a1 a2 a3 a4 a5 a6 a7 a8 a9 := by
  refine pk_loop (σ := (Nat → Int32) × (Nat → Int32)) (fun n i s => wX_findWays_146 post J (nI o) n (nI i) (nI 4) (nI 6) wa a1 a2 a3 a4 s.1 s.2 a7 a8 a9)
    (fun k s => (∀ m, m < 49 → (s.1 m).toInt = if m < k then min (D m) (D (7 * (m / 7) + o) + D (7 * o + m % 7)) else D m) ∧ tj_Ok E O c s.1 s.2) 49 0 (a5, a6) (by omega) ⟨fun m hm => by rw [if_neg (by omega)]; exact h5 m hm, hok⟩
    (fun n s h => pk_le 49 49 (fun _ => nm_r (nI_1 o) (H s.1 s.2 (fun k hk => by rw [h.1 k hk, if_pos hk]) h.2)) (fun z => absurd z (by omega)))
    (fun n k s hk h hw => pk_le 49 k (fun z => absurd z (by omega)) (fun _ => ?_))
  obtain ⟨hs, hk2⟩ := h
  have e3 : (7 : Int32) * (nI k / 7) + nI o = nI (7 * (k / 7) + o) := by
    rw [show (7 : Int32) = nI 7 from rfl, pk_div (by omega) (by omega) (by omega), pk_mul, nI_add]
  have e4 : (7 : Int32) * nI o + (nI k - nI k / 7 * 7) = nI (7 * o + k % 7) := by
    rw [show (7 : Int32) = nI 7 from rfl, pk_rem (by omega) (by omega) (by omega), pk_mul, nI_add]
  have f1 : (s.1 (7 * (k / 7) + o)).toInt = D (7 * (k / 7) + o) := by
    rw [hs _ (by omega), show (7 * (k / 7) + o) / 7 = k / 7 by omega, show (7 * (k / 7) + o) % 7 = o by omega, show 7 * o + o = 8 * o by omega, hD0]
    have := hD (7 * (k / 7) + o) (by omega)
    by_cases g : 7 * (k / 7) + o < k
    · rw [if_pos g]; omega
    · rw [if_neg g]
  have f2 : (s.1 (7 * o + k % 7)).toInt = D (7 * o + k % 7) := by
    rw [hs _ (by omega), show (7 * o + k % 7) / 7 = o by omega, show (7 * o + k % 7) % 7 = k % 7 by omega, show 7 * o + o = 8 * o by omega, hD0]
    have := hD (7 * o + k % 7) (by omega)
    by_cases g : 7 * o + k % 7 < k
    · rw [if_pos g]; omega
    · rw [if_neg g]
  have b1 := hD (7 * (k / 7) + o) (by omega)
  have b2 := hD (7 * o + k % 7) (by omega)
  have fk : (s.1 k).toInt = D k := by rw [hs k hk, if_neg (by omega)]
  refine ⟨by decide, nm_r e3 ⟨by decide, nm_r e4 ⟨vp_in_nI (by omega) (by omega), vp_in_nI (by omega) (by omega), vp_in_nI (by omega) (by omega), vp_in_nI (by omega) (by omega), tj_take (L := D (7 * (k / 7) + o) + D (7 * o + k % 7)) hk rfl ?_ (fun b5 b6 h1 h2 => nm_r (nI_1 k) (hw (b5, b6) ⟨fun m hm => ?_, tj_Ok_take hk2 h1 h2 (fun p q hp hq hpq hl => ?_)⟩))⟩⟩⟩
  · rw [nI_clamp (by omega), nI_clamp (by omega)]
    exact tj_add f1 f2 (by omega) (by omega)
  · show (b5 m).toInt = _
    by_cases g : m = k
    · subst g
      rw [if_pos (by omega)]
      rcases h2 with ⟨z1, z2, z3⟩ | ⟨z1, z2, z3⟩
      · rw [z2]; omega
      · rw [z2]; omega
    · rw [(h1 m g).1, hs m hm]
      by_cases g2 : m < k
      · rw [if_pos g2, if_pos (by omega)]
      · rw [if_neg g2, if_neg (by omega)]
  · rw [fk] at hl
    have bk := hD k hk
    have q1 : k / 7 = p := by omega
    have q2 : k % 7 = q := by omega
    rw [nI_clamp (by omega), nI_clamp (by omega)]
    rw [q1, q2] at hl ⊢
    rw [q1] at f1 b1
    rw [q2] at f2 b2
    have r1 := hk2 p o hp ho
    have r2 := hk2 o q ho hq
    unfold tj_ok at r1 r2
    rw [f1] at r1
    rw [f2] at r2
    obtain ⟨S1, s1, s2, s3, s4⟩ := r1 (by omega)
    obtain ⟨S2, t1, t2, t3, t4⟩ := r2 (by omega)
    refine ⟨S1 ^^^ S2, Nat.xor_lt_two_pow (n := 6) s1 t1, by rw [s2, t2, tj_xor], ?_, ?_⟩
    · rw [tj_od_xor, s3, t3, Nat.xor_comm (2 ^ o) (2 ^ q), tj_xx]
    · have := tj_cs_xor (c := tj_ab c) (S := S1) (R := S2) 6 (fun i _ => tj_ab_0 c i)
      omega
theorem tj_fw136 {post : St2 → Prop} {wa : Int32} {E O : Nat → Nat} {c : Nat → Int} {a1 a2 a3 a4 a5 a6 a7 a8 a9 : Nat → Int32} (hE : ∀ i, i < 6 → E i < 4 ∧ O i < 4)
    (h5 : tj_Wd E O c 0 6 (fun k => (a5 k).toInt)) (hok : tj_Ok E O c a5 a6)
    (H : ∀ b5 b6, tj_Wd E O c 4 6 (fun k => (b5 k).toInt) → tj_Ok E O c b5 b6 → post (nI 4, nI 6, wa, a1, a2, a3, a4, b5, b6, a7, a8, a9)) :
    ∃ n, wX_findWays_136 post n 0 (nI 4) (nI 6) wa a1 a2 a3 a4 a5 a6 a7 a8 a9 := by
  refine pk_loop (σ := (Nat → Int32) × (Nat → Int32)) (fun n i s => wX_findWays_136 post n (nI i) (nI 4) (nI 6) wa a1 a2 a3 a4 s.1 s.2 a7 a8 a9)
    (fun o s => tj_Wd E O c o 6 (fun k => (s.1 k).toInt) ∧ tj_Ok E O c s.1 s.2) 4 0 (a5, a6) (by omega) ⟨h5, hok⟩
    (fun n s h => pk_le 4 4 (fun _ => H s.1 s.2 h.1 h.2) (fun z => absurd z (by omega)))
    (fun n o s ho h hw => pk_le 4 o (fun z => absurd z (by omega)) (fun _ => ?_))
  exact tj_fw146 (D := fun k => (s.1 k).toInt) ho h.1.1 (h.1.2.1 o (by omega)) (fun k _ => rfl) h.2 (fun b5 b6 h1 h2 => hw (b5, b6) ⟨tj_stage ho hE h.1 h1, h2⟩)
/-- a road is laid into the table, both ways -/
theorem tj_lay {E O : Nat → Nat} {c D D' : Nat → Int} {e : Nat} (he : e < 6) (hE : ∀ i, i < 6 → E i < 4 ∧ O i < 4) (h : tj_Wd E O c 0 e D) (hD : ∀ k, k < 49 → D' k = if k = 7 * E e + O e ∨ k = 7 * O e + E e then min (D k) (tj_ab c e) else D k) : tj_Wd E O c 0 (e + 1) D' := by
  obtain ⟨h1, h2, h3, h4, h5⟩ := h
  obtain ⟨g1, g2⟩ := hE e he
  have p := tj_ab_0 c e
  have le : ∀ k, k < 49 → D' k ≤ D k := fun k hk => by
    rw [hD k hk]
    by_cases g : k = 7 * E e + O e ∨ k = 7 * O e + E e
    · rw [if_pos g]; omega
    · rw [if_neg g]; omega
  have ge : ∀ k, k < 49 → 0 ≤ D' k := fun k hk => by
    have := h1 k hk
    rw [hD k hk]
    by_cases g : k = 7 * E e + O e ∨ k = 7 * O e + E e
    · rw [if_pos g]; omega
    · rw [if_neg g]; omega
  refine ⟨fun k hk => ?_, fun i hi => ?_, fun i j hi hj => ?_, fun v i j hv hi hj => absurd hv (by omega), fun q hq => ?_⟩
  · have a := le k hk
    have b := ge k hk
    have d := h1 k hk
    omega
  · have a := le (8 * i) (by omega)
    have b := ge (8 * i) (by omega)
    have d := h2 i hi
    omega
  · rw [hD (7 * i + j) (by omega), hD (7 * j + i) (by omega), h3 i j hi hj]
    by_cases g : 7 * i + j = 7 * E e + O e ∨ 7 * i + j = 7 * O e + E e
    · rw [if_pos g, if_pos (by omega)]
    · rw [if_neg g, if_neg (by omega)]
  · by_cases z : q = e
    · subst z
      rw [hD _ (by omega), if_pos (Or.inl rfl)]; omega
    · obtain ⟨w1, w2⟩ := hE q (by omega)
      have a := le (7 * E q + O q) (by omega)
      have b := h5 q (by omega)
      omega
theorem tj_fw79 {post : St2 → Prop} {J : Int32 → Int32 → Int32 → Int32 → (Nat → Int32) → (Nat → Int32) → (Nat → Int32) → (Nat → Int32) → (Nat → Int32) → (Nat → Int32) → (Nat → Int32) → (Nat → Int32) → (Nat → Int32) → Prop}
    {wa z0 : Int32} {e : Nat} {E O : Nat → Nat} {W c : Nat → Int} {a1 a2 a3 a4 a5 a6 a7 a8 a9 : Nat → Int32} (hG : tj_G E O W a1 a2 a3) (he : e < 6) (hz : z0.toInt = tj_ab c e)
    (h5 : tj_Wd E O c 0 e (fun k => (a5 k).toInt)) (hok : tj_Ok E O c a5 a6)
    (H : ∀ b5 b6, tj_Wd E O c 0 (e + 1) (fun k => (b5 k).toInt) → tj_Ok E O c b5 b6 → J (nI (e + 1)) (nI 4) (nI 6) wa a1 a2 a3 a4 b5 b6 a7 a8 a9) :
    wX_findWays_79 post J (nI e) z0 (nI 4) (nI 6) wa a1 a2 a3 a4 a5 a6 a7 a8 a9 := by
  obtain ⟨⟨g1, g2⟩, g3, g4, -⟩ := hG e he
  have ce : (nI e).toNatClampNeg = e := nI_clamp (by omega)
  have x1 : (7 : Int32) * a1 (nI e).toNatClampNeg + a2 (nI e).toNatClampNeg = nI (7 * E e + O e) := by
    rw [ce, g3, g4, show (7 : Int32) = nI 7 from rfl, pk_mul, nI_add]
  have x2 : (7 : Int32) * a2 (nI e).toNatClampNeg + a1 (nI e).toNatClampNeg = nI (7 * O e + E e) := by
    rw [ce, g3, g4, show (7 : Int32) = nI 7 from rfl, pk_mul, nI_add]
  have hp : 2 ^ e < 2 ^ 6 := Nat.pow_lt_pow_right (by decide) he
  have rd : (1 : Int32) <<< (nI e &&& 31) = nI (2 ^ e) := tj_p2 e (by omega)
  refine ⟨vp_in_nI (by omega) (by omega), vp_in_nI (by omega) (by omega), tj_take (k := 7 * E e + O e) (by omega) x1 hz (fun b5 b6 p1 p2 => ⟨vp_in_nI (by omega) (by omega), vp_in_nI (by omega) (by omega), tj_take (k := 7 * O e + E e) (by omega) x2 hz (fun d5 d6 q1 q2 => nm_r (nI_1 e) (H d5 d6 (tj_lay he (tj_G_e hG) h5 (fun k hk => ?_)) (tj_Ok_take (tj_Ok_take hok p1 p2 (fun p q hp' hq' hpq hl => ?_)) q1 q2 (fun p q hp' hq' hpq hl => ?_))))⟩)⟩
  · have s1 : (b5 k).toInt = if k = 7 * E e + O e then min (a5 k).toInt (tj_ab c e) else (a5 k).toInt := by
      by_cases g : k = 7 * E e + O e
      · rw [if_pos g, g]
        rcases p2 with ⟨z1, z2, z3⟩ | ⟨z1, z2, z3⟩
        · rw [z2]; omega
        · rw [z2]; omega
      · rw [if_neg g, (p1 k g).1]
    have s2 : (d5 k).toInt = if k = 7 * O e + E e then min (b5 k).toInt (tj_ab c e) else (b5 k).toInt := by
      by_cases g : k = 7 * O e + E e
      · rw [if_pos g, g]
        rcases q2 with ⟨z1, z2, z3⟩ | ⟨z1, z2, z3⟩
        · rw [z2]; omega
        · rw [z2]; omega
      · rw [if_neg g, (q1 k g).1]
    show (d5 k).toInt = _
    rw [s2, s1]
    by_cases u1 : k = 7 * E e + O e
    · rw [if_pos u1, if_pos (Or.inl u1)]
      by_cases u2 : k = 7 * O e + E e
      · rw [if_pos u2]; omega
      · rw [if_neg u2]
    · rw [if_neg u1]
      by_cases u2 : k = 7 * O e + E e
      · rw [if_pos u2, if_pos (Or.inr u2)]
      · rw [if_neg u2, if_neg (by omega)]
  · refine ⟨2 ^ e, hp, rd, ?_, ?_⟩
    · rw [tj_od_2 6 he, show p = E e by omega, show q = O e by omega]
    · rw [tj_cs_2 6 he]; exact Int.le_refl _
  · refine ⟨2 ^ e, hp, rd, ?_, ?_⟩
    · rw [tj_od_2 6 he, show p = O e by omega, show q = E e by omega, Nat.xor_comm]
    · rw [tj_cs_2 6 he]; exact Int.le_refl _
theorem tj_fw46 {post : St2 → Prop} {wa : Int32} {E O : Nat → Nat} {W c : Nat → Int} {a1 a2 a3 a4 a5 a6 a7 a8 a9 : Nat → Int32} (hG : tj_G E O W a1 a2 a3) (hc : ∀ i, i < 6 → (a4 i).toInt = c i ∧ -5000000 ≤ c i ∧ c i ≤ 5000000)
    (h5 : tj_Wd E O c 0 0 (fun k => (a5 k).toInt)) (hok : tj_Ok E O c a5 a6)
    (H : ∀ b5 b6, tj_Wd E O c 4 6 (fun k => (b5 k).toInt) → tj_Ok E O c b5 b6 → post (nI 4, nI 6, wa, a1, a2, a3, a4, b5, b6, a7, a8, a9)) :
    ∃ n, wX_findWays_46 post n 0 (nI 4) (nI 6) wa a1 a2 a3 a4 a5 a6 a7 a8 a9 := by
  refine pk_loop (σ := (Nat → Int32) × (Nat → Int32)) (fun n i s => wX_findWays_46 post n (nI i) (nI 4) (nI 6) wa a1 a2 a3 a4 s.1 s.2 a7 a8 a9)
    (fun m s => tj_Wd E O c 0 m (fun k => (s.1 k).toInt) ∧ tj_Ok E O c s.1 s.2) 6 0 (a5, a6) (by omega) ⟨h5, hok⟩
    (fun n s h => pk_le 6 6 (fun _ => tj_fw136 (tj_G_e hG) h.1 h.2 H) (fun z => absurd z (by omega)))
    (fun n e s he h hw => pk_le 6 e (fun z => absurd z (by omega)) (fun _ => ⟨vp_in_nI (by omega) (by omega), ?_⟩))
  obtain ⟨c1, c2, c3⟩ := hc e he
  have ce : (a4 (nI e).toNatClampNeg).toInt = c e := by rw [nI_clamp (show e < 2 ^ 31 by omega)]; exact c1
  refine ek_if (tj_le (show (0 : Int32).toInt = 0 from rfl) ce) (fun g => ⟨vp_in_nI (by omega) (by omega), tj_fw79 hG he ?_ h.1 h.2 (fun b5 b6 u v => hw (b5, b6) ⟨u, v⟩)⟩) (fun g => ⟨vp_in_nI (by omega) (by omega), tj_fw79 hG he ?_ h.1 h.2 (fun b5 b6 u v => hw (b5, b6) ⟨u, v⟩)⟩)
  · rw [ce, tj_ab_p (by omega)]
  · rw [tj_neg ce (by omega), tj_ab_n (by omega)]
theorem tj_findWays {post : St2 → Prop} {wa : Int32} {E O : Nat → Nat} {W c : Nat → Int} {a1 a2 a3 a4 a5 a6 a7 a8 a9 : Nat → Int32} (hG : tj_G E O W a1 a2 a3) (hc : ∀ i, i < 6 → (a4 i).toInt = c i ∧ -5000000 ≤ c i ∧ c i ≤ 5000000)
    (H : ∀ b5 b6, tj_Wd E O c 4 6 (fun k => (b5 k).toInt) → tj_Ok E O c b5 b6 → post (nI 4, nI 6, wa, a1, a2, a3, a4, b5, b6, a7, a8, a9)) : wpX_findWays post (nI 4, nI 6, wa, a1, a2, a3, a4, a5, a6, a7, a8, a9) := by
  refine pk_loop (σ := (Nat → Int32) × (Nat → Int32)) (fun n i s => wX_findWays_2 post (nI 4) (nI 6) wa n (nI i) a1 a2 a3 a4 s.1 s.2 a7 a8 a9)
    (fun k s => ∀ m, m < k → (s.1 m).toInt = (if m / 7 = m % 7 then 0 else 268435456) ∧ s.2 m = 0) 49 0 (a5, a6) (by omega) (fun m hm => absurd hm (by omega))
    (fun n s h => pk_le 49 49 (fun _ => tj_fw46 hG hc ⟨fun k hk => ?_, fun i hi => ?_, fun i j hi hj => ?_, fun v i j hv => absurd hv (by omega), fun e he => absurd he (by omega)⟩ (fun i j hi hj => ?_) H) (fun z => absurd z (by omega)))
    (fun n k s hk h hw => pk_le 49 k (fun z => absurd z (by omega)) (fun _ => ⟨by decide, by decide, ?_⟩))
  · show 0 ≤ (s.1 k).toInt ∧ (s.1 k).toInt ≤ _
    rw [(h k hk).1]
    by_cases g : k / 7 = k % 7
    · rw [if_pos g]; omega
    · rw [if_neg g]; omega
  · show (s.1 (8 * i)).toInt = 0
    rw [(h (8 * i) (by omega)).1, if_pos (by omega)]
  · show (s.1 (7 * i + j)).toInt = (s.1 (7 * j + i)).toInt
    rw [(h (7 * i + j) (by omega)).1, (h (7 * j + i) (by omega)).1]
    by_cases g : i = j
    · rw [if_pos (by omega), if_pos (by omega)]
    · rw [if_neg (by omega), if_neg (by omega)]
  · intro hl
    rw [(h (7 * i + j) (by omega)).1] at hl
    by_cases g : i = j
    · subst g
      rw [(h (7 * i + i) (by omega)).1, (h (7 * i + i) (by omega)).2, if_pos (by omega)]
      exact ⟨0, by omega, rfl, by rw [tj_od_0, Nat.xor_self], by rw [tj_cs_0]; exact Int.le_refl _⟩
    · rw [if_neg (by omega)] at hl
      omega
  · have ck : (nI k).toNatClampNeg = k := nI_clamp (by omega)
    have q1 : nI k / 7 = nI (k / 7) := pk_div (d := 7) (by omega) (by omega) (by omega)
    have q2 : nI k - nI k / 7 * 7 = nI (k % 7) := pk_rem (d := 7) (by omega) (by omega) (by omega)
    have fin : ∀ z : Int32, z.toInt = (if k / 7 = k % 7 then 0 else 268435456) → wX_findWays_30 post (wX_findWays_2 post (nI 4) (nI 6) wa n) (nI k) z (nI k) (nI 4) (nI 6) wa a1 a2 a3 a4 s.1 s.2 a7 a8 a9 := by
      intro z hz
      refine ⟨vp_in_nI (by omega) (by omega), nm_e ⟨vp_in_nI (by omega) (by omega), nm_e (nm_r (nI_1 k) (hw (_, _) (fun m hm => ?_)))⟩⟩
      show (upd s.1 (nI k).toNatClampNeg z m).toInt = _ ∧ upd s.2 (nI k).toNatClampNeg 0 m = 0
      rw [ck]
      by_cases g : m = k
      · subst g
        rw [pk_us, pk_us]; exact ⟨hz, rfl⟩
      · rw [pk_un g, pk_un g]; exact h m (by omega)
    exact pk_eq (k / 7) (k % 7) (fun g => fin 0 (by rw [if_pos g]; rfl)) (fun g => fin 268435456 (by rw [if_neg g]; rfl)) q1 q2
end
section
/-! ===== part 07: pairs, and the cheapest join ===== -/
/-- the distance between two places -/
def tj_d (a5 : Nat → Int32) (i j : Nat) : Int := (a5 (7 * i + j)).toInt
theorem tj_Wd_M {E O : Nat → Nat} {c : Nat → Int} {a5 : Nat → Int32} (h : tj_Wd E O c 4 6 (fun k => (a5 k).toInt)) : tj_M (tj_d a5) := by
  obtain ⟨h1, h2, h3, h4, h5⟩ := h
  refine ⟨fun i j hi hj => h1 (7 * i + j) (by omega), fun i hi => ?_, h3, h4⟩
  have t := h2 i (by omega)
  unfold tj_d
  rw [show 7 * i + i = 8 * i by omega]; exact t
theorem tj_F_bd {d : Nat → Nat → Int} (h : tj_M d) : ∀ T, T < 16 → 0 ≤ tj_F d T ∧ tj_F d T ≤ 268435456 := by
  obtain ⟨hb, -, -, -⟩ := h
  have ba := hb 1 0 (by omega) (by omega)
  have bb := hb 2 0 (by omega) (by omega)
  have bc := hb 3 0 (by omega) (by omega)
  have be := hb 2 1 (by omega) (by omega)
  have bf := hb 3 1 (by omega) (by omega)
  have bg := hb 3 2 (by omega) (by omega)
  have z0 : 0 ≤ (0 : Int) ∧ (0 : Int) ≤ 268435456 := by decide
  have zf : 0 ≤ (268435456 : Int) ∧ (268435456 : Int) ≤ 268435456 := by decide
  refine tj_c16 (P := fun T => 0 ≤ tj_F d T ∧ tj_F d T ≤ 268435456) z0 zf zf ba zf bb be zf zf bc bf zf bg zf zf ?_
  show 0 ≤ min (min (min 268435456 (d 3 0 + d 2 1)) (d 3 1 + d 2 0)) (d 3 2 + d 1 0) ∧ min (min (min 268435456 (d 3 0 + d 2 1)) (d 3 1 + d 2 0)) (d 3 2 + d 1 0) ≤ 268435456
  omega
theorem tj_restA : tj_all (fun T => tj_all (fun t => tj_all (fun i => !(T.testBit t && (T.testBit i && Nat.blt i t)) || (decide ((nI T &&& (((1 : Int32) <<< (nI t &&& 31)) ^^^ (-1))) &&& (((1 : Int32) <<< (nI i &&& 31)) ^^^ (-1)) = nI (T ^^^ (2 ^ t ^^^ 2 ^ i))) && decide ((T ^^^ (2 ^ t ^^^ 2 ^ i)) < T))) 4) 4) 16 = true := by decide +kernel
theorem tj_rest (T : Nat) (hT : T < 16) (t : Nat) (ht : t < 4) (i : Nat) (hi : i < t) (bt : T.testBit t = true) (bi : T.testBit i = true) : (nI T &&& (((1 : Int32) <<< (nI t &&& 31)) ^^^ (-1))) &&& (((1 : Int32) <<< (nI i &&& 31)) ^^^ (-1)) = nI (T ^^^ (2 ^ t ^^^ 2 ^ i)) ∧ (T ^^^ (2 ^ t ^^^ 2 ^ i)) < T := by
  have h := tj_all_h _ (tj_all_h _ (tj_all_h _ tj_restA T hT) t ht) i (by omega)
  have l : Nat.blt i t = true := by rw [Nat.blt_eq]; exact hi
  rw [bt, bi, l] at h
  have h' : (decide ((nI T &&& (((1 : Int32) <<< (nI t &&& 31)) ^^^ (-1))) &&& (((1 : Int32) <<< (nI i &&& 31)) ^^^ (-1)) = nI (T ^^^ (2 ^ t ^^^ 2 ^ i))) && decide ((T ^^^ (2 ^ t ^^^ 2 ^ i)) < T)) = true := h
  rw [Bool.and_eq_true] at h'
  exact ⟨of_decide_eq_true h'.1, of_decide_eq_true h'.2⟩
theorem tj_subs (g : Nat) (hg : g < 16) (T : Nat) (hT : T < 16) (hs : T &&& g = T) (t : Nat) (ht : t < 4) (i : Nat) (hi : i < t) (bt : T.testBit t = true) (bi : T.testBit i = true) : (T ^^^ (2 ^ t ^^^ 2 ^ i)) &&& g = (T ^^^ (2 ^ t ^^^ 2 ^ i)) := by
  have gb : ∀ x, T.testBit x = true → g.testBit x = true := fun x hx => by
    rw [← hs, Nat.testBit_and, Bool.and_eq_true] at hx
    exact hx.2
  apply Nat.eq_of_testBit_eq
  intro x
  rw [Nat.testBit_and, Nat.testBit_xor, Nat.testBit_xor]
  by_cases e1 : t = x
  · subst e1
    rw [gb t bt, Bool.and_true]
  · by_cases e2 : i = x
    · subst e2
      rw [gb i bi, Bool.and_true]
    · rw [Nat.testBit_two_pow_of_ne e1, Nat.testBit_two_pow_of_ne e2]
      have q := congrArg (fun z => z.testBit x) hs
      simp only [Nat.testBit_and] at q
      rw [Bool.xor_false, Bool.xor_false]
      exact q
theorem tj_sube : ∀ g, g < 16 → ∀ T, T < 16 → ((nI T &&& (nI g ^^^ (-1))) = 0 ↔ T &&& g = T) := by decide +kernel
theorem tj_topb : ∀ T, T < 16 → 0 < T → T.testBit (tj_top T) = true ∧ tj_top T < 4 ∧ ∀ j, j < 7 → tj_top T < j → T.testBit j = false := by decide +kernel
theorem tj_pair {post : St2 → Prop} {wa : Int32} {T t i : Nat} {A B Z : Int} {a1 a2 a3 a4 a5 a6 a7 a8 a9 : Nat → Int32} (hT : T < 16) (ht : t < 4) (hi : i < t) (bt : T.testBit t = true) (bi : T.testBit i = true)
    (hA : (a7 (T ^^^ (2 ^ t ^^^ 2 ^ i))).toInt = A) (hB : (a5 (7 * t + i)).toInt = B) (hZ : (a7 T).toInt = Z) (A0 : 0 ≤ A ∧ A ≤ 268435456) (B0 : 0 ≤ B ∧ B ≤ 268435456) (Z0 : Z ≤ 268435456)
    (H : ∀ b7 b8, (∀ j, j ≠ T → b7 j = a7 j ∧ b8 j = a8 j) → ((A + B < Z ∧ (b7 T).toInt = A + B ∧ b8 T = a8 (T ^^^ (2 ^ t ^^^ 2 ^ i)) ^^^ a6 (7 * t + i)) ∨ (Z ≤ A + B ∧ b7 T = a7 T ∧ b8 T = a8 T)) → post (nI 4, nI 6, wa, a1, a2, a3, a4, a5, a6, b7, b8, a9)) :
    wpX_pair post (nI 4, nI 6, wa, a1, a2, a3, a4, a5, a6, a7, a8, a9) (nI T) (nI t) (nI i) := by
  obtain ⟨e1, e2⟩ := tj_rest T hT t ht i hi bt bi
  have e3 : (7 : Int32) * nI t + nI i = nI (7 * t + i) := by rw [show (7 : Int32) = nI 7 from rfl, pk_mul, nI_add]
  generalize T ^^^ (2 ^ t ^^^ 2 ^ i) = R at *
  have cR : (nI R).toNatClampNeg = R := nI_clamp (by omega)
  have cT : (nI T).toNatClampNeg = T := nI_clamp (by omega)
  have cK : (nI (7 * t + i)).toNatClampNeg = 7 * t + i := nI_clamp (by omega)
  have F : (268435456 : Int32).toInt = 268435456 := rfl
  have vR : vp_in (nI R) 128 := vp_in_nI (by omega) (by omega)
  have vT : vp_in (nI T) 128 := vp_in_nI (by omega) (by omega)
  have vK : vp_in (nI (7 * t + i)) 49 := vp_in_nI (by omega) (by omega)
  have same : Z ≤ A + B → post (nI 4, nI 6, wa, a1, a2, a3, a4, a5, a6, a7, a8, a9) := fun g => H a7 a8 (fun _ _ => ⟨rfl, rfl⟩) (Or.inr ⟨g, rfl, rfl⟩)
  refine nm_r e1 (nm_r e3 ⟨vK, ek_if (tj_le F (show (a5 (nI (7 * t + i)).toNatClampNeg).toInt = B by rw [cK]; exact hB)) (fun g => same (by omega)) (fun g => ⟨vR, ek_if (tj_le F (show (a7 (nI R).toNatClampNeg).toInt = A by rw [cR]; exact hA)) (fun g2 => same (by omega)) (fun g2 => ⟨vR, vK, vT, ?_⟩)⟩)⟩)
  have s : (a7 (nI R).toNatClampNeg + a5 (nI (7 * t + i)).toNatClampNeg).toInt = A + B := by
    rw [cR, cK]; exact tj_add hA hB (by omega) (by omega)
  refine ek_if (tj_le (show (a7 (nI T).toNatClampNeg).toInt = Z by rw [cT]; exact hZ) s) (fun g3 => same g3) (fun g3 => ⟨vR, vK, vT, nm_e ⟨vR, vK, vT, nm_e (H _ _ (fun j hj => ?_) (Or.inl ⟨by omega, ?_, ?_⟩))⟩⟩)
  · rw [cT]; exact ⟨pk_un hj, pk_un hj⟩
  · rw [cT, pk_us]; exact s
  · rw [cT, pk_us, cR, cK]
/-- what the tables hold for the sets below x that are part of g -/
def tj_Pd (E O : Nat → Nat) (c : Nat → Int) (d : Nat → Nat → Int) (g x : Nat) (a7 a8 : Nat → Int32) : Prop := ∀ R, R < x → R &&& g = R → (a7 R).toInt = tj_F d R ∧ tj_ok E O c R (a8 R) (tj_F d R)
theorem tj_pu64 {post : St2 → Prop} {J : Int32 → Int32 → Int32 → Int32 → (Nat → Int32) → (Nat → Int32) → (Nat → Int32) → (Nat → Int32) → (Nat → Int32) → (Nat → Int32) → (Nat → Int32) → (Nat → Int32) → (Nat → Int32) → Prop}
    {wa : Int32} {g T t : Nat} {E O : Nat → Nat} {c : Nat → Int} {a1 a2 a3 a4 a5 a6 a7 a8 a9 : Nat → Int32} (hM : tj_M (tj_d a5)) (hok : tj_Ok E O c a5 a6) (hg : g < 16) (hT : T < 16) (h0 : 0 < T) (hs : T &&& g = T) (ht : t = tj_top T)
    (hP : tj_Pd E O c (tj_d a5) g T a7 a8) (h7 : (a7 T).toInt = 268435456)
    (H : ∀ b7 b8, tj_Pd E O c (tj_d a5) g (T + 1) b7 b8 → J (nI (T + 1)) (nI 4) (nI 6) wa a1 a2 a3 a4 a5 a6 b7 b8 a9) :
    ∃ n, wX_pairUp_64 post J (nI g) (nI T) (nI t) n 0 (nI 4) (nI 6) wa a1 a2 a3 a4 a5 a6 a7 a8 a9 := by
  obtain ⟨bt, t4, -⟩ := tj_topb T hT h0
  rw [← ht] at bt t4
  refine pk_loop (σ := (Nat → Int32) × (Nat → Int32)) (fun n i s => wX_pairUp_64 post J (nI g) (nI T) (nI t) n (nI i) (nI 4) (nI 6) wa a1 a2 a3 a4 a5 a6 s.1 s.2 a9)
    (fun i s => tj_Pd E O c (tj_d a5) g T s.1 s.2 ∧ (s.1 T).toInt = tj_gp (tj_d a5) T t i ∧ tj_gp (tj_d a5) T t i ≤ 268435456 ∧ tj_ok E O c T (s.2 T) (tj_gp (tj_d a5) T t i)) t 0 (a7, a8) (by omega) ⟨hP, h7, Int.le_refl _, fun z => absurd z (by show ¬ (268435456 : Int) < 268435456; omega)⟩
    (fun n s h => pk_le t t (fun _ => nm_r (nI_1 T) (H s.1 s.2 (fun R hR hs' => ?_))) (fun z => absurd z (by omega)))
    (fun n i s hi h hw => pk_le t i (fun z => absurd z (by omega)) (fun _ => ek_if (tj_bt1 (by omega) (by omega)) (fun b => ?_) (fun b => nm_r (nI_1 i) (hw s ?_))))
  · by_cases z : R = T
    · subst z
      obtain ⟨-, u2, -, u4⟩ := h
      rw [ht, tj_gp_F hM R hT h0] at u2 u4
      exact ⟨u2, u4⟩
    · exact h.1 R (by omega) hs'
  · obtain ⟨u1, u2, u3, u4⟩ := h
    obtain ⟨-, r2⟩ := tj_rest T hT t t4 i hi bt b
    have r3 := tj_subs g hg T hT hs t t4 i hi bt b
    obtain ⟨r4, r5⟩ := u1 _ r2 r3
    have Fb := tj_F_bd hM (T ^^^ (2 ^ t ^^^ 2 ^ i)) (by omega)
    have db := hM.1 t i t4 (by omega)
    have gs := tj_gp_t (d := tj_d a5) (t := t) b
    refine tj_pair (A := tj_F (tj_d a5) (T ^^^ (2 ^ t ^^^ 2 ^ i))) (B := tj_d a5 t i) (Z := tj_gp (tj_d a5) T t i) hT t4 hi bt b r4 rfl u2 Fb db u3 (fun b7 b8 p1 p2 => nm_r (nI_1 i) (hw (b7, b8) ⟨fun R hR hs' => ?_, ?_, ?_, ?_⟩))
    · show (b7 R).toInt = _ ∧ tj_ok E O c R (b8 R) _
      rw [(p1 R (by omega)).1, (p1 R (by omega)).2]
      exact u1 R hR hs'
    · show (b7 T).toInt = _
      rw [gs]
      rcases p2 with ⟨z1, z2, z3⟩ | ⟨z1, z2, z3⟩
      · rw [z2]; omega
      · rw [z2, u2]; omega
    · rw [gs]; omega
    · show tj_ok E O c T (b8 T) _
      rw [gs]
      rcases p2 with ⟨z1, z2, z3⟩ | ⟨z1, z2, z3⟩
      · rw [z3, show min (tj_gp (tj_d a5) T t i) (tj_F (tj_d a5) (T ^^^ (2 ^ t ^^^ 2 ^ i)) + tj_d a5 t i) = tj_F (tj_d a5) (T ^^^ (2 ^ t ^^^ 2 ^ i)) + tj_d a5 t i by omega]
        intro hl
        obtain ⟨S1, s1, s2, s3, s4⟩ := r5 (by omega)
        obtain ⟨S2, t1, t2, t3, t4'⟩ := hok t i t4 (by omega) (show tj_d a5 t i < 268435456 by omega)
        refine ⟨S1 ^^^ S2, Nat.xor_lt_two_pow (n := 6) s1 t1, by rw [s2, t2, tj_xor], ?_, ?_⟩
        · rw [tj_od_xor, s3, t3, tj_xc]
        · have q := tj_cs_xor (c := tj_ab c) (S := S1) (R := S2) 6 (fun i _ => tj_ab_0 c i)
          have t5 : tj_cs (tj_ab c) 6 S2 ≤ tj_d a5 t i := t4'
          omega
      · rw [z3, show min (tj_gp (tj_d a5) T t i) (tj_F (tj_d a5) (T ^^^ (2 ^ t ^^^ 2 ^ i)) + tj_d a5 t i) = tj_gp (tj_d a5) T t i by omega]
        exact u4
  · rw [tj_gp_f (Bool.eq_false_iff.mpr b)]
    exact h
theorem tj_pu47 {post : St2 → Prop} {J : Int32 → Int32 → Int32 → Int32 → (Nat → Int32) → (Nat → Int32) → (Nat → Int32) → (Nat → Int32) → (Nat → Int32) → (Nat → Int32) → (Nat → Int32) → (Nat → Int32) → (Nat → Int32) → Prop}
    {wa : Int32} {g T t : Nat} {a1 a2 a3 a4 a5 a6 a7 a8 a9 : Nat → Int32} (hT : T < 16) (h0 : 0 < T) (ht : t = tj_top T)
    (H : ∃ n, wX_pairUp_64 post J (nI g) (nI T) (nI t) n 0 (nI 4) (nI 6) wa a1 a2 a3 a4 a5 a6 a7 a8 a9) : ∀ n, t + n ≤ 6 → wX_pairUp_47 post J (nI g) (nI T) (nI 4) (nI 6) wa a1 a2 a3 a4 a5 a6 a7 a8 a9 (n + 1) (nI (t + n))
  | 0, _ => by
    obtain ⟨bt, t4, -⟩ := tj_topb T hT h0
    rw [← ht] at bt t4
    exact ek_if (tj_bt0 (k := t) (by omega) (by omega)) (fun b => absurd (bt.symm.trans b) (by decide)) (fun _ => H)
  | n + 1, hn => by
    obtain ⟨-, t4, bs⟩ := tj_topb T hT h0
    rw [← ht] at t4 bs
    have b := bs (t + n + 1) (by omega) (by omega)
    exact ek_if (tj_bt0 (k := t + n + 1) (by omega) (by omega)) (fun _ => nm_r (pk_m1 (t + n)) (tj_pu47 hT h0 ht H n (by omega))) (fun z => absurd b z)
theorem tj_pairUp {post : St2 → Prop} {wa : Int32} {g : Nat} {E O : Nat → Nat} {c : Nat → Int} {a1 a2 a3 a4 a5 a6 a7 a8 a9 : Nat → Int32} (hM : tj_M (tj_d a5)) (hok : tj_Ok E O c a5 a6) (hg : g < 16)
    (H : ∀ b7 b8, tj_ok E O c g (b8 g) (tj_F (tj_d a5) g) → post (nI 4, nI 6, wa, a1, a2, a3, a4, a5, a6, b7, b8, a9)) : wpX_pairUp post (nI 4, nI 6, wa, a1, a2, a3, a4, a5, a6, a7, a8, a9) (nI g) := by
  refine nm_e (nm_e ?_)
  refine pk_loop (σ := (Nat → Int32) × (Nat → Int32)) (fun n i s => wX_pairUp_16 post (nI g) n (nI i) (nI 4) (nI 6) wa a1 a2 a3 a4 a5 a6 s.1 s.2 a9)
    (fun x s => 0 < x ∧ tj_Pd E O c (tj_d a5) g x s.1 s.2) (g + 1) 1 (upd a7 0 0, upd a8 0 0) (by omega) ⟨by omega, fun R hR hs => ?_⟩
    (fun n s h => pk_lt g (g + 1) (fun _ => H s.1 s.2 (h.2 g (by omega) (Nat.and_self g)).2) (fun z => absurd z (by omega)))
    (fun n T s hT h hw => ?_)
  · have z : R = 0 := by omega
    subst z
    exact ⟨rfl, fun _ => ⟨0, by omega, rfl, tj_od_0 6, by rw [tj_cs_0]; exact Int.le_refl _⟩⟩
  · obtain ⟨t0, h⟩ := h
    have cT : (nI T).toNatClampNeg = T := nI_clamp (by omega)
    have keep : tj_Pd E O c (tj_d a5) g T (upd s.1 T 268435456) (upd s.2 T 0) := fun R hR hs => by
      rw [pk_un (by omega), pk_un (by omega)]; exact h R hR hs
    refine pk_lt g T (fun z => absurd z (by omega)) (fun _ => ⟨vp_in_nI (by omega) (by omega), nm_r (by rw [cT]) ⟨vp_in_nI (by omega) (by omega), nm_r (by rw [cT]) (ek_if (tj_sube g hg T (by omega)) (fun q => ?_) (fun q => nm_r (nI_1 T) (hw (_, _) ⟨by omega, fun R hR hs => ?_⟩)))⟩⟩)
    · obtain ⟨-, t4, -⟩ := tj_topb T (by omega) (by omega)
      have t := tj_pu47 (post := post) (J := wX_pairUp_16 post (nI g) n) (wa := wa) (g := g) (a1 := a1) (a2 := a2) (a3 := a3) (a4 := a4) (a5 := a5) (a6 := a6) (a7 := upd s.1 T 268435456) (a8 := upd s.2 T 0) (a9 := a9) (show T < 16 by omega) (by omega) rfl
        (tj_pu64 hM hok hg (by omega) (by omega) q rfl keep (by rw [pk_us]; rfl) (fun b7 b8 hb => hw (b7, b8) ⟨by omega, hb⟩)) (6 - tj_top T) (by omega)
      rw [show tj_top T + (6 - tj_top T) = 6 by omega] at t
      exact ⟨_, t⟩
    · by_cases z : R = T
      · subst z; exact absurd hs q
      · exact keep R (by omega) hs
/-- the roads of negative cost -/
def tj_ng (c : Nat → Int) : Nat → Nat
  | 0 => 0
  | i + 1 => if c i < 0 then tj_ng c i ||| 2 ^ i else tj_ng c i
theorem tj_ng_lt {c : Nat → Int} : ∀ m, tj_ng c m < 2 ^ m
  | 0 => by show 0 < 1; omega
  | m + 1 => by
    have ih := tj_ng_lt (c := c) m
    have hp : 2 ^ m < 2 ^ (m + 1) := Nat.pow_lt_pow_right (by decide) (by omega)
    show (if c m < 0 then tj_ng c m ||| 2 ^ m else tj_ng c m) < 2 ^ (m + 1)
    by_cases g : c m < 0
    · rw [if_pos g]; exact Nat.or_lt_two_pow (by omega) hp
    · rw [if_neg g]; omega
theorem tj_ng_b {c : Nat → Int} {j : Nat} : ∀ m, j < m → (tj_ng c m).testBit j = decide (c j < 0)
  | 0, h => absurd h (by omega)
  | m + 1, h => by
    have e : tj_ng c (m + 1) = if c m < 0 then tj_ng c m ||| 2 ^ m else tj_ng c m := rfl
    rw [e]
    by_cases z : j = m
    · subst z
      by_cases g : c j < 0
      · rw [if_pos g, Nat.testBit_or, Nat.testBit_two_pow_self, decide_eq_true g, Bool.or_true]
      · rw [if_neg g, decide_eq_false g]; exact Nat.testBit_lt_two_pow (tj_ng_lt j)
    · have ih := tj_ng_b (c := c) (j := j) m (by omega)
      by_cases g : c m < 0
      · rw [if_pos g, Nat.testBit_or, Nat.testBit_two_pow_of_ne (by omega), Bool.or_false]; exact ih
      · rw [if_neg g]; exact ih
theorem tj_solve {post : Int32 → St2 → Prop} {wa : Int32} {T : Nat} {E O : Nat → Nat} {W c : Nat → Int} {a1 a2 a3 a4 a5 a6 a7 a8 a9 : Nat → Int32} (hG : tj_G E O W a1 a2 a3) (hc : ∀ i, i < 6 → (a4 i).toInt = c i ∧ -5000000 ≤ c i ∧ c i ≤ 5000000) (hT : T < 16)
    (Hn : (¬ ∃ S, S < 64 ∧ tj_od E O 6 S = T) → ∀ b9, post (-1) (nI 4, nI 6, wa, a1, a2, a3, a4, a5, a6, a7, a8, b9))
    (Hs : ∀ S, S < 64 → tj_od E O 6 S = T → (∀ R, R < 64 → tj_od E O 6 R = T → tj_cs c 6 S ≤ tj_cs c 6 R) → ∀ b5 b6 b7 b8 b9, post (nI S) (nI 4, nI 6, wa, a1, a2, a3, a4, b5, b6, b7, b8, b9)) :
    wpX_solve post (nI 4, nI 6, wa, a1, a2, a3, a4, a5, a6, a7, a8, a9) (nI T) := by
  have hE := tj_G_e hG
  refine tj_isPossible hG (by omega) (fun b9 _ => ?_)
  have po := tj_po_iff hE hT
  cases g : tj_po (tj_pc (tj_pt E O 6)) T <;> rw [g] at po
  · exact br_t rfl (Hn (fun z => absurd (po.mpr z) (by decide)) b9)
  · obtain ⟨S0, hS0, eS0⟩ := po.mp rfl
    refine br_f (by decide) ?_
    refine pk_loop (σ := Unit) (fun n i _ => wX_solve_14 post (nI T) (nI 4) (nI 6) wa a1 a2 a3 a4 a5 a6 a7 a8 b9 n (nI (tj_ng c i)) (nI i)) (fun _ _ => True) 6 0 () (by omega) trivial
      (fun n s h => pk_le 6 6 (fun _ => ?_) (fun z => absurd z (by omega)))
      (fun n i s hi h hw => pk_le 6 i (fun z => absurd z (by omega)) (fun _ => ⟨vp_in_nI (by omega) (by omega), ?_⟩))
    · have hN : tj_ng c 6 < 64 := tj_ng_lt 6
      have fl : ∀ S, tj_cs c 6 (S ^^^ tj_ng c 6) = tj_cs c 6 (tj_ng c 6) + tj_cs (tj_ab c) 6 S := fun S => tj_cs_flip 6 (fun i hi => tj_ng_b 6 hi)
      refine tj_findWays hG hc (fun b5 b6 hw hok => tj_oddOf hG hN (nm_r (tj_xor _ _) ?_))
      have hM := tj_Wd_M hw
      have hg : T ^^^ tj_od E O 6 (tj_ng c 6) < 16 := Nat.xor_lt_two_pow (n := 4) hT (tj_od_lt 6 hE)
      have lo : ∀ R, R < 64 → tj_od E O 6 R = T → tj_F (tj_d b5) (T ^^^ tj_od E O 6 (tj_ng c 6)) ≤ tj_cs (tj_ab c) 6 (R ^^^ tj_ng c 6) := fun R hR eR => by
        have t := tj_F_low hM (E := E) (O := O) (c := tj_ab c) (S := R ^^^ tj_ng c 6) 6 (fun i hi => ⟨(hE i hi).1, (hE i hi).2, hw.2.2.2.2 i hi⟩)
        rw [tj_od_xor, eR] at t
        exact t
      refine tj_pairUp hM hok hg (fun b7 b8 hb => ?_)
      have hl : tj_F (tj_d b5) (T ^^^ tj_od E O 6 (tj_ng c 6)) < 268435456 := by
        have t := lo S0 hS0 eS0
        have u := tj_cs_bd (c := tj_ab c) (S := S0 ^^^ tj_ng c 6) (A := 0) (B := 5000000) (by omega) (by omega) 6 (fun i hi => by
          have c2 := (hc i hi).2
          by_cases z : c i < 0
          · rw [tj_ab_n z]; omega
          · rw [tj_ab_p z]; omega)
        omega
      obtain ⟨S1, s1, s2, s3, s4⟩ := hb hl
      refine ⟨vp_in_nI (by omega) (by omega), ?_⟩
      have r : b8 (nI (T ^^^ tj_od E O 6 (tj_ng c 6))).toNatClampNeg ^^^ nI (tj_ng c 6) = nI (S1 ^^^ tj_ng c 6) := by
        rw [nI_clamp (by omega), s2, tj_xor]
      rw [r]
      refine Hs (S1 ^^^ tj_ng c 6) (Nat.xor_lt_two_pow (n := 6) s1 hN) ?_ (fun R hR eR => ?_) b5 b6 b7 b8 b9
      · rw [tj_od_xor, s3, tj_xc]
      · have t := lo R hR eR
        have u := fl S1
        have v := fl (R ^^^ tj_ng c 6)
        rw [tj_xc] at v
        omega
    · have t := hw () trivial
      have ex : tj_ng c (i + 1) = if c i < 0 then tj_ng c i ||| 2 ^ i else tj_ng c i := rfl
      have ce : (a4 (nI i).toNatClampNeg).toInt = c i := by rw [nI_clamp (show i < 2 ^ 31 by omega)]; exact (hc i hi).1
      rw [ex] at t
      refine ek_if (tj_le (show (0 : Int32).toInt = 0 from rfl) ce) (fun z => nm_r ?_ (nm_r (nI_1 i) t)) (fun z => nm_r ?_ (nm_r (nI_1 i) t))
      · rw [if_neg (by omega), show (0 : Int32) = nI 0 from rfl, tj_or, Nat.or_zero]
      · rw [if_pos (by omega), tj_p2 i (by omega), tj_or]
end
section
/-! ===== part 08: the component's calls as the law makes them ===== -/
def tj_co (W : Nat → Int) (i : Nat) : Int := 4096 * W i + ((2 ^ i : Nat) : Int)
/-- the law's answer for a least sum -/
def tj_an (x : Int) : Int := if x = 9999 then -1000 else x
theorem tj_p64 {i : Nat} (hi : i < 6) : (0 : Int) ≤ ((2 ^ i : Nat) : Int) ∧ ((2 ^ i : Nat) : Int) ≤ 32 := by
  have hp : 2 ^ i ≤ 2 ^ 5 := Nat.pow_le_pow_right (by decide) (by omega)
  generalize 2 ^ i = z at hp ⊢
  omega
theorem tj_co_bd {E O : Nat → Nat} {W : Nat → Int} {a1 a2 a3 : Nat → Int32} (hG : tj_G E O W a1 a2 a3) : ∀ i, i < 6 → -40000 ≤ tj_co W i ∧ tj_co W i ≤ 90000 := fun i hi => by
  have h := tj_p64 hi
  have g := (hG i hi).2.2.2.2
  unfold tj_co
  omega
theorem tj_w_bd {E O : Nat → Nat} {W : Nat → Int} {a1 a2 a3 : Nat → Int32} (hG : tj_G E O W a1 a2 a3) (S : Nat) : -54 ≤ tj_cs W 6 S ∧ tj_cs W 6 S ≤ 120 := by
  have := tj_cs_bd (c := W) (S := S) (A := -9) (B := 20) (by omega) (by omega) 6 (fun j hj => (hG j (by omega)).2.2.2.2)
  omega
theorem tj_c_bd {E O : Nat → Nat} {W : Nat → Int} {a1 a2 a3 : Nat → Int32} (hG : tj_G E O W a1 a2 a3) (S : Nat) : -240000 ≤ tj_cs (tj_co W) 6 S ∧ tj_cs (tj_co W) 6 S ≤ 540000 := by
  have := tj_cs_bd (c := tj_co W) (S := S) (A := -40000) (B := 90000) (by omega) (by omega) 6 (tj_co_bd hG)
  omega
/-- the least sum is that of the cheapest set -/
theorem tj_found {E O : Nat → Nat} {W : Nat → Int} {a1 a2 a3 : Nat → Int32} (hG : tj_G E O W a1 a2 a3) {Q : Nat → Bool} {S : Nat} (hS : S < 64) (hQ : Q S = true) (h : ∀ R, R < 64 → Q R = true → tj_cs (tj_co W) 6 S ≤ tj_cs (tj_co W) 6 R) : tj_mn Q (fun S => tj_cs W 6 S) 64 = tj_cs W 6 S ∧ tj_st Q (fun S => tj_cs W 6 S) 64 = S :=
  tj_mn_is hQ (by have := tj_w_bd hG S; show tj_cs W 6 S < 9999; omega) 64 hS (fun R hR q => tj_lex hS hR (fun i _ => rfl) (h R hR q))
theorem tj_an_f {E O : Nat → Nat} {W : Nat → Int} {a1 a2 a3 : Nat → Int32} (hG : tj_G E O W a1 a2 a3) {S : Nat} : tj_an (tj_cs W 6 S) = tj_cs W 6 S := by
  have := tj_w_bd hG S
  unfold tj_an
  rw [if_neg (by omega)]
theorem tj_bestSet {post : Int32 → St2 → Prop} {T : Nat} {E O : Nat → Nat} {W : Nat → Int} {a1 a2 a3 a4 a5 a6 a7 a8 a9 : Nat → Int32} (hG : tj_G E O W a1 a2 a3) (hT : T < 16)
    (H : ∀ (r : Int32) (b4 b5 b6 b7 b8 b9 : Nat → Int32), r.toInt = tj_st (fun S => decide (tj_od E O 6 S = T)) (fun S => tj_cs W 6 S) 64 → post r (nI 4, nI 6, nI T, a1, a2, a3, b4, b5, b6, b7, b8, b9)) :
    wpX_bestSet post (nI 4, nI 6, nI T, a1, a2, a3, a4, a5, a6, a7, a8, a9) := by
  refine tj_takeCosts hG (fun b4 h4 => tj_solve (c := tj_co W) hG (fun i hi => ⟨h4 i hi, by have := tj_co_bd hG i hi; omega⟩) hT (fun no b9 => H _ _ _ _ _ _ _ ?_) (fun S hS eS mS b5 b6 b7 b8 b9 => H _ _ _ _ _ _ _ ?_))
  · rw [(tj_mn_no 64 (fun S hS q => no ⟨S, hS, of_decide_eq_true q⟩)).2]; rfl
  · rw [(tj_found hG hS (decide_eq_true eS) (fun R hR q => mS R hR (of_decide_eq_true q))).2]
    exact nI_toInt (by omega)
theorem tj_best {post : Int32 → St2 → Prop} {T : Nat} {E O : Nat → Nat} {W : Nat → Int} {a1 a2 a3 a4 a5 a6 a7 a8 a9 : Nat → Int32} (hG : tj_G E O W a1 a2 a3) (hT : T < 16)
    (H : ∀ (r : Int32) (b4 b5 b6 b7 b8 b9 : Nat → Int32), r.toInt = tj_an (tj_mn (fun S => decide (tj_od E O 6 S = T)) (fun S => tj_cs W 6 S) 64) → post r (nI 4, nI 6, nI T, a1, a2, a3, b4, b5, b6, b7, b8, b9)) :
    wpX_best post (nI 4, nI 6, nI T, a1, a2, a3, a4, a5, a6, a7, a8, a9) := by
  refine tj_takeCosts hG (fun b4 h4 => tj_solve (c := tj_co W) hG (fun i hi => ⟨h4 i hi, by have := tj_co_bd hG i hi; omega⟩) hT (fun no b9 => br_f (by decide) (H _ _ _ _ _ _ _ ?_)) (fun S hS eS mS b5 b6 b7 b8 b9 => br_t (nI_pos' (by omega)) (tj_weightOf hG hS (fun r hr => H _ _ _ _ _ _ _ ?_))))
  · rw [(tj_mn_no 64 (fun S hS q => no ⟨S, hS, of_decide_eq_true q⟩)).1]; rfl
  · rw [(tj_found hG hS (decide_eq_true eS) (fun R hR q => mS R hR (of_decide_eq_true q))).1, tj_an_f hG]
    exact hr
theorem tj_isPlace {post : Int32 → Prop} {ct wa : Int32} {p : Nat} {a1 a2 a3 a4 a5 a6 a7 a8 a9 : Nat → Int32} (hp : p < 4) (H : post 1) : wpX_isPlace post (nI 4, ct, wa, a1, a2, a3, a4, a5, a6, a7, a8, a9) (nI p) :=
  br_f (nI_pos (by omega)) (pk_le 4 p (fun z => absurd z (by omega)) (fun _ => H))
theorem tj_isRoad {post : Int32 → Prop} {wa : Int32} {p : Nat} {a1 a2 a3 a4 a5 a6 a7 a8 a9 : Nat → Int32} (hp : p < 6) (H : post 1) : wpX_isRoad post (nI 4, nI 6, wa, a1, a2, a3, a4, a5, a6, a7, a8, a9) (nI p) :=
  br_f (nI_pos (by omega)) (pk_le 6 p (fun z => absurd z (by omega)) (fun _ => H))
theorem tj_between {post : Int32 → St2 → Prop} {wa : Int32} {u v : Nat} {E O : Nat → Nat} {W : Nat → Int} {a1 a2 a3 a4 a5 a6 a7 a8 a9 : Nat → Int32} (hG : tj_G E O W a1 a2 a3) (hu : u < 4) (hv : v < 4)
    (H : ∀ (r : Int32) (b4 b5 b6 b7 b8 b9 : Nat → Int32), r.toInt = tj_an (tj_mn (fun S => decide (tj_od E O 6 S = 2 ^ u ^^^ 2 ^ v)) (fun S => tj_cs W 6 S) 64) → post r (nI 4, nI 6, wa, a1, a2, a3, b4, b5, b6, b7, b8, b9)) :
    wpX_between post (nI 4, nI 6, wa, a1, a2, a3, a4, a5, a6, a7, a8, a9) (nI u) (nI v) := by
  unfold wpX_between
  dsimp only
  refine tj_isPlace hu ?_
  refine br_f (by decide) ?_
  refine tj_isPlace hv ?_
  refine br_f (by decide) ?_
  refine tj_takeCosts hG (fun b4 h4 => ?_)
  have e : ((1 : Int32) <<< (nI u &&& 31)) ^^^ ((1 : Int32) <<< (nI v &&& 31)) = nI (2 ^ u ^^^ 2 ^ v) := by rw [tj_p2 u (by omega), tj_p2 v (by omega), tj_xor]
  show wpX_solve _ _ (((1 : Int32) <<< (nI u &&& 31)) ^^^ ((1 : Int32) <<< (nI v &&& 31)))
  rw [e]
  refine tj_solve (c := tj_co W) hG (fun i hi => ⟨h4 i hi, by have := tj_co_bd hG i hi; omega⟩) (tj_e16 hu hv) (fun no b9 => br_f (by decide) (H _ _ _ _ _ _ _ ?_)) (fun S hS eS mS b5 b6 b7 b8 b9 => br_t (nI_pos' (by omega)) (tj_weightOf hG hS (fun r hr => H _ _ _ _ _ _ _ ?_)))
  · rw [(tj_mn_no 64 (fun S hS q => no ⟨S, hS, of_decide_eq_true q⟩)).1]; rfl
  · rw [(tj_found hG hS (decide_eq_true eS) (fun R hR q => mS R hR (of_decide_eq_true q))).1, tj_an_f hG]
    exact hr
/-- costs with a force on one road -/
def tj_fo (W : Nat → Int) (e : Nat) (f : Int) (i : Nat) : Int := if i = e then tj_co W i + f else tj_co W i
theorem tj_fo_cs {W : Nat → Int} {e : Nat} {f : Int} (he : e < 6) (S : Nat) : tj_cs (tj_fo W e f) 6 S = tj_cs (tj_co W) 6 S + (if S.testBit e = true then f else 0) := by
  have h := tj_cs_force (c := tj_co W) (c' := tj_fo W e f) (S := S) (e := e) (f := f) (if_pos rfl) 6 (fun i _ hi => if_neg hi)
  rw [h]
  by_cases g : S.testBit e = true
  · rw [if_pos g, if_pos ⟨he, g⟩]
  · rw [if_neg g, if_neg (fun z => g z.2)]
theorem tj_bestWith {post : Int32 → St2 → Prop} {T e : Nat} {E O : Nat → Nat} {W : Nat → Int} {a1 a2 a3 a4 a5 a6 a7 a8 a9 : Nat → Int32} (hG : tj_G E O W a1 a2 a3) (hT : T < 16) (he : e < 6)
    (H : ∀ (r : Int32) (b4 b5 b6 b7 b8 b9 : Nat → Int32), r.toInt = tj_an (tj_mn (fun S => decide (tj_od E O 6 S = T) && S.testBit e) (fun S => tj_cs W 6 S) 64) → post r (nI 4, nI 6, nI T, a1, a2, a3, b4, b5, b6, b7, b8, b9)) :
    wpX_bestWith post (nI 4, nI 6, nI T, a1, a2, a3, a4, a5, a6, a7, a8, a9) (nI e) := by
  have ce : (nI e).toNatClampNeg = e := nI_clamp (by omega)
  unfold wpX_bestWith
  dsimp only
  refine tj_isRoad he ?_
  refine br_f (by decide) ?_
  refine tj_takeCosts hG (fun b4 h4 => ⟨vp_in_nI (by omega) (by omega), vp_in_nI (by omega) (by omega), nm_e ?_⟩)
  refine (tj_solve (c := tj_fo W e (-4194304)) hG (fun i hi => ?_) hT (fun no b9 => br_t (by decide) (H _ _ _ _ _ _ _ ?_)) (fun S hS eS mS b5 b6 b7 b8 b9 => br_f (nI_pos (by omega)) (ek_if (tj_bt0 (by omega) (by omega)) (fun g => H _ _ _ _ _ _ _ ?_) (fun g => tj_weightOf hG hS (fun r hr => H _ _ _ _ _ _ _ ?_)))))
  · have cb := tj_co_bd hG i hi
    rw [ce]
    unfold tj_fo
    by_cases g : i = e
    · subst g
      rw [pk_us, if_pos rfl]
      refine ⟨?_, by omega, by omega⟩
      exact tj_sub (h4 i hi) (show (4194304 : Int32).toInt = 4194304 from rfl) (by show -2147483648 ≤ tj_co W i - 4194304; omega) (by show tj_co W i - 4194304 < 2147483648; omega)
    · rw [pk_un g, if_neg g]
      exact ⟨h4 i hi, by omega, by omega⟩
  · rw [(tj_mn_no 64 (fun S hS q => no ⟨S, hS, of_decide_eq_true (Bool.and_eq_true _ _ ▸ q).1⟩)).1]; rfl
  · rw [(tj_mn_no 64 (fun R hR q => ?_)).1]; rfl
    rw [Bool.and_eq_true] at q
    have m := mS R hR (of_decide_eq_true q.1)
    rw [tj_fo_cs he, tj_fo_cs he, if_pos q.2, if_neg (by rw [g]; exact Bool.false_ne_true)] at m
    have c1 := tj_c_bd hG R
    have c2 := tj_c_bd hG S
    omega
  · have g' : S.testBit e = true := by
      rcases tj_bb (S.testBit e) with z | z
      · exact z
      · exact absurd z g
    rw [(tj_found hG (Q := fun S => decide (tj_od E O 6 S = T) && S.testBit e) hS (by rw [Bool.and_eq_true]; exact ⟨decide_eq_true eS, g'⟩) (fun R hR q => ?_)).1, tj_an_f hG]
    · exact hr
    · rw [Bool.and_eq_true] at q
      have m := mS R hR (of_decide_eq_true q.1)
      rw [tj_fo_cs he, tj_fo_cs he, if_pos q.2, if_pos g'] at m
      omega
theorem tj_bestWithout {post : Int32 → St2 → Prop} {T e : Nat} {E O : Nat → Nat} {W : Nat → Int} {a1 a2 a3 a4 a5 a6 a7 a8 a9 : Nat → Int32} (hG : tj_G E O W a1 a2 a3) (hT : T < 16) (he : e < 6)
    (H : ∀ (r : Int32) (b4 b5 b6 b7 b8 b9 : Nat → Int32), r.toInt = tj_an (tj_mn (fun S => decide (tj_od E O 6 S = T) && !(S.testBit e)) (fun S => tj_cs W 6 S) 64) → post r (nI 4, nI 6, nI T, a1, a2, a3, b4, b5, b6, b7, b8, b9)) :
    wpX_bestWithout post (nI 4, nI 6, nI T, a1, a2, a3, a4, a5, a6, a7, a8, a9) (nI e) := by
  have ce : (nI e).toNatClampNeg = e := nI_clamp (by omega)
  unfold wpX_bestWithout
  dsimp only
  refine tj_isRoad he ?_
  refine br_f (by decide) ?_
  refine tj_takeCosts hG (fun b4 h4 => ⟨vp_in_nI (by omega) (by omega), vp_in_nI (by omega) (by omega), nm_e ?_⟩)
  refine (tj_solve (c := tj_fo W e 4194304) hG (fun i hi => ?_) hT (fun no b9 => br_t (by decide) (H _ _ _ _ _ _ _ ?_)) (fun S hS eS mS b5 b6 b7 b8 b9 => br_f (nI_pos (by omega)) (ek_if (tj_bt1 (by omega) (by omega)) (fun g => H _ _ _ _ _ _ _ ?_) (fun g => tj_weightOf hG hS (fun r hr => H _ _ _ _ _ _ _ ?_)))))
  · have cb := tj_co_bd hG i hi
    rw [ce]
    unfold tj_fo
    by_cases g : i = e
    · subst g
      rw [pk_us, if_pos rfl]
      refine ⟨?_, by omega, by omega⟩
      exact tj_add (h4 i hi) (show (4194304 : Int32).toInt = 4194304 from rfl) (by show -2147483648 ≤ tj_co W i + 4194304; omega) (by show tj_co W i + 4194304 < 2147483648; omega)
    · rw [pk_un g, if_neg g]
      exact ⟨h4 i hi, by omega, by omega⟩
  · rw [(tj_mn_no 64 (fun S hS q => no ⟨S, hS, of_decide_eq_true (Bool.and_eq_true _ _ ▸ q).1⟩)).1]; rfl
  · rw [(tj_mn_no 64 (fun R hR q => ?_)).1]; rfl
    rw [Bool.and_eq_true, Bool.not_eq_true'] at q
    have m := mS R hR (of_decide_eq_true q.1)
    rw [tj_fo_cs he, tj_fo_cs he, if_pos g, if_neg (by rw [q.2]; exact Bool.false_ne_true)] at m
    have c1 := tj_c_bd hG R
    have c2 := tj_c_bd hG S
    omega
  · have g' : S.testBit e = false := Bool.eq_false_iff.mpr g
    rw [(tj_found hG (Q := fun S => decide (tj_od E O 6 S = T) && !(S.testBit e)) hS (by rw [Bool.and_eq_true, Bool.not_eq_true']; exact ⟨decide_eq_true eS, g'⟩) (fun R hR q => ?_)).1, tj_an_f hG]
    · exact hr
    · rw [Bool.and_eq_true, Bool.not_eq_true'] at q
      have m := mS R hR (of_decide_eq_true q.1)
      rw [tj_fo_cs he, tj_fo_cs he, if_neg g, if_neg (by rw [q.2]; exact Bool.false_ne_true)] at m
      omega
theorem tj_oddPlaces {post : Int32 → Prop} {wa : Int32} {E O : Nat → Nat} {W : Nat → Int} {a1 a2 a3 a4 a5 a6 a7 a8 a9 : Nat → Int32} (hG : tj_G E O W a1 a2 a3)
    (H : post (nI (tj_od E O 6 63))) : wpX_oddPlaces post (nI 4, nI 6, wa, a1, a2, a3, a4, a5, a6, a7, a8, a9) := by
  have e : ((1 : Int32) <<< (nI 6 &&& 31)) - 1 = nI 63 := by decide
  unfold wpX_oddPlaces
  dsimp only
  rw [e]
  exact tj_oddOf hG (by omega) H
theorem tj_isJoin {post : Int32 → Prop} {T S : Nat} {E O : Nat → Nat} {W : Nat → Int} {a1 a2 a3 a4 a5 a6 a7 a8 a9 : Nat → Int32} (hG : tj_G E O W a1 a2 a3) (hT : T < 16) (hS : S < 64)
    (H : post (nI (decide (tj_od E O 6 S = T)).toNat)) : wpX_isJoin post (nI 4, nI 6, nI T, a1, a2, a3, a4, a5, a6, a7, a8, a9) (nI S) := by
  have hl : tj_od E O 6 S < 16 := tj_od_lt 6 (tj_G_e hG)
  refine br_f (nI_pos (by omega)) (pk_lt S 64 (fun _ => tj_oddOf hG hS ?_) (fun z => absurd z (by omega)) rfl (by decide))
  refine pk_eq (tj_od E O 6 S) T (fun g => ?_) (fun g => ?_)
  · rw [decide_eq_true g] at H; exact H
  · rw [decide_eq_false g] at H; exact H
theorem tj_want {post : Int32 → St2 → Prop} {wa ct : Int32} {T : Nat} {a1 a2 a3 a4 a5 a6 a7 a8 a9 : Nat → Int32} (hT : T < 16)
    (H : post wa (nI 4, ct, nI T, a1, a2, a3, a4, a5, a6, a7, a8, a9)) : wpX_want post (nI 4, ct, wa, a1, a2, a3, a4, a5, a6, a7, a8, a9) (nI T) :=
  br_f (nI_pos (by omega)) (pk_lt T 16 (fun _ => H) (fun z => absurd z (by omega)) rfl (by decide))
theorem tj_road {post : Int32 → St2 → Prop} {wa w : Int32} {i p q : Nat} {z : Int} {a1 a2 a3 a4 a5 a6 a7 a8 a9 : Nat → Int32} (hi : i < 6) (hp : p < 4) (hq : q < 4) (hw : w.toInt = z) (h1 : -9 ≤ z) (h2 : z ≤ 20)
    (H : post (nI i) (nI 4, nI (i + 1), wa, upd a1 i (nI p), upd a2 i (nI q), upd a3 i w, a4, a5, a6, a7, a8, a9)) : wpX_road post (nI 4, nI i, wa, a1, a2, a3, a4, a5, a6, a7, a8, a9) (nI p) (nI q) w := by
  have ci : (nI i).toNatClampNeg = i := nI_clamp (by omega)
  have v : vp_in (nI i) 12 := vp_in_nI (by omega) (by omega)
  unfold wpX_road
  dsimp only
  refine tj_isPlace hp ?_
  refine br_f (by decide) ?_
  refine tj_isPlace hq ?_
  refine br_f (by decide) ?_
  refine (ek_if (tj_lt hw (show (-9 : Int32).toInt = -9 from rfl)) (fun g => absurd g (by omega)) (fun _ => ek_if (tj_le hw (show (20 : Int32).toInt = 20 from rfl)) (fun _ => pk_eq i 12 (fun g => absurd g (by omega)) (fun _ => ⟨v, nm_r (by rw [ci]) ⟨v, nm_r (by rw [ci]) ⟨v, nm_r (by rw [ci]) (nm_r (nI_1 i) ?_)⟩⟩⟩)) (fun g => absurd h2 g)))
  rw [nI_pred]
  exact H
theorem tj_pm42 {post : Int32 → St2 → Prop} {wa : Int32} {E O : Nat → Nat} {W : Nat → Int} {a1 a2 a3 a4 a5 a6 a7 a8 a9 : Nat → Int32} (hG : tj_G E O W a1 a2 a3)
    (H : ∀ (r : Int32) (b4 b5 b6 b7 b8 b9 : Nat → Int32), (r = -2 ∨ r.toInt = tj_mn (fun S => decide (tj_od E O 6 S = tj_od E O 6 63)) (fun S => tj_cs W 6 S) 64) → post r (nI 4, nI 6, wa, a1, a2, a3, b4, b5, b6, b7, b8, b9)) :
    ∃ n, wX_postman_42 post (nI 4) (nI 6) wa a1 a2 a3 a4 a5 a6 a7 a8 a9 n 1 := by
  have hl : tj_od E O 6 63 < 16 := tj_od_lt 6 (tj_G_e hG)
  refine pk_loop (σ := Unit) (fun n i _ => wX_postman_42 post (nI 4) (nI 6) wa a1 a2 a3 a4 a5 a6 a7 a8 a9 n (nI i)) (fun _ _ => True) 6 1 () (by omega) trivial
    (fun n s h => pk_le 6 6 (fun _ => tj_takeCosts hG (fun b4 h4 => tj_oddPlaces hG (tj_solve (c := tj_co W) hG (fun i hi => ⟨h4 i hi, by have := tj_co_bd hG i hi; omega⟩) hl (fun no b9 => absurd ⟨63, by omega, rfl⟩ no) (fun S hS eS mS b5 b6 b7 b8 b9 => tj_weightOf hG hS (fun r hr => H _ _ _ _ _ _ _ (Or.inr ?_)))))) (fun z => absurd z (by omega)))
    (fun n i s hi h hw => pk_le 6 i (fun z => absurd z (by omega)) (fun _ => ⟨vp_in_nI (by omega) (by omega), ?_⟩))
  · rw [(tj_found hG hS (decide_eq_true eS) (fun R hR q => mS R hR (of_decide_eq_true q))).1]
    exact hr
  · obtain ⟨g1, g2, -⟩ := hG i hi
    obtain ⟨k1, k2, -⟩ := hG 0 (by omega)
    have ci : a1 (nI i).toNatClampNeg = nI (E i) := by rw [nI_clamp (show i < 2 ^ 31 by omega)]; exact g2
    exact ⟨pk_in (E i) 7 (by omega) ci, pk_in (E 0) 7 (by omega) k2, br_c (fun _ => nm_r (nI_1 i) (hw () trivial)) (fun _ => H _ _ _ _ _ _ _ (Or.inl rfl))⟩
theorem tj_postman {post : Int32 → St2 → Prop} {wa : Int32} {E O : Nat → Nat} {W : Nat → Int} {a1 a2 a3 a4 a5 a6 a7 a8 a9 : Nat → Int32} (hG : tj_G E O W a1 a2 a3)
    (H1 : (∃ i, i < 6 ∧ W i < 0) → post (-1) (nI 4, nI 6, wa, a1, a2, a3, a4, a5, a6, a7, a8, a9))
    (H2 : (∀ i, i < 6 → 0 ≤ W i) → ∀ (r : Int32) (b4 b5 b6 b7 b8 b9 : Nat → Int32), (r = -2 ∨ r.toInt = tj_mn (fun S => decide (tj_od E O 6 S = tj_od E O 6 63)) (fun S => tj_cs W 6 S) 64) → post r (nI 4, nI 6, wa, a1, a2, a3, b4, b5, b6, b7, b8, b9)) :
    wpX_postman post (nI 4, nI 6, wa, a1, a2, a3, a4, a5, a6, a7, a8, a9) := by
  refine pk_loop (σ := Unit) (fun n i _ => wX_postman_2 post (nI 4) (nI 6) wa a1 a2 a3 a4 a5 a6 a7 a8 a9 n (nI i)) (fun i _ => ∀ j, j < i → 0 ≤ W j) 6 0 () (by omega) (fun j hj => absurd hj (by omega))
    (fun n s h => pk_le 6 6 (fun _ => br_f (by decide) (tj_findParts hG (fun b9 _ => tj_pm42 hG (H2 h)))) (fun z => absurd z (by omega)))
    (fun n i s hi h hw => pk_le 6 i (fun z => absurd z (by omega)) (fun _ => ⟨vp_in_nI (by omega) (by omega), ?_⟩))
  obtain ⟨-, -, -, g, -⟩ := hG i hi
  have ci : (a3 (nI i).toNatClampNeg).toInt = W i := by rw [nI_clamp (show i < 2 ^ 31 by omega)]; exact g
  exact ek_if (tj_le (show (0 : Int32).toInt = 0 from rfl) ci) (fun z => nm_r (nI_1 i) (hw () (fun j hj => by
    by_cases e : j = i
    · rw [e]; exact z
    · exact h j (by omega)))) (fun z => H1 ⟨i, hi, by omega⟩)
end
section
/-! ===== part 09: the law's choices over one set of roads (printed by gen09.py) ===== -/
theorem tj_L415 {post : Int32 → St0 → Prop} {mc ms : Nat} {J161 J171 : Int32 → Int32 → Int32 → Int32 → Int32 → Int32 → Int32 → Int32 → Prop} {x0 x1 x5 x6 x7 x8 x9 x10 x11 x12 x13 x14 x15 x16 x17 x18 x19 x21 x22 : Int32} {kc ks : Nat} {fn fc fw : Int32} {a1 a2 a3 a4 a5 a6 a7 a8 a9 : Nat → Int32} (H : J171 x11 x12 x13 x14 x15 x16 (if x21 = x5 ∧ ¬ x17 ≤ x22 then x22 else x17) (x19 + 1)) : wL_lawOf_415 post mc ms J161 J171 x0 x1 x5 x6 x7 x8 x9 x10 x11 x12 x13 x14 x15 x16 x17 x18 x19 x21 x22 kc ks fn fc fw a1 a2 a3 a4 a5 a6 a7 a8 a9 := by
  refine br_c (fun h1 => br_c (fun h2 => nm_e ?_) (fun h2 => nm_e ?_)) (fun h1 => nm_e ?_)
  · rw [if_neg (fun z => z.2 h2)] at H; exact H
  · rw [if_pos ⟨h1, h2⟩] at H; exact H
  · rw [if_neg (fun z => h1 z.1)] at H; exact H
theorem tj_L390 {post : Int32 → St0 → Prop} {mc ms : Nat} {J161 J171 : Int32 → Int32 → Int32 → Int32 → Int32 → Int32 → Int32 → Int32 → Prop} {x0 x1 x5 x6 x7 x8 x9 x10 x11 x12 x13 x14 x15 x16 x17 x18 x19 x21 x22 : Int32} {kc ks : Nat} {fn fc fw : Int32} {a1 a2 a3 a4 a5 a6 a7 a8 a9 : Nat → Int32} (H : wL_lawOf_415 post mc ms J161 J171 x0 x1 x5 x6 x7 x8 x9 x10 x11 x12 x13 x14 x15 (if x21 = (((1 : Int32) <<< (x9 &&& 31)) ^^^ ((1 : Int32) <<< (x10 &&& 31))) ∧ ¬ x16 ≤ x22 then x22 else x16) x17 x18 x19 x21 x22 kc ks fn fc fw a1 a2 a3 a4 a5 a6 a7 a8 a9) : wL_lawOf_390 post mc ms J161 J171 x0 x1 x5 x6 x7 x8 x9 x10 x11 x12 x13 x14 x15 x16 x17 x18 x19 x21 x22 kc ks fn fc fw a1 a2 a3 a4 a5 a6 a7 a8 a9 := by
  refine br_c (fun h1 => br_c (fun h2 => ?_) (fun h2 => ?_)) (fun h1 => ?_)
  · rw [if_neg (fun z => z.2 h2)] at H; exact H
  · rw [if_pos ⟨h1, h2⟩] at H; exact H
  · rw [if_neg (fun z => h1 z.1)] at H; exact H
theorem tj_L364 {post : Int32 → St0 → Prop} {mc ms : Nat} {J161 J171 : Int32 → Int32 → Int32 → Int32 → Int32 → Int32 → Int32 → Int32 → Prop} {x0 x1 x5 x6 x7 x8 x9 x10 x11 x12 x13 x14 x15 x16 x17 x18 x19 x20 x21 x22 x23 : Int32} {kc ks : Nat} {fn fc fw : Int32} {a1 a2 a3 a4 a5 a6 a7 a8 a9 : Nat → Int32} (H : wL_lawOf_390 post mc ms J161 J171 x0 x1 x5 x6 x7 x8 x9 x10 x11 x12 x13 x14 (if (¬ x23 = 0 ∧ ((x20 >>> (x8 &&& 31)) &&& 1) = 0) ∧ ¬ x15 ≤ x22 then x22 else x15) x16 x17 x18 x19 x21 x22 kc ks fn fc fw a1 a2 a3 a4 a5 a6 a7 a8 a9) : wL_lawOf_364 post mc ms J161 J171 x0 x1 x5 x6 x7 x8 x9 x10 x11 x12 x13 x14 x15 x16 x17 x18 x19 x20 x21 x22 x23 kc ks fn fc fw a1 a2 a3 a4 a5 a6 a7 a8 a9 := by
  refine br_c (fun h0 => ?_) (fun h0 => br_c (fun h1 => br_c (fun h2 => ?_) (fun h2 => ?_)) (fun h1 => ?_))
  · rw [if_neg (fun z => z.1.1 h0)] at H; exact H
  · rw [if_neg (fun z => z.2 h2)] at H; exact H
  · rw [if_pos ⟨⟨h0, h1⟩, h2⟩] at H; exact H
  · rw [if_neg (fun z => h1 z.1.2)] at H; exact H
theorem tj_L337 {post : Int32 → St0 → Prop} {mc ms : Nat} {J161 J171 : Int32 → Int32 → Int32 → Int32 → Int32 → Int32 → Int32 → Int32 → Prop} {x0 x1 x5 x6 x7 x8 x9 x10 x11 x12 x13 x14 x15 x16 x17 x18 x19 x20 x21 x22 x23 : Int32} {kc ks : Nat} {fn fc fw : Int32} {a1 a2 a3 a4 a5 a6 a7 a8 a9 : Nat → Int32} (H : wL_lawOf_364 post mc ms J161 J171 x0 x1 x5 x6 x7 x8 x9 x10 x11 x12 x13 (if (¬ x23 = 0 ∧ ((x20 >>> (x8 &&& 31)) &&& 1) = 1) ∧ ¬ x14 ≤ x22 then x22 else x14) x15 x16 x17 x18 x19 x20 x21 x22 x23 kc ks fn fc fw a1 a2 a3 a4 a5 a6 a7 a8 a9) : wL_lawOf_337 post mc ms J161 J171 x0 x1 x5 x6 x7 x8 x9 x10 x11 x12 x13 x14 x15 x16 x17 x18 x19 x20 x21 x22 x23 kc ks fn fc fw a1 a2 a3 a4 a5 a6 a7 a8 a9 := by
  refine br_c (fun h0 => ?_) (fun h0 => br_c (fun h1 => br_c (fun h2 => ?_) (fun h2 => ?_)) (fun h1 => ?_))
  · rw [if_neg (fun z => z.1.1 h0)] at H; exact H
  · rw [if_neg (fun z => z.2 h2)] at H; exact H
  · rw [if_pos ⟨⟨h0, h1⟩, h2⟩] at H; exact H
  · rw [if_neg (fun z => h1 z.1.2)] at H; exact H
theorem tj_L321 {post : Int32 → St0 → Prop} {mc ms : Nat} {J161 J171 : Int32 → Int32 → Int32 → Int32 → Int32 → Int32 → Int32 → Int32 → Prop} {x0 x1 x5 x6 x7 x8 x9 x10 x11 x12 x13 x14 x15 x16 x17 x18 x19 x20 x21 x22 x23 : Int32} {kc ks : Nat} {fn fc fw : Int32} {a1 a2 a3 a4 a5 a6 a7 a8 a9 : Nat → Int32} (H : wL_lawOf_337 post mc ms J161 J171 x0 x1 x5 x6 x7 x8 x9 x10 x11 x12 (if ¬ x23 = 0 ∧ ¬ x13 ≤ x22 then x22 else x13) x14 x15 x16 x17 x18 x19 x20 x21 x22 x23 kc ks fn fc fw a1 a2 a3 a4 a5 a6 a7 a8 a9) : wL_lawOf_321 post mc ms J161 J171 x0 x1 x5 x6 x7 x8 x9 x10 x11 x12 x13 x14 x15 x16 x17 x18 x19 x20 x21 x22 x23 kc ks fn fc fw a1 a2 a3 a4 a5 a6 a7 a8 a9 := by
  refine br_c (fun h0 => ?_) (fun h0 => br_c (fun h2 => ?_) (fun h2 => ?_))
  · rw [if_neg (fun z => z.1 h0)] at H; exact H
  · rw [if_neg (fun z => z.2 h2)] at H; exact H
  · rw [if_pos ⟨h0, h2⟩] at H; exact H
theorem tj_L305 {post : Int32 → St0 → Prop} {mc ms : Nat} {J161 J171 : Int32 → Int32 → Int32 → Int32 → Int32 → Int32 → Int32 → Int32 → Prop} {x0 x1 x5 x6 x7 x8 x9 x10 x11 x12 x13 x14 x15 x16 x17 x18 x19 x20 x21 x22 x23 : Int32} {kc ks : Nat} {fn fc fw : Int32} {a1 a2 a3 a4 a5 a6 a7 a8 a9 : Nat → Int32} (H : wL_lawOf_321 post mc ms J161 J171 x0 x1 x5 x6 x7 x8 x9 x10 x11 (if ¬ x23 = 0 ∧ ¬ x13 ≤ x22 then x20 else x12) x13 x14 x15 x16 x17 x18 x19 x20 x21 x22 x23 kc ks fn fc fw a1 a2 a3 a4 a5 a6 a7 a8 a9) : wL_lawOf_305 post mc ms J161 J171 x0 x1 x5 x6 x7 x8 x9 x10 x11 x12 x13 x14 x15 x16 x17 x18 x19 x20 x21 x22 x23 kc ks fn fc fw a1 a2 a3 a4 a5 a6 a7 a8 a9 := by
  refine br_c (fun h0 => ?_) (fun h0 => br_c (fun h2 => ?_) (fun h2 => ?_))
  · rw [if_neg (fun z => z.1 h0)] at H; exact H
  · rw [if_neg (fun z => z.2 h2)] at H; exact H
  · rw [if_pos ⟨h0, h2⟩] at H; exact H
theorem tj_L292 {post : Int32 → St0 → Prop} {mc ms : Nat} {J161 J171 : Int32 → Int32 → Int32 → Int32 → Int32 → Int32 → Int32 → Int32 → Prop} {x0 x1 x5 x6 x7 x8 x9 x10 x11 x12 x13 x14 x15 x16 x17 x18 x19 x20 x21 x22 x23 z0 z1 : Int32} {kc ks : Nat} {fn fc fw : Int32} {a1 a2 a3 a4 a5 a6 a7 a8 a9 : Nat → Int32} (hz : z1 = z0) (H : wL_lawOf_305 post mc ms J161 J171 x0 x1 x5 x6 x7 x8 x9 x10 (if x23 = 0 then x11 else x11 + 1) x12 x13 x14 x15 x16 x17 x18 x19 x20 x21 x22 x23 kc ks fn fc fw a1 a2 a3 a4 a5 a6 a7 a8 a9) : wL_lawOf_292 post mc ms J161 J171 x0 x1 x5 x6 x7 x8 x9 x10 x11 x12 x13 x14 x15 x16 x17 x18 x19 x20 x21 x22 x23 z0 z1 kc ks fn fc fw a1 a2 a3 a4 a5 a6 a7 a8 a9 := by
  refine br_t hz (br_c (fun h0 => ?_) (fun h0 => nm_e ?_))
  · rw [if_pos h0] at H; exact H
  · rw [if_neg h0] at H; exact H
/-- what the law knows when the sets below k are seen -/
def tj_I (E O : Nat → Nat) (W : Nat → Int) (t e u v k : Nat) (x11 x12 x13 x14 x15 x16 x17 : Int32) : Prop :=
  x11 = nI (tj_ct (fun S => decide (tj_od E O 6 S = t)) k) ∧
  x12.toInt = tj_st (fun S => decide (tj_od E O 6 S = t)) (fun S => tj_cs W 6 S) k ∧
  x13.toInt = tj_mn (fun S => decide (tj_od E O 6 S = t)) (fun S => tj_cs W 6 S) k ∧
  x14.toInt = tj_mn (fun S => decide (tj_od E O 6 S = t) && S.testBit e) (fun S => tj_cs W 6 S) k ∧
  x15.toInt = tj_mn (fun S => decide (tj_od E O 6 S = t) && !(S.testBit e)) (fun S => tj_cs W 6 S) k ∧
  x16.toInt = tj_mn (fun S => decide (tj_od E O 6 S = 2 ^ u ^^^ 2 ^ v)) (fun S => tj_cs W 6 S) k ∧
  x17.toInt = tj_mn (fun S => decide (tj_od E O 6 S = tj_od E O 6 63)) (fun S => tj_cs W 6 S) k
theorem tj_up {Q : Nat → Bool} {w : Nat → Int} {k : Nat} {x y : Int32} {c : Prop} [Decidable c] (hx : x.toInt = tj_mn Q w k) (hy : y.toInt = w k) (hc : c ↔ Q k = true) : (if c ∧ ¬ x ≤ y then y else x).toInt = tj_mn Q w (k + 1) := by
  have hl : ¬ x ≤ y ↔ w k < tj_mn Q w k := by rw [tj_le hx hy]; omega
  rw [tj_mn_s]
  by_cases g : c ∧ ¬ x ≤ y
  · rw [if_pos g, if_pos ⟨hc.mp g.1, hl.mp g.2⟩]; exact hy
  · rw [if_neg g, if_neg (fun z => g ⟨hc.mpr z.1, hl.mpr z.2⟩)]; exact hx
theorem tj_ups {Q : Nat → Bool} {w : Nat → Int} {k : Nat} {x y r : Int32} {c : Prop} [Decidable c] (hk : k < 64) (hx : x.toInt = tj_mn Q w k) (hy : y.toInt = w k) (hr : r.toInt = tj_st Q w k) (hc : c ↔ Q k = true) : (if c ∧ ¬ x ≤ y then nI k else r).toInt = tj_st Q w (k + 1) := by
  have hl : ¬ x ≤ y ↔ w k < tj_mn Q w k := by rw [tj_le hx hy]; omega
  rw [tj_st_s]
  by_cases g : c ∧ ¬ x ≤ y
  · rw [if_pos g, if_pos ⟨hc.mp g.1, hl.mp g.2⟩]; exact nI_toInt (by omega)
  · rw [if_neg g, if_neg (fun z => g ⟨hc.mpr z.1, hl.mpr z.2⟩)]; exact hr
theorem tj_b0 (b : Bool) : ¬ nI b.toNat = 0 ↔ b = true := by cases b <;> decide
theorem tj_one {post : Int32 → St0 → Prop} {mc ms : Nat} {J161 J171 : Int32 → Int32 → Int32 → Int32 → Int32 → Int32 → Int32 → Int32 → Prop} {x0 x1 x6 x11 x12 x13 x14 x15 x16 x17 x18 x19 x22 : Int32} {kc ks : Nat} {fn fc fw : Int32} {a1 a2 a3 a4 a5 a6 a7 a8 a9 : Nat → Int32} {E O : Nat → Nat} {W : Nat → Int} {t e u v k : Nat} (hE : ∀ i, i < 6 → E i < 4 ∧ O i < 4) (hk : k < 64) (ht : t < 16) (he : e < 6) (hu : u < 4) (hv : v < 4) (h22 : x22.toInt = tj_cs W 6 k) (hI : tj_I E O W t e u v k x11 x12 x13 x14 x15 x16 x17) (H : ∀ y11 y12 y13 y14 y15 y16 y17 : Int32, tj_I E O W t e u v (k + 1) y11 y12 y13 y14 y15 y16 y17 → J171 y11 y12 y13 y14 y15 y16 y17 (x19 + 1)) : wL_lawOf_292 post mc ms J161 J171 x0 x1 (nI (tj_od E O 6 63)) x6 (nI t) (nI e) (nI u) (nI v) x11 x12 x13 x14 x15 x16 x17 x18 x19 (nI k) (nI (tj_od E O 6 k)) x22 (nI (decide (tj_od E O 6 k = t)).toNat) (nI (decide (tj_od E O 6 k = t)).toNat) (nI (decide (tj_od E O 6 k = t)).toNat) kc ks fn fc fw a1 a2 a3 a4 a5 a6 a7 a8 a9 := by
  obtain ⟨i11, i12, i13, i14, i15, i16, i17⟩ := hI
  have hl : tj_od E O 6 k < 16 := tj_od_lt 6 hE
  have hl63 : tj_od E O 6 63 < 16 := tj_od_lt 6 hE
  have huv : 2 ^ u ^^^ 2 ^ v < 16 := tj_e16 hu hv
  have b0 := tj_b0 (decide (tj_od E O 6 k = t))
  refine tj_L292 rfl (tj_L305 (tj_L321 (tj_L337 (tj_L364 (tj_L390 (tj_L415 (H _ _ _ _ _ _ _ ⟨?_, tj_ups hk i13 h22 i12 b0, tj_up i13 h22 b0, tj_up i14 h22 ?_, tj_up i15 h22 ?_, tj_up i16 h22 ?_, tj_up i17 h22 ?_⟩)))))))
  · show _ = nI (tj_ct (fun S => decide (tj_od E O 6 S = t)) k + (if decide (tj_od E O 6 k = t) = true then 1 else 0))
    rw [i11]
    cases decide (tj_od E O 6 k = t)
    · rw [if_pos (by decide), if_neg Bool.false_ne_true]; rfl
    · rw [if_neg (by decide), if_pos rfl]; exact nI_1 _
  · show _ ↔ (decide (tj_od E O 6 k = t) && k.testBit e) = true
    rw [b0, tj_bt1 (by omega) (by omega), Bool.and_eq_true]
  · show _ ↔ (decide (tj_od E O 6 k = t) && !(k.testBit e)) = true
    rw [b0, tj_bt0 (by omega) (by omega), Bool.and_eq_true, Bool.not_eq_true']
  · show _ ↔ decide (tj_od E O 6 k = 2 ^ u ^^^ 2 ^ v) = true
    rw [tj_p2 u (by omega), tj_p2 v (by omega), tj_xor, nI_eq (by omega) (by omega), decide_eq_true_iff]
  · show _ ↔ decide (tj_od E O 6 k = tj_od E O 6 63) = true
    rw [nI_eq (by omega) (by omega), decide_eq_true_iff]
theorem tj_L273 {post : Int32 → St0 → Prop} {mc ms : Nat} {J161 J171 : Int32 → Int32 → Int32 → Int32 → Int32 → Int32 → Int32 → Int32 → Prop} {x0 x1 x6 x11 x12 x13 x14 x15 x16 x17 x18 x19 x22 : Int32} {kc ks : Nat} {a1 a2 a3 a4 a5 a6 a7 a8 a9 : Nat → Int32} {E O : Nat → Nat} {W : Nat → Int} {t e u v k : Nat} (hG : tj_G E O W a1 a2 a3) (hk : k < 64) (ht : t < 16) (he : e < 6) (hu : u < 4) (hv : v < 4) (h22 : x22.toInt = tj_cs W 6 k) (hI : tj_I E O W t e u v k x11 x12 x13 x14 x15 x16 x17) (H : ∀ y11 y12 y13 y14 y15 y16 y17 : Int32, tj_I E O W t e u v (k + 1) y11 y12 y13 y14 y15 y16 y17 → J171 y11 y12 y13 y14 y15 y16 y17 (x19 + 1)) : wL_lawOf_273 post mc ms J161 J171 x0 x1 (nI (tj_od E O 6 63)) x6 (nI t) (nI e) (nI u) (nI v) x11 x12 x13 x14 x15 x16 x17 x18 x19 (nI k) (nI (tj_od E O 6 k)) x22 (nI (decide (tj_od E O 6 k = t)).toNat) kc ks (nI 4) (nI 6) (nI t) a1 a2 a3 a4 a5 a6 a7 a8 a9 := by
  have one := tj_one (post := post) (mc := mc) (ms := ms) (J161 := J161) (J171 := J171) (x0 := x0) (x1 := x1) (x6 := x6) (x18 := x18) (x19 := x19) (kc := kc) (ks := ks) (fn := nI 4) (fc := nI 6) (fw := nI t) (a1 := a1) (a2 := a2) (a3 := a3) (a4 := a4) (a5 := a5) (a6 := a6) (a7 := a7) (a8 := a8) (a9 := a9) (tj_G_e hG) hk ht he hu hv h22 hI H
  unfold wL_lawOf_273
  refine tj_isJoin hG ht hk ?_
  revert one
  cases decide (tj_od E O 6 k = t)
  · intro one
    exact br_t rfl one
  · intro one
    exact br_f (by decide) one
/-! the script's parts -/
def tj_gx (p q : Int32) (i : Nat) : Int32 := if (3 : Int32) ≤ nI i then (q >>> (((9 * nI i) - 27) &&& 31)) &&& 511 else (p >>> ((9 * nI i) &&& 31)) &&& 511
def tj_ev (x : Int32) : Nat := x.toBitVec.toNat % 2 ^ 2
def tj_ov (x : Int32) : Nat := (x >>> ((2 : Int32) &&& 31)).toBitVec.toNat % 2 ^ 2
def tj_wv (x : Int32) : Int := (((x >>> ((4 : Int32) &&& 31)).toBitVec.toNat % 2 ^ 5 % 30 : Nat) : Int) - 9
def tj_Ev (p q : Int32) (i : Nat) : Nat := tj_ev (tj_gx p q i)
def tj_Ov (p q : Int32) (i : Nat) : Nat := tj_ov (tj_gx p q i)
def tj_Wv (p q : Int32) (i : Nat) : Int := tj_wv (tj_gx p q i)
theorem tj_ev_lt (x : Int32) : tj_ev x < 4 := Nat.mod_lt _ (by decide)
theorem tj_ov_lt (x : Int32) : tj_ov x < 4 := Nat.mod_lt _ (by decide)
theorem tj_wv_bd (x : Int32) : -9 ≤ tj_wv x ∧ tj_wv x ≤ 20 := by
  unfold tj_wv
  have := Nat.mod_lt ((x >>> ((4 : Int32) &&& 31)).toBitVec.toNat % 2 ^ 5) (show 30 > 0 by decide)
  omega
theorem tj_ev_e (x : Int32) : x &&& 3 = nI (tj_ev x) := pk_and x 2 (by decide)
theorem tj_ov_e (x : Int32) : (x >>> ((2 : Int32) &&& 31)) &&& 3 = nI (tj_ov x) := pk_and _ 2 (by decide)
theorem tj_part {post : Int32 → Prop} {p q : Int32} {i : Nat} (H : post (tj_gx p q i)) : wpL_part post () p q (nI i) := by
  refine br_c (fun h => ?_) (fun h => ?_)
  · unfold tj_gx at H; rw [if_pos h] at H; exact H
  · unfold tj_gx at H; rw [if_neg h] at H; exact H
theorem tj_ends {post : Int32 → Prop} {x : Int32} (H : post (nI (2 ^ tj_ev x ^^^ 2 ^ tj_ov x))) : wpL_ends post () x := by
  have h1 := tj_ev_lt x
  have h2 := tj_ov_lt x
  unfold wpL_ends
  rw [tj_ev_e, tj_ov_e, tj_p2 _ (by omega), tj_p2 _ (by omega), tj_xor]
  exact H
theorem tj_weight {post : Int32 → Prop} {x : Int32} (H : ∀ r : Int32, r.toInt = tj_wv x → post r) : wpL_weight post () x := by
  refine ⟨by decide, H _ ?_⟩
  have h : (x >>> ((4 : Int32) &&& 31)) &&& 31 = nI ((x >>> ((4 : Int32) &&& 31)).toBitVec.toNat % 2 ^ 5) := pk_and _ 5 (by decide)
  rw [h]
  unfold tj_wv
  generalize (x >>> ((4 : Int32) &&& 31)).toBitVec.toNat = z
  rw [show (30 : Int32) = nI 30 from rfl, pk_rem (by omega) (by omega) (by omega)]
  exact tj_sub (nI_toInt (by omega)) (show (9 : Int32).toInt = 9 from rfl) (by omega) (by omega)
theorem tj_l197 {post : Int32 → St0 → Prop} {mc ms : Nat} {J161 J171 : Int32 → Int32 → Int32 → Int32 → Int32 → Int32 → Int32 → Int32 → Prop} {p q x5 x6 x8 x9 x10 x11 x12 x13 x14 x15 x16 x17 x18 x19 : Int32} {t k : Nat} {kc ks : Nat} {a1 a2 a3 a4 a5 a6 a7 a8 a9 : Nat → Int32} (hk : k < 64) (ht : t < 16) (H : ∀ x22 : Int32, x22.toInt = tj_cs (tj_Wv p q) 6 k → wL_lawOf_273 post mc ms J161 J171 p q x5 x6 (nI t) x8 x9 x10 x11 x12 x13 x14 x15 x16 x17 x18 x19 (nI k) (nI (tj_od (tj_Ev p q) (tj_Ov p q) 6 k)) x22 (nI (decide (tj_od (tj_Ev p q) (tj_Ov p q) 6 k = t)).toNat) kc ks (nI 4) (nI 6) (nI t) a1 a2 a3 a4 a5 a6 a7 a8 a9) : ∃ n, wL_lawOf_197 post mc ms J161 J171 p q x5 x6 (nI t) x8 x9 x10 x11 x12 x13 x14 x15 x16 x17 x18 x19 (nI k) kc ks (nI 4) (nI 6) (nI t) a1 a2 a3 a4 a5 a6 a7 a8 a9 n 0 0 0 := by
  have hE : ∀ i, i < 6 → tj_Ev p q i < 4 ∧ tj_Ov p q i < 4 := fun i _ => ⟨tj_ev_lt _, tj_ov_lt _⟩
  have hl : tj_od (tj_Ev p q) (tj_Ov p q) 6 k < 16 := tj_od_lt 6 hE
  refine pk_loop (fun n i s => wL_lawOf_197 post mc ms J161 J171 p q x5 x6 (nI t) x8 x9 x10 x11 x12 x13 x14 x15 x16 x17 x18 x19 (nI k) kc ks (nI 4) (nI 6) (nI t) a1 a2 a3 a4 a5 a6 a7 a8 a9 n (nI (tj_od (tj_Ev p q) (tj_Ov p q) i k)) s (nI i)) (fun i s => s.toInt = tj_cs (tj_Wv p q) i k) 6 0 0 (by omega) rfl
    (fun n s h => pk_le 6 6 (fun _ => ?_) (fun z => absurd z (by omega)))
    (fun n i s hi h hw => pk_le 6 i (fun z => absurd z (by omega)) (fun _ => ?_))
  · have Hs := H s h
    refine pk_eq (tj_od (tj_Ev p q) (tj_Ov p q) 6 k) t (fun g => ?_) (fun g => ?_)
    · rw [decide_eq_true g] at Hs; exact Hs
    · rw [decide_eq_false g] at Hs; exact Hs
  · refine tj_part ?_
    have bi : k.testBit i = true → (((nI k >>> (nI i &&& 31)) &&& 1) = 1) := fun b => (tj_bt1 (by omega) (by omega)).mpr b
    have bd := tj_cs_bd (c := tj_Wv p q) (S := k) (A := -9) (B := 20) (by omega) (by omega) i (fun j _ => tj_wv_bd _)
    have wb : -9 ≤ tj_Wv p q i ∧ tj_Wv p q i ≤ 20 := tj_wv_bd (tj_gx p q i)
    refine ek_if (tj_bt1 (by omega) (by omega)) (fun b => ?_) (fun b => ?_)
    · refine tj_ends ?_
      have e : nI (tj_od (tj_Ev p q) (tj_Ov p q) i k) ^^^ nI (2 ^ tj_ev (tj_gx p q i) ^^^ 2 ^ tj_ov (tj_gx p q i)) = nI (tj_od (tj_Ev p q) (tj_Ov p q) (i + 1) k) := by
        rw [tj_xor, tj_od_t b]; rfl
      refine nm_r e ?_
      refine br_t (bi b) ?_
      refine tj_weight (fun r hr => nm_e (nm_r (nI_1 i) (hw _ ?_)))
      rw [tj_cs_t b]
      exact tj_add h hr (by omega) (by omega)
    · have b' : k.testBit i = false := Bool.eq_false_iff.mpr b
      refine br_f (fun z => b ((tj_bt1 (by omega) (by omega)).mp z)) (nm_r (nI_1 i) ?_)
      have t2 := hw s (by rw [tj_cs_f b']; exact h)
      rw [tj_od_f b'] at t2
      exact t2
theorem tj_l171 {post : Int32 → St0 → Prop} {mc ms : Nat} {p q x6 x11 x12 x13 x14 x15 x16 x17 : Int32} {t e u v : Nat} {kc ks : Nat} {a1 a2 a3 a4 a5 a6 a7 a8 a9 : Nat → Int32} {J161 : Int32 → Int32 → Int32 → Int32 → Int32 → Int32 → Int32 → Int32 → Prop} {i : Nat} (hG : tj_G (tj_Ev p q) (tj_Ov p q) (tj_Wv p q) a1 a2 a3) (ht : t < 16) (he : e < 6) (hu : u < 4) (hv : v < 4) (hi : i < 8) (hI : tj_I (tj_Ev p q) (tj_Ov p q) (tj_Wv p q) t e u v (8 * i) x11 x12 x13 x14 x15 x16 x17) (H : ∀ y11 y12 y13 y14 y15 y16 y17 : Int32, tj_I (tj_Ev p q) (tj_Ov p q) (tj_Wv p q) t e u v (8 * (i + 1)) y11 y12 y13 y14 y15 y16 y17 → J161 y11 y12 y13 y14 y15 y16 y17 (nI (i + 1))) : ∃ n, wL_lawOf_171 post mc ms J161 p q (nI (tj_od (tj_Ev p q) (tj_Ov p q) 6 63)) x6 (nI t) (nI e) (nI u) (nI v) (nI i) kc ks (nI 4) (nI 6) (nI t) a1 a2 a3 a4 a5 a6 a7 a8 a9 n x11 x12 x13 x14 x15 x16 x17 0 := by
  refine pk_loop (σ := Int32 × Int32 × Int32 × Int32 × Int32 × Int32 × Int32) (fun n j s => wL_lawOf_171 post mc ms J161 p q (nI (tj_od (tj_Ev p q) (tj_Ov p q) 6 63)) x6 (nI t) (nI e) (nI u) (nI v) (nI i) kc ks (nI 4) (nI 6) (nI t) a1 a2 a3 a4 a5 a6 a7 a8 a9 n s.1 s.2.1 s.2.2.1 s.2.2.2.1 s.2.2.2.2.1 s.2.2.2.2.2.1 s.2.2.2.2.2.2 (nI j)) (fun j s => tj_I (tj_Ev p q) (tj_Ov p q) (tj_Wv p q) t e u v (8 * i + j) s.1 s.2.1 s.2.2.1 s.2.2.2.1 s.2.2.2.2.1 s.2.2.2.2.2.1 s.2.2.2.2.2.2) 8 0 (x11, x12, x13, x14, x15, x16, x17) (by omega) hI
    (fun n s h => pk_le 8 8 (fun _ => nm_r (nI_1 i) (H _ _ _ _ _ _ _ h)) (fun z => absurd z (by omega)))
    (fun n j s hj h hw => pk_le 8 j (fun z => absurd z (by omega)) (fun _ => nm_r (show (8 : Int32) * nI i + nI j = nI (8 * i + j) by rw [show (8 : Int32) = nI 8 from rfl, pk_mul, nI_add]) ?_))
  refine tj_l197 (by omega) ht (fun x22 h22 => ?_)
  refine tj_L273 hG (by omega) ht he hu hv h22 h (fun y11 y12 y13 y14 y15 y16 y17 hy => ?_)
  rw [nI_1]
  exact hw (y11, y12, y13, y14, y15, y16, y17) hy
end
section
/-! ===== part 10: the law's end, its loops, the claim (printed by gen10.py) ===== -/
theorem tj_an_t {x r : Int32} (h : r.toInt = tj_an x.toInt) (e : x = 9999) : r = -1000 := by
  subst e
  exact Int32.toInt_inj.mp h
theorem tj_an_n {x r : Int32} (h : r.toInt = tj_an x.toInt) (e : ¬ x = 9999) : r = x := by
  have g : ¬ x.toInt = 9999 := fun z => e (Int32.toInt_inj.mp z)
  unfold tj_an at h
  rw [if_neg g] at h
  exact Int32.toInt_inj.mp h
theorem tj_t570 {post : Int32 → St0 → Prop} {mc ms : Nat} {x6 x17 z0 z1 : Int32} {kc ks : Nat} {a1 a2 a3 a4 a5 a6 a7 a8 a9 : Nat → Int32} {E O : Nat → Nat} {W : Nat → Int} {t e u v : Nat} (hG : tj_G E O W a1 a2 a3) (ht : t < 16) (he : e < 6) (hu : u < 4) (hv : v < 4) (h6 : (x6 = 0 ∧ ∀ i, i < 6 → 0 ≤ W i) ∨ (x6 = 1 ∧ ∃ i, i < 6 ∧ W i < 0)) (hp : post 1 ()) (h17 : x17.toInt = tj_mn (fun S => decide (tj_od E O 6 S = tj_od E O 6 63)) (fun S => tj_cs W 6 S) 64) (hz : z1 = z0) : wL_lawOf_570 post mc ms (nI (tj_od E O 6 63)) x6 x17 z0 z1 kc ks (nI 4) (nI 6) (nI t) a1 a2 a3 a4 a5 a6 a7 a8 a9 := by
  refine br_t hz ?_
  refine tj_oddPlaces hG ?_
  refine br_t rfl ?_
  refine tj_postman hG (fun h => ?_) (fun h r b4 b5 b6 b7 b8 b9 hr => ?_)
  · rcases h6 with ⟨z, g⟩ | ⟨z, g⟩
    · obtain ⟨i, hi, l⟩ := h
      have := g i hi
      omega
    · subst z
      exact br_f (by decide) (br_t rfl hp)
  · rcases h6 with ⟨z, g⟩ | ⟨z, g⟩
    · subst z
      refine br_t rfl (br_c (fun _ => hp) (fun n2 => ?_))
      rcases hr with y | y
      · exact absurd y n2
      · exact br_t (Int32.toInt_inj.mp (y.trans h17.symm)) hp
    · obtain ⟨i, hi, l⟩ := g
      have := h i hi
      omega
theorem tj_t540 {post : Int32 → St0 → Prop} {mc ms : Nat} {x6 x16 x17 z0 z1 : Int32} {kc ks : Nat} {a1 a2 a3 a4 a5 a6 a7 a8 a9 : Nat → Int32} {E O : Nat → Nat} {W : Nat → Int} {t e u v : Nat} (hG : tj_G E O W a1 a2 a3) (ht : t < 16) (he : e < 6) (hu : u < 4) (hv : v < 4) (h6 : (x6 = 0 ∧ ∀ i, i < 6 → 0 ≤ W i) ∨ (x6 = 1 ∧ ∃ i, i < 6 ∧ W i < 0)) (hp : post 1 ()) (h16 : x16.toInt = tj_mn (fun S => decide (tj_od E O 6 S = 2 ^ u ^^^ 2 ^ v)) (fun S => tj_cs W 6 S) 64) (h17 : x17.toInt = tj_mn (fun S => decide (tj_od E O 6 S = tj_od E O 6 63)) (fun S => tj_cs W 6 S) 64) (hz : z1 = z0) : wL_lawOf_540 post mc ms (nI (tj_od E O 6 63)) x6 (nI u) (nI v) x16 x17 z0 z1 kc ks (nI 4) (nI 6) (nI t) a1 a2 a3 a4 a5 a6 a7 a8 a9 := by
  refine br_t hz ?_
  refine tj_between hG hu hv (fun r b4 b5 b6 b7 b8 b9 hr => ?_)
  rw [← h16] at hr
  exact br_c (fun g => tj_t570 hG ht he hu hv h6 hp h17 (tj_an_t hr g)) (fun g => tj_t570 hG ht he hu hv h6 hp h17 (tj_an_n hr g))
theorem tj_t514 {post : Int32 → St0 → Prop} {mc ms : Nat} {x6 x15 x16 x17 z0 z1 : Int32} {kc ks : Nat} {a1 a2 a3 a4 a5 a6 a7 a8 a9 : Nat → Int32} {E O : Nat → Nat} {W : Nat → Int} {t e u v : Nat} (hG : tj_G E O W a1 a2 a3) (ht : t < 16) (he : e < 6) (hu : u < 4) (hv : v < 4) (h6 : (x6 = 0 ∧ ∀ i, i < 6 → 0 ≤ W i) ∨ (x6 = 1 ∧ ∃ i, i < 6 ∧ W i < 0)) (hp : post 1 ()) (h15 : x15.toInt = tj_mn (fun S => decide (tj_od E O 6 S = t) && !(S.testBit e)) (fun S => tj_cs W 6 S) 64) (h16 : x16.toInt = tj_mn (fun S => decide (tj_od E O 6 S = 2 ^ u ^^^ 2 ^ v)) (fun S => tj_cs W 6 S) 64) (h17 : x17.toInt = tj_mn (fun S => decide (tj_od E O 6 S = tj_od E O 6 63)) (fun S => tj_cs W 6 S) 64) (hz : z1 = z0) : wL_lawOf_514 post mc ms (nI (tj_od E O 6 63)) x6 (nI e) (nI u) (nI v) x15 x16 x17 z0 z1 kc ks (nI 4) (nI 6) (nI t) a1 a2 a3 a4 a5 a6 a7 a8 a9 := by
  refine br_t hz ?_
  refine tj_bestWithout hG ht he (fun r b4 b5 b6 b7 b8 b9 hr => ?_)
  rw [← h15] at hr
  exact br_c (fun g => tj_t540 hG ht he hu hv h6 hp h16 h17 (tj_an_t hr g)) (fun g => tj_t540 hG ht he hu hv h6 hp h16 h17 (tj_an_n hr g))
theorem tj_t486 {post : Int32 → St0 → Prop} {mc ms : Nat} {x6 x14 x15 x16 x17 z0 z1 : Int32} {kc ks : Nat} {a1 a2 a3 a4 a5 a6 a7 a8 a9 : Nat → Int32} {E O : Nat → Nat} {W : Nat → Int} {t e u v : Nat} (hG : tj_G E O W a1 a2 a3) (ht : t < 16) (he : e < 6) (hu : u < 4) (hv : v < 4) (h6 : (x6 = 0 ∧ ∀ i, i < 6 → 0 ≤ W i) ∨ (x6 = 1 ∧ ∃ i, i < 6 ∧ W i < 0)) (hp : post 1 ()) (h14 : x14.toInt = tj_mn (fun S => decide (tj_od E O 6 S = t) && S.testBit e) (fun S => tj_cs W 6 S) 64) (h15 : x15.toInt = tj_mn (fun S => decide (tj_od E O 6 S = t) && !(S.testBit e)) (fun S => tj_cs W 6 S) 64) (h16 : x16.toInt = tj_mn (fun S => decide (tj_od E O 6 S = 2 ^ u ^^^ 2 ^ v)) (fun S => tj_cs W 6 S) 64) (h17 : x17.toInt = tj_mn (fun S => decide (tj_od E O 6 S = tj_od E O 6 63)) (fun S => tj_cs W 6 S) 64) (hz : z1 = z0) : wL_lawOf_486 post mc ms (nI (tj_od E O 6 63)) x6 (nI e) (nI u) (nI v) x14 x15 x16 x17 z0 z1 kc ks (nI 4) (nI 6) (nI t) a1 a2 a3 a4 a5 a6 a7 a8 a9 := by
  refine br_t hz ?_
  refine tj_bestWith hG ht he (fun r b4 b5 b6 b7 b8 b9 hr => ?_)
  rw [← h14] at hr
  exact br_c (fun g => tj_t514 hG ht he hu hv h6 hp h15 h16 h17 (tj_an_t hr g)) (fun g => tj_t514 hG ht he hu hv h6 hp h15 h16 h17 (tj_an_n hr g))
theorem tj_l161 {post : Int32 → St0 → Prop} {mc ms : Nat} {p q x6 : Int32} {t e u v : Nat} {kc ks : Nat} {a1 a2 a3 a4 a5 a6 a7 a8 a9 : Nat → Int32} (hG : tj_G (tj_Ev p q) (tj_Ov p q) (tj_Wv p q) a1 a2 a3) (ht : t < 16) (he : e < 6) (hu : u < 4) (hv : v < 4) (h6 : (x6 = 0 ∧ ∀ i, i < 6 → 0 ≤ tj_Wv p q i) ∨ (x6 = 1 ∧ ∃ i, i < 6 ∧ tj_Wv p q i < 0)) (hp : post 1 ()) : ∃ n, wL_lawOf_161 post mc ms p q (nI (tj_od (tj_Ev p q) (tj_Ov p q) 6 63)) x6 (nI t) (nI e) (nI u) (nI v) kc ks (nI 4) (nI 6) (nI t) a1 a2 a3 a4 a5 a6 a7 a8 a9 n 0 (-1) 9999 9999 9999 9999 9999 0 := by
  refine pk_loop (σ := Int32 × Int32 × Int32 × Int32 × Int32 × Int32 × Int32) (fun n i s => wL_lawOf_161 post mc ms p q (nI (tj_od (tj_Ev p q) (tj_Ov p q) 6 63)) x6 (nI t) (nI e) (nI u) (nI v) kc ks (nI 4) (nI 6) (nI t) a1 a2 a3 a4 a5 a6 a7 a8 a9 n s.1 s.2.1 s.2.2.1 s.2.2.2.1 s.2.2.2.2.1 s.2.2.2.2.2.1 s.2.2.2.2.2.2 (nI i)) (fun i s => tj_I (tj_Ev p q) (tj_Ov p q) (tj_Wv p q) t e u v (8 * i) s.1 s.2.1 s.2.2.1 s.2.2.2.1 s.2.2.2.2.1 s.2.2.2.2.2.1 s.2.2.2.2.2.2) 8 0 (0, -1, 9999, 9999, 9999, 9999, 9999) (by omega) ⟨rfl, rfl, rfl, rfl, rfl, rfl, rfl⟩
    (fun n s h => pk_le 8 8 (fun _ => ?_) (fun z => absurd z (by omega)))
    (fun n i s hi h hw => pk_le 8 i (fun z => absurd z (by omega)) (fun _ => tj_l171 hG ht he hu hv hi h (fun y11 y12 y13 y14 y15 y16 y17 hy => hw (y11, y12, y13, y14, y15, y16, y17) hy)))
  obtain ⟨h11, h12, h13, h14, h15, h16, h17⟩ := h
  refine tj_joins hG ht (fun c9 => ?_)
  refine br_t h11.symm ?_
  refine tj_bestSet hG ht (fun r b4 b5 b6 b7 b8 b9 hr => ?_)
  refine br_t (Int32.toInt_inj.mp (hr.trans h12.symm)) ?_
  refine tj_best hG ht (fun r d4 d5 d6 d7 d8 d9 hr => ?_)
  rw [show (64 : Nat) = 8 * 8 from rfl, ← h13] at hr
  exact br_c (fun g => tj_t486 hG ht he hu hv h6 hp h14 h15 h16 h17 (tj_an_t hr g)) (fun g => tj_t486 hG ht he hu hv h6 hp h14 h15 h16 h17 (tj_an_n hr g))
theorem tj_l19 {post : Int32 → St0 → Prop} {mc ms : Nat} {p q x2 x3 : Int32} {kc ks : Nat} (hp : post 1 ()) : ∃ n, wL_lawOf_19 post mc ms p q x2 x3 kc ks n 0 0 0 (nI 4) 0 0 (fun _ => 0) (fun _ => 0) (fun _ => 0) (fun _ => 0) (fun _ => 0) (fun _ => 0) (fun _ => 0) (fun _ => 0) (fun _ => 0) := by
  refine pk_loop (σ := Int32 × Int32 × (Nat → Int32) × (Nat → Int32) × (Nat → Int32)) (fun n i s => wL_lawOf_19 post mc ms p q x2 x3 kc ks n s.1 s.2.1 (nI i) (nI 4) (nI i) 0 s.2.2.1 s.2.2.2.1 s.2.2.2.2 (fun _ => 0) (fun _ => 0) (fun _ => 0) (fun _ => 0) (fun _ => 0) (fun _ => 0)) (fun i s => s.1 = nI (tj_od (tj_Ev p q) (tj_Ov p q) i 63) ∧ ((s.2.1 = 0 ∧ ∀ j, j < i → 0 ≤ tj_Wv p q j) ∨ (s.2.1 = 1 ∧ ∃ j, j < i ∧ tj_Wv p q j < 0)) ∧ ∀ j, j < i → s.2.2.1 j = nI (tj_Ev p q j) ∧ s.2.2.2.1 j = nI (tj_Ov p q j) ∧ (s.2.2.2.2 j).toInt = tj_Wv p q j) 6 0 (0, 0, fun _ => 0, fun _ => 0, fun _ => 0) (by omega) ⟨rfl, Or.inl ⟨rfl, fun j hj => absurd hj (by omega)⟩, fun j hj => absurd hj (by omega)⟩
    (fun n s h => pk_le 6 6 (fun _ => ?_) (fun z => absurd z (by omega)))
    (fun n i s hi h hw => pk_le 6 i (fun z => absurd z (by omega)) (fun _ => ?_))
  · obtain ⟨g1, g2, g3⟩ := h
    have k1 : x2 &&& 15 = nI (x2.toBitVec.toNat % 2 ^ 4) := pk_and x2 4 (by decide)
    have k2 : x3 &&& 7 = nI (x3.toBitVec.toNat % 2 ^ 3) := pk_and x3 3 (by decide)
    have k3 : (x3 >>> ((3 : Int32) &&& 31)) &&& 3 = nI ((x3 >>> ((3 : Int32) &&& 31)).toBitVec.toNat % 2 ^ 2) := pk_and _ 2 (by decide)
    have k4 : (x3 >>> ((5 : Int32) &&& 31)) &&& 3 = nI ((x3 >>> ((5 : Int32) &&& 31)).toBitVec.toNat % 2 ^ 2) := pk_and _ 2 (by decide)
    have k5 : (x3 &&& 7) - (x3 &&& 7) / 6 * 6 = nI (x3.toBitVec.toNat % 2 ^ 3 % 6) := by
      rw [k2]; exact pk_rem (d := 6) (by omega) (by omega) (by omega)
    refine nm_r k1 ⟨by decide, nm_r k5 (nm_r k3 (nm_r k4 ?_))⟩
    refine tj_want (by omega) ?_
    rw [g1]
    refine tj_l161 (fun j hj => ⟨⟨tj_ev_lt _, tj_ov_lt _⟩, (g3 j hj).1, (g3 j hj).2.1, (g3 j hj).2.2, tj_wv_bd _⟩) (by omega) (by omega) (by omega) (by omega) g2 hp
  · obtain ⟨g1, g2, g3⟩ := h
    refine tj_part ?_
    refine tj_weight (fun r hr => ?_)
    refine tj_ends ?_
    have b63 : (63 : Nat).testBit i = true := (by decide : ∀ i, i < 6 → (63 : Nat).testBit i = true) i hi
    have e5 : s.1 ^^^ nI (2 ^ tj_ev (tj_gx p q i) ^^^ 2 ^ tj_ov (tj_gx p q i)) = nI (tj_od (tj_Ev p q) (tj_Ov p q) (i + 1) 63) := by
      rw [g1, tj_xor, tj_od_t b63]; rfl
    have wb := tj_wv_bd (tj_gx p q i)
    have fin : ∀ y6 : Int32, ((y6 = 0 ∧ ∀ j, j < i + 1 → 0 ≤ tj_Wv p q j) ∨ (y6 = 1 ∧ ∃ j, j < i + 1 ∧ tj_Wv p q j < 0)) → wL_lawOf_60 post mc ms (wL_lawOf_19 post mc ms p q x2 x3 kc ks n) p q x2 x3 (nI (tj_od (tj_Ev p q) (tj_Ov p q) (i + 1) 63)) y6 (nI i) (tj_gx p q i) r kc ks (nI 4) (nI i) 0 s.2.2.1 s.2.2.2.1 s.2.2.2.2 (fun _ => 0) (fun _ => 0) (fun _ => 0) (fun _ => 0) (fun _ => 0) (fun _ => 0) := by
      intro y6 h6
      unfold wL_lawOf_60
      rw [tj_ev_e, tj_ov_e]
      refine tj_road hi (tj_ev_lt _) (tj_ov_lt _) hr wb.1 wb.2 ?_
      refine br_t rfl (nm_r (nI_1 i) (hw (_, _, _, _, _) ⟨rfl, h6, fun j hj => ?_⟩))
      show upd s.2.2.1 i _ j = _ ∧ upd s.2.2.2.1 i _ j = _ ∧ (upd s.2.2.2.2 i r j).toInt = _
      by_cases z : j = i
      · subst z
        rw [pk_us, pk_us, pk_us]
        exact ⟨rfl, rfl, hr⟩
      · rw [pk_un z, pk_un z, pk_un z]
        exact g3 j (by omega)
    refine nm_r e5 ?_
    refine ek_if (tj_le (show (0 : Int32).toInt = 0 from rfl) hr) (fun g => fin _ ?_) (fun g => fin _ (Or.inr ⟨rfl, i, by omega, by show tj_wv (tj_gx p q i) < 0; omega⟩))
    rcases g2 with ⟨z, g2⟩ | ⟨z, j, hj, g2⟩
    · refine Or.inl ⟨z, fun j hj => ?_⟩
      by_cases y : j = i
      · subst y; exact g
      · exact g2 j (by omega)
    · exact Or.inr ⟨z, j, by omega, g2⟩
theorem tj_lawOf {post : Int32 → St0 → Prop} {p q x2 x3 : Int32} (hp : post 1 ()) : wpL_lawOf post 20 500 () p q x2 x3 := by
  refine ⟨by decide, by decide, 9, 409, by decide, by decide, ?_⟩
  refine ⟨by decide, by decide, by decide, by decide, by decide, by decide, by decide, by decide, by decide, by decide, by decide, by decide, by decide, by decide, by decide, by decide, by decide, by decide, ?_⟩
  exact br_t (by decide) (br_t (by decide) (tj_l19 hp))
theorem tj_cell {post : Int32 → Prop} {L k : Nat} {xs : Nat → Int32} (hL : L ≤ 4) (hk : k < 4) (H : ∀ r, post r) : wpL_cellAt post L xs () (nI k) :=
  pk_le L k (fun _ => H _) (fun z => ⟨vp_in_nI (by omega) (by omega), H _⟩)
theorem i_vc (xs : Nat → Int32) (L : Nat) (hL : L ≤ 4) : wpL_law (fun r => r = 1) L xs := by
  unfold wpL_law
  refine tj_cell (k := 0) hL (by omega) (fun r1 => ?_)
  refine tj_cell (k := 1) hL (by omega) (fun r2 => ?_)
  refine tj_cell (k := 2) hL (by omega) (fun r3 => ?_)
  refine tj_cell (k := 3) hL (by omega) (fun r4 => ?_)
  exact ⟨20, 500, by decide, by decide, tj_lawOf rfl⟩
end

section
/-! bits of an Int32 (began as rows of BITS.to-paste) -/
def td_b (x : Int32) (i : Nat) : Bool := x.toBitVec.getLsbD i
theorem td_big {x : Int32} {i : Nat} (h : 32 ≤ i) : td_b x i = false := BitVec.getLsbD_of_ge _ _ h
theorem td_ext {x y : Int32} (h : ∀ i, td_b x i = td_b y i) : x = y := Int32.toBitVec_inj.mp (BitVec.eq_of_getLsbD_eq (fun i _ => h i))
theorem td_or (x y : Int32) (i : Nat) : td_b (x ||| y) i = (td_b x i || td_b y i) := by unfold td_b; rw [Int32.toBitVec_or, BitVec.getLsbD_or]
theorem td_and (x y : Int32) (i : Nat) : td_b (x &&& y) i = (td_b x i && td_b y i) := by unfold td_b; rw [Int32.toBitVec_and, BitVec.getLsbD_and]
theorem td_xor (x y : Int32) (i : Nat) : td_b (x ^^^ y) i = (td_b x i ^^ td_b y i) := by unfold td_b; rw [Int32.toBitVec_xor, BitVec.getLsbD_xor]
theorem td_0 (i : Nat) : td_b 0 i = false := BitVec.getLsbD_zero
theorem td_m1 : ∀ i, i < 32 → td_b (-1) i = true := by decide +kernel
theorem td_not (x : Int32) (i : Nat) : td_b (x ^^^ (-1)) i = (decide (i < 32) && !td_b x i) := by
  rw [td_xor]
  rcases Nat.lt_or_ge i 32 with h | h
  · rw [td_m1 i h, decide_eq_true h]; cases td_b x i <;> rfl
  · rw [td_big h, td_big h, decide_eq_false (by omega)]; rfl
theorem td_sl : ∀ n, n < 32 → ((nI n &&& 31).toBitVec.smod 32).toNat = n := by decide +kernel
theorem td_shl (n : Nat) (hn : n < 32) (x : Int32) {i : Nat} (hi : i < 32) : td_b (x <<< (nI n &&& 31)) i = (decide (n ≤ i) && td_b x (i - n)) := by
  unfold td_b
  rw [Int32.toBitVec_shiftLeft]
  show (x.toBitVec <<< ((nI n &&& 31).toBitVec.smod 32).toNat).getLsbD i = _
  rw [td_sl n hn, BitVec.getLsbD_shiftLeft]
  rcases Nat.lt_or_ge i n with h | h
  · simp [h, Nat.not_le.mpr h]
  · simp [hi, h, Nat.not_lt.mpr h]
theorem td_sshr (n : Nat) (hn : n < 32) (x : Int32) {i : Nat} (hi : i < 32) : td_b (x >>> (nI n &&& 31)) i = if n + i < 32 then td_b x (n + i) else td_b x 31 := by
  unfold td_b
  rw [Int32.toBitVec_shiftRight]
  show (x.toBitVec.sshiftRight ((nI n &&& 31).toBitVec.smod 32).toNat).getLsbD i = _
  rw [td_sl n hn, BitVec.getLsbD_sshiftRight, BitVec.msb_eq_getLsbD_last]
  simp [hi]
/-! words of seventeen bits -/
def td_lo (x : Int32) : Prop := ∀ i, 17 ≤ i → td_b x i = false
/-- one place up; nothing comes in -/
def td_sh (f : Nat → Bool) : Nat → Bool
  | 0 => false
  | n + 1 => f n
theorem td_shrn {x : Int32} (h : td_lo x) (n : Nat) (hn : n < 32) (i : Nat) : td_b (x >>> (nI n &&& 31)) i = td_b x (n + i) := by
  rcases Nat.lt_or_ge i 32 with g | g
  · rw [td_sshr n hn x g]
    by_cases e : n + i < 32
    · rw [if_pos e]
    · rw [if_neg e, h 31 (by omega), h (n + i) (by omega)]
  · rw [td_big g, h _ (by omega)]
theorem td_shr1 {x : Int32} (h : td_lo x) (i : Nat) : td_b (x >>> ((1 : Int32) &&& 31)) i = td_b x (i + 1) := by
  rw [Nat.add_comm]; exact td_shrn h 1 (by omega) i
theorem td_shr2 {x : Int32} (h : td_lo x) (i : Nat) : td_b (x >>> ((2 : Int32) &&& 31)) i = td_b x (i + 2) := by
  rw [Nat.add_comm]; exact td_shrn h 2 (by omega) i
theorem td_shl1 {x : Int32} (h : td_lo x) (i : Nat) : td_b (x <<< ((1 : Int32) &&& 31)) i = td_sh (td_b x) i := by
  rcases Nat.lt_or_ge i 32 with g | g
  · refine (td_shl 1 (by omega) x g).trans ?_
    cases i with
    | zero => rfl
    | succ i => show (decide (1 ≤ i + 1) && td_b x (i + 1 - 1)) = td_b x i; rw [decide_eq_true (by omega), Nat.add_sub_cancel]; rfl
  · rw [td_big g]
    cases i with
    | zero => rfl
    | succ i => exact (h i (by omega)).symm
theorem td_shl2 {x : Int32} (h : td_lo x) (i : Nat) : td_b (x <<< ((2 : Int32) &&& 31)) i = td_sh (td_sh (td_b x)) i := by
  rcases Nat.lt_or_ge i 32 with g | g
  · refine (td_shl 2 (by omega) x g).trans ?_
    match i with
    | 0 => rfl
    | 1 => rfl
    | i + 2 => show (decide (2 ≤ i + 2) && td_b x (i + 2 - 2)) = td_b x i; rw [decide_eq_true (by omega), Nat.add_sub_cancel]; rfl
  · rw [td_big g]
    match i with
    | 0 => rfl
    | 1 => rfl
    | i + 2 => exact (h i (by omega)).symm
/-! the constants -/
theorem td_cst {c : Int32} {p : Nat → Bool} (h : ∀ i, i < 32 → td_b c i = p i) (hp : ∀ i, 32 ≤ i → p i = false) (i : Nat) : td_b c i = p i := by
  rcases Nat.lt_or_ge i 32 with g | g
  · exact h i g
  · rw [td_big g, hp i g]
theorem td_ODD (i : Nat) : td_b 43690 i = (decide (i < 17) && decide (i % 2 = 1)) :=
  td_cst (p := fun i => decide (i < 17) && decide (i % 2 = 1)) (by decide +kernel) (fun i h => by rw [decide_eq_false (show ¬ i < 17 by omega)]; rfl) i
theorem td_EVEN (i : Nat) : td_b 87381 i = (decide (i < 17) && decide (i % 2 = 0)) :=
  td_cst (p := fun i => decide (i < 17) && decide (i % 2 = 0)) (by decide +kernel) (fun i h => by rw [decide_eq_false (show ¬ i < 17 by omega)]; rfl) i
theorem td_ALL (i : Nat) : td_b 131071 i = decide (i < 17) :=
  td_cst (p := fun i => decide (i < 17)) (by decide +kernel) (fun i h => decide_eq_false (by omega)) i
theorem td_ENDS (i : Nat) : td_b 65537 i = (decide (i = 0) || decide (i = 16)) :=
  td_cst (p := fun i => decide (i = 0) || decide (i = 16)) (by decide +kernel) (fun i h => by rw [decide_eq_false (show ¬ i = 0 by omega), decide_eq_false (show ¬ i = 16 by omega)]; rfl) i
theorem td_one (i : Nat) : td_b 1 i = decide (i = 0) :=
  td_cst (p := fun i => decide (i = 0)) (by decide +kernel) (fun i h => decide_eq_false (by omega)) i
theorem td_bit (n : Nat) (hn : n < 32) (i : Nat) : td_b ((1 : Int32) <<< (nI n &&& 31)) i = decide (i = n) := by
  rcases Nat.lt_or_ge i 32 with g | g
  · rw [td_shl n hn 1 g, td_one]
    by_cases e : i = n
    · rw [decide_eq_true e, decide_eq_true (by omega), decide_eq_true (by omega)]; rfl
    · rw [decide_eq_false e]
      by_cases e2 : n ≤ i
      · rw [decide_eq_false (show ¬ i - n = 0 by omega), Bool.and_false]
      · rw [decide_eq_false e2, Bool.false_and]
  · rw [td_big g, decide_eq_false (by omega)]
/-- the columns from one to another -/
theorem td_spanK : ∀ a, a < 9 → ∀ b, b < 9 → a ≤ b → ∀ i, i < 32 → td_b (((1 : Int32) <<< ((nI (2 * b) + 1) &&& 31)) - ((1 : Int32) <<< (nI (2 * a) &&& 31))) i = (decide (2 * a ≤ i) && decide (i ≤ 2 * b)) := by decide +kernel
theorem td_span (a b : Nat) (ha : a < 9) (hb : b < 9) (h : a ≤ b) (i : Nat) : td_b (((1 : Int32) <<< ((nI (2 * b) + 1) &&& 31)) - ((1 : Int32) <<< (nI (2 * a) &&& 31))) i = (decide (2 * a ≤ i) && decide (i ≤ 2 * b)) := by
  rcases Nat.lt_or_ge i 32 with g | g
  · exact td_spanK a ha b hb h i g
  · rw [td_big g, decide_eq_false (show ¬ i ≤ 2 * b by omega), Bool.and_false]
/-! none, equality, one bit -/
theorem td_eq0 {x : Int32} : x = 0 ↔ ∀ i, td_b x i = false := ⟨fun h i => by rw [h]; exact td_0 i, fun h => td_ext (fun i => by rw [h i, td_0])⟩
theorem td_ne0 {x : Int32} (h : ¬ x = 0) : ∃ i, td_b x i = true := by
  by_cases e : ∃ i, td_b x i = true
  · exact e
  · exact absurd (td_eq0.mpr (fun i => by
      cases c : td_b x i with
      | false => rfl
      | true => exact absurd ⟨i, c⟩ e)) h
theorem td_or0 (x y : Int32) : x ||| y = 0 ↔ x = 0 ∧ y = 0 := by
  constructor
  · intro h
    have k : ∀ i, (td_b x i || td_b y i) = false := fun i => by rw [← td_or]; exact td_eq0.mp h i
    exact ⟨td_eq0.mpr (fun i => by have := k i; cases hx : td_b x i <;> simp_all), td_eq0.mpr (fun i => by have := k i; cases hx : td_b y i <;> simp_all)⟩
  · intro h
    rw [h.1, h.2]; rfl
/-- bit n, as the program asks for it -/
theorem td_ask {x : Int32} (h : td_lo x) (n : Nat) (hn : n < 17) : (x >>> (nI n &&& 31)) &&& 1 = 1 ↔ td_b x n = true := by
  have k : ∀ i, td_b ((x >>> (nI n &&& 31)) &&& 1) i = (td_b x (n + i) && decide (i = 0)) := fun i => by rw [td_and, td_shrn h n (by omega), td_one]
  constructor
  · intro e
    have := k 0
    rw [e] at this
    rw [Nat.add_zero] at this
    have t : td_b 1 0 = true := by decide +kernel
    rw [t] at this
    cases c : td_b x n
    · rw [c] at this; exact absurd this (by decide)
    · rfl
  · intro e
    refine td_ext (fun i => ?_)
    rw [k i, td_one]
    by_cases z : i = 0
    · rw [z, Nat.add_zero, e]; rfl
    · rw [decide_eq_false z, Bool.and_false]
/-! the lowest bit -/
theorem td_natlow (n : Nat) (h : n ≠ 0) : ∃ m q, n = 2 ^ m * (2 * q + 1) := by
  induction n using Nat.strongRecOn with
  | _ n ih =>
    by_cases e : n % 2 = 1
    · exact ⟨0, n / 2, by rw [Nat.pow_zero]; omega⟩
    · obtain ⟨m, q, hq⟩ := ih (n / 2) (by omega) (by omega)
      exact ⟨m + 1, q, by rw [Nat.pow_succ, Nat.mul_comm (2 ^ m) 2, Nat.mul_assoc, ← hq]; omega⟩
theorem td_tb1 (q i : Nat) (h : i ≠ 0) : (2 * q).testBit i = (2 * q + 1).testBit i := by
  obtain ⟨k, rfl⟩ : ∃ k, i = k + 1 := ⟨i - 1, by omega⟩
  rw [Nat.testBit_succ, Nat.testBit_succ]
  congr 1
  omega
theorem td_low (x : Int32) (h : ¬ x = 0) : ∃ m, m < 32 ∧ td_b x m = true ∧ (∀ i, i < m → td_b x i = false) ∧ (∀ i, td_b (x &&& (x - 1)) i = (td_b x i && !decide (i = m))) ∧ (∀ i, td_b (x &&& (-x)) i = decide (i = m)) := by
  have hn : x.toBitVec.toNat ≠ 0 := fun e => h (Int32.toBitVec_inj.mp (BitVec.eq_of_toNat_eq e))
  obtain ⟨m, q, e⟩ := td_natlow _ hn
  have lt := x.toBitVec.isLt
  have hm : m < 32 := by
    rcases Nat.lt_or_ge m 32 with g | g
    · exact g
    · have : 2 ^ 32 ≤ 2 ^ m := Nat.pow_le_pow_right (by decide) g
      have : 2 ^ m * 1 ≤ 2 ^ m * (2 * q + 1) := Nat.mul_le_mul_left _ (by omega)
      omega
  have pp : 0 < 2 ^ m := Nat.two_pow_pos m
  have bx : ∀ i, td_b x i = if i < m then false else (2 * q + 1).testBit (i - m) := by
    intro i
    show x.toBitVec.toNat.testBit i = _
    rw [e]
    have := Nat.testBit_two_pow_mul_add (2 * q + 1) (b := 0) pp i
    rw [Nat.add_zero] at this
    rw [this, Nat.zero_testBit]
  have sx : (x - 1).toBitVec.toNat = 2 ^ m * (2 * q) + (2 ^ m - 1) := by
    have : (x - 1).toBitVec = x.toBitVec - 1#32 := rfl
    rw [this, BitVec.toNat_sub]
    have e' : x.toBitVec.toNat = 2 ^ m * (2 * q) + 2 ^ m := by rw [e, Nat.mul_add, Nat.mul_one]
    have o1 : (1#32).toNat = 1 := rfl
    rw [o1]
    omega
  have b1 : ∀ i, td_b (x - 1) i = if i < m then true else (2 * q).testBit (i - m) := by
    intro i
    show (x - 1).toBitVec.toNat.testBit i = _
    rw [sx, Nat.testBit_two_pow_mul_add (2 * q) (by omega) i]
    by_cases g : i < m
    · rw [if_pos g, if_pos g, Nat.testBit_two_pow_sub_one, decide_eq_true g]
    · rw [if_neg g, if_neg g]
  have nx : ∀ i, i < 32 → td_b (-x) i = !td_b (x - 1) i := by
    intro i hi
    have : (-x).toBitVec = ~~~ (x - 1).toBitVec := by
      apply BitVec.eq_of_toNat_eq
      have e1 : (-x).toBitVec = - x.toBitVec := rfl
      rw [e1, BitVec.toNat_neg, BitVec.toNat_not, sx]
      have e' : x.toBitVec.toNat = 2 ^ m * (2 * q) + 2 ^ m := by rw [e, Nat.mul_add, Nat.mul_one]
      omega
    show (-x).toBitVec.getLsbD i = _
    rw [this, BitVec.getLsbD_not, decide_eq_true hi]
    rfl
  have t0 : (2 * q + 1).testBit 0 = true := by rw [Nat.testBit_zero]; exact decide_eq_true (by omega)
  have t1 : (2 * q).testBit 0 = false := by rw [Nat.testBit_zero]; exact decide_eq_false (by omega)
  have a1 : ∀ i, i < m → td_b x i = false := fun i hi => by rw [bx, if_pos hi]
  have am : td_b x m = true := by rw [bx, if_neg (by omega), Nat.sub_self, t0]
  have d1 : ∀ i, m < i → td_b (x - 1) i = td_b x i := fun i hi => by rw [bx, b1, if_neg (by omega), if_neg (by omega), td_tb1 q _ (by omega)]
  have dm : td_b (x - 1) m = false := by rw [b1, if_neg (by omega), Nat.sub_self, t1]
  refine ⟨m, hm, am, a1, fun i => ?_, fun i => ?_⟩
  · rw [td_and]
    rcases Nat.lt_trichotomy i m with g | g | g
    · rw [a1 i g]; rfl
    · rw [g, am, dm, decide_eq_true rfl]; rfl
    · rw [d1 i g, decide_eq_false (by omega)]; cases td_b x i <;> rfl
  · rw [td_and]
    rcases Nat.lt_trichotomy i m with g | g | g
    · rw [a1 i g, decide_eq_false (by omega)]; rfl
    · rw [g, am, nx m hm, dm, decide_eq_true rfl]; rfl
    · rw [decide_eq_false (by omega)]
      rcases Nat.lt_or_ge i 32 with z | z
      · rw [nx i z, d1 i g]; cases td_b x i <;> rfl
      · rw [td_big z]; rfl
end
section
/-! sums, greatest values, counts over a grid of 17 by 17 -/
def td_sm : Nat → (Nat → Nat) → Nat
  | 0, _ => 0
  | n + 1, f => td_sm n f + f n
theorem td_sm_s (n : Nat) (f : Nat → Nat) : td_sm (n + 1) f = td_sm n f + f n := rfl
theorem td_sm_congr {n : Nat} {f g : Nat → Nat} (h : ∀ i, i < n → f i = g i) : td_sm n f = td_sm n g := by
  induction n with
  | zero => rfl
  | succ n ih => rw [td_sm_s, td_sm_s, ih (fun i hi => h i (by omega)), h n (by omega)]
theorem td_sm_0 (n : Nat) : td_sm n (fun _ => 0) = 0 := by
  induction n with
  | zero => rfl
  | succ n ih => rw [td_sm_s, ih]
theorem td_sm_add (n : Nat) (f g : Nat → Nat) : td_sm n (fun i => f i + g i) = td_sm n f + td_sm n g := by
  induction n with
  | zero => rfl
  | succ n ih => rw [td_sm_s, td_sm_s, td_sm_s, ih]; omega
theorem td_sm_swap (n m : Nat) (f : Nat → Nat → Nat) : td_sm n (fun i => td_sm m (fun j => f i j)) = td_sm m (fun j => td_sm n (fun i => f i j)) := by
  induction n with
  | zero => exact (td_sm_0 m).symm
  | succ n ih => rw [td_sm_s, ih, ← td_sm_add]; rfl
theorem td_sm_head (n : Nat) (f : Nat → Nat) : td_sm (n + 1) f = f 0 + td_sm n (fun i => f (i + 1)) := by
  induction n with
  | zero => rw [td_sm_s]; show 0 + f 0 = f 0 + 0; omega
  | succ n ih => rw [td_sm_s, ih, td_sm_s]; omega
theorem td_sm_rev (n : Nat) (f : Nat → Nat) : td_sm n (fun i => f (n - 1 - i)) = td_sm n f := by
  induction n generalizing f with
  | zero => rfl
  | succ n ih =>
    rw [td_sm_head n, td_sm_s]
    have e : td_sm n (fun i => f (n + 1 - 1 - (i + 1))) = td_sm n f := by
      rw [← ih f]
      exact td_sm_congr (fun i hi => by congr 1; omega)
    rw [e]
    show f (n + 1 - 1 - 0) + _ = _
    rw [show n + 1 - 1 - 0 = n by omega]
    omega
theorem td_sm_le {n : Nat} {f g : Nat → Nat} (h : ∀ i, i < n → f i ≤ g i) : td_sm n f ≤ td_sm n g := by
  induction n with
  | zero => exact Nat.le_refl 0
  | succ n ih => have := ih (fun i hi => h i (by omega)); have := h n (by omega); rw [td_sm_s, td_sm_s]; omega
theorem td_sm_lt {n : Nat} {f g : Nat → Nat} (h : ∀ i, i < n → f i ≤ g i) {k : Nat} (hk : k < n) (hlt : f k < g k) : td_sm n f < td_sm n g := by
  induction n with
  | zero => omega
  | succ n ih =>
    rw [td_sm_s, td_sm_s]
    have z := h n (by omega)
    by_cases e : k = n
    · subst e
      have := td_sm_le (fun i (hi : i < k) => h i (by omega))
      omega
    · have := ih (fun i hi => h i (by omega)) (by omega)
      omega
theorem td_sm_c (n c : Nat) : td_sm n (fun _ => c) = n * c := by
  induction n with
  | zero => show 0 = 0 * c; omega
  | succ n ih => rw [td_sm_s, ih, Nat.succ_mul]
/-- one place less -/
theorem td_sm_one {n m : Nat} {f g : Nat → Nat} (hm : m < n) (h : ∀ i, i < n → i ≠ m → f i = g i) (e : g m = f m + 1) : td_sm n g = td_sm n f + 1 := by
  induction n with
  | zero => omega
  | succ n ih =>
    rw [td_sm_s, td_sm_s]
    by_cases z : m = n
    · subst z
      rw [td_sm_congr (fun i (hi : i < m) => h i (by omega) (by omega)), e]; omega
    · rw [ih (by omega) (fun i hi => h i (by omega)), h n (by omega) (by omega)]; omega
/-! the greatest -/
def td_mx : Nat → (Nat → Nat) → Nat
  | 0, _ => 0
  | n + 1, f => max (td_mx n f) (f n)
theorem td_mx_s (n : Nat) (f : Nat → Nat) : td_mx (n + 1) f = max (td_mx n f) (f n) := rfl
theorem td_mx_le {n : Nat} {f : Nat → Nat} {b : Nat} : td_mx n f ≤ b ↔ ∀ i, i < n → f i ≤ b := by
  induction n with
  | zero => exact ⟨fun _ i hi => absurd hi (by omega), fun _ => Nat.zero_le b⟩
  | succ n ih =>
    rw [td_mx_s]
    constructor
    · intro h i hi
      have h1 : td_mx n f ≤ b := by omega
      by_cases e : i = n
      · subst e; omega
      · exact ih.mp h1 i (by omega)
    · intro h
      have h1 := ih.mpr (fun i hi => h i (by omega))
      have h2 := h n (by omega)
      omega
theorem td_mx_swap (n m : Nat) (f : Nat → Nat → Nat) : td_mx n (fun i => td_mx m (fun j => f i j)) = td_mx m (fun j => td_mx n (fun i => f i j)) := by
  apply Nat.le_antisymm
  · refine td_mx_le.mpr (fun i hi => td_mx_le.mpr (fun j hj => ?_))
    exact td_mx_le.mp (td_mx_le.mp (Nat.le_refl (td_mx m (fun j => td_mx n (fun i => f i j)))) j hj) i hi
  · refine td_mx_le.mpr (fun i hi => td_mx_le.mpr (fun j hj => ?_))
    exact td_mx_le.mp (td_mx_le.mp (Nat.le_refl (td_mx n (fun i => td_mx m (fun j => f i j)))) j hj) i hi
theorem td_mx_congr {n : Nat} {f g : Nat → Nat} (h : ∀ i, i < n → f i = g i) : td_mx n f = td_mx n g := by
  induction n with
  | zero => rfl
  | succ n ih => rw [td_mx_s, td_mx_s, ih (fun i hi => h i (by omega)), h n (by omega)]
theorem td_mx_eq {n : Nat} {f : Nat → Nat} {b : Nat} (h : ∀ i, i < n → f i ≤ b) (e : b = 0 ∨ ∃ i, i < n ∧ f i = b) : td_mx n f = b := by
  apply Nat.le_antisymm (td_mx_le.mpr h)
  rcases e with e | ⟨i, hi, e⟩
  · omega
  · have := td_mx_le.mp (Nat.le_refl (td_mx n f)) i hi
    omega
/-! some, all -/
def td_any : Nat → (Nat → Bool) → Bool
  | 0, _ => false
  | n + 1, p => td_any n p || p n
theorem td_any_iff {n : Nat} {p : Nat → Bool} : td_any n p = true ↔ ∃ i, i < n ∧ p i = true := by
  induction n with
  | zero => exact ⟨fun h => absurd (show false = true from h) (by decide), fun ⟨i, hi, _⟩ => absurd hi (by omega)⟩
  | succ n ih =>
    show (td_any n p || p n) = true ↔ _
    rw [Bool.or_eq_true, ih]
    constructor
    · rintro (⟨i, hi, h⟩ | h)
      · exact ⟨i, by omega, h⟩
      · exact ⟨n, by omega, h⟩
    · rintro ⟨i, hi, h⟩
      by_cases e : i = n
      · subst e; exact Or.inr h
      · exact Or.inl ⟨i, by omega, h⟩
theorem td_beq {a b : Bool} (h : a = true ↔ b = true) : a = b := by
  cases a <;> cases b <;> simp_all
/-! how many elements -/
def td_pn (f : Nat → Bool) : Nat := td_sm 17 (fun i => (f i).toNat)
def td_cnt (g : Nat → Nat → Bool) : Nat := td_sm 17 (fun j => td_pn (g j))
theorem td_cnt_tr (g : Nat → Nat → Bool) : td_cnt (fun j i => g i j) = td_cnt g := td_sm_swap 17 17 (fun j i => (g i j).toNat)
theorem td_cnt_congr {g h : Nat → Nat → Bool} (e : ∀ j i, j < 17 → i < 17 → g j i = h j i) : td_cnt g = td_cnt h :=
  td_sm_congr (fun j hj => td_sm_congr (fun i hi => by rw [e j i hj hi]))
theorem td_tn_le {a b : Bool} (h : a = true → b = true) : a.toNat ≤ b.toNat := by
  cases a <;> cases b <;> simp_all
theorem td_pn_le (f : Nat → Bool) : td_pn f ≤ 17 := by
  have : td_pn f ≤ td_sm 17 (fun _ => 1) := td_sm_le (fun i _ => by cases f i <;> decide)
  rw [td_sm_c] at this
  exact this
theorem td_pn_0 {f : Nat → Bool} (h : td_pn f = 0) : ∀ i, i < 17 → f i = false := by
  intro i hi
  cases e : f i with
  | false => rfl
  | true =>
    have : td_sm 17 (fun _ => 0) < td_pn f := td_sm_lt (fun i _ => Nat.zero_le _) hi (by show 0 < (f i).toNat; rw [e]; decide)
    rw [td_sm_0] at this
    omega
theorem td_cnt_le (g : Nat → Nat → Bool) : td_cnt g ≤ 289 := by
  have : td_cnt g ≤ td_sm 17 (fun _ => 17) := td_sm_le (fun j _ => td_pn_le (g j))
  rw [td_sm_c] at this
  exact this
theorem td_cnt_mono {g h : Nat → Nat → Bool} (e : ∀ j i, j < 17 → i < 17 → g j i = true → h j i = true) : td_cnt g ≤ td_cnt h :=
  td_sm_le (fun j hj => td_sm_le (fun i hi => td_tn_le (e j i hj hi)))
theorem td_cnt_lt {g h : Nat → Nat → Bool} (e : ∀ j i, j < 17 → i < 17 → g j i = true → h j i = true) {j i : Nat} (hj : j < 17) (hi : i < 17) (h0 : g j i = false) (h1 : h j i = true) : td_cnt g < td_cnt h :=
  td_sm_lt (fun j hj => td_sm_le (fun i hi => td_tn_le (e j i hj hi))) hj (td_sm_lt (fun i hi => td_tn_le (e j i hj hi)) hi (by show (g j i).toNat < (h j i).toNat; rw [h0, h1]; decide))
theorem td_cnt_0 {g : Nat → Nat → Bool} (h : td_cnt g = 0) : ∀ j i, j < 17 → i < 17 → g j i = false := by
  intro j i hj hi
  cases e : g j i with
  | false => rfl
  | true =>
    have : td_cnt (fun _ _ => false) < td_cnt g := td_cnt_lt (fun _ _ _ _ z => absurd z (by decide)) hj hi rfl e
    omega
end
section
/-! what can be come to over the grid; pieces -/
def td_adj (j i j' i' : Nat) : Prop := (j = j' ∧ (i = i' + 1 ∨ i' = i + 1)) ∨ (i = i' ∧ (j = j' + 1 ∨ j' = j + 1))
theorem td_adj_sym {j i j' i' : Nat} (h : td_adj j i j' i') : td_adj j' i' j i := by
  unfold td_adj at *; omega
theorem td_adj_tr {j i j' i' : Nat} (h : td_adj j i j' i') : td_adj i j i' j' := by
  unfold td_adj at *; omega
def td_cl (g : Nat → Nat → Bool) (S : Nat → Nat → Prop) : Prop := ∀ j i j' i', S j i → td_adj j i j' i' → g j' i' = true → S j' i'
/-- in every closed set over the start -/
def td_rc (g s : Nat → Nat → Bool) (j i : Nat) : Prop := ∀ S : Nat → Nat → Prop, (∀ j i, s j i = true → S j i) → td_cl g S → S j i
theorem td_rc_tr1 {g s : Nat → Nat → Bool} {j i : Nat} (h : td_rc g s i j) : td_rc (fun j i => g i j) (fun j i => s i j) j i :=
  fun S hs hc => h (fun j i => S i j) (fun j i e => hs i j e) (fun j i j' i' a b c => hc i j i' j' a (td_adj_tr b) c)
theorem td_rc_tr {g s : Nat → Nat → Bool} {j i : Nat} : td_rc (fun j i => g i j) (fun j i => s i j) j i ↔ td_rc g s i j :=
  ⟨fun h => td_rc_tr1 h, fun h => td_rc_tr1 h⟩
noncomputable def td_rb (g s : Nat → Nat → Bool) (j i : Nat) : Bool := @decide (td_rc g s j i) (Classical.propDecidable _)
theorem td_rb_iff {g s : Nat → Nat → Bool} {j i : Nat} : td_rb g s j i = true ↔ td_rc g s j i := by
  unfold td_rb
  exact @decide_eq_true_iff _ (Classical.propDecidable _)
theorem td_rb_tr (g s : Nat → Nat → Bool) (j i : Nat) : td_rb (fun j i => g i j) (fun j i => s i j) j i = td_rb g s i j :=
  td_beq (by rw [td_rb_iff, td_rb_iff]; exact td_rc_tr)
theorem td_rc_start {g s : Nat → Nat → Bool} {j i : Nat} (h : s j i = true) : td_rc g s j i := fun S hs _ => hs j i h
theorem td_rc_step {g s : Nat → Nat → Bool} {j i j' i' : Nat} (h : td_rc g s j i) (a : td_adj j i j' i') (b : g j' i' = true) : td_rc g s j' i' :=
  fun S hs hc => hc j i j' i' (h S hs hc) a b
theorem td_rc_in {g s : Nat → Nat → Bool} {j i : Nat} (hs : ∀ j i, s j i = true → g j i = true) (h : td_rc g s j i) : g j i = true :=
  h (fun j i => g j i = true) hs (fun _ _ _ _ _ _ c => c)
/-! connected -/
def td_pt (a b : Nat) : Nat → Nat → Bool := fun j i => decide (j = a) && decide (i = b)
theorem td_pt_iff {a b j i : Nat} : td_pt a b j i = true ↔ j = a ∧ i = b := by
  unfold td_pt; rw [Bool.and_eq_true, decide_eq_true_iff, decide_eq_true_iff]
def td_cn (g : Nat → Nat → Bool) (p q : Nat × Nat) : Prop := td_rc g (td_pt p.1 p.2) q.1 q.2
theorem td_cn_refl (g : Nat → Nat → Bool) (p : Nat × Nat) : td_cn g p p := td_rc_start (td_pt_iff.mpr ⟨rfl, rfl⟩)
theorem td_cn_trans {g : Nat → Nat → Bool} {p q r : Nat × Nat} (h1 : td_cn g p q) (h2 : td_cn g q r) : td_cn g p r :=
  fun S hs hc => h2 S (fun j i e => by
    obtain ⟨rfl, rfl⟩ := td_pt_iff.mp e
    exact h1 S hs hc) hc
theorem td_cn_step {g : Nat → Nat → Bool} {p : Nat × Nat} {j i j' i' : Nat} (h : td_cn g p (j, i)) (a : td_adj j i j' i') (b : g j' i' = true) : td_cn g p (j', i') := td_rc_step h a b
theorem td_cn_in {g : Nat → Nat → Bool} {p q : Nat × Nat} (hp : g p.1 p.2 = true) (h : td_cn g p q) : g q.1 q.2 = true :=
  td_rc_in (fun j i e => by obtain ⟨rfl, rfl⟩ := td_pt_iff.mp e; exact hp) h
theorem td_cn_symm {g : Nat → Nat → Bool} {p q : Nat × Nat} (hp : g p.1 p.2 = true) (h : td_cn g p q) : td_cn g q p := by
  have := h (fun j i => g j i = true ∧ td_cn g (j, i) p) (fun j i e => by
    obtain ⟨rfl, rfl⟩ := td_pt_iff.mp e
    exact ⟨hp, td_cn_refl g p⟩) (fun j i j' i' a b c => ⟨c, td_cn_trans (td_cn_step (td_cn_refl g (j', i')) (td_adj_sym b) a.1) a.2⟩)
  exact this.2
/-! a list of one element of each piece -/
def td_tv (g : Nat → Nat → Bool) (N : Nat) : Prop := ∃ l : List (Nat × Nat), l.length = N ∧ (∀ p, p ∈ l → g p.1 p.2 = true) ∧ l.Pairwise (fun p q => ¬ td_cn g p q) ∧ ∀ j i, g j i = true → ∃ p, p ∈ l ∧ td_cn g p (j, i)
theorem td_tv_le {g : Nat → Nat → Bool} (l1 : List (Nat × Nat)) : ∀ l2 : List (Nat × Nat), (∀ p, p ∈ l1 → g p.1 p.2 = true) → l1.Pairwise (fun p q => ¬ td_cn g p q) → (∀ p, p ∈ l1 → ∃ q, q ∈ l2 ∧ g q.1 q.2 = true ∧ td_cn g q p) → l1.length ≤ l2.length := by
  induction l1 with
  | nil => intro l2 _ _ _; exact Nat.zero_le _
  | cons p t ih =>
    intro l2 h1 h2 h3
    obtain ⟨q, hq, gq, cq⟩ := h3 p (List.mem_cons_self ..)
    have h2' := List.pairwise_cons.mp h2
    have := ih (l2.erase q) (fun x hx => h1 x (List.mem_cons_of_mem _ hx)) h2'.2 (fun x hx => by
      obtain ⟨q', hq', gq', cq'⟩ := h3 x (List.mem_cons_of_mem _ hx)
      refine ⟨q', ?_, gq', cq'⟩
      have ne : q' ≠ q := by
        intro e
        subst e
        exact h2'.1 x hx (td_cn_trans (td_cn_symm gq cq) cq')
      exact (List.mem_erase_of_ne ne).mpr hq')
    rw [List.length_erase_of_mem hq] at this
    have : 0 < l2.length := List.length_pos_of_mem hq
    rw [List.length_cons]
    omega
theorem td_tv_unique {g : Nat → Nat → Bool} {N M : Nat} (h : td_tv g N) (h' : td_tv g M) : N = M := by
  obtain ⟨l, e, a, b, c⟩ := h
  obtain ⟨l', e', a', b', c'⟩ := h'
  have k1 := td_tv_le l l' a b (fun p hp => by
    obtain ⟨q, hq, z⟩ := c' p.1 p.2 (a p hp)
    exact ⟨q, hq, a' q hq, z⟩)
  have k2 := td_tv_le l' l a' b' (fun p hp => by
    obtain ⟨q, hq, z⟩ := c p.1 p.2 (a' p hp)
    exact ⟨q, hq, a q hq, z⟩)
  omega
theorem td_tv_tr {g : Nat → Nat → Bool} {N : Nat} (h : td_tv g N) : td_tv (fun j i => g i j) N := by
  obtain ⟨l, e, a, b, c⟩ := h
  have sw : ∀ p q : Nat × Nat, td_cn g p q → td_cn (fun j i => g i j) (p.2, p.1) (q.2, q.1) := by
    intro p q z
    have := td_rc_tr1 (g := g) (s := td_pt p.1 p.2) (j := q.2) (i := q.1) z
    refine fun S hs hc => this S (fun j i e => hs j i ?_) hc
    obtain ⟨h1, h2⟩ := td_pt_iff.mp e
    exact td_pt_iff.mpr ⟨h2, h1⟩
  have sw' : ∀ p q : Nat × Nat, td_cn (fun j i => g i j) (p.2, p.1) (q.2, q.1) → td_cn g p q := by
    intro p q z
    have := td_rc_tr1 (g := fun j i => g i j) (s := td_pt p.2 p.1) (j := q.1) (i := q.2) z
    refine fun S hs hc => this S (fun j i e => hs j i ?_) hc
    obtain ⟨h1, h2⟩ := td_pt_iff.mp e
    exact td_pt_iff.mpr ⟨h2, h1⟩
  refine ⟨l.map (fun p => (p.2, p.1)), by rw [List.length_map]; exact e, fun p hp => ?_, ?_, fun j i hg => ?_⟩
  · obtain ⟨q, hq, rfl⟩ := List.mem_map.mp hp
    exact a q hq
  · rw [List.pairwise_map]
    exact b.imp (fun {p q} hn hc => hn (sw' p q hc))
  · obtain ⟨p, hp, z⟩ := c i j hg
    exact ⟨(p.2, p.1), List.mem_map.mpr ⟨p, hp, rfl⟩, sw p (i, j) z⟩
noncomputable def td_np (g : Nat → Nat → Bool) : Nat := @dite _ (∃ N, td_tv g N) (Classical.propDecidable _) (fun h => Classical.choose h) (fun _ => 0)
theorem td_np_eq {g : Nat → Nat → Bool} {N : Nat} (h : td_tv g N) : td_np g = N := by
  unfold td_np
  rw [dif_pos ⟨N, h⟩]
  exact td_tv_unique (Classical.choose_spec (⟨N, h⟩ : ∃ N, td_tv g N)) h
theorem td_np_tr (g : Nat → Nat → Bool) : td_np (fun j i => g i j) = td_np g := by
  by_cases h : ∃ N, td_tv g N
  · obtain ⟨N, h⟩ := h
    rw [td_np_eq h, td_np_eq (td_tv_tr h)]
  · have h' : ¬ ∃ N, td_tv (fun j i => g i j) N := fun ⟨N, z⟩ => h ⟨N, td_tv_tr z⟩
    unfold td_np
    rw [dif_neg h, dif_neg h']
/-! taking one piece away after another -/
def td_cp (g : Nat → Nat → Bool) (l : List (Nat × Nat)) (g' : Nat → Nat → Bool) : Prop :=
  (∀ p, p ∈ l → g p.1 p.2 = true) ∧ l.Pairwise (fun p q => ¬ td_cn g p q) ∧ ∀ j i, g' j i = true ↔ (g j i = true ∧ ∀ p, p ∈ l → ¬ td_cn g p (j, i))
theorem td_cp_0 (g : Nat → Nat → Bool) : td_cp g [] g :=
  ⟨fun p hp => absurd hp (List.not_mem_nil), List.Pairwise.nil, fun j i => ⟨fun h => ⟨h, fun p hp => absurd hp (List.not_mem_nil)⟩, fun h => h.1⟩⟩
theorem td_cp_step {g g' g'' : Nat → Nat → Bool} {l : List (Nat × Nat)} {a b : Nat} (h : td_cp g l g') (hab : g' a b = true)
    (e : ∀ j i, g'' j i = true ↔ (g' j i = true ∧ ¬ td_rc g' (td_pt a b) j i)) : td_cp g ((a, b) :: l) g'' := by
  obtain ⟨h1, h2, h3⟩ := h
  have gab := (h3 a b).mp hab
  have up : ∀ j i, td_rc g' (td_pt a b) j i → td_cn g (a, b) (j, i) := fun j i z S hs hc => z S hs (fun j i j' i' x y w => hc j i j' i' x y ((h3 j' i').mp w).1)
  have dn : ∀ j i, td_cn g (a, b) (j, i) → td_rc g' (td_pt a b) j i := fun j i z => (z (fun j i => g' j i = true ∧ td_rc g' (td_pt a b) j i)
    (fun j i e => by obtain ⟨rfl, rfl⟩ := td_pt_iff.mp e; exact ⟨hab, td_rc_start (td_pt_iff.mpr ⟨rfl, rfl⟩)⟩)
    (fun j i j' i' x y w => by
      have gx := (h3 j i).mp x.1
      have gy : g' j' i' = true := (h3 j' i').mpr ⟨w, fun p hp c => gx.2 p hp (td_cn_step c (td_adj_sym y) gx.1)⟩
      exact ⟨gy, td_rc_step x.2 y gy⟩)).2
  refine ⟨fun p hp => ?_, List.pairwise_cons.mpr ⟨fun q hq c => ?_, h2⟩, fun j i => ?_⟩
  · rcases List.mem_cons.mp hp with rfl | hp
    · exact gab.1
    · exact h1 p hp
  · exact gab.2 q hq (td_cn_symm gab.1 c)
  · rw [e, h3]
    constructor
    · rintro ⟨⟨x, y⟩, z⟩
      refine ⟨x, fun p hp c => ?_⟩
      rcases List.mem_cons.mp hp with rfl | hp
      · exact z (dn j i c)
      · exact y p hp c
    · rintro ⟨x, y⟩
      exact ⟨⟨x, fun p hp => y p (List.mem_cons_of_mem _ hp)⟩, fun c => y (a, b) (List.mem_cons_self ..) (up j i c)⟩
theorem td_cp_end {g g' : Nat → Nat → Bool} {l : List (Nat × Nat)} (h : td_cp g l g') (h0 : ∀ j i, g' j i = false) : td_np g = l.length := by
  obtain ⟨h1, h2, h3⟩ := h
  refine td_np_eq ⟨l, rfl, h1, h2, fun j i hg => ?_⟩
  refine Classical.byContradiction (fun z => ?_)
  have : g' j i = true := (h3 j i).mpr ⟨hg, fun p hp c => z ⟨p, hp, c⟩⟩
  rw [h0] at this
  exact absurd this (by decide)
end
section
/-! insides and rims of a shape, by its elements -/
/-- the row before -/
def td_dr (g : Nat → Nat → Bool) : Nat → Nat → Bool
  | 0 => fun _ => false
  | j + 1 => g j
def td_whole (u d : Nat → Bool) (i : Nat) : Bool := ((td_sh u i && u (i + 1)) && td_sh d i) && d (i + 1)
def td_some (u d : Nat → Bool) (i : Nat) : Bool := ((td_sh u i || u (i + 1)) || td_sh d i) || d (i + 1)
def td_par (g : Nat → Nat → Bool) (j i : Nat) : Bool := ((td_sh (g j) i ^^ g j (i + 1)) ^^ g (j + 1) i) ^^ td_dr g j i
def td_four (g : Nat → Nat → Bool) (j i : Nat) : Bool := ((td_sh (g j) i || g j (i + 1)) || g (j + 1) i) || td_dr g j i
def td_in (k : Nat) (g : Nat → Nat → Bool) (j i : Nat) : Bool :=
  if k = 3 then (if j % 2 = 1 then g j i || (td_sh (g j) i && g j (i + 1)) else (g (j + 1) i && td_dr g j i) || td_whole (g (j + 1)) (td_dr g j) i)
  else if k = 2 then (if j % 2 = 0 then g j i || (td_four g j i && !td_par g j i) else g j i)
  else g j i
def td_ri (k : Nat) (g : Nat → Nat → Bool) (j i : Nat) : Bool :=
  if k = 3 then (if j % 2 = 1 then td_sh (g j) i ^^ g j (i + 1) else (g (j + 1) i ^^ td_dr g j i) || (td_some (g (j + 1)) (td_dr g j) i && !td_whole (g (j + 1)) (td_dr g j) i))
  else if k = 2 then (if j % 2 = 0 then td_par g j i else false)
  else false
/-- which elements a shape of a kind may have -/
def td_el (k j i : Nat) : Prop := j < 17 ∧ i < 17 ∧ k ≠ 0 ∧ (k = 1 → j % 2 = 0 ∧ i % 2 = 0) ∧ (k = 2 → (j + i) % 2 = 1) ∧ (k = 3 → j % 2 = 1 ∧ i % 2 = 1)
def td_ok (k : Nat) (g : Nat → Nat → Bool) : Prop := k ≤ 3 ∧ ∀ j i, g j i = true → td_el k j i
def td_tr (g : Nat → Nat → Bool) : Nat → Nat → Bool := fun j i => g i j
theorem td_el_tr {k j i : Nat} (h : td_el k j i) : td_el k i j := by
  unfold td_el at *
  obtain ⟨a, b, c, d, e, f⟩ := h
  exact ⟨b, a, c, fun z => ⟨(d z).2, (d z).1⟩, fun z => by have := e z; omega, fun z => ⟨(f z).2, (f z).1⟩⟩
theorem td_ok_tr {k : Nat} {g : Nat → Nat → Bool} (h : td_ok k g) : td_ok k (td_tr g) := ⟨h.1, fun j i e => td_el_tr (h.2 i j e)⟩
theorem td_ok_f {k : Nat} {g : Nat → Nat → Bool} (h : td_ok k g) {j i : Nat} (n : ¬ td_el k j i) : g j i = false := by
  cases e : g j i with
  | false => rfl
  | true => exact absurd (h.2 j i e) n
theorem td_ok_3 {g : Nat → Nat → Bool} (h : td_ok 3 g) (j i : Nat) (n : ¬ (j % 2 = 1 ∧ i % 2 = 1 ∧ j < 17 ∧ i < 17)) : g j i = false :=
  td_ok_f h (fun e => n ⟨(e.2.2.2.2.2 rfl).1, (e.2.2.2.2.2 rfl).2, e.1, e.2.1⟩)
theorem td_ok_2 {g : Nat → Nat → Bool} (h : td_ok 2 g) (j i : Nat) (n : ¬ ((j + i) % 2 = 1 ∧ j < 17 ∧ i < 17)) : g j i = false :=
  td_ok_f h (fun e => n ⟨e.2.2.2.2.1 rfl, e.1, e.2.1⟩)
theorem td_ok_r {k : Nat} {g : Nat → Nat → Bool} (h : td_ok k g) (j i : Nat) (n : ¬ (j < 17 ∧ i < 17)) : g j i = false :=
  td_ok_f h (fun e => n ⟨e.1, e.2.1⟩)
theorem td_sh_dr (g : Nat → Nat → Bool) (j i : Nat) : td_sh (fun x => g x i) j = td_dr g j i := by cases j <;> rfl
theorem td_dr_tr (g : Nat → Nat → Bool) (j i : Nat) : td_dr (td_tr g) j i = td_sh (g i) j := by cases j <;> rfl
theorem td_sh_tr (g : Nat → Nat → Bool) (j i : Nat) : td_sh (td_tr g j) i = td_dr g i j := by cases i <;> rfl
theorem td_shdr_tr (g : Nat → Nat → Bool) (j i : Nat) : td_sh (td_dr (td_tr g) j) i = td_sh (td_dr g i) j := by cases i <;> cases j <;> rfl
theorem td_whole_tr (g : Nat → Nat → Bool) (j i : Nat) : td_whole (td_tr g (j + 1)) (td_dr (td_tr g) j) i = td_whole (g (i + 1)) (td_dr g i) j := by
  unfold td_whole
  rw [td_sh_tr, td_shdr_tr, td_dr_tr]
  show (((td_dr g i (j + 1) && g (i + 1) (j + 1)) && td_sh (td_dr g i) j) && td_sh (g (i + 1)) j) = _
  generalize td_dr g i (j + 1) = a; generalize g (i + 1) (j + 1) = b; generalize td_sh (td_dr g i) j = c; generalize td_sh (g (i + 1)) j = d
  revert a b c d; decide
theorem td_some_tr (g : Nat → Nat → Bool) (j i : Nat) : td_some (td_tr g (j + 1)) (td_dr (td_tr g) j) i = td_some (g (i + 1)) (td_dr g i) j := by
  unfold td_some
  rw [td_sh_tr, td_shdr_tr, td_dr_tr]
  show (((td_dr g i (j + 1) || g (i + 1) (j + 1)) || td_sh (td_dr g i) j) || td_sh (g (i + 1)) j) = _
  generalize td_dr g i (j + 1) = a; generalize g (i + 1) (j + 1) = b; generalize td_sh (td_dr g i) j = c; generalize td_sh (g (i + 1)) j = d
  revert a b c d; decide
theorem td_par_tr (g : Nat → Nat → Bool) (j i : Nat) : td_par (td_tr g) j i = td_par g i j := by
  unfold td_par
  rw [td_sh_tr, td_dr_tr]
  show (((td_dr g i j ^^ g (i + 1) j) ^^ g i (j + 1)) ^^ td_sh (g i) j) = _
  generalize td_dr g i j = a; generalize g (i + 1) j = b; generalize g i (j + 1) = c; generalize td_sh (g i) j = d
  revert a b c d; decide
theorem td_four_tr (g : Nat → Nat → Bool) (j i : Nat) : td_four (td_tr g) j i = td_four g i j := by
  unfold td_four
  rw [td_sh_tr, td_dr_tr]
  show (((td_dr g i j || g (i + 1) j) || g i (j + 1)) || td_sh (g i) j) = _
  generalize td_dr g i j = a; generalize g (i + 1) j = b; generalize g i (j + 1) = c; generalize td_sh (g i) j = d
  revert a b c d; decide
/-! nothing where the parity says so -/
theorem td_sh_f {f : Nat → Bool} {i : Nat} (h : ∀ n, i = n + 1 → f n = false) : td_sh f i = false := by
  cases i with
  | zero => rfl
  | succ n => exact h n rfl
theorem td_dr_f {g : Nat → Nat → Bool} {j i : Nat} (h : ∀ n, j = n + 1 → g n i = false) : td_dr g j i = false := by
  cases j with
  | zero => rfl
  | succ n => exact h n rfl
theorem td_whole_f {u d : Nat → Bool} {i : Nat} (h : u (i + 1) = false) : td_whole u d i = false := by
  unfold td_whole; rw [h, Bool.and_false]; rfl
theorem td_some_f {g : Nat → Nat → Bool} (h : td_ok 3 g) {j i : Nat} (n : ¬ (j % 2 = 0 ∧ i % 2 = 0 ∧ i < 17 ∧ j < 17)) : td_some (g (j + 1)) (td_dr g j) i = false := by
  unfold td_some
  have a1 : td_sh (g (j + 1)) i = false := td_sh_f (fun m e => td_ok_3 h _ _ (by omega))
  have a2 : g (j + 1) (i + 1) = false := td_ok_3 h _ _ (by omega)
  have a3 : td_sh (td_dr g j) i = false := td_sh_f (fun m e => td_dr_f (fun m' e' => td_ok_3 h _ _ (by omega)))
  have a4 : td_dr g j (i + 1) = false := td_dr_f (fun m' e' => td_ok_3 h _ _ (by omega))
  rw [a1, a2, a3, a4]; rfl
theorem td_four_f {g : Nat → Nat → Bool} (h : td_ok 2 g) {j i : Nat} (n : ¬ ((j + i) % 2 = 0 ∧ j < 18 ∧ i < 18)) : td_four g j i = false := by
  unfold td_four
  have a1 : td_sh (g j) i = false := td_sh_f (fun m e => td_ok_2 h _ _ (by omega))
  have a2 : g j (i + 1) = false := td_ok_2 h _ _ (by omega)
  have a3 : g (j + 1) i = false := td_ok_2 h _ _ (by omega)
  have a4 : td_dr g j i = false := td_dr_f (fun m' e' => td_ok_2 h _ _ (by omega))
  rw [a1, a2, a3, a4]; rfl
theorem td_par_f {g : Nat → Nat → Bool} (h : td_ok 2 g) {j i : Nat} (n : ¬ ((j + i) % 2 = 0 ∧ j < 18 ∧ i < 18)) : td_par g j i = false := by
  unfold td_par
  have a1 : td_sh (g j) i = false := td_sh_f (fun m e => td_ok_2 h _ _ (by omega))
  have a2 : g j (i + 1) = false := td_ok_2 h _ _ (by omega)
  have a3 : g (j + 1) i = false := td_ok_2 h _ _ (by omega)
  have a4 : td_dr g j i = false := td_dr_f (fun m' e' => td_ok_2 h _ _ (by omega))
  rw [a1, a2, a3, a4]; rfl
/-! the plain forms -/
theorem td_in_3o (g : Nat → Nat → Bool) {j : Nat} (i : Nat) (h : j % 2 = 1) : td_in 3 g j i = (g j i || (td_sh (g j) i && g j (i + 1))) := by
  unfold td_in; rw [if_pos rfl, if_pos h]
theorem td_in_3e (g : Nat → Nat → Bool) {j : Nat} (i : Nat) (h : ¬ j % 2 = 1) : td_in 3 g j i = ((g (j + 1) i && td_dr g j i) || td_whole (g (j + 1)) (td_dr g j) i) := by
  unfold td_in; rw [if_pos rfl, if_neg h]
theorem td_ri_3o (g : Nat → Nat → Bool) {j : Nat} (i : Nat) (h : j % 2 = 1) : td_ri 3 g j i = (td_sh (g j) i ^^ g j (i + 1)) := by
  unfold td_ri; rw [if_pos rfl, if_pos h]
theorem td_ri_3e (g : Nat → Nat → Bool) {j : Nat} (i : Nat) (h : ¬ j % 2 = 1) : td_ri 3 g j i = ((g (j + 1) i ^^ td_dr g j i) || (td_some (g (j + 1)) (td_dr g j) i && !td_whole (g (j + 1)) (td_dr g j) i)) := by
  unfold td_ri; rw [if_pos rfl, if_neg h]
theorem td_in_2e (g : Nat → Nat → Bool) {j : Nat} (i : Nat) (h : j % 2 = 0) : td_in 2 g j i = (g j i || (td_four g j i && !td_par g j i)) := by
  unfold td_in; rw [if_neg (by decide), if_pos rfl, if_pos h]
theorem td_in_2o (g : Nat → Nat → Bool) {j : Nat} (i : Nat) (h : ¬ j % 2 = 0) : td_in 2 g j i = g j i := by
  unfold td_in; rw [if_neg (by decide), if_pos rfl, if_neg h]
theorem td_ri_2e (g : Nat → Nat → Bool) {j : Nat} (i : Nat) (h : j % 2 = 0) : td_ri 2 g j i = td_par g j i := by
  unfold td_ri; rw [if_neg (by decide), if_pos rfl, if_pos h]
theorem td_ri_2o (g : Nat → Nat → Bool) {j : Nat} (i : Nat) (h : ¬ j % 2 = 0) : td_ri 2 g j i = false := by
  unfold td_ri; rw [if_neg (by decide), if_pos rfl, if_neg h]
theorem td_in_1 {k : Nat} (g : Nat → Nat → Bool) (j i : Nat) (h3 : ¬ k = 3) (h2 : ¬ k = 2) : td_in k g j i = g j i := by
  unfold td_in; rw [if_neg h3, if_neg h2]
theorem td_ri_1 {k : Nat} (g : Nat → Nat → Bool) (j i : Nat) (h3 : ¬ k = 3) (h2 : ¬ k = 2) : td_ri k g j i = false := by
  unfold td_ri; rw [if_neg h3, if_neg h2]
/-! turned over -/
theorem td_in_tr {k : Nat} {g : Nat → Nat → Bool} (h : td_ok k g) (j i : Nat) : td_in k (td_tr g) j i = td_in k g i j := by
  by_cases h3 : k = 3
  · subst h3
    by_cases pj : j % 2 = 1
    · by_cases pi : i % 2 = 1
      · rw [td_in_3o _ i pj, td_in_3o _ j pi]
        have a : td_tr g j (i + 1) = false := td_ok_3 h _ _ (by omega)
        have b : g i (j + 1) = false := td_ok_3 h _ _ (by omega)
        rw [a, b, Bool.and_false, Bool.and_false]; rfl
      · rw [td_in_3o _ i pj, td_in_3e _ j pi]
        have a : td_tr g j i = false := td_ok_3 h _ _ (by omega)
        have b : g (i + 1) (j + 1) = false := td_ok_3 h _ _ (by omega)
        rw [a, td_whole_f b, td_sh_tr, Bool.or_false, Bool.false_or]
        exact Bool.and_comm _ _
    · by_cases pi : i % 2 = 1
      · rw [td_in_3e _ i pj, td_in_3o _ j pi]
        have a : g i j = false := td_ok_3 h _ _ (by omega)
        have b : td_tr g (j + 1) (i + 1) = false := td_ok_3 h _ _ (by omega)
        rw [a, td_whole_f b, td_dr_tr, Bool.or_false, Bool.false_or]
        exact Bool.and_comm _ _
      · rw [td_in_3e _ i pj, td_in_3e _ j pi, td_whole_tr]
        have a : g (i + 1) j = false := td_ok_3 h _ _ (by omega)
        have b : td_tr g (j + 1) i = false := td_ok_3 h _ _ (by omega)
        rw [a, b]; rfl
  · by_cases h2 : k = 2
    · subst h2
      by_cases pj : j % 2 = 0
      · by_cases pi : i % 2 = 0
        · rw [td_in_2e _ i pj, td_in_2e _ j pi, td_four_tr, td_par_tr]; rfl
        · rw [td_in_2e _ i pj, td_in_2o _ j pi, td_four_tr, td_four_f h (by omega), Bool.false_and, Bool.or_false]; rfl
      · by_cases pi : i % 2 = 0
        · rw [td_in_2o _ i pj, td_in_2e _ j pi, td_four_f h (by omega), Bool.false_and, Bool.or_false]; rfl
        · rw [td_in_2o _ i pj, td_in_2o _ j pi]; rfl
    · rw [td_in_1 _ _ _ h3 h2, td_in_1 _ _ _ h3 h2]; rfl
theorem td_ri_tr {k : Nat} {g : Nat → Nat → Bool} (h : td_ok k g) (j i : Nat) : td_ri k (td_tr g) j i = td_ri k g i j := by
  by_cases h3 : k = 3
  · subst h3
    by_cases pj : j % 2 = 1
    · by_cases pi : i % 2 = 1
      · rw [td_ri_3o _ i pj, td_ri_3o _ j pi]
        have a : td_tr g j (i + 1) = false := td_ok_3 h _ _ (by omega)
        have b : g i (j + 1) = false := td_ok_3 h _ _ (by omega)
        have c : td_sh (td_tr g j) i = false := td_sh_f (fun m e => td_ok_3 h _ _ (by omega))
        have d : td_sh (g i) j = false := td_sh_f (fun m e => td_ok_3 h _ _ (by omega))
        rw [a, b, c, d]
      · rw [td_ri_3o _ i pj, td_ri_3e _ j pi]
        rw [td_some_f h (by omega), td_sh_tr, Bool.false_and, Bool.or_false]
        exact Bool.xor_comm _ _
    · by_cases pi : i % 2 = 1
      · rw [td_ri_3e _ i pj, td_ri_3o _ j pi, td_some_f (td_ok_tr h) (by omega), td_dr_tr, Bool.false_and, Bool.or_false]
        exact Bool.xor_comm _ _
      · rw [td_ri_3e _ i pj, td_ri_3e _ j pi, td_whole_tr, td_some_tr]
        have a : g (i + 1) j = false := td_ok_3 h _ _ (by omega)
        have b : td_tr g (j + 1) i = false := td_ok_3 h _ _ (by omega)
        have c : td_dr g i j = false := td_dr_f (fun m e => td_ok_3 h _ _ (by omega))
        have d : td_dr (td_tr g) j i = false := td_dr_f (fun m e => td_ok_3 h _ _ (by omega))
        rw [a, b, c, d]
  · by_cases h2 : k = 2
    · subst h2
      by_cases pj : j % 2 = 0
      · by_cases pi : i % 2 = 0
        · rw [td_ri_2e _ i pj, td_ri_2e _ j pi, td_par_tr]
        · rw [td_ri_2e _ i pj, td_ri_2o _ j pi, td_par_tr, td_par_f h (by omega)]
      · by_cases pi : i % 2 = 0
        · rw [td_ri_2o _ i pj, td_ri_2e _ j pi, td_par_f h (by omega)]
        · rw [td_ri_2o _ i pj, td_ri_2o _ j pi]
    · rw [td_ri_1 _ _ _ h3 h2, td_ri_1 _ _ _ h3 h2]
/-! within the grid -/
theorem td_in_lt {k : Nat} {g : Nat → Nat → Bool} (h : td_ok k g) (j : Nat) {i : Nat} (hi : 17 ≤ i) : td_in k g j i = false := by
  have z : g j i = false := td_ok_r h _ _ (by omega)
  have z1 : ∀ x, g x (i + 1) = false := fun x => td_ok_r h _ _ (by omega)
  by_cases h3 : k = 3
  · subst h3
    by_cases pj : j % 2 = 1
    · rw [td_in_3o _ i pj, z, z1, Bool.and_false]; rfl
    · rw [td_in_3e _ i pj, td_whole_f (z1 _), td_ok_r h (j + 1) i (by omega)]; rfl
  · by_cases h2 : k = 2
    · subst h2
      by_cases pj : j % 2 = 0
      · rw [td_in_2e _ i pj, z]
        by_cases e : i = 17
        · rw [td_four_f h (by omega)]; rfl
        · rw [td_four_f h (by omega)]; rfl
      · rw [td_in_2o _ i pj, z]
    · rw [td_in_1 _ _ _ h3 h2, z]
theorem td_ri_lt {k : Nat} {g : Nat → Nat → Bool} (h : td_ok k g) (j : Nat) {i : Nat} (hi : 17 ≤ i) : td_ri k g j i = false := by
  have z1 : ∀ x, g x (i + 1) = false := fun x => td_ok_r h _ _ (by omega)
  by_cases h3 : k = 3
  · subst h3
    by_cases pj : j % 2 = 1
    · have c : td_sh (g j) i = false := td_sh_f (fun m e => td_ok_3 h _ _ (by omega))
      rw [td_ri_3o _ i pj, c, z1]; rfl
    · have c : td_dr g j i = false := td_dr_f (fun m e => td_ok_3 h _ _ (by omega))
      rw [td_ri_3e _ i pj, td_some_f h (by omega), c, td_ok_r h (j + 1) i (by omega)]; rfl
  · by_cases h2 : k = 2
    · subst h2
      by_cases pj : j % 2 = 0
      · rw [td_ri_2e _ i pj, td_par_f h (by omega)]
      · rw [td_ri_2o _ i pj]
    · rw [td_ri_1 _ _ _ h3 h2]
theorem td_in_ltj {k : Nat} {g : Nat → Nat → Bool} (h : td_ok k g) {j : Nat} (i : Nat) (hj : 17 ≤ j) : td_in k g j i = false := by
  rw [← td_in_tr h]; exact td_in_lt (td_ok_tr h) i hj
theorem td_ri_ltj {k : Nat} {g : Nat → Nat → Bool} (h : td_ok k g) {j : Nat} (i : Nat) (hj : 17 ≤ j) : td_ri k g j i = false := by
  rw [← td_ri_tr h]; exact td_ri_lt (td_ok_tr h) i hj
/-! body, outside, parts -/
def td_bd (k : Nat) (g : Nat → Nat → Bool) (j i : Nat) : Bool := td_in k g j i || td_ri k g j i
def td_out (k : Nat) (g : Nat → Nat → Bool) (j i : Nat) : Bool := (decide (j < 17) && decide (i < 17)) && !td_bd k g j i
def td_part (k : Nat) (g : Nat → Nat → Bool) (p j i : Nat) : Bool := if p = 0 then td_in k g j i else if p = 1 then td_ri k g j i else td_out k g j i
theorem td_inF {k : Nat} {g : Nat → Nat → Bool} (h : td_ok k g) : td_in k (td_tr g) = td_tr (td_in k g) := funext (fun j => funext (fun i => td_in_tr h j i))
theorem td_riF {k : Nat} {g : Nat → Nat → Bool} (h : td_ok k g) : td_ri k (td_tr g) = td_tr (td_ri k g) := funext (fun j => funext (fun i => td_ri_tr h j i))
theorem td_bdF {k : Nat} {g : Nat → Nat → Bool} (h : td_ok k g) : td_bd k (td_tr g) = td_tr (td_bd k g) := funext (fun j => funext (fun i => by
  show (td_in k (td_tr g) j i || td_ri k (td_tr g) j i) = (td_in k g i j || td_ri k g i j)
  rw [td_in_tr h, td_ri_tr h]))
theorem td_outF {k : Nat} {g : Nat → Nat → Bool} (h : td_ok k g) : td_out k (td_tr g) = td_tr (td_out k g) := funext (fun j => funext (fun i => by
  show ((decide (j < 17) && decide (i < 17)) && !td_bd k (td_tr g) j i) = ((decide (i < 17) && decide (j < 17)) && !td_bd k g i j)
  rw [td_bdF h, Bool.and_comm (decide (j < 17))]; rfl))
theorem td_partF {k : Nat} {g : Nat → Nat → Bool} (h : td_ok k g) (p : Nat) : td_part k (td_tr g) p = td_tr (td_part k g p) := funext (fun j => funext (fun i => by
  show td_part k (td_tr g) p j i = td_part k g p i j
  unfold td_part
  rw [td_inF h, td_riF h, td_outF h]; rfl))
/-! the greatest dimension in common -/
def td_dm (A B : Nat → Nat → Bool) (j i : Nat) : Nat := if (A j i && B j i) = true then 1 + j % 2 + i % 2 else 0
def td_mt (A B : Nat → Nat → Bool) : Nat := td_mx 17 (fun j => td_mx 17 (fun i => td_dm A B j i))
theorem td_mt_tr (A B : Nat → Nat → Bool) : td_mt (td_tr A) (td_tr B) = td_mt A B := by
  unfold td_mt
  rw [td_mx_swap 17 17 (fun j i => td_dm A B j i)]
  refine td_mx_congr (fun j _ => td_mx_congr (fun i _ => ?_))
  show (if (A i j && B i j) = true then 1 + j % 2 + i % 2 else 0) = (if (A i j && B i j) = true then 1 + i % 2 + j % 2 else 0)
  by_cases c : (A i j && B i j) = true
  · rw [if_pos c, if_pos c]; omega
  · rw [if_neg c, if_neg c]
theorem td_mt_le (A B : Nat → Nat → Bool) : td_mt A B ≤ 3 := td_mx_le.mpr (fun j _ => td_mx_le.mpr (fun i _ => by
  unfold td_dm
  by_cases c : (A j i && B j i) = true
  · rw [if_pos c]; omega
  · rw [if_neg c]; omega))
def td_meet (k : Nat) (g : Nat → Nat → Bool) (k' : Nat) (g' : Nat → Nat → Bool) (p q : Nat) : Nat := if p = 2 ∧ q = 2 then 3 else td_mt (td_part k g p) (td_part k' g' q)
theorem td_meet_tr {k k' : Nat} {g g' : Nat → Nat → Bool} (h : td_ok k g) (h' : td_ok k' g') (p q : Nat) : td_meet k (td_tr g) k' (td_tr g') p q = td_meet k g k' g' p q := by
  unfold td_meet
  rw [td_partF h, td_partF h', td_mt_tr]
theorem td_meet_le (k : Nat) (g : Nat → Nat → Bool) (k' : Nat) (g' : Nat → Nat → Bool) (p q : Nat) : td_meet k g k' g' p q ≤ 3 := by
  unfold td_meet
  by_cases c : p = 2 ∧ q = 2
  · rw [if_pos c]; omega
  · rw [if_neg c]; exact td_mt_le _ _
def td_same (A B : Nat → Nat → Bool) : Prop := ∀ j, j < 17 → ∀ i, i < 17 → A j i = B j i
theorem td_same_tr (A B : Nat → Nat → Bool) : td_same (td_tr A) (td_tr B) ↔ td_same A B :=
  ⟨fun h j hj i hi => h i hi j hj, fun h j hj i hi => h i hi j hj⟩
/-! distances -/
def td_ma (A B : Nat → Nat → Bool) (a u : Nat) : Prop := ∃ j i j' i', j < 17 ∧ i < 17 ∧ j' < 17 ∧ i' < 17 ∧ j % 2 = 0 ∧ i % 2 = 0 ∧ A j i = true ∧ B j' i' = true ∧ (i = i' + 2 * a ∨ i' = i + 2 * a) ∧ (j = j' + 2 * u ∨ j' = j + 2 * u)
theorem td_ma_tr1 {A B : Nat → Nat → Bool} {a u : Nat} (h : td_ma A B u a) : td_ma (td_tr A) (td_tr B) a u := by
  obtain ⟨j, i, j', i', h1, h2, h3, h4, h5, h6, h7, h8, h9, h10⟩ := h
  exact ⟨i, j, i', j', h2, h1, h4, h3, h6, h5, h7, h8, h10, h9⟩
theorem td_ma_tr (A B : Nat → Nat → Bool) (a u : Nat) : td_ma (td_tr A) (td_tr B) a u ↔ td_ma A B u a := ⟨fun h => td_ma_tr1 h, fun h => td_ma_tr1 h⟩
def td_least (P : Nat → Nat → Prop) (R : Nat) : Prop := R ≤ 1000 ∧ (∀ a u, a ≤ 8 → u ≤ 8 → P a u → R ≤ a * a + u * u) ∧ (R = 1000 ∨ ∃ a u, a ≤ 8 ∧ u ≤ 8 ∧ P a u ∧ R = a * a + u * u)
theorem td_least_le {P : Nat → Nat → Prop} {R R' : Nat} (h : td_least P R) (h' : td_least P R') : R ≤ R' := by
  obtain ⟨a, b, c⟩ := h
  rcases h'.2.2 with e | ⟨x, y, hx, hy, p, e⟩
  · omega
  · have := b x y hx hy p; omega
theorem td_least_tr {P : Nat → Nat → Prop} {R : Nat} (h : td_least P R) : td_least (fun a u => P u a) R := by
  obtain ⟨a, b, c⟩ := h
  refine ⟨a, fun x y hx hy p => ?_, ?_⟩
  · have := b y x hy hx p; omega
  · rcases c with e | ⟨x, y, hx, hy, p, e⟩
    · exact Or.inl e
    · exact Or.inr ⟨y, x, hy, hx, p, by omega⟩
noncomputable def td_ls (P : Nat → Nat → Prop) : Nat := @dite _ (∃ R, td_least P R) (Classical.propDecidable _) (fun h => Classical.choose h) (fun _ => 0)
theorem td_ls_eq {P : Nat → Nat → Prop} {R : Nat} (h : td_least P R) : td_ls P = R := by
  unfold td_ls
  rw [dif_pos ⟨R, h⟩]
  have z := Classical.choose_spec (⟨R, h⟩ : ∃ R, td_least P R)
  exact Nat.le_antisymm (td_least_le z h) (td_least_le h z)
theorem td_ls_tr (P : Nat → Nat → Prop) : td_ls (fun a u => P u a) = td_ls P := by
  by_cases h : ∃ R, td_least P R
  · obtain ⟨R, h⟩ := h
    rw [td_ls_eq h, td_ls_eq (td_least_tr h)]
  · have h' : ¬ ∃ R, td_least (fun a u => P u a) R := fun ⟨R, z⟩ => h ⟨R, td_least_tr z⟩
    unfold td_ls
    rw [dif_neg h, dif_neg h']
noncomputable def td_ap (k : Nat) (g : Nat → Nat → Bool) (k' : Nat) (g' : Nat → Nat → Bool) : Nat := td_ls (td_ma (td_bd k g) (td_bd k' g'))
theorem td_ap_tr {k k' : Nat} {g g' : Nat → Nat → Bool} (h : td_ok k g) (h' : td_ok k' g') : td_ap k (td_tr g) k' (td_tr g') = td_ap k g k' g' := by
  unfold td_ap
  rw [td_bdF h, td_bdF h', ← td_ls_tr (td_ma (td_bd k g) (td_bd k' g'))]
  exact congrArg td_ls (funext (fun a => funext (fun u => propext (td_ma_tr _ _ a u))))
end
section
/-! walks of the small methods -/
theorem td_ix (s j : Nat) : (17 : Int32) * nI s + nI j = nI (17 * s + j) := by
  rw [show (17 : Int32) = nI 17 from rfl, pk_mul, nI_add]
theorem td_ixc {s j : Nat} (hs : s < 12) (hj : j < 17) : ((17 : Int32) * nI s + nI j).toNatClampNeg = 17 * s + j := by
  rw [td_ix]; exact nI_clamp (by omega)
theorem td_isSlot {post : Int32 → Prop} {s : Nat} (hs : s < 12) (h : post 1) : wpX_isSlot post () (nI s) :=
  br_f (nI_pos (by omega)) (br_f (nI_ge (b := 12) hs (by decide)) h)
theorem td_isVertex {post : Int32 → Prop} {s : Nat} (hs : s < 81) (h : post 1) : wpX_isVertex post () (nI s) :=
  br_f (nI_pos (by omega)) (br_f (nI_ge (b := 81) hs (by decide)) h)
theorem td_lesser {post : Int32 → Prop} {a b : Nat} (ha : a < 2 ^ 31) (hb : b < 2 ^ 31) (h : post (nI (min a b))) : wpX_lesser post () (nI a) (nI b) :=
  pk_le b a (fun z => by rw [Nat.min_eq_right z] at h; exact h) (fun z => by rw [Nat.min_eq_left (by omega)] at h; exact h)
theorem td_greater {post : Int32 → Prop} {a b : Nat} (ha : a < 2 ^ 31) (hb : b < 2 ^ 31) (h : post (nI (max a b))) : wpX_greater post () (nI a) (nI b) :=
  pk_le a b (fun z => by rw [Nat.max_eq_right z] at h; exact h) (fun z => by rw [Nat.max_eq_left (by omega)] at h; exact h)
theorem td_slot {post : Int32 → Prop} {s : Nat} (hs : s < 12) (h : post (nI (11 - s))) : wpL_slot post () (nI s) := by
  refine br_f (nI_pos (by omega)) (br_t (nI_le (b := 11) (by omega) (by decide)) ?_)
  have e : (11 : Int32) - nI s = nI (11 - s) := pk_sub (a := 11) (by omega)
  rw [e]; exact h
theorem td_turned {post : Int32 → Prop} {v : Nat} (hv : v < 81) (h : post (nI (9 * (v % 9) + v / 9))) : wpL_turned post () (nI v) := by
  refine br_f (nI_pos (by omega)) (br_t (nI_le (b := 80) (by omega) (by decide)) ⟨by decide, by decide, ?_⟩)
  have e1 : nI v - nI v / 9 * 9 = nI (v % 9) := pk_rem (d := 9) (by omega) (by decide) (by decide)
  have e2 : nI v / 9 = nI (v / 9) := pk_div (d := 9) (by omega) (by decide) (by decide)
  have e3 : (9 : Int32) * nI (v % 9) + nI (v / 9) = nI (9 * (v % 9) + v / 9) := by rw [show (9 : Int32) = nI 9 from rfl, pk_mul, nI_add]
  rw [e1, e2, e3]; exact h
/-! ones, count -/
theorem td_pn_step {f : Nat → Bool} {m : Nat} (hm : m < 17) (h : f m = true) : td_pn f = td_pn (fun i => f i && !decide (i = m)) + 1 := by
  unfold td_pn
  refine td_sm_one hm (fun i _ hn => ?_) ?_
  · dsimp only
    rw [decide_eq_false hn]; cases f i <;> rfl
  · dsimp only
    rw [h, decide_eq_true rfl]; rfl
theorem td_ones {post : Int32 → Prop} {w : Int32} (f : Nat → Bool) (hf : ∀ i, td_b w i = f i) (hw : ∀ i, 17 ≤ i → f i = false) (h : post (nI (td_pn f))) : wpX_ones post () w := by
  have ef : td_b w = f := funext hf
  subst ef
  have hN := td_pn_le (td_b w)
  refine pk_loop (fun n i s => wX_ones_6 post n (nI i) s (nI i)) (fun i s => td_lo s ∧ i + td_pn (td_b s) = td_pn (td_b w)) 17 0 w (by omega) ⟨hw, by omega⟩ ?_ ?_
  · intro n s hI
    refine pk_le 17 17 (fun _ => ?_) (fun z => absurd z (by omega))
    have e : td_pn (td_b w) = 17 := by omega
    rw [e] at h
    exact h
  · intro n i s hi hI hw'
    refine pk_le 17 i (fun z => absurd z (by omega)) (fun _ => br_c (fun e0 => ?_) (fun ne => ?_))
    · have : td_pn (td_b s) = 0 := by
        rw [e0]
        have : td_b 0 = fun _ => false := funext td_0
        rw [this]; rfl
      have e : td_pn (td_b w) = i := by omega
      rw [e] at h
      exact h
    · obtain ⟨m, hm, b1, b2, b3, _⟩ := td_low s ne
      have m17 : m < 17 := by
        rcases Nat.lt_or_ge m 17 with z | z
        · exact z
        · exact absurd (hI.1 m z) (by rw [b1]; decide)
      refine nm_e (nm_r (nI_1 i) (nm_r (nI_1 i) (hw' _ ⟨fun i hi => ?_, ?_⟩)))
      · rw [b3, hI.1 i hi]; rfl
      · have e := td_pn_step m17 b1
        rw [← funext b3] at e
        have := hI.2
        omega
theorem td_count {post : Int32 → Prop} {a1 a2 a3 a4 a5 a6 : Nat → Int32} {s : Nat} {g : Nat → Nat → Bool} (hs : s < 12) (hg : ∀ j, j < 17 → ∀ i, td_b (a2 (17 * s + j)) i = g j i)
    (hr : ∀ j i, 17 ≤ i → g j i = false) (h : post (nI (td_cnt g))) : wpX_count post (a1, a2, a3, a4, a5, a6) (nI s) := by
  refine pk_loop (σ := Unit) (fun n j _ => wX_count_4 post (nI s) a1 a2 a3 a4 a5 a6 n (nI (td_sm j (fun j => td_pn (g j)))) (nI j)) (fun _ _ => True) 17 0 () (by omega) trivial ?_ ?_
  · intro n _ _
    exact pk_le 17 17 (fun _ => h) (fun z => absurd z (by omega))
  · intro n j _ hj _ hw
    refine pk_le 17 j (fun z => absurd z (by omega)) (fun _ => ⟨pk_in (17 * s + j) 204 (by omega) (td_ix s j), ?_⟩)
    refine td_ones (g j) (fun i => ?_) (hr j) ?_
    · rw [td_ixc hs hj]; exact hg j hj i
    · exact nm_r (nI_add _ _) (nm_r (nI_1 j) (hw () trivial))
/-! rows -/
theorem td_rowAt {post : Int32 → Prop} {a1 a2 a3 a4 a5 a6 : Nat → Int32} {s j : Nat} {g : Nat → Nat → Bool} (hs : s < 12) (hg : ∀ j, j < 17 → ∀ i, td_b (a2 (17 * s + j)) i = g j i)
    (hr : ∀ j i, 17 ≤ j → g j i = false) (hj : j < 2 ^ 30) (h : ∀ w, (∀ i, td_b w i = g j i) → post w) : wpX_row post (a1, a2, a3, a4, a5, a6) (nI s) (nI j) := by
  refine br_f (nI_pos (by omega)) (pk_lt j 17 (fun z => ⟨pk_in (17 * s + j) 204 (by omega) (td_ix s j), ?_⟩) (fun z => h 0 (fun i => by rw [td_0, hr j i z])))
  rw [td_ixc hs z]
  exact h _ (hg j z)
theorem td_rowUp {post : Int32 → Prop} {a1 a2 a3 a4 a5 a6 : Nat → Int32} {s j : Nat} {g : Nat → Nat → Bool} (hs : s < 12) (hg : ∀ j, j < 17 → ∀ i, td_b (a2 (17 * s + j)) i = g j i)
    (hr : ∀ j i, 17 ≤ j → g j i = false) (hj : j < 17) (h : ∀ w, (∀ i, td_b w i = g (j + 1) i) → post w) : wpX_row post (a1, a2, a3, a4, a5, a6) (nI s) (nI j + 1) := by
  rw [nI_1]
  exact td_rowAt hs hg hr (by omega) h
theorem td_rowUp2 {post : Int32 → Prop} {a1 a2 a3 a4 a5 a6 : Nat → Int32} {s j : Nat} {g : Nat → Nat → Bool} (hs : s < 12) (hg : ∀ j, j < 17 → ∀ i, td_b (a2 (17 * s + j)) i = g j i)
    (hr : ∀ j i, 17 ≤ j → g j i = false) (hj : j < 17) (h : ∀ w, (∀ i, td_b w i = g (j + 2) i) → post w) : wpX_row post (a1, a2, a3, a4, a5, a6) (nI s) (nI j + 2) := by
  have e : nI j + 2 = nI (j + 2) := nI_add j 2
  rw [e]
  exact td_rowAt hs hg hr (by omega) h
theorem td_rowDn {post : Int32 → Prop} {a1 a2 a3 a4 a5 a6 : Nat → Int32} {s j : Nat} {g : Nat → Nat → Bool} (hs : s < 12) (hg : ∀ j, j < 17 → ∀ i, td_b (a2 (17 * s + j)) i = g j i)
    (hr : ∀ j i, 17 ≤ j → g j i = false) (hj : j < 17) (h : ∀ w, (∀ i, td_b w i = td_dr g j i) → post w) : wpX_row post (a1, a2, a3, a4, a5, a6) (nI s) (nI j - 1) := by
  cases j with
  | zero => exact br_t (by decide) (h 0 (fun i => td_0 i))
  | succ j =>
    rw [nI_pred]
    exact td_rowAt hs hg hr (by omega) h
theorem td_rowDn2 {post : Int32 → Prop} {a1 a2 a3 a4 a5 a6 : Nat → Int32} {s j : Nat} {g : Nat → Nat → Bool} (hs : s < 12) (hg : ∀ j, j < 17 → ∀ i, td_b (a2 (17 * s + j)) i = g j i)
    (hr : ∀ j i, 17 ≤ j → g j i = false) (hj : j < 17) (h : ∀ w, (∀ i, td_b w i = td_dr (td_dr g) j i) → post w) : wpX_row post (a1, a2, a3, a4, a5, a6) (nI s) (nI j - 2) := by
  match j with
  | 0 => exact br_t (by decide) (h 0 (fun i => td_0 i))
  | 1 => exact br_t (by decide) (h 0 (fun i => td_0 i))
  | j + 2 =>
    have e : nI (j + 2) - 2 = nI j := pk_sub (a := j + 2) (b := 2) (by omega)
    rw [e]
    exact td_rowAt hs hg hr (by omega) h
theorem td_rem2 {j : Nat} (hj : j < 2 ^ 30) : nI j - nI j / 2 * 2 = nI (j % 2) := pk_rem (d := 2) (by omega) (by decide) (by decide)
/-! lay -/
theorem td_lo_of {w : Int32} {f : Nat → Bool} (h : ∀ i, td_b w i = f i) (hf : ∀ i, 17 ≤ i → f i = false) : td_lo w := fun i hi => by rw [h, hf i hi]
theorem td_nw (x : Int32) (i : Nat) {y : Bool} (h : td_b x i = y) (c : Bool) (hc : c = true → i < 32) : (c && td_b (x ^^^ (-1)) i) = (c && !y) := by
  rw [td_not, h]
  cases c with
  | false => rfl
  | true => rw [decide_eq_true (hc rfl)]; rfl
theorem td_layArea {post : St1 → Prop} {a1 a2 a3 a4 a5 a6 : Nat → Int32} {s j at' : Nat} {g : Nat → Nat → Bool} (hs : s < 12) (hg : ∀ j, j < 17 → ∀ i, td_b (a2 (17 * s + j)) i = g j i) (ok : td_ok 3 g) (hj : j < 17) (hat : at' < 34)
    (h : ∀ v w, (∀ i, td_b v i = td_in 3 g j i) → (∀ i, td_b w i = td_ri 3 g j i) → post (a1, a2, upd a3 at' v, upd a4 at' w, a5, a6)) : wpX_layArea post (a1, a2, a3, a4, a5, a6) (nI s) (nI j) (nI at') := by
  have hr : ∀ j i, 17 ≤ j → g j i = false := fun j i z => td_ok_r ok _ _ (by omega)
  have hc : ∀ j i, 17 ≤ i → g j i = false := fun j i z => td_ok_r ok _ _ (by omega)
  have hd : ∀ j i, 17 ≤ i → td_dr g j i = false := fun j i z => td_dr_f (fun n _ => hc n i z)
  have ec : (nI at').toNatClampNeg = at' := nI_clamp (by omega)
  refine ⟨by decide, pk_eq (j % 2) 1 (fun z => ?_) (fun z => ?_) (td_rem2 (by omega))⟩
  · refine td_rowAt hs hg hr (by omega) (fun w hw => nm_e (nm_e ⟨pk_in at' 34 hat, nm_e ⟨pk_in at' 34 hat, nm_e ?_⟩⟩))
    have lw := td_lo_of hw (hc j)
    have ew : td_b w = g j := funext hw
    rw [ec]
    refine h _ _ (fun i => ?_) (fun i => ?_)
    · rw [td_in_3o g i z, td_or, td_and, td_shl1 lw, td_shr1 lw, ew]
    · rw [td_ri_3o g i z, td_xor, td_shl1 lw, td_shr1 lw, ew]
  · refine td_rowUp hs hg hr hj (fun u hu => td_rowDn hs hg hr hj (fun d hd' => nm_e (nm_e ⟨pk_in at' 34 hat, nm_e ⟨pk_in at' 34 hat, nm_e ?_⟩⟩)))
    have lu := td_lo_of hu (hc (j + 1))
    have ld := td_lo_of hd' (hd j)
    have eu : td_b u = g (j + 1) := funext hu
    have ed : td_b d = td_dr g j := funext hd'
    have wh : ∀ i, td_b ((((u <<< ((1 : Int32) &&& 31)) &&& (u >>> ((1 : Int32) &&& 31))) &&& (d <<< ((1 : Int32) &&& 31))) &&& (d >>> ((1 : Int32) &&& 31))) i = td_whole (g (j + 1)) (td_dr g j) i := fun i => by
      rw [td_and, td_and, td_and, td_shl1 lu, td_shr1 lu, td_shl1 ld, td_shr1 ld, eu, ed]; rfl
    have an : ∀ i, td_b ((((u <<< ((1 : Int32) &&& 31)) ||| (u >>> ((1 : Int32) &&& 31))) ||| (d <<< ((1 : Int32) &&& 31))) ||| (d >>> ((1 : Int32) &&& 31))) i = td_some (g (j + 1)) (td_dr g j) i := fun i => by
      rw [td_or, td_or, td_or, td_shl1 lu, td_shr1 lu, td_shl1 ld, td_shr1 ld, eu, ed]; rfl
    rw [ec]
    refine h _ _ (fun i => ?_) (fun i => ?_)
    · rw [td_in_3e g i z, td_or, td_and, wh, eu, ed]
    · rw [td_ri_3e g i z, td_or, td_xor, td_and, an, td_nw _ i (wh i) _ (fun c => ?_), eu, ed]
      rcases Nat.lt_or_ge i 32 with q | q
      · exact q
      · rw [td_some_f ok (by omega)] at c; exact absurd c (by decide)
theorem td_layLine {post : St1 → Prop} {a1 a2 a3 a4 a5 a6 : Nat → Int32} {s j at' : Nat} {g : Nat → Nat → Bool} (hs : s < 12) (hg : ∀ j, j < 17 → ∀ i, td_b (a2 (17 * s + j)) i = g j i) (ok : td_ok 2 g) (hj : j < 17) (hat : at' < 34)
    (h : ∀ a3' a4', (∀ i, td_b (a3' at') i = td_in 2 g j i) → (∀ i, td_b (a4' at') i = td_ri 2 g j i) → (∀ x, x ≠ at' → a3' x = a3 x ∧ a4' x = a4 x) → post (a1, a2, a3', a4', a5, a6)) : wpX_layLine post (a1, a2, a3, a4, a5, a6) (nI s) (nI j) (nI at') := by
  have hr : ∀ j i, 17 ≤ j → g j i = false := fun j i z => td_ok_r ok _ _ (by omega)
  have hc : ∀ j i, 17 ≤ i → g j i = false := fun j i z => td_ok_r ok _ _ (by omega)
  have hd : ∀ j i, 17 ≤ i → td_dr g j i = false := fun j i z => td_dr_f (fun n _ => hc n i z)
  have ec : (nI at').toNatClampNeg = at' := nI_clamp (by omega)
  unfold wpX_layLine
  dsimp only
  refine td_rowAt hs hg hr (by omega) (fun r hr' => ⟨pk_in at' 34 hat, nm_e ⟨pk_in at' 34 hat, nm_e ⟨by decide, pk_eq (j % 2) 0 (fun z => ?_) (fun z => ?_) (td_rem2 (by omega))⟩⟩⟩)
  · refine td_rowUp hs hg hr hj (fun u hu => td_rowDn hs hg hr hj (fun d hd' => nm_e (nm_e ⟨pk_in at' 34 hat, nm_e ⟨pk_in at' 34 hat, nm_e ?_⟩⟩)))
    have lr := td_lo_of hr' (hc j)
    have er : td_b r = g j := funext hr'
    have eu : td_b u = g (j + 1) := funext hu
    have ed : td_b d = td_dr g j := funext hd'
    have pr : ∀ i, td_b ((((r <<< ((1 : Int32) &&& 31)) ^^^ (r >>> ((1 : Int32) &&& 31))) ^^^ u) ^^^ d) i = td_par g j i := fun i => by
      rw [td_xor, td_xor, td_xor, td_shl1 lr, td_shr1 lr, er, eu, ed]; rfl
    have an : ∀ i, td_b ((((r <<< ((1 : Int32) &&& 31)) ||| (r >>> ((1 : Int32) &&& 31))) ||| u) ||| d) i = td_four g j i := fun i => by
      rw [td_or, td_or, td_or, td_shl1 lr, td_shr1 lr, er, eu, ed]; rfl
    rw [ec]
    refine h _ _ (fun i => ?_) (fun i => ?_) (fun x hx => ⟨by rw [pk_un hx, pk_un hx], by rw [pk_un hx, pk_un hx]⟩)
    · rw [pk_us, td_in_2e g i z, td_or, td_and, an, td_nw _ i (pr i) _ (fun c => ?_), er]
      rcases Nat.lt_or_ge i 32 with q | q
      · exact q
      · rw [td_four_f ok (by omega)] at c; exact absurd c (by decide)
    · rw [pk_us, td_ri_2e g i z, pr]
  · rw [ec]
    refine h _ _ (fun i => ?_) (fun i => ?_) (fun x hx => ⟨by rw [pk_un hx], by rw [pk_un hx]⟩)
    · rw [pk_us, td_in_2o g i z, hr']
    · rw [pk_us, td_ri_2o g i z, td_0]
def td_laid (a3 a4 : Nat → Int32) (w k : Nat) (g : Nat → Nat → Bool) : Prop := ∀ j, j < 17 → ∀ i, td_b (a3 (17 * w + j)) i = td_in k g j i ∧ td_b (a4 (17 * w + j)) i = td_ri k g j i
theorem td_lay {post : St1 → Prop} {a1 a2 a3 a4 a5 a6 : Nat → Int32} {s w k : Nat} {g : Nat → Nat → Bool} (hs : s < 12) (hw : w < 2) (hk : a1 s = nI k) (hg : ∀ j, j < 17 → ∀ i, td_b (a2 (17 * s + j)) i = g j i) (ok : td_ok k g)
    (h : ∀ a3' a4', td_laid a3' a4' w k g → (∀ x, (x < 17 * w ∨ 17 * w + 17 ≤ x) → a3' x = a3 x ∧ a4' x = a4 x) → post (a1, a2, a3', a4', a5, a6)) : wpX_lay post (a1, a2, a3, a4, a5, a6) (nI s) (nI w) := by
  have k3 := ok.1
  have es : (nI s).toNatClampNeg = s := nI_clamp (by omega)
  refine pk_loop (σ := (Nat → Int32) × (Nat → Int32)) (fun n j u => wX_lay_2 post (nI s) (nI w) n (nI j) a1 a2 u.1 u.2 a5 a6)
    (fun j u => (∀ j', j' < j → ∀ i, td_b (u.1 (17 * w + j')) i = td_in k g j' i ∧ td_b (u.2 (17 * w + j')) i = td_ri k g j' i) ∧ (∀ x, (x < 17 * w ∨ 17 * w + j ≤ x) → u.1 x = a3 x ∧ u.2 x = a4 x))
    17 0 (a3, a4) (by omega) ⟨fun j' z => absurd z (by omega), fun x _ => ⟨rfl, rfl⟩⟩ ?_ ?_
  · intro n u hI
    exact pk_le 17 17 (fun _ => h u.1 u.2 hI.1 hI.2) (fun z => absurd z (by omega))
  · intro n j u hj hI hn
    have step : ∀ a3' a4', (∀ i, td_b (a3' (17 * w + j)) i = td_in k g j i) → (∀ i, td_b (a4' (17 * w + j)) i = td_ri k g j i) → (∀ x, x ≠ 17 * w + j → a3' x = u.1 x ∧ a4' x = u.2 x) → wX_lay_2 post (nI s) (nI w) n (nI (j + 1)) a1 a2 a3' a4' a5 a6 := by
      intro a3' a4' h3 h4 hx
      refine hn (a3', a4') ⟨fun j' hj' i => ?_, fun x hx' => ?_⟩
      · by_cases e : j' = j
        · subst e; exact ⟨h3 i, h4 i⟩
        · have q := hx (17 * w + j') (by omega)
          show td_b (a3' (17 * w + j')) i = _ ∧ td_b (a4' (17 * w + j')) i = _
          rw [q.1, q.2]
          exact hI.1 j' (by omega) i
      · have q := hx x (by omega)
        show a3' x = _ ∧ a4' x = _
        rw [q.1, q.2]
        exact hI.2 x (by omega)
    have upx : ∀ v v' : Int32, (∀ x, x ≠ 17 * w + j → upd u.1 (17 * w + j) v x = u.1 x ∧ upd u.2 (17 * w + j) v' x = u.2 x) := fun v v' x hx => ⟨pk_un hx, pk_un hx⟩
    refine pk_le 17 j (fun z => absurd z (by omega)) (fun _ => nm_r (td_ix w j) ⟨pk_in s 12 hs, ?_⟩)
    rw [es, hk]
    refine pk_eq k 3 (fun z => ?_) (fun z => ⟨pk_in s 12 hs, pk_eq k 2 (fun z2 => ?_) (fun z2 => ?_)⟩)
    · subst z
      refine td_layArea hs hg ok hj (by omega) (fun v v' hv hv' => nm_r (nI_1 j) (step _ _ (fun i => by rw [pk_us]; exact hv i) (fun i => by rw [pk_us]; exact hv' i) (upx v v')))
    · subst z2
      exact td_layLine hs hg ok hj (by omega) (fun a3' a4' h3 h4 hx => nm_r (nI_1 j) (step a3' a4' h3 h4 hx))
    · refine ⟨pk_in (17 * s + j) 204 (by omega) (td_ix s j), pk_in (17 * w + j) 34 (by omega), nm_e ⟨pk_in (17 * w + j) 34 (by omega), nm_e (nm_r (nI_1 j) ?_)⟩⟩
      rw [td_ixc hs hj, nI_clamp (show 17 * w + j < 2 ^ 31 by omega)]
      refine step _ _ (fun i => ?_) (fun i => ?_) (upx _ _)
      · rw [pk_us, td_in_1 g j i z z2]; exact hg j hj i
      · rw [pk_us, td_ri_1 g j i z z2]; exact td_0 i
end
section
/-! body, parts, meeting -/
theorem td_body {post : Int32 → Prop} {a1 a2 a3 a4 a5 a6 : Nat → Int32} {x : Nat} (hx : x < 34) (h : post (a3 x ||| a4 x)) : wpX_body post (a1, a2, a3, a4, a5, a6) (nI x) := by
  refine ⟨pk_in x 34 hx, pk_in x 34 hx, ?_⟩
  rw [nI_clamp (show x < 2 ^ 31 by omega)]
  exact h
theorem td_bodyL {post : Int32 → Prop} {a1 a2 a3 a4 a5 a6 : Nat → Int32} {w j k : Nat} {g : Nat → Nat → Bool} (hw : w < 2) (hj : j < 17) (l : td_laid a3 a4 w k g) (h : ∀ v, (∀ i, td_b v i = td_bd k g j i) → post v) : wpX_body post (a1, a2, a3, a4, a5, a6) (nI (17 * w + j)) :=
  td_body (by omega) (h _ (fun i => by rw [td_or, (l j hj i).1, (l j hj i).2]; rfl))
theorem td_outW {a3 a4 : Nat → Int32} {w j k : Nat} {g : Nat → Nat → Bool} (hj : j < 17) (l : td_laid a3 a4 w k g) (i : Nat) : td_b (131071 &&& ((a3 (17 * w + j) ||| a4 (17 * w + j)) ^^^ (-1))) i = td_out k g j i := by
  have e : td_b (a3 (17 * w + j) ||| a4 (17 * w + j)) i = td_bd k g j i := by rw [td_or, (l j hj i).1, (l j hj i).2]; rfl
  rw [td_and, td_ALL, td_nw _ i e _ (fun c => by have := of_decide_eq_true c; omega)]
  unfold td_out
  rw [decide_eq_true hj]; rfl
theorem td_outside {post : Int32 → Prop} {a1 a2 a3 a4 a5 a6 : Nat → Int32} {w j k : Nat} {g : Nat → Nat → Bool} (hw : w < 2) (hj : j < 17) (l : td_laid a3 a4 w k g) (h : ∀ v, (∀ i, td_b v i = td_out k g j i) → post v) : wpX_outside post (a1, a2, a3, a4, a5, a6) (nI (17 * w + j)) := by
  unfold wpX_outside
  dsimp only
  exact td_body (by omega) (h _ (fun i => td_outW hj l i))
theorem td_partOf {post : Int32 → Prop} {a1 a2 a3 a4 a5 a6 : Nat → Int32} {w p j k : Nat} {g : Nat → Nat → Bool} (hw : w < 2) (hp : p ≤ 2) (hj : j < 17) (l : td_laid a3 a4 w k g) (h : ∀ v, (∀ i, td_b v i = td_part k g p j i) → post v) : wpX_partOf post (a1, a2, a3, a4, a5, a6) (nI w) (nI p) (nI j) := by
  have ec : (nI (17 * w + j)).toNatClampNeg = 17 * w + j := nI_clamp (by omega)
  refine nm_r (td_ix w j) (pk_eq p 0 (fun z => ⟨pk_in (17 * w + j) 34 (by omega), ?_⟩) (fun z => pk_eq p 1 (fun z1 => ⟨pk_in (17 * w + j) 34 (by omega), ?_⟩) (fun z1 => ?_)))
  · rw [ec]
    exact h _ (fun i => by unfold td_part; rw [if_pos z]; exact (l j hj i).1)
  · rw [ec]
    exact h _ (fun i => by unfold td_part; rw [if_neg z, if_pos z1]; exact (l j hj i).2)
  · exact td_outside hw hj l (fun v hv => h v (fun i => by unfold td_part; rw [if_neg z, if_neg z1]; exact hv i))
theorem td_rowlt {f : Nat → Bool} (hf : ∀ i, 17 ≤ i → f i = false) {i : Nat} (h : f i = true) : i < 17 := by
  rcases Nat.lt_or_ge i 17 with z | z
  · exact z
  · rw [hf i z] at h; exact absurd h (by decide)
theorem td_rd1 {f : Nat → Bool} (hf : ∀ i, 17 ≤ i → f i = false) (j : Nat) (c : ∃ i, f i = true ∧ i % 2 = 1) : td_mx 17 (fun i => if f i = true then 1 + j % 2 + i % 2 else 0) = 1 + j % 2 + 1 := by
  obtain ⟨i, h1, h2⟩ := c
  refine td_mx_eq (fun i' _ => ?_) (Or.inr ⟨i, td_rowlt hf h1, by rw [if_pos h1, h2]⟩)
  by_cases e : f i' = true
  · rw [if_pos e]; omega
  · rw [if_neg e]; omega
theorem td_rd2 {f : Nat → Bool} (hf : ∀ i, 17 ≤ i → f i = false) (j : Nat) (c : ¬ ∃ i, f i = true ∧ i % 2 = 1) (c' : ∃ i, f i = true) : td_mx 17 (fun i => if f i = true then 1 + j % 2 + i % 2 else 0) = 1 + j % 2 := by
  obtain ⟨i, h1⟩ := c'
  refine td_mx_eq (fun i' _ => ?_) (Or.inr ⟨i, td_rowlt hf h1, ?_⟩)
  · by_cases e : f i' = true
    · have : ¬ i' % 2 = 1 := fun z => c ⟨i', e, z⟩
      rw [if_pos e]; omega
    · rw [if_neg e]; omega
  · have : ¬ i % 2 = 1 := fun z => c ⟨i, h1, z⟩
    rw [if_pos h1]; omega
theorem td_rd3 {f : Nat → Bool} (j : Nat) (c' : ¬ ∃ i, f i = true) : td_mx 17 (fun i => if f i = true then 1 + j % 2 + i % 2 else 0) = 0 := by
  refine td_mx_eq (fun i' _ => ?_) (Or.inl rfl)
  rw [if_neg (fun z => c' ⟨i', z⟩)]
  exact Nat.le_refl 0
theorem td_dimensionIn {post : Int32 → Prop} {v : Int32} {j : Nat} (f : Nat → Bool) (hv : ∀ i, td_b v i = f i) (hf : ∀ i, 17 ≤ i → f i = false) (hj : j < 17) {N : Nat} (hN : td_mx 17 (fun i => if f i = true then 1 + j % 2 + i % 2 else 0) = N)
    (h : post (nI N)) : wpX_dimensionIn post () v (nI j) := by
  subst hN
  have odd : (v &&& 43690 = 0) ↔ ¬ ∃ i, f i = true ∧ i % 2 = 1 := by
    rw [td_eq0]
    constructor
    · rintro z ⟨i, h1, h2⟩
      have := z i
      rw [td_and, td_ODD, hv, h1, h2] at this
      rcases Nat.lt_or_ge i 17 with q | q
      · rw [decide_eq_true q] at this; exact absurd this (by decide)
      · rw [hf i q] at h1; exact absurd h1 (by decide)
    · intro z i
      rw [td_and, td_ODD, hv]
      cases e : f i with
      | false => rfl
      | true => rw [decide_eq_false (show ¬ i % 2 = 1 from fun q => z ⟨i, e, q⟩), Bool.and_false]; rfl
  have zero : v = 0 ↔ ¬ ∃ i, f i = true := by
    rw [td_eq0]
    constructor
    · rintro z ⟨i, h1⟩
      have := z i
      rw [hv, h1] at this
      exact absurd this (by decide)
    · intro z i
      rw [hv]
      cases e : f i with
      | false => rfl
      | true => exact absurd ⟨i, e⟩ z
  refine br_c (fun z => ?_) (fun z => ⟨by decide, pk_eq (j % 2) 1 (fun p => br_c (fun o => ?_) (fun o => ?_)) (fun p => br_c (fun o => ?_) (fun o => ?_)) (td_rem2 (by omega))⟩)
  · rw [td_rd3 j (zero.mp z)] at h; exact h
  · rw [td_rd2 hf j (odd.mp o) (Classical.not_not.mp (fun q => z (zero.mpr q))), p] at h; exact h
  · rw [td_rd1 hf j (Classical.not_not.mp (fun q => o (odd.mpr q))), p] at h; exact h
  · rw [td_rd2 hf j (odd.mp o) (Classical.not_not.mp (fun q => z (zero.mpr q))), show j % 2 = 0 by omega] at h; exact h
  · rw [td_rd1 hf j (Classical.not_not.mp (fun q => o (odd.mpr q))), show j % 2 = 0 by omega] at h; exact h
theorem td_part_lt {k : Nat} {g : Nat → Nat → Bool} (ok : td_ok k g) (p j : Nat) {i : Nat} (hi : 17 ≤ i) : td_part k g p j i = false := by
  unfold td_part
  by_cases z : p = 0
  · rw [if_pos z]; exact td_in_lt ok j hi
  · rw [if_neg z]
    by_cases z1 : p = 1
    · rw [if_pos z1]; exact td_ri_lt ok j hi
    · rw [if_neg z1]; unfold td_out; rw [decide_eq_false (show ¬ i < 17 by omega), Bool.and_false]; rfl
theorem td_meetL {post : Int32 → Prop} {a1 a2 a3 a4 a5 a6 : Nat → Int32} {k k' p q : Nat} {g g' : Nat → Nat → Bool} (hp : p ≤ 2) (hq : q ≤ 2) (ok : td_ok k g) (l : td_laid a3 a4 0 k g) (l' : td_laid a3 a4 1 k' g')
    (h : post (nI (td_mt (td_part k g p) (td_part k' g' q)))) : ∃ n, wX_meeting_17 post (nI p) (nI q) a1 a2 a3 a4 a5 a6 n 0 0 := by
  refine pk_loop (σ := Unit) (fun n j _ => wX_meeting_17 post (nI p) (nI q) a1 a2 a3 a4 a5 a6 n (nI (td_mx j (fun j => td_mx 17 (fun i => td_dm (td_part k g p) (td_part k' g' q) j i)))) (nI j)) (fun _ _ => True) 17 0 () (by omega) trivial ?_ ?_
  · intro n _ _
    exact pk_le 17 17 (fun _ => h) (fun z => absurd z (by omega))
  · intro n j _ hj _ hw
    refine pk_le 17 j (fun z => absurd z (by omega)) (fun _ => td_partOf (w := 0) (by omega) hp hj l (fun v hv => td_partOf (w := 1) (by omega) hq hj l' (fun v' hv' => nm_e ?_)))
    have t := hw () trivial
    have ml : td_mx j (fun j => td_mx 17 (fun i => td_dm (td_part k g p) (td_part k' g' q) j i)) ≤ 3 := td_mx_le.mpr (fun j _ => td_mx_le.mpr (fun i _ => by
      unfold td_dm
      by_cases c : (td_part k g p j i && td_part k' g' q j i) = true
      · rw [if_pos c]; omega
      · rw [if_neg c]; omega))
    have ml' : td_mx 17 (fun i => td_dm (td_part k g p) (td_part k' g' q) j i) ≤ 3 := td_mx_le.mpr (fun i _ => by
      unfold td_dm
      by_cases c : (td_part k g p j i && td_part k' g' q j i) = true
      · rw [if_pos c]; omega
      · rw [if_neg c]; omega)
    rw [td_mx_s] at t
    generalize eA : td_mx j (fun j => td_mx 17 (fun i => td_dm (td_part k g p) (td_part k' g' q) j i)) = A at t ml ⊢
    generalize eB : td_mx 17 (fun i => td_dm (td_part k g p) (td_part k' g' q) j i) = B at t ml'
    refine td_dimensionIn (fun i => td_part k g p j i && td_part k' g' q j i) (fun i => by rw [td_and, hv, hv']) (fun i hi => by rw [td_part_lt ok p j hi]; rfl) hj eB ?_
    refine pk_le B A (fun z => nm_r (nI_1 j) ?_) (fun z => nm_r (nI_1 j) ?_)
    · rw [Nat.max_eq_left z] at t; exact t
    · rw [Nat.max_eq_right (by omega)] at t; exact t
theorem td_meeting {post : Int32 → Prop} {a1 a2 a3 a4 a5 a6 : Nat → Int32} {k k' : Nat} (p q : Nat) {g g' : Nat → Nat → Bool} (ok : td_ok k g) (l : td_laid a3 a4 0 k g) (l' : td_laid a3 a4 1 k' g')
    (h : post (nI (td_meet k g k' g' p q))) (hp : p ≤ 2 := by omega) (hq : q ≤ 2 := by omega) : wpX_meeting post (a1, a2, a3, a4, a5, a6) (nI p) (nI q) := by
  unfold td_meet at h
  refine pk_eq p 2 (fun z => pk_eq q 2 (fun z2 => ?_) (fun z2 => ?_)) (fun z => ?_)
  · rw [if_pos ⟨z, z2⟩] at h; exact h
  · rw [if_neg (fun c => z2 c.2)] at h; exact td_meetL hp hq ok l l' h
  · rw [if_neg (fun c => z c.1)] at h; exact td_meetL hp hq ok l l' h
/-! same bodies -/
theorem td_sameBodies {post : Int32 → Prop} {a1 a2 a3 a4 a5 a6 : Nat → Int32} {k k' : Nat} {g g' : Nat → Nat → Bool} (ok : td_ok k g) (ok' : td_ok k' g') (l : td_laid a3 a4 0 k g) (l' : td_laid a3 a4 1 k' g')
    (h1 : td_same (td_bd k g) (td_bd k' g') → post 1) (h0 : ¬ td_same (td_bd k g) (td_bd k' g') → post 0) : wpX_sameBodies post (a1, a2, a3, a4, a5, a6) := by
  refine pk_loop (σ := Unit) (fun n j _ => wX_sameBodies_2 post a1 a2 a3 a4 a5 a6 n (nI j)) (fun j _ => ∀ j', j' < j → ∀ i, i < 17 → td_bd k g j' i = td_bd k' g' j' i) 17 0 () (by omega) (fun j' z => absurd z (by omega)) ?_ ?_
  · intro n _ hI
    exact pk_le 17 17 (fun _ => h1 hI) (fun z => absurd z (by omega))
  · intro n j _ hj hI hw
    refine pk_le 17 j (fun z => absurd z (by omega)) (fun _ => ?_)
    have b0 : ∀ P : Int32 → Prop, (∀ v, (∀ i, td_b v i = td_bd k g j i) → P v) → wpX_body P (a1, a2, a3, a4, a5, a6) (nI j) := fun P hP => by
      have := td_bodyL (post := P) (a1 := a1) (a2 := a2) (a5 := a5) (a6 := a6) (w := 0) (by omega) hj l hP
      rw [show 17 * 0 + j = j by omega] at this
      exact this
    refine b0 _ (fun v hv => ?_)
    have e17 : (17 : Int32) + nI j = nI (17 * 1 + j) := nI_add 17 j
    rw [e17]
    refine td_bodyL (w := 1) (by omega) hj l' (fun v' hv' => br_c (fun e => nm_r (nI_1 j) (hw () (fun j' hj' i hi => ?_))) (fun ne => h0 (fun s => ne (td_ext (fun i => ?_)))))
    · by_cases z : j' = j
      · subst z; rw [← hv, ← hv', e]
      · exact hI j' (by omega) i hi
    · rw [hv, hv']
      rcases Nat.lt_or_ge i 17 with z | z
      · exact s j hj i z
      · unfold td_bd
        rw [td_in_lt ok j z, td_ri_lt ok j z, td_in_lt ok' j z, td_ri_lt ok' j z]
end
section
/-! growing over the grid -/
def td_gr (a : Nat → Int32) (j i : Nat) : Bool := decide (j < 17) && td_b (a j) i
theorem td_gr_at {a : Nat → Int32} {j : Nat} (hj : j < 17) (i : Nat) : td_gr a j i = td_b (a j) i := by unfold td_gr; rw [decide_eq_true hj]; rfl
theorem td_gr_no {a : Nat → Int32} {j : Nat} (hj : 17 ≤ j) (i : Nat) : td_gr a j i = false := by unfold td_gr; rw [decide_eq_false (by omega)]; rfl
theorem td_gr_j {a : Nat → Int32} {j i : Nat} (h : td_gr a j i = true) : j < 17 := by
  rcases Nat.lt_or_ge j 17 with z | z
  · exact z
  · rw [td_gr_no z] at h; exact absurd h (by decide)
theorem td_gr_us {a : Nat → Int32} {j : Nat} {v : Int32} (hj : j < 17) (i : Nat) : td_gr (upd a j v) j i = td_b v i := by rw [td_gr_at hj, pk_us]
theorem td_gr_un {a : Nat → Int32} {j j' : Nat} {v : Int32} (h : j' ≠ j) (i : Nat) : td_gr (upd a j v) j' i = td_gr a j' i := by unfold td_gr; rw [pk_un h]
theorem td_gr_w {a : Nat → Int32} {j : Nat} (hj : j < 17) : td_b (a j) = td_gr a j := funext (fun i => (td_gr_at hj i).symm)
def td_near (s : Nat → Nat → Bool) (j i : Nat) : Bool := (((s j i || td_sh (s j) i) || s j (i + 1)) || td_dr s j i) || s (j + 1) i
theorem td_or_1 {a b : Bool} (h : a = true) : (a || b) = true := by rw [h]; rfl
theorem td_or_2 {a b : Bool} (h : b = true) : (a || b) = true := by rw [h]; cases a <;> rfl
theorem td_near_self {s : Nat → Nat → Bool} {j i : Nat} (h : s j i = true) : td_near s j i = true := td_or_1 (td_or_1 (td_or_1 (td_or_1 h)))
theorem td_near_adj {s : Nat → Nat → Bool} {j i j' i' : Nat} (h : s j i = true) (a : td_adj j i j' i') : td_near s j' i' = true := by
  rcases a with ⟨e, e2 | e2⟩ | ⟨e, e2 | e2⟩
  · subst e; subst e2; exact td_or_1 (td_or_1 (td_or_2 h))
  · subst e; subst e2; exact td_or_1 (td_or_1 (td_or_1 (td_or_2 h)))
  · subst e; subst e2; exact td_or_2 h
  · subst e; subst e2; exact td_or_1 (td_or_2 h)
theorem td_near_inv {s : Nat → Nat → Bool} {j i : Nat} (h : td_near s j i = true) : s j i = true ∨ ∃ j' i', s j' i' = true ∧ td_adj j' i' j i := by
  unfold td_near at h
  rcases (Bool.or_eq_true _ _).mp h with h | h
  · rcases (Bool.or_eq_true _ _).mp h with h | h
    · rcases (Bool.or_eq_true _ _).mp h with h | h
      · rcases (Bool.or_eq_true _ _).mp h with h | h
        · exact Or.inl h
        · cases i with
          | zero => exact absurd (show false = true from h) (by decide)
          | succ n => exact Or.inr ⟨j, n, h, Or.inl ⟨rfl, Or.inr rfl⟩⟩
      · exact Or.inr ⟨j, i + 1, h, Or.inl ⟨rfl, Or.inl rfl⟩⟩
    · cases j with
      | zero => exact absurd (show false = true from h) (by decide)
      | succ n => exact Or.inr ⟨n, i, h, Or.inr ⟨rfl, Or.inr rfl⟩⟩
  · exact Or.inr ⟨j + 1, i, h, Or.inr ⟨rfl, Or.inl rfl⟩⟩
/-- what holds while it grows: g the ground, s the start -/
def td_base (g s : Nat → Nat → Bool) (a : Nat → Int32) : Prop := (∀ j i, s j i = true → td_gr a j i = true) ∧ (∀ j i, td_gr a j i = true → g j i = true ∧ td_rc g s j i)
def td_rcl (g : Nat → Nat → Bool) (a : Nat → Int32) (j : Nat) : Prop := ∀ i, (td_near (td_gr a) j i && g j i) = td_gr a j i
section
variable {g s : Nat → Nat → Bool} {a : Nat → Int32} {j : Nat} {v : Int32}
theorem td_up_mono (hb : td_base g s a) (hv : ∀ i, td_b v i = (td_near (td_gr a) j i && g j i)) (hj : j < 17) : ∀ j' i, td_gr a j' i = true → td_gr (upd a j v) j' i = true := by
  intro j' i h
  by_cases e : j' = j
  · subst e
    rw [td_gr_us hj, hv, td_near_self h, (hb.2 j' i h).1]; rfl
  · rw [td_gr_un e]; exact h
theorem td_up_base (hb : td_base g s a) (hv : ∀ i, td_b v i = (td_near (td_gr a) j i && g j i)) (hj : j < 17) : td_base g s (upd a j v) := by
  refine ⟨fun j' i h => td_up_mono hb hv hj j' i (hb.1 j' i h), fun j' i h => ?_⟩
  by_cases e : j' = j
  · subst e
    rw [td_gr_us hj, hv, Bool.and_eq_true] at h
    refine ⟨h.2, ?_⟩
    rcases td_near_inv h.1 with z | ⟨j2, i2, z, ad⟩
    · exact (hb.2 _ _ z).2
    · exact td_rc_step (hb.2 _ _ z).2 ad h.2
  · rw [td_gr_un e] at h; exact hb.2 j' i h
theorem td_up_cnt (hb : td_base g s a) (hv : ∀ i, td_b v i = (td_near (td_gr a) j i && g j i)) (hj : j < 17) : td_cnt (td_gr a) ≤ td_cnt (td_gr (upd a j v)) :=
  td_cnt_mono (fun j' i _ _ => td_up_mono hb hv hj j' i)
theorem td_up_lt (hb : td_base g s a) (hg : ∀ j i, g j i = true → i < 17) (hv : ∀ i, td_b v i = (td_near (td_gr a) j i && g j i)) (hj : j < 17) (ne : v ≠ a j) : td_cnt (td_gr a) < td_cnt (td_gr (upd a j v)) := by
  have : ∃ i, td_b v i ≠ td_b (a j) i := Classical.byContradiction (fun z => ne (td_ext (fun i => Classical.byContradiction (fun y => z ⟨i, y⟩))))
  obtain ⟨i, hi⟩ := this
  have m := td_up_mono hb hv hj j i
  rw [td_gr_us hj, td_gr_at hj] at m
  have va : td_b (a j) i = false := by
    cases e : td_b (a j) i with
    | false => rfl
    | true => rw [e, m e] at hi; exact absurd rfl hi
  have vv : td_b v i = true := by
    cases e : td_b v i with
    | true => rfl
    | false => rw [e, va] at hi; exact absurd rfl hi
  have i17 : i < 17 := by
    have := hv i
    rw [vv] at this
    have := (Bool.and_eq_true _ _).mp this.symm
    exact hg j i this.2
  exact td_cnt_lt (fun j' i _ _ => td_up_mono hb hv hj j' i) hj i17 (by rw [td_gr_at hj]; exact va) (by rw [td_gr_us hj]; exact vv)
end
theorem td_upd_self {a : Nat → Int32} {j : Nat} {v : Int32} (h : v = a j) : upd a j v = a := by
  funext x
  by_cases e : x = j
  · subst e; rw [pk_us, h]
  · rw [pk_un e]
theorem td_closed {g s : Nat → Nat → Bool} {a : Nat → Int32} (hb : td_base g s a) (hg : ∀ j i, g j i = true → j < 17) (hc : ∀ j, j < 17 → td_rcl g a j) (j i : Nat) : td_gr a j i = true ↔ td_rc g s j i := by
  refine ⟨fun h => (hb.2 j i h).2, fun h => h (fun j i => td_gr a j i = true) hb.1 (fun j i j' i' x y z => ?_)⟩
  have := hc j' (hg j' i' z) i'
  rw [td_near_adj x y, z] at this
  exact this.symm
/-! the walk -/
theorem td_sp80 {post : St1 → Prop} {J4 J19 : Int32 → Int32 → (Nat → Int32) → (Nat → Int32) → (Nat → Int32) → (Nat → Int32) → (Nat → Int32) → (Nat → Int32) → Prop} {x2 z0 z1 : Int32} {f j : Nat} {a1 a2 a3 a4 a5 a6 : Nat → Int32} (hj : j < 17) (hf : f ≤ 1)
    (H : ∀ f', f' ≤ 1 → (f' = 0 → f = 0 ∧ ((z1 ||| z0) &&& a5 j) = a6 j) → (f' = 1 → f = 1 ∨ ((z1 ||| z0) &&& a5 j) ≠ a6 j) → J19 (nI f') (nI (j + 1)) a1 a2 a3 a4 a5 (upd a6 j ((z1 ||| z0) &&& a5 j))) :
    wX_spread_80 post J4 J19 (nI f) x2 (nI j) (a6 j) z0 z1 a1 a2 a3 a4 a5 a6 := by
  unfold wX_spread_80
  rw [nI_clamp (show j < 2 ^ 31 by omega)]
  refine nm_e ⟨pk_in j 17 hj, pk_in j 17 hj, nm_e (pk_eq f 0 (fun z => ⟨pk_in j 17 hj, br_c (fun e => nm_r (nI_1 j) ?_) (fun e => nm_r (nI_1 j) ?_)⟩) (fun z => nm_r (nI_1 j) ?_))⟩
  · rw [pk_us] at e
    exact H 0 (by omega) (fun _ => ⟨z, e⟩) (fun y => absurd y (by omega))
  · rw [pk_us] at e
    exact H 1 (by omega) (fun y => absurd y (by omega)) (fun _ => Or.inr e)
  · exact H 1 (by omega) (fun y => absurd y (by omega)) (fun _ => Or.inl (by omega))
theorem td_spIn {post : St1 → Prop} {J4 : Int32 → Int32 → (Nat → Int32) → (Nat → Int32) → (Nat → Int32) → (Nat → Int32) → (Nat → Int32) → (Nat → Int32) → Prop} {r : Nat} {a1 a2 a3 a4 a5 a6 : Nat → Int32} {s : Nat → Nat → Bool}
    (hg : ∀ j i, td_gr a5 j i = true → i < 17) (hb : td_base (td_gr a5) s a6) (hr : r ≤ td_cnt (td_gr a6))
    (H : ∀ f' a6', f' ≤ 1 → td_base (td_gr a5) s a6' → (f' = 0 → ∀ j, j < 17 → td_rcl (td_gr a5) a6' j) → (f' = 1 → r + 1 ≤ td_cnt (td_gr a6')) → J4 (nI f') (nI (r + 1)) a1 a2 a3 a4 a5 a6') :
    ∃ n, wX_spread_19 post J4 (nI r) n 0 0 a1 a2 a3 a4 a5 a6 := by
  refine pk_loop (σ := Nat × (Nat → Int32)) (fun n j u => wX_spread_19 post J4 (nI r) n (nI u.1) (nI j) a1 a2 a3 a4 a5 u.2)
    (fun j u => u.1 ≤ 1 ∧ td_base (td_gr a5) s u.2 ∧ r ≤ td_cnt (td_gr u.2) ∧ (u.1 = 0 → ∀ j', j' < j → td_rcl (td_gr a5) u.2 j') ∧ (u.1 = 1 → r + 1 ≤ td_cnt (td_gr u.2)))
    17 0 (0, a6) (by omega) ⟨by omega, hb, hr, fun _ j' z => absurd z (by omega), fun z => absurd (show (0 : Nat) = 1 from z) (by decide)⟩ ?_ ?_
  · rintro n ⟨f, a⟩ ⟨h1, h2, h3, h4, h5⟩
    exact pk_le 17 17 (fun _ => nm_r (nI_1 r) (H f a h1 h2 h4 h5)) (fun z => absurd z (by omega))
  · rintro n j ⟨f, a⟩ hj ⟨h1, h2, h3, h4, h5⟩ hw
    dsimp only at h1 h2 h3 h4 h5
    have lo : ∀ j', j' < 17 → td_lo (a j') := fun j' hj' i hi => by
      cases e : td_b (a j') i with
      | false => rfl
      | true =>
        rw [← td_gr_at hj' i] at e
        have := hg j' i (h2.2 j' i e).1
        omega
    have step : ∀ v, (∀ i, td_b v i = (td_near (td_gr a) j i && td_gr a5 j i)) → ∀ f', f' ≤ 1 → (f' = 0 → f = 0 ∧ v = a j) → (f' = 1 → f = 1 ∨ v ≠ a j) → wX_spread_19 post J4 (nI r) n (nI f') (nI (j + 1)) a1 a2 a3 a4 a5 (upd a j v) := by
      intro v hv f' hf' q0 q1
      have hc := td_up_cnt h2 hv hj
      refine hw (f', upd a j v) ⟨hf', td_up_base h2 hv hj, Nat.le_trans h3 hc, fun z => ?_, fun z => ?_⟩
      · obtain ⟨fz, e⟩ := q0 z
        show ∀ j', j' < j + 1 → td_rcl (td_gr a5) (upd a j v) j'
        rw [td_upd_self e]
        intro j' hj'
        by_cases y : j' = j
        · subst y
          intro i
          rw [← hv i, e, td_gr_at hj]
        · exact h4 fz j' (by omega)
      · show r + 1 ≤ td_cnt (td_gr (upd a j v))
        rcases q1 z with y | y
        · have := h5 y; omega
        · have := td_up_lt h2 hg hv hj y; omega
    have ec : (nI j).toNatClampNeg = j := nI_clamp (by omega)
    -- the word that is laid, by what stands beneath and above
    have fin : ∀ dn up : Int32, (∀ i, td_b dn i = td_dr (td_gr a) j i) → (∀ i, td_b up i = td_gr a (j + 1) i) →
        wX_spread_80 post J4 (wX_spread_19 post J4 (nI r) n) (nI f) (nI r) (nI j) (a j) up (((a j ||| (a j <<< ((1 : Int32) &&& 31))) ||| (a j >>> ((1 : Int32) &&& 31))) ||| dn) a1 a2 a3 a4 a5 a := by
      intro dn up hd hu
      refine td_sp80 hj h1 (fun f' hf' q0 q1 => step _ (fun i => ?_) f' hf' q0 q1)
      rw [td_and, td_or, td_or, td_or, td_or, td_shl1 (lo j hj), td_shr1 (lo j hj), hd, hu, td_gr_w hj, td_gr_w hj]
      rfl
    have mid : ∀ dn : Int32, (∀ i, td_b dn i = td_dr (td_gr a) j i) →
        wX_spread_61 post J4 (wX_spread_19 post J4 (nI r) n) (nI f) (nI r) (nI j) (a j) dn ((a j ||| (a j <<< ((1 : Int32) &&& 31))) ||| (a j >>> ((1 : Int32) &&& 31))) a1 a2 a3 a4 a5 a := by
      intro dn hd
      refine pk_le 16 j (fun z => fin dn 0 hd (fun i => by rw [td_0, td_gr_no (by omega)])) (fun z => ⟨pk_in (j + 1) 17 (by omega) (nI_1 j), ?_⟩)
      rw [pk_cl (j + 1) (nI_1 j)]
      exact fin dn _ hd (fun i => by rw [td_gr_at (show j + 1 < 17 by omega)])
    refine pk_le 17 j (fun z => absurd z (by omega)) (fun _ => ⟨pk_in j 17 hj, nm_r (by rw [ec]) ?_⟩)
    refine pk_le j 0 (fun z => mid 0 (fun i => ?_)) (fun z => ⟨?_, ?_⟩)
    · have : j = 0 := by omega
      subst this
      exact td_0 i
    · obtain ⟨m, rfl⟩ : ∃ m, j = m + 1 := ⟨j - 1, by omega⟩
      exact pk_in m 17 (by omega) (nI_pred m)
    · obtain ⟨m, rfl⟩ : ∃ m, j = m + 1 := ⟨j - 1, by omega⟩
      rw [pk_cl m (nI_pred m)]
      exact mid _ (fun i => (td_gr_at (show m < 17 by omega) i).symm)
theorem td_spread {post : St1 → Prop} {a1 a2 a3 a4 a5 a6 : Nat → Int32} (hg : ∀ j i, td_gr a5 j i = true → i < 17) (hs : ∀ j i, td_gr a6 j i = true → td_gr a5 j i = true)
    (h : ∀ a6', (∀ j i, td_gr a6' j i = true ↔ td_rc (td_gr a5) (td_gr a6) j i) → post (a1, a2, a3, a4, a5, a6')) : wpX_spread post (a1, a2, a3, a4, a5, a6) := by
  have hgj : ∀ j i, td_gr a5 j i = true → j < 17 := fun j i z => td_gr_j z
  refine pk_loop (σ := Nat × (Nat → Int32)) (fun n r u => wX_spread_4 post n (nI u.1) (nI r) a1 a2 a3 a4 a5 u.2)
    (fun r u => u.1 ≤ 1 ∧ td_base (td_gr a5) (td_gr a6) u.2 ∧ (u.1 = 0 → ∀ j', j' < 17 → td_rcl (td_gr a5) u.2 j') ∧ (u.1 = 1 → r ≤ td_cnt (td_gr u.2)))
    300 0 (1, a6) (by omega) ⟨Nat.le_refl 1, ⟨fun j i z => z, fun j i z => ⟨hs j i z, td_rc_start z⟩⟩, fun z => absurd (show (1 : Nat) = 0 from z) (by decide), fun _ => Nat.zero_le _⟩ ?_ ?_
  · rintro n ⟨f, a⟩ ⟨h1, h2, h3, h4⟩
    dsimp only at h1 h2 h3 h4
    refine pk_le 300 300 (fun _ => ?_) (fun z => absurd z (by omega))
    have f0 : f = 0 := by
      rcases Nat.lt_or_ge f 1 with z | z
      · omega
      · have := h4 (by omega)
        have := td_cnt_le (td_gr a)
        omega
    exact h a (td_closed h2 hgj (h3 f0))
  · rintro n r ⟨f, a⟩ hr ⟨h1, h2, h3, h4⟩ hw
    dsimp only at h1 h2 h3 h4
    refine pk_le 300 r (fun z => absurd z (by omega)) (fun _ => pk_eq f 0 (fun z => h a (td_closed h2 hgj (h3 z))) (fun z => ?_))
    exact td_spIn hg h2 (h4 (by omega)) (fun f' a6' q1 q2 q3 q4 => hw (f', a6') ⟨q1, q2, q3, q4⟩)
theorem td_takeAway {post : St1 → Prop} {a1 a2 a3 a4 a5 a6 : Nat → Int32}
    (h : ∀ a5' a6', (∀ j i, td_gr a5' j i = (td_gr a5 j i && !td_gr a6 j i)) → (∀ j i, td_gr a6' j i = false) → post (a1, a2, a3, a4, a5', a6')) : wpX_takeAway post (a1, a2, a3, a4, a5, a6) := by
  refine pk_loop (σ := (Nat → Int32) × (Nat → Int32)) (fun n j u => wX_takeAway_2 post n (nI j) a1 a2 a3 a4 u.1 u.2)
    (fun j u => (∀ j', j' < j → ∀ i, td_b (u.1 j') i = (td_b (a5 j') i && !td_b (a6 j') i) ∧ td_b (u.2 j') i = false) ∧ (∀ x, j ≤ x → u.1 x = a5 x ∧ u.2 x = a6 x))
    17 0 (a5, a6) (by omega) ⟨fun j' z => absurd z (by omega), fun x _ => ⟨rfl, rfl⟩⟩ ?_ ?_
  · rintro n ⟨b5, b6⟩ ⟨h1, h2⟩
    dsimp only at h1 h2
    refine pk_le 17 17 (fun _ => h b5 b6 (fun j i => ?_) (fun j i => ?_)) (fun z => absurd z (by omega))
    · rcases Nat.lt_or_ge j 17 with z | z
      · rw [td_gr_at z, td_gr_at z, td_gr_at z]; exact (h1 j z i).1
      · rw [td_gr_no z, td_gr_no z]; rfl
    · rcases Nat.lt_or_ge j 17 with z | z
      · rw [td_gr_at z]; exact (h1 j z i).2
      · rw [td_gr_no z]
  · rintro n j ⟨b5, b6⟩ hj ⟨h1, h2⟩ hw
    dsimp only at h1 h2
    refine pk_le 17 j (fun z => absurd z (by omega)) (fun _ => ⟨pk_in j 17 hj, pk_in j 17 hj, pk_in j 17 hj, nm_e ⟨pk_in j 17 hj, nm_e (nm_r (nI_1 j) ?_)⟩⟩)
    rw [nI_clamp (show j < 2 ^ 31 by omega)]
    refine hw (upd b5 j (b5 j &&& (b6 j ^^^ (-1))), upd b6 j 0) ⟨fun j' hj' i => ?_, fun x hx => ?_⟩
    · by_cases e : j' = j
      · subst e
        have q := h2 j' (Nat.le_refl j')
        dsimp only
        rw [pk_us, pk_us, q.1, q.2, td_and, td_nw _ i rfl _ (fun c => ?_)]
        · exact ⟨rfl, td_0 i⟩
        · rcases Nat.lt_or_ge i 32 with y | y
          · exact y
          · rw [td_big y] at c; exact absurd c (by decide)
      · dsimp only
        rw [pk_un e, pk_un e]; exact h1 j' (by omega) i
    · dsimp only
      rw [pk_un (by omega), pk_un (by omega)]; exact h2 x (by omega)
end
section
/-! pieces, holes -/
theorem td_piecesIn {post : Int32 → St1 → Prop} {J25 : Int32 → Int32 → (Nat → Int32) → (Nat → Int32) → (Nat → Int32) → (Nat → Int32) → (Nat → Int32) → (Nat → Int32) → Prop} {a1 a2 a3 a4 a5 a6 : Nat → Int32} {g : Nat → Nat → Bool} {j N : Nat} {l : List (Nat × Nat)}
    (hj : j < 17) (hl : l.length = N) (hc : td_cp g l (td_gr a5)) (hi : ∀ j i, td_gr a5 j i = true → i < 17) (h6 : ∀ j i, td_gr a6 j i = false) (hz : ∀ j', j' < j → ∀ i, td_gr a5 j' i = false)
    (H : ∀ N' l' a5' a6', l'.length = N' → td_cp g l' (td_gr a5') → (∀ j i, td_gr a5' j i = true → i < 17) → (∀ j i, td_gr a6' j i = false) → (∀ j', j' < j + 1 → ∀ i, td_gr a5' j' i = false) → J25 (nI N') (nI (j + 1)) a1 a2 a3 a4 a5' a6') :
    ∃ n, wX_countPieces_33 post J25 (nI j) n (nI N) 0 a1 a2 a3 a4 a5 a6 := by
  have ec : (nI j).toNatClampNeg = j := nI_clamp (by omega)
  refine pk_loop (σ := Nat × (Nat → Int32) × (Nat → Int32)) (fun n i u => wX_countPieces_33 post J25 (nI j) n (nI u.1) (nI i) a1 a2 a3 a4 u.2.1 u.2.2)
    (fun i u => (∃ l', l'.length = u.1 ∧ td_cp g l' (td_gr u.2.1)) ∧ (∀ j i, td_gr u.2.1 j i = true → i < 17) ∧ (∀ j i, td_gr u.2.2 j i = false) ∧ (∀ j', j' < j → ∀ i, td_gr u.2.1 j' i = false) ∧ (∀ i', i' < i → td_gr u.2.1 j i' = false))
    17 0 (N, a5, a6) (by omega) ⟨⟨l, hl, hc⟩, hi, h6, hz, fun i' z => absurd z (by omega)⟩ ?_ ?_
  · rintro n ⟨M, b5, b6⟩ ⟨⟨l', q1, q2⟩, q3, q4, q5, q6⟩
    dsimp only at q1 q2 q3 q4 q5 q6
    refine pk_le 17 17 (fun _ => nm_r (nI_1 j) (H M l' b5 b6 q1 q2 q3 q4 (fun j' hj' i => ?_))) (fun z => absurd z (by omega))
    by_cases e : j' = j
    · subst e
      rcases Nat.lt_or_ge i 17 with z | z
      · exact q6 i z
      · cases y : td_gr b5 j' i with
        | false => rfl
        | true => have := q3 j' i y; omega
    · exact q5 j' (by omega) i
  · rintro n i ⟨M, b5, b6⟩ hi' ⟨⟨l', q1, q2⟩, q3, q4, q5, q6⟩ hw
    dsimp only at q1 q2 q3 q4 q5 q6
    refine pk_le 17 i (fun z => absurd z (by omega)) (fun _ => ⟨pk_in j 17 hj, ?_⟩)
    rw [ec]
    refine br_c (fun e0 => nm_r (nI_1 j) (H M l' b5 b6 q1 q2 q3 q4 (fun j' hj' i => ?_))) (fun ne => ⟨pk_in j 17 hj, pk_in j 17 hj, pk_in j 17 hj, nm_e ?_⟩)
    · by_cases e : j' = j
      · subst e; rw [td_gr_at hj, show b5 j' = 0 from e0, td_0]
      · exact q5 j' (by omega) i
    · obtain ⟨m, hm, b1, b2, _, b4⟩ := td_low (b5 j) ne
      have bm : td_gr b5 j m = true := by rw [td_gr_at hj]; exact b1
      have ept : td_gr (upd b6 j (b5 j &&& (-(b5 j)))) = td_pt j m := by
        funext j' i'
        by_cases e : j' = j
        · subst e
          rw [td_gr_us hj, b4]
          unfold td_pt
          rw [decide_eq_true rfl]; rfl
        · rw [td_gr_un e, q4]
          unfold td_pt
          rw [decide_eq_false e]; rfl
      refine td_spread q3 (fun j' i' z => ?_) (fun c6 hc6 => td_takeAway (fun d5 d6 hd5 hd6 => ?_))
      · rw [ept] at z
        obtain ⟨e1, e2⟩ := td_pt_iff.mp z
        subst e1; subst e2
        exact bm
      · rw [ept] at hc6
        have sub : ∀ j' i', td_gr d5 j' i' = true ↔ (td_gr b5 j' i' = true ∧ ¬ td_rc (td_gr b5) (td_pt j m) j' i') := by
          intro j' i'
          rw [hd5, Bool.and_eq_true, ← hc6]
          cases td_gr c6 j' i' <;> simp
        have fls : ∀ j' i', td_gr b5 j' i' = false → td_gr d5 j' i' = false := fun j' i' z => by rw [hd5, z]; rfl
        refine nm_r (nI_1 M) (nm_r (nI_1 i) (hw (M + 1, d5, d6) ⟨⟨(j, m) :: l', by rw [List.length_cons, q1], td_cp_step q2 bm sub⟩, fun j' i' z => q3 j' i' ((sub j' i').mp z).1, hd6, fun j' hj' i' => fls j' i' (q5 j' hj' i'), fun i' hi2 => ?_⟩))
        show td_gr d5 j i' = false
        by_cases e : i' < i
        · exact fls j i' (q6 i' e)
        · have e' : i' = i := by omega
          subst e'
          by_cases e2 : i' = m
          · subst e2
            cases y : td_gr d5 j i' with
            | false => rfl
            | true => exact absurd (td_rc_start (td_pt_iff.mpr ⟨rfl, rfl⟩)) ((sub j i').mp y).2
          · have lm : i' < m := by
              rcases Nat.lt_or_ge i' m with z | z
              · exact z
              · have := q6 m (by omega)
                rw [bm] at this
                exact absurd this (by decide)
            exact fls j i' (by rw [td_gr_at hj]; exact b2 i' lm)
theorem td_piecesOut {post : Int32 → St1 → Prop} {a1 a2 a3 a4 a5 a6 : Nat → Int32} (hi : ∀ j i, td_gr a5 j i = true → i < 17) (h6 : ∀ j i, td_gr a6 j i = false)
    (H : ∀ a5' a6', post (nI (td_np (td_gr a5))) (a1, a2, a3, a4, a5', a6')) : ∃ n, wX_countPieces_25 post n 0 0 a1 a2 a3 a4 a5 a6 := by
  refine pk_loop (σ := Nat × (Nat → Int32) × (Nat → Int32)) (fun n j u => wX_countPieces_25 post n (nI u.1) (nI j) a1 a2 a3 a4 u.2.1 u.2.2)
    (fun j u => (∃ l', l'.length = u.1 ∧ td_cp (td_gr a5) l' (td_gr u.2.1)) ∧ (∀ j i, td_gr u.2.1 j i = true → i < 17) ∧ (∀ j i, td_gr u.2.2 j i = false) ∧ (∀ j', j' < j → ∀ i, td_gr u.2.1 j' i = false))
    17 0 (0, a5, a6) (by omega) ⟨⟨[], rfl, td_cp_0 _⟩, hi, h6, fun j' z => absurd z (by omega)⟩ ?_ ?_
  · rintro n ⟨M, b5, b6⟩ ⟨⟨l', q1, q2⟩, q3, q4, q5⟩
    dsimp only at q1 q2 q3 q4 q5
    refine pk_le 17 17 (fun _ => ?_) (fun z => absurd z (by omega))
    have e := td_cp_end q2 (fun j i => by
      rcases Nat.lt_or_ge j 17 with z | z
      · exact q5 j z i
      · exact td_gr_no z i)
    have := H b5 b6
    rw [e, q1] at this
    exact this
  · rintro n j ⟨M, b5, b6⟩ hj ⟨⟨l', q1, q2⟩, q3, q4, q5⟩ hw
    dsimp only at q1 q2 q3 q4 q5
    refine pk_le 17 j (fun z => absurd z (by omega)) (fun _ => ?_)
    exact td_piecesIn hj q1 q2 q3 q4 q5 (fun N' l2 c5 c6 p1 p2 p3 p4 p5 => hw (N', c5, c6) ⟨⟨l2, p1, p2⟩, p3, p4, p5⟩)
theorem td_countPieces {post : Int32 → St1 → Prop} {a1 a2 a3 a4 a5 a6 : Nat → Int32} (hi : ∀ j i, td_gr a5 j i = true → i < 17)
    (H : ∀ a5' a6', post (nI (td_np (td_gr a5))) (a1, a2, a3, a4, a5', a6')) : wpX_countPieces post (a1, a2, a3, a4, a5, a6) := by
  refine pk_loop (σ := Nat → Int32) (fun n j u => wX_countPieces_4 post 0 n (nI j) a1 a2 a3 a4 a5 u) (fun j u => ∀ j', j' < j → u j' = 0) 17 0 a6 (by omega) (fun j' z => absurd z (by omega)) ?_ ?_
  · intro n u hI
    refine pk_le 17 17 (fun _ => td_piecesOut hi (fun j i => ?_) H) (fun z => absurd z (by omega))
    rcases Nat.lt_or_ge j 17 with z | z
    · rw [td_gr_at z, hI j z, td_0]
    · exact td_gr_no z i
  · intro n j u hj hI hw
    refine pk_le 17 j (fun z => absurd z (by omega)) (fun _ => ⟨pk_in j 17 hj, nm_e (nm_r (nI_1 j) (hw _ (fun j' hj' => ?_)))⟩)
    rw [nI_clamp (show j < 2 ^ 31 by omega)]
    by_cases e : j' = j
    · subst e; exact pk_us
    · rw [pk_un e]; exact hI j' (by omega)
/-! holes of an area -/
def td_bord (k : Nat) (g : Nat → Nat → Bool) (j i : Nat) : Bool := td_out k g j i && ((decide (j = 0) || decide (j = 16)) || (decide (i = 0) || decide (i = 16)))
noncomputable def td_hole (k : Nat) (g : Nat → Nat → Bool) (j i : Nat) : Bool := td_out k g j i && !td_rb (td_out k g) (td_bord k g) j i
theorem td_out_lt {k : Nat} {g : Nat → Nat → Bool} {j i : Nat} (h : td_out k g j i = true) : j < 17 ∧ i < 17 := by
  unfold td_out at h
  have := (Bool.and_eq_true _ _).mp h
  have := (Bool.and_eq_true _ _).mp this.1
  exact ⟨of_decide_eq_true this.1, of_decide_eq_true this.2⟩
theorem td_bordF {k : Nat} {g : Nat → Nat → Bool} (h : td_ok k g) : td_bord k (td_tr g) = td_tr (td_bord k g) := funext (fun j => funext (fun i => by
  show (td_out k (td_tr g) j i && ((decide (j = 0) || decide (j = 16)) || (decide (i = 0) || decide (i = 16)))) = (td_out k g i j && ((decide (i = 0) || decide (i = 16)) || (decide (j = 0) || decide (j = 16))))
  rw [td_outF h, Bool.or_comm (decide (j = 0) || decide (j = 16))]; rfl))
theorem td_holeF {k : Nat} {g : Nat → Nat → Bool} (h : td_ok k g) : td_hole k (td_tr g) = td_tr (td_hole k g) := funext (fun j => funext (fun i => by
  show (td_out k (td_tr g) j i && !td_rb (td_out k (td_tr g)) (td_bord k (td_tr g)) j i) = (td_out k g i j && !td_rb (td_out k g) (td_bord k g) i j)
  rw [td_outF h, td_bordF h, ← td_rb_tr (td_out k g) (td_bord k g) j i]; rfl))
theorem td_hole_lt {k : Nat} {g : Nat → Nat → Bool} {j i : Nat} (h : td_hole k g j i = true) : j < 17 ∧ i < 17 := by
  unfold td_hole at h
  exact td_out_lt ((Bool.and_eq_true _ _).mp h).1
theorem td_zj (j : Nat) : 17 * 0 + j = j := by omega
theorem td_outside0 {post : Int32 → Prop} {a1 a2 a3 a4 a5 a6 : Nat → Int32} {j k : Nat} {g : Nat → Nat → Bool} (hj : j < 17) (l : td_laid a3 a4 0 k g) (h : ∀ v, (∀ i, td_b v i = td_out k g j i) → post v) : wpX_outside post (a1, a2, a3, a4, a5, a6) (nI j) := by
  have := td_outside (post := post) (a1 := a1) (a2 := a2) (a5 := a5) (a6 := a6) (w := 0) (by omega) hj l h
  rw [td_zj] at this
  exact this
theorem td_body0 {post : Int32 → Prop} {a1 a2 a3 a4 a5 a6 : Nat → Int32} {j k : Nat} {g : Nat → Nat → Bool} (hj : j < 17) (l : td_laid a3 a4 0 k g) (h : ∀ v, (∀ i, td_b v i = td_bd k g j i) → post v) : wpX_body post (a1, a2, a3, a4, a5, a6) (nI j) := by
  have := td_bodyL (post := post) (a1 := a1) (a2 := a2) (a5 := a5) (a6 := a6) (w := 0) (by omega) hj l h
  rw [td_zj] at this
  exact this
theorem td_laid0 {a3 a4 : Nat → Int32} {k : Nat} {g : Nat → Nat → Bool} (l : td_laid a3 a4 0 k g) {j : Nat} (hj : j < 17) (i : Nat) : td_b (a3 j) i = td_in k g j i ∧ td_b (a4 j) i = td_ri k g j i := by
  have := l j hj i
  rw [td_zj] at this
  exact this
theorem td_holesLoop {post : St1 → Prop} {a1 a2 a3 a4 a5 a6 : Nat → Int32} {k : Nat} {g : Nat → Nat → Bool} (l : td_laid a3 a4 0 k g)
    (H : ∀ a5' a6', (∀ j i, td_gr a5' j i = td_hole k g j i) → (∀ j i, td_gr a6' j i = false) → post (a1, a2, a3, a4, a5', a6')) : ∃ n, wX_layHoles_8 post n 0 a1 a2 a3 a4 a5 a6 := by
  refine pk_loop (σ := (Nat → Int32) × (Nat → Int32)) (fun n j u => wX_layHoles_8 post n (nI j) a1 a2 a3 a4 u.1 u.2)
    (fun j u => ∀ j', j' < j → ∀ i, td_b (u.1 j') i = td_out k g j' i ∧ td_b (u.2 j') i = td_bord k g j' i) 17 0 (a5, a6) (by omega) (fun j' z => absurd z (by omega)) ?_ ?_
  · rintro n ⟨b5, b6⟩ hI
    dsimp only at hI
    have e5 : td_gr b5 = td_out k g := funext (fun j => funext (fun i => by
      rcases Nat.lt_or_ge j 17 with z | z
      · rw [td_gr_at z]; exact (hI j z i).1
      · rw [td_gr_no z]; unfold td_out; rw [decide_eq_false (show ¬ j < 17 by omega)]; rfl))
    have e6 : td_gr b6 = td_bord k g := funext (fun j => funext (fun i => by
      rcases Nat.lt_or_ge j 17 with z | z
      · rw [td_gr_at z]; exact (hI j z i).2
      · rw [td_gr_no z]; unfold td_bord td_out; rw [decide_eq_false (show ¬ j < 17 by omega)]; rfl))
    refine pk_le 17 17 (fun _ => td_spread (fun j i z => ?_) (fun j i z => ?_) (fun c6 hc6 => td_takeAway (fun d5 d6 hd5 hd6 => H d5 d6 (fun j i => ?_) hd6))) (fun z => absurd z (by omega))
    · rw [e5] at z; exact (td_out_lt z).2
    · rw [e6] at z
      rw [e5]
      exact ((Bool.and_eq_true _ _).mp z).1
    · rw [e5, e6] at hc6
      rw [hd5, e5]
      unfold td_hole
      rw [td_beq ((hc6 j i).trans td_rb_iff.symm)]
  · rintro n j ⟨b5, b6⟩ hj hI hw
    dsimp only at hI
    have ec : (nI j).toNatClampNeg = j := nI_clamp (by omega)
    refine pk_le 17 j (fun z => absurd z (by omega)) (fun _ => td_outside0 hj l (fun v hv => ⟨pk_in j 17 hj, nm_e ⟨pk_in j 17 hj, ?_⟩⟩))
    rw [ec]
    have step : ∀ m : Int32, (∀ i, td_b m i = (decide (i < 17) && ((decide (j = 0) || decide (j = 16)) || (decide (i = 0) || decide (i = 16))))) → wX_layHoles_8 post n (nI (j + 1)) a1 a2 a3 a4 (upd b5 j v) (upd b6 j (upd b5 j v j &&& m)) := by
      intro m hm
      refine hw (upd b5 j v, upd b6 j (upd b5 j v j &&& m)) (fun j' hj' i => ?_)
      dsimp only
      by_cases e : j' = j
      · subst e
        rw [pk_us, pk_us, td_and, hv, hm]
        refine ⟨rfl, ?_⟩
        unfold td_bord td_out
        cases decide (i < 17) <;> simp
      · rw [pk_un e, pk_un e]; exact hI j' (by omega) i
    refine pk_eq j 0 (fun z => ⟨pk_in j 17 hj, nm_e (nm_r (nI_1 j) (step _ (fun i => ?_)))⟩) (fun z => pk_eq j 16 (fun z2 => ⟨pk_in j 17 hj, nm_e (nm_r (nI_1 j) (step _ (fun i => ?_)))⟩) (fun z2 => ⟨pk_in j 17 hj, nm_e (nm_r (nI_1 j) (step _ (fun i => ?_)))⟩))
    · rw [td_ALL, decide_eq_true z]; simp
    · rw [td_ALL, decide_eq_true z2]; simp
    · rw [td_ENDS, decide_eq_false z, decide_eq_false z2]
      by_cases e : i < 17
      · rw [decide_eq_true e]; rfl
      · rw [decide_eq_false e, decide_eq_false (show ¬ i = 0 by omega), decide_eq_false (show ¬ i = 16 by omega)]; rfl
theorem td_layHoles {post : St1 → Prop} {a1 a2 a3 a4 a5 a6 : Nat → Int32} {s k : Nat} {g : Nat → Nat → Bool} (hs : s < 12) (hk : a1 s = nI k) (hg : ∀ j, j < 17 → ∀ i, td_b (a2 (17 * s + j)) i = g j i) (ok : td_ok k g)
    (H : ∀ a3' a4' a5' a6', (∀ j i, td_gr a5' j i = td_hole k g j i) → post (a1, a2, a3', a4', a5', a6')) : wpX_layHoles post (a1, a2, a3, a4, a5, a6) (nI s) :=
  td_lay (w := 0) hs (by omega) hk hg ok (fun a3' a4' l _ => td_holesLoop l (fun a5' a6' e _ => H a3' a4' a5' a6' e))
end
section
/-! distances -/
def td_mr (A B : Nat → Nat → Bool) (a u j : Nat) : Prop := ∃ i j' i', i < 17 ∧ j' < 17 ∧ i' < 17 ∧ i % 2 = 0 ∧ A j i = true ∧ B j' i' = true ∧ (i = i' + 2 * a ∨ i' = i + 2 * a) ∧ (j = j' + 2 * u ∨ j' = j + 2 * u)
theorem td_ma_iff (A B : Nat → Nat → Bool) (a u : Nat) : td_ma A B a u ↔ ∃ t, t < 9 ∧ td_mr A B a u (2 * t) := by
  constructor
  · rintro ⟨j, i, j', i', h1, h2, h3, h4, h5, h6, h7, h8, h9, h10⟩
    have e : 2 * (j / 2) = j := by omega
    exact ⟨j / 2, by omega, by rw [e]; exact ⟨i, j', i', h2, h3, h4, h6, h7, h8, h9, h10⟩⟩
  · rintro ⟨t, ht, i, j', i', h2, h3, h4, h6, h7, h8, h9, h10⟩
    exact ⟨2 * t, i, j', i', by omega, h2, h3, h4, by omega, h6, h7, h8, h9, h10⟩
theorem td_evb {r : Int32} {f : Nat → Bool} (hr : ∀ i, td_b r i = f i) (i : Nat) : td_b (r &&& 87381) i = (f i && (decide (i < 17) && decide (i % 2 = 0))) := by rw [td_and, td_EVEN, hr]
theorem td_shw {A B : Nat → Nat → Bool} {a u j : Nat} {r ab un : Int32} (ha : a ≤ 8) (hr : ∀ i, td_b r i = A j i)
    (hab : ∀ i, td_b ab i = (decide (j + 2 * u < 17) && B (j + 2 * u) i)) (hun : ∀ i, td_b un i = (decide (2 * u ≤ j) && B (j - 2 * u) i)) (hj : j < 17) :
    ((((((r &&& 87381) <<< (nI (2 * a) &&& 31)) ||| ((r &&& 87381) >>> (nI (2 * a) &&& 31))) &&& 87381) &&& (ab ||| un)) = 0) ↔ ¬ td_mr A B a u j := by
  have lo : td_lo (r &&& 87381) := fun i hi => by rw [td_evb hr, decide_eq_false (show ¬ i < 17 by omega), Bool.false_and, Bool.and_false]
  have bits : ∀ i, i < 17 → td_b ((((r &&& 87381) <<< (nI (2 * a) &&& 31)) ||| ((r &&& 87381) >>> (nI (2 * a) &&& 31)) &&& 87381) &&& (ab ||| un)) i = true → True := fun _ _ _ => trivial
  have bit : ∀ i, td_b (((((r &&& 87381) <<< (nI (2 * a) &&& 31)) ||| ((r &&& 87381) >>> (nI (2 * a) &&& 31))) &&& 87381) &&& (ab ||| un)) i = true ↔
      (i < 17 ∧ i % 2 = 0 ∧ ((2 * a ≤ i ∧ A j (i - 2 * a) = true) ∨ (2 * a + i < 17 ∧ A j (2 * a + i) = true)) ∧ ((j + 2 * u < 17 ∧ B (j + 2 * u) i = true) ∨ (2 * u ≤ j ∧ B (j - 2 * u) i = true))) := by
    intro i
    rcases Nat.lt_or_ge i 17 with z | z
    · rw [td_and, td_and, td_or, td_or, td_EVEN, hab, hun, td_shl (2 * a) (by omega) _ (show i < 32 by omega), td_shrn lo (2 * a) (by omega), td_evb hr, td_evb hr]
      simp only [Bool.and_eq_true, Bool.or_eq_true, decide_eq_true_eq]
      constructor
      · rintro ⟨⟨q, q1, q2⟩, q3⟩
        refine ⟨z, q2, ?_, q3⟩
        rcases q with ⟨p1, p2, _⟩ | ⟨p1, p2, _⟩
        · exact Or.inl ⟨p1, p2⟩
        · exact Or.inr ⟨p2, p1⟩
      · rintro ⟨_, q2, q, q3⟩
        refine ⟨⟨?_, z, q2⟩, q3⟩
        rcases q with ⟨p1, p2⟩ | ⟨p1, p2⟩
        · exact Or.inl ⟨p1, p2, by omega, by omega⟩
        · exact Or.inr ⟨p2, p1, by omega⟩
    · rw [td_and, td_and, td_EVEN, decide_eq_false (show ¬ i < 17 by omega), Bool.false_and, Bool.and_false, Bool.false_and]
      exact ⟨fun q => absurd q (by decide), fun q => absurd q.1 (by omega)⟩
  rw [td_eq0]
  constructor
  · rintro h ⟨i, j', i', h2, h3, h4, h6, h7, h8, h9, h10⟩
    have := (bit i').mpr ⟨h4, by omega, by
      rcases h9 with e | e
      · exact Or.inr ⟨by omega, by rw [show 2 * a + i' = i by omega]; exact h7⟩
      · exact Or.inl ⟨by omega, by rw [show i' - 2 * a = i by omega]; exact h7⟩, by
      rcases h10 with e | e
      · exact Or.inr ⟨by omega, by rw [show j - 2 * u = j' by omega]; exact h8⟩
      · exact Or.inl ⟨by omega, by rw [← e]; exact h8⟩⟩
    rw [h i'] at this
    exact absurd this (by decide)
  · intro h i
    cases c : td_b (((((r &&& 87381) <<< (nI (2 * a) &&& 31)) ||| ((r &&& 87381) >>> (nI (2 * a) &&& 31))) &&& 87381) &&& (ab ||| un)) i with
    | false => rfl
    | true =>
      obtain ⟨q1, q2, q3, q4⟩ := (bit i).mp c
      refine absurd ?_ h
      have f3 : ∃ i0, i0 < 17 ∧ i0 % 2 = 0 ∧ A j i0 = true ∧ (i0 = i + 2 * a ∨ i = i0 + 2 * a) := by
        rcases q3 with ⟨p1, p2⟩ | ⟨p1, p2⟩
        · exact ⟨i - 2 * a, by omega, by omega, p2, by omega⟩
        · exact ⟨2 * a + i, by omega, by omega, p2, by omega⟩
      have f4 : ∃ j0, j0 < 17 ∧ B j0 i = true ∧ (j = j0 + 2 * u ∨ j0 = j + 2 * u) := by
        rcases q4 with ⟨p1, p2⟩ | ⟨p1, p2⟩
        · exact ⟨j + 2 * u, p1, p2, by omega⟩
        · exact ⟨j - 2 * u, by omega, p2, by omega⟩
      obtain ⟨i0, s1, s2, s3, s4⟩ := f3
      obtain ⟨j0, r1, r2, r3⟩ := f4
      exact ⟨i0, j0, i, s1, r1, q1, s2, s3, r2, s4, r3⟩
theorem td_2m (a : Nat) : (2 : Int32) * nI a = nI (2 * a) := pk_mul 2 a
theorem td_shiftedMeet {post : Int32 → Prop} {a1 a2 a3 a4 a5 a6 : Nat → Int32} {k k' a u : Nat} {g g' : Nat → Nat → Bool} (l : td_laid a3 a4 0 k g) (l' : td_laid a3 a4 1 k' g') (ha : a ≤ 8) (hu : u ≤ 8)
    (h1 : td_ma (td_bd k g) (td_bd k' g') a u → post 1) (h0 : ¬ td_ma (td_bd k g) (td_bd k' g') a u → post 0) : wpX_shiftedMeet post (a1, a2, a3, a4, a5, a6) (nI a) (nI u) := by
  refine pk_loop (σ := Unit) (fun n t _ => wX_shiftedMeet_2 post (nI a) (nI u) a1 a2 a3 a4 a5 a6 n (nI (2 * t))) (fun t _ => ∀ t', t' < t → ¬ td_mr (td_bd k g) (td_bd k' g') a u (2 * t')) 9 0 () (by omega) (fun t' z => absurd z (by omega)) ?_ ?_
  · intro n _ hI
    refine pk_le 17 (2 * 9) (fun _ => h0 (fun z => ?_)) (fun z => absurd z (by omega))
    obtain ⟨t, ht, z⟩ := (td_ma_iff _ _ _ _).mp z
    exact hI t ht z
  · intro n t _ ht hI hw
    have hj : 2 * t < 17 := by omega
    have fin : ∀ r ab un : Int32, (∀ i, td_b r i = td_bd k g (2 * t) i) → (∀ i, td_b ab i = (decide (2 * t + 2 * u < 17) && td_bd k' g' (2 * t + 2 * u) i)) → (∀ i, td_b un i = (decide (2 * u ≤ 2 * t) && td_bd k' g' (2 * t - 2 * u) i)) →
        wX_shiftedMeet_85 post (wX_shiftedMeet_2 post (nI a) (nI u) a1 a2 a3 a4 a5 a6 n) (nI a) (nI u) (nI (2 * t)) (((r &&& 87381) <<< (nI (2 * a) &&& 31)) ||| ((r &&& 87381) >>> (nI (2 * a) &&& 31))) ab un a1 a2 a3 a4 a5 a6 := by
      intro r ab un hr hab hun
      have key := td_shw (A := td_bd k g) (B := td_bd k' g') ha hr hab hun hj
      have e2 : nI (2 * t) + 2 = nI (2 * (t + 1)) := nI_add (2 * t) 2
      refine br_c (fun z => nm_r e2 (hw () (fun t' ht' => ?_))) (fun z => h1 ?_)
      · by_cases e : t' = t
        · subst e; exact key.mp z
        · exact hI t' (by omega)
      · exact (td_ma_iff _ _ _ _).mpr ⟨t, ht, Classical.not_not.mp (fun y => z (key.mpr y))⟩
    have mid : ∀ r ab : Int32, (∀ i, td_b r i = td_bd k g (2 * t) i) → (∀ i, td_b ab i = (decide (2 * t + 2 * u < 17) && td_bd k' g' (2 * t + 2 * u) i)) →
        wX_shiftedMeet_59 post (wX_shiftedMeet_2 post (nI a) (nI u) a1 a2 a3 a4 a5 a6 n) (nI a) (nI u) (nI (2 * t)) (((r &&& 87381) <<< (nI (2 * a) &&& 31)) ||| ((r &&& 87381) >>> (nI (2 * a) &&& 31))) ab a1 a2 a3 a4 a5 a6 := by
      intro r ab hr hab
      unfold wX_shiftedMeet_59
      rw [td_2m]
      by_cases c : 2 * u ≤ 2 * t
      · have e1 : nI (2 * t) - nI (2 * u) = nI (2 * t - 2 * u) := pk_sub c
        have e2 : (17 : Int32) + nI (2 * t) - nI (2 * u) = nI (17 * 1 + (2 * t - 2 * u)) := by
          have q : (17 : Int32) + nI (2 * t) = nI (17 + 2 * t) := nI_add 17 (2 * t)
          rw [q, pk_sub (by omega)]
          exact congrArg nI (by omega)
        refine br_f (by rw [e1]; exact nI_pos (by omega)) ?_
        rw [e2]
        exact td_bodyL (w := 1) (by omega) (by omega) l' (fun v hv => fin r ab v hr hab (fun i => by rw [decide_eq_true c, hv]; rfl))
      · exact br_t (pk_sneg (by omega) (by omega)) (fin r ab 0 hr hab (fun i => by rw [td_0, decide_eq_false c]; rfl))
    refine pk_le 17 (2 * t) (fun z => absurd z (by omega)) (fun _ => td_body0 hj l (fun r hr => nm_e (nm_r (by rw [td_2m]) ?_)))
    have e3 : nI (2 * t) + 2 * nI u = nI (2 * t + 2 * u) := by rw [td_2m, nI_add]
    refine pk_le 17 (2 * t + 2 * u) (fun z => mid r 0 hr (fun i => by rw [td_0, decide_eq_false (by omega)]; rfl)) (fun z => ?_) rfl e3
    have e4 : (17 : Int32) + nI (2 * t) + 2 * nI u = nI (17 * 1 + (2 * t + 2 * u)) := by
      have q : (17 : Int32) + nI (2 * t) = nI (17 + 2 * t) := nI_add 17 (2 * t)
      rw [q, td_2m, nI_add]
      exact congrArg nI (by omega)
    rw [e4]
    exact td_bodyL (w := 1) (by omega) z l' (fun v hv => mid r v hr (fun i => by rw [decide_eq_true z, hv]; rfl))
/-! the least square -/
def td_lp (P : Nat → Nat → Prop) (a u R : Nat) : Prop := R ≤ 1000 ∧ (∀ a' u', (a' < a ∧ u' ≤ 8 ∨ a' = a ∧ u' < u) → P a' u' → R ≤ a' * a' + u' * u') ∧ (R = 1000 ∨ ∃ a' u', a' ≤ 8 ∧ u' ≤ 8 ∧ P a' u' ∧ R = a' * a' + u' * u')
theorem td_lp_next {P : Nat → Nat → Prop} {a R : Nat} (h : td_lp P a 9 R) : td_lp P (a + 1) 0 R :=
  ⟨h.1, fun a' u' c p => h.2.1 a' u' (by omega) p, h.2.2⟩
theorem td_lp_keep {P : Nat → Nat → Prop} {a u R : Nat} (h : td_lp P a u R) (k : P a u → R ≤ a * a + u * u) : td_lp P a (u + 1) R :=
  ⟨h.1, fun a' u' c p => by
    by_cases e : a' = a ∧ u' = u
    · obtain ⟨rfl, rfl⟩ := e; exact k p
    · exact h.2.1 a' u' (by omega) p, h.2.2⟩
theorem td_lp_take {P : Nat → Nat → Prop} {a u R : Nat} (h : td_lp P a u R) (ha : a ≤ 8) (hu : u ≤ 8) (lt : a * a + u * u < R) (p : P a u) : td_lp P a (u + 1) (a * a + u * u) :=
  ⟨by have := h.1; omega, fun a' u' c q => by
    by_cases e : a' = a ∧ u' = u
    · obtain ⟨rfl, rfl⟩ := e; exact Nat.le_refl _
    · have := h.2.1 a' u' (by omega) q; omega, Or.inr ⟨a, u, ha, hu, p, rfl⟩⟩
theorem td_leastSquare {post : Int32 → Prop} {a1 a2 a3 a4 a5 a6 : Nat → Int32} {k k' : Nat} {g g' : Nat → Nat → Bool} (l : td_laid a3 a4 0 k g) (l' : td_laid a3 a4 1 k' g')
    (h : post (nI (td_ap k g k' g'))) : wpX_leastSquare post (a1, a2, a3, a4, a5, a6) := by
  refine pk_loop (σ := Nat) (fun n a R => wX_leastSquare_6 post a1 a2 a3 a4 a5 a6 n (nI R) (nI a)) (fun a R => td_lp (td_ma (td_bd k g) (td_bd k' g')) a 0 R) 9 0 1000 (by omega) ⟨by omega, fun a' u' c _ => absurd c (by omega), Or.inl rfl⟩ ?_ ?_
  · intro n R hI
    refine pk_lt 8 9 (fun _ => ?_) (fun z => absurd z (by omega))
    have e : td_ap k g k' g' = R := td_ls_eq ⟨hI.1, fun a u ha hu p => hI.2.1 a u (by omega) p, hI.2.2⟩
    rw [e] at h
    exact h
  · intro n a R ha hI hw
    refine pk_lt 8 a (fun z => absurd z (by omega)) (fun _ => ?_)
    refine pk_loop (σ := Nat) (fun m u R => wX_leastSquare_14 post (wX_leastSquare_6 post a1 a2 a3 a4 a5 a6 n) (nI a) a1 a2 a3 a4 a5 a6 m (nI R) (nI u)) (fun u R => td_lp (td_ma (td_bd k g) (td_bd k' g')) a u R) 9 0 R (by omega) hI ?_ ?_
    · intro m R hI
      exact pk_lt 8 9 (fun _ => nm_r (nI_1 a) (hw R (td_lp_next hI))) (fun z => absurd z (by omega))
    · intro m u R hu hI hw2
      have sq : a * a + u * u ≤ 128 := by
        have p1 : a * a ≤ 8 * 8 := Nat.mul_le_mul (by omega) (by omega)
        have p2 : u * u ≤ 8 * 8 := Nat.mul_le_mul (by omega) (by omega)
        omega
      have R1 := hI.1
      have e4 : nI a * nI a + nI u * nI u = nI (a * a + u * u) := by rw [pk_mul, pk_mul, nI_add]
      refine pk_lt 8 u (fun z => absurd z (by omega)) (fun _ => nm_r e4 (pk_le R (a * a + u * u) (fun z => nm_r (nI_1 u) (hw2 R (td_lp_keep hI (fun _ => z)))) (fun z => ?_)))
      exact td_shiftedMeet l l' (by omega) (by omega) (fun p => br_f (by decide) (nm_r (nI_1 u) (hw2 _ (td_lp_take hI (by omega) (by omega) z p)))) (fun p => br_t rfl (nm_r (nI_1 u) (hw2 R (td_lp_keep hI (fun q => absurd q p)))))
end
section
/-! the picture of a desk -/
def td_pc (K : Nat → Nat) (G : Nat → Nat → Nat → Bool) (a1 a2 : Nat → Int32) : Prop := (∀ s, s < 12 → a1 s = nI (K s)) ∧ ∀ s, s < 12 → ∀ j, j < 17 → ∀ i, td_b (a2 (17 * s + j)) i = G s j i
def td_wf (K : Nat → Nat) (G : Nat → Nat → Nat → Bool) : Prop := ∀ s, s < 12 → td_ok (K s) (G s)
theorem td_n0 {m : Nat} (h : m < 2 ^ 31) : nI m = 0 ↔ m = 0 := nI_eq (b := 0) h (by decide)
/-! names of relations -/
def td_bm (M : Nat → Nat → Nat) : Prop := ¬ (M 0 0 = 0 ∧ M 0 1 = 0 ∧ M 1 0 = 0 ∧ M 1 1 = 0)
def td_hd (nm k : Nat) (g : Nat → Nat → Bool) (k' : Nat) (g' : Nat → Nat → Bool) : Prop :=
  if nm = 0 then td_same (td_bd k g) (td_bd k' g')
  else if nm = 1 then ¬ td_bm (td_meet k g k' g')
  else if nm = 2 then td_meet k g k' g' 0 0 = 0 ∧ td_bm (td_meet k g k' g')
  else if nm = 3 then td_meet k g k' g' 0 0 ≠ 0 ∧ (td_meet k g k' g' 0 2 = 0 ∧ td_meet k g k' g' 1 2 = 0)
  else if nm = 4 then td_meet k g k' g' 2 0 = 0 ∧ td_meet k g k' g' 2 1 = 0
  else if nm = 5 then td_meet k g k' g' 0 0 ≠ 0 ∧ td_meet k g k' g' 0 0 < max k k' ∧ td_meet k g k' g' 0 2 ≠ 0
  else k = k' ∧ td_meet k g k' g' 0 0 = k ∧ td_meet k g k' g' 0 2 ≠ 0 ∧ td_meet k g k' g' 2 0 ≠ 0
theorem td_hd_tr {k k' : Nat} {g g' : Nat → Nat → Bool} (h : td_ok k g) (h' : td_ok k' g') (nm : Nat) : td_hd nm k (td_tr g) k' (td_tr g') ↔ td_hd nm k g k' g' := by
  have eM : td_meet k (td_tr g) k' (td_tr g') = td_meet k g k' g' := funext (fun p => funext (fun q => td_meet_tr h h' p q))
  unfold td_hd
  rw [eM, td_bdF h, td_bdF h']
  by_cases z : nm = 0
  · rw [if_pos z, if_pos z]; exact td_same_tr _ _
  · rw [if_neg z, if_neg z]
section
variable {post : Int32 → Prop} {a1 a2 a3 a4 a5 a6 : Nat → Int32} {k k' : Nat} {g g' : Nat → Nat → Bool}
theorem td_bodiesMeet (ok : td_ok k g) (l : td_laid a3 a4 0 k g) (l' : td_laid a3 a4 1 k' g') (h1 : td_bm (td_meet k g k' g') → post 1) (h0 : ¬ td_bm (td_meet k g k' g') → post 0) : wpX_bodiesMeet post (a1, a2, a3, a4, a5, a6) := by
  have e : ∀ p q, td_meet k g k' g' p q < 2 ^ 31 := fun p q => by have := td_meet_le k g k' g' p q; omega
  unfold wpX_bodiesMeet
  dsimp only
  refine td_meeting 0 0 ok l l' (td_meeting 0 1 ok l l' (td_meeting 1 0 ok l l' (td_meeting 1 1 ok l l' (nm_e (br_c (fun z => ?_) (fun z => ?_))))))
  · rw [td_or0, td_or0, td_or0, td_n0 (e _ _), td_n0 (e _ _), td_n0 (e _ _), td_n0 (e _ _)] at z
    exact h0 (fun y => y ⟨z.1.1.1, z.1.1.2, z.1.2, z.2⟩)
  · rw [td_or0, td_or0, td_or0, td_n0 (e _ _), td_n0 (e _ _), td_n0 (e _ _), td_n0 (e _ _)] at z
    exact h1 (fun y => z ⟨⟨⟨y.1, y.2.1⟩, y.2.2.1⟩, y.2.2.2⟩)
theorem td_firstInSecond (ok : td_ok k g) (l : td_laid a3 a4 0 k g) (l' : td_laid a3 a4 1 k' g') (h1 : td_meet k g k' g' 0 2 = 0 ∧ td_meet k g k' g' 1 2 = 0 → post 1) (h0 : ¬ (td_meet k g k' g' 0 2 = 0 ∧ td_meet k g k' g' 1 2 = 0) → post 0) : wpX_firstInSecond post (a1, a2, a3, a4, a5, a6) := by
  have e : ∀ p q, td_meet k g k' g' p q < 2 ^ 31 := fun p q => by have := td_meet_le k g k' g' p q; omega
  unfold wpX_firstInSecond
  dsimp only
  refine td_meeting 0 2 ok l l' (td_meeting 1 2 ok l l' (nm_e (br_c (fun z => ?_) (fun z => ?_))))
  · rw [td_or0, td_n0 (e _ _), td_n0 (e _ _)] at z; exact h1 z
  · rw [td_or0, td_n0 (e _ _), td_n0 (e _ _)] at z; exact h0 z
theorem td_secondInFirst (ok : td_ok k g) (l : td_laid a3 a4 0 k g) (l' : td_laid a3 a4 1 k' g') (h1 : td_meet k g k' g' 2 0 = 0 ∧ td_meet k g k' g' 2 1 = 0 → post 1) (h0 : ¬ (td_meet k g k' g' 2 0 = 0 ∧ td_meet k g k' g' 2 1 = 0) → post 0) : wpX_secondInFirst post (a1, a2, a3, a4, a5, a6) := by
  have e : ∀ p q, td_meet k g k' g' p q < 2 ^ 31 := fun p q => by have := td_meet_le k g k' g' p q; omega
  unfold wpX_secondInFirst
  dsimp only
  refine td_meeting 2 0 ok l l' (td_meeting 2 1 ok l l' (nm_e (br_c (fun z => ?_) (fun z => ?_))))
  · rw [td_or0, td_n0 (e _ _), td_n0 (e _ _)] at z; exact h1 z
  · rw [td_or0, td_n0 (e _ _), td_n0 (e _ _)] at z; exact h0 z
theorem td_nb1 : narrow .boolean (.int 1) = .int 1 := by rfl
theorem td_nb0 : narrow .boolean (.int 0) = .int 0 := by rfl
theorem td_holds (ok : td_ok k g) (ok' : td_ok k' g') (l : td_laid a3 a4 0 k g) (l' : td_laid a3 a4 1 k' g') (nm : Nat) (hn : nm ≤ 6) (h1 : td_hd nm k g k' g' → post 1) (h0 : ¬ td_hd nm k g k' g' → post 0) : wpX_holds post (a1, a2, a3, a4, a5, a6) (nI nm) (nI k) (nI k') := by
  have e : ∀ p q, td_meet k g k' g' p q < 2 ^ 31 := fun p q => by have := td_meet_le k g k' g' p q; omega
  have e00 := e 0 0
  have e02 := e 0 2
  have e20 := e 2 0
  have hk := ok.1
  have hk' := ok'.1
  unfold wpX_holds
  dsimp only
  refine td_meeting 0 0 ok l l' (br_f (nI_pos (by omega)) (pk_lt 5 nm (fun z => ?_) (fun z => pk_eq nm 0 (fun z0 => ?_) (fun z0 => pk_eq nm 1 (fun z1 => ?_) (fun z1 => pk_eq nm 2 (fun z2 => ?_) (fun z2 => pk_eq nm 3 (fun z3 => ?_) (fun z3 => pk_eq nm 4 (fun z4 => ?_) (fun z4 => pk_eq nm 5 (fun z5 => ?_) (fun z5 => trivial)))))))))
  · have z6 : nm = 6 := by omega
    subst z6
    refine td_meeting 0 2 ok l l' (td_meeting 2 0 ok l l' (pk_eq k k' (fun c1 => pk_eq (td_meet k g k' g' 0 0) k (fun c2 => pk_eq (td_meet k g k' g' 0 2) 0 (fun c3 => ?_) (fun c3 => pk_eq (td_meet k g k' g' 2 0) 0 (fun c4 => ?_) (fun c4 => ?_))) (fun c2 => ?_)) (fun c1 => ?_)))
    · exact h0 (fun y => (show k = k' ∧ td_meet k g k' g' 0 0 = k ∧ td_meet k g k' g' 0 2 ≠ 0 ∧ td_meet k g k' g' 2 0 ≠ 0 from y).2.2.1 c3)
    · exact h0 (fun y => (show k = k' ∧ td_meet k g k' g' 0 0 = k ∧ td_meet k g k' g' 0 2 ≠ 0 ∧ td_meet k g k' g' 2 0 ≠ 0 from y).2.2.2 c4)
    · exact h1 (show k = k' ∧ td_meet k g k' g' 0 0 = k ∧ td_meet k g k' g' 0 2 ≠ 0 ∧ td_meet k g k' g' 2 0 ≠ 0 from ⟨c1, c2, c3, c4⟩)
    · exact h0 (fun y => c2 (show k = k' ∧ td_meet k g k' g' 0 0 = k ∧ td_meet k g k' g' 0 2 ≠ 0 ∧ td_meet k g k' g' 2 0 ≠ 0 from y).2.1)
    · exact h0 (fun y => c1 (show k = k' ∧ td_meet k g k' g' 0 0 = k ∧ td_meet k g k' g' 0 2 ≠ 0 ∧ td_meet k g k' g' 2 0 ≠ 0 from y).1)
  · subst z0
    exact td_sameBodies ok ok' l l' (fun y => ⟨td_nb1, h1 y⟩) (fun y => ⟨td_nb0, h0 y⟩)
  · subst z1
    exact td_bodiesMeet ok l l' (fun y => br_f (by decide) (h0 (fun x => (show ¬ td_bm (td_meet k g k' g') from x) y))) (fun y => br_t rfl (h1 y))
  · subst z2
    refine pk_eq (td_meet k g k' g' 0 0) 0 (fun c => ?_) (fun c => h0 (fun y => c (show td_meet k g k' g' 0 0 = 0 ∧ td_bm (td_meet k g k' g') from y).1))
    exact td_bodiesMeet ok l l' (fun y => br_f (by decide) (h1 (show td_meet k g k' g' 0 0 = 0 ∧ td_bm (td_meet k g k' g') from ⟨c, y⟩))) (fun y => br_t rfl (h0 (fun x => y (show td_meet k g k' g' 0 0 = 0 ∧ td_bm (td_meet k g k' g') from x).2)))
  · subst z3
    refine pk_eq (td_meet k g k' g' 0 0) 0 (fun c => h0 (fun y => (show td_meet k g k' g' 0 0 ≠ 0 ∧ (td_meet k g k' g' 0 2 = 0 ∧ td_meet k g k' g' 1 2 = 0) from y).1 c)) (fun c => ?_)
    exact td_firstInSecond ok l l' (fun y => br_f (by decide) (h1 (show td_meet k g k' g' 0 0 ≠ 0 ∧ (td_meet k g k' g' 0 2 = 0 ∧ td_meet k g k' g' 1 2 = 0) from ⟨c, y⟩))) (fun y => br_t rfl (h0 (fun x => y (show td_meet k g k' g' 0 0 ≠ 0 ∧ (td_meet k g k' g' 0 2 = 0 ∧ td_meet k g k' g' 1 2 = 0) from x).2)))
  · subst z4
    exact td_secondInFirst ok l l' (fun y => ⟨td_nb1, h1 y⟩) (fun y => ⟨td_nb0, h0 y⟩)
  · subst z5
    refine td_greater (by omega) (by omega) (td_meeting 0 2 ok l l' (pk_eq (td_meet k g k' g' 0 0) 0 (fun c => h0 (fun y => (show td_meet k g k' g' 0 0 ≠ 0 ∧ td_meet k g k' g' 0 0 < max k k' ∧ td_meet k g k' g' 0 2 ≠ 0 from y).1 c)) (fun c => pk_le (max k k') (td_meet k g k' g' 0 0) (fun c2 => h0 (fun y => ?_)) (fun c2 => pk_eq (td_meet k g k' g' 0 2) 0 (fun c3 => h0 (fun y => (show td_meet k g k' g' 0 0 ≠ 0 ∧ td_meet k g k' g' 0 0 < max k k' ∧ td_meet k g k' g' 0 2 ≠ 0 from y).2.2 c3)) (fun c3 => h1 (show td_meet k g k' g' 0 0 ≠ 0 ∧ td_meet k g k' g' 0 0 < max k k' ∧ td_meet k g k' g' 0 2 ≠ 0 from ⟨c, c2, c3⟩))))))
    have := (show td_meet k g k' g' 0 0 ≠ 0 ∧ td_meet k g k' g' 0 0 < max k k' ∧ td_meet k g k' g' 0 2 ≠ 0 from y).2.1
    omega
end
/-! refusals -/
section
variable {post : Int32 → Prop} {a1 a2 a3 a4 a5 a6 : Nat → Int32} {K : Nat → Nat} {G : Nat → Nat → Nat → Bool} {s t : Nat}
theorem td_pairRefusal (pc : td_pc K G a1 a2) (wf : td_wf K G) (hs : s < 12) (ht : t < 12) (h2 : (K s = 0 ∨ K t = 0) → post (-2)) (h0 : ¬ (K s = 0 ∨ K t = 0) → post 0) : wpX_pairRefusal post (a1, a2, a3, a4, a5, a6) (nI s) (nI t) := by
  have k1 := (wf s hs).1
  have k2 := (wf t ht).1
  unfold wpX_pairRefusal
  dsimp only
  refine td_isSlot hs (br_f (by decide) (td_isSlot ht (br_f (by decide) ⟨pk_in s 12 hs, ?_⟩)))
  rw [nI_clamp (show s < 2 ^ 31 by omega), nI_clamp (show t < 2 ^ 31 by omega), pc.1 s hs, pc.1 t ht]
  exact pk_eq (K s) 0 (fun z => h2 (Or.inl z)) (fun z => ⟨pk_in t 12 ht, pk_eq (K t) 0 (fun z2 => h2 (Or.inr z2)) (fun z2 => h0 (fun y => y.elim z z2))⟩)
theorem td_areaRefusal (pc : td_pc K G a1 a2) (wf : td_wf K G) (hs : s < 12) (h2 : K s = 0 → post (-2)) (h3 : K s ≠ 0 → K s ≠ 3 → post (-3)) (h0 : K s = 3 → post 0) : wpX_areaRefusal post (a1, a2, a3, a4, a5, a6) (nI s) := by
  have k1 := (wf s hs).1
  unfold wpX_areaRefusal
  dsimp only
  refine td_isSlot hs (br_f (by decide) ⟨pk_in s 12 hs, ?_⟩)
  rw [nI_clamp (show s < 2 ^ 31 by omega), pc.1 s hs]
  exact pk_eq (K s) 0 h2 (fun z => ⟨pk_in s 12 hs, pk_eq (K s) 3 h0 (fun z3 => h3 z z3)⟩)
theorem td_kind (pc : td_pc K G a1 a2) (hs : s < 12) (h : post (nI (K s))) : wpX_kind post (a1, a2, a3, a4, a5, a6) (nI s) := by
  unfold wpX_kind
  dsimp only
  refine td_isSlot hs (br_f (by decide) ⟨pk_in s 12 hs, ?_⟩)
  rw [nI_clamp (show s < 2 ^ 31 by omega), pc.1 s hs]
  exact h
theorem td_countK (pc : td_pc K G a1 a2) (wf : td_wf K G) (hs : s < 12) (h : post (nI (td_cnt (G s)))) : wpX_count post (a1, a2, a3, a4, a5, a6) (nI s) :=
  td_count hs (pc.2 s hs) (fun j i z => td_ok_r (wf s hs) _ _ (by omega)) h
theorem td_size (pc : td_pc K G a1 a2) (wf : td_wf K G) (hs : s < 12) (h : post (nI (td_cnt (G s)))) : wpX_size post (a1, a2, a3, a4, a5, a6) (nI s) := by
  unfold wpX_size
  dsimp only
  exact td_isSlot hs (br_f (by decide) (td_countK pc wf hs h))
end
theorem td_laid_keep {a3 a4 b3 b4 : Nat → Int32} {k : Nat} {g : Nat → Nat → Bool} (l : td_laid a3 a4 0 k g) (h : ∀ x, (x < 17 * 1 ∨ 17 * 1 + 17 ≤ x) → b3 x = a3 x ∧ b4 x = a4 x) : td_laid b3 b4 0 k g := by
  intro j hj i
  have := h (17 * 0 + j) (by omega)
  rw [this.1, this.2]
  exact l j hj i
end
section
/-! questions that lay shapes down -/
def td_pv (k : Nat) (g : Nat → Nat → Bool) (i j : Nat) : Int32 := if k = 0 then -2 else if td_in k g j i = true then 0 else if td_ri k g j i = true then 1 else 2
def td_rl (M : Nat → Nat) : Nat → Nat
  | 0 => 0
  | c + 1 => 4 * td_rl M c + M c
def td_rv (k : Nat) (g : Nat → Nat → Bool) (k' : Nat) (g' : Nat → Nat → Bool) : Int32 := if k = 0 ∨ k' = 0 then -2 else nI (td_rl (fun c => td_meet k g k' g' (c / 3) (c % 3)) 9)
noncomputable def td_isv (nm k : Nat) (g : Nat → Nat → Bool) (k' : Nat) (g' : Nat → Nat → Bool) : Int32 := if k = 0 ∨ k' = 0 then -2 else @ite _ (td_hd nm k g k' g') (Classical.propDecidable _) 1 0
noncomputable def td_gd (k : Nat) (g : Nat → Nat → Bool) : Nat → Nat → Bool := if k = 3 then td_in k g else td_bd k g
noncomputable def td_pcv (k : Nat) (g : Nat → Nat → Bool) : Int32 := if k = 0 then -2 else nI (td_np (td_gd k g))
noncomputable def td_hov (k : Nat) (g : Nat → Nat → Bool) : Int32 := if k = 0 then -2 else if k = 3 then nI (td_np (td_hole k g)) else -3
def td_rg (k : Nat) (g : Nat → Nat → Bool) (j i : Nat) : Bool := td_ri k g j i && decide ((j + i) % 2 = 1)
def td_rmv (k : Nat) (g : Nat → Nat → Bool) : Int32 := if k = 0 then -2 else if k = 3 then nI (td_cnt (td_rg k g)) else -3
noncomputable def td_apv (k : Nat) (g : Nat → Nat → Bool) (k' : Nat) (g' : Nat → Nat → Bool) : Int32 := if k = 0 ∨ k' = 0 then -2 else nI (td_ap k g k' g')
/-- edges of the rim, as the program masks them -/
theorem td_rgE {w : Int32} {k j : Nat} {g : Nat → Nat → Bool} (ok : td_ok k g) (hw : ∀ i, td_b w i = td_ri k g j i) (h : j % 2 = 0) (i : Nat) : td_b (w &&& 43690) i = td_rg k g j i := by
  rw [td_and, td_ODD, hw]
  unfold td_rg
  rcases Nat.lt_or_ge i 17 with z | z
  · rw [decide_eq_true z]
    by_cases y : i % 2 = 1
    · rw [decide_eq_true y, decide_eq_true (show (j + i) % 2 = 1 by omega)]; rfl
    · rw [decide_eq_false y, decide_eq_false (show ¬ (j + i) % 2 = 1 by omega)]; rfl
  · rw [td_ri_lt ok j z]; rfl
theorem td_rgO {w : Int32} {k j : Nat} {g : Nat → Nat → Bool} (ok : td_ok k g) (hw : ∀ i, td_b w i = td_ri k g j i) (h : ¬ j % 2 = 0) (i : Nat) : td_b (w &&& 87381) i = td_rg k g j i := by
  rw [td_and, td_EVEN, hw]
  unfold td_rg
  rcases Nat.lt_or_ge i 17 with z | z
  · rw [decide_eq_true z]
    by_cases y : i % 2 = 0
    · rw [decide_eq_true y, decide_eq_true (show (j + i) % 2 = 1 by omega)]; rfl
    · rw [decide_eq_false y, decide_eq_false (show ¬ (j + i) % 2 = 1 by omega)]; rfl
  · rw [td_ri_lt ok j z]; rfl
theorem td_rg_lt {k j : Nat} {g : Nat → Nat → Bool} (ok : td_ok k g) (i : Nat) (h : 17 ≤ i) : td_rg k g j i = false := by
  unfold td_rg; rw [td_ri_lt ok j h]; rfl
section
variable {post : Int32 → St1 → Prop} {a1 a2 a3 a4 a5 a6 : Nat → Int32} {K : Nat → Nat} {G : Nat → Nat → Nat → Bool} {s t : Nat}
theorem td_partQ (pc : td_pc K G a1 a2) (wf : td_wf K G) (hs : s < 12) {i j : Nat} (hi : i < 17) (hj : j < 17) (H : ∀ b3 b4 b5 b6, post (td_pv (K s) (G s) i j) (a1, a2, b3, b4, b5, b6)) : wpX_part post (a1, a2, a3, a4, a5, a6) (nI s) (nI i) (nI j) := by
  have k1 := (wf s hs).1
  unfold td_pv at H
  unfold wpX_part
  dsimp only
  refine td_isSlot hs (br_f (by decide) ⟨pk_in s 12 hs, ?_⟩)
  rw [nI_clamp (show s < 2 ^ 31 by omega), pc.1 s hs]
  refine pk_eq (K s) 0 (fun z => ?_) (fun z => br_f (nI_pos (by omega)) (pk_le 17 i (fun y => absurd y (by omega)) (fun _ => br_f (nI_pos (by omega)) (pk_lt j 17 (fun _ => ?_) (fun y => absurd y (by omega))))))
  · rw [if_pos z] at H; exact H _ _ _ _
  · rw [if_neg z] at H
    refine td_lay (w := 0) hs (by omega) (pc.1 s hs) (pc.2 s hs) (wf s hs) (fun b3 b4 l _ => ⟨pk_in j 34 (by omega), ?_⟩)
    have l3 := td_lo_of (fun i => (td_laid0 l hj i).1) (fun i hi => td_in_lt (wf s hs) j hi)
    have l4 := td_lo_of (fun i => (td_laid0 l hj i).2) (fun i hi => td_ri_lt (wf s hs) j hi)
    rw [nI_clamp (show j < 2 ^ 31 by omega), td_ask l3 i hi, td_ask l4 i hi, (td_laid0 l hj i).1, (td_laid0 l hj i).2]
    refine br_c (fun y => ?_) (fun y => ⟨pk_in j 34 (by omega), br_c (fun x => ?_) (fun x => ?_)⟩)
    · rw [if_pos y] at H; exact H _ _ _ _
    · rw [if_neg y, if_pos x] at H; exact H _ _ _ _
    · rw [if_neg y, if_neg x] at H; exact H _ _ _ _
theorem td_relate (pc : td_pc K G a1 a2) (wf : td_wf K G) (hs : s < 12) (ht : t < 12) (H : ∀ b3 b4 b5 b6, post (td_rv (K s) (G s) (K t) (G t)) (a1, a2, b3, b4, b5, b6)) : wpX_relate post (a1, a2, a3, a4, a5, a6) (nI s) (nI t) := by
  unfold td_rv at H
  unfold wpX_relate
  dsimp only
  refine td_pairRefusal pc wf hs ht (fun z => br_f (by decide) ?_) (fun z => br_t rfl ?_)
  · rw [if_pos z] at H; exact H _ _ _ _
  · rw [if_neg z] at H
    refine td_lay (w := 0) hs (by omega) (pc.1 s hs) (pc.2 s hs) (wf s hs) (fun b3 b4 l _ => td_lay (w := 1) ht (by omega) (pc.1 t ht) (pc.2 t ht) (wf t ht) (fun c3 c4 l' f' => ?_))
    have l := td_laid_keep l f'
    refine pk_loop (σ := Unit) (fun n c _ => wX_relate_31 post a1 a2 c3 c4 a5 a6 n (nI (td_rl (fun c => td_meet (K s) (G s) (K t) (G t) (c / 3) (c % 3)) c)) (nI c)) (fun _ _ => True) 9 0 () (by omega) trivial ?_ ?_
    · intro n _ _
      exact pk_le 9 9 (fun _ => H _ _ _ _) (fun y => absurd y (by omega))
    · intro n c _ hc _ hw
      refine pk_le 9 c (fun y => absurd y (by omega)) (fun _ => ⟨by decide, by decide, ?_⟩)
      have e1 : nI c / 3 = nI (c / 3) := pk_div (d := 3) (by omega) (by decide) (by decide)
      have e2 : nI c - nI (c / 3) * 3 = nI (c % 3) := by rw [← e1]; exact pk_rem (d := 3) (by omega) (by decide) (by decide)
      rw [e1, e2]
      refine td_meeting (c / 3) (c % 3) (wf s hs) l l' (nm_r ?_ (nm_r (nI_1 c) (hw () trivial)))
      show (4 : Int32) * nI _ + nI _ = nI (4 * _ + _)
      rw [show (4 : Int32) = nI 4 from rfl, pk_mul, nI_add]
theorem td_isQ (pc : td_pc K G a1 a2) (wf : td_wf K G) (hs : s < 12) (ht : t < 12) {nm : Nat} (hn : nm ≤ 6) (H : ∀ b3 b4 b5 b6, post (td_isv nm (K s) (G s) (K t) (G t)) (a1, a2, b3, b4, b5, b6)) : wpX_is post (a1, a2, a3, a4, a5, a6) (nI s) (nI t) (nI nm) := by
  unfold td_isv at H
  unfold wpX_is
  dsimp only
  refine td_pairRefusal pc wf hs ht (fun z => br_f (by decide) ?_) (fun z => br_t rfl ?_)
  · rw [if_pos z] at H; exact H _ _ _ _
  · rw [if_neg z] at H
    refine br_f (nI_pos (by omega)) (br_t (nI_le (b := 6) hn (by decide)) ?_)
    refine td_lay (w := 0) hs (by omega) (pc.1 s hs) (pc.2 s hs) (wf s hs) (fun b3 b4 l _ => td_lay (w := 1) ht (by omega) (pc.1 t ht) (pc.2 t ht) (wf t ht) (fun c3 c4 l' f' => ⟨pk_in s 12 hs, pk_in t 12 ht, ?_⟩))
    have l := td_laid_keep l f'
    dsimp only
    rw [nI_clamp (show s < 2 ^ 31 by omega), nI_clamp (show t < 2 ^ 31 by omega), pc.1 s hs, pc.1 t ht]
    refine td_holds (wf s hs) (wf t ht) l l' nm hn (fun y => br_f (by decide) ?_) (fun y => br_t rfl ?_)
    · rw [if_pos y] at H; exact H _ _ _ _
    · rw [if_neg y] at H; exact H _ _ _ _
theorem td_apart (pc : td_pc K G a1 a2) (wf : td_wf K G) (hs : s < 12) (ht : t < 12) (H : ∀ b3 b4 b5 b6, post (td_apv (K s) (G s) (K t) (G t)) (a1, a2, b3, b4, b5, b6)) : wpX_apart post (a1, a2, a3, a4, a5, a6) (nI s) (nI t) := by
  unfold td_apv at H
  unfold wpX_apart
  dsimp only
  refine td_pairRefusal pc wf hs ht (fun z => br_f (by decide) ?_) (fun z => br_t rfl ?_)
  · rw [if_pos z] at H; exact H _ _ _ _
  · rw [if_neg z] at H
    refine td_lay (w := 0) hs (by omega) (pc.1 s hs) (pc.2 s hs) (wf s hs) (fun b3 b4 l _ => td_lay (w := 1) ht (by omega) (pc.1 t ht) (pc.2 t ht) (wf t ht) (fun c3 c4 l' f' => ?_))
    exact td_leastSquare (td_laid_keep l f') l' (H _ _ _ _)
theorem td_pieces (pc : td_pc K G a1 a2) (wf : td_wf K G) (hs : s < 12) (H : ∀ b3 b4 b5 b6, post (td_pcv (K s) (G s)) (a1, a2, b3, b4, b5, b6)) : wpX_pieces post (a1, a2, a3, a4, a5, a6) (nI s) := by
  have k1 := (wf s hs).1
  have ok := wf s hs
  unfold td_pcv at H
  unfold wpX_pieces
  dsimp only
  refine td_isSlot hs (br_f (by decide) ⟨pk_in s 12 hs, ?_⟩)
  rw [nI_clamp (show s < 2 ^ 31 by omega), pc.1 s hs]
  refine pk_eq (K s) 0 (fun z => ?_) (fun z => ?_)
  · rw [if_pos z] at H; exact H _ _ _ _
  · rw [if_neg z] at H
    refine td_lay (w := 0) hs (by omega) (pc.1 s hs) (pc.2 s hs) ok (fun b3 b4 l _ => ?_)
    have gl : ∀ j i, (17 ≤ j ∨ 17 ≤ i) → td_gd (K s) (G s) j i = false := by
      intro j i y
      unfold td_gd
      by_cases c : K s = 3
      · rw [if_pos c]
        rcases y with y | y
        · exact td_in_ltj ok i y
        · exact td_in_lt ok j y
      · rw [if_neg c]
        unfold td_bd
        rcases y with y | y
        · rw [td_in_ltj ok i y, td_ri_ltj ok i y]; rfl
        · rw [td_in_lt ok j y, td_ri_lt ok j y]; rfl
    refine pk_loop (σ := Nat → Int32) (fun n j u => wX_pieces_29 post (nI s) n (nI j) a1 a2 b3 b4 u a6) (fun j u => ∀ j', j' < j → ∀ i, td_b (u j') i = td_gd (K s) (G s) j' i) 17 0 a5 (by omega) (fun j' y => absurd y (by omega)) ?_ ?_
    · intro n u hI
      have e : td_gr u = td_gd (K s) (G s) := funext (fun j => funext (fun i => by
        rcases Nat.lt_or_ge j 17 with y | y
        · rw [td_gr_at y]; exact hI j y i
        · rw [td_gr_no y, gl j i (Or.inl y)]))
      refine pk_le 17 17 (fun _ => td_countPieces (fun j i y => ?_) (fun c5 c6 => ?_)) (fun y => absurd y (by omega))
      · rw [e] at y
        rcases Nat.lt_or_ge i 17 with x | x
        · exact x
        · rw [gl j i (Or.inr x)] at y; exact absurd y (by decide)
      · rw [e]; exact H _ _ _ _
    · intro n j u hj hI hw
      have ec : (nI j).toNatClampNeg = j := nI_clamp (by omega)
      refine pk_le 17 j (fun y => absurd y (by omega)) (fun _ => ⟨pk_in s 12 hs, ?_⟩)
      rw [nI_clamp (show s < 2 ^ 31 by omega), pc.1 s hs, ec]
      have step : ∀ v, (∀ i, td_b v i = td_gd (K s) (G s) j i) → wX_pieces_29 post (nI s) n (nI (j + 1)) a1 a2 b3 b4 (upd u j v) a6 := by
        intro v hv
        refine hw _ (fun j' hj' i => ?_)
        by_cases e : j' = j
        · subst e; rw [pk_us]; exact hv i
        · rw [pk_un e]; exact hI j' (by omega) i
      refine pk_eq (K s) 3 (fun y => ⟨pk_in j 34 (by omega), pk_in j 17 hj, nm_e (nm_r (nI_1 j) (step _ (fun i => ?_)))⟩) (fun y => td_body0 hj l (fun v hv => ⟨pk_in j 17 hj, nm_e (nm_r (nI_1 j) (step _ (fun i => ?_)))⟩))
      · unfold td_gd; rw [if_pos y]; exact (td_laid0 l hj i).1
      · unfold td_gd; rw [if_neg y]; exact hv i
theorem td_holes (pc : td_pc K G a1 a2) (wf : td_wf K G) (hs : s < 12) (H : ∀ b3 b4 b5 b6, post (td_hov (K s) (G s)) (a1, a2, b3, b4, b5, b6)) : wpX_holes post (a1, a2, a3, a4, a5, a6) (nI s) := by
  unfold td_hov at H
  unfold wpX_holes
  dsimp only
  refine td_areaRefusal pc wf hs (fun z => br_f (by decide) ?_) (fun z z3 => br_f (by decide) ?_) (fun z => br_t rfl ?_)
  · rw [if_pos z] at H; exact H _ _ _ _
  · rw [if_neg z, if_neg z3] at H; exact H _ _ _ _
  · rw [if_neg (by omega), if_pos z] at H
    refine td_layHoles hs (pc.1 s hs) (pc.2 s hs) (wf s hs) (fun b3 b4 b5 b6 e => ?_)
    have e' : td_gr b5 = td_hole (K s) (G s) := funext (fun j => funext (fun i => e j i))
    refine td_countPieces (fun j i y => ?_) (fun c5 c6 => ?_)
    · rw [e'] at y; exact (td_hole_lt y).2
    · rw [e']; exact H _ _ _ _
theorem td_rim (pc : td_pc K G a1 a2) (wf : td_wf K G) (hs : s < 12) (H : ∀ b3 b4 b5 b6, post (td_rmv (K s) (G s)) (a1, a2, b3, b4, b5, b6)) : wpX_rim post (a1, a2, a3, a4, a5, a6) (nI s) := by
  unfold td_rmv at H
  unfold wpX_rim
  dsimp only
  refine td_areaRefusal pc wf hs (fun z => br_f (by decide) ?_) (fun z z3 => br_f (by decide) ?_) (fun z => br_t rfl ?_)
  · rw [if_pos z] at H; exact H _ _ _ _
  · rw [if_neg z, if_neg z3] at H; exact H _ _ _ _
  · rw [if_neg (by omega), if_pos z] at H
    have ok := wf s hs
    refine td_lay (w := 0) hs (by omega) (pc.1 s hs) (pc.2 s hs) ok (fun b3 b4 l _ => ?_)
    refine pk_loop (σ := Unit) (fun n j _ => wX_rim_23 post a1 a2 b3 b4 a5 a6 n (nI (td_sm j (fun j => td_pn (td_rg (K s) (G s) j)))) (nI j)) (fun _ _ => True) 17 0 () (by omega) trivial ?_ ?_
    · intro n _ _
      exact pk_le 17 17 (fun _ => H _ _ _ _) (fun y => absurd y (by omega))
    · intro n j _ hj _ hw
      refine pk_le 17 j (fun y => absurd y (by omega)) (fun _ => ⟨pk_in j 34 (by omega), by decide, ?_⟩)
      rw [nI_clamp (show j < 2 ^ 31 by omega)]
      refine pk_eq (j % 2) 0 (fun y => ?_) (fun y => ?_) (td_rem2 (by omega))
      · exact td_ones (td_rg (K s) (G s) j) (td_rgE ok (fun i => (td_laid0 l hj i).2) y) (td_rg_lt ok) (nm_r (nI_add _ _) (nm_r (nI_1 j) (hw () trivial)))
      · exact td_ones (td_rg (K s) (G s) j) (td_rgO ok (fun i => (td_laid0 l hj i).2) y) (td_rg_lt ok) (nm_r (nI_add _ _) (nm_r (nI_1 j) (hw () trivial)))
end
end
section
/-! pairs, the nearest -/
noncomputable def td_pr (K : Nat → Nat) (G : Nat → Nat → Nat → Bool) (nm c : Nat) : Nat := if c / 12 ≠ c % 12 ∧ td_isv nm (K (c / 12)) (G (c / 12)) (K (c % 12)) (G (c % 12)) = 1 then 1 else 0
noncomputable def td_prv (K : Nat → Nat) (G : Nat → Nat → Nat → Bool) (nm : Nat) : Int32 := nI (td_sm 144 (td_pr K G nm))
theorem td_ap_le (k : Nat) (g : Nat → Nat → Bool) (k' : Nat) (g' : Nat → Nat → Bool) : td_ap k g k' g' ≤ 1000 := by
  unfold td_ap td_ls
  by_cases h : ∃ R, td_least (td_ma (td_bd k g) (td_bd k' g')) R
  · rw [dif_pos h]; exact (Classical.choose_spec h).1
  · rw [dif_neg h]; exact Nat.zero_le _
noncomputable def td_D (K : Nat → Nat) (G : Nat → Nat → Nat → Bool) (s o : Nat) : Nat := td_ap (K s) (G s) (K o) (G o)
def td_nr (K : Nat → Nat) (G : Nat → Nat → Nat → Bool) (s : Nat) (r : Int32) : Prop :=
  (r = -7 ∧ ∀ o, o < 12 → o ≠ s → K o ≠ 0 → 1000 ≤ td_D K G s o) ∨ ∃ b, b < 12 ∧ r = nI b ∧ b ≠ s ∧ K b ≠ 0 ∧ td_D K G s b < 1000 ∧ ∀ o, o < 12 → o ≠ s → K o ≠ 0 → td_D K G s b ≤ td_D K G s o
section
variable {post : Int32 → St1 → Prop} {a1 a2 a3 a4 a5 a6 : Nat → Int32} {K : Nat → Nat} {G : Nat → Nat → Nat → Bool} {s : Nat}
theorem td_pairs (pc : td_pc K G a1 a2) (wf : td_wf K G) {nm : Nat} (hn : nm ≤ 6) (H : ∀ b3 b4 b5 b6, post (td_prv K G nm) (a1, a2, b3, b4, b5, b6)) : wpX_pairs post (a1, a2, a3, a4, a5, a6) (nI nm) := by
  refine br_f (nI_pos (by omega)) (br_t (nI_le (b := 6) hn (by decide)) ?_)
  refine pk_loop (σ := (Nat → Int32) × (Nat → Int32) × (Nat → Int32) × (Nat → Int32)) (fun n c u => wX_pairs_17 post (nI nm) n (nI (td_sm c (td_pr K G nm))) (nI c) a1 a2 u.1 u.2.1 u.2.2.1 u.2.2.2) (fun _ _ => True) 144 0 (a3, a4, a5, a6) (by omega) trivial ?_ ?_
  · intro n u _
    exact pk_le 144 144 (fun _ => H _ _ _ _) (fun y => absurd y (by omega))
  · rintro n c ⟨b3, b4, b5, b6⟩ hc _ hw
    have e1 : nI c / 12 = nI (c / 12) := pk_div (d := 12) (by omega) (by decide) (by decide)
    have e2 : nI c - nI c / 12 * 12 = nI (c % 12) := pk_rem (d := 12) (by omega) (by decide) (by decide)
    have nxt : ∀ m, td_pr K G nm c = m → ∀ c3 c4 c5 c6, wX_pairs_17 post (nI nm) n (nI (td_sm c (td_pr K G nm) + m)) (nI (c + 1)) a1 a2 c3 c4 c5 c6 := by
      intro m hm c3 c4 c5 c6
      have := hw (c3, c4, c5, c6) trivial
      rw [td_sm_s, hm] at this
      exact this
    refine pk_le 144 c (fun y => absurd y (by omega)) (fun _ => ⟨by decide, nm_r e1 ⟨by decide, nm_r e2 (pk_eq (c / 12) (c % 12) (fun z => nm_r (nI_1 c) ?_) (fun z => ?_))⟩⟩)
    · have p0 : td_pr K G nm c = 0 := by unfold td_pr; rw [if_neg (fun y => y.1 z)]
      exact nxt 0 p0 b3 b4 b5 b6
    · refine td_isQ pc wf (by omega) (by omega) hn (fun c3 c4 c5 c6 => br_c (fun y => nm_r (nI_1 _) (nm_r (nI_1 c) ?_)) (fun y => nm_r (show nI (td_sm c (td_pr K G nm)) + 0 = nI (td_sm c (td_pr K G nm) + 0) from nI_add _ 0) (nm_r (nI_1 c) ?_)))
      · exact nxt 1 (by unfold td_pr; rw [if_pos ⟨z, y⟩]) c3 c4 c5 c6
      · exact nxt 0 (by unfold td_pr; rw [if_neg (fun x => y x.2)]) c3 c4 c5 c6
theorem td_nearest (pc : td_pc K G a1 a2) (wf : td_wf K G) (hs : s < 12) (H2 : K s = 0 → ∀ b3 b4 b5 b6, post (-2) (a1, a2, b3, b4, b5, b6)) (H : K s ≠ 0 → ∀ r, td_nr K G s r → ∀ b3 b4 b5 b6, post r (a1, a2, b3, b4, b5, b6)) : wpX_nearest post (a1, a2, a3, a4, a5, a6) (nI s) := by
  have k1 := (wf s hs).1
  unfold wpX_nearest
  dsimp only
  refine td_isSlot hs (br_f (by decide) ⟨pk_in s 12 hs, ?_⟩)
  rw [nI_clamp (show s < 2 ^ 31 by omega), pc.1 s hs]
  refine pk_eq (K s) 0 (fun z => H2 z _ _ _ _) (fun z => ?_)
  have H := H z
  refine pk_loop (σ := Int32 × Nat × (Nat → Int32) × (Nat → Int32) × (Nat → Int32) × (Nat → Int32)) (fun n o u => wX_nearest_31 post (nI s) n u.1 (nI u.2.1) (nI o) a1 a2 u.2.2.1 u.2.2.2.1 u.2.2.2.2.1 u.2.2.2.2.2)
    (fun o u => u.2.1 ≤ 1000 ∧ (∀ o', o' < o → o' ≠ s → K o' ≠ 0 → u.2.1 ≤ td_D K G s o') ∧ ((u.1 = -7 ∧ u.2.1 = 1000) ∨ ∃ c, c < 12 ∧ u.1 = nI c ∧ c ≠ s ∧ K c ≠ 0 ∧ td_D K G s c = u.2.1 ∧ u.2.1 < 1000))
    12 0 (-7, 1000, a3, a4, a5, a6) (by omega) ⟨Nat.le_refl _, fun o' y => absurd y (by omega), Or.inl ⟨rfl, rfl⟩⟩ ?_ ?_
  · rintro n ⟨b, L, b3, b4, b5, b6⟩ ⟨h1, h2, h3⟩
    dsimp only at h1 h2 h3
    refine pk_le 12 12 (fun _ => H b ?_ _ _ _ _) (fun y => absurd y (by omega))
    rcases h3 with ⟨e, e'⟩ | ⟨c, p1, p2, p3, p4, p5, p6⟩
    · exact Or.inl ⟨e, fun o q1 q2 q3 => by have := h2 o q1 q2 q3; omega⟩
    · exact Or.inr ⟨c, p1, p2, p3, p4, by omega, fun o q1 q2 q3 => by have := h2 o q1 q2 q3; omega⟩
  · rintro n o ⟨b, L, b3, b4, b5, b6⟩ ho ⟨h1, h2, h3⟩ hw
    dsimp only at h1 h2 h3
    have k2 := (wf o ho).1
    have dl : td_D K G s o ≤ 1000 := td_ap_le _ _ _ _
    have keep : ∀ c3 c4 c5 c6, (o ≠ s → K o ≠ 0 → L ≤ td_D K G s o) → wX_nearest_31 post (nI s) n b (nI L) (nI (o + 1)) a1 a2 c3 c4 c5 c6 := by
      intro c3 c4 c5 c6 q
      refine hw (b, L, c3, c4, c5, c6) ⟨h1, fun o' q1 q2 q3 => ?_, h3⟩
      by_cases e : o' = o
      · subst e; exact q q2 q3
      · exact h2 o' (by omega) q2 q3
    refine pk_le 12 o (fun y => absurd y (by omega)) (fun _ => pk_eq o s (fun y => nm_r (nI_1 o) (keep _ _ _ _ (fun q => absurd y q))) (fun y => ⟨pk_in o 12 ho, ?_⟩))
    rw [nI_clamp (show o < 2 ^ 31 by omega), pc.1 o ho]
    refine pk_eq (K o) 0 (fun x => nm_r (nI_1 o) (keep _ _ _ _ (fun _ q => absurd x q))) (fun x => ?_)
    refine td_apart pc wf hs ho (fun c3 c4 c5 c6 => ?_)
    have ev : td_apv (K s) (G s) (K o) (G o) = nI (td_D K G s o) := by unfold td_apv; rw [if_neg (fun q => q.elim z x)]; rfl
    rw [ev]
    refine pk_le L (td_D K G s o) (fun q => nm_r (nI_1 o) (keep _ _ _ _ (fun _ _ => q))) (fun q => nm_r (nI_1 o) ?_)
    refine hw (nI o, td_D K G s o, c3, c4, c5, c6) ⟨dl, fun o' q1 q2 q3 => ?_, Or.inr ⟨o, ho, rfl, y, x, rfl, by show td_D K G s o < 1000; omega⟩⟩
    show td_D K G s o ≤ td_D K G s o'
    by_cases e : o' = o
    · subst e; exact Nat.le_refl _
    · have := h2 o' (by omega) q2 q3; omega
end
/-! the other desk -/
def td_fK (K : Nat → Nat) : Nat → Nat := fun s => K (11 - s)
def td_fG (G : Nat → Nat → Nat → Bool) : Nat → Nat → Nat → Bool := fun s => td_tr (G (11 - s))
theorem td_wf_f {K : Nat → Nat} {G : Nat → Nat → Nat → Bool} (h : td_wf K G) : td_wf (td_fK K) (td_fG G) := fun s hs => td_ok_tr (h (11 - s) (by omega))
theorem td_fKs (K : Nat → Nat) {s : Nat} (hs : s < 12) : td_fK K (11 - s) = K s := by unfold td_fK; rw [show 11 - (11 - s) = s by omega]
theorem td_fGs (G : Nat → Nat → Nat → Bool) {s : Nat} (hs : s < 12) : td_fG G (11 - s) = td_tr (G s) := by unfold td_fG; rw [show 11 - (11 - s) = s by omega]
section
variable {k k' : Nat} {g g' : Nat → Nat → Bool}
theorem td_pv_tr (h : td_ok k g) (i j : Nat) : td_pv k (td_tr g) j i = td_pv k g i j := by
  unfold td_pv; rw [td_in_tr h, td_ri_tr h]
theorem td_rv_tr (h : td_ok k g) (h' : td_ok k' g') : td_rv k (td_tr g) k' (td_tr g') = td_rv k g k' g' := by
  unfold td_rv
  have e : (fun c => td_meet k (td_tr g) k' (td_tr g') (c / 3) (c % 3)) = (fun c => td_meet k g k' g' (c / 3) (c % 3)) := funext (fun c => td_meet_tr h h' _ _)
  rw [e]
theorem td_isv_tr (h : td_ok k g) (h' : td_ok k' g') (nm : Nat) : td_isv nm k (td_tr g) k' (td_tr g') = td_isv nm k g k' g' := by
  unfold td_isv
  by_cases z : td_hd nm k g k' g'
  · rw [if_pos z, if_pos ((td_hd_tr h h' nm).mpr z)]
  · rw [if_neg z, if_neg (fun y => z ((td_hd_tr h h' nm).mp y))]
theorem td_pcv_tr (h : td_ok k g) : td_pcv k (td_tr g) = td_pcv k g := by
  unfold td_pcv td_gd
  rw [td_inF h, td_bdF h]
  by_cases z : k = 3
  · rw [if_pos z, if_pos z]; exact congrArg (fun n => if k = 0 then (-2 : Int32) else nI n) (td_np_tr (td_in k g))
  · rw [if_neg z, if_neg z]; exact congrArg (fun n => if k = 0 then (-2 : Int32) else nI n) (td_np_tr (td_bd k g))
theorem td_hov_tr (h : td_ok k g) : td_hov k (td_tr g) = td_hov k g := by
  unfold td_hov
  rw [td_holeF h]
  exact congrArg (fun n => if k = 0 then (-2 : Int32) else if k = 3 then nI n else -3) (td_np_tr (td_hole k g))
theorem td_rgF (h : td_ok k g) : td_rg k (td_tr g) = td_tr (td_rg k g) := funext (fun j => funext (fun i => by
  show (td_ri k (td_tr g) j i && decide ((j + i) % 2 = 1)) = (td_ri k g i j && decide ((i + j) % 2 = 1))
  rw [td_ri_tr h, Nat.add_comm]))
theorem td_rmv_tr (h : td_ok k g) : td_rmv k (td_tr g) = td_rmv k g := by
  unfold td_rmv
  rw [td_rgF h]
  exact congrArg (fun n => if k = 0 then (-2 : Int32) else if k = 3 then nI n else -3) (td_cnt_tr (td_rg k g))
theorem td_apv_tr (h : td_ok k g) (h' : td_ok k' g') : td_apv k (td_tr g) k' (td_tr g') = td_apv k g k' g' := by
  unfold td_apv; rw [td_ap_tr h h']
end
theorem td_prv_f {K : Nat → Nat} {G : Nat → Nat → Nat → Bool} (wf : td_wf K G) (nm : Nat) : td_prv (td_fK K) (td_fG G) nm = td_prv K G nm := by
  unfold td_prv
  rw [← td_sm_rev 144 (td_pr K G nm)]
  refine congrArg nI (td_sm_congr (fun c hc => ?_))
  unfold td_pr
  have e1 : (144 - 1 - c) / 12 = 11 - c / 12 := by omega
  have e2 : (144 - 1 - c) % 12 = 11 - c % 12 := by omega
  rw [e1, e2]
  show (if c / 12 ≠ c % 12 ∧ td_isv nm (K (11 - c / 12)) (td_tr (G (11 - c / 12))) (K (11 - c % 12)) (td_tr (G (11 - c % 12))) = 1 then 1 else 0) = _
  rw [td_isv_tr (wf _ (by omega)) (wf _ (by omega))]
  by_cases z : c / 12 = c % 12
  · rw [if_neg (fun y => y.1 z), if_neg (fun y => y.1 (by omega))]
  · by_cases y : td_isv nm (K (11 - c / 12)) (G (11 - c / 12)) (K (11 - c % 12)) (G (11 - c % 12)) = 1
    · rw [if_pos ⟨z, y⟩, if_pos ⟨by omega, y⟩]
    · rw [if_neg (fun x => y x.2), if_neg (fun x => y x.2)]
theorem td_D_f {K : Nat → Nat} {G : Nat → Nat → Nat → Bool} (wf : td_wf K G) {s o : Nat} (hs : s < 12) (ho : o < 12) : td_D (td_fK K) (td_fG G) (11 - s) (11 - o) = td_D K G s o := by
  unfold td_D
  rw [td_fKs K hs, td_fGs G hs, td_fKs K ho, td_fGs G ho, td_ap_tr (wf s hs) (wf o ho)]
theorem td_near_f {K : Nat → Nat} {G : Nat → Nat → Nat → Bool} (wf : td_wf K G) {s : Nat} (hs : s < 12) {r r' : Int32} (h : td_nr K G s r) (h' : td_nr (td_fK K) (td_fG G) (11 - s) r') :
    (r = -7 ∧ r' = -7) ∨ ∃ b b', b < 12 ∧ b' < 12 ∧ r = nI b ∧ r' = nI b' ∧ K b ≠ 0 ∧ td_fK K b' ≠ 0 ∧ td_D (td_fK K) (td_fG G) (11 - s) b' = td_D K G s b := by
  rcases h with ⟨e, h⟩ | ⟨b, p1, p2, p3, p4, p5, p6⟩
  · rcases h' with ⟨e', h'⟩ | ⟨b', q1, q2, q3, q4, q5, q6⟩
    · exact Or.inl ⟨e, e'⟩
    · exfalso
      have := h (11 - b') (by omega) (by omega) q4
      rw [← td_D_f wf hs (show 11 - b' < 12 by omega), show 11 - (11 - b') = b' by omega] at this
      omega
  · rcases h' with ⟨e', h'⟩ | ⟨b', q1, q2, q3, q4, q5, q6⟩
    · exfalso
      have := h' (11 - b) (by omega) (by omega) (by rw [td_fKs K p1]; exact p4)
      rw [td_D_f wf hs p1] at this
      omega
    · refine Or.inr ⟨b, b', p1, q1, p2, q2, p4, q4, ?_⟩
      have x1 := q6 (11 - b) (by omega) (by omega) (by rw [td_fKs K p1]; exact p4)
      rw [td_D_f wf hs p1] at x1
      have x2 := p6 (11 - b') (by omega) (by omega) q4
      rw [← td_D_f wf hs (show 11 - b' < 12 by omega), show 11 - (11 - b') = b' by omega] at x2
      omega
end
section
/-! the law's questions -/
theorem td_mod (x : Int32) {m : Int32} (k d : Nat) (hm : m.toBitVec.toNat = 2 ^ k - 1) (hk : k ≤ 20) (h0 : 0 < d) (hd : d < 2 ^ 31) : ∃ j, j < d ∧ (x &&& m) - (x &&& m) / nI d * nI d = nI j := by
  obtain ⟨j, hj, e⟩ := pk_andE x k hm
  have : 2 ^ k ≤ 2 ^ 20 := Nat.pow_le_pow_right (by decide) hk
  rw [e]
  exact ⟨j % d, Nat.mod_lt _ h0, pk_rem (by omega) h0 hd⟩
section
variable {post : Int32 → St3 → Prop} {a1 a2 a3 a4 a5 a6 b1 b2 b3 b4 b5 b6 : Nat → Int32} {K : Nat → Nat} {G : Nat → Nat → Nat → Bool}
theorem td_alike (wf : td_wf K G) (pd : td_pc K G a1 a2) (pe : td_pc (td_fK K) (td_fG G) b1 b2) (x : Int32)
    (H : ∀ c3 c4 c5 c6 d3 d4 d5 d6, post 1 (a1, a2, c3, c4, c5, c6, b1, b2, d3, d4, d5, d6)) : wpL_alike post (a1, a2, a3, a4, a5, a6, b1, b2, b3, b4, b5, b6) x := by
  have we := td_wf_f wf
  obtain ⟨s, hs, es⟩ := td_mod x (m := 7) 3 6 (by decide) (by decide) (by decide) (by decide)
  obtain ⟨t, ht, et⟩ := td_mod (x >>> ((3 : Int32) &&& 31)) (m := 7) 3 6 (by decide) (by decide) (by decide) (by decide)
  obtain ⟨i, hi, ei⟩ := td_mod (x >>> ((6 : Int32) &&& 31)) (m := 31) 5 17 (by decide) (by decide) (by decide) (by decide)
  obtain ⟨j, hj, ej⟩ := td_mod (x >>> ((11 : Int32) &&& 31)) (m := 31) 5 17 (by decide) (by decide) (by decide) (by decide)
  obtain ⟨nm, hn, en⟩ := td_mod (x >>> ((16 : Int32) &&& 31)) (m := 7) 3 7 (by decide) (by decide) (by decide) (by decide)
  have s12 : s < 12 := by omega
  have t12 : t < 12 := by omega
  have xs : 11 - s < 12 := by omega
  have xt : 11 - t < 12 := by omega
  have nm6 : nm ≤ 6 := by omega
  have oks := wf s s12
  have okt := wf t t12
  have fks := td_fKs K s12
  have fkt := td_fKs K t12
  have fgs := td_fGs G s12
  have fgt := td_fGs G t12
  unfold wpL_alike
  dsimp only
  refine ⟨by decide, nm_r es ⟨by decide, nm_r et ⟨by decide, nm_r ei ⟨by decide, nm_r ej ⟨by decide, nm_r en ?_⟩⟩⟩⟩⟩
  refine td_slot s12 (td_slot t12 ?_)
  refine td_kind pe xs (td_kind pd s12 (br_t (by rw [fks]) ?_))
  refine td_size pe we xs (td_size pd wf s12 (br_t (by rw [fgs]; exact congrArg nI (td_cnt_tr (G s))) ?_))
  refine td_partQ pe we xs hj hi (fun e3 e4 e5 e6 => td_partQ pd wf s12 hi hj (fun c3 c4 c5 c6 => br_t (by rw [fks, fgs]; exact td_pv_tr oks i j) ?_))
  refine td_relate pe we xs xt (fun e3 e4 e5 e6 => td_relate pd wf s12 t12 (fun c3 c4 c5 c6 => br_t (by rw [fks, fgs, fkt, fgt]; exact td_rv_tr oks okt) ?_))
  refine td_isQ pe we xs xt nm6 (fun e3 e4 e5 e6 => td_isQ pd wf s12 t12 nm6 (fun c3 c4 c5 c6 => br_t (by rw [fks, fgs, fkt, fgt]; exact td_isv_tr oks okt nm) ?_))
  refine td_pieces pe we xs (fun e3 e4 e5 e6 => td_pieces pd wf s12 (fun c3 c4 c5 c6 => br_t (by rw [fks, fgs]; exact td_pcv_tr oks) ?_))
  refine td_holes pe we xs (fun e3 e4 e5 e6 => td_holes pd wf s12 (fun c3 c4 c5 c6 => br_t (by rw [fks, fgs]; exact td_hov_tr oks) ?_))
  refine td_rim pe we xs (fun e3 e4 e5 e6 => td_rim pd wf s12 (fun c3 c4 c5 c6 => br_t (by rw [fks, fgs]; exact td_rmv_tr oks) ?_))
  refine td_apart pe we xs xt (fun e3 e4 e5 e6 => td_apart pd wf s12 t12 (fun c3 c4 c5 c6 => br_t (by rw [fks, fgs, fkt, fgt]; exact td_apv_tr oks okt) ?_))
  refine td_pairs pe we nm6 (fun e3 e4 e5 e6 => td_pairs pd wf nm6 (fun c3 c4 c5 c6 => br_t (td_prv_f wf nm) ?_))
  refine td_nearest pd wf s12 (fun z c3 c4 c5 c6 => ?_) (fun z r hr c3 c4 c5 c6 => ?_)
  · refine td_nearest pe we xs (fun z' e3 e4 e5 e6 => br_f (by decide) (br_t rfl (H _ _ _ _ _ _ _ _))) (fun z' => absurd (by rw [fks]; exact z) z')
  · refine td_nearest pe we xs (fun z' => absurd (by rw [← fks]; exact z') z) (fun z' r' hr' e3 e4 e5 e6 => ?_)
    rcases td_near_f wf s12 hr hr' with ⟨e, e'⟩ | ⟨b, b', p1, p2, p3, p4, p5, p6, p7⟩
    · subst e; subst e'
      exact br_f (by decide) (br_t rfl (H _ _ _ _ _ _ _ _))
    · subst p3; subst p4
      refine br_t (nI_pos' (by omega)) (br_f (nI_pos (by omega)) ?_)
      refine td_apart pe we xs p2 (fun e3 e4 e5 e6 => td_apart pd wf s12 p1 (fun c3 c4 c5 c6 => br_t ?_ (H _ _ _ _ _ _ _ _)))
      unfold td_apv
      rw [if_neg (fun y => y.elim z' p6), if_neg (fun y => y.elim z p5)]
      exact congrArg nI p7
end
end
section
/-! what the moves make of a picture -/
def td_pK (K : Nat → Nat) (s k : Nat) : Nat → Nat := fun x => if x = s then k else K x
def td_pG (G : Nat → Nat → Nat → Bool) (s : Nat) (h : Nat → Nat → Bool) : Nat → Nat → Nat → Bool := fun x => if x = s then h else G x
theorem td_pK_s (K : Nat → Nat) (s k : Nat) : td_pK K s k s = k := if_pos rfl
theorem td_pG_s (G : Nat → Nat → Nat → Bool) (s : Nat) (h : Nat → Nat → Bool) : td_pG G s h s = h := if_pos rfl
theorem td_wf_put {K : Nat → Nat} {G : Nat → Nat → Nat → Bool} {s k : Nat} {h : Nat → Nat → Bool} (wf : td_wf K G) (ok : td_ok k h) : td_wf (td_pK K s k) (td_pG G s h) := by
  intro x hx
  unfold td_pK td_pG
  by_cases e : x = s
  · rw [if_pos e, if_pos e]; exact ok
  · rw [if_neg e, if_neg e]; exact wf x hx
theorem td_pc_put {K : Nat → Nat} {G : Nat → Nat → Nat → Bool} {a1 a2 b1 b2 : Nat → Int32} {s k : Nat} {h : Nat → Nat → Bool} (pc : td_pc K G a1 a2)
    (h1 : b1 s = nI k) (h1' : ∀ x, x ≠ s → b1 x = a1 x) (h2 : ∀ j, j < 17 → ∀ i, td_b (b2 (17 * s + j)) i = h j i) (h2' : ∀ x, (x < 17 * s ∨ 17 * s + 17 ≤ x) → b2 x = a2 x) : td_pc (td_pK K s k) (td_pG G s h) b1 b2 := by
  refine ⟨fun x hx => ?_, fun x hx j hj i => ?_⟩
  · unfold td_pK
    by_cases e : x = s
    · subst e; rw [if_pos rfl]; exact h1
    · rw [if_neg e, h1' x e]; exact pc.1 x hx
  · unfold td_pG
    by_cases e : x = s
    · subst e; rw [if_pos rfl]; exact h2 j hj i
    · rw [if_neg e, h2' _ (by omega)]; exact pc.2 x hx j hj i
theorem td_pc_congr {K K' : Nat → Nat} {G G' : Nat → Nat → Nat → Bool} {a1 a2 : Nat → Int32} (h : ∀ s, s < 12 → K s = K' s) (h' : ∀ s, s < 12 → G s = G' s) (pc : td_pc K G a1 a2) : td_pc K' G' a1 a2 :=
  ⟨fun s hs => by rw [← h s hs]; exact pc.1 s hs, fun s hs j hj i => by rw [← h' s hs]; exact pc.2 s hs j hj i⟩
/-- a move on the other desk -/
theorem td_pc_flip {K : Nat → Nat} {G : Nat → Nat → Nat → Bool} {b1 b2 : Nat → Int32} {s k k' : Nat} {h h' : Nat → Nat → Bool} (hs : s < 12) (ek : k' = k) (eh : h' = td_tr h) (pc : td_pc (td_pK (td_fK K) (11 - s) k') (td_pG (td_fG G) (11 - s) h') b1 b2) : td_pc (td_fK (td_pK K s k)) (td_fG (td_pG G s h)) b1 b2 := by
  subst ek; subst eh
  refine td_pc_congr (fun x hx => ?_) (fun x hx => ?_) pc
  · unfold td_fK td_pK
    by_cases e : x = 11 - s
    · rw [if_pos e, if_pos (by omega)]
    · rw [if_neg e, if_neg (by omega)]
  · unfold td_fG td_pG
    by_cases e : x = 11 - s
    · rw [if_pos e, if_pos (by omega)]
    · rw [if_neg e, if_neg (by omega)]
/-! places written one after another -/
def td_run (a : Nat → Int32) (s : Nat) (F : Nat → Int32 → Int32) (lo m : Nat) : Nat → Int32 := fun x => if 17 * s ≤ x ∧ x < 17 * s + 17 ∧ (x - 17 * s) % 2 = 1 ∧ 2 * lo ≤ x - 17 * s ∧ x - 17 * s < 2 * m then F (x - 17 * s) (a x) else a x
theorem td_run_0 (a : Nat → Int32) (s : Nat) (F : Nat → Int32 → Int32) (lo : Nat) : td_run a s F lo lo = a := by
  funext x
  unfold td_run
  rw [if_neg (by omega)]
theorem td_run_now (a : Nat → Int32) (s : Nat) (F : Nat → Int32 → Int32) (lo m : Nat) : td_run a s F lo m (17 * s + (2 * m + 1)) = a (17 * s + (2 * m + 1)) := by
  unfold td_run
  rw [if_neg (by omega)]
theorem td_run_step (a : Nat → Int32) (s : Nat) (F : Nat → Int32 → Int32) {lo m : Nat} (hm : m < 8) (hl : lo ≤ m) : upd (td_run a s F lo m) (17 * s + (2 * m + 1)) (F (2 * m + 1) (a (17 * s + (2 * m + 1)))) = td_run a s F lo (m + 1) := by
  funext x
  by_cases e : x = 17 * s + (2 * m + 1)
  · subst e
    rw [pk_us]
    unfold td_run
    rw [if_pos (by omega), show 17 * s + (2 * m + 1) - 17 * s = 2 * m + 1 by omega]
  · rw [pk_un e]
    unfold td_run
    by_cases c : 17 * s ≤ x ∧ x < 17 * s + 17 ∧ (x - 17 * s) % 2 = 1 ∧ 2 * lo ≤ x - 17 * s ∧ x - 17 * s < 2 * m
    · rw [if_pos c, if_pos (by omega)]
    · rw [if_neg c, if_neg (by omega)]
theorem td_run_at (a : Nat → Int32) (s : Nat) (F : Nat → Int32 → Int32) (lo m : Nat) {j : Nat} (hj : j < 17) : td_run a s F lo m (17 * s + j) = if j % 2 = 1 ∧ 2 * lo ≤ j ∧ j < 2 * m then F j (a (17 * s + j)) else a (17 * s + j) := by
  unfold td_run
  rw [show 17 * s + j - 17 * s = j by omega]
  by_cases c : j % 2 = 1 ∧ 2 * lo ≤ j ∧ j < 2 * m
  · rw [if_pos c, if_pos (by omega)]
  · rw [if_neg c, if_neg (by omega)]
theorem td_run_out (a : Nat → Int32) (s : Nat) (F : Nat → Int32 → Int32) (lo m : Nat) {x : Nat} (hx : x < 17 * s ∨ 17 * s + 17 ≤ x) : td_run a s F lo m x = a x := by
  unfold td_run
  rw [if_neg (by omega)]
def td_all (a : Nat → Int32) (s : Nat) (F : Nat → Int32) (m : Nat) : Nat → Int32 := fun x => if 17 * s ≤ x ∧ x < 17 * s + m then F (x - 17 * s) else a x
theorem td_all_0 (a : Nat → Int32) (s : Nat) (F : Nat → Int32) : td_all a s F 0 = a := by
  funext x
  unfold td_all
  rw [if_neg (by omega)]
theorem td_all_step (a : Nat → Int32) (s : Nat) (F : Nat → Int32) (m : Nat) : upd (td_all a s F m) (17 * s + m) (F m) = td_all a s F (m + 1) := by
  funext x
  by_cases e : x = 17 * s + m
  · subst e
    rw [pk_us]
    unfold td_all
    rw [if_pos (by omega), show 17 * s + m - 17 * s = m by omega]
  · rw [pk_un e]
    unfold td_all
    by_cases c : 17 * s ≤ x ∧ x < 17 * s + m
    · rw [if_pos c, if_pos (by omega)]
    · rw [if_neg c, if_neg (by omega)]
theorem td_all_at (a : Nat → Int32) (s : Nat) (F : Nat → Int32) {j m : Nat} (hj : j < m) : td_all a s F m (17 * s + j) = F j := by
  unfold td_all
  rw [if_pos (by omega), show 17 * s + j - 17 * s = j by omega]
theorem td_all_out (a : Nat → Int32) (s : Nat) (F : Nat → Int32) (m : Nat) {x : Nat} (hx : x < 17 * s ∨ 17 * s + m ≤ x) : td_all a s F m x = a x := by
  unfold td_all
  rw [if_neg (by omega)]
/-! the new shapes -/
def td_tu (v : Nat) : Nat := 9 * (v % 9) + v / 9
theorem td_tu_lt {v : Nat} (h : v < 81) : td_tu v < 81 := by unfold td_tu; omega
theorem td_tu_d {v : Nat} (h : v < 81) : td_tu v / 9 = v % 9 := by unfold td_tu; omega
theorem td_tu_m {v : Nat} (h : v < 81) : td_tu v % 9 = v / 9 := by unfold td_tu; omega
def td_hP (g : Nat → Nat → Bool) (v : Nat) (j i : Nat) : Bool := g j i || decide (j = 2 * (v % 9) ∧ i = 2 * (v / 9))
def td_ln (f t j i : Nat) : Prop := (j + i) % 2 = 1 ∧ (2 * min (f / 9) (t / 9) ≤ i ∧ i ≤ 2 * max (f / 9) (t / 9)) ∧ (2 * min (f % 9) (t % 9) ≤ j ∧ j ≤ 2 * max (f % 9) (t % 9))
def td_bx (f t j i : Nat) : Prop := (j % 2 = 1 ∧ i % 2 = 1) ∧ (2 * min (f / 9) (t / 9) ≤ i ∧ i ≤ 2 * max (f / 9) (t / 9)) ∧ (2 * min (f % 9) (t % 9) ≤ j ∧ j ≤ 2 * max (f % 9) (t % 9))
theorem td_ln_tr {f t : Nat} (hf : f < 81) (ht : t < 81) (j i : Nat) : td_ln (td_tu f) (td_tu t) j i ↔ td_ln f t i j := by
  unfold td_ln
  rw [td_tu_d hf, td_tu_d ht, td_tu_m hf, td_tu_m ht, Nat.add_comm j i]
  exact ⟨fun h => ⟨h.1, h.2.2, h.2.1⟩, fun h => ⟨h.1, h.2.2, h.2.1⟩⟩
theorem td_bx_tr {f t : Nat} (hf : f < 81) (ht : t < 81) (j i : Nat) : td_bx (td_tu f) (td_tu t) j i ↔ td_bx f t i j := by
  unfold td_bx
  rw [td_tu_d hf, td_tu_d ht, td_tu_m hf, td_tu_m ht]
  exact ⟨fun h => ⟨⟨h.1.2, h.1.1⟩, h.2.2, h.2.1⟩, fun h => ⟨⟨h.1.2, h.1.1⟩, h.2.2, h.2.1⟩⟩
noncomputable def td_dc (p : Prop) : Bool := @decide p (Classical.propDecidable p)
theorem td_dc_t {p : Prop} (h : p) : td_dc p = true := by unfold td_dc; exact @decide_eq_true _ (Classical.propDecidable p) h
theorem td_dc_f {p : Prop} (h : ¬ p) : td_dc p = false := by unfold td_dc; exact @decide_eq_false _ (Classical.propDecidable p) h
theorem td_dc_iff {p : Prop} : td_dc p = true ↔ p := by
  by_cases h : p
  · rw [td_dc_t h]; exact ⟨fun _ => h, fun _ => rfl⟩
  · rw [td_dc_f h]; exact ⟨fun z => absurd z (by decide), fun z => absurd z h⟩
theorem td_dc_congr {p q : Prop} (h : p ↔ q) : td_dc p = td_dc q := by rw [propext h]
noncomputable def td_hL (g : Nat → Nat → Bool) (f t j i : Nat) : Bool := g j i || td_dc (td_ln f t j i)
noncomputable def td_hR (g : Nat → Nat → Bool) (f t j i : Nat) : Bool := g j i || td_dc (td_bx f t j i)
noncomputable def td_hC (g : Nat → Nat → Bool) (f t j i : Nat) : Bool := g j i && !td_dc (td_bx f t j i)
def td_hB (how : Nat) (g g' : Nat → Nat → Bool) (j i : Nat) : Bool := if how = 0 then g j i || g' j i else if how = 1 then g j i && g' j i else if how = 2 then g j i && !g' j i else g j i ^^ g' j i
def td_g3 (g : Nat → Nat → Bool) (j i : Nat) : Bool := (td_dr (td_dr g) j i || g j i) || g (j + 2) i
def td_g9 (g : Nat → Nat → Bool) (j i : Nat) : Bool := (td_g3 g j i || td_sh (td_sh (td_g3 g j)) i) || td_g3 g j (i + 2)
def td_hG (g : Nat → Nat → Bool) (j i : Nat) : Bool := if j % 2 = 1 then td_g9 g j i && ((decide (j < 17) && decide (i < 17)) && decide (i % 2 = 1)) else g j i
noncomputable def td_hF (g : Nat → Nat → Bool) (j i : Nat) : Bool := g j i || (td_hole 3 g j i && (decide (j % 2 = 1) && decide (i % 2 = 1)))
/-! turned over -/
theorem td_hP_tr (g : Nat → Nat → Bool) {v : Nat} (hv : v < 81) : td_hP (td_tr g) (td_tu v) = td_tr (td_hP g v) := funext (fun j => funext (fun i => by
  show (g i j || decide (j = 2 * (td_tu v % 9) ∧ i = 2 * (td_tu v / 9))) = (g i j || decide (i = 2 * (v % 9) ∧ j = 2 * (v / 9)))
  rw [td_tu_d hv, td_tu_m hv]
  exact congrArg (g i j || ·) (decide_eq_decide.mpr And.comm)))
theorem td_hL_tr (g : Nat → Nat → Bool) {f t : Nat} (hf : f < 81) (ht : t < 81) : td_hL (td_tr g) (td_tu f) (td_tu t) = td_tr (td_hL g f t) := funext (fun j => funext (fun i =>
  congrArg (g i j || ·) (td_dc_congr (td_ln_tr hf ht j i))))
theorem td_hR_tr (g : Nat → Nat → Bool) {f t : Nat} (hf : f < 81) (ht : t < 81) : td_hR (td_tr g) (td_tu f) (td_tu t) = td_tr (td_hR g f t) := funext (fun j => funext (fun i =>
  congrArg (g i j || ·) (td_dc_congr (td_bx_tr hf ht j i))))
theorem td_hC_tr (g : Nat → Nat → Bool) {f t : Nat} (hf : f < 81) (ht : t < 81) : td_hC (td_tr g) (td_tu f) (td_tu t) = td_tr (td_hC g f t) := funext (fun j => funext (fun i =>
  congrArg (fun b => g i j && !b) (td_dc_congr (td_bx_tr hf ht j i))))
theorem td_hB_tr (how : Nat) (g g' : Nat → Nat → Bool) : td_hB how (td_tr g) (td_tr g') = td_tr (td_hB how g g') := rfl
theorem td_hF_tr {g : Nat → Nat → Bool} (ok : td_ok 3 g) : td_hF (td_tr g) = td_tr (td_hF g) := funext (fun j => funext (fun i => by
  show (g i j || (td_hole 3 (td_tr g) j i && (decide (j % 2 = 1) && decide (i % 2 = 1)))) = (g i j || (td_hole 3 g i j && (decide (i % 2 = 1) && decide (j % 2 = 1))))
  rw [td_holeF ok, Bool.and_comm (decide (j % 2 = 1))]; rfl))
theorem td_g9_tr (g : Nat → Nat → Bool) (j i : Nat) : td_g9 (td_tr g) j i = td_g9 g i j := by
  match i, j with
  | 0, 0 =>
    show ((((false || g 0 0) || g 0 2) || false) || ((false || g 2 0) || g 2 2)) = ((((false || g 0 0) || g 2 0) || false) || ((false || g 0 2) || g 2 2))
    generalize g 0 0 = a; generalize g 0 2 = b; generalize g 2 0 = c; generalize g 2 2 = d
    revert a b c d; decide
  | 0, 1 =>
    show ((((false || g 0 1) || g 0 3) || false) || ((false || g 2 1) || g 2 3)) = ((((false || g 0 1) || g 2 1) || false) || ((false || g 0 3) || g 2 3))
    generalize g 0 1 = a; generalize g 0 3 = b; generalize g 2 1 = c; generalize g 2 3 = d
    revert a b c d; decide
  | 1, 0 =>
    show ((((false || g 1 0) || g 1 2) || false) || ((false || g 3 0) || g 3 2)) = ((((false || g 1 0) || g 3 0) || false) || ((false || g 1 2) || g 3 2))
    generalize g 1 0 = a; generalize g 1 2 = b; generalize g 3 0 = c; generalize g 3 2 = d
    revert a b c d; decide
  | 1, 1 =>
    show ((((false || g 1 1) || g 1 3) || false) || ((false || g 3 1) || g 3 3)) = ((((false || g 1 1) || g 3 1) || false) || ((false || g 1 3) || g 3 3))
    generalize g 1 1 = a; generalize g 1 3 = b; generalize g 3 1 = c; generalize g 3 3 = d
    revert a b c d; decide
  | 0, j + 2 =>
    show ((((g 0 j || g 0 (j + 2)) || g 0 (j + 2 + 2)) || false) || ((g 2 j || g 2 (j + 2)) || g 2 (j + 2 + 2))) = ((((false || g 0 (j + 2)) || g 2 (j + 2)) || ((false || g 0 j) || g 2 j)) || ((false || g 0 (j + 2 + 2)) || g 2 (j + 2 + 2)))
    generalize g 0 j = a; generalize g 0 (j + 2) = b; generalize g 0 (j + 2 + 2) = c; generalize g 2 j = d; generalize g 2 (j + 2) = e; generalize g 2 (j + 2 + 2) = f
    revert a b c d e f; decide
  | 1, j + 2 =>
    show ((((g 1 j || g 1 (j + 2)) || g 1 (j + 2 + 2)) || false) || ((g 3 j || g 3 (j + 2)) || g 3 (j + 2 + 2))) = ((((false || g 1 (j + 2)) || g 3 (j + 2)) || ((false || g 1 j) || g 3 j)) || ((false || g 1 (j + 2 + 2)) || g 3 (j + 2 + 2)))
    generalize g 1 j = a; generalize g 1 (j + 2) = b; generalize g 1 (j + 2 + 2) = c; generalize g 3 j = d; generalize g 3 (j + 2) = e; generalize g 3 (j + 2 + 2) = f
    revert a b c d e f; decide
  | i + 2, 0 =>
    show ((((false || g (i + 2) 0) || g (i + 2) 2) || ((false || g i 0) || g i 2)) || ((false || g (i + 2 + 2) 0) || g (i + 2 + 2) 2)) = ((((g i 0 || g (i + 2) 0) || g (i + 2 + 2) 0) || false) || ((g i 2 || g (i + 2) 2) || g (i + 2 + 2) 2))
    generalize g i 0 = a; generalize g (i + 2) 0 = b; generalize g (i + 2 + 2) 0 = c; generalize g i 2 = d; generalize g (i + 2) 2 = e; generalize g (i + 2 + 2) 2 = f
    revert a b c d e f; decide
  | i + 2, 1 =>
    show ((((false || g (i + 2) 1) || g (i + 2) 3) || ((false || g i 1) || g i 3)) || ((false || g (i + 2 + 2) 1) || g (i + 2 + 2) 3)) = ((((g i 1 || g (i + 2) 1) || g (i + 2 + 2) 1) || false) || ((g i 3 || g (i + 2) 3) || g (i + 2 + 2) 3))
    generalize g i 1 = a; generalize g (i + 2) 1 = b; generalize g (i + 2 + 2) 1 = c; generalize g i 3 = d; generalize g (i + 2) 3 = e; generalize g (i + 2 + 2) 3 = f
    revert a b c d e f; decide
  | i + 2, j + 2 =>
    show ((((g (i + 2) j || g (i + 2) (j + 2)) || g (i + 2) (j + 2 + 2)) || ((g i j || g i (j + 2)) || g i (j + 2 + 2))) || ((g (i + 2 + 2) j || g (i + 2 + 2) (j + 2)) || g (i + 2 + 2) (j + 2 + 2))) = ((((g i (j + 2) || g (i + 2) (j + 2)) || g (i + 2 + 2) (j + 2)) || ((g i j || g (i + 2) j) || g (i + 2 + 2) j)) || ((g i (j + 2 + 2) || g (i + 2) (j + 2 + 2)) || g (i + 2 + 2) (j + 2 + 2)))
    generalize g i j = a; generalize g i (j + 2) = b; generalize g i (j + 2 + 2) = c; generalize g (i + 2) j = d; generalize g (i + 2) (j + 2) = e; generalize g (i + 2) (j + 2 + 2) = f
    generalize g (i + 2 + 2) j = p; generalize g (i + 2 + 2) (j + 2) = q; generalize g (i + 2 + 2) (j + 2 + 2) = r
    revert a b c d e f p q r; decide
theorem td_hG_tr {g : Nat → Nat → Bool} (ok : td_ok 3 g) : td_hG (td_tr g) = td_tr (td_hG g) := funext (fun j => funext (fun i => by
  show td_hG (td_tr g) j i = td_hG g i j
  unfold td_hG
  by_cases pj : j % 2 = 1
  · by_cases pi : i % 2 = 1
    · rw [if_pos pj, if_pos pi, td_g9_tr, decide_eq_true pj, decide_eq_true pi, Bool.and_comm (decide (j < 17))]
    · rw [if_pos pj, if_neg pi, decide_eq_false pi, Bool.and_false, Bool.and_false]
      exact (td_ok_3 ok _ _ (by omega)).symm
  · rw [if_neg pj]
    have z : td_tr g j i = false := td_ok_3 ok _ _ (by omega)
    by_cases pi : i % 2 = 1
    · rw [if_pos pi, decide_eq_false pj, Bool.and_false, Bool.and_false, z]
    · rw [if_neg pi]; rfl))
/-! they stay within their kind -/
theorem td_ok_hP {k v : Nat} {g : Nat → Nat → Bool} (ok : td_ok k g) (hk : k = 0 ∨ k = 1) (hv : v < 81) : td_ok 1 (td_hP g v) := by
  refine ⟨by omega, fun j i h => ?_⟩
  unfold td_hP at h
  rcases (Bool.or_eq_true _ _).mp h with h | h
  · have e := ok.2 j i h
    unfold td_el at e ⊢
    have k1 : k = 1 := by omega
    subst k1
    exact e
  · have e := of_decide_eq_true h
    unfold td_el
    omega
theorem td_ok_hL {k f t : Nat} {g : Nat → Nat → Bool} (ok : td_ok k g) (hk : k = 0 ∨ k = 2) (hf : f < 81) (ht : t < 81) : td_ok 2 (td_hL g f t) := by
  refine ⟨by omega, fun j i h => ?_⟩
  unfold td_hL at h
  rcases (Bool.or_eq_true _ _).mp h with h | h
  · have e := ok.2 j i h
    unfold td_el at e ⊢
    have k1 : k = 2 := by omega
    subst k1
    exact e
  · have e := td_dc_iff.mp h
    unfold td_ln at e
    unfold td_el
    omega
theorem td_ok_hR {k f t : Nat} {g : Nat → Nat → Bool} (ok : td_ok k g) (hk : k = 0 ∨ k = 3) (hf : f < 81) (ht : t < 81) : td_ok 3 (td_hR g f t) := by
  refine ⟨by omega, fun j i h => ?_⟩
  unfold td_hR at h
  rcases (Bool.or_eq_true _ _).mp h with h | h
  · have e := ok.2 j i h
    unfold td_el at e ⊢
    have k1 : k = 3 := by omega
    subst k1
    exact e
  · have e := td_dc_iff.mp h
    unfold td_bx at e
    unfold td_el
    omega
/-- an emptied slot -/
def td_st (k : Nat) (h : Nat → Nat → Bool) : Nat := if td_cnt h = 0 then 0 else k
theorem td_ok_st {k : Nat} {h : Nat → Nat → Bool} (ok : td_ok k h) : td_ok (td_st k h) h := by
  unfold td_st
  by_cases c : td_cnt h = 0
  · rw [if_pos c]
    refine ⟨by omega, fun j i e => ?_⟩
    have r := ok.2 j i e
    have := td_cnt_0 c j i r.1 r.2.1
    rw [e] at this
    exact absurd this (by decide)
  · rw [if_neg c]; exact ok
theorem td_st_tr (k : Nat) (h : Nat → Nat → Bool) : td_st k (td_tr h) = td_st k h := by
  unfold td_st
  rw [show td_cnt (td_tr h) = td_cnt h from td_cnt_tr h]
theorem td_ok_hC {f t : Nat} {g : Nat → Nat → Bool} (ok : td_ok 3 g) : td_ok 3 (td_hC g f t) :=
  ⟨ok.1, fun j i h => by unfold td_hC at h; exact ok.2 j i ((Bool.and_eq_true _ _).mp h).1⟩
theorem td_ok_hB {k how : Nat} {g g' : Nat → Nat → Bool} (ok : td_ok k g) (ok' : td_ok k g') : td_ok k (td_hB how g g') := by
  refine ⟨ok.1, fun j i h => ?_⟩
  have : g j i = true ∨ g' j i = true := by
    unfold td_hB at h
    cases x : g j i with
    | true => exact Or.inl rfl
    | false =>
      cases y : g' j i with
      | true => exact Or.inr rfl
      | false =>
        rw [x, y] at h
        by_cases h0 : how = 0
        · rw [if_pos h0] at h; exact absurd h (by decide)
        · rw [if_neg h0] at h
          by_cases h1 : how = 1
          · rw [if_pos h1] at h; exact absurd h (by decide)
          · rw [if_neg h1] at h
            by_cases h2 : how = 2
            · rw [if_pos h2] at h; exact absurd h (by decide)
            · rw [if_neg h2] at h; exact absurd h (by decide)
  rcases this with z | z
  · exact ok.2 j i z
  · exact ok'.2 j i z
theorem td_el3 {j i : Nat} (h1 : j < 17) (h2 : i < 17) (h3 : j % 2 = 1) (h4 : i % 2 = 1) : td_el 3 j i := by unfold td_el; omega
theorem td_ok_hG {g : Nat → Nat → Bool} (ok : td_ok 3 g) : td_ok 3 (td_hG g) := by
  refine ⟨ok.1, fun j i h => ?_⟩
  unfold td_hG at h
  by_cases pj : j % 2 = 1
  · rw [if_pos pj, Bool.and_eq_true, Bool.and_eq_true, Bool.and_eq_true, decide_eq_true_iff, decide_eq_true_iff, decide_eq_true_iff] at h
    exact td_el3 h.2.1.1 h.2.1.2 pj h.2.2
  · rw [if_neg pj] at h; exact ok.2 j i h
theorem td_ok_hF {g : Nat → Nat → Bool} (ok : td_ok 3 g) : td_ok 3 (td_hF g) := by
  refine ⟨ok.1, fun j i h => ?_⟩
  unfold td_hF at h
  rcases (Bool.or_eq_true _ _).mp h with h | h
  · exact ok.2 j i h
  · rw [Bool.and_eq_true, Bool.and_eq_true, decide_eq_true_iff, decide_eq_true_iff] at h
    have r := td_hole_lt h.1
    exact td_el3 r.1 r.2 h.2.1 h.2.2
theorem td_ok_rg {k : Nat} {g : Nat → Nat → Bool} (ok : td_ok k g) : td_ok 2 (td_rg k g) := by
  refine ⟨by omega, fun j i h => ?_⟩
  have lj : j < 17 := by
    rcases Nat.lt_or_ge j 17 with z | z
    · exact z
    · unfold td_rg at h; rw [td_ri_ltj ok i z, Bool.false_and] at h; exact absurd h (by decide)
  have li : i < 17 := by
    rcases Nat.lt_or_ge i 17 with z | z
    · exact z
    · rw [td_rg_lt ok i z] at h; exact absurd h (by decide)
  unfold td_rg at h
  have e := of_decide_eq_true ((Bool.and_eq_true _ _).mp h).2
  unfold td_el
  omega
def td_no : Nat → Nat → Bool := fun _ _ => false
theorem td_ok_no : td_ok 0 td_no := ⟨by omega, fun j i h => absurd h (by unfold td_no; decide)⟩
end
section
/-! walks of the moves -/
theorem td_st1 (m : Nat) : nI (2 * m + 1) + 2 = nI (2 * (m + 1) + 1) := (nI_add (2 * m + 1) 2).trans (congrArg nI (by omega))
theorem td_spanW {post : Int32 → Prop} {a b : Nat} (h : a ≤ b) (hb : b ≤ 8) (H : ∀ w, (∀ i, td_b w i = (decide (2 * a ≤ i) && decide (i ≤ 2 * b))) → post w) : wpX_span post () (2 * nI a) (2 * nI b) := by
  rw [td_2m, td_2m]
  refine pk_le (2 * a) (2 * b) (fun _ => ?_) (fun z => absurd z (by omega))
  exact H _ (td_span a b (by omega) (by omega) h)
theorem td_d9 {f : Nat} (hf : f < 81) : nI f / 9 = nI (f / 9) := pk_div (d := 9) (by omega) (by decide) (by decide)
theorem td_m9 {f : Nat} (hf : f < 81) : nI f - nI f / 9 * 9 = nI (f % 9) := pk_rem (d := 9) (by omega) (by decide) (by decide)
theorem td_columns {post : Int32 → Prop} {f t : Nat} (hf : f < 81) (ht : t < 81) (H : ∀ w, (∀ i, td_b w i = ((decide (2 * min (f / 9) (t / 9) ≤ i) && decide (i ≤ 2 * max (f / 9) (t / 9))) && decide (i % 2 = 1))) → post w) : wpX_columns post () (nI f) (nI t) := by
  unfold wpX_columns
  rw [td_d9 hf, td_d9 ht]
  refine ⟨by decide, by decide, td_lesser (by omega) (by omega) ⟨by decide, by decide, td_greater (by omega) (by omega) (td_spanW (by omega) (by omega) (fun w hw => H _ (fun i => ?_)))⟩⟩
  rw [td_and, td_ODD, hw]
  rcases Nat.lt_or_ge i 17 with z | z
  · rw [decide_eq_true z]; rfl
  · rw [decide_eq_false (show ¬ i ≤ 2 * max (f / 9) (t / 9) by omega), Bool.and_false]; rfl
theorem td_flat {post : Int32 → Prop} {f t : Nat} (hf : f < 81) (ht : t < 81) (h1 : (f / 9 = t / 9 ∨ f % 9 = t % 9) → post 1) (h0 : ¬ (f / 9 = t / 9 ∨ f % 9 = t % 9) → post 0) : wpX_flat post () (nI f) (nI t) := by
  unfold wpX_flat
  rw [td_m9 hf, td_m9 ht, td_d9 hf, td_d9 ht]
  exact ⟨by decide, by decide, pk_eq (f / 9) (t / 9) (fun z => h1 (Or.inl z)) (fun z => ⟨by decide, by decide, pk_eq (f % 9) (t % 9) (fun y => h1 (Or.inr y)) (fun y => h0 (fun x => x.elim z y))⟩)⟩
section
variable {post : Int32 → St1 → Prop} {a1 a2 a3 a4 a5 a6 : Nat → Int32} {K : Nat → Nat} {G : Nat → Nat → Nat → Bool} {s : Nat}
theorem td_takes {p : Int32 → Prop} (pc : td_pc K G a1 a2) (wf : td_wf K G) (hs : s < 12) (k : Nat) (hk : k < 2 ^ 31) (h1 : (K s = 0 ∨ K s = k) → p 1) (h0 : ¬ (K s = 0 ∨ K s = k) → p 0) : wpX_takes p (a1, a2, a3, a4, a5, a6) (nI s) (nI k) := by
  have k1 := (wf s hs).1
  unfold wpX_takes
  dsimp only
  rw [nI_clamp (show s < 2 ^ 31 by omega), pc.1 s hs]
  exact ⟨pk_in s 12 hs, pk_eq (K s) 0 (fun z => h1 (Or.inl z)) (fun z => ⟨pk_in s 12 hs, pk_eq (K s) k (fun y => h1 (Or.inr y)) (fun y => h0 (fun x => x.elim z y))⟩)⟩
theorem td_settle {h : Nat → Nat → Bool} {k : Nat} {b1 b2 : Nat → Int32} (hs : s < 12) (ok : td_ok k h) (h1 : b1 s = nI k) (h2 : ∀ j, j < 17 → ∀ i, td_b (b2 (17 * s + j)) i = h j i)
    (H : ∀ c1, c1 s = nI (td_st k h) → (∀ x, x ≠ s → c1 x = b1 x) → post (nI (td_cnt h)) (c1, b2, a3, a4, a5, a6)) : wpX_settle post (b1, b2, a3, a4, a5, a6) (nI s) := by
  have cl := td_cnt_le h
  unfold wpX_settle
  dsimp only
  refine td_count hs h2 (fun j i z => td_ok_r ok _ _ (by omega)) (pk_eq (td_cnt h) 0 (fun z => ⟨pk_in s 12 hs, nm_e ?_⟩) (fun z => ?_))
  · rw [nI_clamp (show s < 2 ^ 31 by omega)]
    refine H _ ?_ (fun x hx => pk_un hx)
    rw [pk_us]; unfold td_st; rw [if_pos z]; rfl
  · refine H _ ?_ (fun x _ => rfl)
    unfold td_st; rw [if_neg z]; exact h1
/-! clear -/
theorem td_clear (pc : td_pc K G a1 a2) (hs : s < 12) (H : ∀ b1 b2 c3 c4 c5 c6, td_pc (td_pK K s 0) (td_pG G s td_no) b1 b2 → post (nI (K s)) (b1, b2, c3, c4, c5, c6)) : wpX_clear post (a1, a2, a3, a4, a5, a6) (nI s) := by
  unfold wpX_clear
  dsimp only
  refine td_isSlot hs (br_f (by decide) ⟨pk_in s 12 hs, nm_e ?_⟩)
  rw [nI_clamp (show s < 2 ^ 31 by omega), pc.1 s hs]
  refine ⟨pk_in s 12 hs, nm_e ?_⟩
  rw [nI_clamp (show s < 2 ^ 31 by omega)]
  refine pk_loop (σ := Nat → Int32) (fun n j u => wX_empty_9 _ (nI s) n (nI j) (upd a1 s 0) u a3 a4 a5 a6) (fun j u => u = td_all a2 s (fun _ => 0) j) 17 0 a2 (by omega) (td_all_0 _ _ _).symm ?_ ?_
  · rintro n u hI
    refine pk_le 17 17 (fun _ => H _ _ _ _ _ _ ?_) (fun z => absurd z (by omega))
    subst hI
    show td_pc (td_pK K s 0) (td_pG G s td_no) (upd a1 s 0) (td_all a2 s (fun _ => 0) 17)
    exact td_pc_put pc pk_us (fun x hx => pk_un hx) (fun j hj i => by rw [td_all_at _ _ _ hj]; exact td_0 i) (fun x hx => td_all_out _ _ _ _ hx)
  · rintro n j u hj hI hw
    refine pk_le 17 j (fun z => absurd z (by omega)) (fun _ => ⟨pk_in (17 * s + j) 204 (by omega) (td_ix s j), nm_e (nm_r (nI_1 j) (hw _ ?_))⟩)
    rw [td_ixc hs hj, hI]
    exact td_all_step a2 s (fun _ => 0) j
/-! point -/
theorem td_point (pc : td_pc K G a1 a2) (wf : td_wf K G) (hs : s < 12) {v : Nat} (hv : v < 81) (Hr : ¬ (K s = 0 ∨ K s = 1) → post (-3) (a1, a2, a3, a4, a5, a6))
    (H : (K s = 0 ∨ K s = 1) → ∀ b1 b2 c3 c4 c5 c6, td_pc (td_pK K s 1) (td_pG G s (td_hP (G s) v)) b1 b2 → post (nI (td_cnt (td_hP (G s) v))) (b1, b2, c3, c4, c5, c6)) : wpX_point post (a1, a2, a3, a4, a5, a6) (nI s) (nI v) := by
  unfold wpX_point
  dsimp only
  refine td_isSlot hs (br_f (by decide) (td_takes pc wf hs 1 (by decide) (fun z => br_f (by decide) ?_) (fun z => br_t rfl (Hr z))))
  refine td_isVertex hv (br_f (by decide) ⟨pk_in s 12 hs, nm_e ?_⟩)
  have ei : (17 : Int32) * nI s + 2 * nI (v % 9) = nI (17 * s + 2 * (v % 9)) := by rw [td_2m, td_ix]
  have ec : (nI (17 * s + 2 * (v % 9))).toNatClampNeg = 17 * s + 2 * (v % 9) := nI_clamp (by omega)
  rw [td_m9 hv, td_d9 hv, ei, ec, td_2m, nI_clamp (show s < 2 ^ 31 by omega)]
  refine ⟨by decide, pk_in (17 * s + 2 * (v % 9)) 204 (by omega), by decide, pk_in (17 * s + 2 * (v % 9)) 204 (by omega), nm_e ?_⟩
  have bits : ∀ j, j < 17 → ∀ i, td_b (upd a2 (17 * s + 2 * (v % 9)) (a2 (17 * s + 2 * (v % 9)) ||| (1 : Int32) <<< (nI (2 * (v / 9)) &&& 31)) (17 * s + j)) i = td_hP (G s) v j i := by
    intro j hj i
    unfold td_hP
    by_cases e : j = 2 * (v % 9)
    · rw [← e, pk_us, td_or, pc.2 s hs j hj, td_bit _ (by omega)]
      by_cases e2 : i = 2 * (v / 9)
      · rw [decide_eq_true e2, decide_eq_true ⟨rfl, e2⟩]
      · rw [decide_eq_false e2, decide_eq_false (fun x => e2 x.2)]
    · rw [pk_un (by omega), pc.2 s hs j hj, decide_eq_false (fun x => e x.1), Bool.or_false]
  exact td_count hs bits (fun j i y => td_ok_r (td_ok_hP (wf s hs) z hv) _ _ (by omega)) (H z _ _ _ _ _ _ (td_pc_put pc pk_us (fun x hx => pk_un hx) bits (fun x hx => pk_un (by omega))))
/-! rectangle, cut -/
theorem td_rectL {lo hi : Nat} {w : Int32} (hs : s < 12) (h1 : lo ≤ hi) (h2 : hi ≤ 8)
    (H : wpX_count (fun r => post r (a1, td_run a2 s (fun _ x => x ||| w) lo hi, a3, a4, a5, a6)) (a1, td_run a2 s (fun _ x => x ||| w) lo hi, a3, a4, a5, a6) (nI s)) : ∃ n, wX_rectangle_95 post (nI s) w (nI (2 * hi)) n (nI (2 * lo + 1)) a1 a2 a3 a4 a5 a6 := by
  refine pk_loop (σ := Nat → Int32) (fun n m u => wX_rectangle_95 post (nI s) w (nI (2 * hi)) n (nI (2 * m + 1)) a1 u a3 a4 a5 a6) (fun m u => lo ≤ m ∧ u = td_run a2 s (fun _ x => x ||| w) lo m) hi lo a2 h1 ⟨Nat.le_refl _, (td_run_0 _ _ _ _).symm⟩ ?_ ?_
  · rintro n u ⟨_, rfl⟩
    exact pk_le (2 * hi) (2 * hi + 1) (fun _ => H) (fun z => absurd z (by omega))
  · rintro n m u hm ⟨hl, hI⟩ hw
    refine pk_le (2 * hi) (2 * m + 1) (fun z => absurd z (by omega)) (fun _ => ⟨pk_in (17 * s + (2 * m + 1)) 204 (by omega) (td_ix s _), pk_in (17 * s + (2 * m + 1)) 204 (by omega) (td_ix s _), nm_e (nm_r (td_st1 m) (hw _ ⟨by omega, ?_⟩))⟩)
    rw [td_ixc hs (by omega), hI, td_run_now]
    exact td_run_step a2 s (fun _ x => x ||| w) (by omega) hl
theorem td_cutL {lo hi : Nat} {w : Int32} (hs : s < 12) (h1 : lo ≤ hi) (h2 : hi ≤ 8)
    (H : wpX_settle post (a1, td_run a2 s (fun _ x => x &&& (w ^^^ (-1))) lo hi, a3, a4, a5, a6) (nI s)) : ∃ n, wX_cut_82 post (nI s) w (nI (2 * hi)) n (nI (2 * lo + 1)) a1 a2 a3 a4 a5 a6 := by
  refine pk_loop (σ := Nat → Int32) (fun n m u => wX_cut_82 post (nI s) w (nI (2 * hi)) n (nI (2 * m + 1)) a1 u a3 a4 a5 a6) (fun m u => lo ≤ m ∧ u = td_run a2 s (fun _ x => x &&& (w ^^^ (-1))) lo m) hi lo a2 h1 ⟨Nat.le_refl _, (td_run_0 _ _ _ _).symm⟩ ?_ ?_
  · rintro n u ⟨_, rfl⟩
    exact pk_le (2 * hi) (2 * hi + 1) (fun _ => H) (fun z => absurd z (by omega))
  · rintro n m u hm ⟨hl, hI⟩ hw
    refine pk_le (2 * hi) (2 * m + 1) (fun z => absurd z (by omega)) (fun _ => ⟨pk_in (17 * s + (2 * m + 1)) 204 (by omega) (td_ix s _), pk_in (17 * s + (2 * m + 1)) 204 (by omega) (td_ix s _), nm_e (nm_r (td_st1 m) (hw _ ⟨by omega, ?_⟩))⟩)
    rw [td_ixc hs (by omega), hI, td_run_now]
    exact td_run_step a2 s (fun _ x => x &&& (w ^^^ (-1))) (by omega) hl
theorem td_bxw {f t : Nat} {w : Int32} (hw : ∀ i, td_b w i = ((decide (2 * min (f / 9) (t / 9) ≤ i) && decide (i ≤ 2 * max (f / 9) (t / 9))) && decide (i % 2 = 1))) {j : Nat} (i : Nat) (c : j % 2 = 1 ∧ 2 * min (f % 9) (t % 9) ≤ j ∧ j < 2 * max (f % 9) (t % 9)) : td_b w i = td_dc (td_bx f t j i) := by
  refine td_beq ?_
  rw [hw, td_dc_iff, Bool.and_eq_true, Bool.and_eq_true, decide_eq_true_iff, decide_eq_true_iff, decide_eq_true_iff]
  unfold td_bx
  omega
theorem td_bxn {f t j i : Nat} (c : ¬ (j % 2 = 1 ∧ 2 * min (f % 9) (t % 9) ≤ j ∧ j < 2 * max (f % 9) (t % 9))) : td_dc (td_bx f t j i) = false := td_dc_f (fun z => by
  unfold td_bx at z
  omega)
theorem td_rectangle (pc : td_pc K G a1 a2) (wf : td_wf K G) (hs : s < 12) {f t : Nat} (hf : f < 81) (ht : t < 81) (Hr : ¬ (K s = 0 ∨ K s = 3) → post (-3) (a1, a2, a3, a4, a5, a6)) (H5 : (K s = 0 ∨ K s = 3) → (f / 9 = t / 9 ∨ f % 9 = t % 9) → post (-5) (a1, a2, a3, a4, a5, a6))
    (H : (K s = 0 ∨ K s = 3) → ¬ (f / 9 = t / 9 ∨ f % 9 = t % 9) → ∀ b1 b2 c3 c4 c5 c6, td_pc (td_pK K s 3) (td_pG G s (td_hR (G s) f t)) b1 b2 → post (nI (td_cnt (td_hR (G s) f t))) (b1, b2, c3, c4, c5, c6)) : wpX_rectangle post (a1, a2, a3, a4, a5, a6) (nI s) (nI f) (nI t) := by
  unfold wpX_rectangle
  dsimp only
  refine td_isSlot hs (br_f (by decide) (td_takes pc wf hs 3 (by decide) (fun z => br_f (by decide) ?_) (fun z => br_t rfl (Hr z))))
  refine td_isVertex hf (br_f (by decide) (td_isVertex ht (br_f (by decide) (td_flat hf ht (fun y => br_f (by decide) (H5 z y)) (fun y => br_t rfl ⟨pk_in s 12 hs, nm_e ?_⟩)))))
  refine td_columns hf ht (fun w hw => ⟨by decide, by decide, ?_⟩)
  rw [td_m9 hf, td_m9 ht, nI_clamp (show s < 2 ^ 31 by omega)]
  refine td_greater (by omega) (by omega) (nm_r (td_2m _) ⟨by decide, by decide, td_lesser (by omega) (by omega) (nm_r (by rw [td_2m]; exact nI_1 _) (td_rectL hs (by omega) (by omega) ?_))⟩)
  have bits : ∀ j, j < 17 → ∀ i, td_b (td_run a2 s (fun _ x => x ||| w) (min (f % 9) (t % 9)) (max (f % 9) (t % 9)) (17 * s + j)) i = td_hR (G s) f t j i := by
    intro j hj i
    rw [td_run_at _ _ _ _ _ hj]
    unfold td_hR
    by_cases c : j % 2 = 1 ∧ 2 * min (f % 9) (t % 9) ≤ j ∧ j < 2 * max (f % 9) (t % 9)
    · rw [if_pos c, td_or, pc.2 s hs j hj, td_bxw hw i c]
    · rw [if_neg c, pc.2 s hs j hj, td_bxn c, Bool.or_false]
  exact td_count hs bits (fun j i y => td_ok_r (td_ok_hR (wf s hs) z hf ht) _ _ (by omega)) (H z y _ _ _ _ _ _ (td_pc_put pc pk_us (fun x hx => pk_un hx) bits (fun x hx => td_run_out _ _ _ _ _ hx)))
theorem td_cut (pc : td_pc K G a1 a2) (wf : td_wf K G) (hs : s < 12) {f t : Nat} (hf : f < 81) (ht : t < 81) (H2 : K s = 0 → post (-2) (a1, a2, a3, a4, a5, a6)) (H3 : K s ≠ 0 → K s ≠ 3 → post (-3) (a1, a2, a3, a4, a5, a6)) (H5 : K s = 3 → (f / 9 = t / 9 ∨ f % 9 = t % 9) → post (-5) (a1, a2, a3, a4, a5, a6))
    (H : K s = 3 → ¬ (f / 9 = t / 9 ∨ f % 9 = t % 9) → ∀ b1 b2 c3 c4 c5 c6, td_pc (td_pK K s (td_st 3 (td_hC (G s) f t))) (td_pG G s (td_hC (G s) f t)) b1 b2 → post (nI (td_cnt (td_hC (G s) f t))) (b1, b2, c3, c4, c5, c6)) : wpX_cut post (a1, a2, a3, a4, a5, a6) (nI s) (nI f) (nI t) := by
  unfold wpX_cut
  dsimp only
  refine td_areaRefusal pc wf hs (fun z => br_f (by decide) (H2 z)) (fun z z3 => br_f (by decide) (H3 z z3)) (fun z => br_t rfl ?_)
  refine td_isVertex hf (br_f (by decide) (td_isVertex ht (br_f (by decide) (td_flat hf ht (fun y => br_f (by decide) (H5 z y)) (fun y => br_t rfl ?_)))))
  refine td_columns hf ht (fun w hw => ⟨by decide, by decide, ?_⟩)
  rw [td_m9 hf, td_m9 ht]
  refine td_greater (by omega) (by omega) (nm_r (td_2m _) ⟨by decide, by decide, td_lesser (by omega) (by omega) (nm_r (by rw [td_2m]; exact nI_1 _) (td_cutL hs (by omega) (by omega) ?_))⟩)
  have ok3 : td_ok 3 (G s) := by have := wf s hs; rw [z] at this; exact this
  have bits : ∀ j, j < 17 → ∀ i, td_b (td_run a2 s (fun _ x => x &&& (w ^^^ (-1))) (min (f % 9) (t % 9)) (max (f % 9) (t % 9)) (17 * s + j)) i = td_hC (G s) f t j i := by
    intro j hj i
    rw [td_run_at _ _ _ _ _ hj]
    unfold td_hC
    by_cases c : j % 2 = 1 ∧ 2 * min (f % 9) (t % 9) ≤ j ∧ j < 2 * max (f % 9) (t % 9)
    · rw [if_pos c, td_and, pc.2 s hs j hj, td_nw w i (td_bxw hw i c) _ (fun q => ?_)]
      have := ok3.2 j i q
      have := this.2.1
      omega
    · rw [if_neg c, pc.2 s hs j hj, td_bxn c, Bool.not_false, Bool.and_true]
  exact td_settle hs (td_ok_hC ok3) (by rw [pc.1 s hs, z]) bits (fun c1 q1 q2 => H z y _ _ _ _ _ _ (td_pc_put pc q1 q2 bits (fun x hx => td_run_out _ _ _ _ _ hx)))
end
end
section
/-! line -/
section
variable {post : Int32 → St1 → Prop} {a1 a2 a3 a4 a5 a6 : Nat → Int32} {K : Nat → Nat} {G : Nat → Nat → Nat → Bool} {s : Nat}
theorem td_lineL {lo hi x : Nat} (hs : s < 12) (h1 : lo ≤ hi) (h2 : hi ≤ 8)
    (H : wpX_count (fun r => post r (a1, td_run a2 s (fun _ y => y ||| (1 : Int32) <<< (nI (2 * x) &&& 31)) lo hi, a3, a4, a5, a6)) (a1, td_run a2 s (fun _ y => y ||| (1 : Int32) <<< (nI (2 * x) &&& 31)) lo hi, a3, a4, a5, a6) (nI s)) : ∃ n, wX_line_182 post (nI s) (nI x) (nI (2 * hi)) n (nI (2 * lo + 1)) a1 a2 a3 a4 a5 a6 := by
  refine pk_loop (σ := Nat → Int32) (fun n m u => wX_line_182 post (nI s) (nI x) (nI (2 * hi)) n (nI (2 * m + 1)) a1 u a3 a4 a5 a6) (fun m u => lo ≤ m ∧ u = td_run a2 s (fun _ y => y ||| (1 : Int32) <<< (nI (2 * x) &&& 31)) lo m) hi lo a2 h1 ⟨Nat.le_refl _, (td_run_0 _ _ _ _).symm⟩ ?_ ?_
  · rintro n u ⟨_, rfl⟩
    exact pk_le (2 * hi) (2 * hi + 1) (fun _ => H) (fun z => absurd z (by omega))
  · rintro n m u hm ⟨hl, hI⟩ hw
    refine pk_le (2 * hi) (2 * m + 1) (fun z => absurd z (by omega)) (fun _ => ⟨pk_in (17 * s + (2 * m + 1)) 204 (by omega) (td_ix s _), pk_in (17 * s + (2 * m + 1)) 204 (by omega) (td_ix s _), nm_e (nm_r (td_st1 m) (hw _ ⟨by omega, ?_⟩))⟩)
    rw [td_ixc hs (by omega), hI, td_run_now, td_2m]
    exact td_run_step a2 s (fun _ y => y ||| (1 : Int32) <<< (nI (2 * x) &&& 31)) (by omega) hl
theorem td_line (pc : td_pc K G a1 a2) (wf : td_wf K G) (hs : s < 12) {f t : Nat} (hf : f < 81) (ht : t < 81) (Hr : ¬ (K s = 0 ∨ K s = 2) → post (-3) (a1, a2, a3, a4, a5, a6)) (H5 : (K s = 0 ∨ K s = 2) → (f / 9 = t / 9 ↔ f % 9 = t % 9) → post (-5) (a1, a2, a3, a4, a5, a6))
    (H : (K s = 0 ∨ K s = 2) → ¬ (f / 9 = t / 9 ↔ f % 9 = t % 9) → ∀ b1 b2 c3 c4 c5 c6, td_pc (td_pK K s 2) (td_pG G s (td_hL (G s) f t)) b1 b2 → post (nI (td_cnt (td_hL (G s) f t))) (b1, b2, c3, c4, c5, c6)) : wpX_line post (a1, a2, a3, a4, a5, a6) (nI s) (nI f) (nI t) := by
  unfold wpX_line
  dsimp only
  refine td_isSlot hs (br_f (by decide) (td_takes pc wf hs 2 (by decide) (fun z => br_f (by decide) ?_) (fun z => br_t rfl (Hr z))))
  refine td_isVertex hf (br_f (by decide) (td_isVertex ht (br_f (by decide) ⟨by decide, nm_r (td_d9 hf) ⟨by decide, nm_r (td_m9 hf) ⟨by decide, nm_r (td_d9 ht) ⟨by decide, nm_r (td_m9 ht) ?_⟩⟩⟩⟩)))
  have ecs : (nI s).toNatClampNeg = s := nI_clamp (by omega)
  have fin : ∀ b2, (∀ j, j < 17 → ∀ i, td_b (b2 (17 * s + j)) i = td_hL (G s) f t j i) → (∀ x, (x < 17 * s ∨ 17 * s + 17 ≤ x) → b2 x = a2 x) → ¬ (f / 9 = t / 9 ↔ f % 9 = t % 9) → wpX_count (fun r => post r (upd a1 s 2, b2, a3, a4, a5, a6)) (upd a1 s 2, b2, a3, a4, a5, a6) (nI s) :=
    fun b2 bits out n => td_count hs bits (fun j i y => td_ok_r (td_ok_hL (wf s hs) z hf ht) _ _ (by omega)) (H z n _ _ _ _ _ _ (td_pc_put pc pk_us (fun x hx => pk_un hx) bits out))
  -- an upright line, a level line
  have upr : f / 9 = t / 9 → ¬ f % 9 = t % 9 → wX_line_86 post (nI s) (nI (f / 9)) (nI (f % 9)) (nI (t / 9)) (nI (t % 9)) 0 1 a1 a2 a3 a4 a5 a6 := by
    intro e1 e2
    unfold wX_line_86
    rw [ecs]
    refine br_f (by decide) ⟨pk_in s 12 hs, nm_e (pk_eq (f % 9) (t % 9) (fun y => absurd y e2) (fun _ => ?_))⟩
    refine td_greater (by omega) (by omega) (nm_r (td_2m _) (td_lesser (by omega) (by omega) (nm_r (by rw [td_2m]; exact nI_1 _) (td_lineL hs (by omega) (by omega) (fin _ ?_ ?_ ?_)))))
    · intro j hj i
      rw [td_run_at _ _ _ _ _ hj]
      unfold td_hL
      by_cases c : j % 2 = 1 ∧ 2 * min (f % 9) (t % 9) ≤ j ∧ j < 2 * max (f % 9) (t % 9)
      · rw [if_pos c, td_or, pc.2 s hs j hj, td_bit _ (by omega)]
        refine congrArg (G s j i || ·) (td_beq ?_)
        rw [decide_eq_true_iff, td_dc_iff]
        unfold td_ln
        omega
      · rw [if_neg c, pc.2 s hs j hj, td_dc_f (fun y => ?_), Bool.or_false]
        unfold td_ln at y
        omega
    · exact fun x hx => td_run_out _ _ _ _ _ hx
    · exact fun y => e2 (y.mp e1)
  have lev : ¬ f / 9 = t / 9 → f % 9 = t % 9 → wX_line_86 post (nI s) (nI (f / 9)) (nI (f % 9)) (nI (t / 9)) (nI (t % 9)) 1 0 a1 a2 a3 a4 a5 a6 := by
    intro e1 e2
    unfold wX_line_86
    have ei : (17 : Int32) * nI s + 2 * nI (f % 9) = nI (17 * s + 2 * (f % 9)) := by rw [td_2m, td_ix]
    have ec : (nI (17 * s + 2 * (f % 9))).toNatClampNeg = 17 * s + 2 * (f % 9) := nI_clamp (by omega)
    rw [ecs, ei, ec]
    refine br_f (by decide) ⟨pk_in s 12 hs, nm_e (pk_eq (f % 9) (t % 9) (fun _ => ?_) (fun y => absurd e2 y))⟩
    refine td_lesser (by omega) (by omega) (td_greater (by omega) (by omega) ⟨pk_in (17 * s + 2 * (f % 9)) 204 (by omega), td_spanW (by omega) (by omega) (fun w hw => ⟨pk_in (17 * s + 2 * (f % 9)) 204 (by omega), nm_e (fin _ ?_ ?_ ?_)⟩)⟩)
    · intro j hj i
      unfold td_hL
      by_cases e : j = 2 * (f % 9)
      · rw [← e, pk_us, td_or, td_and, td_ODD, hw, pc.2 s hs j hj]
        refine congrArg (G s j i || ·) (td_beq ?_)
        rw [td_dc_iff, Bool.and_eq_true, Bool.and_eq_true, Bool.and_eq_true, decide_eq_true_iff, decide_eq_true_iff, decide_eq_true_iff, decide_eq_true_iff]
        unfold td_ln
        omega
      · rw [pk_un (by omega), pc.2 s hs j hj, td_dc_f (fun y => ?_), Bool.or_false]
        unfold td_ln at y
        omega
    · exact fun x hx => pk_un (by omega)
    · exact fun y => e1 (y.mpr e2)
  refine pk_eq (f / 9) (t / 9) (fun e1 => pk_eq (f % 9) (t % 9) (fun e2 => ?_) (fun e2 => upr e1 e2)) (fun e1 => pk_eq (f % 9) (t % 9) (fun e2 => lev e1 e2) (fun e2 => ?_))
  · exact br_t rfl (H5 z ⟨fun _ => e2, fun _ => e1⟩)
  · exact br_t rfl (H5 z ⟨fun y => absurd y e1, fun y => absurd y e2⟩)
/-! combine -/
theorem td_cbw {how : Nat} {x y : Int32} {f h : Nat → Bool} (hx : ∀ i, td_b x i = f i) (hy : ∀ i, td_b y i = h i) (lf : ∀ i, 17 ≤ i → f i = false) (i : Nat) :
    td_b (if how = 0 then x ||| y else if how = 1 then x &&& y else if how = 2 then x &&& (y ^^^ (-1)) else x ^^^ y) i = if how = 0 then f i || h i else if how = 1 then f i && h i else if how = 2 then f i && !h i else f i ^^ h i := by
  by_cases h0 : how = 0
  · rw [if_pos h0, if_pos h0, td_or, hx, hy]
  · rw [if_neg h0, if_neg h0]
    by_cases h1 : how = 1
    · rw [if_pos h1, if_pos h1, td_and, hx, hy]
    · rw [if_neg h1, if_neg h1]
      by_cases h2 : how = 2
      · rw [if_pos h2, if_pos h2, td_and, hx, td_nw y i (hy i) _ (fun c => ?_)]
        rcases Nat.lt_or_ge i 17 with z | z
        · omega
        · rw [lf i z] at c; exact absurd c (by decide)
      · rw [if_neg h2, if_neg h2, td_xor, hx, hy]
theorem td_combine (pc : td_pc K G a1 a2) (wf : td_wf K G) (hs : s < 12) {o how : Nat} (ho : o < 12) (hh : how ≤ 3) (H2 : (K s = 0 ∨ K o = 0) → post (-2) (a1, a2, a3, a4, a5, a6)) (H3 : ¬ (K s = 0 ∨ K o = 0) → K s ≠ K o → post (-3) (a1, a2, a3, a4, a5, a6))
    (H : ¬ (K s = 0 ∨ K o = 0) → K s = K o → ∀ b1 b2 c3 c4 c5 c6, td_pc (td_pK K s (td_st (K s) (td_hB how (G s) (G o)))) (td_pG G s (td_hB how (G s) (G o))) b1 b2 → post (nI (td_cnt (td_hB how (G s) (G o)))) (b1, b2, c3, c4, c5, c6)) : wpX_combine post (a1, a2, a3, a4, a5, a6) (nI s) (nI o) (nI how) := by
  have k1 := (wf s hs).1
  have k2 := (wf o ho).1
  unfold wpX_combine
  dsimp only
  refine td_pairRefusal pc wf hs ho (fun z => br_f (by decide) (H2 z)) (fun z => br_t rfl ⟨pk_in s 12 hs, pk_in o 12 ho, ?_⟩)
  rw [nI_clamp (show s < 2 ^ 31 by omega), nI_clamp (show o < 2 ^ 31 by omega), pc.1 s hs, pc.1 o ho]
  refine pk_eq (K s) (K o) (fun y => br_f (nI_pos (by omega)) (br_t (nI_le (b := 3) hh (by decide)) ?_)) (fun y => H3 z y)
  have oko : td_ok (K s) (G o) := by rw [y]; exact wf o ho
  refine pk_loop (σ := Nat → Int32) (fun n j u => wX_combine_49 post (nI s) (nI o) (nI how) n (nI j) a1 u a3 a4 a5 a6)
    (fun j u => u = td_all a2 s (fun j => if how = 0 then a2 (17 * s + j) ||| a2 (17 * o + j) else if how = 1 then a2 (17 * s + j) &&& a2 (17 * o + j) else if how = 2 then a2 (17 * s + j) &&& (a2 (17 * o + j) ^^^ (-1)) else a2 (17 * s + j) ^^^ a2 (17 * o + j)) j) 17 0 a2 (by omega) (td_all_0 _ _ _).symm ?_ ?_
  · rintro n u rfl
    refine pk_le 17 17 (fun _ => ?_) (fun q => absurd q (by omega))
    have bits : ∀ j, j < 17 → ∀ i, td_b (td_all a2 s (fun j => if how = 0 then a2 (17 * s + j) ||| a2 (17 * o + j) else if how = 1 then a2 (17 * s + j) &&& a2 (17 * o + j) else if how = 2 then a2 (17 * s + j) &&& (a2 (17 * o + j) ^^^ (-1)) else a2 (17 * s + j) ^^^ a2 (17 * o + j)) 17 (17 * s + j)) i = td_hB how (G s) (G o) j i := by
      intro j hj i
      rw [td_all_at _ _ _ hj]
      exact td_cbw (pc.2 s hs j hj) (pc.2 o ho j hj) (fun i q => td_ok_r (wf s hs) _ _ (by omega)) i
    exact td_settle hs (td_ok_hB (wf s hs) oko) (pc.1 s hs) bits (fun c1 q1 q2 => H z y _ _ _ _ _ _ (td_pc_put pc q1 q2 bits (fun x hx => td_all_out _ _ _ _ hx)))
  · rintro n j u hj hI hw
    have r1 : u (17 * s + j) = a2 (17 * s + j) := by rw [hI]; exact td_all_out _ _ _ _ (by omega)
    have r2 : u (17 * o + j) = a2 (17 * o + j) := by
      rw [hI]
      by_cases e : o = s
      · subst e; exact td_all_out _ _ _ _ (by omega)
      · exact td_all_out _ _ _ _ (by omega)
    refine pk_le 17 j (fun q => absurd q (by omega)) (fun _ => ⟨pk_in (17 * s + j) 204 (by omega) (td_ix s j), nm_e ⟨pk_in (17 * o + j) 204 (by omega) (td_ix o j), nm_e ?_⟩⟩)
    rw [td_ixc hs hj, td_ixc ho hj, r1, r2]
    have step : ∀ w, w = (if how = 0 then a2 (17 * s + j) ||| a2 (17 * o + j) else if how = 1 then a2 (17 * s + j) &&& a2 (17 * o + j) else if how = 2 then a2 (17 * s + j) &&& (a2 (17 * o + j) ^^^ (-1)) else a2 (17 * s + j) ^^^ a2 (17 * o + j)) → wX_combine_49 post (nI s) (nI o) (nI how) n (nI (j + 1)) a1 (upd u (17 * s + j) w) a3 a4 a5 a6 := by
      intro w hw2
      refine hw _ ?_
      rw [hI, hw2]
      exact td_all_step a2 s (fun j => if how = 0 then a2 (17 * s + j) ||| a2 (17 * o + j) else if how = 1 then a2 (17 * s + j) &&& a2 (17 * o + j) else if how = 2 then a2 (17 * s + j) &&& (a2 (17 * o + j) ^^^ (-1)) else a2 (17 * s + j) ^^^ a2 (17 * o + j)) j
    refine pk_eq how 0 (fun h0 => ⟨pk_in (17 * s + j) 204 (by omega) (td_ix s j), nm_e (nm_r (nI_1 j) (step _ ?_))⟩) (fun h0 => pk_eq how 1 (fun h1 => ⟨pk_in (17 * s + j) 204 (by omega) (td_ix s j), nm_e (nm_r (nI_1 j) (step _ ?_))⟩) (fun h1 => pk_eq how 2 (fun h2 => ⟨pk_in (17 * s + j) 204 (by omega) (td_ix s j), nm_e (nm_r (nI_1 j) (step _ ?_))⟩) (fun h2 => ⟨pk_in (17 * s + j) 204 (by omega) (td_ix s j), nm_e (nm_r (nI_1 j) (step _ ?_))⟩)))
    · rw [if_pos h0]
    · rw [if_neg h0, if_pos h1]
    · rw [if_neg h0, if_neg h1, if_pos h2]
    · rw [if_neg h0, if_neg h1, if_neg h2]
/-! outline -/
theorem td_outline (pc : td_pc K G a1 a2) (wf : td_wf K G) (hs : s < 12) {o : Nat} (ho : o < 12) (H2 : K s = 0 → post (-2) (a1, a2, a3, a4, a5, a6)) (H3 : K s ≠ 0 → K s ≠ 3 → post (-3) (a1, a2, a3, a4, a5, a6))
    (H : K s = 3 → ∀ b1 b2 c3 c4 c5 c6, td_pc (td_pK K o 2) (td_pG G o (td_rg 3 (G s))) b1 b2 → post (nI (td_cnt (td_rg 3 (G s)))) (b1, b2, c3, c4, c5, c6)) : wpX_outline post (a1, a2, a3, a4, a5, a6) (nI s) (nI o) := by
  unfold wpX_outline
  dsimp only
  refine td_isSlot ho (br_f (by decide) (td_areaRefusal pc wf hs (fun z => br_f (by decide) (H2 z)) (fun z z3 => br_f (by decide) (H3 z z3)) (fun z => br_t rfl ?_)))
  have ok3 : td_ok 3 (G s) := by have := wf s hs; rw [z] at this; exact this
  refine td_lay (w := 0) hs (by omega) (by rw [pc.1 s hs, z]) (pc.2 s hs) ok3 (fun c3 c4 l _ => ⟨pk_in o 12 ho, nm_e ?_⟩)
  dsimp only
  rw [nI_clamp (show o < 2 ^ 31 by omega)]
  refine pk_loop (σ := Nat → Int32) (fun n j u => wX_outline_37 post (nI o) n (nI j) (upd a1 o 2) u c3 c4 a5 a6) (fun j u => u = td_all a2 o (fun j => if j % 2 = 0 then c4 j &&& 43690 else c4 j &&& 87381) j) 17 0 a2 (by omega) (td_all_0 _ _ _).symm ?_ ?_
  · rintro n u rfl
    refine pk_le 17 17 (fun _ => ?_) (fun q => absurd q (by omega))
    have bits : ∀ j, j < 17 → ∀ i, td_b (td_all a2 o (fun j => if j % 2 = 0 then c4 j &&& 43690 else c4 j &&& 87381) 17 (17 * o + j)) i = td_rg 3 (G s) j i := by
      intro j hj i
      rw [td_all_at _ _ _ hj]
      by_cases e : j % 2 = 0
      · rw [if_pos e]; exact td_rgE ok3 (fun i => (td_laid0 l hj i).2) e i
      · rw [if_neg e]; exact td_rgO ok3 (fun i => (td_laid0 l hj i).2) e i
    exact td_count ho bits (fun j i q => td_rg_lt ok3 i q) (H z _ _ _ _ _ _ (td_pc_put pc pk_us (fun x hx => pk_un hx) bits (fun x hx => td_all_out _ _ _ _ hx)))
  · rintro n j u hj hI hw
    refine pk_le 17 j (fun q => absurd q (by omega)) (fun _ => ⟨pk_in j 34 (by omega), by decide, ?_⟩)
    rw [nI_clamp (show j < 2 ^ 31 by omega), td_ixc ho hj]
    have step : ∀ w, w = (if j % 2 = 0 then c4 j &&& 43690 else c4 j &&& 87381) → wX_outline_37 post (nI o) n (nI (j + 1)) (upd a1 o 2) (upd u (17 * o + j) w) c3 c4 a5 a6 := by
      intro w hw2
      refine hw _ ?_
      rw [hI, hw2]
      exact td_all_step a2 o (fun j => if j % 2 = 0 then c4 j &&& 43690 else c4 j &&& 87381) j
    refine pk_eq (j % 2) 0 (fun e => ⟨pk_in (17 * o + j) 204 (by omega) (td_ix o j), nm_e (nm_r (nI_1 j) (step _ ?_))⟩) (fun e => ⟨pk_in (17 * o + j) 204 (by omega) (td_ix o j), nm_e (nm_r (nI_1 j) (step _ ?_))⟩) (td_rem2 (by omega))
    · rw [if_pos e]
    · rw [if_neg e]
end
end
section
/-! grow, fill -/
section
variable {post : Int32 → St1 → Prop} {a1 a2 a3 a4 a5 a6 : Nat → Int32} {K : Nat → Nat} {G : Nat → Nat → Nat → Bool} {s : Nat}
theorem td_g3_lt {g : Nat → Nat → Bool} (ok : td_ok 3 g) (j i : Nat) (hi : 17 ≤ i) : td_g3 g j i = false := by
  unfold td_g3
  have a1 : td_dr (td_dr g) j i = false := td_dr_f (fun m _ => td_dr_f (fun m' _ => td_ok_r ok _ _ (by omega)))
  rw [a1, td_ok_r ok j i (by omega), td_ok_r ok (j + 2) i (by omega)]; rfl
theorem td_g9w {g : Nat → Nat → Bool} (ok : td_ok 3 g) {j : Nat} (hj : j < 17) (hp : j % 2 = 1) {x y z : Int32} (hx : ∀ i, td_b x i = td_dr (td_dr g) j i) (hy : ∀ i, td_b y i = g j i) (hz : ∀ i, td_b z i = g (j + 2) i) (i : Nat) :
    td_b ((((((x ||| y) ||| z)) ||| (((x ||| y) ||| z) <<< ((2 : Int32) &&& 31))) ||| (((x ||| y) ||| z) >>> ((2 : Int32) &&& 31))) &&& 43690) i = td_hG g j i := by
  have h3 : ∀ i, td_b ((x ||| y) ||| z) i = td_g3 g j i := fun i => by rw [td_or, td_or, hx, hy, hz]; rfl
  have lo := td_lo_of h3 (td_g3_lt ok j)
  have e3 : td_b ((x ||| y) ||| z) = td_g3 g j := funext h3
  rw [td_and, td_or, td_or, td_shl2 lo, td_shr2 lo, td_ODD, e3]
  unfold td_hG td_g9
  rw [if_pos hp, decide_eq_true hj, Bool.true_and]
theorem td_growL {u5 : Nat → Int32} (hs : s < 12) (H : wpX_count (fun r => post r (a1, td_run a2 s (fun j _ => u5 j) 0 8, a3, a4, u5, a6)) (a1, td_run a2 s (fun j _ => u5 j) 0 8, a3, a4, u5, a6) (nI s)) : ∃ n, wX_grow_75 post (nI s) n (nI (2 * 0 + 1)) a1 a2 a3 a4 u5 a6 := by
  refine pk_loop (σ := Nat → Int32) (fun n m u => wX_grow_75 post (nI s) n (nI (2 * m + 1)) a1 u a3 a4 u5 a6) (fun m u => u = td_run a2 s (fun j _ => u5 j) 0 m) 8 0 a2 (by omega) (td_run_0 _ _ _ _).symm ?_ ?_
  · rintro n u rfl
    exact pk_le 17 (2 * 8 + 1) (fun _ => H) (fun z => absurd z (by omega))
  · rintro n m u hm hI hw
    refine pk_le 17 (2 * m + 1) (fun z => absurd z (by omega)) (fun _ => ⟨pk_in (2 * m + 1) 17 (by omega), pk_in (17 * s + (2 * m + 1)) 204 (by omega) (td_ix s _), nm_e (nm_r (td_st1 m) (hw _ ?_))⟩)
    rw [td_ixc hs (by omega), nI_clamp (show 2 * m + 1 < 2 ^ 31 by omega), hI]
    exact td_run_step a2 s (fun j _ => u5 j) (by omega) (by omega)
theorem td_grow (pc : td_pc K G a1 a2) (wf : td_wf K G) (hs : s < 12) (H2 : K s = 0 → post (-2) (a1, a2, a3, a4, a5, a6)) (H3 : K s ≠ 0 → K s ≠ 3 → post (-3) (a1, a2, a3, a4, a5, a6))
    (H : K s = 3 → ∀ b1 b2 c3 c4 c5 c6, td_pc (td_pK K s 3) (td_pG G s (td_hG (G s))) b1 b2 → post (nI (td_cnt (td_hG (G s)))) (b1, b2, c3, c4, c5, c6)) : wpX_grow post (a1, a2, a3, a4, a5, a6) (nI s) := by
  unfold wpX_grow
  dsimp only
  refine td_areaRefusal pc wf hs (fun z => br_f (by decide) (H2 z)) (fun z z3 => br_f (by decide) (H3 z z3)) (fun z => br_t rfl ?_)
  have ok3 : td_ok 3 (G s) := by have := wf s hs; rw [z] at this; exact this
  have hr : ∀ j i, 17 ≤ j → G s j i = false := fun j i y => td_ok_r ok3 _ _ (by omega)
  refine pk_loop (σ := Nat → Int32) (fun n m u => wX_grow_14 post (nI s) n (nI (2 * m + 1)) a1 a2 a3 a4 u a6) (fun m u => ∀ m', m' < m → ∀ i, td_b (u (2 * m' + 1)) i = td_hG (G s) (2 * m' + 1) i) 8 0 a5 (by omega) (fun m' y => absurd y (by omega)) ?_ ?_
  · intro n u hI
    refine pk_le 17 (2 * 8 + 1) (fun _ => td_growL hs ?_) (fun y => absurd y (by omega))
    have bits : ∀ j, j < 17 → ∀ i, td_b (td_run a2 s (fun j _ => u j) 0 8 (17 * s + j)) i = td_hG (G s) j i := by
      intro j hj i
      rw [td_run_at _ _ _ _ _ hj]
      by_cases c : j % 2 = 1
      · rw [if_pos (by omega)]
        have := hI (j / 2) (by omega) i
        rw [show 2 * (j / 2) + 1 = j by omega] at this
        exact this
      · rw [if_neg (by omega), pc.2 s hs j hj]
        unfold td_hG
        rw [if_neg c]
    exact td_count hs bits (fun j i y => td_ok_r (td_ok_hG ok3) _ _ (by omega)) (H z _ _ _ _ _ _ (td_pc_put pc (by rw [pc.1 s hs, z]) (fun x _ => rfl) bits (fun x hx => td_run_out _ _ _ _ _ hx)))
  · intro n m u hm hI hw
    refine pk_le 17 (2 * m + 1) (fun y => absurd y (by omega)) (fun _ => ?_)
    refine td_rowDn2 hs (pc.2 s hs) hr (by omega) (fun x hx => td_rowAt hs (pc.2 s hs) hr (by omega) (fun y hy => td_rowUp2 hs (pc.2 s hs) hr (by omega) (fun w hw' => nm_e ⟨pk_in (2 * m + 1) 17 (by omega), nm_e (nm_r (td_st1 m) (hw _ (fun m' hm' i => ?_)))⟩)))
    rw [nI_clamp (show 2 * m + 1 < 2 ^ 31 by omega)]
    by_cases e : m' = m
    · subst e
      rw [pk_us]
      exact td_g9w ok3 (by omega) (by omega) hx hy hw' i
    · rw [pk_un (by omega)]; exact hI m' (by omega) i
theorem td_fillL {u5 : Nat → Int32} (hs : s < 12) (H : wpX_count (fun r => post r (a1, td_run a2 s (fun j x => x ||| (u5 j &&& 43690)) 0 8, a3, a4, u5, a6)) (a1, td_run a2 s (fun j x => x ||| (u5 j &&& 43690)) 0 8, a3, a4, u5, a6) (nI s)) : ∃ n, wX_fill_19 post (nI s) n (nI (2 * 0 + 1)) a1 a2 a3 a4 u5 a6 := by
  refine pk_loop (σ := Nat → Int32) (fun n m u => wX_fill_19 post (nI s) n (nI (2 * m + 1)) a1 u a3 a4 u5 a6) (fun m u => u = td_run a2 s (fun j x => x ||| (u5 j &&& 43690)) 0 m) 8 0 a2 (by omega) (td_run_0 _ _ _ _).symm ?_ ?_
  · rintro n u rfl
    exact pk_le 17 (2 * 8 + 1) (fun _ => H) (fun z => absurd z (by omega))
  · rintro n m u hm hI hw
    refine pk_le 17 (2 * m + 1) (fun z => absurd z (by omega)) (fun _ => ⟨pk_in (17 * s + (2 * m + 1)) 204 (by omega) (td_ix s _), pk_in (2 * m + 1) 17 (by omega), pk_in (17 * s + (2 * m + 1)) 204 (by omega) (td_ix s _), nm_e (nm_r (td_st1 m) (hw _ ?_))⟩)
    rw [td_ixc hs (by omega), nI_clamp (show 2 * m + 1 < 2 ^ 31 by omega), hI, td_run_now]
    exact td_run_step a2 s (fun j x => x ||| (u5 j &&& 43690)) (by omega) (by omega)
theorem td_fill (pc : td_pc K G a1 a2) (wf : td_wf K G) (hs : s < 12) (H2 : K s = 0 → post (-2) (a1, a2, a3, a4, a5, a6)) (H3 : K s ≠ 0 → K s ≠ 3 → post (-3) (a1, a2, a3, a4, a5, a6))
    (H : K s = 3 → ∀ b1 b2 c3 c4 c5 c6, td_pc (td_pK K s 3) (td_pG G s (td_hF (G s))) b1 b2 → post (nI (td_cnt (td_hF (G s)))) (b1, b2, c3, c4, c5, c6)) : wpX_fill post (a1, a2, a3, a4, a5, a6) (nI s) := by
  unfold wpX_fill
  dsimp only
  refine td_areaRefusal pc wf hs (fun z => br_f (by decide) (H2 z)) (fun z z3 => br_f (by decide) (H3 z z3)) (fun z => br_t rfl ?_)
  have ok3 : td_ok 3 (G s) := by have := wf s hs; rw [z] at this; exact this
  refine td_layHoles hs (k := 3) (by rw [pc.1 s hs, z]) (pc.2 s hs) ok3 (fun c3 c4 c5 c6 e => td_fillL hs ?_)
  have bits : ∀ j, j < 17 → ∀ i, td_b (td_run a2 s (fun j x => x ||| (c5 j &&& 43690)) 0 8 (17 * s + j)) i = td_hF (G s) j i := by
    intro j hj i
    rw [td_run_at _ _ _ _ _ hj]
    unfold td_hF
    by_cases c : j % 2 = 1
    · rw [if_pos (by omega), td_or, td_and, td_ODD, pc.2 s hs j hj, ← td_gr_at hj, e, decide_eq_true c, Bool.true_and]
      rcases Nat.lt_or_ge i 17 with y | y
      · rw [decide_eq_true y, Bool.true_and]
      · have hz : td_hole 3 (G s) j i = false := by
          cases q : td_hole 3 (G s) j i with
          | false => rfl
          | true => have := (td_hole_lt q).2; omega
        rw [hz]; rfl
    · rw [if_neg (by omega), pc.2 s hs j hj, decide_eq_false c, Bool.false_and, Bool.and_false, Bool.or_false]
  exact td_count hs bits (fun j i y => td_ok_r (td_ok_hF ok3) _ _ (by omega)) (H z _ _ _ _ _ _ (td_pc_put pc (show a1 s = nI 3 by rw [pc.1 s hs, z]) (fun x _ => rfl) bits (fun x hx => td_run_out _ _ _ _ _ hx)))
end
end
section
/-! the law -/
theorem td_turnT {post : Int32 → Prop} {v : Nat} (hv : v < 81) (h : post (nI (td_tu v))) : wpL_turned post () (nI v) := td_turned hv h
section
variable {post : Int32 → Prop} {L : Nat} {xs : Nat → Int32} {kc ks : Nat}
theorem td_iffn {p q p' q' : Prop} (h : ¬ (p ↔ q)) (e : p' ↔ q) (e' : q' ↔ p) : ¬ (p' ↔ q') := fun z => h ⟨fun y => e.mp (z.mpr (e'.mpr y)), fun y => e'.mp (z.mp (e.mpr y))⟩
theorem td_law18 (hL : L ≤ 260) (H : post 1) : ∀ d m, m + d = 25 → ∀ (a1 a2 a3 a4 a5 a6 b1 b2 b3 b4 b5 b6 : Nat → Int32) (K : Nat → Nat) (G : Nat → Nat → Nat → Bool), td_wf K G → td_pc K G a1 a2 → td_pc (td_fK K) (td_fG G) b1 b2 →
    wL_law_18 post L xs kc ks (d + 1) (nI (2 * m)) a1 a2 a3 a4 a5 a6 b1 b2 b3 b4 b5 b6 := by
  intro d
  induction d with
  | zero =>
    intro m hm a1 a2 a3 a4 a5 a6 b1 b2 b3 b4 b5 b6 K G wf pd pe
    refine pk_lt L (2 * m + 2) (fun _ => H) (fun _ => pk_le 50 (2 * m) (fun _ => H) (fun z => absurd z (by omega))) rfl (nI_add (2 * m) 2)
  | succ d ih =>
    intro m hm a1 a2 a3 a4 a5 a6 b1 b2 b3 b4 b5 b6 K G wf pd pe
    refine pk_lt L (2 * m + 2) (fun _ => H) (fun hl => pk_le 50 (2 * m) (fun _ => H) (fun hm2 => ⟨pk_in (2 * m) L (by omega), ?_⟩)) rfl (nI_add (2 * m) 2)
    obtain ⟨op, hop, eop⟩ := pk_andE (xs (nI (2 * m)).toNatClampNeg) (m := 15) 4 (by decide)
    refine nm_r eop ⟨pk_in (2 * m + 1) L (by omega) (nI_1 (2 * m)), ?_⟩
    intro c _
    obtain ⟨s, hs, es⟩ := td_mod c (m := 7) 3 6 (by decide) (by decide) (by decide) (by decide)
    obtain ⟨f, hf, ef⟩ := td_mod (c >>> ((3 : Int32) &&& 31)) (m := 127) 7 81 (by decide) (by decide) (by decide) (by decide)
    obtain ⟨t, ht, et⟩ := td_mod (c >>> ((10 : Int32) &&& 31)) (m := 127) 7 81 (by decide) (by decide) (by decide) (by decide)
    obtain ⟨o, ho, eo⟩ := td_mod (c >>> ((17 : Int32) &&& 31)) (m := 7) 3 6 (by decide) (by decide) (by decide) (by decide)
    obtain ⟨how, hhow, ehow⟩ := pk_andE (c >>> ((20 : Int32) &&& 31)) (m := 3) 2 (by decide)
    refine ⟨by decide, nm_r es ⟨by decide, nm_r ef ⟨by decide, nm_r et ⟨by decide, nm_r eo ?_⟩⟩⟩⟩
    have we := td_wf_f wf
    have s12 : s < 12 := by omega
    have o12 : o < 12 := by omega
    have x12 : 11 - s < 12 := by omega
    have y12 : 11 - o < 12 := by omega
    have fks := td_fKs K s12
    have fko := td_fKs K o12
    have fgs := td_fGs G s12
    have fgo := td_fGs G o12
    have oks := wf s s12
    have fl := td_tu_lt hf
    have tl := td_tu_lt ht
    have fin : ∀ (c1 c2 c3 c4 c5 c6 e1 e2 e3 e4 e5 e6 : Nat → Int32) (K' : Nat → Nat) (G' : Nat → Nat → Nat → Bool), td_wf K' G' → td_pc K' G' c1 c2 → td_pc (td_fK K') (td_fG G') e1 e2 →
        wL_law_444 post L xs (wL_law_18 post L xs kc ks (d + 1)) (nI (2 * m)) c kc ks c1 c2 c3 c4 c5 c6 e1 e2 e3 e4 e5 e6 := by
      intro c1 c2 c3 c4 c5 c6 e1 e2 e3 e4 e5 e6 K' G' wf' pd' pe'
      unfold wL_law_444
      refine ⟨pk_in (2 * m) L (by omega), td_alike wf' pd' pe' _ (fun d3 d4 d5 d6 g3 g4 g5 g6 => br_f (by decide) (nm_r (nI_add (2 * m) 2) ?_))⟩
      exact ih (m + 1) (by omega) _ _ _ _ _ _ _ _ _ _ _ _ K' G' wf' pd' pe'
    -- a line
    have line : ∀ t, t < 81 → wL_law_176 post L xs (wL_law_18 post L xs kc ks (d + 1)) (nI (2 * m)) c (nI s) (nI f) (nI t) kc ks a1 a2 a3 a4 a5 a6 b1 b2 b3 b4 b5 b6 := by
      intro t ht
      have tl := td_tu_lt ht
      have ec : (td_tu f / 9 = td_tu t / 9 ↔ td_tu f % 9 = td_tu t % 9) ↔ (f / 9 = t / 9 ↔ f % 9 = t % 9) := by
        rw [td_tu_d hf, td_tu_d ht, td_tu_m hf, td_tu_m ht]; exact ⟨fun h => h.symm, fun h => h.symm⟩
      unfold wL_law_176
      refine td_line pd wf s12 hf ht (fun z => td_slot s12 (td_turnT hf (td_turnT ht ?_))) (fun z z5 => td_slot s12 (td_turnT hf (td_turnT ht ?_))) (fun z z5 c1 c2 c3 c4 c5 c6 pd' => td_slot s12 (td_turnT hf (td_turnT ht ?_)))
      · exact td_line pe we x12 fl tl (fun _ => br_t rfl (fin _ _ _ _ _ _ _ _ _ _ _ _ K G wf pd pe)) (fun z' => absurd (by rw [fks] at z'; exact z') z) (fun z' => absurd (by rw [fks] at z'; exact z') z)
      · exact td_line pe we x12 fl tl (fun z' => absurd (by rw [fks]; exact z) z') (fun _ _ => br_t rfl (fin _ _ _ _ _ _ _ _ _ _ _ _ K G wf pd pe)) (fun _ z' => absurd (ec.mpr z5) z')
      · refine td_line pe we x12 fl tl (fun z' => absurd (by rw [fks]; exact z) z') (fun _ z' => absurd (ec.mp z') z5) (fun _ _ e1 e2 e3 e4 e5 e6 pe' => br_t ?_ (fin _ _ _ _ _ _ _ _ _ _ _ _ _ _ (td_wf_put wf (td_ok_hL oks z hf ht)) pd' (td_pc_flip s12 rfl ?_ pe')))
        · rw [fgs, td_hL_tr _ hf ht]; exact congrArg nI (td_cnt_tr _).symm
        · rw [fgs, td_hL_tr _ hf ht]
    refine pk_le 2 op (fun _ => pk_le 6 op (fun _ => pk_le 10 op (fun _ => pk_le 12 op (fun _ => pk_le 13 op (fun _ => pk_le 14 op (fun _ => pk_le 15 op (fun _ => ?_) (fun _ => ?_)) (fun _ => ?_)) (fun _ => ?_)) (fun _ => ?_)) (fun _ => ?_)) (fun _ => ?_)) (fun _ => ?_)
    · -- clear
      refine td_clear pd s12 (fun c1 c2 c3 c4 c5 c6 pd' => td_slot s12 (td_clear pe x12 (fun e1 e2 e3 e4 e5 e6 pe' => br_t (by rw [fks]) (fin _ _ _ _ _ _ _ _ _ _ _ _ _ _ (td_wf_put wf td_ok_no) pd' (td_pc_flip s12 rfl rfl pe')))))
    · -- outline
      refine td_outline pd wf s12 o12 (fun z => td_slot s12 (td_slot o12 ?_)) (fun z z3 => td_slot s12 (td_slot o12 ?_)) (fun z c1 c2 c3 c4 c5 c6 pd' => td_slot s12 (td_slot o12 ?_))
      · exact td_outline pe we x12 y12 (fun _ => br_t rfl (fin _ _ _ _ _ _ _ _ _ _ _ _ K G wf pd pe)) (fun z' => absurd (by rw [fks]; exact z) z') (fun z' => by rw [fks] at z'; omega)
      · exact td_outline pe we x12 y12 (fun z' => by rw [fks] at z'; omega) (fun _ _ => br_t rfl (fin _ _ _ _ _ _ _ _ _ _ _ _ K G wf pd pe)) (fun z' => by rw [fks] at z'; omega)
      · have ok3 : td_ok 3 (G s) := by rw [z] at oks; exact oks
        refine td_outline pe we x12 y12 (fun z' => by rw [fks] at z'; omega) (fun _ z' => by rw [fks] at z'; omega) (fun _ e1 e2 e3 e4 e5 e6 pe' => br_t ?_ (fin _ _ _ _ _ _ _ _ _ _ _ _ _ _ (td_wf_put wf (td_ok_rg ok3)) pd' (td_pc_flip o12 rfl ?_ pe')))
        · rw [fgs, td_rgF ok3]; exact congrArg nI (td_cnt_tr _).symm
        · rw [fgs, td_rgF ok3]
    · -- grow and fill
      have fill : ∀ (c1 c2 c3 c4 c5 c6 e1 e2 e3 e4 e5 e6 : Nat → Int32) (K' : Nat → Nat) (G' : Nat → Nat → Nat → Bool), td_wf K' G' → td_pc K' G' c1 c2 → td_pc (td_fK K') (td_fG G') e1 e2 →
          wpX_fill (fun r_233 u => match u with | (am3731_236, am3732_239, am3733_242, am3734_245, am3735_248, am3736_251) => (wpL_slot (fun r_252 => (wpX_fill (fun r_253 u => match u with | (am3821_256, am3822_259, am3823_262, am3824_265, am3825_268, am3826_271) => (((r_233 = r_253 → (wL_law_444 post L xs (wL_law_18 post L xs kc ks (d + 1)) (nI (2 * m)) c kc ks am3731_236 am3732_239 am3733_242 am3734_245 am3735_248 am3736_251 am3821_256 am3822_259 am3823_262 am3824_265 am3825_268 am3826_271)) ∧ (¬ r_233 = r_253 → (post 0))))) (e1, e2, e3, e4, e5, e6) r_252)) () (nI o))) (c1, c2, c3, c4, c5, c6) (nI o) := by
        intro c1 c2 c3 c4 c5 c6 e1 e2 e3 e4 e5 e6 K' G' wf' pd' pe'
        have we' := td_wf_f wf'
        have fko := td_fKs K' o12
        have fgo := td_fGs G' o12
        have oko := wf' o o12
        refine td_fill pd' wf' o12 (fun z => td_slot o12 ?_) (fun z z3 => td_slot o12 ?_) (fun z g1 g2 g3 g4 g5 g6 pd2 => td_slot o12 ?_)
        · exact td_fill pe' we' y12 (fun _ => br_t rfl (fin _ _ _ _ _ _ _ _ _ _ _ _ K' G' wf' pd' pe')) (fun z' => absurd (by rw [fko]; exact z) z') (fun z' => by rw [fko] at z'; omega)
        · exact td_fill pe' we' y12 (fun z' => by rw [fko] at z'; omega) (fun _ _ => br_t rfl (fin _ _ _ _ _ _ _ _ _ _ _ _ K' G' wf' pd' pe')) (fun z' => by rw [fko] at z'; omega)
        · have ok3 : td_ok 3 (G' o) := by rw [z] at oko; exact oko
          refine td_fill pe' we' y12 (fun z' => by rw [fko] at z'; omega) (fun _ z' => by rw [fko] at z'; omega) (fun _ h1 h2 h3 h4 h5 h6 pe2 => br_t ?_ (fin _ _ _ _ _ _ _ _ _ _ _ _ _ _ (td_wf_put wf' (td_ok_hF ok3)) pd2 (td_pc_flip o12 rfl ?_ pe2)))
          · rw [fgo, td_hF_tr ok3]; exact congrArg nI (td_cnt_tr _).symm
          · rw [fgo, td_hF_tr ok3]
      refine td_grow pd wf s12 (fun z => td_slot s12 ?_) (fun z z3 => td_slot s12 ?_) (fun z c1 c2 c3 c4 c5 c6 pd' => td_slot s12 ?_)
      · exact td_grow pe we x12 (fun _ => br_t rfl (fill _ _ _ _ _ _ _ _ _ _ _ _ K G wf pd pe)) (fun z' => absurd (by rw [fks]; exact z) z') (fun z' => by rw [fks] at z'; omega)
      · exact td_grow pe we x12 (fun z' => by rw [fks] at z'; omega) (fun _ _ => br_t rfl (fill _ _ _ _ _ _ _ _ _ _ _ _ K G wf pd pe)) (fun z' => by rw [fks] at z'; omega)
      · have ok3 : td_ok 3 (G s) := by rw [z] at oks; exact oks
        refine td_grow pe we x12 (fun z' => by rw [fks] at z'; omega) (fun _ z' => by rw [fks] at z'; omega) (fun _ e1 e2 e3 e4 e5 e6 pe' => br_t ?_ (fill _ _ _ _ _ _ _ _ _ _ _ _ _ _ (td_wf_put wf (td_ok_hG ok3)) pd' (td_pc_flip s12 rfl ?_ pe')))
        · rw [fgs, td_hG_tr ok3]; exact congrArg nI (td_cnt_tr _).symm
        · rw [fgs, td_hG_tr ok3]
    · -- combine
      rw [ehow]
      have oko := wf o o12
      refine td_combine pd wf s12 o12 (by omega) (fun z => td_slot s12 (td_slot o12 ?_)) (fun z z3 => td_slot s12 (td_slot o12 ?_)) (fun z z3 c1 c2 c3 c4 c5 c6 pd' => td_slot s12 (td_slot o12 ?_))
      · exact td_combine pe we x12 y12 (by omega) (fun _ => br_t rfl (fin _ _ _ _ _ _ _ _ _ _ _ _ K G wf pd pe)) (fun z' => absurd (by rw [fks, fko]; exact z) z') (fun z' => absurd (by rw [fks, fko]; exact z) z')
      · exact td_combine pe we x12 y12 (by omega) (fun z' => absurd (by rw [fks, fko] at z'; exact z') z) (fun _ _ => br_t rfl (fin _ _ _ _ _ _ _ _ _ _ _ _ K G wf pd pe)) (fun _ z' => absurd (by rw [fks, fko] at z'; exact z') z3)
      · have oko' : td_ok (K s) (G o) := by rw [z3]; exact oko
        refine td_combine pe we x12 y12 (by omega) (fun z' => absurd (by rw [fks, fko] at z'; exact z') z) (fun _ z' => absurd (by rw [fks, fko]; exact z3) z') (fun _ _ e1 e2 e3 e4 e5 e6 pe' => br_t ?_ (fin _ _ _ _ _ _ _ _ _ _ _ _ _ _ (td_wf_put wf (td_ok_st (td_ok_hB oks oko'))) pd' (td_pc_flip s12 ?_ ?_ pe')))
        · rw [fgs, fgo, td_hB_tr]; exact congrArg nI (td_cnt_tr _).symm
        · rw [fgs, fgo, td_hB_tr, fks]; exact td_st_tr _ _
        · rw [fgs, fgo, td_hB_tr]
    · -- cut
      have ec : (td_tu f / 9 = td_tu t / 9 ∨ td_tu f % 9 = td_tu t % 9) ↔ (f / 9 = t / 9 ∨ f % 9 = t % 9) := by
        rw [td_tu_d hf, td_tu_d ht, td_tu_m hf, td_tu_m ht]; exact Or.comm
      refine td_cut pd wf s12 hf ht (fun z => td_slot s12 (td_turnT hf (td_turnT ht ?_))) (fun z z3 => td_slot s12 (td_turnT hf (td_turnT ht ?_))) (fun z z5 => td_slot s12 (td_turnT hf (td_turnT ht ?_))) (fun z z5 c1 c2 c3 c4 c5 c6 pd' => td_slot s12 (td_turnT hf (td_turnT ht ?_)))
      · exact td_cut pe we x12 fl tl (fun _ => br_t rfl (fin _ _ _ _ _ _ _ _ _ _ _ _ K G wf pd pe)) (fun z' => absurd (by rw [fks]; exact z) z') (fun z' => by rw [fks] at z'; omega) (fun z' => by rw [fks] at z'; omega)
      · exact td_cut pe we x12 fl tl (fun z' => by rw [fks] at z'; omega) (fun _ _ => br_t rfl (fin _ _ _ _ _ _ _ _ _ _ _ _ K G wf pd pe)) (fun z' => by rw [fks] at z'; omega) (fun z' => by rw [fks] at z'; omega)
      · exact td_cut pe we x12 fl tl (fun z' => by rw [fks] at z'; omega) (fun _ z' => by rw [fks] at z'; omega) (fun _ _ => br_t rfl (fin _ _ _ _ _ _ _ _ _ _ _ _ K G wf pd pe)) (fun _ z' => absurd (ec.mpr z5) z')
      · have ok3 : td_ok 3 (G s) := by rw [z] at oks; exact oks
        refine td_cut pe we x12 fl tl (fun z' => by rw [fks] at z'; omega) (fun _ z' => by rw [fks] at z'; omega) (fun _ z' => absurd (ec.mp z') z5) (fun _ _ e1 e2 e3 e4 e5 e6 pe' => br_t ?_ (fin _ _ _ _ _ _ _ _ _ _ _ _ _ _ (td_wf_put wf (td_ok_st (td_ok_hC ok3))) pd' (td_pc_flip s12 ?_ ?_ pe')))
        · rw [fgs, td_hC_tr _ hf ht]; exact congrArg nI (td_cnt_tr _).symm
        · rw [fgs, td_hC_tr _ hf ht]; exact td_st_tr _ _
        · rw [fgs, td_hC_tr _ hf ht]
    · -- rectangle
      have ec : (td_tu f / 9 = td_tu t / 9 ∨ td_tu f % 9 = td_tu t % 9) ↔ (f / 9 = t / 9 ∨ f % 9 = t % 9) := by
        rw [td_tu_d hf, td_tu_d ht, td_tu_m hf, td_tu_m ht]; exact Or.comm
      refine td_rectangle pd wf s12 hf ht (fun z => td_slot s12 (td_turnT hf (td_turnT ht ?_))) (fun z z5 => td_slot s12 (td_turnT hf (td_turnT ht ?_))) (fun z z5 c1 c2 c3 c4 c5 c6 pd' => td_slot s12 (td_turnT hf (td_turnT ht ?_)))
      · exact td_rectangle pe we x12 fl tl (fun _ => br_t rfl (fin _ _ _ _ _ _ _ _ _ _ _ _ K G wf pd pe)) (fun z' => absurd (by rw [fks] at z'; exact z') z) (fun z' => absurd (by rw [fks] at z'; exact z') z)
      · exact td_rectangle pe we x12 fl tl (fun z' => absurd (by rw [fks]; exact z) z') (fun _ _ => br_t rfl (fin _ _ _ _ _ _ _ _ _ _ _ _ K G wf pd pe)) (fun _ z' => absurd (ec.mpr z5) z')
      · refine td_rectangle pe we x12 fl tl (fun z' => absurd (by rw [fks]; exact z) z') (fun _ z' => absurd (ec.mp z') z5) (fun _ _ e1 e2 e3 e4 e5 e6 pe' => br_t ?_ (fin _ _ _ _ _ _ _ _ _ _ _ _ _ _ (td_wf_put wf (td_ok_hR oks z hf ht)) pd' (td_pc_flip s12 rfl ?_ pe')))
        · rw [fgs, td_hR_tr _ hf ht]; exact congrArg nI (td_cnt_tr _).symm
        · rw [fgs, td_hR_tr _ hf ht]
    · -- line
      have e1 : nI f / 9 * 9 + (nI t - nI t / 9 * 9) = nI (f / 9 * 9 + t % 9) := by
        rw [td_m9 ht, td_d9 hf, show (9 : Int32) = nI 9 from rfl, pk_mul, nI_add]
      have e2 : nI t / 9 * 9 + (nI f - nI f / 9 * 9) = nI (t / 9 * 9 + f % 9) := by
        rw [td_m9 hf, td_d9 ht, show (9 : Int32) = nI 9 from rfl, pk_mul, nI_add]
      rw [e1, e2]
      exact br_c (fun _ => ⟨by decide, by decide, line _ (by omega)⟩) (fun _ => ⟨by decide, by decide, line _ (by omega)⟩)
    · -- point
      refine td_point pd wf s12 hf (fun z => td_slot s12 (td_turnT hf ?_)) (fun z c1 c2 c3 c4 c5 c6 pd' => td_slot s12 (td_turnT hf ?_))
      · exact td_point pe we x12 fl (fun _ => br_t rfl (fin _ _ _ _ _ _ _ _ _ _ _ _ K G wf pd pe)) (fun z' => absurd (by rw [fks] at z'; exact z') z)
      · refine td_point pe we x12 fl (fun z' => absurd (by rw [fks]; exact z) z') (fun _ e1 e2 e3 e4 e5 e6 pe' => br_t ?_ (fin _ _ _ _ _ _ _ _ _ _ _ _ _ _ (td_wf_put wf (td_ok_hP oks z hf)) pd' (td_pc_flip s12 rfl ?_ pe')))
        · rw [fgs, td_hP_tr _ hf]; exact congrArg nI (td_cnt_tr _).symm
        · rw [fgs, td_hP_tr _ hf]
theorem td_law0 (hL : L ≤ 260) (H : post 1) {a1 a2 a3 a4 a5 a6 b1 b2 b3 b4 b5 b6 : Nat → Int32} {K : Nat → Nat} {G : Nat → Nat → Nat → Bool} (wf : td_wf K G) (pd : td_pc K G a1 a2) (pe : td_pc (td_fK K) (td_fG G) b1 b2) : ∃ n, wL_law_18 post L xs kc ks n 0 a1 a2 a3 a4 a5 a6 b1 b2 b3 b4 b5 b6 := by
  have h := td_law18 (post := post) (L := L) (xs := xs) (kc := kc) (ks := ks) hL H 25 0 (by omega) a1 a2 a3 a4 a5 a6 b1 b2 b3 b4 b5 b6 K G wf pd pe
  rw [Nat.mul_zero, nI_0] at h
  exact ⟨_, h⟩
end
theorem td_upd0 : upd (fun _ => 0) 0 0 = fun _ => 0 := by
  funext x
  by_cases e : x = 0
  · subst e; exact pk_us
  · exact pk_un e
theorem i_vc (xs : Nat → Int32) (L : Nat) (hL : L ≤ 260) : wpL_law (fun r => r = 1) L xs := by
  have wf : td_wf (fun _ => 0) (fun _ => td_no) := fun s _ => td_ok_no
  have pc : td_pc (fun _ => 0) (fun _ => td_no) (fun _ => 0) (fun _ => 0) := ⟨fun s _ => rfl, fun s _ j _ i => td_0 i⟩
  refine ⟨6, 318, by decide, by decide, by decide, by decide, by decide, by decide, by decide, by decide, by decide, by decide, by decide, by decide, by decide, by decide, ?_⟩
  refine nm_r td_upd0 ⟨by decide, by decide, 6, 318, by decide, by decide, by decide, by decide, by decide, by decide, by decide, by decide, by decide, by decide, by decide, by decide, by decide, by decide, ?_⟩
  exact nm_r td_upd0 (td_law0 (post := fun r => r = 1) hL rfl wf pc pc)
end

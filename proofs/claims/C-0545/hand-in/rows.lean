section
theorem pk_us {f : Nat → Int32} {k : Nat} {x : Int32} : upd f k x k = x := if_pos rfl
theorem pk_un {f : Nat → Int32} {k j : Nat} {x : Int32} (h : j ≠ k) : upd f k x j = f j := if_neg h
theorem pk_sub {a b : Nat} (h : b ≤ a) : nI a - nI b = nI (a - b) := by
  obtain ⟨c, rfl⟩ : ∃ c, a = c + b := ⟨a - b, by omega⟩
  rw [← nI_add, Int32.add_sub_cancel, Nat.add_sub_cancel]
theorem pk_m1 (n : Nat) : nI (n + 1) + (-1) = nI n := by
  rw [← nI_1, Int32.add_assoc, show (1 : Int32) + (-1) = 0 from rfl, Int32.add_zero]
theorem pk_mul (a b : Nat) : nI a * nI b = nI (a * b) := (Int32.ofNat_mul a b).symm
theorem pk_div {a d : Nat} (ha : a < 2 ^ 31) (h0 : 0 < d) (hd : d < 2 ^ 31) : nI a / nI d = nI (a / d) := by
  apply Int32.toInt_inj.mp
  rw [lg_idiv_nonneg (by rw [nI_toInt ha]; omega) (by rw [nI_toInt hd]; omega), nI_toInt ha, nI_toInt hd, nI_toInt (Nat.lt_of_le_of_lt (Nat.div_le_self a d) ha)]
  first | rfl | exact (Int.natCast_ediv _ _).symm
theorem pk_rem {a d : Nat} (ha : a < 2 ^ 31) (h0 : 0 < d) (hd : d < 2 ^ 31) : nI a - nI a / nI d * nI d = nI (a % d) := by
  rw [pk_div ha h0 hd, pk_mul, pk_sub (Nat.div_mul_le_self a d)]
  exact congrArg nI (by have := Nat.div_add_mod' a d; omega)
theorem pk_sub_toInt {a b : Nat} (ha : a < 2 ^ 30) (hb : b < 2 ^ 30) : (nI a - nI b).toInt = (a : Int) - b := by
  rw [Int32.toInt_sub, nI_toInt (by omega), nI_toInt (by omega)]
  exact Int.bmod_eq_of_le (by omega) (by omega)
theorem pk_sneg {a b : Nat} (hb : b < 2 ^ 30) (h : a < b) : nI a - nI b < 0 := by
  rw [Int32.lt_iff_toInt_lt, pk_sub_toInt (by omega) hb, show (0 : Int32).toInt = 0 from by decide]
  omega
theorem pk_ix (x : Int32) {n : Nat} (hn : n < 2 ^ 31) : x < 0 ∨ nI n ≤ x ∨ ∃ j : Nat, j < n ∧ x = nI j := by
  by_cases h : x < 0
  · exact Or.inl h
  · obtain ⟨j, hj, rfl⟩ := nI_of h
    by_cases h2 : j < n
    · exact Or.inr (Or.inr ⟨j, h2, rfl⟩)
    · exact Or.inr (Or.inl (nI_le (by omega) hj))
theorem pk_le {x y : Int32} {A B : Prop} (a b : Nat) (f : a ≤ b → A) (g : b < a → B) (hx : x = nI a := by rfl) (hy : y = nI b := by rfl) (ha : a < 2 ^ 31 := by omega) (hb : b < 2 ^ 31 := by omega) : (x ≤ y → A) ∧ (¬ x ≤ y → B) := by
  subst hx hy
  rw [nI_leI ha hb]
  exact ⟨f, fun z => g (by omega)⟩
theorem pk_lt {x y : Int32} {A B : Prop} (a b : Nat) (f : a < b → A) (g : b ≤ a → B) (hx : x = nI a := by rfl) (hy : y = nI b := by rfl) (ha : a < 2 ^ 31 := by omega) (hb : b < 2 ^ 31 := by omega) : (x < y → A) ∧ (¬ x < y → B) := by
  subst hx hy
  rw [nI_ltI ha hb]
  exact ⟨f, fun z => g (by omega)⟩
theorem pk_eq {x y : Int32} {A B : Prop} (a b : Nat) (f : a = b → A) (g : a ≠ b → B) (hx : x = nI a := by rfl) (hy : y = nI b := by rfl) (ha : a < 2 ^ 31 := by omega) (hb : b < 2 ^ 31 := by omega) : (x = y → A) ∧ (¬ x = y → B) := by
  subst hx hy
  rw [nI_eq ha hb]
  exact ⟨f, g⟩
theorem pk_in {x : Int32} (n N : Nat) (h : n < N) (hx : x = nI n := by rfl) (hN : N < 2 ^ 31 := by omega) : vp_in x N := by
  subst hx
  exact vp_in_nI h hN
theorem pk_cl {x : Int32} (n : Nat) (hx : x = nI n := by rfl) (h : n < 2 ^ 31 := by omega) : x.toNatClampNeg = n := by
  subst hx
  exact nI_clamp h
theorem sb_m1 {p : Nat} (h : 0 < p) : nI p + (-1) = nI (p - 1) := by
  obtain ⟨q, rfl⟩ : ∃ q, p = q + 1 := ⟨p - 1, by omega⟩
  exact pk_m1 q
def bt (x : Int32) (i : Nat) : Bool := x.toBitVec.getLsbD i
theorem b_ext {x y : Int32} (h : ∀ i, i < 32 → bt x i = bt y i) : x = y := Int32.toBitVec_inj.mp (BitVec.eq_of_getLsbD_eq (fun i hi => h i hi))
theorem b_or (x y : Int32) (i : Nat) : bt (x ||| y) i = (bt x i || bt y i) := by unfold bt; rw [Int32.toBitVec_or, BitVec.getLsbD_or]
theorem b_and (x y : Int32) (i : Nat) : bt (x &&& y) i = (bt x i && bt y i) := by unfold bt; rw [Int32.toBitVec_and, BitVec.getLsbD_and]
theorem b_xor (x y : Int32) (i : Nat) : bt (x ^^^ y) i = (bt x i ^^ bt y i) := by unfold bt; rw [Int32.toBitVec_xor, BitVec.getLsbD_xor]
theorem b_big {x : Int32} {i : Nat} (h : 32 ≤ i) : bt x i = false := BitVec.getLsbD_of_ge _ _ h
theorem b_255 (i : Nat) : bt 255 i = decide (i < 8) := by
  rcases Nat.lt_or_ge i 32 with h | h
  · exact (by decide +kernel : ∀ i, i < 32 → bt 255 i = decide (i < 8)) i h
  · rw [b_big h, decide_eq_false (by omega)]
theorem b_65535 (i : Nat) : bt 65535 i = decide (i < 16) := by
  rcases Nat.lt_or_ge i 32 with h | h
  · exact (by decide +kernel : ∀ i, i < 32 → bt 65535 i = decide (i < 16)) i h
  · rw [b_big h, decide_eq_false (by omega)]
theorem b_m1 : ∀ i, i < 32 → bt (-1) i = true := by decide +kernel
theorem b_0 (i : Nat) : bt 0 i = false := BitVec.getLsbD_zero
theorem s_l : ∀ n, n < 32 → ((nI n &&& 31).toBitVec.smod 32).toNat = n := by decide +kernel
theorem s_u : ∀ n, n < 32 → (((nI n).toUInt32 &&& Int32.toUInt32 31).toBitVec % 32).toNat = n := by decide +kernel
theorem b_shl (n : Nat) (hn : n < 32) (x : Int32) {i : Nat} (hi : i < 32) : bt (x <<< (nI n &&& 31)) i = (decide (n ≤ i) && bt x (i - n)) := by
  unfold bt
  rw [Int32.toBitVec_shiftLeft]
  show (x.toBitVec <<< ((nI n &&& 31).toBitVec.smod 32).toNat).getLsbD i = _
  rw [s_l n hn, BitVec.getLsbD_shiftLeft]
  rcases Nat.lt_or_ge i n with h | h
  · simp [h, Nat.not_le.mpr h]
  · simp [hi, h, Nat.not_lt.mpr h]
theorem b_ushr (n : Nat) (hn : n < 32) (x : Int32) (i : Nat) : bt ((x.toUInt32 >>> ((nI n).toUInt32 &&& Int32.toUInt32 31)).toInt32) i = bt x (n + i) := by
  show (x.toUInt32 >>> ((nI n).toUInt32 &&& Int32.toUInt32 31)).toBitVec.getLsbD i = x.toUInt32.toBitVec.getLsbD (n + i)
  rw [UInt32.toBitVec_shiftRight]
  show (x.toUInt32.toBitVec >>> (((nI n).toUInt32 &&& Int32.toUInt32 31).toBitVec % 32).toNat).getLsbD i = _
  rw [s_u n hn, BitVec.getLsbD_ushiftRight]
theorem b_sshr (n : Nat) (hn : n < 32) (x : Int32) {i : Nat} (hi : i < 32) : bt (x >>> (nI n &&& 31)) i = if n + i < 32 then bt x (n + i) else bt x 31 := by
  unfold bt
  rw [Int32.toBitVec_shiftRight]
  show (x.toBitVec.sshiftRight ((nI n &&& 31).toBitVec.smod 32).toNat).getLsbD i = _
  rw [s_l n hn, BitVec.getLsbD_sshiftRight, BitVec.msb_eq_getLsbD_last]
  simp [hi]
end
section
/-! bits, sets, counts, loop laws -/
def kw_b (b : Bool) : Int32 := if b = true then 1 else 0
theorem kw_b0 : kw_b false = 0 := rfl
theorem kw_b1 : kw_b true = 1 := rfl
theorem kw_bz {c : Bool} {A B : Prop} (f : c = false → A) (g : c = true → B) : (kw_b c = 0 → A) ∧ (¬ kw_b c = 0 → B) := by
  cases c
  · exact ⟨fun _ => f rfl, fun z => absurd kw_b0 z⟩
  · exact ⟨fun z => absurd z (by decide), fun _ => g rfl⟩
theorem kw_beq {c d : Bool} {A B : Prop} (f : c = d → A) (g : c ≠ d → B) : (kw_b c = kw_b d → A) ∧ (¬ kw_b c = kw_b d → B) := by
  cases c <;> cases d
  · exact ⟨fun _ => f rfl, fun z => absurd rfl z⟩
  · exact ⟨fun z => absurd z (by decide), fun _ => g (by decide)⟩
  · exact ⟨fun z => absurd z (by decide), fun _ => g (by decide)⟩
  · exact ⟨fun _ => f rfl, fun z => absurd rfl z⟩
theorem kw_bn (c : Bool) : narrow .boolean (.int (kw_b c)) = .int (kw_b c) := by
  cases c
  · exact narrow_b0
  · exact narrow_b1
theorem kw_bv (c : Bool) : vp_nar .boolean (kw_b c) = kw_b c := by
  cases c <;> rfl
theorem kw_bd {c : Prop} [Decidable c] {A : Int32 → Prop} (h : A (kw_b (decide c))) : (c → A 1) ∧ (¬ c → A 0) := by
  by_cases hc : c
  · rw [decide_eq_true hc] at h; exact br_t hc h
  · rw [decide_eq_false hc] at h; exact br_f hc h
theorem kw_bd' {c : Prop} [Decidable c] {A : Int32 → Prop} (h : A (kw_b (!decide c))) : (c → A 0) ∧ (¬ c → A 1) := by
  by_cases hc : c
  · rw [decide_eq_true hc] at h; exact br_t hc h
  · rw [decide_eq_false hc] at h; exact br_f hc h
def kw_cnt : Nat → (Nat → Bool) → Nat
  | 0, _ => 0
  | n + 1, P => kw_cnt n P + (if P n = true then 1 else 0)
def kw_bs : Nat → (Nat → Bool) → Int32
  | 0, _ => 0
  | n + 1, P => if P n = true then kw_bs n P ||| ((1 : Int32) <<< (nI n &&& 31)) else kw_bs n P
def kw_al : Nat → (Nat → Bool) → Bool
  | 0, _ => true
  | n + 1, P => kw_al n P && P n
def kw_an : Nat → (Nat → Bool) → Bool
  | 0, _ => false
  | n + 1, P => kw_an n P || P n
theorem kw_alI {n : Nat} {P : Nat → Bool} : kw_al n P = true ↔ ∀ i, i < n → P i = true := by
  induction n with
  | zero => exact ⟨fun _ i hi => absurd hi (by omega), fun _ => rfl⟩
  | succ n ih =>
    show (kw_al n P && P n) = true ↔ _
    rw [Bool.and_eq_true, ih]
    constructor
    · intro h i hi
      rcases Nat.lt_succ_iff_lt_or_eq.mp hi with h1 | h1
      · exact h.1 i h1
      · rw [h1]; exact h.2
    · intro h
      exact ⟨fun i hi => h i (by omega), h n (by omega)⟩
theorem kw_anI {n : Nat} {P : Nat → Bool} : kw_an n P = true ↔ ∃ i, i < n ∧ P i = true := by
  induction n with
  | zero => exact ⟨fun h => absurd (show false = true from h) (by decide), fun ⟨i, hi, _⟩ => absurd hi (by omega)⟩
  | succ n ih =>
    show (kw_an n P || P n) = true ↔ _
    rw [Bool.or_eq_true, ih]
    constructor
    · rintro (⟨i, hi, h⟩ | h)
      · exact ⟨i, by omega, h⟩
      · exact ⟨n, by omega, h⟩
    · rintro ⟨i, hi, h⟩
      rcases Nat.lt_succ_iff_lt_or_eq.mp hi with h1 | h1
      · exact Or.inl ⟨i, h1, h⟩
      · rw [h1] at h; exact Or.inr h
theorem kw_bF {c : Bool} : c = false ↔ ¬ c = true := by cases c <;> decide
theorem kw_anF {n : Nat} {P : Nat → Bool} : kw_an n P = false ↔ ∀ i, i < n → P i = false := by
  rw [kw_bF, kw_anI]
  constructor
  · intro h i hi
    exact kw_bF.mpr fun z => h ⟨i, hi, z⟩
  · rintro h ⟨i, hi, z⟩
    rw [h i hi] at z
    exact absurd z (by decide)
theorem kw_alF {n : Nat} {P : Nat → Bool} : kw_al n P = false ↔ ∃ i, i < n ∧ P i = false := by
  constructor
  · intro h
    refine Classical.byContradiction fun z => ?_
    have : kw_al n P = true := kw_alI.mpr fun i hi => by
      cases hp : P i
      · exact absurd ⟨i, hi, hp⟩ z
      · rfl
    rw [this] at h
    exact absurd h (by decide)
  · rintro ⟨i, hi, h⟩
    refine kw_bF.mpr fun z => ?_
    rw [kw_alI.mp z i hi] at h
    exact absurd h (by decide)
theorem kw_one (i : Nat) : bt 1 i = decide (i = 0) := by
  rcases Nat.lt_or_ge i 32 with h | h
  · exact (by decide +kernel : ∀ i, i < 32 → bt 1 i = decide (i = 0)) i h
  · rw [b_big h, decide_eq_false (by omega)]
theorem kw_bit (s : Int32) {w : Nat} (hw : w < 32) : ((s >>> (nI w &&& 31)) &&& 1) = kw_b (bt s w) := by
  apply b_ext
  intro i hi
  rw [b_and, kw_one, b_sshr w hw s hi]
  by_cases h : i = 0
  · subst h
    rw [if_pos (by omega), Nat.add_zero]
    cases bt s w <;> decide +kernel
  · rw [decide_eq_false h, Bool.and_false]
    cases bt s w
    · rw [kw_b0, b_0]
    · rw [kw_b1, kw_one, decide_eq_false h]
theorem kw_sh {w i : Nat} (hw : w < 32) (hi : i < 32) : bt ((1 : Int32) <<< (nI w &&& 31)) i = decide (i = w) := by
  rw [b_shl w hw 1 hi, kw_one]
  rcases Nat.lt_trichotomy i w with h | h | h
  · rw [decide_eq_false (by omega : ¬ w ≤ i), decide_eq_false (by omega : ¬ i = w)]; rfl
  · rw [decide_eq_true (by omega : w ≤ i), decide_eq_true (by omega : i - w = 0), decide_eq_true h]; rfl
  · rw [decide_eq_true (by omega : w ≤ i), decide_eq_false (by omega : ¬ i - w = 0), decide_eq_false (by omega : ¬ i = w)]; rfl
theorem kw_not {x : Int32} {i : Nat} (hi : i < 32) : bt (x ^^^ (-1)) i = !bt x i := by
  rw [b_xor, b_m1 i hi]
  cases bt x i <;> rfl
theorem kw_nz {x : Int32} : x = 0 ↔ ∀ i, i < 32 → bt x i = false := by
  constructor
  · rintro rfl i _
    exact b_0 i
  · intro h
    exact b_ext fun i hi => by rw [h i hi, b_0]
theorem kw_bsb {n : Nat} (hn : n ≤ 32) (P : Nat → Bool) (i : Nat) : bt (kw_bs n P) i = (decide (i < n) && P i) := by
  induction n with
  | zero =>
    rw [decide_eq_false (by omega : ¬ i < 0)]
    exact b_0 i
  | succ n ih =>
    have ih := ih (by omega)
    rcases Nat.lt_or_ge i 32 with hi | hi
    · show bt (if P n = true then kw_bs n P ||| ((1 : Int32) <<< (nI n &&& 31)) else kw_bs n P) i = _
      cases hp : P n
      · rw [if_neg (by decide), ih]
        rcases Nat.lt_trichotomy i n with h | h | h
        · rw [decide_eq_true h, decide_eq_true (by omega : i < n + 1)]
        · subst h; rw [hp, Bool.and_false, Bool.and_false]
        · rw [decide_eq_false (by omega : ¬ i < n), decide_eq_false (by omega : ¬ i < n + 1)]
      · rw [if_pos rfl, b_or, ih, kw_sh (by omega) hi]
        rcases Nat.lt_trichotomy i n with h | h | h
        · rw [decide_eq_true h, decide_eq_true (by omega : i < n + 1), decide_eq_false (by omega : ¬ i = n), Bool.or_false]
        · subst h; rw [hp, decide_eq_true rfl, decide_eq_true (by omega : i < i + 1), Bool.or_true]; rfl
        · rw [decide_eq_false (by omega : ¬ i < n), decide_eq_false (by omega : ¬ i < n + 1), decide_eq_false (by omega : ¬ i = n)]; rfl
    · rw [b_big hi, decide_eq_false (by omega)]; rfl
theorem kw_bsT {P : Nat → Bool} {i : Nat} (h : P i = true) : kw_bs i P ||| ((1 : Int32) <<< (nI i &&& 31)) = kw_bs (i + 1) P := (if_pos h).symm
theorem kw_bsF {P : Nat → Bool} {i : Nat} (h : P i = false) : kw_bs i P = kw_bs (i + 1) P := (if_neg (by rw [h]; decide)).symm
theorem kw_bsO {P : Nat → Bool} {i : Nat} (hi : i < 32) : kw_bs i P ||| (kw_b (P i) <<< (nI i &&& 31)) = kw_bs (i + 1) P := by
  cases h : P i
  · rw [← kw_bsF h]
    apply b_ext
    intro j hj
    rw [b_or, b_shl i hi _ hj, kw_b0, b_0, Bool.and_false, Bool.or_false]
  · exact kw_bsT h
theorem kw_bsC {P : Nat → Bool} {i : Nat} {c : Bool} (h : P i = c) : (if c = true then kw_bs i P ||| ((1 : Int32) <<< (nI i &&& 31)) else kw_bs i P) = kw_bs (i + 1) P := by
  rw [← h]; rfl
theorem kw_bsX {n : Nat} {P Q : Nat → Bool} (h : ∀ i, i < n → P i = Q i) : kw_bs n P = kw_bs n Q := by
  induction n with
  | zero => rfl
  | succ n ih =>
    show (if P n = true then kw_bs n P ||| ((1 : Int32) <<< (nI n &&& 31)) else kw_bs n P) = (if Q n = true then kw_bs n Q ||| ((1 : Int32) <<< (nI n &&& 31)) else kw_bs n Q)
    rw [ih (fun i hi => h i (by omega)), h n (by omega)]
/-- a set of worlds by its bits -/
theorem kw_eqbs {x : Int32} {P : Nat → Bool} (h : ∀ i, i < 32 → bt x i = (decide (i < 16) && P i)) : x = kw_bs 16 P := b_ext fun i hi => by rw [h i hi, kw_bsb (by omega)]
theorem kw_cntS {P : Nat → Bool} {i : Nat} : nI (kw_cnt i P) + kw_b (P i) = nI (kw_cnt (i + 1) P) := by
  show _ = nI (kw_cnt i P + (if P i = true then 1 else 0))
  cases P i
  · rw [if_neg (by decide)]; exact Int32.add_zero _
  · rw [if_pos rfl]; exact nI_1 _
theorem kw_cntT {P : Nat → Bool} {i : Nat} (h : P i = true) : nI (kw_cnt i P) + 1 = nI (kw_cnt (i + 1) P) := by
  rw [← kw_cntS, h]; rfl
theorem kw_cntF {P : Nat → Bool} {i : Nat} (h : P i = false) : nI (kw_cnt i P) = nI (kw_cnt (i + 1) P) := by
  rw [← kw_cntS, h]; exact (Int32.add_zero _).symm
theorem kw_cntF0 {P : Nat → Bool} {i : Nat} (h : P i = false) : nI (kw_cnt i P) + 0 = nI (kw_cnt (i + 1) P) := by
  rw [← kw_cntS, h]; rfl
theorem kw_cntX {n : Nat} {P Q : Nat → Bool} (h : ∀ i, i < n → P i = Q i) : kw_cnt n P = kw_cnt n Q := by
  induction n with
  | zero => rfl
  | succ n ih =>
    show kw_cnt n P + (if P n = true then 1 else 0) = kw_cnt n Q + (if Q n = true then 1 else 0)
    rw [ih (fun i hi => h i (by omega)), h n (by omega)]
theorem kw_cnt_le (n : Nat) (P : Nat → Bool) : kw_cnt n P ≤ n := by
  induction n with
  | zero => exact Nat.le_refl 0
  | succ n ih =>
    show kw_cnt n P + (if P n = true then 1 else 0) ≤ n + 1
    split <;> omega
theorem kw_cnt_mono {n : Nat} {P Q : Nat → Bool} (h : ∀ i, i < n → P i = true → Q i = true) : kw_cnt n P ≤ kw_cnt n Q := by
  induction n with
  | zero => exact Nat.le_refl 0
  | succ n ih =>
    have ih := ih (fun i hi => h i (by omega))
    show kw_cnt n P + (if P n = true then 1 else 0) ≤ kw_cnt n Q + (if Q n = true then 1 else 0)
    cases hp : P n
    · rw [if_neg (by decide)]; omega
    · rw [h n (by omega) hp, if_pos rfl]; omega
theorem kw_cnt_lt {n : Nat} {P Q : Nat → Bool} (h : ∀ i, i < n → P i = true → Q i = true) (j : Nat) (hj : j < n) (hp : P j = false) (hq : Q j = true) : kw_cnt n P < kw_cnt n Q := by
  induction n with
  | zero => exact absurd hj (by omega)
  | succ n ih =>
    show kw_cnt n P + (if P n = true then 1 else 0) < kw_cnt n Q + (if Q n = true then 1 else 0)
    by_cases e : j = n
    · subst e
      have := kw_cnt_mono (n := j) (fun i hi => h i (by omega))
      rw [hp, hq, if_neg (by decide), if_pos rfl]; omega
    · have ih := ih (fun i hi => h i (by omega)) (by omega)
      cases hp : P n
      · rw [if_neg (by decide)]; omega
      · rw [h n (by omega) hp, if_pos rfl]; omega
/-- a growing row of sets of worlds stands still within 16 rounds -/
theorem kw_stab {A : Nat → Nat → Bool} {N c : Nat} (mono : ∀ n v, v < 16 → A n v = true → A (n + 1) v = true) (h0 : c ≤ kw_cnt 16 (A 0)) (hN : 16 < c + N) : ∃ n, n < N ∧ ∀ v, v < 16 → A (n + 1) v = A n v := by
  refine Classical.byContradiction fun z => ?_
  have hs : ∀ n, n < N → ∃ v, v < 16 ∧ A n v = false ∧ A (n + 1) v = true := by
    intro n hn
    refine Classical.byContradiction fun y => ?_
    refine z ⟨n, hn, fun v hv => ?_⟩
    cases h1 : A n v
    · cases h2 : A (n + 1) v
      · rfl
      · exact absurd ⟨v, hv, h1, h2⟩ y
    · exact mono n v hv h1
  have hc : ∀ n, n ≤ N → c + n ≤ kw_cnt 16 (A n) := by
    intro n
    induction n with
    | zero => intro _; exact h0
    | succ n ih =>
      intro hn
      have ih := ih (by omega)
      obtain ⟨v, hv, h1, h2⟩ := hs n (by omega)
      have := kw_cnt_lt (mono n) v hv h1 h2
      omega
  have h1 := hc N (Nat.le_refl N)
  have h2 := kw_cnt_le 16 (A N)
  omega
theorem kw_lp {σ : Type} (W : Nat → Nat → σ → Prop) (F : Nat → σ) (e : Nat) (hx : ∀ n, W (n + 1) e (F e)) (hs : ∀ n i, i < e → (∀ s, s = F (i + 1) → W n (i + 1) s) → W (n + 1) i (F i)) : ∃ n, W n 0 (F 0) :=
  loop_0 W (fun i s => s = F i) e (F 0) rfl (fun n s h => by rw [h]; exact hx n) (fun n i s hi h k => by rw [h]; exact hs n i hi k)
theorem kw_e16 : (16 : Int32) ≤ nI 16 := by decide +kernel
theorem kw_e3 : (3 : Int32) ≤ nI 3 := by decide +kernel
theorem kw_e48 : (48 : Int32) ≤ nI 48 := by decide +kernel
theorem kw_e256 : (256 : Int32) ≤ nI 256 := by decide +kernel
theorem kw_n16 {i : Nat} (h : i < 16) : ¬ (16 : Int32) ≤ nI i := nI_ge (b := 16) h (by decide)
theorem kw_n3 {i : Nat} (h : i < 3) : ¬ (3 : Int32) ≤ nI i := nI_ge (b := 3) h (by decide)
theorem kw_n48 {i : Nat} (h : i < 48) : ¬ (48 : Int32) ≤ nI i := nI_ge (b := 48) h (by decide)
theorem kw_n256 {i : Nat} (h : i < 256) : ¬ (256 : Int32) ≤ nI i := nI_ge (b := 256) h (by decide)
theorem kw_ixe (a w : Nat) : 16 * nI a + nI w = nI (16 * a + w) := by
  show nI 16 * nI a + nI w = _
  rw [pk_mul, nI_add]
theorem kw_ixv {a w : Nat} (ha : a < 3) (hw : w < 16) : vp_in (16 * nI a + nI w) 48 := by
  rw [kw_ixe]; exact vp_in_nI (by omega) (by decide)
theorem kw_ixc {a w : Nat} (ha : a < 3) (hw : w < 16) : (16 * nI a + nI w).toNatClampNeg = 16 * a + w := by
  rw [kw_ixe]; exact nI_clamp (by omega)
def kw_fl (g f : Nat → Int32) (i : Nat) : Nat → Int32 := fun j => if j < i then g j else f j
theorem kw_fl0 {g f : Nat → Int32} : kw_fl g f 0 = f := funext fun j => if_neg (by omega)
theorem kw_flS {g f : Nat → Int32} {i : Nat} {x : Int32} (hx : x = g i) : upd (kw_fl g f i) i x = kw_fl g f (i + 1) := by
  funext j
  unfold upd kw_fl
  by_cases h : j = i
  · rw [if_pos h, if_pos (by omega), h, hx]
  · rw [if_neg h]
    by_cases h2 : j < i
    · rw [if_pos h2, if_pos (by omega)]
    · rw [if_neg h2, if_neg (by omega)]
theorem kw_fli {g f : Nat → Int32} {i j : Nat} (h : j < i) : kw_fl g f i j = g j := if_pos h
theorem kw_flo {g f : Nat → Int32} {i j : Nat} (h : ¬ j < i) : kw_fl g f i j = f j := if_neg h
def kw_fo (o : Nat) (g f : Nat → Int32) (i : Nat) : Nat → Int32 := fun j => if o ≤ j ∧ j < o + i then g j else f j
theorem kw_fo0 {o : Nat} {g f : Nat → Int32} : kw_fo o g f 0 = f := funext fun j => if_neg (by omega)
theorem kw_foS {o : Nat} {g f : Nat → Int32} {i : Nat} {x : Int32} (hx : x = g (o + i)) : upd (kw_fo o g f i) (o + i) x = kw_fo o g f (i + 1) := by
  funext j
  unfold upd kw_fo
  by_cases h : j = o + i
  · rw [if_pos h, if_pos (by omega), h, hx]
  · rw [if_neg h]
    by_cases h2 : o ≤ j ∧ j < o + i
    · rw [if_pos h2, if_pos (by omega)]
    · rw [if_neg h2, if_neg (by omega)]
theorem kw_foi {o : Nat} {g f : Nat → Int32} {i j : Nat} (h : o ≤ j ∧ j < o + i) : kw_fo o g f i j = g j := if_pos h
theorem kw_foo {o : Nat} {g f : Nat → Int32} {i j : Nat} (h : ¬ (o ≤ j ∧ j < o + i)) : kw_fo o g f i j = f j := if_neg h
theorem kw_us (f : Nat → Int32) (k : Nat) : upd f k (f k) = f := by
  funext j
  unfold upd
  by_cases h : j = k
  · rw [if_pos h, h]
  · rw [if_neg h]
/-- an int by the range 0 .. n - 1 -/
theorem kw_ix (x : Int32) (n : Nat) (hn : n < 2 ^ 31) : x < 0 ∨ (∃ j : Nat, n ≤ j ∧ j < 2 ^ 31 ∧ x = nI j) ∨ ∃ j : Nat, j < n ∧ x = nI j := by
  by_cases h : x < 0
  · exact Or.inl h
  · obtain ⟨j, hj, rfl⟩ := nI_of h
    by_cases h2 : j < n
    · exact Or.inr (Or.inr ⟨j, h2, rfl⟩)
    · exact Or.inr (Or.inl ⟨j, by omega, hj, rfl⟩)
end
section
/-! the component's walks over sets of worlds -/
theorem kw_bid {c : Bool} {P : Int32 → Prop} (h : P (kw_b c)) : (kw_b c = 0 → P 0) ∧ (¬ kw_b c = 0 → P 1) := by
  cases c
  · exact ⟨fun _ => h, fun z => absurd kw_b0 z⟩
  · exact ⟨fun z => absurd z (by decide), fun _ => h⟩
def kw_th (t x : Int32) : Bool := decide (¬ x < 0) && decide (x < 16) && bt t x.toNatClampNeg
theorem kw_thN {t : Int32} {w : Nat} (hw : w < 16) : kw_th t (nI w) = bt t w := by
  unfold kw_th
  rw [decide_eq_true (nI_pos (by omega)), decide_eq_true (show nI w < 16 from nI_lt (b := 16) hw (by decide)), nI_clamp (by omega)]
  rfl
theorem kw_th_neg {t x : Int32} (h : x < 0) : kw_th t x = false := by
  unfold kw_th
  rw [decide_eq_false (fun z => z h)]
  rfl
theorem kw_th_big {t : Int32} {j : Nat} (h : 16 ≤ j) (hj : j < 2 ^ 31) : kw_th t (nI j) = false := by
  unfold kw_th
  rw [decide_eq_false (show ¬ nI j < 16 from nI_nlt (b := 16) h hj), Bool.and_false]
  rfl
theorem kw_th_of {t x : Int32} (h : kw_th t x = true) : ∃ w, w < 16 ∧ x = nI w ∧ bt t w = true := by
  rcases kw_ix x 16 (by decide) with hx | ⟨j, hj, hj2, rfl⟩ | ⟨j, hj, rfl⟩
  · rw [kw_th_neg hx] at h; exact absurd h (by decide)
  · rw [kw_th_big hj hj2] at h; exact absurd h (by decide)
  · rw [kw_thN hj] at h; exact ⟨j, hj, rfl, h⟩
def kw_ag (x : Int32) : Bool := decide (¬ x < 0) && decide (x < 3)
theorem kw_ag_of {x : Int32} (h : kw_ag x = true) : ∃ a, a < 3 ∧ x = nI a := by
  unfold kw_ag at h
  rw [Bool.and_eq_true, decide_eq_true_eq, decide_eq_true_eq] at h
  obtain ⟨j, hj, rfl⟩ := nI_of h.1
  exact ⟨j, (nI_ltI (b := 3) hj (by decide)).mp h.2, rfl⟩
theorem xw_in {post : Int32 → Prop} {s : Int32} {w : Nat} (hw : w < 32) (h : post (kw_b (bt s w))) : wpX_in post s (nI w) := by
  unfold wpX_in
  rw [kw_bit s hw]
  cases hb : bt s w
  · rw [hb] at h; exact br_f (by decide) h
  · rw [hb] at h; exact br_t rfl h
theorem xw_isThere {post : Int32 → Prop} {th hr hh rg : Int32} {so xc kd ar sp en fo ab op ra lk nl : Nat → Int32} {x : Int32} (h : post (kw_b (kw_th th x))) : wpX_isThere post (th, hr, hh, rg, so, xc, kd, ar, sp, en, fo, ab, op, ra, lk, nl) x := by
  rcases kw_ix x 16 (by decide) with hx | ⟨j, hj, hj2, rfl⟩ | ⟨j, hj, rfl⟩
  · rw [kw_th_neg hx] at h; exact br_t hx h
  · rw [kw_th_big hj hj2] at h; exact br_f (nI_pos hj2) (br_t (nI_le (a := 16) hj hj2) h)
  · rw [kw_thN hj] at h; exact br_f (nI_pos (by omega)) (br_f (kw_n16 hj) (xw_in (by omega) (kw_bid h)))
theorem xw_isAgent {post : Int32 → Prop} {x : Int32} (h : post (kw_b (kw_ag x))) : wpX_isAgent post x := by
  by_cases h0 : x < 0
  · have e : kw_ag x = false := by unfold kw_ag; rw [decide_eq_false (fun z => z h0)]; rfl
    rw [e] at h; exact br_t h0 h
  · by_cases h3 : (3 : Int32) ≤ x
    · have e : kw_ag x = false := by unfold kw_ag; rw [decide_eq_false (Int32.not_lt.mpr h3), Bool.and_false]
      rw [e] at h; exact br_f h0 (br_t h3 h)
    · have e : kw_ag x = true := by unfold kw_ag; rw [decide_eq_true h0, decide_eq_true (Int32.not_le.mp h3)]; rfl
      rw [e] at h; exact br_f h0 (br_f h3 h)
theorem xw_ones {post : Int32 → Prop} {s : Int32} (h : post (nI (kw_cnt 16 (bt s)))) : wpX_ones post s := by
  refine kw_lp (fun n i x => wX_ones_4 post s n x (nI i)) (fun i => nI (kw_cnt i (bt s))) 16 (fun n => br_t kw_e16 h) ?_
  intro n i hi k
  refine br_f (kw_n16 hi) (fun x ex => nm_r (nI_1 i) (k x ?_))
  rw [ex, kw_bit _ (by omega)]
  exact kw_cntS
theorem xw_withFact {post : Int32 → Prop} {th hr hh rg : Int32} {so xc kd ar sp en fo ab op ra lk nl : Nat → Int32} {p : Nat} (hp : p < 32) (h : post (kw_bs 16 (fun w => bt (so w) p))) : wpX_withFact post (th, hr, hh, rg, so, xc, kd, ar, sp, en, fo, ab, op, ra, lk, nl) (nI p) := by
  refine kw_lp (fun n i x => wX_withFact_4 post (nI p) th hr hh rg so xc kd ar sp en fo ab op ra lk nl n x (nI i)) (fun i => kw_bs i (fun w => bt (so w) p)) 16 (fun n => br_t kw_e16 h) ?_
  intro n i hi k
  refine br_f (kw_n16 hi) ⟨vp_in_nI hi (by decide), fun x ex => nm_r (nI_1 i) (k x ?_)⟩
  rw [ex, nI_clamp (by omega), kw_bit _ hp]
  exact kw_bsO (P := fun w => bt (so w) p) (by omega)
def kx_p1 (xc : Nat → Int32) (a : Nat) (w s : Int32) (v : Nat) : Bool := bt w v && decide (((xc (16 * a + v) &&& w) &&& (s ^^^ (-1))) = 0)
theorem xw_knownToOne {post : Int32 → Prop} {th hr hh rg : Int32} {so xc kd ar sp en fo ab op ra lk nl : Nat → Int32} {a : Nat} {w s : Int32} (ha : a < 3) (h : post (kw_bs 16 (kx_p1 xc a w s))) : wpX_knownToOne post (th, hr, hh, rg, so, xc, kd, ar, sp, en, fo, ab, op, ra, lk, nl) (nI a) w s := by
  refine kw_lp (fun n i x => wX_knownToOne_6 post (nI a) w s th hr hh rg so xc kd ar sp en fo ab op ra lk nl n x (nI i)) (fun i => kw_bs i (kx_p1 xc a w s)) 16 (fun n => br_t kw_e16 h) ?_
  intro n i hi k
  refine br_f (kw_n16 hi) (xw_in (by omega) (kw_bz (fun h0 => nm_r (nI_1 i) (k _ (kw_bsF ?_))) (fun h1 => ⟨kw_ixv ha hi, ?_⟩)))
  · unfold kx_p1; rw [h0]; rfl
  · rw [kw_ixc ha hi]
    refine br_c (fun hz x ex => nm_r (nI_1 i) (k x (ex.trans (kw_bsT ?_)))) (fun hz => nm_r (nI_1 i) (k _ (kw_bsF ?_)))
    · unfold kx_p1; rw [h1, decide_eq_true hz]; rfl
    · unfold kx_p1; rw [h1, decide_eq_false hz]; rfl
def kx_kt (xc : Nat → Int32) (g w s : Int32) : Nat → Int32
  | 0 => w
  | i + 1 => if bt g i = true then kx_kt xc g w s i &&& kw_bs 16 (kx_p1 xc i w s) else kx_kt xc g w s i
theorem kx_ktT {xc : Nat → Int32} {g w s : Int32} {i : Nat} (h : bt g i = true) : kx_kt xc g w s i &&& kw_bs 16 (kx_p1 xc i w s) = kx_kt xc g w s (i + 1) := (if_pos h).symm
theorem kx_ktF {xc : Nat → Int32} {g w s : Int32} {i : Nat} (h : bt g i = false) : kx_kt xc g w s i = kx_kt xc g w s (i + 1) := (if_neg (by rw [h]; decide)).symm
theorem xw_knownTo {post : Int32 → Prop} {th hr hh rg : Int32} {so xc kd ar sp en fo ab op ra lk nl : Nat → Int32} {g w s : Int32} (h : post (kx_kt xc g w s 3)) : wpX_knownTo post (th, hr, hh, rg, so, xc, kd, ar, sp, en, fo, ab, op, ra, lk, nl) g w s := by
  refine kw_lp (fun n i x => wX_knownTo_6 post g w s th hr hh rg so xc kd ar sp en fo ab op ra lk nl n x (nI i)) (kx_kt xc g w s) 3 (fun n => br_t kw_e3 h) ?_
  intro n i hi k
  exact br_f (kw_n3 hi) (xw_in (by omega) (kw_bz (fun h0 => nm_r (nI_1 i) (k _ (kx_ktF h0))) (fun h1 => xw_knownToOne hi (fun x ex => nm_r (nI_1 i) (k x (ex.trans (kx_ktT h1)))))))
def kx_cm (xc : Nat → Int32) (g w s : Int32) : Nat → Int32
  | 0 => w &&& (s ^^^ (-1))
  | i + 1 => kx_cm xc g w s i ||| (w &&& (kx_kt xc g w (w &&& (kx_cm xc g w s i ^^^ (-1))) 3 ^^^ (-1)))
theorem xw_commonTo {post : Int32 → Prop} {th hr hh rg : Int32} {so xc kd ar sp en fo ab op ra lk nl : Nat → Int32} {g w s : Int32} (h : post (w &&& (kx_cm xc g w s 16 ^^^ (-1)))) : wpX_commonTo post (th, hr, hh, rg, so, xc, kd, ar, sp, en, fo, ab, op, ra, lk, nl) g w s := by
  intro x0 e0
  subst e0
  refine kw_lp (fun n i x => wX_commonTo_10 post g w th hr hh rg so xc kd ar sp en fo ab op ra lk nl n x (nI i)) (kx_cm xc g w s) 16 (fun n => br_t kw_e16 h) ?_
  intro n i hi k
  exact br_f (kw_n16 hi) (xw_knownTo (fun x ex => nm_r (nI_1 i) (k x ex)))
def kx_s1 (xc : Nat → Int32) (g w : Int32) (v : Nat) : Nat → Int32
  | 0 => w
  | i + 1 => kx_s1 xc g w v i &&& (if bt g i = true then xc (16 * i + v) else 65535)
theorem kx_s1T {xc : Nat → Int32} {g w : Int32} {v i : Nat} (h : bt g i = true) : kx_s1 xc g w v i &&& xc (16 * i + v) = kx_s1 xc g w v (i + 1) := by
  show _ = kx_s1 xc g w v i &&& (if bt g i = true then xc (16 * i + v) else 65535)
  rw [if_pos h]
theorem kx_s1F {xc : Nat → Int32} {g w : Int32} {v i : Nat} (h : bt g i = false) : kx_s1 xc g w v i &&& 65535 = kx_s1 xc g w v (i + 1) := by
  show _ = kx_s1 xc g w v i &&& (if bt g i = true then xc (16 * i + v) else 65535)
  rw [if_neg (by rw [h]; decide)]
def kx_sp (xc : Nat → Int32) (g w s : Int32) (v : Nat) : Bool := bt w v && decide ((kx_s1 xc g w v 3 &&& (s ^^^ (-1))) = 0)
theorem xw_sharedBy {post : Int32 → Prop} {th hr hh rg : Int32} {so xc kd ar sp en fo ab op ra lk nl : Nat → Int32} {g w s : Int32} (h : post (kw_bs 16 (kx_sp xc g w s))) : wpX_sharedBy post (th, hr, hh, rg, so, xc, kd, ar, sp, en, fo, ab, op, ra, lk, nl) g w s := by
  refine kw_lp (fun n i x => wX_sharedBy_6 post g w s th hr hh rg so xc kd ar sp en fo ab op ra lk nl n x (nI i)) (fun i => kw_bs i (kx_sp xc g w s)) 16 (fun n => br_t kw_e16 h) ?_
  intro n i hi k
  refine br_f (kw_n16 hi) ?_
  refine kw_lp (fun m j y => wX_sharedBy_19 post (wX_sharedBy_6 post g w s th hr hh rg so xc kd ar sp en fo ab op ra lk nl n) g w s (kw_bs i (kx_sp xc g w s)) (nI i) th hr hh rg so xc kd ar sp en fo ab op ra lk nl m y (nI j)) (kx_s1 xc g w i) 3 ?_ ?_
  · intro m
    refine br_t kw_e3 (xw_in (by omega) (kw_bz (fun h0 => nm_r (nI_1 i) (k _ (kw_bsF ?_))) (fun h1 => br_c (fun hz x ex => nm_r (nI_1 i) (k x (ex.trans (kw_bsT ?_)))) (fun hz => nm_r (nI_1 i) (k _ (kw_bsF ?_))))))
    · unfold kx_sp; rw [h0]; rfl
    · unfold kx_sp; rw [h1, decide_eq_true hz]; rfl
    · unfold kx_sp; rw [h1, decide_eq_false hz]; rfl
  · intro m j hj kk
    refine br_f (kw_n3 hj) (xw_in (by omega) (kw_bz (fun h0 x ex => nm_r (nI_1 j) (kk x (ex.trans (kx_s1F h0)))) (fun h1 => ⟨kw_ixv hj hi, ?_⟩)))
    rw [kw_ixc hj hi]
    exact fun x ex => nm_r (nI_1 j) (kk x (ex.trans (kx_s1T h1)))
def kw_tk (k : Nat) : Nat := if k = 0 then 0 else if k = 2 ∨ k = 3 ∨ k = 4 ∨ k = 9 then 2 else 1
theorem kw_10 {k : Nat} (h : k ≤ 9) : k = 0 ∨ k = 1 ∨ k = 2 ∨ k = 3 ∨ k = 4 ∨ k = 5 ∨ k = 6 ∨ k = 7 ∨ k = 8 ∨ k = 9 := by omega
theorem xw_taken {post : Int32 → Prop} {k : Nat} (hk : k ≤ 9) (h : post (nI (kw_tk k))) : wpX_taken post (nI k) := by
  rcases kw_10 hk with rfl | rfl | rfl | rfl | rfl | rfl | rfl | rfl | rfl | rfl
  · exact br_t (by decide) h
  · exact br_f (by decide) (br_f (by decide) (br_f (by decide) (br_f (by decide) (br_f (by decide) h))))
  · exact br_f (by decide) (br_t (by decide) h)
  · exact br_f (by decide) (br_f (by decide) (br_t (by decide) h))
  · exact br_f (by decide) (br_f (by decide) (br_f (by decide) (br_t (by decide) h)))
  · exact br_f (by decide) (br_f (by decide) (br_f (by decide) (br_f (by decide) (br_f (by decide) h))))
  · exact br_f (by decide) (br_f (by decide) (br_f (by decide) (br_f (by decide) (br_f (by decide) h))))
  · exact br_f (by decide) (br_f (by decide) (br_f (by decide) (br_f (by decide) (br_f (by decide) h))))
  · exact br_f (by decide) (br_f (by decide) (br_f (by decide) (br_f (by decide) (br_f (by decide) h))))
  · exact br_f (by decide) (br_f (by decide) (br_f (by decide) (br_f (by decide) (br_t (by decide) h))))
def kx_H (so xc : Nat → Int32) (k : Nat) (a w f g : Int32) : Int32 := match k with
  | 0 => w &&& kw_bs 16 (fun v => bt (so v) a.toNatClampNeg)
  | 1 => w &&& (f ^^^ (-1))
  | 2 => f &&& g
  | 3 => f ||| g
  | 4 => w &&& ((f ^^^ g) ^^^ (-1))
  | 5 => kx_kt xc ((1 : Int32) <<< (a &&& 31)) w f 3
  | 6 => kx_kt xc a w f 3
  | 7 => w &&& (kx_cm xc a w f 16 ^^^ (-1))
  | 8 => kw_bs 16 (kx_sp xc a w f)
  | _ => w &&& ((f ^^^ (-1)) ||| g)
theorem xw_h55 {post : Int32 → Prop} {th hr hh rg : Int32} {so xc kd ar sp en fo ab op ra lk nl : Nat → Int32} {t k : Nat} {w f g : Int32} (ht : t < 144) (hk : k ≤ 9) (ek : kd t = nI k) (ha : k = 0 → ∃ α, α < 32 ∧ ar t = nI α) (h : post (kx_H so xc k (ar t) w f g)) : wX_holdersOf_55 post (nI t) w g f th hr hh rg so xc kd ar sp en fo ab op ra lk nl := by
  unfold wX_holdersOf_55
  refine ⟨vp_in_nI ht (by decide), ?_⟩
  rw [nI_clamp (by omega), ek]
  intro k7 e7
  subst e7
  rcases kw_10 hk with rfl | rfl | rfl | rfl | rfl | rfl | rfl | rfl | rfl | rfl
  · obtain ⟨α, hα, ea⟩ := ha rfl
    refine br_f (by decide) (br_f (by decide) (br_t (by decide) ⟨vp_in_nI ht (by decide), ?_⟩))
    have h' : post (w &&& kw_bs 16 (fun v => bt (so v) (ar t).toNatClampNeg)) := h
    rw [ea, nI_clamp (by omega)] at h'
    rw [ea]
    exact xw_withFact hα h'
  · exact br_f (by decide) (br_f (by decide) (br_f (by decide) (br_t (by decide) h)))
  · exact br_f (by decide) (br_f (by decide) (br_f (by decide) (br_f (by decide) (br_t (by decide) h))))
  · exact br_f (by decide) (br_f (by decide) (br_f (by decide) (br_f (by decide) (br_f (by decide) (br_t (by decide) h)))))
  · exact br_f (by decide) (br_f (by decide) (br_f (by decide) (br_f (by decide) (br_f (by decide) (br_f (by decide) (br_t (by decide) h))))))
  · exact br_f (by decide) (br_f (by decide) (br_f (by decide) (br_f (by decide) (br_f (by decide) (br_f (by decide) (br_f (by decide) (br_t (by decide) ⟨vp_in_nI ht (by decide), xw_knownTo h⟩)))))))
  · exact br_f (by decide) (br_f (by decide) (br_f (by decide) (br_f (by decide) (br_f (by decide) (br_f (by decide) (br_f (by decide) (br_f (by decide) (br_t (by decide) ⟨vp_in_nI ht (by decide), xw_knownTo h⟩))))))))
  · exact br_f (by decide) (br_f (by decide) (br_f (by decide) (br_f (by decide) (br_f (by decide) (br_f (by decide) (br_f (by decide) (br_f (by decide) (br_f (by decide) (br_t (by decide) ⟨vp_in_nI ht (by decide), xw_commonTo h⟩)))))))))
  · exact br_f (by decide) (br_f (by decide) (br_f (by decide) (br_f (by decide) (br_f (by decide) (br_f (by decide) (br_f (by decide) (br_f (by decide) (br_f (by decide) (br_f (by decide) (br_t (by decide) ⟨vp_in_nI ht (by decide), xw_sharedBy h⟩))))))))))
  · exact br_f (by decide) (br_t (by decide) h)
theorem xw_h0 {post : Int32 → Prop} {th hr hh rg : Int32} {so xc kd ar sp en fo ab op ra lk nl : Nat → Int32} {t : Nat} {w : Int32} (ht : t < 144) (ek : kd t = nI 0) (ha : ∃ α, α < 32 ∧ ar t = nI α) (h : post (kx_H so xc 0 (ar t) w 0 0)) : wpX_holdersOf post (th, hr, hh, rg, so, xc, kd, ar, sp, en, fo, ab, op, ra, lk, nl) (nI t) w := by
  refine And.intro (vp_in_nI ht (by decide)) ?_
  rw [nI_clamp (by omega), ek]
  exact xw_taken (by omega) (br_t (by decide) (br_f (by decide) (xw_h55 ht (by omega) ek (fun _ => ha) h)))
theorem xw_h1 {post : Int32 → Prop} {th hr hh rg : Int32} {so xc kd ar sp en fo ab op ra lk nl : Nat → Int32} {t k : Nat} {w : Int32} (ht : t < 144) (h1 : 1 ≤ t) (hk : k ≤ 9) (ek : kd t = nI k) (hT : kw_tk k = 1) (h : post (kx_H so xc k (ar t) w (fo (t - 1)) (fo (t - 1)))) : wpX_holdersOf post (th, hr, hh, rg, so, xc, kd, ar, sp, en, fo, ab, op, ra, lk, nl) (nI t) w := by
  refine And.intro (vp_in_nI ht (by decide)) ?_
  rw [nI_clamp (by omega), ek]
  refine xw_taken hk ?_
  rw [hT]
  have e : nI t - 1 = nI (t - 1) := pk_sub (b := 1) h1
  have ht1 : t - 1 < 144 := by omega
  rw [e]
  refine br_f (by decide) ⟨vp_in_nI ht1 (by decide), br_f (by decide) ?_⟩
  rw [nI_clamp (by omega)]
  exact xw_h55 ht hk ek (fun z => by subst z; exact absurd hT (by decide)) h
theorem xw_h2 {post : Int32 → Prop} {th hr hh rg : Int32} {so xc kd ar sp en fo ab op ra lk nl : Nat → Int32} {t k S : Nat} {w : Int32} (ht : t < 144) (h1 : S + 1 ≤ t) (hk : k ≤ 9) (ek : kd t = nI k) (hT : kw_tk k = 2) (hS : sp (t - 1) = nI S) (h : post (kx_H so xc k (ar t) w (fo (t - 1 - S)) (fo (t - 1)))) : wpX_holdersOf post (th, hr, hh, rg, so, xc, kd, ar, sp, en, fo, ab, op, ra, lk, nl) (nI t) w := by
  refine And.intro (vp_in_nI ht (by decide)) ?_
  rw [nI_clamp (by omega), ek]
  refine xw_taken hk ?_
  rw [hT]
  have e : nI t - 1 = nI (t - 1) := pk_sub (b := 1) (by omega)
  have ht1 : t - 1 < 144 := by omega
  have ht2 : t - 1 - S < 144 := by omega
  rw [e]
  refine br_f (by decide) ⟨vp_in_nI ht1 (by decide), br_t (by decide) ?_⟩
  rw [e, nI_clamp (by omega), hS, pk_sub (by omega), nI_clamp (by omega)]
  refine ⟨vp_in_nI ht1 (by decide), vp_in_nI ht2 (by decide), ?_⟩
  exact xw_h55 ht hk ek (fun z => by subst z; exact absurd hT (by decide)) h
end
section
/-! the reference's walks over sets of worlds -/
theorem kw_bnot {c : Bool} {P : Int32 → Prop} (h : P (kw_b (!c))) : (kw_b c = 0 → P 1) ∧ (¬ kw_b c = 0 → P 0) := by
  cases c
  · exact ⟨fun _ => h, fun z => absurd kw_b0 z⟩
  · exact ⟨fun z => absurd z (by decide), fun _ => h⟩
theorem yw_in {post : Int32 → Prop} {tt tr tg : Int32} {fa yc sz ks ag fi tk ia ho ro di : Nat → Int32} {s : Int32} {w : Nat} (hw : w < 32) (h : post (kw_b (bt s w))) : wpY_in post (tt, tr, tg, fa, yc, sz, ks, ag, fi, tk, ia, ho, ro, di) s (nI w) := xw_in (post := post) hw h
theorem yw_isThere {post : Int32 → Prop} {tt tr tg : Int32} {fa yc sz ks ag fi tk ia ho ro di : Nat → Int32} {x : Int32} (h : post (kw_b (kw_th tt x))) : wpY_isThere post (tt, tr, tg, fa, yc, sz, ks, ag, fi, tk, ia, ho, ro, di) x := by
  rcases kw_ix x 16 (by decide) with hx | ⟨j, hj, hj2, rfl⟩ | ⟨j, hj, rfl⟩
  · rw [kw_th_neg hx] at h; exact br_t hx h
  · rw [kw_th_big hj hj2] at h; exact br_f (nI_pos hj2) (br_t (nI_lt (a := 15) (by omega) hj2) h)
  · rw [kw_thN hj] at h; exact br_f (nI_pos (by omega)) (br_f (nI_nlt (a := 15) (b := j) (by omega) (by decide)) (yw_in (by omega) (kw_bid h)))
theorem yw_isThereN {post : Int32 → Prop} {tt tr tg : Int32} {fa yc sz ks ag fi tk ia ho ro di : Nat → Int32} {w : Nat} (hw : w < 16) (h : post (kw_b (bt tt w))) : wpY_isThere post (tt, tr, tg, fa, yc, sz, ks, ag, fi, tk, ia, ho, ro, di) (nI w) := yw_isThere (by rw [kw_thN hw]; exact h)
theorem yw_isAgent {post : Int32 → Prop} {tt tr tg : Int32} {fa yc sz ks ag fi tk ia ho ro di : Nat → Int32} {x : Int32} (h : post (kw_b (kw_ag x))) : wpY_isAgent post (tt, tr, tg, fa, yc, sz, ks, ag, fi, tk, ia, ho, ro, di) x := by
  by_cases h0 : x < 0
  · have e : kw_ag x = false := by unfold kw_ag; rw [decide_eq_false (fun z => z h0)]; rfl
    rw [e] at h; exact br_t h0 h
  · obtain ⟨j, hj, rfl⟩ := nI_of h0
    by_cases h3 : 3 ≤ j
    · have e : kw_ag (nI j) = false := by unfold kw_ag; rw [decide_eq_false (show ¬ nI j < 3 from nI_nlt (b := 3) h3 hj), Bool.and_false]
      rw [e] at h; exact br_f h0 (br_t (nI_lt (a := 2) (by omega) hj) h)
    · have e : kw_ag (nI j) = true := by unfold kw_ag; rw [decide_eq_true h0, decide_eq_true (show nI j < 3 from nI_lt (b := 3) (by omega) (by decide))]; rfl
      rw [e] at h; exact br_f h0 (br_f (nI_nlt (a := 2) (b := j) (by omega) (by decide)) h)
theorem yw_count {post : Int32 → Prop} {tt tr tg : Int32} {fa yc sz ks ag fi tk ia ho ro di : Nat → Int32} {s : Int32} (h : post (nI (kw_cnt 16 (bt s)))) : wpY_count post (tt, tr, tg, fa, yc, sz, ks, ag, fi, tk, ia, ho, ro, di) s := by
  refine kw_lp (fun n i x => wY_count_4 post s tt tr tg fa yc sz ks ag fi tk ia ho ro di n x (nI i)) (fun i => nI (kw_cnt i (bt s))) 16 (fun n => br_t kw_e16 h) ?_
  intro n i hi k
  refine br_f (kw_n16 hi) (fun x ex => nm_r (nI_1 i) (k x ?_))
  rw [ex, kw_bit _ (by omega)]
  exact kw_cntS
def ky_s (yc : Nat → Int32) (a w v : Nat) : Bool := decide (yc (16 * a + w) = yc (16 * a + v))
theorem yw_same {post : Int32 → Prop} {tt tr tg : Int32} {fa yc sz ks ag fi tk ia ho ro di : Nat → Int32} {a w v : Nat} (ha : a < 3) (hw : w < 16) (hv : v < 16) (h : post (kw_b (ky_s yc a w v))) : wpY_same post (tt, tr, tg, fa, yc, sz, ks, ag, fi, tk, ia, ho, ro, di) (nI a) (nI w) (nI v) := by
  refine And.intro (kw_ixv ha hw) (And.intro (kw_ixv ha hv) ?_)
  rw [kw_ixc ha hw, kw_ixc ha hv]
  exact kw_bd h
def ky_cn (yc : Nat → Int32) (g : Int32) (w v : Nat) (sm : Bool) : Bool := if sm = true then kw_an 3 (fun a => ky_s yc a w v && bt g a) else kw_al 3 (fun a => ky_s yc a w v || !bt g a)
def ky_nx (yc : Nat → Int32) (st : Int32) (w : Nat) (g : Int32) (sm : Bool) : Int32 := kw_bs 16 (fun v => bt st v && ky_cn yc g w v sm)
theorem yw_next64 {post : Int32 → Prop} {J6 : Int32 → Int32 → Prop} {J22 : Int32 → Int32 → Int32 → Prop} {tt tr tg : Int32} {fa yc sz ks ag fi tk ia ho ro di : Nat → Int32} {x1 x2 x4 x5 x6 z0 g : Int32} {a : Nat} {O s : Bool} (ha : a < 3) (h : J22 z0 (kw_b (O || (s && bt g a))) (nI (a + 1))) : wY_next_64 post J6 J22 x1 x2 g x4 x5 x6 (kw_b O) (nI a) (kw_b s) z0 tt tr tg fa yc sz ks ag fi tk ia ho ro di := by
  unfold wY_next_64
  refine kw_bz (fun hO => kw_bz (fun hs => nm_r (nI_1 a) ?_) (fun hs => yw_in (by omega) (kw_bz (fun hg => nm_r (nI_1 a) ?_) (fun hg => nm_r (nI_1 a) ?_)))) (fun hO => nm_r (nI_1 a) ?_)
  · rw [hO, hs] at h; exact h
  · rw [hO, hs, hg] at h; exact h
  · rw [hO, hs, hg] at h; exact h
  · rw [hO] at h; exact h
theorem yw_next22 {post : Int32 → Prop} {J6 : Int32 → Int32 → Prop} {tt tr tg : Int32} {fa yc sz ks ag fi tk ia ho ro di : Nat → Int32} {st g x5 : Int32} {w v : Nat} {sm : Bool} (hw : w < 16) (hv : v < 16) (h : ∀ y, y = (if (bt st v && ky_cn yc g w v sm) = true then x5 ||| ((1 : Int32) <<< (nI v &&& 31)) else x5) → J6 y (nI (v + 1))) : ∃ m, wY_next_22 post J6 st (nI w) g (kw_b sm) x5 (nI v) tt tr tg fa yc sz ks ag fi tk ia ho ro di m 1 0 0 := by
  refine kw_lp (fun m i (s : Int32 × Int32) => wY_next_22 post J6 st (nI w) g (kw_b sm) x5 (nI v) tt tr tg fa yc sz ks ag fi tk ia ho ro di m s.1 s.2 (nI i)) (fun i => (kw_b (kw_al i (fun a => ky_s yc a w v || !bt g a)), kw_b (kw_an i (fun a => ky_s yc a w v && bt g a)))) 3 ?_ ?_
  · intro m
    refine br_t kw_e3 (yw_in (by omega) (kw_bz (fun h0 => nm_r (nI_1 v) (h _ ?_)) (fun h1 => kw_bz (fun hs => kw_bz (fun hA => nm_r (nI_1 v) (h _ ?_)) (fun hA y ey => nm_r (nI_1 v) (h y (ey.trans ?_)))) (fun hs => kw_bz (fun hO => nm_r (nI_1 v) (h _ ?_)) (fun hO y ey => nm_r (nI_1 v) (h y (ey.trans ?_)))))))
    · rw [h0, Bool.false_and, if_neg (by decide)]
    · have e : ky_cn yc g w v sm = false := by rw [hs]; exact hA
      rw [e, Bool.and_false, if_neg (by decide)]
    · have e : ky_cn yc g w v sm = true := by rw [hs]; exact hA
      rw [e, h1, Bool.and_true, if_pos rfl]
    · have e : ky_cn yc g w v sm = false := by rw [hs]; exact hO
      rw [e, Bool.and_false, if_neg (by decide)]
    · have e : ky_cn yc g w v sm = true := by rw [hs]; exact hO
      rw [e, h1, Bool.and_true, if_pos rfl]
  · intro m i hi k
    refine br_f (kw_n3 hi) (yw_same hi hw hv (kw_bz (fun hA => yw_next64 hi (k (0, _) (Prod.ext ?_ rfl))) (fun hA => kw_bz (fun hs => yw_in (by omega) (kw_bz (fun hg => ?_) (fun hg => ?_))) (fun hs => ?_))))
    · show 0 = kw_b (kw_al i (fun a => ky_s yc a w v || !bt g a) && (ky_s yc i w v || !bt g i))
      rw [hA]; rfl
    · refine yw_next64 hi (k (1, _) (Prod.ext ?_ rfl))
      show 1 = kw_b (kw_al i (fun a => ky_s yc a w v || !bt g a) && (ky_s yc i w v || !bt g i))
      rw [hA, hs, hg]; rfl
    · refine yw_next64 hi (k (0, _) (Prod.ext ?_ rfl))
      show 0 = kw_b (kw_al i (fun a => ky_s yc a w v || !bt g a) && (ky_s yc i w v || !bt g i))
      rw [hA, hs, hg]; rfl
    · refine yw_next64 hi (k (1, _) (Prod.ext ?_ rfl))
      show 1 = kw_b (kw_al i (fun a => ky_s yc a w v || !bt g a) && (ky_s yc i w v || !bt g i))
      rw [hA, hs]; rfl
theorem yw_next {post : Int32 → Prop} {tt tr tg : Int32} {fa yc sz ks ag fi tk ia ho ro di : Nat → Int32} {st g : Int32} {w : Nat} (sm : Bool) (hw : w < 16) (h : post (ky_nx yc st w g sm)) : wpY_next post (tt, tr, tg, fa, yc, sz, ks, ag, fi, tk, ia, ho, ro, di) st (nI w) g (kw_b sm) := by
  refine kw_lp (fun n i x => wY_next_6 post st (nI w) g (kw_b sm) tt tr tg fa yc sz ks ag fi tk ia ho ro di n x (nI i)) (fun i => kw_bs i (fun v => bt st v && ky_cn yc g w v sm)) 16 (fun n => br_t kw_e16 h) ?_
  intro n i hi k
  exact br_f (kw_n16 hi) (yw_next22 hw hi (fun y ey => k y (ey.trans (kw_bsC rfl))))
def ky_rc (yc : Nat → Int32) (st : Int32) (w : Nat) (g : Int32) : Nat → Int32
  | 0 => (1 : Int32) <<< (nI w &&& 31)
  | t + 1 => if bt (ky_rc yc st w g t) (t % 16) = true then ky_rc yc st w g t ||| ky_nx yc st (t % 16) g true else ky_rc yc st w g t
theorem ky_rcT {yc : Nat → Int32} {st g : Int32} {w t : Nat} (h : bt (ky_rc yc st w g t) (t % 16) = true) : ky_rc yc st w g t ||| ky_nx yc st (t % 16) g true = ky_rc yc st w g (t + 1) := (if_pos h).symm
theorem ky_rcF {yc : Nat → Int32} {st g : Int32} {w t : Nat} (h : bt (ky_rc yc st w g t) (t % 16) = false) : ky_rc yc st w g t = ky_rc yc st w g (t + 1) := (if_neg (by rw [h]; decide)).symm
theorem yw_reached {post : Int32 → Prop} {tt tr tg : Int32} {fa yc sz ks ag fi tk ia ho ro di : Nat → Int32} {st g : Int32} {w : Nat} (h : post (ky_rc yc st w g 256)) : wpY_reached post (tt, tr, tg, fa, yc, sz, ks, ag, fi, tk, ia, ho, ro, di) st (nI w) g := by
  intro x0 e0
  subst e0
  refine kw_lp (fun n i x => wY_reached_8 post st g tt tr tg fa yc sz ks ag fi tk ia ho ro di n x (nI i)) (ky_rc yc st w g) 256 (fun n => br_t kw_e256 h) ?_
  intro n i hi k
  refine br_f (kw_n256 hi) ⟨by decide, ?_⟩
  have e : nI i - nI i / 16 * 16 = nI (i % 16) := pk_rem (d := 16) (by omega) (by decide) (by decide)
  rw [e]
  refine nm_e ?_
  have h16 : i % 16 < 16 := Nat.mod_lt _ (by decide)
  exact yw_in (by omega) (kw_bz (fun h0 => nm_r (nI_1 i) (k _ (ky_rcF h0))) (fun h1 => yw_next true h16 (fun x ex => nm_r (nI_1 i) (k x (ex.trans (ky_rcT h1))))))
def ky_in (fa yc : Nat → Int32) (k : Nat) (a st f g : Int32) (v : Nat) : Bool := match k with
  | 0 => bt (fa v) a.toNatClampNeg
  | 1 => !bt f v
  | 2 => bt f v && bt g v
  | 3 => bt f v || bt g v
  | 4 => bt f v == bt g v
  | 5 => decide ((ky_nx yc st v ((1 : Int32) <<< (a &&& 31)) false &&& (f ^^^ (-1))) = 0)
  | 6 => decide ((ky_nx yc st v a true &&& (f ^^^ (-1))) = 0)
  | 7 => decide ((ky_rc yc st v a 256 &&& (f ^^^ (-1))) = 0)
  | 8 => decide ((ky_nx yc st v a false &&& (f ^^^ (-1))) = 0)
  | _ => !bt f v || bt g v
theorem yw_s74 {post : Int32 → Prop} {tt tr tg : Int32} {fa yc sz ks ag fi tk ia ho ro di : Nat → Int32} {f x : Int32} (h : post (kw_b (decide ((x &&& (f ^^^ (-1))) = 0)))) : wY_seesOnly_74 (fun r => narrow .boolean (.int r) = .int r ∧ post r) f x tt tr tg fa yc sz ks ag fi tk ia ho ro di := by
  unfold wY_seesOnly_74
  exact kw_bd (A := fun r => narrow .boolean (.int r) = .int r ∧ post r) ⟨kw_bn _, h⟩
theorem yw_isIn {post : Int32 → Prop} {tt tr tg : Int32} {fa yc sz ks ag fi tk ia ho ro di : Nat → Int32} {k v : Nat} {a st f g : Int32} (hk : k ≤ 9) (hv : v < 16) (ha : k = 0 → ∃ α, α < 32 ∧ a = nI α) (h : post (kw_b (ky_in fa yc k a st f g v))) : wpY_isIn post (tt, tr, tg, fa, yc, sz, ks, ag, fi, tk, ia, ho, ro, di) (nI k) a st (nI v) f g := by
  rcases kw_10 hk with rfl | rfl | rfl | rfl | rfl | rfl | rfl | rfl | rfl | rfl
  · obtain ⟨α, hα, ea⟩ := ha rfl
    subst ea
    refine br_f (by decide) (br_f (by decide) (br_t (by decide) ⟨vp_in_nI hv (by decide), yw_in hα ⟨kw_bn _, ?_⟩⟩))
    have h' : post (kw_b (bt (fa v) (nI α).toNatClampNeg)) := h
    rw [nI_clamp (by omega)] at h' ⊢
    exact h'
  · have h' : post (kw_b (!bt f v)) := h
    exact br_f (by decide) (br_f (by decide) (br_f (by decide) (br_t (by decide) (yw_in (by omega) (kw_bnot h')))))
  · have h' : post (kw_b (bt f v && bt g v)) := h
    refine br_f (by decide) (br_f (by decide) (br_f (by decide) (br_f (by decide) (br_t (by decide) (yw_in (by omega) (kw_bz (fun e => ?_) (fun e => yw_in (by omega) (kw_bid ?_))))))))
    · rw [e] at h'; exact h'
    · rw [e] at h'; exact h'
  · have h' : post (kw_b (bt f v || bt g v)) := h
    refine br_f (by decide) (br_f (by decide) (br_f (by decide) (br_f (by decide) (br_f (by decide) (br_t (by decide) (yw_in (by omega) (kw_bz (fun e => yw_in (by omega) (kw_bid ?_)) (fun e => ?_))))))))
    · rw [e] at h'; exact h'
    · rw [e] at h'; exact h'
  · have h' : post (kw_b (bt f v == bt g v)) := h
    refine br_f (by decide) (br_f (by decide) (br_f (by decide) (br_f (by decide) (br_f (by decide) (br_f (by decide) (br_t (by decide) (yw_in (by omega) (yw_in (by omega) (kw_beq (fun e => ?_) (fun e => ?_))))))))))
    · rw [beq_iff_eq.mpr e] at h'; exact h'
    · rw [beq_eq_false_iff_ne.mpr e] at h'; exact h'
  · refine br_f (by decide) (br_f (by decide) (br_f (by decide) (br_f (by decide) (br_f (by decide) (br_f (by decide) (br_f (by decide) (br_t (by decide) ?_)))))))
    unfold wY_isIn_195
    exact br_t (by decide) (yw_next false hv (yw_s74 h))
  · refine br_f (by decide) (br_f (by decide) (br_f (by decide) (br_f (by decide) (br_f (by decide) (br_f (by decide) (br_f (by decide) (br_f (by decide) (br_t (by decide) ?_))))))))
    unfold wY_isIn_195
    exact br_f (by decide) (br_t (by decide) (yw_next true hv (yw_s74 h)))
  · refine br_f (by decide) (br_f (by decide) (br_f (by decide) (br_f (by decide) (br_f (by decide) (br_f (by decide) (br_f (by decide) (br_f (by decide) (br_f (by decide) (br_t (by decide) ?_)))))))))
    unfold wY_isIn_195
    exact br_f (by decide) (br_f (by decide) (br_t (by decide) (yw_reached (yw_s74 h))))
  · refine br_f (by decide) (br_f (by decide) (br_f (by decide) (br_f (by decide) (br_f (by decide) (br_f (by decide) (br_f (by decide) (br_f (by decide) (br_f (by decide) (br_f (by decide) (br_t (by decide) ?_))))))))))
    unfold wY_isIn_195
    exact br_f (by decide) (br_f (by decide) (br_f (by decide) (yw_next false hv (yw_s74 h))))
  · have h' : post (kw_b (!bt f v || bt g v)) := h
    refine br_f (by decide) (br_f (by decide) (br_f (by decide) (br_f (by decide) (br_f (by decide) (br_f (by decide) (br_f (by decide) (br_f (by decide) (br_f (by decide) (br_f (by decide) (br_f (by decide) (br_t (by decide) (yw_in (by omega) (kw_bz (fun e => ?_) (fun e => yw_in (by omega) (kw_bid ?_)))))))))))))))
    · rw [e] at h'; exact h'
    · rw [e] at h'; exact h'
end
section
/-! what both sides' sets of worlds say: plain laws -/
def kr_C (th : Int32) (xc yc : Nat → Int32) : Prop := ∀ a, a < 3 → ∀ w, w < 16 → bt th w = true → ∀ v, bt (xc (16 * a + w)) v = (bt th v && ky_s yc a w v)
def kr_T (th : Int32) : Prop := ∀ v, 16 ≤ v → bt th v = false
def kr_S (w th : Int32) : Prop := ∀ v, bt w v = true → bt th v = true
theorem kp_16 {w th : Int32} (hT : kr_T th) (hw : kr_S w th) {v : Nat} (h : bt w v = true) : v < 16 := by
  refine Classical.byContradiction fun z => ?_
  have := hT v (by omega)
  rw [hw v h] at this
  exact absurd this (by decide)
theorem kp_sub {X f : Int32} : (X &&& (f ^^^ (-1))) = 0 ↔ ∀ x, x < 32 → bt X x = true → bt f x = true := by
  rw [kw_nz]
  constructor
  · intro h x hx h1
    have := h x hx
    rw [b_and, kw_not hx, h1] at this
    cases hf : bt f x
    · rw [hf] at this; exact absurd this (by decide)
    · rfl
  · intro h x hx
    rw [b_and, kw_not hx]
    cases h1 : bt X x
    · rfl
    · rw [h x hx h1]; rfl
theorem kp_beq {a b : Bool} (h : a = true ↔ b = true) : a = b := by
  cases a <;> cases b
  · rfl
  · exact absurd (h.mpr rfl) (by decide)
  · exact absurd (h.mp rfl) (by decide)
  · rfl
theorem kp_eqw {x w : Int32} {P : Nat → Bool} (h16 : ∀ v, bt w v = true → v < 16) (h : ∀ i, i < 32 → bt x i = (bt w i && P i)) : x = kw_bs 16 (fun v => bt w v && P v) := by
  refine kw_eqbs fun i hi => ?_
  rw [h i hi]
  cases hw : bt w i
  · rw [Bool.false_and, Bool.and_false]
  · rw [decide_eq_true (h16 i hw)]; rfl
theorem kp_one {th : Int32} {xc yc : Nat → Int32} (hC : kr_C th xc yc) {w f : Int32} (hT : kr_T th) (hw : kr_S w th) {i v : Nat} (hi : i < 3) (hv : bt w v = true) : ((xc (16 * i + v) &&& w) &&& (f ^^^ (-1))) = 0 ↔ ∀ x, x < 16 → bt w x = true → ky_s yc i v x = true → bt f x = true := by
  have hv16 := kp_16 hT hw hv
  rw [kp_sub]
  constructor
  · intro h x hx h1 h2
    refine h x (by omega) ?_
    rw [b_and, hC i hi v hv16 (hw v hv) x, h1, h2, hw x h1]
    rfl
  · intro h x hx h1
    rw [b_and, hC i hi v hv16 (hw v hv) x, Bool.and_eq_true, Bool.and_eq_true] at h1
    exact h x (kp_16 hT hw h1.2) h1.2 h1.1.2
theorem kp_kt {th : Int32} {xc yc : Nat → Int32} (hC : kr_C th xc yc) {g w f : Int32} (hT : kr_T th) (hw : kr_S w th) {n : Nat} (hn : n ≤ 3) (v : Nat) : bt (kx_kt xc g w f n) v = true ↔ bt w v = true ∧ ∀ i, i < n → bt g i = true → ∀ x, x < 16 → bt w x = true → ky_s yc i v x = true → bt f x = true := by
  induction n with
  | zero => exact ⟨fun h => ⟨h, fun i hi => absurd hi (by omega)⟩, fun h => h.1⟩
  | succ n ih =>
    have ih := ih (by omega)
    cases hg : bt g n
    · rw [← kx_ktF hg, ih]
      constructor
      · rintro ⟨h1, h2⟩
        refine ⟨h1, fun i hi h3 => ?_⟩
        rcases Nat.lt_succ_iff_lt_or_eq.mp hi with h4 | h4
        · exact h2 i h4 h3
        · rw [h4, hg] at h3; exact absurd h3 (by decide)
      · rintro ⟨h1, h2⟩
        exact ⟨h1, fun i hi => h2 i (by omega)⟩
    · rw [← kx_ktT hg, b_and, Bool.and_eq_true, ih, kw_bsb (by omega), kx_p1, Bool.and_eq_true, Bool.and_eq_true, decide_eq_true_eq, decide_eq_true_eq]
      constructor
      · rintro ⟨⟨h1, h2⟩, h3, h4, h5⟩
        refine ⟨h1, fun i hi h6 => ?_⟩
        rcases Nat.lt_succ_iff_lt_or_eq.mp hi with h7 | h7
        · exact h2 i h7 h6
        · rw [h7]; exact (kp_one hC hT hw (by omega) h1).mp h5
      · rintro ⟨h1, h2⟩
        exact ⟨⟨h1, fun i hi => h2 i (by omega)⟩, kp_16 hT hw h1, h1, (kp_one hC hT hw (by omega) h1).mpr (h2 n (by omega) hg)⟩
theorem kp_nx {yc : Nat → Int32} {w g f : Int32} {v : Nat} {sm : Bool} : (ky_nx yc w v g sm &&& (f ^^^ (-1))) = 0 ↔ ∀ x, x < 16 → bt w x = true → ky_cn yc g v x sm = true → bt f x = true := by
  rw [kp_sub]
  unfold ky_nx
  constructor
  · intro h x hx h1 h2
    refine h x (by omega) ?_
    rw [kw_bsb (by omega), decide_eq_true hx, h1, h2]
    rfl
  · intro h x hx h1
    rw [kw_bsb (by omega), Bool.and_eq_true, Bool.and_eq_true, decide_eq_true_eq] at h1
    exact h x h1.1 h1.2.1 h1.2.2
theorem kp_cnT {yc : Nat → Int32} {g : Int32} {v x : Nat} : ky_cn yc g v x true = true ↔ ∃ i, i < 3 ∧ ky_s yc i v x = true ∧ bt g i = true := by
  show kw_an 3 (fun a => ky_s yc a v x && bt g a) = true ↔ _
  rw [kw_anI]
  constructor
  · rintro ⟨i, hi, h⟩
    rw [Bool.and_eq_true] at h
    exact ⟨i, hi, h.1, h.2⟩
  · rintro ⟨i, hi, h1, h2⟩
    exact ⟨i, hi, by rw [h1, h2]; rfl⟩
theorem kp_cnF {yc : Nat → Int32} {g : Int32} {v x : Nat} : ky_cn yc g v x false = true ↔ ∀ i, i < 3 → bt g i = true → ky_s yc i v x = true := by
  show kw_al 3 (fun a => ky_s yc a v x || !bt g a) = true ↔ _
  rw [kw_alI]
  constructor
  · intro h i hi h1
    have := h i hi
    rw [h1] at this
    cases h2 : ky_s yc i v x
    · rw [h2] at this; exact absurd this (by decide)
    · rfl
  · intro h i hi
    cases h1 : bt g i
    · show (ky_s yc i v x || true) = true
      exact Bool.or_true _
    · show (ky_s yc i v x || _) = true
      rw [h i hi h1]; rfl
theorem kp_s1 {th : Int32} {xc yc : Nat → Int32} (hC : kr_C th xc yc) {g w : Int32} (hT : kr_T th) (hw : kr_S w th) {n : Nat} (hn : n ≤ 3) {v : Nat} (hv : bt w v = true) (x : Nat) : bt (kx_s1 xc g w v n) x = true ↔ bt w x = true ∧ ∀ i, i < n → bt g i = true → ky_s yc i v x = true := by
  have hv16 := kp_16 hT hw hv
  induction n with
  | zero => exact ⟨fun h => ⟨h, fun i hi => absurd hi (by omega)⟩, fun h => h.1⟩
  | succ n ih =>
    have ih : bt (kx_s1 xc g w v n) x = true ↔ (bt w x = true ∧ ∀ i, i < n → bt g i = true → ky_s yc i v x = true) := ih (by omega)
    cases hg : bt g n
    · rw [← kx_s1F hg, b_and, b_65535, Bool.and_eq_true, ih, decide_eq_true_eq]
      constructor
      · rintro ⟨⟨h1, h2⟩, h3⟩
        refine ⟨h1, fun i hi h3 => ?_⟩
        rcases Nat.lt_succ_iff_lt_or_eq.mp hi with h4 | h4
        · exact h2 i h4 h3
        · rw [h4, hg] at h3; exact absurd h3 (by decide)
      · rintro ⟨h1, h2⟩
        exact ⟨⟨h1, fun i hi => h2 i (by omega)⟩, kp_16 hT hw h1⟩
    · rw [← kx_s1T hg, b_and, Bool.and_eq_true, ih, hC n (by omega) v hv16 (hw v hv) x, Bool.and_eq_true]
      constructor
      · rintro ⟨⟨h1, h2⟩, h3, h4⟩
        refine ⟨h1, fun i hi h6 => ?_⟩
        rcases Nat.lt_succ_iff_lt_or_eq.mp hi with h7 | h7
        · exact h2 i h7 h6
        · rw [h7]; exact h4
      · rintro ⟨h1, h2⟩
        exact ⟨⟨h1, fun i hi => h2 i (by omega)⟩, hw x h1, h2 n (by omega) hg⟩
/-! common knowledge -/
def kp_E (yc : Nat → Int32) (w g : Int32) (y x : Nat) : Prop := bt w x = true ∧ ∃ i, i < 3 ∧ ky_s yc i y x = true ∧ bt g i = true
theorem kp_cm {th : Int32} {xc yc : Nat → Int32} (hC : kr_C th xc yc) {g w f : Int32} (hT : kr_T th) (hw : kr_S w th) (n v : Nat) : bt (kx_cm xc g w f (n + 1)) v = true ↔ bt (kx_cm xc g w f n) v = true ∨ (bt w v = true ∧ ∃ x, x < 16 ∧ kp_E yc w g v x ∧ bt (kx_cm xc g w f n) x = true) := by
  show bt (kx_cm xc g w f n ||| (w &&& (kx_kt xc g w (w &&& (kx_cm xc g w f n ^^^ (-1))) 3 ^^^ (-1)))) v = true ↔ _
  rw [b_or, Bool.or_eq_true, b_and, Bool.and_eq_true]
  refine or_congr Iff.rfl (and_congr_right fun h1 => ?_)
  have hv := kp_16 hT hw h1
  rw [kw_not (by omega)]
  constructor
  · intro h
    have h2 : ¬ bt (kx_kt xc g w (w &&& (kx_cm xc g w f n ^^^ (-1))) 3) v = true := by
      intro z; rw [z] at h; exact absurd h (by decide)
    rw [kp_kt hC hT hw (by omega)] at h2
    refine Classical.byContradiction fun z => h2 ⟨h1, fun i hi hg x hx hwx hs => ?_⟩
    rw [b_and, hwx, kw_not (by omega)]
    cases hA : bt (kx_cm xc g w f n) x
    · rfl
    · exact absurd ⟨x, hx, ⟨hwx, i, hi, hs, hg⟩, hA⟩ z
  · rintro ⟨x, hx, ⟨hwx, i, hi, hs, hg⟩, hA⟩
    cases hk : bt (kx_kt xc g w (w &&& (kx_cm xc g w f n ^^^ (-1))) 3) v
    · rfl
    · have := ((kp_kt hC hT hw (by omega) v).mp hk).2 i hi hg x hx hwx hs
      rw [b_and, kw_not (by omega), hA] at this
      cases hz : bt w x
      · rw [hz] at this; exact absurd this (by decide)
      · rw [hz] at this; exact absurd this (by decide)
theorem kp_cm0 {xc : Nat → Int32} {g w f : Int32} {v : Nat} (hv : v < 32) : bt (kx_cm xc g w f 0) v = (bt w v && !bt f v) := by
  show bt (w &&& (f ^^^ (-1))) v = _
  rw [b_and, kw_not hv]
theorem kp_cmS {th : Int32} {xc yc : Nat → Int32} (hC : kr_C th xc yc) {g w f : Int32} (hT : kr_T th) (hw : kr_S w th) (n : Nat) : ∀ v, bt (kx_cm xc g w f n) v = true → bt w v = true := by
  induction n with
  | zero =>
    intro v h
    have h' : bt (w &&& (f ^^^ (-1))) v = true := h
    rw [b_and, Bool.and_eq_true] at h'
    exact h'.1
  | succ n ih =>
    intro v h
    rcases (kp_cm hC hT hw n v).mp h with h1 | h1
    · exact ih v h1
    · exact h1.1
theorem kp_cmU {xc : Nat → Int32} {g w f : Int32} {n : Nat} (h : kx_cm xc g w f (n + 1) = kx_cm xc g w f n) : ∀ d, kx_cm xc g w f (n + d) = kx_cm xc g w f n := by
  intro d
  induction d with
  | zero => rfl
  | succ d ih =>
    show kx_cm xc g w f (n + d) ||| (w &&& (kx_kt xc g w (w &&& (kx_cm xc g w f (n + d) ^^^ (-1))) 3 ^^^ (-1))) = _
    rw [ih]
    exact h
theorem kp_cm17 {th : Int32} {xc yc : Nat → Int32} (hC : kr_C th xc yc) {g w f : Int32} (hT : kr_T th) (hw : kr_S w th) : kx_cm xc g w f 17 = kx_cm xc g w f 16 := by
  obtain ⟨n, hn, h⟩ := kw_stab (A := fun n => bt (kx_cm xc g w f n)) (N := 17) (c := 0) (fun n v _ h => (kp_cm hC hT hw n v).mpr (Or.inl h)) (Nat.zero_le _) (by omega)
  have e : kx_cm xc g w f (n + 1) = kx_cm xc g w f n := by
    refine b_ext fun i _ => ?_
    rcases Nat.lt_or_ge i 16 with hi | hi
    · exact h i hi
    · have f1 : ∀ m, bt (kx_cm xc g w f m) i = false := by
        intro m
        refine kw_bF.mpr fun z => ?_
        have := kp_16 hT hw (kp_cmS hC hT hw m i z)
        omega
      rw [f1, f1]
  have e1 := kp_cmU e (16 - n)
  have e2 := kp_cmU e (17 - n)
  rw [show n + (16 - n) = 16 by omega] at e1
  rw [show n + (17 - n) = 17 by omega] at e2
  rw [e1, e2]
theorem kp_nxb {yc : Nat → Int32} {w g : Int32} {y x : Nat} : bt (ky_nx yc w y g true) x = true ↔ x < 16 ∧ kp_E yc w g y x := by
  unfold ky_nx
  rw [kw_bsb (by omega), Bool.and_eq_true, Bool.and_eq_true, decide_eq_true_eq, kp_cnT]
  exact Iff.rfl
theorem kp_rcM {yc : Nat → Int32} {w g : Int32} {v : Nat} (t x : Nat) (h : bt (ky_rc yc w v g t) x = true) : bt (ky_rc yc w v g (t + 1)) x = true := by
  cases hb : bt (ky_rc yc w v g t) (t % 16)
  · rw [← ky_rcF hb]; exact h
  · rw [← ky_rcT hb, b_or, h]; rfl
theorem kp_rcM' {yc : Nat → Int32} {w g : Int32} {v : Nat} (t d x : Nat) (h : bt (ky_rc yc w v g t) x = true) : bt (ky_rc yc w v g (t + d)) x = true := by
  induction d with
  | zero => exact h
  | succ d ih => exact kp_rcM (t + d) x ih
/-- what is reached lies in every set that holds the start and is closed -/
theorem kp_rcC {yc : Nat → Int32} {w g : Int32} {v : Nat} (hv : v < 16) {C : Nat → Prop} (h0 : C v) (hs : ∀ y x, y < 16 → C y → x < 16 → kp_E yc w g y x → C x) (t : Nat) : ∀ x, x < 32 → bt (ky_rc yc w v g t) x = true → C x := by
  induction t with
  | zero =>
    intro x hx h
    have h' : bt ((1 : Int32) <<< (nI v &&& 31)) x = true := h
    rw [kw_sh (by omega) hx, decide_eq_true_eq] at h'
    rw [h']; exact h0
  | succ t ih =>
    intro x hx h
    have ht : t % 16 < 16 := Nat.mod_lt _ (by decide)
    cases hb : bt (ky_rc yc w v g t) (t % 16)
    · rw [← ky_rcF hb] at h; exact ih x hx h
    · rw [← ky_rcT hb, b_or, Bool.or_eq_true] at h
      rcases h with h | h
      · exact ih x hx h
      · rw [kp_nxb] at h
        exact hs (t % 16) x ht (ih _ (by omega) hb) h.1 h.2
theorem kp_rcV {yc : Nat → Int32} {w g : Int32} {v : Nat} (hv : v < 16) (t : Nat) : bt (ky_rc yc w v g t) v = true := by
  have h0 : bt (ky_rc yc w v g 0) v = true := by
    show bt ((1 : Int32) <<< (nI v &&& 31)) v = true
    rw [kw_sh (by omega) (by omega), decide_eq_true rfl]
  have := kp_rcM' 0 t v h0
  rw [Nat.zero_add] at this
  exact this
theorem kp_rcE {yc : Nat → Int32} {w g : Int32} {v : Nat} (hv : v < 16) : ∀ y x, y < 16 → bt (ky_rc yc w v g 256) y = true → x < 16 → kp_E yc w g y x → bt (ky_rc yc w v g 256) x = true := by
  obtain ⟨s, hs, h⟩ := kw_stab (A := fun s => bt (ky_rc yc w v g (16 * s))) (N := 16) (c := 1) (fun n u _ h => kp_rcM' (16 * n) 16 u h) (by
    have h1 := kp_rcV (yc := yc) (w := w) (g := g) hv 0
    have h2 := kw_cnt_lt (n := 16) (P := fun _ => false) (Q := bt (ky_rc yc w v g (16 * 0))) (fun i _ z => absurd z (by decide)) v hv rfl h1
    exact Nat.lt_of_le_of_lt (Nat.zero_le _) h2) (by omega)
  have hcl : ∀ y x, y < 16 → bt (ky_rc yc w v g (16 * s)) y = true → x < 16 → kp_E yc w g y x → bt (ky_rc yc w v g (16 * s)) x = true := by
    intro y x hy h1 hx hE
    have h2 := kp_rcM' (16 * s) y y h1
    have h3 : (16 * s + y) % 16 = y := by omega
    have h4 : bt (ky_rc yc w v g (16 * s + y + 1)) x = true := by
      have h5 : bt (ky_rc yc w v g (16 * s + y)) ((16 * s + y) % 16) = true := by rw [h3]; exact h2
      rw [← ky_rcT h5, b_or, h3, kp_nxb.mpr ⟨hx, hE⟩]
      exact Bool.or_true _
    have h6 := kp_rcM' (16 * s + y + 1) (15 - y) x h4
    have h7 : 16 * s + y + 1 + (15 - y) = 16 * (s + 1) := by omega
    rw [h7] at h6
    exact (h x hx).symm.trans h6
  have hin : ∀ x, x < 16 → bt (ky_rc yc w v g 256) x = true → bt (ky_rc yc w v g (16 * s)) x = true := fun x hx h1 => kp_rcC hv (C := fun x => bt (ky_rc yc w v g (16 * s)) x = true) (kp_rcV hv _) hcl 256 x (by omega) h1
  have hout : ∀ x, bt (ky_rc yc w v g (16 * s)) x = true → bt (ky_rc yc w v g 256) x = true := by
    intro x h1
    have h2 := kp_rcM' (16 * s) (256 - 16 * s) x h1
    rw [show 16 * s + (256 - 16 * s) = 256 by omega] at h2
    exact h2
  intro y x hy h1 hx hE
  exact hout x (hcl y x hy (hin y hy h1) hx hE)
theorem kp_common {th : Int32} {xc yc : Nat → Int32} (hC : kr_C th xc yc) {g w f : Int32} (hT : kr_T th) (hw : kr_S w th) {v : Nat} (hv : bt w v = true) : bt (kx_cm xc g w f 16) v = false ↔ (ky_rc yc w v g 256 &&& (f ^^^ (-1))) = 0 := by
  have hv16 := kp_16 hT hw hv
  rw [kp_sub]
  constructor
  · intro h x hx h1
    have hin : bt w x = true ∧ bt (kx_cm xc g w f 16) x = false := by
      refine kp_rcC hv16 (C := fun x => bt w x = true ∧ bt (kx_cm xc g w f 16) x = false) ⟨hv, h⟩ ?_ 256 x hx h1
      rintro y z hy ⟨hwy, hy2⟩ hz hE
      refine ⟨hE.1, kw_bF.mpr fun hA => ?_⟩
      have h2 := (kp_cm hC hT hw 16 y).mpr (Or.inr ⟨hwy, z, hz, hE, hA⟩)
      rw [show 16 + 1 = 17 from rfl, kp_cm17 hC hT hw, hy2] at h2
      exact absurd h2 (by decide)
    have h0 : ∀ n, bt (kx_cm xc g w f 0) x = true → bt (kx_cm xc g w f n) x = true := by
      intro n h0
      induction n with
      | zero => exact h0
      | succ n ih => exact (kp_cm hC hT hw n x).mpr (Or.inl ih)
    cases hf : bt f x
    · have := h0 16 (by rw [kp_cm0 hx, hin.1, hf]; rfl)
      rw [hin.2] at this
      exact absurd this (by decide)
    · rfl
  · intro h
    have hR : ∀ n y, y < 16 → bt (ky_rc yc w v g 256) y = true → bt (kx_cm xc g w f n) y = true → False := by
      intro n
      induction n with
      | zero =>
        intro y hy h1 h2
        rw [kp_cm0 (by omega), h y (by omega) h1] at h2
        cases hz : bt w y
        · rw [hz] at h2; exact absurd h2 (by decide)
        · rw [hz] at h2; exact absurd h2 (by decide)
      | succ n ih =>
        intro y hy h1 h2
        rcases (kp_cm hC hT hw n y).mp h2 with h3 | ⟨_, x, hx, hE, hA⟩
        · exact ih y hy h1 h3
        · exact ih x hx (kp_rcE hv16 y x hy h1 hx hE) hA
    exact kw_bF.mpr fun z => hR 16 v hv16 (kp_rcV hv16 256) z
/-- the component's step is the reference's -/
theorem kp_H {th : Int32} {so xc yc : Nat → Int32} (hC : kr_C th xc yc) (hT : kr_T th) {k : Nat} {a w f g : Int32} (hk : k ≤ 9) (hw : kr_S w th) (hf : k = 2 ∨ k = 3 → kr_S f w) (hg : k = 3 → kr_S g w) (h5 : k = 5 → ∃ α, α < 3 ∧ a = nI α) : kx_H so xc k a w f g = kw_bs 16 (fun v => bt w v && ky_in so yc k a w f g v) := by
  have h16 : ∀ v, bt w v = true → v < 16 := fun v h => kp_16 hT hw h
  refine kp_eqw h16 fun i hi => ?_
  rcases kw_10 hk with rfl | rfl | rfl | rfl | rfl | rfl | rfl | rfl | rfl | rfl
  · show bt (w &&& kw_bs 16 (fun v => bt (so v) a.toNatClampNeg)) i = (bt w i && bt (so i) a.toNatClampNeg)
    rw [b_and, kw_bsb (by omega)]
    cases h : bt w i
    · rfl
    · rw [decide_eq_true (h16 i h), Bool.true_and]
  · show bt (w &&& (f ^^^ (-1))) i = (bt w i && !bt f i)
    rw [b_and, kw_not hi]
  · show bt (f &&& g) i = (bt w i && (bt f i && bt g i))
    rw [b_and]
    cases h : bt f i
    · rw [Bool.false_and, Bool.and_false]
    · rw [hf (Or.inl rfl) i h]; rfl
  · show bt (f ||| g) i = (bt w i && (bt f i || bt g i))
    rw [b_or]
    cases h : bt f i
    · cases h2 : bt g i
      · rw [Bool.false_or, Bool.and_false]
      · rw [hg rfl i h2]; rfl
    · rw [hf (Or.inr rfl) i h]; rfl
  · show bt (w &&& ((f ^^^ g) ^^^ (-1))) i = (bt w i && (bt f i == bt g i))
    rw [b_and, kw_not hi, b_xor]
    cases bt f i <;> cases bt g i <;> rfl
  · obtain ⟨α, hα, rfl⟩ := h5 rfl
    show bt (kx_kt xc ((1 : Int32) <<< (nI α &&& 31)) w f 3) i = (bt w i && decide ((ky_nx yc w i ((1 : Int32) <<< (nI α &&& 31)) false &&& (f ^^^ (-1))) = 0))
    apply kp_beq
    rw [kp_kt hC hT hw (by omega), Bool.and_eq_true, decide_eq_true_eq, kp_nx]
    refine and_congr_right fun h1 => ?_
    constructor
    · intro h x hx hwx hc
      have hb : bt ((1 : Int32) <<< (nI α &&& 31)) α = true := by rw [kw_sh (by omega) (by omega), decide_eq_true rfl]
      exact h α hα hb x hx hwx (kp_cnF.mp hc α hα hb)
    · intro h j hj hb x hx hwx hs
      refine h x hx hwx (kp_cnF.mpr fun l hl hbl => ?_)
      rw [kw_sh (by omega) (by omega), decide_eq_true_eq] at hb hbl
      rw [hbl, ← hb]; exact hs
  · show bt (kx_kt xc a w f 3) i = (bt w i && decide ((ky_nx yc w i a true &&& (f ^^^ (-1))) = 0))
    apply kp_beq
    rw [kp_kt hC hT hw (by omega), Bool.and_eq_true, decide_eq_true_eq, kp_nx]
    refine and_congr_right fun h1 => ?_
    constructor
    · intro h x hx hwx hc
      obtain ⟨j, hj, hs, hb⟩ := kp_cnT.mp hc
      exact h j hj hb x hx hwx hs
    · intro h j hj hb x hx hwx hs
      exact h x hx hwx (kp_cnT.mpr ⟨j, hj, hs, hb⟩)
  · show bt (w &&& (kx_cm xc a w f 16 ^^^ (-1))) i = (bt w i && decide ((ky_rc yc w i a 256 &&& (f ^^^ (-1))) = 0))
    rw [b_and, kw_not hi]
    cases h : bt w i
    · rfl
    · rw [Bool.true_and, Bool.true_and]
      cases h2 : bt (kx_cm xc a w f 16) i
      · rw [decide_eq_true ((kp_common hC hT hw h).mp h2)]; rfl
      · rw [decide_eq_false (fun z => by rw [(kp_common hC hT hw h).mpr z] at h2; exact absurd h2 (by decide))]; rfl
  · show bt (kw_bs 16 (kx_sp xc a w f)) i = (bt w i && decide ((ky_nx yc w i a false &&& (f ^^^ (-1))) = 0))
    rw [kw_bsb (by omega), kx_sp]
    cases h : bt w i
    · rw [Bool.false_and, Bool.and_false, Bool.false_and]
    · rw [decide_eq_true (h16 i h), Bool.true_and, Bool.true_and, Bool.true_and]
      apply kp_beq
      rw [decide_eq_true_eq, decide_eq_true_eq, kp_nx, kp_sub]
      constructor
      · intro h1 x hx hwx hc
        exact h1 x (by omega) ((kp_s1 hC hT hw (by omega) h x).mpr ⟨hwx, kp_cnF.mp hc⟩)
      · intro h1 x hx hs
        have h2 := (kp_s1 hC hT hw (by omega) h x).mp hs
        exact h1 x (h16 x h2.1) h2.1 (kp_cnF.mpr h2.2)
  · show bt (w &&& ((f ^^^ (-1)) ||| g)) i = (bt w i && (!bt f i || bt g i))
    rw [b_and, b_or, kw_not hi]
end
section
/-! formulas as rows of tokens with spans: parents, the worlds that a token is about, what holds where -/
def tr_ok (T S : Nat → Nat) (i : Nat) : Prop := (T i = 0 ∧ S i = 1) ∨ (T i = 1 ∧ 1 ≤ i ∧ S i = S (i - 1) + 1) ∨ (T i = 2 ∧ S (i - 1) + 1 ≤ i ∧ S i = S (i - 1) + S (i - 1 - S (i - 1)) + 1)
def tr_wf (T S : Nat → Nat) (m : Nat) : Prop := 0 < m ∧ S (m - 1) = m ∧ ∀ i, i < m → tr_ok T S i
def tr_ch (T S : Nat → Nat) (c p : Nat) : Prop := (1 ≤ T p ∧ c + 1 = p) ∨ (T p = 2 ∧ c + S (p - 1) + 1 = p)
theorem tr_S {T S : Nat → Nat} {m : Nat} (h : ∀ i, i < m → tr_ok T S i) (i : Nat) : i < m → 1 ≤ S i ∧ S i ≤ i + 1 := by
  induction i using Nat.strongRecOn with
  | _ i ih =>
    intro hi
    rcases h i hi with ⟨_, h1⟩ | ⟨_, h1, h2⟩ | ⟨_, h1, h2⟩
    · omega
    · have := ih (i - 1) (by omega) (by omega)
      omega
    · have a := ih (i - 1) (by omega) (by omega)
      have b := ih (i - 1 - S (i - 1)) (by omega) (by omega)
      omega
theorem tr_lt {T S : Nat → Nat} {c p : Nat} (h : tr_ch T S c p) : c < p := by
  rcases h with ⟨_, h⟩ | ⟨_, h⟩ <;> omega
theorem tr_lo {T S : Nat → Nat} {m : Nat} (h : ∀ i, i < m → tr_ok T S i) {c p : Nat} (hp : p < m) (hc : tr_ch T S c p) : p + S c ≤ c + S p := by
  rcases hc with ⟨h1, h2⟩ | ⟨h1, h2⟩
  · rcases h p hp with ⟨h3, _⟩ | ⟨h3, h4, h5⟩ | ⟨h3, h4, h5⟩
    · omega
    · have e : p - 1 = c := by omega
      rw [e] at h5
      omega
    · have e : p - 1 = c := by omega
      rw [e] at h5
      omega
  · rcases h p hp with ⟨h3, _⟩ | ⟨h3, h4, h5⟩ | ⟨h3, h4, h5⟩
    · omega
    · omega
    · have e : p - 1 - S (p - 1) = c := by omega
      rw [e] at h5
      omega
theorem tr_lam {T S : Nat → Nat} {m : Nat} (h : ∀ i, i < m → tr_ok T S i) (q : Nat) : q < m → ∀ p, q < p + S q → p ≤ q → q + S p ≤ p + S q := by
  induction q using Nat.strongRecOn with
  | _ q ih =>
    intro hq p h1 h2
    by_cases e : p = q
    · subst e; exact Nat.le_refl _
    · rcases h q hq with ⟨_, h3⟩ | ⟨_, h3, h4⟩ | ⟨_, h3, h4⟩
      · omega
      · have := ih (q - 1) (by omega) (by omega) p (by omega) (by omega)
        omega
      · by_cases h5 : q - 1 < p + S (q - 1)
        · have := ih (q - 1) (by omega) (by omega) p (by omega) (by omega)
          omega
        · have := ih (q - 1 - S (q - 1)) (by omega) (by omega) p (by omega) (by omega)
          omega
theorem tr_uni' {T S : Nat → Nat} {m : Nat} (h : ∀ i, i < m → tr_ok T S i) {c p p' : Nat} (hp : p < m) (hc : tr_ch T S c p) (hc' : tr_ch T S c p') (hl : p' < p) : False := by
  have h1 := tr_lt hc'
  rcases hc with ⟨_, h2⟩ | ⟨_, h2⟩
  · omega
  · have h3 := tr_lam h (p - 1) (by omega) p' (by omega) (by omega)
    have h4 := tr_lo h (by omega) hc'
    have h5 := tr_S h c (by omega)
    omega
theorem tr_uni {T S : Nat → Nat} {m : Nat} (h : ∀ i, i < m → tr_ok T S i) {c p p' : Nat} (hp : p < m) (hp' : p' < m) (hc : tr_ch T S c p) (hc' : tr_ch T S c p') : p = p' := by
  rcases Nat.lt_trichotomy p p' with h1 | h1 | h1
  · exact (tr_uni' h hp' hc' hc h1).elim
  · exact h1
  · exact (tr_uni' h hp hc hc' h1).elim
theorem tr_par' {T S : Nat → Nat} {m : Nat} (h : ∀ i, i < m → tr_ok T S i) (q : Nat) : q < m → ∀ c, c < q → q < c + S q → ∃ p, p ≤ q ∧ tr_ch T S c p := by
  induction q using Nat.strongRecOn with
  | _ q ih =>
    intro hq c h1 h2
    rcases h q hq with ⟨_, h3⟩ | ⟨h0, h3, h4⟩ | ⟨h0, h3, h4⟩
    · omega
    · by_cases e : c + 1 = q
      · exact ⟨q, Nat.le_refl _, Or.inl ⟨by omega, e⟩⟩
      · obtain ⟨p, hp, hc⟩ := ih (q - 1) (by omega) (by omega) c (by omega) (by omega)
        exact ⟨p, by omega, hc⟩
    · by_cases e : c + 1 = q
      · exact ⟨q, Nat.le_refl _, Or.inl ⟨by omega, e⟩⟩
      · by_cases e2 : c + S (q - 1) + 1 = q
        · exact ⟨q, Nat.le_refl _, Or.inr ⟨h0, e2⟩⟩
        · by_cases h5 : q - 1 < c + S (q - 1)
          · obtain ⟨p, hp, hc⟩ := ih (q - 1) (by omega) (by omega) c (by omega) (by omega)
            exact ⟨p, by omega, hc⟩
          · obtain ⟨p, hp, hc⟩ := ih (q - 1 - S (q - 1)) (by omega) (by omega) c (by omega) (by omega)
            exact ⟨p, by omega, hc⟩
theorem tr_par {T S : Nat → Nat} {m : Nat} (h : tr_wf T S m) {c : Nat} (hc : c + 1 < m) : ∃ p, p < m ∧ tr_ch T S c p := by
  obtain ⟨p, hp, h1⟩ := tr_par' h.2.2 (m - 1) (by omega) c (by omega) (by have := h.2.1; omega)
  exact ⟨p, by omega, h1⟩
def tr_ev (op : Nat → Int32 → Int32 → Int32 → Int32) (T S : Nat → Nat) (A : Nat → Bool) : Nat → Int32 → Int32
  | 0, w => op 0 w 0 0
  | i + 1, w => if T (i + 1) = 0 then op (i + 1) w 0 0 else if T (i + 1) = 1 then op (i + 1) w (tr_ev op T S A i w) (tr_ev op T S A i w) else op (i + 1) w (tr_ev op T S A (i - S i) w) (tr_ev op T S A i (if A (i + 1) = true then w &&& tr_ev op T S A (i - S i) w else w))
termination_by i _ => i
decreasing_by all_goals omega
theorem tr_ev0 {op : Nat → Int32 → Int32 → Int32 → Int32} {T S : Nat → Nat} {A : Nat → Bool} {w : Int32} : tr_ev op T S A 0 w = op 0 w 0 0 := by rw [tr_ev]
theorem tr_evS {op : Nat → Int32 → Int32 → Int32 → Int32} {T S : Nat → Nat} {A : Nat → Bool} {w : Int32} {i : Nat} : tr_ev op T S A (i + 1) w = if T (i + 1) = 0 then op (i + 1) w 0 0 else if T (i + 1) = 1 then op (i + 1) w (tr_ev op T S A i w) (tr_ev op T S A i w) else op (i + 1) w (tr_ev op T S A (i - S i) w) (tr_ev op T S A i (if A (i + 1) = true then w &&& tr_ev op T S A (i - S i) w else w)) := by rw [tr_ev]
theorem tr_W {T S : Nat → Nat} {m : Nat} (h : tr_wf T S m) (E : Nat → Int32 → Int32) (A : Nat → Bool) (th : Int32) (d : Nat) : d ≤ m → ∃ W : Nat → Int32, W (m - 1) = th ∧ ∀ p c, m - d ≤ p → p < m → tr_ch T S c p → W c = if (c + 1 = p ∧ A p = true) then W p &&& E (p - 1 - S (p - 1)) (W p) else W p := by
  induction d with
  | zero => exact fun _ => ⟨fun _ => th, rfl, fun p c h1 h2 => absurd h1 (by omega)⟩
  | succ d ih =>
    intro hd
    obtain ⟨W, h1, h2⟩ := ih (by omega)
    have hS := tr_S h.2.2
    obtain ⟨k, hk⟩ : ∃ k, k = m - (d + 1) := ⟨_, rfl⟩
    have hkm : k < m := by omega
    refine ⟨fun c => if (1 ≤ T k ∧ c + 1 = k) then (if A k = true then W k &&& E (k - 1 - S (k - 1)) (W k) else W k) else if (T k = 2 ∧ c + S (k - 1) + 1 = k) then W k else W c, ?_, ?_⟩
    · show (if (1 ≤ T k ∧ m - 1 + 1 = k) then _ else _) = th
      rw [if_neg (by omega), if_neg (by omega)]
      exact h1
    · intro p c hp hpm hc
      have hp' : p < k → False := by omega
      have eW : (if (1 ≤ T k ∧ p + 1 = k) then (if A k = true then W k &&& E (k - 1 - S (k - 1)) (W k) else W k) else if (T k = 2 ∧ p + S (k - 1) + 1 = k) then W k else W p) = W p := by
        rw [if_neg (by omega), if_neg (by omega)]
      show (if (1 ≤ T k ∧ c + 1 = k) then (if A k = true then W k &&& E (k - 1 - S (k - 1)) (W k) else W k) else if (T k = 2 ∧ c + S (k - 1) + 1 = k) then W k else W c) = (if (c + 1 = p ∧ A p = true) then (if (1 ≤ T k ∧ p + 1 = k) then (if A k = true then W k &&& E (k - 1 - S (k - 1)) (W k) else W k) else if (T k = 2 ∧ p + S (k - 1) + 1 = k) then W k else W p) &&& E (p - 1 - S (p - 1)) (if (1 ≤ T k ∧ p + 1 = k) then (if A k = true then W k &&& E (k - 1 - S (k - 1)) (W k) else W k) else if (T k = 2 ∧ p + S (k - 1) + 1 = k) then W k else W p) else (if (1 ≤ T k ∧ p + 1 = k) then (if A k = true then W k &&& E (k - 1 - S (k - 1)) (W k) else W k) else if (T k = 2 ∧ p + S (k - 1) + 1 = k) then W k else W p))
      rw [eW]
      by_cases e : p = k
      · subst e
        rcases hc with hc | hc
        · rw [if_pos hc]
          cases hA : A p
          · rw [if_neg (by decide), if_neg (fun z => absurd z.2 (by decide))]
          · rw [if_pos rfl, if_pos ⟨hc.2, rfl⟩]
        · have hs := (hS (p - 1) (by omega)).1
          rw [if_neg (by omega), if_pos hc, if_neg (by omega)]
      · have n1 : ¬ tr_ch T S c k := fun z => e (tr_uni h.2.2 hpm hkm hc z)
        rw [if_neg (fun z => n1 (Or.inl z)), if_neg (fun z => n1 (Or.inr z))]
        exact h2 p c (by omega) hpm hc
/-- the sets that a formula's tokens are about, and those where they hold -/
def tr_Sol (op : Nat → Int32 → Int32 → Int32 → Int32) (T S : Nat → Nat) (A : Nat → Bool) (m : Nat) (th : Int32) (W H : Nat → Int32) : Prop := W (m - 1) = th ∧ (∀ p c, p < m → tr_ch T S c p → W c = if (c + 1 = p ∧ A p = true) then W p &&& H (p - 1 - S (p - 1)) else W p) ∧ ∀ i, i < m → (T i = 0 → H i = op i (W i) 0 0) ∧ (T i = 1 → H i = op i (W i) (H (i - 1)) (H (i - 1))) ∧ (T i = 2 → H i = op i (W i) (H (i - 1 - S (i - 1))) (H (i - 1)))
theorem tr_sol {T S : Nat → Nat} {m : Nat} (h : tr_wf T S m) (op : Nat → Int32 → Int32 → Int32 → Int32) (A : Nat → Bool) (hA : ∀ i, A i = true → T i = 2) (th : Int32) : ∃ W H : Nat → Int32, tr_Sol op T S A m th W H := by
  obtain ⟨W, h1, h2⟩ := tr_W h (tr_ev op T S A) A th m (Nat.le_refl m)
  have hS := tr_S h.2.2
  have hW : ∀ p c, p < m → tr_ch T S c p → W c = if (c + 1 = p ∧ A p = true) then W p &&& tr_ev op T S A (p - 1 - S (p - 1)) (W (p - 1 - S (p - 1))) else W p := by
    intro p c hp hc
    rw [h2 p c (by omega) hp hc]
    cases hAp : A p
    · rw [if_neg (fun z => absurd z.2 (by decide)), if_neg (fun z => absurd z.2 (by decide))]
    · have hT := hA p hAp
      rcases h.2.2 p hp with ⟨h3, _⟩ | ⟨h3, _⟩ | ⟨_, h4, _⟩
      · omega
      · omega
      · have hs := (hS (p - 1) (by omega)).1
        have e := h2 p (p - 1 - S (p - 1)) (by omega) hp (Or.inr ⟨hT, by omega⟩)
        rw [if_neg (by omega)] at e
        rw [e]
  refine ⟨W, fun i => tr_ev op T S A i (W i), h1, hW, ?_⟩
  intro i hi
  refine ⟨fun hT => ?_, fun hT => ?_, fun hT => ?_⟩
  · cases i with
    | zero => exact tr_ev0
    | succ i => exact tr_evS.trans (if_pos hT)
  · cases i with
    | zero =>
      rcases h.2.2 0 hi with ⟨h3, _⟩ | ⟨_, h4, _⟩ | ⟨_, h4, _⟩ <;> omega
    | succ i =>
      have e := hW (i + 1) i hi (Or.inl ⟨by omega, rfl⟩)
      rw [if_neg (fun z => by have := hA _ z.2; omega)] at e
      show tr_ev op T S A (i + 1) (W (i + 1)) = op (i + 1) (W (i + 1)) (tr_ev op T S A i (W i)) (tr_ev op T S A i (W i))
      rw [tr_evS, if_neg (by omega), if_pos hT, e]
  · cases i with
    | zero =>
      rcases h.2.2 0 hi with ⟨h3, _⟩ | ⟨_, h4, _⟩ | ⟨_, h4, _⟩ <;> omega
    | succ i =>
      rcases h.2.2 (i + 1) hi with ⟨h3, _⟩ | ⟨h3, _⟩ | ⟨_, h4, _⟩
      · omega
      · omega
      · have h4' : S i + 1 ≤ i + 1 := h4
        have hs := (hS i (by omega)).1
        have e := hW (i + 1) i hi (Or.inl ⟨by omega, rfl⟩)
        have e2 := hW (i + 1) (i - S i) hi (Or.inr ⟨hT, by show i - S i + S i + 1 = i + 1; omega⟩)
        rw [if_neg (by omega)] at e2
        show tr_ev op T S A (i + 1) (W (i + 1)) = op (i + 1) (W (i + 1)) (tr_ev op T S A (i - S i) (W (i - S i))) (tr_ev op T S A i (W i))
        have e3 : W i = if A (i + 1) = true then W (i + 1) &&& tr_ev op T S A (i - S i) (W (i + 1)) else W (i + 1) := by
          rw [e]
          cases hAp : A (i + 1)
          · rw [if_neg (fun z => absurd z.2 (by decide)), if_neg (by decide)]
          · rw [if_pos ⟨rfl, rfl⟩, if_pos rfl]
            show W (i + 1) &&& tr_ev op T S A (i - S i) (W (i - S i)) = _
            rw [e2]
        rw [tr_evS, if_neg (by omega), if_neg (by omega), e3, e2]
theorem tr_Wsub {T S : Nat → Nat} {m : Nat} (h : tr_wf T S m) {op : Nat → Int32 → Int32 → Int32 → Int32} {A : Nat → Bool} {th : Int32} {W H : Nat → Int32} (hs : tr_Sol op T S A m th W H) (d : Nat) : ∀ i, i < m → m - 1 - i ≤ d → kr_S (W i) th := by
  induction d with
  | zero =>
    intro i hi hd
    have e : i = m - 1 := by omega
    rw [e, hs.1]
    exact fun v hv => hv
  | succ d ih =>
    intro i hi hd
    by_cases e : i + 1 = m
    · have e : i = m - 1 := by omega
      rw [e, hs.1]
      exact fun v hv => hv
    · obtain ⟨p, hp, hc⟩ := tr_par h (by omega : i + 1 < m)
      have hl := tr_lt hc
      have hp2 := ih p hp (by omega)
      rw [hs.2.1 p i hp hc]
      by_cases z : i + 1 = p ∧ A p = true
      · rw [if_pos z]
        intro v hv
        rw [b_and, Bool.and_eq_true] at hv
        exact hp2 v hv.1
      · rw [if_neg z]; exact hp2
theorem tr_Wth {T S : Nat → Nat} {m : Nat} (h : tr_wf T S m) {op : Nat → Int32 → Int32 → Int32 → Int32} {A : Nat → Bool} {th : Int32} {W H : Nat → Int32} (hs : tr_Sol op T S A m th W H) {i : Nat} (hi : i < m) : kr_S (W i) th := tr_Wsub h hs (m - 1 - i) i hi (Nat.le_refl _)
end
section
/-! the component carries a formula out -/
def kf_A (k : Nat) (a : Int32) : Prop := (k = 0 → ∃ α, α < 4 ∧ a = nI α) ∧ (k = 5 → ∃ α, α < 3 ∧ a = nI α)
def kf_T (K : Nat → Nat) : Nat → Nat := fun i => kw_tk (K i)
def kf_9 (K : Nat → Nat) : Nat → Bool := fun i => decide (K i = 9)
theorem kf_92 {K : Nat → Nat} (i : Nat) (h : kf_9 K i = true) : kf_T K i = 2 := by
  unfold kf_9 at h
  rw [decide_eq_true_eq] at h
  unfold kf_T
  rw [h]; rfl
/-- a formula of m tokens from s on, in the component's arrays -/
def kf_F (kd ar sp : Nat → Int32) (s m : Nat) (K S : Nat → Nat) : Prop := s + m ≤ 144 ∧ m ≤ 24 ∧ tr_wf (kf_T K) S m ∧ ∀ i, i < m → K i ≤ 9 ∧ kd (s + i) = nI (K i) ∧ sp (s + i) = nI (S i) ∧ kf_A (K i) (ar (s + i))
def kf_R (K S : Nat → Nat) (s m j : Nat) (rg : Int32) (ab op : Nat → Int32) (ρ : Nat → Nat) (r : Nat) : Prop :=
  rg = nI r ∧ 1 ≤ r ∧ r ≤ 1 + (m - j) ∧ ab (s + (m - 1)) = 0 ∧
  (∀ p, j ≤ p → p < m → kf_9 K p = true → 1 ≤ ρ p ∧ ρ p < r ∧ ρ p + p ≤ m ∧ op (s + (p - 1 - S (p - 1))) = nI (ρ p)) ∧
  (∀ p q, j ≤ p → p < m → j ≤ q → q < m → kf_9 K p = true → kf_9 K q = true → ρ p = ρ q → p = q) ∧
  (∀ c, c < m → (∀ p, j ≤ p → p < m → kf_9 K p = true → c ≠ p - 1 - S (p - 1)) → op (s + c) = 0) ∧
  (∀ p c, j ≤ p → p < m → tr_ch (kf_T K) S c p → ab (s + c) = if (c + 1 = p ∧ kf_9 K p = true) then nI (ρ p) else ab (s + p))
theorem kf_first {K S : Nat → Nat} {m p : Nat} (h : tr_wf (kf_T K) S m) (hp : p < m) (h9 : kf_T K p = 2) : S (p - 1) + 1 ≤ p ∧ 1 ≤ S (p - 1) ∧ 2 ≤ p ∧ tr_ch (kf_T K) S (p - 1 - S (p - 1)) p ∧ tr_ch (kf_T K) S (p - 1) p := by
  rcases h.2.2 p hp with ⟨h3, _⟩ | ⟨h3, _⟩ | ⟨_, h4, _⟩
  · omega
  · omega
  · have := (tr_S h.2.2 (p - 1) (by omega)).1
    exact ⟨h4, this, by omega, Or.inr ⟨h9, by omega⟩, Or.inl ⟨by omega, by omega⟩⟩
theorem kf_R0 {K S : Nat → Nat} {s m i : Nat} {rg : Int32} {ab op ab' : Nat → Int32} {ρ : Nat → Nat} {r : Nat} (hw : tr_wf (kf_T K) S m) (hi : i < m) (h : kf_R K S s m (i + 1) rg ab op ρ r) (h9 : kf_9 K i = false) (hab : ∀ c, ¬ tr_ch (kf_T K) S c i → ab' (s + c) = ab (s + c)) (hch : ∀ c, tr_ch (kf_T K) S c i → ab' (s + c) = ab (s + i)) : kf_R K S s m i rg ab' op ρ r := by
  obtain ⟨h1, h2, h3, h4, h5, h6, h7, h8⟩ := h
  have hne : ∀ p, kf_9 K p = true → p ≠ i := by
    intro p hp e
    rw [e, h9] at hp
    exact absurd hp (by decide)
  refine ⟨h1, h2, by omega, ?_, ?_, ?_, ?_, ?_⟩
  · rw [hab (m - 1) (fun z => by have := tr_lt z; omega)]; exact h4
  · intro p hp hpm hA
    have := hne p hA
    exact h5 p (by omega) hpm hA
  · intro p q hp hpm hq hqm hA hB
    have := hne p hA
    have := hne q hB
    exact h6 p q (by omega) hpm (by omega) hqm hA hB
  · intro c hc hz
    exact h7 c hc fun p hp => hz p (by omega)
  · intro p c hp hpm hc
    have hpi : ab' (s + p) = ab (s + p) := hab p (fun z => by have := tr_lt z; omega)
    by_cases e : p = i
    · subst e
      rw [hch c hc, h9, if_neg (fun z => absurd z.2 (by decide)), hpi]
    · rw [hpi, hab c (fun z => e (tr_uni hw.2.2 hpm hi hc z))]
      exact h8 p c (by omega) hpm hc
theorem kf_R1 {K S : Nat → Nat} {s m i : Nat} {rg : Int32} {ab op ab' : Nat → Int32} {ρ : Nat → Nat} {r : Nat} (hw : tr_wf (kf_T K) S m) (hi : i < m) (h : kf_R K S s m (i + 1) rg ab op ρ r) (h9 : kf_9 K i = true) (hab : ∀ c, ¬ tr_ch (kf_T K) S c i → ab' (s + c) = ab (s + c)) (hch : ∀ c, tr_ch (kf_T K) S c i → ab' (s + c) = if c + 1 = i then rg else ab (s + i)) : kf_R K S s m i (rg + 1) ab' (upd op (s + (i - 1 - S (i - 1))) rg) (fun p => if p = i then r else ρ p) (r + 1) := by
  obtain ⟨h1, h2, h3, h4, h5, h6, h7, h8⟩ := h
  have hF := kf_first hw hi (kf_92 i h9)
  refine ⟨by rw [h1, nI_1], by omega, by omega, ?_, ?_, ?_, ?_, ?_⟩
  · rw [hab (m - 1) (fun z => by have := tr_lt z; omega)]; exact h4
  · intro p hp hpm hA
    by_cases e : p = i
    · subst e
      dsimp only
      rw [if_pos rfl, pk_us]
      exact ⟨by omega, by omega, by omega, h1⟩
    · obtain ⟨a1, a2, a3, a4⟩ := h5 p (by omega) hpm hA
      have hG := kf_first hw hpm (kf_92 p hA)
      dsimp only
      rw [if_neg e, pk_un]
      · exact ⟨a1, by omega, a3, a4⟩
      · intro z
        have z' : p - 1 - S (p - 1) = i - 1 - S (i - 1) := by omega
        have hGf := hG.2.2.2.1
        rw [z'] at hGf
        exact e (tr_uni hw.2.2 hpm hi hGf hF.2.2.2.1)
  · intro p q hp hpm hq hqm hA hB hpq
    by_cases e : p = i
    · by_cases e2 : q = i
      · rw [e, e2]
      · have := (h5 q (by omega) hqm hB).2.1
        have hpq' : (if p = i then r else ρ p) = (if q = i then r else ρ q) := hpq
        rw [if_pos e, if_neg e2] at hpq'
        omega
    · by_cases e2 : q = i
      · have := (h5 p (by omega) hpm hA).2.1
        have hpq' : (if p = i then r else ρ p) = (if q = i then r else ρ q) := hpq
        rw [if_neg e, if_pos e2] at hpq'
        omega
      · have hpq' : (if p = i then r else ρ p) = (if q = i then r else ρ q) := hpq
        rw [if_neg e, if_neg e2] at hpq'
        exact h6 p q (by omega) hpm (by omega) hqm hA hB hpq'
  · intro c hc hz
    have hci := hz i (Nat.le_refl i) hi h9
    rw [pk_un (by omega)]
    exact h7 c hc fun p hp => hz p (by omega)
  · intro p c hp hpm hc
    have hpi : ab' (s + p) = ab (s + p) := hab p (fun z => by have := tr_lt z; omega)
    by_cases e : p = i
    · subst e
      rw [hch c hc, hpi, h9]
      show _ = if (c + 1 = p ∧ true = true) then nI (if p = p then r else ρ p) else ab (s + p)
      rw [if_pos rfl, h1]
      by_cases e3 : c + 1 = p
      · rw [if_pos e3, if_pos ⟨e3, rfl⟩]
      · rw [if_neg e3, if_neg (fun z => e3 z.1)]
    · rw [hpi, hab c (fun z => e (tr_uni hw.2.2 hpm hi hc z)), h8 p c (by omega) hpm hc]
      show _ = if (c + 1 = p ∧ kf_9 K p = true) then nI (if p = i then r else ρ p) else ab (s + p)
      rw [if_neg e]
theorem kw_plt {s : Nat} (h : s < 2 ^ 30) : nI s + (-1) < nI s := by
  cases s with
  | zero => decide
  | succ s => rw [pk_m1]; exact nI_lt (by omega) (by omega)
theorem xw_fr79n {post : SX → Prop} {J : Int32 → Int32 → (Nat → Int32) → (Nat → Int32) → (Nat → Int32) → (Nat → Int32) → (Nat → Int32) → (Nat → Int32) → (Nat → Int32) → (Nat → Int32) → (Nat → Int32) → (Nat → Int32) → (Nat → Int32) → (Nat → Int32) → Prop} {th hr hh rg : Int32} {so xc kd ar sp en fo ab op ra lk nl : Nat → Int32} {x1 : Int32} {t T : Nat} (hT : T < 2) (h : J (nI t + (-1)) rg so xc kd ar sp en fo ab op ra lk nl) : wX_findRanges_79 post J x1 (nI t) (nI T) th hr hh rg so xc kd ar sp en fo ab op ra lk nl := by
  unfold wX_findRanges_79
  exact br_f (fun z => by have := (nI_eq (b := 2) (by omega) (by decide)).mp z; omega) (nm_e h)
theorem xw_fr79 {post : SX → Prop} {J : Int32 → Int32 → (Nat → Int32) → (Nat → Int32) → (Nat → Int32) → (Nat → Int32) → (Nat → Int32) → (Nat → Int32) → (Nat → Int32) → (Nat → Int32) → (Nat → Int32) → (Nat → Int32) → (Nat → Int32) → (Nat → Int32) → Prop} {th hr hh rg : Int32} {so xc kd ar sp en fo ab op ra lk nl : Nat → Int32} {x1 : Int32} {t S k : Nat} (ht : t < 144) (hS : S + 1 ≤ t) (eS : sp (t - 1) = nI S) (ek : kd t = nI k) (hk : k ≤ 9) (h9 : k = 9 → J (nI t + (-1)) (rg + 1) so xc kd ar sp en fo (upd (upd ab (t - 1 - S) (ab t)) (t - 1) rg) (upd op (t - 1 - S) rg) ra lk nl) (hn : k ≠ 9 → J (nI t + (-1)) rg so xc kd ar sp en fo (upd ab (t - 1 - S) (ab t)) op ra lk nl) : wX_findRanges_79 post J x1 (nI t) (nI 2) th hr hh rg so xc kd ar sp en fo ab op ra lk nl := by
  have e1 : nI t - 1 = nI (t - 1) := pk_sub (b := 1) (by omega)
  have e2 : nI (t - 1) - nI S = nI (t - 1 - S) := pk_sub (by omega)
  have c1 : (nI (t - 1)).toNatClampNeg = t - 1 := nI_clamp (by omega)
  have c2 : (nI t).toNatClampNeg = t := nI_clamp (by omega)
  have c3 : (nI (t - 1 - S)).toNatClampNeg = t - 1 - S := nI_clamp (by omega)
  have v1 : vp_in (nI (t - 1)) 144 := vp_in_nI (by omega) (by decide)
  have v2 : vp_in (nI t) 144 := vp_in_nI ht (by decide)
  have v3 : vp_in (nI (t - 1 - S)) 144 := vp_in_nI (by omega) (by decide)
  unfold wX_findRanges_79
  rw [e1, c1, c2, eS, e2]
  refine br_t (by decide) ⟨v1, nm_e ?_⟩
  rw [c3, ek]
  refine ⟨v2, v3, nm_e ⟨v2, ?_⟩⟩
  exact pk_eq k 9 (fun e => ⟨v3, nm_e ⟨v1, nm_e (nm_e (nm_e (h9 e)))⟩⟩) (fun e => nm_e (hn e))
theorem xw_fr44 {post : SX → Prop} {th hr hh : Int32} {so xc kd ar sp en fo ra lk nl : Nat → Int32} {s m : Nat} {K S : Nat → Nat} (hF : kf_F kd ar sp s m K S) (h : ∀ rg ab op ρ r, kf_R K S s m 0 rg ab op ρ r → post (th, hr, hh, rg, so, xc, kd, ar, sp, en, fo, ab, op, ra, lk, nl)) (j : Nat) : j ≤ m → ∀ (rg : Int32) (ab op : Nat → Int32) (ρ : Nat → Nat) (r : Nat), kf_R K S s m j rg ab op ρ r → wX_findRanges_44 post (nI s) th hr hh (j + 1) (nI (s + j) + (-1)) rg so xc kd ar sp en fo ab op ra lk nl := by
  obtain ⟨hs, hm, hw, hK⟩ := hF
  induction j with
  | zero =>
    intro _ rg ab op ρ r hR
    exact br_t (kw_plt (by omega)) (h rg ab op ρ r hR)
  | succ j ih =>
    intro hj rg ab op ρ r hR
    have hjm : j < m := by omega
    obtain ⟨hk, ek, es, ea⟩ := hK j hjm
    have ej : nI (s + (j + 1)) + (-1) = nI (s + j) := pk_m1 (s + j)
    have c2 : (nI (s + j)).toNatClampNeg = s + j := nI_clamp (by omega)
    have v2 : vp_in (nI (s + j)) 144 := vp_in_nI (by omega) (by decide)
    rw [ej]
    refine br_f (nI_nlt (by omega) (by omega)) ⟨v2, ?_⟩
    rw [c2, ek]
    refine xw_taken hk ?_
    rcases hw.2.2 j hjm with ⟨hT, hS⟩ | ⟨hT, h1, hS⟩ | ⟨hT, h1, hS⟩
    · have h9 : kf_9 K j = false := by
        refine kw_bF.mpr fun z => ?_
        have := kf_92 j z
        omega
      have hT' : kw_tk (K j) = 0 := hT
      rw [hT']
      refine br_t (by decide) (xw_fr79n (by omega) (ih (by omega) rg ab op ρ r (kf_R0 hw hjm hR h9 (fun _ _ => rfl) (fun c hc => ?_))))
      rcases hc with hc | hc <;> omega
    · have h9 : kf_9 K j = false := by
        refine kw_bF.mpr fun z => ?_
        have := kf_92 j z
        omega
      have hT' : kw_tk (K j) = 1 := hT
      have e1 : nI (s + j) - 1 = nI (s + (j - 1)) := by
        rw [show s + (j - 1) = s + j - 1 by omega]; exact pk_sub (b := 1) (by omega)
      have c1 : (nI (s + (j - 1))).toNatClampNeg = s + (j - 1) := nI_clamp (by omega)
      have v1 : vp_in (nI (s + (j - 1))) 144 := vp_in_nI (by omega) (by decide)
      rw [hT', e1, c1]
      refine br_f (by decide) ⟨v2, v1, nm_e (xw_fr79n (by omega) (ih (by omega) rg _ op ρ r (kf_R0 hw hjm hR h9 (fun c hc => pk_un fun z => ?_) (fun c hc => ?_))))⟩
      · exact hc (Or.inl ⟨by omega, by omega⟩)
      · rcases hc with hc | hc
        · rw [show s + c = s + (j - 1) by omega, pk_us]
        · omega
    · have hT' : kw_tk (K j) = 2 := hT
      have hs1 := (tr_S hw.2.2 (j - 1) (by omega)).1
      have e1 : nI (s + j) - 1 = nI (s + (j - 1)) := by
        rw [show s + (j - 1) = s + j - 1 by omega]; exact pk_sub (b := 1) (by omega)
      have c1 : (nI (s + (j - 1))).toNatClampNeg = s + (j - 1) := nI_clamp (by omega)
      have v1 : vp_in (nI (s + (j - 1))) 144 := vp_in_nI (by omega) (by decide)
      have t1 : s + j - 1 = s + (j - 1) := by omega
      have t2 : s + j - 1 - S (j - 1) = s + (j - 1 - S (j - 1)) := by omega
      rw [hT', e1, c1]
      refine br_f (by decide) ⟨v2, v1, nm_e (xw_fr79 (by omega) (S := S (j - 1)) (k := K j) (by omega) (by rw [t1]; exact (hK (j - 1) (by omega)).2.2.1) ek hk (fun e9 => ?_) (fun n9 => ?_))⟩
      · have h9 : kf_9 K j = true := decide_eq_true e9
        rw [t2, t1]
        refine ih (by omega) _ _ _ _ _ (kf_R1 hw hjm hR h9 (fun c hc => ?_) (fun c hc => ?_))
        · have n1 : s + c ≠ s + (j - 1) := fun z => hc (Or.inl ⟨by omega, by omega⟩)
          have n2 : s + c ≠ s + (j - 1 - S (j - 1)) := fun z => hc (Or.inr ⟨hT, by omega⟩)
          rw [pk_un n1, pk_un n2, pk_un n1]
        · rcases hc with hc | hc
          · rw [show s + c = s + (j - 1) by omega, pk_us, if_pos hc.2]
          · rw [show s + c = s + (j - 1 - S (j - 1)) by omega, pk_un (by omega), pk_us, pk_un (by omega), if_neg (by omega)]
      · have h9 : kf_9 K j = false := decide_eq_false n9
        rw [t2]
        refine ih (by omega) _ _ _ _ _ (kf_R0 hw hjm hR h9 (fun c hc => ?_) (fun c hc => ?_))
        · have n1 : s + c ≠ s + (j - 1) := fun z => hc (Or.inl ⟨by omega, by omega⟩)
          have n2 : s + c ≠ s + (j - 1 - S (j - 1)) := fun z => hc (Or.inr ⟨hT, by omega⟩)
          rw [pk_un n2, pk_un n1]
        · rcases hc with hc | hc
          · rw [show s + c = s + (j - 1) by omega, pk_un (by omega), pk_us]
          · rw [show s + c = s + (j - 1 - S (j - 1)) by omega, pk_us, pk_un (by omega)]
theorem xw_fr24 {post : SX → Prop} {th hr hh : Int32} {so xc kd ar sp en fo ab ra lk nl : Nat → Int32} {s m : Nat} {K S : Nat → Nat} (hF : kf_F kd ar sp s m K S) (h : ∀ rg ab op ρ r, kf_R K S s m 0 rg ab op ρ r → post (th, hr, hh, rg, so, xc, kd, ar, sp, en, fo, ab, op, ra, lk, nl)) (hab : ab (s + (m - 1)) = 0) (j : Nat) : j ≤ m → ∀ (op : Nat → Int32), (∀ c, j ≤ c → c < m → op (s + c) = 0) → wX_findRanges_24 post (nI s) (nI (s + (m - 1))) th hr hh 1 (j + 1) (nI (s + j) + (-1)) so xc kd ar sp en fo ab op ra lk nl := by
  have hF' := hF
  obtain ⟨hs, hm, hw, hK⟩ := hF'
  have hm0 := hw.1
  induction j with
  | zero =>
    intro _ op hz
    have e : nI (s + (m - 1)) = nI (s + m) + (-1) := by
      rw [show s + m = s + (m - 1) + 1 by omega, pk_m1]
    refine br_t (kw_plt (by omega)) ⟨m + 1, ?_⟩
    rw [e]
    refine xw_fr44 hF h m (Nat.le_refl m) 1 ab op (fun _ => 0) 1 ⟨rfl, by omega, by omega, hab, ?_, ?_, ?_, ?_⟩
    · intro p hp hpm; omega
    · intro p q hp hpm; omega
    · intro c hc _; exact hz c (by omega) hc
    · intro p c hp hpm; omega
  | succ j ih =>
    intro hj op hz
    have ej : nI (s + (j + 1)) + (-1) = nI (s + j) := pk_m1 (s + j)
    have c2 : (nI (s + j)).toNatClampNeg = s + j := nI_clamp (by omega)
    rw [ej]
    refine br_f (nI_nlt (by omega) (by omega)) ⟨vp_in_nI (by omega) (by decide), nm_e (nm_e ?_)⟩
    rw [c2]
    refine ih (by omega) _ fun c hc hcm => ?_
    by_cases e : c = j
    · rw [e, pk_us]
    · rw [pk_un (by omega)]; exact hz c (by omega) hcm
theorem xw_findRanges {post : SX → Prop} {th hr hh rg : Int32} {so xc kd ar sp en fo ab op ra lk nl : Nat → Int32} {s m : Nat} {K S : Nat → Nat} (hF : kf_F kd ar sp s m K S) (h : ∀ rg' ab' op' ρ r, kf_R K S s m 0 rg' ab' op' ρ r → post (th, hr, hh, rg', so, xc, kd, ar, sp, en, fo, ab', op', upd ra 0 th, lk, nl)) : wpX_findRanges post (th, hr, hh, rg, so, xc, kd, ar, sp, en, fo, ab, op, ra, lk, nl) (nI s) (nI (s + (m - 1))) := by
  have hF' := hF
  obtain ⟨hs, hm, hw, hK⟩ := hF'
  have hm0 := hw.1
  have e : nI (s + (m - 1)) = nI (s + m) + (-1) := by
    rw [show s + m = s + (m - 1) + 1 by omega, pk_m1]
  refine nm_e (And.intro (vp_in_nI (by omega) (by decide)) (nm_e ⟨m + 1, ?_⟩))
  rw [nI_clamp (by omega)]
  have H := xw_fr24 (post := post) (th := th) (hr := hr) (hh := hh) (so := so) (xc := xc) (en := en) (fo := fo) (ra := upd ra 0 th) (lk := lk) (nl := nl) (ab := upd ab (s + (m - 1)) 0) hF h pk_us m (Nat.le_refl m) op (fun c h1 h2 => absurd h1 (by omega))
  rw [← e] at H
  exact H
end
section
/-! the component carries a formula out: the evaluation -/
def kf_op (so yc : Nat → Int32) (K : Nat → Nat) (B : Nat → Int32) : Nat → Int32 → Int32 → Int32 → Int32 := fun i w f g => kw_bs 16 (fun v => bt w v && ky_in so yc (K i) (B i) w f g v)
theorem kf_opS {so yc : Nat → Int32} {K : Nat → Nat} {B : Nat → Int32} {i : Nat} {w f g : Int32} : kr_S (kf_op so yc K B i w f g) w := by
  intro v hv
  unfold kf_op at hv
  rw [kw_bsb (by omega), Bool.and_eq_true, Bool.and_eq_true] at hv
  exact hv.2.1
theorem kf_HW {so yc : Nat → Int32} {K S : Nat → Nat} {B : Nat → Int32} {m : Nat} {th : Int32} {W H : Nat → Int32} (hw : tr_wf (kf_T K) S m) (hs : tr_Sol (kf_op so yc K B) (kf_T K) S (kf_9 K) m th W H) {i : Nat} (hi : i < m) : kr_S (H i) (W i) := by
  have h := hs.2.2 i hi
  rcases hw.2.2 i hi with ⟨hT, _⟩ | ⟨hT, _⟩ | ⟨hT, _⟩
  · rw [h.1 hT]; exact kf_opS
  · rw [h.2.1 hT]; exact kf_opS
  · rw [h.2.2 hT]; exact kf_opS
theorem kw_tk0 {k : Nat} (h : kw_tk k = 0) : k = 0 := by
  unfold kw_tk at h
  by_cases e : k = 0
  · exact e
  · rw [if_neg e] at h
    by_cases e2 : k = 2 ∨ k = 3 ∨ k = 4 ∨ k = 9
    · rw [if_pos e2] at h; omega
    · rw [if_neg e2] at h; omega
theorem kw_tk1 {k : Nat} (h : kw_tk k = 1) : ¬ (k = 2 ∨ k = 3) := by
  rintro (e | e) <;> rw [e] at h <;> exact absurd h (by decide)
theorem kw_tk2 {k : Nat} (h : kw_tk k = 2) : k ≠ 0 ∧ k ≠ 5 := by
  constructor <;> intro e <;> rw [e] at h <;> exact absurd h (by decide)
theorem xw_hold {post : Int32 → Prop} {th hr hh rg : Int32} {so xc kd ar sp en fo ab op ra lk nl : Nat → Int32} {s m i : Nat} {K S : Nat → Nat} {yc W H : Nat → Int32} (hF : kf_F kd ar sp s m K S) (hC : kr_C th xc yc) (hT : kr_T th) (hs : tr_Sol (kf_op so yc K (fun i => ar (s + i))) (kf_T K) S (kf_9 K) m th W H) (hi : i < m) (hfo : ∀ c, c < i → fo (s + c) = H c) (h : post (H i)) : wpX_holdersOf post (th, hr, hh, rg, so, xc, kd, ar, sp, en, fo, ab, op, ra, lk, nl) (nI (s + i)) (W i) := by
  obtain ⟨hsm, hm, hw, hK⟩ := hF
  obtain ⟨hk, ek, es, ea⟩ := hK i hi
  have hWi := tr_Wth hw hs hi
  have h3 := hs.2.2 i hi
  rcases hw.2.2 i hi with ⟨hT0, hS⟩ | ⟨hT1, h1, hS⟩ | ⟨hT2, h1, hS⟩
  · have k0 := kw_tk0 hT0
    rw [k0] at ek
    refine xw_h0 (by omega) ek ?_ ?_
    · obtain ⟨α, hα, e⟩ := ea.1 k0
      exact ⟨α, by omega, e⟩
    · rw [h3.1 hT0] at h
      have e := kp_H (so := so) (g := 0) (f := 0) (a := ar (s + i)) hC hT hk hWi (fun z => by omega) (fun z => by omega) (fun z => by omega)
      have e' : kx_H so xc (K i) (ar (s + i)) (W i) 0 0 = kf_op so yc K (fun i => ar (s + i)) i (W i) 0 0 := e
      rw [← e', k0] at h
      exact h
  · have f1 : fo (s + i - 1) = H (i - 1) := by rw [show s + i - 1 = s + (i - 1) by omega]; exact hfo _ (by omega)
    refine xw_h1 (by omega) (by omega) hk ek hT1 ?_
    rw [f1]
    rw [h3.2.1 hT1] at h
    have n1 := kw_tk1 hT1
    have e := kp_H (so := so) (g := H (i - 1)) (f := H (i - 1)) (a := ar (s + i)) hC hT hk hWi (fun z => absurd z n1) (fun z => absurd (Or.inr z) n1) ea.2
    have e' : kx_H so xc (K i) (ar (s + i)) (W i) (H (i - 1)) (H (i - 1)) = kf_op so yc K (fun i => ar (s + i)) i (W i) (H (i - 1)) (H (i - 1)) := e
    rw [e']
    exact h
  · have hF2 := kf_first hw hi hT2
    have f1 : fo (s + i - 1) = H (i - 1) := by rw [show s + i - 1 = s + (i - 1) by omega]; exact hfo _ (by omega)
    have f2 : fo (s + i - 1 - S (i - 1)) = H (i - 1 - S (i - 1)) := by rw [show s + i - 1 - S (i - 1) = s + (i - 1 - S (i - 1)) by omega]; exact hfo _ (by omega)
    refine xw_h2 (S := S (i - 1)) (by omega) (by omega) hk ek hT2 (by rw [show s + i - 1 = s + (i - 1) by omega]; exact (hK (i - 1) (by omega)).2.2.1) ?_
    rw [f1, f2]
    rw [h3.2.2 hT2] at h
    have w1 : kr_S (H (i - 1 - S (i - 1))) (W i) := by
      have a := kf_HW hw hs (show i - 1 - S (i - 1) < m by omega)
      rw [hs.2.1 i _ hi hF2.2.2.2.1, if_neg (by omega)] at a
      exact a
    have w2 : K i ≠ 9 → kr_S (H (i - 1)) (W i) := by
      intro n9
      have a := kf_HW hw hs (show i - 1 < m by omega)
      rw [hs.2.1 i _ hi hF2.2.2.2.2, if_neg (fun z => n9 (of_decide_eq_true z.2))] at a
      exact a
    have e := kp_H (so := so) (g := H (i - 1)) (f := H (i - 1 - S (i - 1))) (a := ar (s + i)) hC hT hk hWi (fun _ => w1) (fun z => w2 (by omega)) ea.2
    have e' : kx_H so xc (K i) (ar (s + i)) (W i) (H (i - 1 - S (i - 1))) (H (i - 1)) = kf_op so yc K (fun i => ar (s + i)) i (W i) (H (i - 1 - S (i - 1))) (H (i - 1)) := e
    rw [e']
    exact h
def kf_V (K S : Nat → Nat) (W H : Nat → Int32) (th : Int32) (ρ : Nat → Nat) (s m i : Nat) (fo ra : Nat → Int32) : Prop := (∀ c, c < i → fo (s + c) = H c) ∧ ra 0 = th ∧ ∀ p, p < m → kf_9 K p = true → p - 1 - S (p - 1) < i → ra (ρ p) = W p &&& H (p - 1 - S (p - 1))
theorem kf_Q {K S : Nat → Nat} {op' : Nat → Int32 → Int32 → Int32 → Int32} {W H : Nat → Int32} {th : Int32} {ρ : Nat → Nat} {s m i r : Nat} {rg : Int32} {ab op fo ra : Nat → Int32} (hm : m ≤ 24) (hw : tr_wf (kf_T K) S m) (hs : tr_Sol op' (kf_T K) S (kf_9 K) m th W H) (hR : kf_R K S s m 0 rg ab op ρ r) (hV : kf_V K S W H th ρ s m i fo ra) (d : Nat) : ∀ k, k < m → m - 1 - k ≤ d → k < i + S k → i ≤ k → ∃ b, b < 24 ∧ ab (s + k) = nI b ∧ ra b = W k := by
  obtain ⟨h1, h2, h3, h4, h5, h6, h7, h8⟩ := hR
  have hroot : ∀ k, k = m - 1 → ∃ b, b < 24 ∧ ab (s + k) = nI b ∧ ra b = W k := by
    intro k e
    exact ⟨0, by omega, by rw [e]; exact h4, by rw [e, hs.1]; exact hV.2.1⟩
  induction d with
  | zero =>
    intro k hk hd _ _
    exact hroot k (by omega)
  | succ d ih =>
    intro k hk hd hki hik
    by_cases e : k = m - 1
    · exact hroot k e
    · obtain ⟨p, hp, hc⟩ := tr_par hw (show k + 1 < m by omega)
      have hl := tr_lt hc
      have hlo := tr_lo hw.2.2 hp hc
      have hW := hs.2.1 p k hp hc
      have hab := h8 p k (by omega) hp hc
      by_cases z : k + 1 = p ∧ kf_9 K p = true
      · rw [if_pos z] at hW hab
        have hF := kf_first hw hp (kf_92 p z.2)
        have hpp := h5 p (by omega) hp z.2
        have e1 : p - 1 = k := by omega
        refine ⟨ρ p, by omega, hab, ?_⟩
        rw [hW]
        refine hV.2.2 p hp z.2 ?_
        have hF1 := hF.1
        rw [e1] at hF1 ⊢
        omega
      · rw [if_neg z] at hW hab
        obtain ⟨b, hb, e1, e2⟩ := ih p hp (by omega) (by omega) (by omega)
        exact ⟨b, hb, by rw [hab]; exact e1, by rw [hW]; exact e2⟩
theorem xw_co24 {post : Int32 → SX → Prop} {th hr hh rg : Int32} {so xc kd ar sp en ab op lk nl : Nat → Int32} {s m r : Nat} {K S ρ : Nat → Nat} {yc W H : Nat → Int32} (hF : kf_F kd ar sp s m K S) (hC : kr_C th xc yc) (hT : kr_T th) (hs : tr_Sol (kf_op so yc K (fun i => ar (s + i))) (kf_T K) S (kf_9 K) m th W H) (hR : kf_R K S s m 0 rg ab op ρ r) (h : ∀ fo ra, post (H (m - 1)) (th, hr, hh, rg, so, xc, kd, ar, sp, en, fo, ab, op, ra, lk, nl)) (d : Nat) : ∀ i, i + d = m → ∀ fo ra, kf_V K S W H th ρ s m i fo ra → wX_carryOut_24 post (nI (s + (m - 1))) th hr hh rg (d + 1) (nI (s + i)) so xc kd ar sp en fo ab op ra lk nl := by
  have hF' := hF
  obtain ⟨hsm, hm, hw, hK⟩ := hF'
  have hm0 := hw.1
  have hR' := hR
  obtain ⟨h1, h2, h3, h4, h5, h6, h7, h8⟩ := hR'
  induction d with
  | zero =>
    intro i hi fo ra hV
    refine br_t (nI_lt (by omega) (by omega)) ⟨vp_in_nI (by omega) (by decide), ?_⟩
    rw [nI_clamp (by omega), hV.1 (m - 1) (by omega)]
    exact h fo ra
  | succ d ih =>
    intro i hi fo ra hV
    have him : i < m := by omega
    have hSi := tr_S hw.2.2 i him
    obtain ⟨b, hb, eb, erb⟩ := kf_Q hm hw hs hR hV (m - 1 - i) i him (Nat.le_refl _) (by omega) (Nat.le_refl _)
    have c2 : (nI (s + i)).toNatClampNeg = s + i := nI_clamp (by omega)
    have v2 : vp_in (nI (s + i)) 144 := vp_in_nI (by omega) (by decide)
    have vb : vp_in (nI b) 24 := vp_in_nI hb (by decide)
    have cb : (nI b).toNatClampNeg = b := nI_clamp (by omega)
    refine br_f (nI_nlt (by omega) (by omega)) ⟨v2, ?_⟩
    rw [c2, eb, cb, erb]
    refine ⟨vb, xw_hold hF hC hT hs him hV.1 ⟨v2, nm_e ⟨v2, ?_⟩⟩⟩
    have hfo' : ∀ c, c < i + 1 → upd fo (s + i) (H i) (s + c) = H c := by
      intro c hc
      by_cases e : c = i
      · rw [e, pk_us]
      · rw [pk_un (by omega)]; exact hV.1 c (by omega)
    by_cases hex : ∃ p, p < m ∧ kf_9 K p = true ∧ i = p - 1 - S (p - 1)
    · obtain ⟨p, hp, h9, ep⟩ := hex
      obtain ⟨a1, a2, a3, a4⟩ := h5 p (by omega) hp h9
      have hFp := kf_first hw hp (kf_92 p h9)
      rw [← ep] at a4
      have eW : W i = W p := by
        rw [ep, hs.2.1 p _ hp hFp.2.2.2.1, if_neg (by omega)]
      rw [a4]
      refine br_f (nI_nle (by omega) (by omega)) ⟨v2, v2, vb, v2, vp_in_nI (by omega) (by decide), nm_e (nm_r (nI_1 (s + i)) ?_)⟩
      rw [nI_clamp (show ρ p < 2 ^ 31 by omega), pk_us]
      refine ih (i + 1) (by omega) _ _ ⟨hfo', ?_, ?_⟩
      · rw [pk_un (by omega)]; exact hV.2.1
      · intro q hq hq9 hqi
        by_cases e : q = p
        · rw [e, pk_us, ← ep, eW]
        · have hFq := kf_first hw hq (kf_92 q hq9)
          have n1 : ρ q ≠ ρ p := fun z => e (h6 q p (by omega) hq (by omega) hp hq9 h9 z)
          rw [pk_un n1]
          refine hV.2.2 q hq hq9 ?_
          have n2 : q - 1 - S (q - 1) ≠ i := by
            intro z
            have hc1 := hFq.2.2.2.1
            have hc2 := hFp.2.2.2.1
            rw [z] at hc1
            rw [← ep] at hc2
            exact e (tr_uni hw.2.2 hq hp hc1 hc2)
          omega
    · have e0 : op (s + i) = 0 := h7 i him fun p _ hp h9 z => hex ⟨p, hp, h9, z⟩
      rw [e0]
      refine br_t (by decide) (nm_r (nI_1 (s + i)) ?_)
      refine ih (i + 1) (by omega) _ _ ⟨hfo', hV.2.1, ?_⟩
      intro q hq hq9 hqi
      have : q - 1 - S (q - 1) ≠ i := fun z => hex ⟨q, hq, hq9, z.symm⟩
      exact hV.2.2 q hq hq9 (by omega)
theorem xw_startOf {post : Int32 → Prop} {th hr hh rg : Int32} {so xc kd ar sp en fo ab op ra lk nl : Nat → Int32} {f s : Nat} (hf : f < 7) (h0 : f = 0 → s = 0) (h1 : 0 < f → en (f - 1) = nI s) (h : post (nI s)) : wpX_startOf post (th, hr, hh, rg, so, xc, kd, ar, sp, en, fo, ab, op, ra, lk, nl) (nI f) := by
  by_cases e : f = 0
  · have e0 := h0 e
    subst e e0
    exact br_t (by decide) h
  · have e1 : nI f - 1 = nI (f - 1) := pk_sub (b := 1) (by omega)
    refine br_f (nI_ne0 (by omega) (by omega)) ?_
    rw [e1, nI_clamp (by omega), h1 (by omega)]
    exact ⟨vp_in_nI (by omega) (by decide), h⟩
theorem xw_carryOut {post : Int32 → SX → Prop} {th hr hh rg : Int32} {so xc kd ar sp en fo ab op ra lk nl : Nat → Int32} {f s m : Nat} {K S : Nat → Nat} {yc W H : Nat → Int32} (hf : f < 6) (h0 : f = 0 → s = 0) (h1 : 0 < f → en (f - 1) = nI s) (he : en f = nI (s + m)) (hF : kf_F kd ar sp s m K S) (hC : kr_C th xc yc) (hT : kr_T th) (hs : tr_Sol (kf_op so yc K (fun i => ar (s + i))) (kf_T K) S (kf_9 K) m th W H) (h : ∀ rg fo ab op ra, post (H (m - 1)) (th, hr, hh, rg, so, xc, kd, ar, sp, en, fo, ab, op, ra, lk, nl)) : wpX_carryOut post (th, hr, hh, rg, so, xc, kd, ar, sp, en, fo, ab, op, ra, lk, nl) (nI f) := by
  have hF' := hF
  obtain ⟨hsm, hm, hw, hK⟩ := hF'
  have hm0 := hw.1
  unfold wpX_carryOut
  dsimp only
  refine xw_startOf (by omega) h0 h1 (And.intro (vp_in_nI hf (by decide)) ?_)
  have e1 : en (nI f).toNatClampNeg - 1 = nI (s + (m - 1)) := by
    rw [nI_clamp (by omega), he, show s + (m - 1) = s + m - 1 by omega]
    exact pk_sub (b := 1) (by omega)
  rw [e1]
  refine nm_e (xw_findRanges hF fun rg' ab' op' ρ r hR => ?_)
  refine ⟨m + 1, xw_co24 hF hC hT hs hR (fun fo ra => h _ _ _ _ _) m 0 (by omega) _ _ ⟨fun c hc => absurd hc (by omega), pk_us (f := ra) (k := 0) (x := th), fun p hp h9 z => absurd z (by omega)⟩⟩
end
section
/-! the reference finds a formula's parts -/
theorem yw_takes {post : Int32 → Prop} {tt tr tg : Int32} {fa yc sz ks ag fi tk ia ho ro di : Nat → Int32} {k : Nat} (hk : k ≤ 9) (h : post (nI (kw_tk k))) : wpY_takes post (tt, tr, tg, fa, yc, sz, ks, ag, fi, tk, ia, ho, ro, di) (nI k) := by
  rcases kw_10 hk with rfl | rfl | rfl | rfl | rfl | rfl | rfl | rfl | rfl | rfl
  · exact br_t (by decide) h
  · exact br_f (by decide) (br_t (by decide) (br_f (by decide) h))
  · exact br_f (by decide) (br_f (by decide) (br_t (by decide) h))
  · exact br_f (by decide) (br_f (by decide) (br_t (by decide) h))
  · exact br_f (by decide) (br_f (by decide) (br_t (by decide) h))
  · exact br_f (by decide) (br_f (by decide) (br_f (by decide) (br_f (by decide) h)))
  · exact br_f (by decide) (br_f (by decide) (br_f (by decide) (br_f (by decide) h)))
  · exact br_f (by decide) (br_f (by decide) (br_f (by decide) (br_f (by decide) h)))
  · exact br_f (by decide) (br_f (by decide) (br_f (by decide) (br_f (by decide) h)))
  · exact br_f (by decide) (br_f (by decide) (br_f (by decide) (br_t (by decide) h)))
def kf_G (ks ag sz : Nat → Int32) (f m : Nat) (K : Nat → Nat) (B : Nat → Int32) : Prop := f < 6 ∧ m ≤ 24 ∧ sz f = nI m ∧ ∀ i, i < m → ks (24 * f + i) = nI (K i) ∧ ag (24 * f + i) = B i ∧ K i ≤ 9 ∧ kf_A (K i) (B i)
def kf_P (K S : Nat → Nat) (i n : Nat) (fi tk ia ro : Nat → Int32) (R : Nat → Nat) : Prop :=
  n ≤ i ∧ (0 < i → 0 < n) ∧ (∀ k, k < n → ro k = nI (R k)) ∧ (∀ k, k < n → R k < i ∧ tk (R k) = -1 ∧ ia (R k) = 0) ∧ (0 < n → R (n - 1) + 1 = i) ∧ (∀ k, k + 1 < n → R k + S (R (k + 1)) = R (k + 1)) ∧ (0 < n → S (R 0) = R 0 + 1) ∧ (∀ p, p < i → kf_T K p = 2 → fi p = nI (p - 1 - S (p - 1))) ∧ (∀ p, p < i → kf_T K p = 1 → fi p = nI (p - 1)) ∧ (∀ p c, p < i → tr_ch (kf_T K) S c p → tk c = nI p ∧ ia c = kw_b (decide (c + 1 = p) && kf_9 K p))
theorem kf_Pm {K S : Nat → Nat} {m i n : Nat} {fi tk ia ro : Nat → Int32} {R : Nat → Nat} (hw : tr_wf (kf_T K) S m) (hi : i ≤ m) (h : kf_P K S i n fi tk ia ro R) (k d : Nat) : k + d + 1 < n → R k < R (k + d + 1) := by
  obtain ⟨h1, h2, h3, h4, h5, h6, h7, h8, h9, h10⟩ := h
  have hs : ∀ k, k + 1 < n → R k < R (k + 1) := by
    intro k hk
    have a := h6 k hk
    have b := (tr_S hw.2.2 (R (k + 1)) (by have := (h4 (k + 1) hk).1; omega)).1
    omega
  induction d with
  | zero => exact hs k
  | succ d ih =>
    intro hk
    have a := ih (by omega)
    have b := hs (k + d + 1) hk
    exact Nat.lt_trans a b
theorem kw_m1n {p : Nat} (h : p < 1000) : nI p ≠ -1 := by
  intro e
  have h1 := nI_pos (n := p) (by omega)
  rw [e] at h1
  exact h1 (by decide)
theorem kf_PS {K S : Nat → Nat} {m i n n0 : Nat} {fi tk ia ro fi' tk' ia' : Nat → Int32} {R : Nat → Nat} (hm : m ≤ 24) (hi : i < m) (h : kf_P K S i n fi tk ia ro R) (hn : n0 ≤ n) (H1 : tk' i = -1 ∧ ia' i = 0) (H2 : ∀ c, c < i → ¬ tr_ch (kf_T K) S c i → tk' c = tk c ∧ ia' c = ia c) (H3 : ∀ c, tr_ch (kf_T K) S c i → tk' c = nI i ∧ ia' c = kw_b (decide (c + 1 = i) && kf_9 K i)) (H4 : (kf_T K i = 2 → fi' i = nI (i - 1 - S (i - 1))) ∧ (kf_T K i = 1 → fi' i = nI (i - 1)) ∧ ∀ p, p < i → fi' p = fi p) (H5 : ∀ k, k < n0 → ¬ tr_ch (kf_T K) S (R k) i) (H6 : ∀ c, tr_ch (kf_T K) S c i → ∃ k, k < n ∧ R k = c) (H7 : 0 < n0 → R (n0 - 1) + S i = i) (H8 : n0 = 0 → S i = i + 1) : kf_P K S (i + 1) (n0 + 1) fi' tk' ia' (upd ro n0 (nI i)) (fun k => if k = n0 then i else R k) := by
  obtain ⟨h1, h2, h3, h4, h5, h6, h7, h8, h9, h10⟩ := h
  have Rn : ∀ k, k ≠ n0 → (fun k => if k = n0 then i else R k) k = R k := fun k e => if_neg e
  have Rs : (fun k => if k = n0 then i else R k) n0 = i := if_pos rfl
  refine ⟨by omega, fun _ => by omega, ?_, ?_, ?_, ?_, ?_, ?_, ?_, ?_⟩
  · intro k hk
    by_cases e : k = n0
    · rw [e, pk_us, Rs]
    · rw [pk_un e, Rn k e]; exact h3 k (by omega)
  · intro k hk
    by_cases e : k = n0
    · rw [e, Rs]; exact ⟨by omega, H1⟩
    · rw [Rn k e]
      obtain ⟨a, b, c⟩ := h4 k (by omega)
      obtain ⟨d1, d2⟩ := H2 (R k) a (H5 k (by omega))
      exact ⟨by omega, by rw [d1]; exact b, by rw [d2]; exact c⟩
  · intro _
    rw [show n0 + 1 - 1 = n0 by omega, Rs]
  · intro k hk
    by_cases e : k + 1 = n0
    · rw [e, Rs, Rn k (by omega)]
      have := H7 (by omega)
      rw [show n0 - 1 = k by omega] at this
      exact this
    · rw [Rn (k + 1) e, Rn k (by omega)]; exact h6 k (by omega)
  · intro _
    by_cases e : 0 = n0
    · rw [show (fun k => if k = n0 then i else R k) 0 = i from if_pos e]
      exact H8 e.symm
    · rw [Rn 0 e]; exact h7 (by omega)
  · intro p hp hT
    by_cases e : p = i
    · subst e; exact H4.1 hT
    · rw [H4.2.2 p (by omega)]; exact h8 p (by omega) hT
  · intro p hp hT
    by_cases e : p = i
    · subst e; exact H4.2.1 hT
    · rw [H4.2.2 p (by omega)]; exact h9 p (by omega) hT
  · intro p c hp hc
    by_cases e : p = i
    · subst e; exact H3 c hc
    · have hlt := tr_lt hc
      obtain ⟨a, b⟩ := h10 p c (by omega) hc
      have nc : ¬ tr_ch (kf_T K) S c i := by
        intro z
        obtain ⟨k, hk, ek⟩ := H6 c z
        have := (h4 k hk).2.1
        rw [ek, a] at this
        exact kw_m1n (by omega) this
      obtain ⟨d1, d2⟩ := H2 c (by omega) nc
      exact ⟨by rw [d1]; exact a, by rw [d2]; exact b⟩
theorem yw_fp122 {post : SY → Prop} {J : Int32 → Int32 → (Nat → Int32) → (Nat → Int32) → (Nat → Int32) → (Nat → Int32) → (Nat → Int32) → (Nat → Int32) → (Nat → Int32) → (Nat → Int32) → (Nat → Int32) → (Nat → Int32) → (Nat → Int32) → Prop} {tt tr tg : Int32} {fa yc sz ks ag fi tk ia ho ro di : Nat → Int32} {x1 : Int32} {n i : Nat} (hn : n < 24) (h : J (nI (n + 1)) (nI (i + 1)) fa yc sz ks ag fi tk ia ho (upd ro n (nI i)) di) : wY_findParts_122 post J x1 (nI n) (nI i) tt tr tg fa yc sz ks ag fi tk ia ho ro di := by
  unfold wY_findParts_122
  rw [nI_clamp (by omega)]
  exact ⟨vp_in_nI hn (by decide), nm_e (nm_r (nI_1 n) (nm_r (nI_1 i) h))⟩
theorem yw_fp83n {post : SY → Prop} {J : Int32 → Int32 → (Nat → Int32) → (Nat → Int32) → (Nat → Int32) → (Nat → Int32) → (Nat → Int32) → (Nat → Int32) → (Nat → Int32) → (Nat → Int32) → (Nat → Int32) → (Nat → Int32) → (Nat → Int32) → Prop} {tt tr tg : Int32} {fa yc sz ks ag fi tk ia ho ro di : Nat → Int32} {x1 : Int32} {n i k : Nat} (hn : n < 24) (hk : k ≤ 9) (hT : kw_tk k < 2) (h : J (nI (n + 1)) (nI (i + 1)) fa yc sz ks ag fi tk ia ho (upd ro n (nI i)) di) : wY_findParts_83 post J x1 (nI n) (nI i) (nI k) tt tr tg fa yc sz ks ag fi tk ia ho ro di := by
  unfold wY_findParts_83
  exact yw_takes hk (br_f (fun z => by have := (nI_eq (b := 2) (by omega) (by decide)).mp z; omega) (yw_fp122 hn h))
theorem yw_fp83 {post : SY → Prop} {J : Int32 → Int32 → (Nat → Int32) → (Nat → Int32) → (Nat → Int32) → (Nat → Int32) → (Nat → Int32) → (Nat → Int32) → (Nat → Int32) → (Nat → Int32) → (Nat → Int32) → (Nat → Int32) → (Nat → Int32) → Prop} {tt tr tg : Int32} {fa yc sz ks ag fi tk ia ho ro di : Nat → Int32} {x1 : Int32} {n i k : Nat} (hn : n < 24) (hi : i < 24) (hi1 : 1 ≤ i) (hk : k ≤ 9) (hT : kw_tk k = 2) (h : J (nI (n + 1)) (nI (i + 1)) fa yc sz ks ag fi (upd tk (i - 1) (nI i)) (upd ia (i - 1) (kw_b (decide (k = 9)))) ho (upd ro n (nI i)) di) : wY_findParts_83 post J x1 (nI n) (nI i) (nI k) tt tr tg fa yc sz ks ag fi tk ia ho ro di := by
  have e1 : nI i - 1 = nI (i - 1) := pk_sub (b := 1) hi1
  have c1 : (nI (i - 1)).toNatClampNeg = i - 1 := nI_clamp (by omega)
  have v1 : vp_in (nI (i - 1)) 24 := vp_in_nI (by omega) (by decide)
  unfold wY_findParts_83
  refine yw_takes hk ?_
  rw [hT, e1, c1]
  refine br_t (by decide) ⟨v1, nm_e (pk_eq k 9 (fun e => ?_) (fun e => ?_))⟩
  · unfold wY_findParts_121
    rw [c1]
    rw [decide_eq_true e] at h
    exact ⟨v1, nm_e (yw_fp122 hn h)⟩
  · unfold wY_findParts_121
    rw [c1]
    rw [decide_eq_false e] at h
    exact ⟨v1, nm_e (yw_fp122 hn h)⟩
theorem kw_ix24 (f i : Nat) : 24 * nI f + nI i = nI (24 * f + i) := by
  show nI 24 * nI f + nI i = _
  rw [pk_mul, nI_add]
theorem yw_fp4 {post : SY → Prop} {tt tr tg : Int32} {fa yc sz ks ag ho di : Nat → Int32} {f m : Nat} {K S : Nat → Nat} {B : Nat → Int32} (hG : kf_G ks ag sz f m K B) (hw : tr_wf (kf_T K) S m) (h : ∀ n fi tk ia ro R, kf_P K S m n fi tk ia ro R → post (tt, tr, tg, fa, yc, sz, ks, ag, fi, tk, ia, ho, ro, di)) (d : Nat) : ∀ i, i + d = m → ∀ n fi tk ia ro R, kf_P K S i n fi tk ia ro R → wY_findParts_4 post (nI f) tt tr tg (d + 1) (nI n) (nI i) fa yc sz ks ag fi tk ia ho ro di := by
  obtain ⟨hf, hm, esz, hK⟩ := hG
  have cf : (nI f).toNatClampNeg = f := nI_clamp (by omega)
  have vf : vp_in (nI f) 6 := vp_in_nI hf (by decide)
  induction d with
  | zero =>
    intro i hi n fi tk ia ro R hP
    have e : i = m := by omega
    subst e
    refine And.intro vf ?_
    rw [cf, esz]
    exact br_t (nI_le (Nat.le_refl _) (by omega)) (h n fi tk ia ro R hP)
  | succ d ih =>
    intro i hi n fi tk ia ro R hP
    have him : i < m := by omega
    obtain ⟨ek, ea, hk, hA⟩ := hK i him
    have ci : (nI i).toNatClampNeg = i := nI_clamp (by omega)
    have vi : vp_in (nI i) 24 := vp_in_nI (by omega) (by decide)
    have cx : (nI (24 * f + i)).toNatClampNeg = 24 * f + i := nI_clamp (by omega)
    have hP' := hP
    obtain ⟨h1, h2, h3, h4, h5, h6, h7, h8, h9, h10⟩ := hP'
    refine And.intro vf ?_
    rw [cf, esz, kw_ix24, cx, ek, ci]
    refine br_f (nI_ge him (by omega)) ⟨vp_in_nI (by omega) (by decide), nm_e ⟨vi, nm_e ⟨vi, nm_e (yw_takes hk ?_)⟩⟩⟩
    rcases hw.2.2 i him with ⟨hT, hS⟩ | ⟨hT, hi1, hS⟩ | ⟨hT, hi1, hS⟩
    · have hT' : kw_tk (K i) = 0 := hT
      rw [hT']
      refine nm_r (e' := nI n) (pk_sub (b := 0) (by omega)) (yw_takes hk ?_)
      rw [hT']
      have noch : ∀ c, ¬ tr_ch (kf_T K) S c i := by
        intro c hc
        rcases hc with hc | hc <;> omega
      refine br_t (by decide) (yw_fp83n (by omega) hk (by omega) (ih (i + 1) (by omega) _ _ _ _ _ _ (kf_PS hm him hP (Nat.le_refl n) ⟨pk_us, pk_us⟩ (fun c hc _ => ⟨pk_un (by omega), pk_un (by omega)⟩) (fun c hc => absurd hc (noch c)) ⟨fun z => by omega, fun z => by omega, fun _ _ => rfl⟩ (fun k _ => noch _) (fun c hc => absurd hc (noch c)) (fun h0 => ?_) (fun h0 => ?_))))
      · have := h5 h0; omega
      · have : i = 0 := by omega
        omega
    · have hT' : kw_tk (K i) = 1 := hT
      have n0 := h2 (by omega)
      have er := h5 n0
      have h9f : kf_9 K i = false := by
        refine kw_bF.mpr fun z => ?_
        have := kf_92 i z
        omega
      have hchl : ∀ c, tr_ch (kf_T K) S c i → c = i - 1 := by
        intro c hc
        rcases hc with hc | hc <;> omega
      have ro1 : ro (n - 1) = nI (i - 1) := by rw [h3 (n - 1) (by omega), show R (n - 1) = i - 1 by omega]
      have c1 : (nI (i - 1)).toNatClampNeg = i - 1 := nI_clamp (by omega)
      have cn : (nI (n - 1)).toNatClampNeg = n - 1 := nI_clamp (by omega)
      have vn : vp_in (nI (n - 1)) 24 := vp_in_nI (by omega) (by decide)
      have v1 : vp_in (nI (i - 1)) 24 := vp_in_nI (by omega) (by decide)
      rw [hT']
      refine nm_r (e' := nI (n - 1)) (pk_sub (b := 1) (by omega)) (yw_takes hk ?_)
      rw [hT', cn, ro1, c1]
      refine br_f (by decide) ⟨vn, vi, nm_e ⟨vn, v1, nm_e (yw_fp83n (by omega) hk (by omega) (ih (i + 1) (by omega) _ _ _ _ _ _ (kf_PS hm him hP (n0 := n - 1) (by omega) ⟨?_, pk_us⟩ (fun c hc nc => ⟨?_, pk_un (by omega)⟩) (fun c hc => ?_) ⟨fun z => by omega, fun _ => pk_us, fun p hp => pk_un (by omega)⟩ (fun k hk => ?_) (fun c hc => ?_) (fun h0 => ?_) (fun h0 => ?_))))⟩⟩
      · rw [pk_un (by omega), pk_us]
      · have : c ≠ i - 1 := fun z => nc (Or.inl ⟨by omega, by omega⟩)
        rw [pk_un this, pk_un (by omega)]
      · have e := hchl c hc
        rw [e, h9f, Bool.and_false, pk_us, pk_un (by omega)]
        have := (h4 (n - 1) (by omega)).2.2
        rw [show R (n - 1) = i - 1 by omega] at this
        exact ⟨rfl, this⟩
      · intro z
        have a := hchl _ z
        have b := kf_Pm hw (by omega) hP k (n - 1 - k - 1) (by omega)
        rw [show k + (n - 1 - k - 1) + 1 = n - 1 by omega] at b
        omega
      · have e := hchl c hc
        exact ⟨n - 1, by omega, by omega⟩
      · have a := h6 (n - 1 - 1) (by omega)
        rw [show n - 1 - 1 + 1 = n - 1 by omega, show R (n - 1) = i - 1 by omega] at a
        omega
      · have a := h7 n0
        rw [show (0 : Nat) = n - 1 by omega, show R (n - 1) = i - 1 by omega] at a
        omega
    · have hT' : kw_tk (K i) = 2 := hT
      have n0 := h2 (by omega)
      have er := h5 n0
      have hs1 := (tr_S hw.2.2 (i - 1) (by omega)).1
      have n2 : 2 ≤ n := by
        refine Classical.byContradiction fun z => ?_
        have a := h7 n0
        rw [show (0 : Nat) = n - 1 by omega, show R (n - 1) = i - 1 by omega] at a
        omega
      have hRn : R (n - 2) = i - 1 - S (i - 1) := by
        have a := h6 (n - 2) (by omega)
        rw [show n - 2 + 1 = n - 1 by omega, show R (n - 1) = i - 1 by omega] at a
        omega
      obtain ⟨q, hq⟩ : ∃ q, q = i - 1 - S (i - 1) := ⟨_, rfl⟩
      have hchl : ∀ c, tr_ch (kf_T K) S c i → c = i - 1 ∨ c = q := by
        intro c hc
        rcases hc with hc | hc <;> omega
      have ro1 : ro (n - 2) = nI q := by rw [h3 (n - 2) (by omega), hRn, hq]
      have c1 : (nI q).toNatClampNeg = q := nI_clamp (by omega)
      have cn : (nI (n - 2)).toNatClampNeg = n - 2 := nI_clamp (by omega)
      have vn : vp_in (nI (n - 2)) 24 := vp_in_nI (by omega) (by decide)
      have v1 : vp_in (nI q) 24 := vp_in_nI (by omega) (by decide)
      rw [hT']
      refine nm_r (e' := nI (n - 2)) (pk_sub (b := 2) (by omega)) (yw_takes hk ?_)
      rw [hT', cn, ro1, c1]
      refine br_f (by decide) ⟨vn, vi, nm_e ⟨vn, v1, nm_e (yw_fp83 (by omega) (by omega) (by omega) hk hT' ?_)⟩⟩
      have hn12 : n - 2 + 1 = n - 1 := by omega
      refine ih (i + 1) (by omega) _ _ _ _ _ _ (kf_PS hm him hP (n0 := n - 2) (by omega) ⟨?_, ?_⟩ (fun c hc nc => ?_) (fun c hc => ?_) ⟨fun _ => ?_, fun z => by omega, fun p hp => pk_un (by omega)⟩ (fun k hk => ?_) (fun c hc => ?_) (fun h0 => ?_) (fun h0 => ?_))
      · rw [pk_un (by omega), pk_un (by omega), pk_us]
      · rw [pk_un (by omega)]; exact pk_us
      · have a1 : c ≠ i - 1 := fun z => nc (Or.inl ⟨by omega, by omega⟩)
        have a2 : c ≠ q := fun z => nc (Or.inr ⟨hT, by omega⟩)
        rw [pk_un a1, pk_un a2, pk_un (by omega), pk_un a1, pk_un (by omega)]
        exact ⟨rfl, rfl⟩
      · rcases hchl c hc with e | e
        · rw [e, pk_us, pk_us, decide_eq_true (show i - 1 + 1 = i by omega), Bool.true_and]
          exact ⟨rfl, rfl⟩
        · have := (h4 (n - 2) (by omega)).2.2
          rw [hRn, ← hq] at this
          rw [e, pk_un (by omega), pk_us, pk_un (by omega), pk_un (by omega), decide_eq_false (show ¬ q + 1 = i by omega), Bool.false_and]
          exact ⟨rfl, this⟩
      · rw [← hq]; exact pk_us
      · intro z
        have b := kf_Pm hw (by omega) hP k (n - 2 - k - 1) (by omega)
        have b2 := kf_Pm hw (by omega) hP (n - 2) 0 (by omega)
        rw [show k + (n - 2 - k - 1) + 1 = n - 2 by omega] at b
        rw [show n - 2 + 0 + 1 = n - 1 by omega] at b2
        rcases hchl _ z with e | e <;> omega
      · rcases hchl c hc with e | e
        · exact ⟨n - 1, by omega, by omega⟩
        · exact ⟨n - 2, by omega, by omega⟩
      · have a := h6 (n - 2 - 1) (by omega)
        rw [show n - 2 - 1 + 1 = n - 2 by omega, hRn] at a
        omega
      · have a := h7 n0
        rw [show (0 : Nat) = n - 2 by omega, hRn] at a
        omega
/-- what findParts leaves -/
def kf_E (K S : Nat → Nat) (m : Nat) (fi tk ia : Nat → Int32) : Prop := tk (m - 1) = -1 ∧ (∀ p, p < m → kf_T K p = 2 → fi p = nI (p - 1 - S (p - 1))) ∧ (∀ p, p < m → kf_T K p = 1 → fi p = nI (p - 1)) ∧ (∀ p c, p < m → tr_ch (kf_T K) S c p → tk c = nI p ∧ ia c = kw_b (decide (c + 1 = p) && kf_9 K p))
theorem yw_findParts {post : SY → Prop} {tt tr tg : Int32} {fa yc sz ks ag fi tk ia ho ro di : Nat → Int32} {f m : Nat} {K S : Nat → Nat} {B : Nat → Int32} (hG : kf_G ks ag sz f m K B) (hw : tr_wf (kf_T K) S m) (h : ∀ fi tk ia ro, kf_E K S m fi tk ia → post (tt, tr, tg, fa, yc, sz, ks, ag, fi, tk, ia, ho, ro, di)) : wpY_findParts post (tt, tr, tg, fa, yc, sz, ks, ag, fi, tk, ia, ho, ro, di) (nI f) := by
  refine ⟨m + 1, yw_fp4 hG hw (fun n fi tk ia ro R hP => h fi tk ia ro ?_) m 0 (by omega) 0 fi tk ia ro (fun _ => 0) ⟨Nat.le_refl 0, fun z => absurd z (by omega), fun k hk => absurd hk (by omega), fun k hk => absurd hk (by omega), fun z => absurd z (by omega), fun k hk => absurd hk (by omega), fun z => absurd z (by omega), fun p hp => absurd hp (by omega), fun p hp => absurd hp (by omega), fun p c hp => absurd hp (by omega)⟩⟩
  obtain ⟨h1, h2, h3, h4, h5, h6, h7, h8, h9, h10⟩ := hP
  have hm0 := hw.1
  have n0 := h2 hm0
  have er := h5 n0
  have a := (h4 (n - 1) (by omega)).2.1
  rw [show R (n - 1) = m - 1 by omega] at a
  exact ⟨a, h8, h9, h10⟩
end
section
/-! the reference works out where a formula holds -/
theorem kr_and {x th : Int32} (h : kr_S x th) : x &&& th = x := by
  refine b_ext fun i _ => ?_
  rw [b_and]
  cases hx : bt x i
  · rfl
  · rw [h i hx]; rfl
theorem kw_and3 (x h w : Int32) : (x &&& h) &&& w = x &&& (w &&& h) := by
  refine b_ext fun i _ => ?_
  rw [b_and, b_and, b_and, b_and]
  cases bt x i <;> cases bt h i <;> cases bt w i <;> rfl
theorem kw_andC (x w : Int32) : x &&& w = w &&& x := by
  refine b_ext fun i _ => ?_
  rw [b_and, b_and, Bool.and_comm]
theorem yw_ab57 {post : Int32 → Prop} {J : Int32 → Int32 → Int32 → Prop} {tt tr tg : Int32} {fa yc sz ks ag fi tk ia ho ro di : Nat → Int32} {k t p : Nat} {z : Int32} (hk : k < 24) (e : tk k = nI p) (h : J z (nI p) (nI (t + 1))) : wY_about_57 post J (nI k) (nI t) z tt tr tg fa yc sz ks ag fi tk ia ho ro di := by
  unfold wY_about_57
  rw [nI_clamp (by omega), e]
  exact ⟨vp_in_nI hk (by decide), nm_e (nm_r (nI_1 t) h)⟩
theorem yw_ab10 {post : Int32 → Prop} {tt tr tg : Int32} {fa yc sz ks ag fi tk ia ho ro di : Nat → Int32} {m i : Nat} {K S : Nat → Nat} {op : Nat → Int32 → Int32 → Int32 → Int32} {W H : Nat → Int32} (hm : m ≤ 24) (hw : tr_wf (kf_T K) S m) (hE : kf_E K S m fi tk ia) (hs : tr_Sol op (kf_T K) S (kf_9 K) m tt W H) (hho : ∀ c, c < i → ho c = H c) (d : Nat) : ∀ k t x, k < m → m - 1 - k ≤ d → k < i + S k → i ≤ k → t ≤ k → kr_S x tt → post (x &&& W k) → wY_about_10 post tt tr tg fa yc sz ks ag fi tk ia ho ro di (d + 1) x (nI k) (nI t) := by
  obtain ⟨hE1, hE2, hE3, hE4⟩ := hE
  have hroot : ∀ n k t x, k = m - 1 → k < m → t ≤ k → kr_S x tt → post (x &&& W k) → wY_about_10 post tt tr tg fa yc sz ks ag fi tk ia ho ro di (n + 1) x (nI k) (nI t) := by
    intro n k t x e hk ht hx h
    rw [e, hs.1, kr_and hx] at h
    refine br_f (nI_ge (b := 24) (by omega) (by decide)) ⟨vp_in_nI (by omega) (by decide), ?_⟩
    rw [nI_clamp (by omega), e, hE1]
    exact br_t (by decide) h
  induction d with
  | zero =>
    intro k t x hk hd hki hik ht hx h
    exact hroot 0 k t x (by omega) hk ht hx h
  | succ d ih =>
    intro k t x hk hd hki hik ht hx h
    by_cases e : k = m - 1
    · exact hroot (d + 1) k t x e hk ht hx h
    · obtain ⟨p, hp, hc⟩ := tr_par hw (show k + 1 < m by omega)
      have hl := tr_lt hc
      have hlo := tr_lo hw.2.2 hp hc
      have hW := hs.2.1 p k hp hc
      obtain ⟨ht1, ht2⟩ := hE4 p k hp hc
      have vk : vp_in (nI k) 24 := vp_in_nI (by omega) (by decide)
      refine br_f (nI_ge (b := 24) (by omega) (by decide)) ⟨vk, ?_⟩
      rw [nI_clamp (by omega), ht1, ht2]
      refine br_f (nI_pos (by omega)) ⟨vk, kw_bz (fun z => ?_) (fun z => ?_)⟩
      · have nz : ¬ (k + 1 = p ∧ kf_9 K p = true) := by
          rintro ⟨z1, z2⟩
          rw [decide_eq_true z1, z2] at z
          exact absurd z (by decide)
        rw [if_neg nz] at hW
        rw [hW] at h
        exact yw_ab57 (by omega) ht1 (ih p (t + 1) x hp (by omega) (by omega) (by omega) (by omega) hx h)
      · rw [Bool.and_eq_true, decide_eq_true_eq] at z
        rw [if_pos z] at hW
        have hF := kf_first hw hp (kf_92 p z.2)
        have ef := hE2 p hp (kf_92 p z.2)
        have e1 : p - 1 = k := by omega
        have hF1 := hF.1
        rw [e1] at hF1 hW ef
        rw [nI_clamp (by omega), ef, nI_clamp (by omega), hho (k - S k) (by omega)]
        refine ⟨vk, vp_in_nI (by omega) (by decide), vp_in_nI (by omega) (by decide), ?_⟩
        refine yw_ab57 (by omega) ht1 (ih p (t + 1) _ hp (by omega) (by omega) (by omega) (by omega) ?_ ?_)
        · intro v hv
          rw [b_and, Bool.and_eq_true] at hv
          exact hx v hv.1
        · rw [kw_and3, ← hW]; exact h
theorem yw_about {post : Int32 → Prop} {tt tr tg : Int32} {fa yc sz ks ag fi tk ia ho ro di : Nat → Int32} {m i : Nat} {K S : Nat → Nat} {op : Nat → Int32 → Int32 → Int32 → Int32} {W H : Nat → Int32} (hm : m ≤ 24) (hw : tr_wf (kf_T K) S m) (hE : kf_E K S m fi tk ia) (hs : tr_Sol op (kf_T K) S (kf_9 K) m tt W H) (hi : i < m) (hho : ∀ c, c < i → ho c = H c) (h : post (W i)) : wpY_about post (tt, tr, tg, fa, yc, sz, ks, ag, fi, tk, ia, ho, ro, di) (nI i) := by
  have hS := (tr_S hw.2.2 i hi).1
  refine ⟨m - 1 - i + 1, yw_ab10 hm hw hE hs hho (m - 1 - i) i 0 tt hi (Nat.le_refl _) (by omega) (Nat.le_refl _) (Nat.zero_le _) (fun v hv => hv) ?_⟩
  rw [kw_andC, kr_and (tr_Wth hw hs hi)]
  exact h
theorem yw_wh82 {post : Int32 → SY → Prop} {J : Int32 → (Nat → Int32) → (Nat → Int32) → (Nat → Int32) → (Nat → Int32) → (Nat → Int32) → (Nat → Int32) → (Nat → Int32) → (Nat → Int32) → (Nat → Int32) → (Nat → Int32) → (Nat → Int32) → Prop} {tt tr tg : Int32} {fa yc sz ks ag fi tk ia ho ro di : Nat → Int32} {f i k : Nat} {st F G a : Int32} (hf : f < 6) (hi : i < 24) (hk : k ≤ 9) (ea : ag (24 * f + i) = a) (ha : k = 0 → ∃ α, α < 32 ∧ a = nI α) (h : J (nI (i + 1)) fa yc sz ks ag fi tk ia (upd ho i (kw_bs 16 (fun v => bt st v && ky_in fa yc k a st F G v))) ro di) : ∃ n, wY_whereHolds_82 post J (nI f) (nI i) st (nI k) F G tt tr tg fa yc sz ks ag fi tk ia ho ro di n 0 0 := by
  have ci : (nI i).toNatClampNeg = i := nI_clamp (by omega)
  refine kw_lp (fun n j x => wY_whereHolds_82 post J (nI f) (nI i) st (nI k) F G tt tr tg fa yc sz ks ag fi tk ia ho ro di n x (nI j)) (fun j => kw_bs j (fun v => bt st v && ky_in fa yc k a st F G v)) 16 (fun n => br_t kw_e16 ⟨vp_in_nI hi (by decide), ?_⟩) ?_
  · rw [ci]
    exact nm_e (nm_r (nI_1 i) h)
  · intro n j hj kk
    refine br_f (kw_n16 hj) (yw_in (by omega) (kw_bz (fun h0 => nm_r (nI_1 j) (kk _ (kw_bsF ?_))) (fun h1 => ?_)))
    · show (bt st j && _) = false
      rw [h0]; rfl
    · rw [kw_ix24, nI_clamp (by omega), ea]
      refine ⟨vp_in_nI (by omega) (by decide), yw_isIn hk hj ha (kw_bz (fun z => nm_r (nI_1 j) (kk _ (kw_bsF ?_))) (fun z x ex => nm_r (nI_1 j) (kk x (ex.trans (kw_bsT ?_)))))⟩
      · show (bt st j && ky_in fa yc k a st F G j) = false
        rw [z, Bool.and_false]
      · show (bt st j && ky_in fa yc k a st F G j) = true
        rw [z, h1]; rfl
theorem yw_wh56 {post : Int32 → SY → Prop} {J : Int32 → (Nat → Int32) → (Nat → Int32) → (Nat → Int32) → (Nat → Int32) → (Nat → Int32) → (Nat → Int32) → (Nat → Int32) → (Nat → Int32) → (Nat → Int32) → (Nat → Int32) → (Nat → Int32) → Prop} {tt tr tg : Int32} {fa yc sz ks ag fi tk ia ho ro di : Nat → Int32} {f i k : Nat} {st F a : Int32} (hf : f < 6) (hi : i < 24) (hk : k ≤ 9) (ea : ag (24 * f + i) = a) (ha : k = 0 → ∃ α, α < 32 ∧ a = nI α) (h : ∀ G, (0 < i → G = ho (i - 1)) → J (nI (i + 1)) fa yc sz ks ag fi tk ia (upd ho i (kw_bs 16 (fun v => bt st v && ky_in fa yc k a st F G v))) ro di) : wY_whereHolds_56 post J (nI f) (nI i) st (nI k) F tt tr tg fa yc sz ks ag fi tk ia ho ro di := by
  unfold wY_whereHolds_56
  by_cases e : i = 0
  · subst e
    exact br_t (by decide) (yw_wh82 hf hi hk ea ha (h 0 (fun z => absurd z (by omega))))
  · have e1 : nI i - 1 = nI (i - 1) := pk_sub (b := 1) (by omega)
    refine br_f (nI_ne0 (by omega) (by omega)) ?_
    rw [e1, nI_clamp (by omega)]
    exact ⟨vp_in_nI (by omega) (by decide), nm_e (yw_wh82 hf hi hk ea ha (h _ (fun _ => rfl)))⟩
theorem yw_wh7 {post : Int32 → SY → Prop} {tt tr tg : Int32} {fa yc sz ks ag fi tk ia ro di : Nat → Int32} {f m : Nat} {K S : Nat → Nat} {B W H : Nat → Int32} (hG : kf_G ks ag sz f m K B) (hw : tr_wf (kf_T K) S m) (hE : kf_E K S m fi tk ia) (hs : tr_Sol (kf_op fa yc K B) (kf_T K) S (kf_9 K) m tt W H) (h : ∀ ho, post (H (m - 1)) (tt, tr, tg, fa, yc, sz, ks, ag, fi, tk, ia, ho, ro, di)) (d : Nat) : ∀ i, i + d = m → ∀ ho, (∀ c, c < i → ho c = H c) → wY_whereHolds_7 post (nI f) tt tr tg (d + 1) (nI i) fa yc sz ks ag fi tk ia ho ro di := by
  obtain ⟨hf, hm, esz, hK⟩ := hG
  have hm0 := hw.1
  have cf : (nI f).toNatClampNeg = f := nI_clamp (by omega)
  have vf : vp_in (nI f) 6 := vp_in_nI hf (by decide)
  induction d with
  | zero =>
    intro i hi ho hho
    have e : i = m := by omega
    subst e
    have e1 : nI i - 1 = nI (i - 1) := pk_sub (b := 1) (by omega)
    refine And.intro vf ?_
    rw [cf, esz, e1, nI_clamp (by omega), hho (i - 1) (by omega)]
    exact br_t (nI_le (Nat.le_refl _) (by omega)) ⟨vf, vp_in_nI (by omega) (by decide), h ho⟩
  | succ d ih =>
    intro i hi ho hho
    have him : i < m := by omega
    obtain ⟨ek, ea, hk, hA⟩ := hK i him
    have ci : (nI i).toNatClampNeg = i := nI_clamp (by omega)
    have vi : vp_in (nI i) 24 := vp_in_nI (by omega) (by decide)
    have cx : (nI (24 * f + i)).toNatClampNeg = 24 * f + i := nI_clamp (by omega)
    have hA0 : K i = 0 → ∃ α, α < 32 ∧ B i = nI α := by
      intro z
      obtain ⟨α, hα, e⟩ := hA.1 z
      exact ⟨α, by omega, e⟩
    have h3 := hs.2.2 i him
    have hnext : ∀ x, x = H i → wY_whereHolds_7 post (nI f) tt tr tg (d + 1) (nI (i + 1)) fa yc sz ks ag fi tk ia (upd ho i x) ro di := by
      intro x ex
      refine ih (i + 1) (by omega) _ fun c hc => ?_
      by_cases e : c = i
      · rw [e, pk_us, ex]
      · rw [pk_un e]; exact hho c (by omega)
    refine And.intro vf ?_
    rw [cf, esz]
    refine br_f (nI_ge him (by omega)) (yw_about hm hw hE hs him hho ?_)
    rw [kw_ix24, cx, ek, ci]
    refine ⟨vp_in_nI (by omega) (by decide), nm_e ?_⟩
    rcases hw.2.2 i him with ⟨hT, hS⟩ | ⟨hT, hi1, hS⟩ | ⟨hT, hi1, hS⟩
    · have k0 := kw_tk0 hT
      refine br_t (by rw [k0]; decide) (yw_wh56 hf (by omega) hk ea hA0 (fun G _ => hnext _ ?_))
      rw [h3.1 hT]
      unfold kf_op
      rw [k0]
      rfl
    · have k0 : K i ≠ 0 := by
        intro z
        have hT' : kw_tk (K i) = 1 := hT
        rw [z] at hT'
        exact absurd hT' (by decide)
      rw [hE.2.2.1 i him hT, nI_clamp (by omega), hho (i - 1) (by omega)]
      refine br_f (nI_ne0 (by omega) (by omega)) ⟨vi, vp_in_nI (by omega) (by decide), yw_wh56 hf (by omega) hk ea hA0 (fun G eG => hnext _ ?_)⟩
      rw [h3.2.1 hT, eG (by omega), hho (i - 1) (by omega)]
      rfl
    · have k0 := (kw_tk2 hT).1
      rw [hE.2.1 i him hT, nI_clamp (by omega), hho (i - 1 - S (i - 1)) (by omega)]
      refine br_f (nI_ne0 (by omega) (by omega)) ⟨vi, vp_in_nI (by omega) (by decide), yw_wh56 hf (by omega) hk ea hA0 (fun G eG => hnext _ ?_)⟩
      rw [h3.2.2 hT, eG (by omega), hho (i - 1) (by omega)]
      rfl
theorem yw_whereHolds {post : Int32 → SY → Prop} {tt tr tg : Int32} {fa yc sz ks ag fi tk ia ho ro di : Nat → Int32} {f m : Nat} {K S : Nat → Nat} {B W H : Nat → Int32} (hG : kf_G ks ag sz f m K B) (hw : tr_wf (kf_T K) S m) (hs : tr_Sol (kf_op fa yc K B) (kf_T K) S (kf_9 K) m tt W H) (h : ∀ fi tk ia ho ro, post (H (m - 1)) (tt, tr, tg, fa, yc, sz, ks, ag, fi, tk, ia, ho, ro, di)) : wpY_whereHolds post (tt, tr, tg, fa, yc, sz, ks, ag, fi, tk, ia, ho, ro, di) (nI f) := by
  unfold wpY_whereHolds
  dsimp only
  refine yw_findParts hG hw fun fi tk ia ro hE => ?_
  exact ⟨m + 1, yw_wh7 hG hw hE hs (fun ho => h _ _ _ _ _) m 0 (by omega) _ (fun c hc => absurd hc (by omega))⟩
end
section
/-! the relation; what a formula on the stack is worth on both sides -/
def kr_ok (K S : Nat → Nat) (s t : Nat) : Prop := (kw_tk (K t) = 0 ∧ S t = 1) ∨ (kw_tk (K t) = 1 ∧ s + 1 ≤ t ∧ S t = S (t - 1) + 1) ∨ (kw_tk (K t) = 2 ∧ s + S (t - 1) + 1 ≤ t ∧ S t = S (t - 1) + S (t - 1 - S (t - 1)) + 1)
/-- the formula of the tokens a .. b - 1 at the component, the f-th of the reference -/
def kr_f (kd ar sp en sz ks ag : Nat → Int32) (K S : Nat → Nat) (f a b : Nat) : Prop := en f = nI b ∧ a < b ∧ b ≤ a + 24 ∧ sz f = nI (b - a) ∧ S (b - 1) = b - a ∧ ∀ t, a ≤ t → t < b → K t ≤ 9 ∧ kd t = nI (K t) ∧ sp t = nI (S t) ∧ kf_A (K t) (ar t) ∧ kr_ok K S a t ∧ ks (24 * f + (t - a)) = kd t ∧ ag (24 * f + (t - a)) = ar t
def kr_K (h : Nat) (kd ar sp en sz ks ag : Nat → Int32) : Prop := h ≤ 6 ∧ ∃ st K S : Nat → Nat, st 0 = 0 ∧ ∀ f, f < h → kr_f kd ar sp en sz ks ag K S f (st f) (st (f + 1))
theorem kr_st {h : Nat} {kd ar sp en sz ks ag : Nat → Int32} {st K S : Nat → Nat} (h0 : st 0 = 0) (hf : ∀ f, f < h → kr_f kd ar sp en sz ks ag K S f (st f) (st (f + 1))) (f : Nat) : f ≤ h → st f ≤ 24 * f := by
  induction f with
  | zero => intro _; omega
  | succ f ih =>
    intro hl
    have a := ih (by omega)
    have b := (hf f (by omega)).2.2.1
    omega
theorem kr_form {h : Nat} {kd ar sp en sz ks ag : Nat → Int32} (hK : kr_K h kd ar sp en sz ks ag) {f : Nat} (hf : f < h) : ∃ s m, ∃ K S : Nat → Nat, kf_F kd ar sp s m K S ∧ kf_G ks ag sz f m K (fun i => ar (s + i)) ∧ (f = 0 → s = 0) ∧ (0 < f → en (f - 1) = nI s) ∧ en f = nI (s + m) := by
  obtain ⟨h6, st, K, S, h0, hall⟩ := hK
  have hs := kr_st h0 hall
  have b2 := hs (f + 1) (by omega)
  obtain ⟨a1, a2, a3, a4, a5, a6⟩ := hall f hf
  have esm : st f + (st (f + 1) - st f) = st (f + 1) := by omega
  refine ⟨st f, st (f + 1) - st f, fun i => K (st f + i), fun i => S (st f + i), ⟨by omega, by omega, ⟨by omega, ?_, ?_⟩, ?_⟩, ⟨by omega, by omega, a4, ?_⟩, ?_, ?_, ?_⟩
  · show S (st f + (st (f + 1) - st f - 1)) = _
    rw [show st f + (st (f + 1) - st f - 1) = st (f + 1) - 1 by omega]
    exact a5
  · intro i hi
    have c := (a6 (st f + i) (by omega) (by omega)).2.2.2.2.1
    rcases c with ⟨c1, c2⟩ | ⟨c1, c2, c3⟩ | ⟨c1, c2, c3⟩
    · exact Or.inl ⟨c1, c2⟩
    · refine Or.inr (Or.inl ⟨c1, by omega, ?_⟩)
      show S (st f + i) = S (st f + (i - 1)) + 1
      rw [show st f + (i - 1) = st f + i - 1 by omega]
      exact c3
    · have e1 : st f + (i - 1) = st f + i - 1 := by omega
      refine Or.inr (Or.inr ⟨c1, ?_, ?_⟩)
      · show S (st f + (i - 1)) + 1 ≤ i
        rw [e1]; omega
      · show S (st f + i) = S (st f + (i - 1)) + S (st f + (i - 1 - S (st f + (i - 1)))) + 1
        rw [e1, show st f + (i - 1 - S (st f + i - 1)) = st f + i - 1 - S (st f + i - 1) by omega]
        exact c3
  · intro i hi
    obtain ⟨c1, c2, c3, c4, c5, c6, c7⟩ := a6 (st f + i) (by omega) (by omega)
    exact ⟨c1, c2, c3, c4⟩
  · intro i hi
    obtain ⟨c1, c2, c3, c4, c5, c6, c7⟩ := a6 (st f + i) (by omega) (by omega)
    rw [show st f + i - st f = i by omega] at c6 c7
    exact ⟨by rw [c6]; exact c2, c7, c1, c4⟩
  · intro z; rw [z]; exact h0
  · intro z
    have := (hall (f - 1) (by omega)).1
    rw [show f - 1 + 1 = f by omega] at this
    exact this
  · rw [esm]; exact a1
def kr_H (th : Int32) (p hg : Nat) (xc kd ar sp en yc sz ks ag : Nat → Int32) : Prop := p < 16 ∧ bt th p = true ∧ kr_T th ∧ kr_C th xc yc ∧ kr_K hg kd ar sp en sz ks ag
def kr_A (th hr hh : Int32) (so xc kd ar sp en : Nat → Int32) (tt tr tg : Int32) (fa yc sz ks ag : Nat → Int32) : Prop := tt = th ∧ tr = hr ∧ tg = hh ∧ fa = so ∧ ∃ p hg : Nat, hr = nI p ∧ hh = nI hg ∧ kr_H th p hg xc kd ar sp en yc sz ks ag
/-- worlds, facts and heights are the same; where a world is there, its part as bits is its part by least worlds; the formulas are the same -/
def i_Rel (k : Nat) (u : SX) (v : SY) : Prop := match u, v with
  | (th, hr, hh, rg, so, xc, kd, ar, sp, en, fo, ab, op, ra, lk, nl), (tt, tr, tg, fa, yc, sz, ks, ag, fi, tk, ia, ho, ro, di) => kr_A th hr hh so xc kd ar sp en tt tr tg fa yc sz ks ag
theorem i_up {k : Nat} {u : SX} {v : SY} (h : i_Rel k u v) : i_Rel (k + 4) u v := h
theorem kr_in {k : Nat} {th rg : Int32} {so xc kd ar sp en fo ab op ra lk nl yc sz ks ag fi tk ia ho ro di : Nat → Int32} {p hg : Nat} (h : kr_H th p hg xc kd ar sp en yc sz ks ag) : i_Rel k (th, nI p, nI hg, rg, so, xc, kd, ar, sp, en, fo, ab, op, ra, lk, nl) (th, nI p, nI hg, so, yc, sz, ks, ag, fi, tk, ia, ho, ro, di) := ⟨rfl, rfl, rfl, rfl, p, hg, rfl, rfl, h⟩
theorem kr_el {P : SX → SY → Prop} {k : Nat} {u : SX} {v : SY} (I : i_Rel k u v) (h : ∀ (th rg : Int32) (so xc kd ar sp en fo ab op ra lk nl yc sz ks ag fi tk ia ho ro di : Nat → Int32) (p hg : Nat), kr_H th p hg xc kd ar sp en yc sz ks ag → P (th, nI p, nI hg, rg, so, xc, kd, ar, sp, en, fo, ab, op, ra, lk, nl) (th, nI p, nI hg, so, yc, sz, ks, ag, fi, tk, ia, ho, ro, di)) : P u v := by
  obtain ⟨th, hr, hh, rg, so, xc, kd, ar, sp, en, fo, ab, op, ra, lk, nl⟩ := u
  obtain ⟨tt, tr, tg, fa, yc, sz, ks, ag, fi, tk, ia, ho, ro, di⟩ := v
  obtain ⟨e1, e2, e3, e4, p, hg, e5, e6, hH⟩ := I
  subst e1 e2 e3 e4 e5 e6
  exact h _ _ _ _ _ _ _ _ _ _ _ _ _ _ _ _ _ _ _ _ _ _ _ _ _ _ hH
/-- the formula on top: one answer for both sides -/
theorem kv_eval {th : Int32} {so xc kd ar sp en lk nl yc sz ks ag di : Nat → Int32} {p hg : Nat} (h : kr_H th p hg xc kd ar sp en yc sz ks ag) (h0 : 0 < hg) : ∃ r : Int32, kr_S r th ∧ (∀ (post : Int32 → SX → Prop) (rg : Int32) (fo ab op ra : Nat → Int32), (∀ rg fo ab op ra, post r (th, nI p, nI hg, rg, so, xc, kd, ar, sp, en, fo, ab, op, ra, lk, nl)) → wpX_carryOut post (th, nI p, nI hg, rg, so, xc, kd, ar, sp, en, fo, ab, op, ra, lk, nl) (nI hg - 1)) ∧ (∀ (post : Int32 → SY → Prop) (fi tk ia ho ro : Nat → Int32), (∀ fi tk ia ho ro, post r (th, nI p, nI hg, so, yc, sz, ks, ag, fi, tk, ia, ho, ro, di)) → wpY_whereHolds post (th, nI p, nI hg, so, yc, sz, ks, ag, fi, tk, ia, ho, ro, di) (nI hg - 1)) := by
  obtain ⟨h1, h2, h3, h4, h5⟩ := h
  obtain ⟨s, m, K, S, hF, hG, g0, g1, g2⟩ := kr_form h5 (show hg - 1 < hg by omega)
  obtain ⟨W, H, hs⟩ := tr_sol hF.2.2.1 (kf_op so yc K (fun i => ar (s + i))) (kf_9 K) kf_92 th
  have hm0 := hF.2.2.1.1
  have e1 : nI hg - 1 = nI (hg - 1) := pk_sub (b := 1) h0
  have h6 := h5.1
  rw [e1]
  refine ⟨H (m - 1), ?_, ?_, ?_⟩
  · have := kf_HW hF.2.2.1 hs (show m - 1 < m by omega)
    rw [hs.1] at this
    exact this
  · intro post rg fo ab op ra hp
    exact xw_carryOut (by omega) g0 g1 g2 hF h4 h3 hs hp
  · intro post fi tk ia ho ro hp
    exact yw_whereHolds hG hF.2.2.1 hs hp
end
section
/-! the calls that ask or change little -/
theorem kw_lp0 {σ : Type} (W : Nat → Nat → σ → Prop) (F : Nat → σ) (e : Nat) (s0 : σ) (h0 : s0 = F 0) (hx : ∀ n, W (n + 1) e (F e)) (hs : ∀ n i, i < e → (∀ s, s = F (i + 1) → W n (i + 1) s) → W (n + 1) i (F i)) : ∃ n, W n 0 s0 := by
  rw [h0]; exact kw_lp W F e hx hs
theorem xw_restart {post : SX → Prop} {th hr hh rg : Int32} {so xc kd ar sp en fo ab op ra lk nl : Nat → Int32} (h : post (65535, 0, hh, rg, kw_fl nI so 16, kw_fl (fun _ => 65535) xc 48, kd, ar, sp, en, fo, ab, op, ra, lk, nl)) : wpX_restart post (th, hr, hh, rg, so, xc, kd, ar, sp, en, fo, ab, op, ra, lk, nl) := by
  refine kw_lp0 (fun n i s => wX_restart_13 post 65535 0 hh rg n (nI i) s xc kd ar sp en fo ab op ra lk nl) (kw_fl nI so) 16 so kw_fl0.symm (fun n => br_t kw_e16 ?_) ?_
  · refine kw_lp0 (fun n i s => wX_restart_34 post 65535 0 hh rg n (nI i) (kw_fl nI so 16) s kd ar sp en fo ab op ra lk nl) (kw_fl (fun _ => 65535) xc) 48 xc kw_fl0.symm (fun n => br_t kw_e48 h) ?_
    intro n i hi k
    refine br_f (kw_n48 hi) ⟨vp_in_nI hi (by decide), fun s es => nm_r (nI_1 i) (k s ?_)⟩
    rw [es, nI_clamp (by omega)]; exact kw_flS rfl
  · intro n i hi k
    refine br_f (kw_n16 hi) ⟨vp_in_nI hi (by decide), fun s es => nm_r (nI_1 i) (k s ?_)⟩
    rw [es, nI_clamp (by omega)]; exact kw_flS rfl
def kw_z3 (yc : Nat → Int32) (i : Nat) : Nat → Int32 := fun j => if j < 48 ∧ j % 16 < i then 0 else yc j
theorem kw_z30 {yc : Nat → Int32} : kw_z3 yc 0 = yc := funext fun j => if_neg (by omega)
theorem kw_z3S {yc : Nat → Int32} {i : Nat} (hi : i < 16) : upd (upd (upd (kw_z3 yc i) i 0) (16 + i) 0) (32 + i) 0 = kw_z3 yc (i + 1) := by
  funext j
  unfold upd kw_z3
  by_cases h1 : j = 32 + i
  · rw [if_pos h1, if_pos (by omega)]
  · rw [if_neg h1]
    by_cases h2 : j = 16 + i
    · rw [if_pos h2, if_pos (by omega)]
    · rw [if_neg h2]
      by_cases h3 : j = i
      · rw [if_pos h3, if_pos (by omega)]
      · rw [if_neg h3]
        by_cases h4 : j < 48 ∧ j % 16 < i
        · rw [if_pos h4, if_pos (by omega)]
        · rw [if_neg h4, if_neg (by omega)]
theorem yw_restart {post : SY → Prop} {tt tr tg : Int32} {fa yc sz ks ag fi tk ia ho ro di : Nat → Int32} (h : post (65535, 0, tg, kw_fl nI fa 16, kw_z3 yc 16, sz, ks, ag, fi, tk, ia, ho, ro, di)) : wpY_restart post (tt, tr, tg, fa, yc, sz, ks, ag, fi, tk, ia, ho, ro, di) := by
  refine kw_lp0 (fun n i (s : (Nat → Int32) × (Nat → Int32)) => wY_restart_13 post 65535 0 tg n (nI i) s.1 s.2 sz ks ag fi tk ia ho ro di) (fun i => (kw_fl nI fa i, kw_z3 yc i)) 16 (fa, yc) (Prod.ext (kw_fl0 (g := nI) (f := fa)).symm kw_z30.symm) (fun n => br_t kw_e16 h) ?_
  intro n i hi k
  have e1 : 16 + nI i = nI (16 + i) := nI_add 16 i
  have e2 : 32 + nI i = nI (32 + i) := nI_add 32 i
  have c0 : (nI i).toNatClampNeg = i := nI_clamp (by omega)
  have c1 : (nI (16 + i)).toNatClampNeg = 16 + i := nI_clamp (by omega)
  have c2 : (nI (32 + i)).toNatClampNeg = 32 + i := nI_clamp (by omega)
  refine br_f (kw_n16 hi) ⟨vp_in_nI hi (by decide), nm_e ⟨vp_in_nI (by omega) (by decide), nm_e ?_⟩⟩
  rw [e1, e2, c0, c1, c2]
  refine ⟨vp_in_nI (by omega) (by decide), nm_e ⟨vp_in_nI (by omega) (by decide), nm_e (nm_r (nI_1 i) ?_)⟩⟩
  exact k (upd (kw_fl nI fa i) i (nI i), upd (upd (upd (kw_z3 yc i) i 0) (16 + i) 0) (32 + i) 0) (Prod.ext (kw_flS rfl) (kw_z3S hi))
theorem kv_fresh {hg : Nat} {xc kd ar sp en yc sz ks ag : Nat → Int32} (hK : kr_K hg kd ar sp en sz ks ag) : kr_H 65535 0 hg (kw_fl (fun _ => 65535) xc 48) kd ar sp en (kw_z3 yc 16) sz ks ag := by
  refine ⟨by omega, by decide +kernel, ?_, ?_, hK⟩
  · intro v hv
    rw [b_65535, decide_eq_false (by omega)]
  · intro a ha w hw _ v
    rw [kw_fli (by omega), b_65535]
    by_cases h : v < 16
    · have e1 : kw_z3 yc 16 (16 * a + w) = 0 := if_pos (by omega)
      have e2 : kw_z3 yc 16 (16 * a + v) = 0 := if_pos (by omega)
      unfold ky_s
      rw [e1, e2, decide_eq_true h, decide_eq_true rfl]
      rfl
    · rw [decide_eq_false h]; rfl
theorem kr_K0 {kd ar sp en sz ks ag : Nat → Int32} : kr_K 0 kd ar sp en sz ks ag := ⟨by omega, fun _ => 0, fun _ => 0, fun _ => 0, rfl, fun f hf => absurd hf (by omega)⟩
theorem i_vc0 : wpX_init (fun u => wpY_init (fun v => i_Rel 0 u v)) := by
  unfold wpX_init
  refine xw_restart ?_
  show wpY_init _
  unfold wpY_init
  refine yw_restart ?_
  exact kr_in (p := 0) (hg := 0) (kv_fresh kr_K0)
theorem i_vc_restart {k : Nat} {u : SX} {v : SY} (I : i_Rel k u v) (hk : k + 4 ≤ 2048) : wpX_restart (fun u' => wpY_restart (fun v' => i_Rel (k + 4) u' v') v) u := by
  refine kr_el (P := fun u v => wpX_restart (fun u' => wpY_restart (fun v' => i_Rel (k + 4) u' v') v) u) I ?_
  intro th rg so xc kd ar sp en fo ab op ra lk nl yc sz ks ag fi tk ia ho ro di p hg hH
  exact xw_restart (yw_restart (kr_in (p := 0) (kv_fresh hH.2.2.2.2)))
theorem i_vc_actual {k : Nat} {u : SX} {v : SY} (I : i_Rel k u v) (hk : k + 4 ≤ 2048) (v1 : Int32) : wpX_actual (fun r u' => wpY_actual (fun r' v' => r' = r ∧ i_Rel (k + 4) u' v') v v1) u v1 := by
  refine kr_el (P := fun u v => wpX_actual (fun r u' => wpY_actual (fun r' v' => r' = r ∧ i_Rel (k + 4) u' v') v v1) u v1) I ?_
  intro th rg so xc kd ar sp en fo ab op ra lk nl yc sz ks ag fi tk ia ho ro di p hg hH
  have hY : ∀ {post : Int32 → SY → Prop}, (kw_th th v1 = false → post (-1) (th, nI p, nI hg, so, yc, sz, ks, ag, fi, tk, ia, ho, ro, di)) → (kw_th th v1 = true → post (nI p) (th, v1, nI hg, so, yc, sz, ks, ag, fi, tk, ia, ho, ro, di)) → wpY_actual post (th, nI p, nI hg, so, yc, sz, ks, ag, fi, tk, ia, ho, ro, di) v1 := by
    intro post f g
    unfold wpY_actual
    exact yw_isThere (kw_bz f g)
  have hno : kw_th th v1 = false → wpY_actual (fun r' v' => r' = -1 ∧ i_Rel (k + 4) (th, nI p, nI hg, rg, so, xc, kd, ar, sp, en, fo, ab, op, ra, lk, nl) v') (th, nI p, nI hg, so, yc, sz, ks, ag, fi, tk, ia, ho, ro, di) v1 := fun e => hY (fun _ => ⟨rfl, kr_in hH⟩) (fun z => absurd (e.symm.trans z) (by decide))
  rcases kw_ix v1 16 (by decide) with hx | ⟨j, hj, hj2, ej⟩ | ⟨j, hj, ej⟩
  · exact br_t hx (hno (kw_th_neg hx))
  · subst ej
    exact br_f (nI_pos hj2) (br_f (nI_nlt (b := 16) hj hj2) (hno (kw_th_big hj hj2)))
  · subst ej
    refine br_f (nI_pos (by omega)) (br_t (nI_lt (b := 16) hj (by decide)) (xw_isThere (kw_bz hno (fun z => ?_))))
    have z' := z
    rw [kw_thN hj] at z'
    exact hY (fun y => absurd (y.symm.trans z) (by decide)) (fun _ => ⟨rfl, kr_in ⟨hj, z', hH.2.2⟩⟩)
theorem kr_Kd {hg : Nat} {kd ar sp en sz ks ag : Nat → Int32} (h : kr_K hg kd ar sp en sz ks ag) : kr_K (hg - 1) kd ar sp en sz ks ag := by
  obtain ⟨h6, st, K, S, h0, hall⟩ := h
  exact ⟨by omega, st, K, S, h0, fun f hf => hall f (by omega)⟩
theorem i_vc_drop {k : Nat} {u : SX} {v : SY} (I : i_Rel k u v) (hk : k + 4 ≤ 2048) : wpX_drop (fun r u' => wpY_drop (fun r' v' => r' = r ∧ i_Rel (k + 4) u' v') v) u := by
  refine kr_el (P := fun u v => wpX_drop (fun r u' => wpY_drop (fun r' v' => r' = r ∧ i_Rel (k + 4) u' v') v) u) I ?_
  intro th rg so xc kd ar sp en fo ab op ra lk nl yc sz ks ag fi tk ia ho ro di p hg hH
  have h6 := hH.2.2.2.2.1
  by_cases e : hg = 0
  · subst e
    exact br_t (by decide) (br_t (by decide) ⟨rfl, kr_in hH⟩)
  · have e1 : nI hg - 1 = nI (hg - 1) := pk_sub (b := 1) (by omega)
    have n0 : ¬ nI hg = 0 := nI_ne0 (by omega) (by omega)
    exact br_f n0 (nm_r e1 (br_f n0 (nm_r e1 ⟨rfl, kr_in ⟨hH.1, hH.2.1, hH.2.2.1, hH.2.2.2.1, kr_Kd hH.2.2.2.2⟩⟩)))
theorem i_vc_worlds {k : Nat} {u : SX} {v : SY} (I : i_Rel k u v) (hk : k + 4 ≤ 2048) : wpX_worlds (fun r => wpY_worlds (fun r' => r' = r ∧ i_Rel (k + 4) u v) v) u := by
  refine kr_el (P := fun u v => wpX_worlds (fun r => wpY_worlds (fun r' => r' = r ∧ i_Rel (k + 4) u v) v) u) I ?_
  intro th rg so xc kd ar sp en fo ab op ra lk nl yc sz ks ag fi tk ia ho ro di p hg hH
  exact xw_ones (yw_count ⟨rfl, kr_in hH⟩)
theorem i_vc_facts {k : Nat} {u : SX} {v : SY} (I : i_Rel k u v) (hk : k + 4 ≤ 2048) (v1 : Int32) : wpX_facts (fun r => wpY_facts (fun r' => r' = r ∧ i_Rel (k + 4) u v) v v1) u v1 := by
  refine kr_el (P := fun u v => wpX_facts (fun r => wpY_facts (fun r' => r' = r ∧ i_Rel (k + 4) u v) v v1) u v1) I ?_
  intro th rg so xc kd ar sp en fo ab op ra lk nl yc sz ks ag fi tk ia ho ro di p hg hH
  unfold wpX_facts wpY_facts
  dsimp only
  refine xw_isThere (kw_bz (fun e => yw_isThere (kw_bz (fun _ => ⟨rfl, kr_in hH⟩) (fun z => absurd (e.symm.trans z) (by decide)))) (fun e => ?_))
  obtain ⟨w, hw, rfl, hb⟩ := kw_th_of e
  have vw : vp_in (nI w) 16 := vp_in_nI hw (by decide)
  exact ⟨vw, yw_isThere (kw_bz (fun z => absurd (e.symm.trans z) (by decide)) (fun _ => ⟨vw, rfl, kr_in hH⟩))⟩
theorem i_vc_together {k : Nat} {u : SX} {v : SY} (I : i_Rel k u v) (hk : k + 4 ≤ 2048) (v1 : Int32) (v2 : Int32) (v3 : Int32) : wpX_together (fun r => wpY_together (fun r' => r' = r ∧ i_Rel (k + 4) u v) v v1 v2 v3) u v1 v2 v3 := by
  refine kr_el (P := fun u v => wpX_together (fun r => wpY_together (fun r' => r' = r ∧ i_Rel (k + 4) u v) v v1 v2 v3) u v1 v2 v3) I ?_
  intro th rg so xc kd ar sp en fo ab op ra lk nl yc sz ks ag fi tk ia ho ro di p hg hH
  unfold wpX_together wpY_together
  dsimp only
  refine xw_isAgent (kw_bz (fun e => yw_isAgent (kw_bz (fun _ => ⟨rfl, kr_in hH⟩) (fun z => absurd (e.symm.trans z) (by decide)))) (fun e1 => ?_))
  refine xw_isThere (kw_bz (fun e => yw_isAgent (kw_bz (fun z => absurd (e1.symm.trans z) (by decide)) (fun _ => yw_isThere (kw_bz (fun _ => ⟨rfl, kr_in hH⟩) (fun z => absurd (e.symm.trans z) (by decide)))))) (fun e2 => ?_))
  refine xw_isThere (kw_bz (fun e => yw_isAgent (kw_bz (fun z => absurd (e1.symm.trans z) (by decide)) (fun _ => yw_isThere (kw_bz (fun z => absurd (e2.symm.trans z) (by decide)) (fun _ => yw_isThere (kw_bz (fun _ => ⟨rfl, kr_in hH⟩) (fun z => absurd (e.symm.trans z) (by decide)))))))) (fun e3 => ?_))
  obtain ⟨a, ha, rfl⟩ := kw_ag_of e1
  obtain ⟨w, hw, rfl, hb⟩ := kw_th_of e2
  obtain ⟨x, hx, rfl, hbx⟩ := kw_th_of e3
  have ec := hH.2.2.2.1 a ha w hw hb x
  rw [hbx, Bool.true_and] at ec
  refine ⟨kw_ixv ha hw, ?_⟩
  rw [kw_ixc ha hw]
  have hY : ∀ {post : Int32 → Prop}, post (kw_b (ky_s yc a w x)) → wpY_isAgent (fun r_1 => (r_1 = 0 → post (-1)) ∧ (¬ r_1 = 0 → wpY_isThere (fun r_17 => (r_17 = 0 → post (-1)) ∧ (¬ r_17 = 0 → wpY_isThere (fun r_33 => (r_33 = 0 → post (-1)) ∧ (¬ r_33 = 0 → wpY_same (fun r_49 => (r_49 = 0 → post 0) ∧ (¬ r_49 = 0 → post 1)) (th, nI p, nI hg, so, yc, sz, ks, ag, fi, tk, ia, ho, ro, di) (nI a) (nI w) (nI x))) (th, nI p, nI hg, so, yc, sz, ks, ag, fi, tk, ia, ho, ro, di) (nI x))) (th, nI p, nI hg, so, yc, sz, ks, ag, fi, tk, ia, ho, ro, di) (nI w))) (th, nI p, nI hg, so, yc, sz, ks, ag, fi, tk, ia, ho, ro, di) (nI a) := by
    intro post hp
    exact yw_isAgent (kw_bz (fun z => absurd (e1.symm.trans z) (by decide)) (fun _ => yw_isThere (kw_bz (fun z => absurd (e2.symm.trans z) (by decide)) (fun _ => yw_isThere (kw_bz (fun z => absurd (e3.symm.trans z) (by decide)) (fun _ => yw_same ha hw hx (kw_bid hp)))))))
  refine xw_in (by omega) ?_
  rw [ec]
  exact kw_bz (fun z => hY (post := fun r' => r' = 0 ∧ i_Rel (k + 4) (th, nI p, nI hg, rg, so, xc, kd, ar, sp, en, fo, ab, op, ra, lk, nl) (th, nI p, nI hg, so, yc, sz, ks, ag, fi, tk, ia, ho, ro, di)) ⟨by rw [z]; rfl, kr_in hH⟩) (fun z => hY (post := fun r' => r' = 1 ∧ i_Rel (k + 4) (th, nI p, nI hg, rg, so, xc, kd, ar, sp, en, fo, ab, op, ra, lk, nl) (th, nI p, nI hg, so, yc, sz, ks, ag, fi, tk, ia, ho, ro, di)) ⟨by rw [z]; rfl, kr_in hH⟩)
theorem i_vc_holds {k : Nat} {u : SX} {v : SY} (I : i_Rel k u v) (hk : k + 4 ≤ 2048) (v1 : Int32) : wpX_holds (fun r u' => wpY_holds (fun r' v' => r' = r ∧ i_Rel (k + 4) u' v') v v1) u v1 := by
  refine kr_el (P := fun u v => wpX_holds (fun r u' => wpY_holds (fun r' v' => r' = r ∧ i_Rel (k + 4) u' v') v v1) u v1) I ?_
  intro th rg so xc kd ar sp en fo ab op ra lk nl yc sz ks ag fi tk ia ho ro di p hg hH
  have h6 := hH.2.2.2.2.1
  by_cases e : hg = 0
  · subst e
    exact br_t (by decide) (br_t (by decide) ⟨rfl, kr_in hH⟩)
  · have n0 : ¬ nI hg = 0 := nI_ne0 (by omega) (by omega)
    obtain ⟨r, hr, hX, hY⟩ := kv_eval (so := so) (lk := lk) (nl := nl) (di := di) hH (by omega)
    unfold wpX_holds wpY_holds
    dsimp only
    refine br_f n0 (xw_isThere (kw_bz (fun e1 => br_f n0 (yw_isThere (kw_bz (fun _ => ⟨rfl, kr_in hH⟩) (fun z => absurd (e1.symm.trans z) (by decide))))) (fun e1 => hX _ _ _ _ _ _ (fun rg fo ab op ra => ?_))))
    obtain ⟨w, hw, rfl, hb⟩ := kw_th_of e1
    have hYp : ∀ {q : Int32}, q = kw_b (bt r w) → (nI hg = 0 → (-1 = q ∧ i_Rel (k + 4) (th, nI p, nI hg, rg, so, xc, kd, ar, sp, en, fo, ab, op, ra, lk, nl) (th, nI p, nI hg, so, yc, sz, ks, ag, fi, tk, ia, ho, ro, di))) ∧ (¬ nI hg = 0 → wpY_isThere (fun r_2 => (r_2 = 0 → (-1 = q ∧ i_Rel (k + 4) (th, nI p, nI hg, rg, so, xc, kd, ar, sp, en, fo, ab, op, ra, lk, nl) (th, nI p, nI hg, so, yc, sz, ks, ag, fi, tk, ia, ho, ro, di))) ∧ (¬ r_2 = 0 → wpY_whereHolds (fun r_18 u => match u with | (tt, tr, tg, fa, yc, sz, ks, ag, fi, tk, ia, ho, ro, di) => (((r_18 >>> (nI w &&& 31)) &&& 1) = q ∧ i_Rel (k + 4) (th, nI p, nI hg, rg, so, xc, kd, ar, sp, en, fo, ab, op, ra, lk, nl) (tt, tr, tg, fa, yc, sz, ks, ag, fi, tk, ia, ho, ro, di))) (th, nI p, nI hg, so, yc, sz, ks, ag, fi, tk, ia, ho, ro, di) (nI hg - 1))) (th, nI p, nI hg, so, yc, sz, ks, ag, fi, tk, ia, ho, ro, di) (nI w)) := by
      intro q eq
      refine br_f n0 (yw_isThere (kw_bz (fun z => absurd (e1.symm.trans z) (by decide)) (fun _ => hY _ _ _ _ _ _ (fun fi tk ia ho ro => ?_))))
      exact ⟨by rw [kw_bit r (by omega), eq], kr_in hH⟩
    exact xw_in (by omega) (kw_bz (fun z => hYp (by rw [z]; rfl)) (fun z => hYp (by rw [z]; rfl)))
theorem i_vc_where {k : Nat} {u : SX} {v : SY} (I : i_Rel k u v) (hk : k + 4 ≤ 2048) : wpX_where (fun r u' => wpY_where (fun r' v' => r' = r ∧ i_Rel (k + 4) u' v') v) u := by
  refine kr_el (P := fun u v => wpX_where (fun r u' => wpY_where (fun r' v' => r' = r ∧ i_Rel (k + 4) u' v') v) u) I ?_
  intro th rg so xc kd ar sp en fo ab op ra lk nl yc sz ks ag fi tk ia ho ro di p hg hH
  have h6 := hH.2.2.2.2.1
  by_cases e : hg = 0
  · subst e
    exact br_t (by decide) (br_t (by decide) ⟨rfl, kr_in hH⟩)
  · have n0 : ¬ nI hg = 0 := nI_ne0 (by omega) (by omega)
    obtain ⟨r, hr, hX, hY⟩ := kv_eval (so := so) (lk := lk) (nl := nl) (di := di) hH (by omega)
    unfold wpX_where wpY_where
    dsimp only
    refine br_f n0 (hX _ _ _ _ _ _ (fun rg fo ab op ra => ?_))
    exact br_f n0 (hY _ _ _ _ _ _ (fun fi tk ia ho ro => ⟨rfl, kr_in hH⟩))
end
section
/-! say, classes, learn, turn -/
theorem kr_say {th r : Int32} {p hg : Nat} {xc kd ar sp en yc sz ks ag : Nat → Int32} (hH : kr_H th p hg xc kd ar sp en yc sz ks ag) (hr : kr_S r th) (hp : bt r p = true) : kr_H r p hg (kw_fl (fun c => xc c &&& r) xc 48) kd ar sp en yc sz ks ag := by
  obtain ⟨h1, h2, h3, h4, h5⟩ := hH
  refine ⟨h1, hp, ?_, ?_, h5⟩
  · intro v hv
    refine kw_bF.mpr fun z => ?_
    have := h3 v hv
    rw [hr v z] at this
    exact absurd this (by decide)
  · intro a ha w hw hb v
    rw [kw_fli (by omega), b_and, h4 a ha w hw (hr w hb) v]
    cases hv : bt r v
    · rw [Bool.and_false, Bool.false_and]
    · rw [hr v hv, Bool.true_and, Bool.and_true]
theorem i_vc_say {k : Nat} {u : SX} {v : SY} (I : i_Rel k u v) (hk : k + 4 ≤ 2048) : wpX_say (fun r u' => wpY_say (fun r' v' => r' = r ∧ i_Rel (k + 4) u' v') v) u := by
  refine kr_el (P := fun u v => wpX_say (fun r u' => wpY_say (fun r' v' => r' = r ∧ i_Rel (k + 4) u' v') v) u) I ?_
  intro th rg so xc kd ar sp en fo ab op ra lk nl yc sz ks ag fi tk ia ho ro di p hg hH
  have h6 := hH.2.2.2.2.1
  have hp16 := hH.1
  by_cases e : hg = 0
  · subst e
    exact br_t (by decide) (br_t (by decide) ⟨rfl, kr_in hH⟩)
  · have n0 : ¬ nI hg = 0 := nI_ne0 (by omega) (by omega)
    obtain ⟨r, hr, hX, hY⟩ := kv_eval (so := so) (lk := lk) (nl := nl) (di := di) hH (by omega)
    unfold wpX_say wpY_say
    dsimp only
    refine br_f n0 (hX _ _ _ _ _ _ (fun rg fo ab op ra => xw_in (by omega) (kw_bz (fun z => ?_) (fun z => ?_))))
    · exact br_f n0 (hY _ _ _ _ _ _ (fun fi tk ia ho ro => yw_in (by omega) (kw_bz (fun _ => ⟨rfl, kr_in hH⟩) (fun y => absurd (z.symm.trans y) (by decide)))))
    · refine kw_lp0 (fun n i s => wX_say_41 _ r r (nI p) (nI hg) rg n (nI i) so s kd ar sp en fo ab op ra lk nl) (kw_fl (fun c => xc c &&& r) xc) 48 xc kw_fl0.symm (fun n => br_t kw_e48 (xw_ones ?_)) ?_
      · exact br_f n0 (hY _ _ _ _ _ _ (fun fi tk ia ho ro => yw_in (by omega) (kw_bz (fun y => absurd (y.symm.trans z) (by decide)) (fun _ => yw_count ⟨rfl, kr_in (kr_say hH hr z)⟩))))
      · intro n i hi kk
        refine br_f (kw_n48 hi) ⟨vp_in_nI hi (by decide), vp_in_nI hi (by decide), fun s es => nm_r (nI_1 i) (kk s ?_)⟩
        rw [es, nI_clamp (by omega)]
        refine kw_flS ?_
        rw [kw_flo (by omega)]
/-! classes -/
def kx_cl (th : Int32) (xc : Nat → Int32) (a w : Nat) : Bool := bt th w && decide ((xc (16 * a + w) &&& (((1 : Int32) <<< (nI w &&& 31)) - 1)) = 0)
def ky_cl (th : Int32) (yc : Nat → Int32) (a w : Nat) : Bool := bt th w && kw_al w (fun v => !(bt th v && ky_s yc a w v))
theorem kw_mask : ∀ w, w < 16 → ∀ v, v < 32 → bt (((1 : Int32) <<< (nI w &&& 31)) - 1) v = decide (v < w) := by decide +kernel
theorem kp_cl {th : Int32} {xc yc : Nat → Int32} (hC : kr_C th xc yc) {a w : Nat} (ha : a < 3) (hw : w < 16) : kx_cl th xc a w = ky_cl th yc a w := by
  unfold kx_cl ky_cl
  cases hb : bt th w
  · rfl
  · rw [Bool.true_and, Bool.true_and]
    apply kp_beq
    rw [decide_eq_true_eq, kw_nz, kw_alI]
    constructor
    · intro h v hv
      have := h v (by omega)
      rw [b_and, hC a ha w hw hb v, kw_mask w hw v (by omega), decide_eq_true hv, Bool.and_true] at this
      rw [this]; rfl
    · intro h v hv
      rw [b_and, hC a ha w hw hb v, kw_mask w hw v hv]
      by_cases hl : v < w
      · have := h v hl
        rw [decide_eq_true hl, Bool.and_true]
        cases hz : (bt th v && ky_s yc a w v)
        · rfl
        · rw [hz] at this; exact absurd this (by decide)
      · rw [decide_eq_false hl, Bool.and_false]
theorem xw_cl13 {post : Int32 → Prop} {th hr hh rg : Int32} {so xc kd ar sp en fo ab op ra lk nl : Nat → Int32} {a : Nat} (ha : a < 3) (h : post (nI (kw_cnt 16 (kx_cl th xc a)))) : ∃ n, wX_classes_13 post (nI a) th hr hh rg so xc kd ar sp en fo ab op ra lk nl n 0 0 := by
  refine kw_lp (fun n i x => wX_classes_13 post (nI a) th hr hh rg so xc kd ar sp en fo ab op ra lk nl n x (nI i)) (fun i => nI (kw_cnt i (kx_cl th xc a))) 16 (fun n => br_t kw_e16 h) ?_
  intro n i hi k
  refine br_f (kw_n16 hi) (xw_in (by omega) (kw_bz (fun h0 => nm_r (nI_1 i) (k _ (kw_cntF ?_))) (fun h1 => ⟨kw_ixv ha hi, ?_⟩)))
  · unfold kx_cl; rw [h0]; rfl
  · rw [kw_ixc ha hi]
    refine br_c (fun hz x ex => nm_r (nI_1 i) (k x (ex.trans (kw_cntT ?_)))) (fun hz => nm_r (nI_1 i) (k _ (kw_cntF ?_)))
    · unfold kx_cl; rw [h1, decide_eq_true hz]; rfl
    · unfold kx_cl; rw [h1, decide_eq_false hz]; rfl
theorem yw_cl30 {post : Int32 → Prop} {J : Int32 → Int32 → Prop} {tt tr tg : Int32} {fa yc sz ks ag fi tk ia ho ro di : Nat → Int32} {a w : Nat} {x2 : Int32} (ha : a < 3) (hw : w < 16) (h : ∀ y, y = x2 + kw_b (ky_cl tt yc a w) → J y (nI (w + 1))) : ∃ n, wY_classes_30 post J (nI a) x2 (nI w) tt tr tg fa yc sz ks ag fi tk ia ho ro di n (kw_b (bt tt w)) 0 := by
  refine kw_lp0 (fun n i x => wY_classes_30 post J (nI a) x2 (nI w) tt tr tg fa yc sz ks ag fi tk ia ho ro di n x (nI i)) (fun i => kw_b (bt tt w && kw_al i (fun v => !(bt tt v && ky_s yc a w v)))) w (kw_b (bt tt w)) (by show _ = kw_b (bt tt w && true); rw [Bool.and_true]) (fun n => br_t (nI_le (Nat.le_refl w) (by omega)) (kw_bz (fun z => nm_r (nI_1 w) (h _ ?_)) (fun z y ey => nm_r (nI_1 w) (h y (ey.trans ?_))))) ?_
  · have e : ky_cl tt yc a w = false := z
    rw [e]; exact (Int32.add_zero x2).symm
  · have e : ky_cl tt yc a w = true := z
    rw [e]; rfl
  · intro n i hi k
    have hstep : ∀ c : Bool, c = (bt tt w && (kw_al i (fun v => !(bt tt v && ky_s yc a w v)) && !(bt tt i && ky_s yc a w i))) → ∀ y, y = nI (i + 1) → wY_classes_30 post J (nI a) x2 (nI w) tt tr tg fa yc sz ks ag fi tk ia ho ro di n (kw_b c) y := by
      intro c ec y ey
      rw [ey]
      exact k _ (by rw [ec]; rfl)
    refine br_f (nI_ge hi (by omega)) (kw_bz (fun z => nm_r (nI_1 i) (hstep false ?_ _ rfl)) (fun z => yw_isThereN (by omega) (kw_bz (fun z1 => nm_r (nI_1 i) (hstep true ?_ _ rfl)) (fun z1 => yw_same ha hw (by omega) (kw_bz (fun z2 => nm_r (nI_1 i) (hstep true ?_ _ rfl)) (fun z2 => nm_r (nI_1 i) (hstep false ?_ _ rfl)))))))
    · rw [← Bool.and_assoc, z]; rfl
    · rw [← Bool.and_assoc, z, z1]; rfl
    · rw [← Bool.and_assoc, z, z1, z2]; rfl
    · rw [← Bool.and_assoc, z, z1, z2]; rfl
theorem yw_cl14 {post : Int32 → Prop} {tt tr tg : Int32} {fa yc sz ks ag fi tk ia ho ro di : Nat → Int32} {a : Nat} (ha : a < 3) (h : post (nI (kw_cnt 16 (ky_cl tt yc a)))) : ∃ n, wY_classes_14 post (nI a) tt tr tg fa yc sz ks ag fi tk ia ho ro di n 0 0 := by
  refine kw_lp (fun n i x => wY_classes_14 post (nI a) tt tr tg fa yc sz ks ag fi tk ia ho ro di n x (nI i)) (fun i => nI (kw_cnt i (ky_cl tt yc a))) 16 (fun n => br_t kw_e16 h) ?_
  intro n i hi k
  exact br_f (kw_n16 hi) (yw_isThereN hi (yw_cl30 ha hi (fun y ey => k y (ey.trans kw_cntS))))
theorem xw_classes {post : Int32 → Prop} {th hr hh rg : Int32} {so xc kd ar sp en fo ab op ra lk nl : Nat → Int32} {yc : Nat → Int32} {a : Nat} (hC : kr_C th xc yc) (ha : a < 3) (h : post (nI (kw_cnt 16 (ky_cl th yc a)))) : wpX_classes post (th, hr, hh, rg, so, xc, kd, ar, sp, en, fo, ab, op, ra, lk, nl) (nI a) := by
  have e : kw_ag (nI a) = true := by
    unfold kw_ag
    rw [decide_eq_true (nI_pos (by omega)), decide_eq_true (show nI a < 3 from nI_lt (b := 3) ha (by decide))]; rfl
  rw [← kw_cntX (fun i hi => kp_cl hC ha hi)] at h
  unfold wpX_classes
  dsimp only
  exact xw_isAgent (kw_bz (fun z => absurd (z.symm.trans e) (by decide)) (fun _ => xw_cl13 ha h))
theorem yw_classes {post : Int32 → Prop} {tt tr tg : Int32} {fa yc sz ks ag fi tk ia ho ro di : Nat → Int32} {a : Nat} (ha : a < 3) (h : post (nI (kw_cnt 16 (ky_cl tt yc a)))) : wpY_classes post (tt, tr, tg, fa, yc, sz, ks, ag, fi, tk, ia, ho, ro, di) (nI a) := by
  have e : kw_ag (nI a) = true := by
    unfold kw_ag
    rw [decide_eq_true (nI_pos (by omega)), decide_eq_true (show nI a < 3 from nI_lt (b := 3) ha (by decide))]; rfl
  unfold wpY_classes
  dsimp only
  exact yw_isAgent (kw_bz (fun z => absurd (z.symm.trans e) (by decide)) (fun _ => yw_cl14 ha h))
theorem i_vc_classes {k : Nat} {u : SX} {v : SY} (I : i_Rel k u v) (hk : k + 4 ≤ 2048) (v1 : Int32) : wpX_classes (fun r => wpY_classes (fun r' => r' = r ∧ i_Rel (k + 4) u v) v v1) u v1 := by
  refine kr_el (P := fun u v => wpX_classes (fun r => wpY_classes (fun r' => r' = r ∧ i_Rel (k + 4) u v) v v1) u v1) I ?_
  intro th rg so xc kd ar sp en fo ab op ra lk nl yc sz ks ag fi tk ia ho ro di p hg hH
  cases e : kw_ag v1
  · unfold wpX_classes wpY_classes
    dsimp only
    exact xw_isAgent (kw_bz (fun _ => yw_isAgent (kw_bz (fun _ => ⟨rfl, kr_in hH⟩) (fun z => absurd (e.symm.trans z) (by decide)))) (fun z => absurd (e.symm.trans z) (by decide)))
  · obtain ⟨a, ha, rfl⟩ := kw_ag_of e
    exact xw_classes hH.2.2.2.1 ha (yw_classes ha ⟨rfl, kr_in hH⟩)
/-! learn -/
def ky_dn (P : Nat → Bool) (w : Nat) : Nat → Nat
  | 0 => w
  | d + 1 => if P (15 - d) = true then 15 - d else ky_dn P w d
theorem ky_dnP (P : Nat → Bool) (w d : Nat) : d ≤ 16 → (ky_dn P w d = w ∧ ∀ v, 16 - d ≤ v → v < 16 → P v = false) ∨ (16 - d ≤ ky_dn P w d ∧ ky_dn P w d < 16 ∧ P (ky_dn P w d) = true ∧ ∀ v, 16 - d ≤ v → v < ky_dn P w d → P v = false) := by
  induction d with
  | zero => intro _; exact Or.inl ⟨rfl, fun v h1 h2 => absurd h1 (by omega)⟩
  | succ d ih =>
    intro hd
    have ih := ih (by omega)
    cases hp : P (15 - d)
    · have e : ky_dn P w (d + 1) = ky_dn P w d := if_neg (by rw [hp]; decide)
      rw [e]
      rcases ih with ⟨h1, h2⟩ | ⟨h1, h2, h3, h4⟩
      · refine Or.inl ⟨h1, fun v h5 h6 => ?_⟩
        by_cases e2 : v = 15 - d
        · rw [e2]; exact hp
        · exact h2 v (by omega) h6
      · refine Or.inr ⟨by omega, h2, h3, fun v h5 h6 => ?_⟩
        by_cases e2 : v = 15 - d
        · rw [e2]; exact hp
        · exact h4 v (by omega) h6
    · have e : ky_dn P w (d + 1) = 15 - d := if_pos hp
      rw [e]
      exact Or.inr ⟨by omega, by omega, hp, fun v h5 h6 => absurd h5 (by omega)⟩
def ky_lc (th : Int32) (yc : Nat → Int32) (a : Nat) (r : Int32) (w v : Nat) : Bool := bt th v && (ky_s yc a w v && (bt r w == bt r v))
def ky_ll (th : Int32) (yc : Nat → Int32) (a : Nat) (r : Int32) (w : Nat) : Nat := ky_dn (ky_lc th yc a r w) w 16
theorem kw_uu (f : Nat → Int32) (k : Nat) (x y : Int32) : upd (upd f k x) k y = upd f k y := by
  funext j
  unfold upd
  by_cases h : j = k
  · rw [if_pos h, if_pos h]
  · rw [if_neg h, if_neg h, if_neg h]
theorem yw_le50 {post : Int32 → SY → Prop} {J : Int32 → (Nat → Int32) → (Nat → Int32) → (Nat → Int32) → (Nat → Int32) → (Nat → Int32) → (Nat → Int32) → (Nat → Int32) → (Nat → Int32) → (Nat → Int32) → (Nat → Int32) → (Nat → Int32) → Prop} {tt tr tg : Int32} {fa yc sz ks ag fi tk ia ho ro di : Nat → Int32} {a w : Nat} {r : Int32} (ha : a < 3) (hw : w < 16) (h : J (nI (w + 1)) fa yc sz ks ag fi tk ia ho (upd ro w (nI (ky_ll tt yc a r w))) di) (j : Nat) : j ≤ 16 → wY_learn_50 post J (nI a) r (nI w) tt tr tg (j + 1) (nI j + (-1)) fa yc sz ks ag fi tk ia ho (upd ro w (nI (ky_dn (ky_lc tt yc a r w) w (16 - j)))) di := by
  induction j with
  | zero =>
    intro _
    exact br_t (by decide) (nm_r (nI_1 w) h)
  | succ j ih =>
    intro hj
    have ih := ih (by omega)
    rw [pk_m1]
    have ed : ky_dn (ky_lc tt yc a r w) w (16 - j) = if ky_lc tt yc a r w j = true then j else ky_dn (ky_lc tt yc a r w) w (16 - (j + 1)) := by
      rw [show 16 - j = (15 - j) + 1 by omega, show 16 - (j + 1) = 15 - j by omega]
      show (if ky_lc tt yc a r w (15 - (15 - j)) = true then 15 - (15 - j) else _) = _
      rw [show 15 - (15 - j) = j by omega]
    have cw : (nI w).toNatClampNeg = w := nI_clamp (by omega)
    have vw : vp_in (nI w) 24 := vp_in_nI (by omega) (by decide)
    have hno : ky_lc tt yc a r w j = false → ∀ y, y = nI j + (-1) → wY_learn_50 post J (nI a) r (nI w) tt tr tg (j + 1) y fa yc sz ks ag fi tk ia ho (upd (upd ro w (nI (ky_dn (ky_lc tt yc a r w) w (16 - (j + 1))))) w ((upd ro w (nI (ky_dn (ky_lc tt yc a r w) w (16 - (j + 1))))) w)) di := by
      intro z y ey
      rw [z, if_neg (by decide)] at ed
      rw [ed] at ih
      rw [ey, kw_us]
      exact ih
    have hyes : ky_lc tt yc a r w j = true → ∀ y, y = nI j + (-1) → wY_learn_50 post J (nI a) r (nI w) tt tr tg (j + 1) y fa yc sz ks ag fi tk ia ho (upd (upd ro w (nI (ky_dn (ky_lc tt yc a r w) w (16 - (j + 1))))) w (nI j)) di := by
      intro z y ey
      rw [z, if_pos rfl] at ed
      rw [ed] at ih
      rw [ey, kw_uu]
      exact ih
    refine br_f (nI_pos (by omega)) (yw_isThereN (by omega) ?_)
    rw [cw]
    refine kw_bz (fun z1 => ⟨vw, vw, nm_e (hno ?_)⟩) (fun z1 => yw_same ha hw (by omega) (kw_bz (fun z2 => ⟨vw, vw, nm_e (hno ?_)⟩) (fun z2 => yw_in (by omega) (yw_in (by omega) (kw_beq (fun z3 => ⟨vw, nm_e (hyes ?_)⟩) (fun z3 => ⟨vw, vw, nm_e (hno ?_)⟩))))))
    · unfold ky_lc; rw [z1]; rfl
    · unfold ky_lc; rw [z1, z2]; rfl
    · unfold ky_lc; rw [z1, z2, beq_iff_eq.mpr z3]; rfl
    · unfold ky_lc; rw [z1, z2, beq_eq_false_iff_ne.mpr z3]; rfl
def ky_lr (th : Int32) (yc : Nat → Int32) (a : Nat) (r : Int32) : Nat → Int32 := kw_fo (16 * a) (fun j => nI (ky_ll th yc a r (j - 16 * a))) yc 16
theorem yw_learn33 {post : Int32 → SY → Prop} {tt tr tg : Int32} {fa yc sz ks ag fi tk ia ho ro di : Nat → Int32} {a : Nat} {r : Int32} (ha : a < 3) (h : ∀ ro, wpY_classes (fun r_35 => post r_35 (tt, tr, tg, fa, ky_lr tt yc a r, sz, ks, ag, fi, tk, ia, ho, ro, di)) (tt, tr, tg, fa, ky_lr tt yc a r, sz, ks, ag, fi, tk, ia, ho, ro, di) (nI a)) : ∃ n, wY_learn_33 post (nI a) r tt tr tg n 0 fa yc sz ks ag fi tk ia ho ro di := by
  refine kw_lp0 (fun n i s => wY_learn_33 post (nI a) r tt tr tg n (nI i) fa yc sz ks ag fi tk ia ho s di) (kw_fl (fun w => nI (ky_ll tt yc a r w)) ro) 16 ro kw_fl0.symm (fun n => br_t kw_e16 ?_) ?_
  · refine kw_lp0 (fun n i s => wY_learn_122 post (nI a) tt tr tg n (nI i) fa s sz ks ag fi tk ia ho (kw_fl (fun w => nI (ky_ll tt yc a r w)) ro 16) di) (kw_fo (16 * a) (fun j => nI (ky_ll tt yc a r (j - 16 * a))) yc) 16 yc kw_fo0.symm (fun n => br_t kw_e16 (h _)) ?_
    intro n i hi k
    refine br_f (kw_n16 hi) ⟨vp_in_nI (by omega) (by decide), kw_ixv ha hi, fun s es => nm_r (nI_1 i) (k s ?_)⟩
    rw [es, kw_ixc ha hi, nI_clamp (by omega), kw_fli hi]
    refine kw_foS ?_
    rw [show 16 * a + i - 16 * a = i by omega]
  · intro n i hi k
    refine br_f (kw_n16 hi) ⟨vp_in_nI (by omega) (by decide), nm_e ⟨17, ?_⟩⟩
    rw [nI_clamp (by omega)]
    exact yw_le50 ha hi (k _ (kw_flS rfl)) 16 (Nat.le_refl 16)
def kx_lr (xc : Nat → Int32) (a : Nat) (r : Int32) : Nat → Int32 := kw_fo (16 * a) (fun j => xc j &&& (if bt r (j - 16 * a) = true then r else r ^^^ (-1))) xc 16
theorem xw_learn32 {post : Int32 → SX → Prop} {th hr hh rg : Int32} {so xc kd ar sp en fo ab op ra lk nl : Nat → Int32} {a : Nat} {r : Int32} (ha : a < 3) (h : wpX_classes (fun r_22 => post r_22 (th, hr, hh, rg, so, kx_lr xc a r, kd, ar, sp, en, fo, ab, op, ra, lk, nl)) (th, hr, hh, rg, so, kx_lr xc a r, kd, ar, sp, en, fo, ab, op, ra, lk, nl) (nI a)) : ∃ n, wX_learn_32 post (nI a) r th hr hh rg n 0 so xc kd ar sp en fo ab op ra lk nl := by
  refine kw_lp0 (fun n i s => wX_learn_32 post (nI a) r th hr hh rg n (nI i) so s kd ar sp en fo ab op ra lk nl) (kw_fo (16 * a) (fun j => xc j &&& (if bt r (j - 16 * a) = true then r else r ^^^ (-1))) xc) 16 xc kw_fo0.symm (fun n => br_t kw_e16 h) ?_
  intro n i hi k
  have e0 : 16 * a + i - 16 * a = i := by omega
  have hrd : kw_fo (16 * a) (fun j => xc j &&& (if bt r (j - 16 * a) = true then r else r ^^^ (-1))) xc i (16 * a + i) = xc (16 * a + i) := kw_foo (by omega)
  refine br_f (kw_n16 hi) ⟨kw_ixv ha hi, xw_in (by omega) ?_⟩
  rw [kw_ixc ha hi, hrd]
  refine kw_bz (fun z => ⟨kw_ixv ha hi, fun s es => nm_r (nI_1 i) (k s ?_)⟩) (fun z => ⟨kw_ixv ha hi, fun s es => nm_r (nI_1 i) (k s ?_)⟩)
  · rw [es]
    refine kw_foS ?_
    rw [e0, z, if_neg (by decide)]
  · rw [es]
    refine kw_foS ?_
    rw [e0, z, if_pos rfl]
theorem kp_llP {th : Int32} {yc : Nat → Int32} {a : Nat} {r : Int32} {w : Nat} (hw : w < 16) (hb : bt th w = true) : ky_ll th yc a r w < 16 ∧ ky_lc th yc a r w (ky_ll th yc a r w) = true ∧ ∀ v, v < ky_ll th yc a r w → ky_lc th yc a r w v = false := by
  have hself : ky_lc th yc a r w w = true := by
    unfold ky_lc ky_s
    rw [hb, decide_eq_true rfl, beq_self_eq_true]; rfl
  rcases ky_dnP (ky_lc th yc a r w) w 16 (Nat.le_refl _) with ⟨h1, h2⟩ | ⟨_, a2, a3, a4⟩
  · have := h2 w (by omega) hw
    rw [hself] at this
    exact absurd this (by decide)
  · exact ⟨a2, a3, fun v hv => a4 v (by omega) hv⟩
theorem kp_ll {th : Int32} {yc : Nat → Int32} {a : Nat} {r : Int32} {w v : Nat} (hw : w < 16) (hv : v < 16) (hb : bt th w = true) (hbv : bt th v = true) : nI (ky_ll th yc a r w) = nI (ky_ll th yc a r v) ↔ ky_s yc a w v = true ∧ bt r w = bt r v := by
  obtain ⟨a1, a2, a3⟩ := kp_llP (yc := yc) (a := a) (r := r) hw hb
  obtain ⟨b1, b2, b3⟩ := kp_llP (yc := yc) (a := a) (r := r) hv hbv
  rw [nI_eq (by omega) (by omega)]
  constructor
  · intro h
    rw [← h] at b2
    unfold ky_lc ky_s at a2 b2
    rw [Bool.and_eq_true, Bool.and_eq_true, decide_eq_true_eq, beq_iff_eq] at a2 b2
    unfold ky_s
    rw [decide_eq_true_eq]
    exact ⟨a2.2.1.trans b2.2.1.symm, a2.2.2.trans b2.2.2.symm⟩
  · rintro ⟨h1, h2⟩
    have e : ky_lc th yc a r w = ky_lc th yc a r v := by
      funext x
      unfold ky_s at h1
      rw [decide_eq_true_eq] at h1
      unfold ky_lc ky_s
      rw [h1, h2]
    rw [← e] at b2 b3
    rcases Nat.lt_trichotomy (ky_ll th yc a r w) (ky_ll th yc a r v) with hl | hl | hl
    · rw [b3 _ hl] at a2; exact absurd a2 (by decide)
    · exact hl
    · rw [a3 _ hl] at b2; exact absurd b2 (by decide)
theorem kr_learn {th r : Int32} {p hg a : Nat} {xc kd ar sp en yc sz ks ag : Nat → Int32} (hH : kr_H th p hg xc kd ar sp en yc sz ks ag) (ha : a < 3) : kr_H th p hg (kx_lr xc a r) kd ar sp en (ky_lr th yc a r) sz ks ag := by
  obtain ⟨h1, h2, h3, h4, h5⟩ := hH
  refine ⟨h1, h2, h3, ?_, h5⟩
  intro b hb w hw hbw v
  by_cases e : b = a
  · subst e
    have e1 : kx_lr xc b r (16 * b + w) = xc (16 * b + w) &&& (if bt r w = true then r else r ^^^ (-1)) := by
      unfold kx_lr
      rw [kw_foi (by omega), show 16 * b + w - 16 * b = w by omega]
    have e2 : ∀ x, x < 16 → ky_lr th yc b r (16 * b + x) = nI (ky_ll th yc b r x) := by
      intro x hx
      unfold ky_lr
      rw [kw_foi (by omega), show 16 * b + x - 16 * b = x by omega]
    rw [e1, b_and, h4 b hb w hw hbw v]
    cases hv : bt th v
    · rw [Bool.false_and, Bool.false_and, Bool.false_and]
    · have hv16 : v < 16 := kp_16 h3 (fun _ z => z) hv
      rw [Bool.true_and, Bool.true_and]
      apply kp_beq
      show _ ↔ decide (ky_lr th yc b r (16 * b + w) = ky_lr th yc b r (16 * b + v)) = true
      rw [decide_eq_true_eq, e2 w hw, e2 v hv16, kp_ll hw hv16 hbw hv, Bool.and_eq_true]
      refine and_congr_right fun _ => ?_
      cases hrw : bt r w
      · rw [if_neg (by decide), kw_not (by omega)]
        cases bt r v <;> decide
      · rw [if_pos rfl]
        cases bt r v <;> decide
  · have e1 : kx_lr xc a r (16 * b + w) = xc (16 * b + w) := kw_foo (by omega)
    rw [e1, h4 b hb w hw hbw v]
    cases hv : bt th v
    · rfl
    · have hv16 : v < 16 := kp_16 h3 (fun _ z => z) hv
      have e2 : ky_lr th yc a r (16 * b + w) = yc (16 * b + w) := kw_foo (by omega)
      have e3 : ky_lr th yc a r (16 * b + v) = yc (16 * b + v) := kw_foo (by omega)
      unfold ky_s
      rw [e2, e3]
theorem i_vc_learn {k : Nat} {u : SX} {v : SY} (I : i_Rel k u v) (hk : k + 4 ≤ 2048) (v1 : Int32) : wpX_learn (fun r u' => wpY_learn (fun r' v' => r' = r ∧ i_Rel (k + 4) u' v') v v1) u v1 := by
  refine kr_el (P := fun u v => wpX_learn (fun r u' => wpY_learn (fun r' v' => r' = r ∧ i_Rel (k + 4) u' v') v v1) u v1) I ?_
  intro th rg so xc kd ar sp en fo ab op ra lk nl yc sz ks ag fi tk ia ho ro di p hg hH
  have h6 := hH.2.2.2.2.1
  unfold wpX_learn wpY_learn
  dsimp only
  refine xw_isAgent (kw_bz (fun e => yw_isAgent (kw_bz (fun _ => ⟨rfl, kr_in hH⟩) (fun z => absurd (e.symm.trans z) (by decide)))) (fun e1 => ?_))
  by_cases e : hg = 0
  · subst e
    exact br_t (by decide) (yw_isAgent (kw_bz (fun z => absurd (e1.symm.trans z) (by decide)) (fun _ => br_t (by decide) ⟨rfl, kr_in hH⟩)))
  · have n0 : ¬ nI hg = 0 := nI_ne0 (by omega) (by omega)
    obtain ⟨a, ha, rfl⟩ := kw_ag_of e1
    obtain ⟨r, hr, hX, hY⟩ := kv_eval (so := so) (lk := lk) (nl := nl) (di := di) hH (by omega)
    have hL := kr_learn (r := r) hH ha
    refine br_f n0 (hX _ _ _ _ _ _ (fun rg fo ab op ra => xw_learn32 ha (xw_classes hL.2.2.2.1 ha ?_)))
    exact yw_isAgent (kw_bz (fun z => absurd (e1.symm.trans z) (by decide)) (fun _ => br_f n0 (hY _ _ _ _ _ _ (fun fi tk ia ho ro => yw_learn33 ha (fun ro => yw_classes ha ⟨rfl, kr_in hL⟩)))))
end
section
/-! turn and needed -/
def kx_nv (th r : Int32) (so : Nat → Int32) (q w : Nat) : Int32 := if bt th w = true then (if bt r w = true then so w ||| ((1 : Int32) <<< (nI q &&& 31)) else so w &&& (((1 : Int32) <<< (nI q &&& 31)) ^^^ (-1))) else so w
def kx_ch (th r : Int32) (so : Nat → Int32) (q w : Nat) : Bool := !decide (kx_nv th r so q w = so w)
theorem kw_flN {g f : Nat → Int32} {i : Nat} (h : g i = f i) : kw_fl g f i = kw_fl g f (i + 1) := by
  funext j
  unfold kw_fl
  by_cases h1 : j < i
  · rw [if_pos h1, if_pos (by omega)]
  · rw [if_neg h1]
    by_cases h2 : j = i
    · rw [if_pos (by omega), h2, h]
    · rw [if_neg (by omega)]
theorem xw_t97 {post : Int32 → SX → Prop} {J : Int32 → Int32 → (Nat → Int32) → (Nat → Int32) → (Nat → Int32) → (Nat → Int32) → (Nat → Int32) → (Nat → Int32) → (Nat → Int32) → (Nat → Int32) → (Nat → Int32) → (Nat → Int32) → (Nat → Int32) → (Nat → Int32) → Prop} {th hr hh rg : Int32} {so xc kd ar sp en fo ab op ra lk nl : Nat → Int32} {x1 x2 x3 : Int32} {i : Nat} {old z0 : Int32} (hi : i < 16) (h : J (x3 + kw_b (!decide (z0 = old))) (nI (i + 1)) (upd so i z0) xc kd ar sp en fo ab op ra lk nl) : wX_turn_97 post J x1 x2 x3 (nI i) old z0 (nI i) th hr hh rg so xc kd ar sp en fo ab op ra lk nl := by
  have vi : vp_in (nI i) 16 := vp_in_nI hi (by decide)
  unfold wX_turn_97
  rw [nI_clamp (by omega)]
  refine ⟨vi, nm_e ⟨vi, ?_⟩⟩
  rw [pk_us]
  refine br_c (fun e => ?_) (fun e => ?_)
  · rw [decide_eq_true e] at h
    exact nm_e (nm_r (nI_1 i) h)
  · rw [decide_eq_false e] at h
    exact nm_e (nm_r (nI_1 i) h)
theorem xw_turn37 {post : Int32 → SX → Prop} {th hr hh rg : Int32} {so xc kd ar sp en fo ab op ra lk nl : Nat → Int32} {q : Nat} {r : Int32} (h : post (nI (kw_cnt 16 (kx_ch th r so q))) (th, hr, hh, rg, kw_fl (kx_nv th r so q) so 16, xc, kd, ar, sp, en, fo, ab, op, ra, lk, nl)) : ∃ n, wX_turn_37 post (nI q) r th hr hh rg n 0 0 so xc kd ar sp en fo ab op ra lk nl := by
  refine kw_lp0 (fun n i (s : Int32 × (Nat → Int32)) => wX_turn_37 post (nI q) r th hr hh rg n s.1 (nI i) s.2 xc kd ar sp en fo ab op ra lk nl) (fun i => (nI (kw_cnt i (kx_ch th r so q)), kw_fl (kx_nv th r so q) so i)) 16 (0, so) (Prod.ext rfl (kw_fl0 (g := kx_nv th r so q)).symm) (fun n => br_t kw_e16 h) ?_
  intro n i hi k
  have vi : vp_in (nI i) 16 := vp_in_nI hi (by decide)
  have ci : (nI i).toNatClampNeg = i := nI_clamp (by omega)
  have erd : kw_fl (kx_nv th r so q) so i i = so i := kw_flo (by omega)
  have hstep : ∀ z0, z0 = kx_nv th r so q i → wX_turn_37 post (nI q) r th hr hh rg n (nI (kw_cnt i (kx_ch th r so q)) + kw_b (!decide (z0 = so i))) (nI (i + 1)) (upd (kw_fl (kx_nv th r so q) so i) i z0) xc kd ar sp en fo ab op ra lk nl := by
    intro z0 e
    exact k (nI (kw_cnt i (kx_ch th r so q)) + kw_b (!decide (z0 = so i)), upd (kw_fl (kx_nv th r so q) so i) i z0) (Prod.ext (by rw [e]; exact kw_cntS (P := kx_ch th r so q)) (kw_flS e))
  refine br_f (kw_n16 hi) (xw_in (by omega) (kw_bz (fun z => nm_r (nI_1 i) ?_) (fun z => ⟨vi, ?_⟩)))
  · have en : kx_nv th r so q i = so i := if_neg (by rw [z]; decide)
    refine k (nI (kw_cnt i (kx_ch th r so q)), kw_fl (kx_nv th r so q) so i) (Prod.ext (kw_cntF ?_) (kw_flN en))
    unfold kx_ch
    rw [decide_eq_true en]; rfl
  · rw [ci]
    show ∀ x5 : Int32, x5 = kw_fl (kx_nv th r so q) so i i → _
    rw [erd]
    refine nm_e (xw_in (by omega) (kw_bz (fun z2 => xw_t97 hi (hstep _ ?_)) (fun z2 => xw_t97 hi (hstep _ ?_))))
    · unfold kx_nv; rw [if_pos z, if_neg (by rw [z2]; decide)]
    · unfold kx_nv; rw [if_pos z, if_pos z2]
theorem kp_nv {th r : Int32} {so : Nat → Int32} {q w : Nat} (hq : q < 32) (hb : bt th w = true) : (bt r w = bt (so w) q → kx_nv th r so q w = so w) ∧ (bt r w ≠ bt (so w) q → kx_nv th r so q w = so w ^^^ ((1 : Int32) <<< (nI q &&& 31)) ∧ kx_nv th r so q w ≠ so w) := by
  unfold kx_nv
  rw [if_pos hb]
  have hbq : bt ((1 : Int32) <<< (nI q &&& 31)) q = true := by rw [kw_sh hq hq, decide_eq_true rfl]
  cases hr : bt r w
  · rw [if_neg (by decide)]
    constructor
    · intro e
      refine b_ext fun i hi => ?_
      rw [b_and, kw_not hi, kw_sh hq hi]
      by_cases ei : i = q
      · rw [ei, ← e]; rfl
      · rw [decide_eq_false ei]; exact Bool.and_true _
    · intro e
      have e' : bt (so w) q = true := by
        cases hz : bt (so w) q
        · exact absurd hz.symm e
        · rfl
      constructor
      · refine b_ext fun i hi => ?_
        rw [b_and, kw_not hi, b_xor, kw_sh hq hi]
        by_cases ei : i = q
        · rw [ei, e', decide_eq_true rfl]; rfl
        · rw [decide_eq_false ei]; cases bt (so w) i <;> rfl
      · intro z
        have z1 := congrArg (fun x => bt x q) z
        rw [b_and, kw_not hq, hbq, e'] at z1
        exact absurd z1 (by decide)
  · rw [if_pos rfl]
    constructor
    · intro e
      refine b_ext fun i hi => ?_
      rw [b_or, kw_sh hq hi]
      by_cases ei : i = q
      · rw [ei, ← e]; rfl
      · rw [decide_eq_false ei]; exact Bool.or_false _
    · intro e
      have e' : bt (so w) q = false := by
        cases hz : bt (so w) q
        · rfl
        · exact absurd hz.symm e
      constructor
      · refine b_ext fun i hi => ?_
        rw [b_or, b_xor, kw_sh hq hi]
        by_cases ei : i = q
        · rw [ei, e', decide_eq_true rfl]; rfl
        · rw [decide_eq_false ei]; cases bt (so w) i <;> rfl
      · intro z
        have z1 := congrArg (fun x => bt x q) z
        rw [b_or, hbq, e'] at z1
        exact absurd z1 (by decide)
theorem yw_turn37 {post : Int32 → SY → Prop} {tt tr tg : Int32} {fa yc sz ks ag fi tk ia ho ro di : Nat → Int32} {q : Nat} {r : Int32} (hq : q < 32) (h : post (nI (kw_cnt 16 (kx_ch tt r fa q))) (tt, tr, tg, kw_fl (kx_nv tt r fa q) fa 16, yc, sz, ks, ag, fi, tk, ia, ho, ro, di)) : ∃ n, wY_turn_37 post (nI q) r tt tr tg n 0 0 fa yc sz ks ag fi tk ia ho ro di := by
  refine kw_lp0 (fun n i (s : Int32 × (Nat → Int32)) => wY_turn_37 post (nI q) r tt tr tg n s.1 (nI i) s.2 yc sz ks ag fi tk ia ho ro di) (fun i => (nI (kw_cnt i (kx_ch tt r fa q)), kw_fl (kx_nv tt r fa q) fa i)) 16 (0, fa) (Prod.ext rfl (kw_fl0 (g := kx_nv tt r fa q)).symm) (fun n => br_t kw_e16 h) ?_
  intro n i hi k
  have vi : vp_in (nI i) 16 := vp_in_nI hi (by decide)
  have ci : (nI i).toNatClampNeg = i := nI_clamp (by omega)
  have erd : kw_fl (kx_nv tt r fa q) fa i i = fa i := kw_flo (by omega)
  have hsame : kx_nv tt r fa q i = fa i → wY_turn_37 post (nI q) r tt tr tg n (nI (kw_cnt i (kx_ch tt r fa q))) (nI (i + 1)) (kw_fl (kx_nv tt r fa q) fa i) yc sz ks ag fi tk ia ho ro di := by
    intro en
    refine k (nI (kw_cnt i (kx_ch tt r fa q)), kw_fl (kx_nv tt r fa q) fa i) (Prod.ext (kw_cntF ?_) (kw_flN en))
    unfold kx_ch
    rw [decide_eq_true en]; rfl
  refine br_f (kw_n16 hi) (yw_isThereN hi (kw_bz (fun z => nm_r (nI_1 i) (hsame (if_neg (by rw [z]; decide)))) (fun z => yw_in (by omega) ⟨vi, ?_⟩)))
  rw [ci]
  show wpY_in _ _ (kw_fl (kx_nv tt r fa q) fa i i) _
  rw [erd]
  have hnv := kp_nv (r := r) (so := fa) hq z
  refine yw_in hq (kw_beq (fun e => nm_r (nI_1 i) (hsame (hnv.1 e))) (fun e => ⟨vi, vi, ?_⟩))
  show ∀ a : Nat → Int32, a = upd (kw_fl (kx_nv tt r fa q) fa i) i (kw_fl (kx_nv tt r fa q) fa i i ^^^ ((1 : Int32) <<< (nI q &&& 31))) → _
  rw [erd]
  obtain ⟨e1, e2⟩ := hnv.2 e
  refine nm_e (nm_e (nm_r (nI_1 i) ?_))
  refine k (nI (kw_cnt i (kx_ch tt r fa q)) + 1, upd (kw_fl (kx_nv tt r fa q) fa i) i (fa i ^^^ ((1 : Int32) <<< (nI q &&& 31)))) (Prod.ext (kw_cntT ?_) (kw_flS e1.symm))
  unfold kx_ch
  rw [decide_eq_false e2]; rfl
theorem i_vc_turn {k : Nat} {u : SX} {v : SY} (I : i_Rel k u v) (hk : k + 4 ≤ 2048) (v1 : Int32) : wpX_turn (fun r u' => wpY_turn (fun r' v' => r' = r ∧ i_Rel (k + 4) u' v') v v1) u v1 := by
  refine kr_el (P := fun u v => wpX_turn (fun r u' => wpY_turn (fun r' v' => r' = r ∧ i_Rel (k + 4) u' v') v v1) u v1) I ?_
  intro th rg so xc kd ar sp en fo ab op ra lk nl yc sz ks ag fi tk ia ho ro di p hg hH
  have h6 := hH.2.2.2.2.1
  unfold wpX_turn wpY_turn
  dsimp only
  rcases kw_ix v1 4 (by decide) with hx | ⟨j, hj, hj2, rfl⟩ | ⟨j, hj, rfl⟩
  · exact br_t hx (br_t hx ⟨rfl, kr_in hH⟩)
  · have a1 := nI_pos hj2
    exact br_f a1 (br_f (nI_nlt (b := 4) hj hj2) (br_f a1 (br_f (nI_ge (a := 3) (b := j) (by omega) hj2) ⟨rfl, kr_in hH⟩)))
  · have a1 : ¬ nI j < 0 := nI_pos (by omega)
    have a2 : nI j < 4 := nI_lt (b := 4) hj (by decide)
    have a3 : nI j ≤ 3 := nI_le (b := 3) (by omega) (by decide)
    by_cases e : hg = 0
    · subst e
      exact br_f a1 (br_t a2 (br_t (by decide) (br_f a1 (br_t a3 (br_t (by decide) ⟨rfl, kr_in hH⟩)))))
    · have n0 : ¬ nI hg = 0 := nI_ne0 (by omega) (by omega)
      obtain ⟨r, hr, hX, hY⟩ := kv_eval (so := so) (lk := lk) (nl := nl) (di := di) hH (by omega)
      refine br_f a1 (br_t a2 (br_f n0 (hX _ _ _ _ _ _ (fun rg fo ab op ra => xw_turn37 ?_))))
      exact br_f a1 (br_t a3 (br_f n0 (hY _ _ _ _ _ _ (fun fi tk ia ho ro => yw_turn37 (by omega) ⟨rfl, kr_in hH⟩))))
end
section
/-! needed -/
def kx_st (so xc : Nat → Int32) (a p q : Nat) (sd : Int32) (w : Nat) : Bool := !((bt (xc (16 * a + p)) w && decide (((so w ^^^ so p) &&& sd) = 0)) && bt (so w ^^^ so p) q)
theorem xw_s63 {post : Int32 → Prop} {J : Int32 → Prop} {th hr hh rg : Int32} {so xc kd ar sp en fo ab op ra lk nl : Nat → Int32} {x1 x3 x5 : Int32} {q i : Nat} {z : Bool} (hq : q < 32) (h0 : (z && bt x5 q) = true → post 0) (h1 : (z && bt x5 q) = false → J (nI (i + 1))) : wX_settles_63 post J x1 (nI q) x3 (nI i) x5 (kw_b z) th hr hh rg so xc kd ar sp en fo ab op ra lk nl := by
  unfold wX_settles_63
  rw [kw_bit x5 hq]
  refine kw_bz (fun e => nm_r (nI_1 i) (h1 (by rw [e]; rfl))) (fun e => ?_)
  cases hb : bt x5 q
  · exact br_f (by decide) (nm_r (nI_1 i) (h1 (by rw [hb, Bool.and_false])))
  · exact br_t (by decide) (h0 (by rw [hb, e]; rfl))
theorem xw_settles {post : Int32 → Prop} {th hh rg : Int32} {so xc kd ar sp en fo ab op ra lk nl : Nat → Int32} {a p q : Nat} {sd : Int32} (ha : a < 3) (hp : p < 16) (hq : q < 32) (h : post (kw_b (kw_al 16 (kx_st so xc a p q sd)))) : wpX_settles post (th, nI p, hh, rg, so, xc, kd, ar, sp, en, fo, ab, op, ra, lk, nl) (nI a) (nI q) sd := by
  have key : ∀ d i, i + d = 16 → (∀ w, w < i → kx_st so xc a p q sd w = true) → wX_settles_3 post (nI a) (nI q) sd th (nI p) hh rg so xc kd ar sp en fo ab op ra lk nl (d + 1) (nI i) := by
    intro d
    induction d with
    | zero =>
      intro i hi hw
      have e : i = 16 := by omega
      subst e
      rw [kw_alI.mpr hw] at h
      exact br_t kw_e16 h
    | succ d ih =>
      intro i hi hw
      have hi16 : i < 16 := by omega
      have hT : kx_st so xc a p q sd i = true → wX_settles_3 post (nI a) (nI q) sd th (nI p) hh rg so xc kd ar sp en fo ab op ra lk nl (d + 1) (nI (i + 1)) := by
        intro e
        refine ih (i + 1) (by omega) fun w hw1 => ?_
        by_cases ew : w = i
        · rw [ew]; exact e
        · exact hw w (by omega)
      have hF : kx_st so xc a p q sd i = false → post 0 := by
        intro e
        rw [kw_alF.mpr ⟨i, hi16, e⟩] at h
        exact h
      refine br_f (kw_n16 hi16) ⟨vp_in_nI hi16 (by decide), vp_in_nI hp (by decide), nm_e ?_⟩
      rw [kw_ixc ha hp, nI_clamp (show i < 2 ^ 31 by omega), nI_clamp (show p < 2 ^ 31 by omega)]
      refine ⟨kw_ixv ha hp, xw_in (by omega) (kw_bz (fun e => ?_) (fun e => br_c (fun e2 => ?_) (fun e2 => ?_)))⟩
      · exact xw_s63 (z := false) hq (fun z => absurd z (by simp)) (fun _ => hT (by unfold kx_st; rw [e]; rfl))
      · exact xw_s63 (z := true) hq (fun z => hF (by unfold kx_st; rw [e, decide_eq_true e2]; show (!(true && bt (so i ^^^ so p) q)) = false; rw [z]; rfl)) (fun z => hT (by unfold kx_st; rw [e, decide_eq_true e2]; show (!(true && bt (so i ^^^ so p) q)) = true; rw [z]; rfl))
      · exact xw_s63 (z := false) hq (fun z => absurd z (by simp)) (fun _ => hT (by unfold kx_st; rw [e, decide_eq_false e2]; rfl))
  exact ⟨17, key 16 0 (by omega) (fun w hw => absurd hw (by omega))⟩
def ky_kn (th : Int32) (so yc : Nat → Int32) (a p q : Nat) (sd : Int32) (w : Nat) : Bool := !(bt th w && (ky_s yc a p w && decide (((so w ^^^ so p) &&& sd) = 0))) || (bt (so w) q == bt (so p) q)
theorem yw_k63 {post : Int32 → Prop} {J : Int32 → Int32 → Prop} {tt tg : Int32} {fa yc sz ks ag fi tk ia ho ro di : Nat → Int32} {x1 x3 : Int32} {p q i : Nat} {g z : Bool} (hp : p < 16) (hq : q < 32) (hi : i < 16) (h : J (kw_b (g && (!z || (bt (fa i) q == bt (fa p) q)))) (nI (i + 1))) : wY_knows_63 post J x1 (nI q) x3 (kw_b g) (nI i) (kw_b z) tt (nI p) tg fa yc sz ks ag fi tk ia ho ro di := by
  unfold wY_knows_63
  rw [nI_clamp (show i < 2 ^ 31 by omega), nI_clamp (show p < 2 ^ 31 by omega)]
  refine kw_bz (fun e => nm_r (nI_1 i) ?_) (fun e => kw_bz (fun e2 => nm_r (nI_1 i) ?_) (fun e2 => ⟨vp_in_nI hi (by decide), yw_in hq ⟨vp_in_nI hp (by decide), yw_in hq (kw_beq (fun e3 => nm_r (nI_1 i) ?_) (fun e3 => nm_r (nI_1 i) ?_))⟩⟩))
  · rw [e] at h; exact h
  · rw [e, e2] at h; exact h
  · rw [e, e2, beq_iff_eq.mpr e3] at h; exact h
  · rw [e, e2, beq_eq_false_iff_ne.mpr e3] at h; exact h
theorem yw_knows {post : Int32 → Prop} {tt tg : Int32} {fa yc sz ks ag fi tk ia ho ro di : Nat → Int32} {a p q : Nat} {sd : Int32} (ha : a < 3) (hp : p < 16) (hq : q < 32) (h : post (kw_b (kw_al 16 (ky_kn tt fa yc a p q sd)))) : wpY_knows post (tt, nI p, tg, fa, yc, sz, ks, ag, fi, tk, ia, ho, ro, di) (nI a) (nI q) sd := by
  refine kw_lp (fun n i x => wY_knows_6 post (nI a) (nI q) sd tt (nI p) tg fa yc sz ks ag fi tk ia ho ro di n x (nI i)) (fun i => kw_b (kw_al i (ky_kn tt fa yc a p q sd))) 16 (fun n => br_t kw_e16 ⟨kw_bn _, h⟩) ?_
  intro n i hi k
  have hstep : ∀ z : Bool, z = (bt tt i && (ky_s yc a p i && decide (((fa i ^^^ fa p) &&& sd) = 0))) → wY_knows_63 post (wY_knows_6 post (nI a) (nI q) sd tt (nI p) tg fa yc sz ks ag fi tk ia ho ro di n) (nI a) (nI q) sd (kw_b (kw_al i (ky_kn tt fa yc a p q sd))) (nI i) (kw_b z) tt (nI p) tg fa yc sz ks ag fi tk ia ho ro di := by
    intro z e
    refine yw_k63 hp hq hi (k _ ?_)
    rw [e]; rfl
  refine br_f (kw_n16 hi) (yw_isThereN hi (kw_bz (fun e => hstep false ?_) (fun e => yw_same ha hp hi (kw_bz (fun e2 => hstep false ?_) (fun e2 => ⟨vp_in_nI hi (by decide), vp_in_nI hp (by decide), ?_⟩)))))
  · rw [e]; rfl
  · rw [e, e2]; rfl
  · rw [nI_clamp (show i < 2 ^ 31 by omega), nI_clamp (show p < 2 ^ 31 by omega)]
    refine br_c (fun e3 => hstep true ?_) (fun e3 => hstep false ?_)
    · rw [e, e2, decide_eq_true e3]; rfl
    · rw [e, e2, decide_eq_false e3]; rfl
theorem kp_kn {th : Int32} {so xc yc : Nat → Int32} (hC : kr_C th xc yc) {a p q : Nat} {sd : Int32} (ha : a < 3) (hp : p < 16) (hb : bt th p = true) (hq : q < 32) (w : Nat) : kx_st so xc a p q sd w = ky_kn th so yc a p q sd w := by
  unfold kx_st ky_kn
  rw [hC a ha p hp hb w, b_xor]
  cases bt th w <;> cases ky_s yc a p w <;> cases decide (((so w ^^^ so p) &&& sd) = 0) <;> cases bt (so w) q <;> cases bt (so p) q <;> rfl
theorem kp_al {n : Nat} {P Q : Nat → Bool} (h : ∀ i, i < n → P i = Q i) : kw_al n P = kw_al n Q := by
  induction n with
  | zero => rfl
  | succ n ih =>
    show (kw_al n P && P n) = (kw_al n Q && Q n)
    rw [ih (fun i hi => h i (by omega)), h n (by omega)]
def kn_L (g : Nat → Bool) (c : Nat → Nat) : Nat → Nat
  | 0 => 5
  | i + 1 => if g i = true ∧ c i < kn_L g c i then c i else kn_L g c i
theorem kn_L5 (g : Nat → Bool) (c : Nat → Nat) (i : Nat) : kn_L g c i ≤ 5 := by
  induction i with
  | zero => exact Nat.le_refl 5
  | succ i ih =>
    show (if g i = true ∧ c i < kn_L g c i then c i else kn_L g c i) ≤ 5
    by_cases h : g i = true ∧ c i < kn_L g c i
    · rw [if_pos h]; omega
    · rw [if_neg h]; exact ih
def kn_c (i : Nat) : Nat := kw_cnt 16 (bt (nI i))
theorem kn_c4 : ∀ i, i < 16 → kn_c i ≤ 4 := by decide +kernel
def kn_M (L : Nat) : Int32 := if L = 5 then -2 else nI L
theorem xw_n57 {post : Int32 → Prop} {J : Int32 → Int32 → Prop} {th hh rg : Int32} {so xc kd ar sp en fo ab op ra lk nl : Nat → Int32} {a p q i : Nat} {x3 : Int32} {z : Bool} (ha : a < 3) (hp : p < 16) (hq : q < 32) (h0 : (z && kw_al 16 (kx_st so xc a p q (nI i))) = false → J x3 (nI (i + 1))) (h1 : (z && kw_al 16 (kx_st so xc a p q (nI i))) = true → J (nI (kn_c i)) (nI (i + 1))) : wX_needed_57 post J (nI a) (nI q) x3 (nI i) (nI (kn_c i)) (kw_b z) th (nI p) hh rg so xc kd ar sp en fo ab op ra lk nl := by
  unfold wX_needed_57
  refine kw_bz (fun e => nm_r (nI_1 i) (h0 (by rw [e]; rfl))) (fun e => xw_settles ha hp hq (kw_bz (fun e2 => nm_r (nI_1 i) (h0 (by rw [e, e2]; rfl))) (fun e2 => nm_r (nI_1 i) (h1 (by rw [e, e2]; rfl)))))
theorem xw_needed23 {post : Int32 → Prop} {th hh rg : Int32} {so xc kd ar sp en fo ab op ra lk nl : Nat → Int32} {a p q : Nat} (ha : a < 3) (hp : p < 16) (hq : q < 32) (h : post (kn_M (kn_L (fun i => !bt (nI i) q && kw_al 16 (kx_st so xc a p q (nI i))) kn_c 16))) : ∃ n, wX_needed_23 post (nI a) (nI q) th (nI p) hh rg so xc kd ar sp en fo ab op ra lk nl n 5 0 := by
  refine kw_lp (fun n i x => wX_needed_23 post (nI a) (nI q) th (nI p) hh rg so xc kd ar sp en fo ab op ra lk nl n x (nI i)) (fun i => nI (kn_L (fun i => !bt (nI i) q && kw_al 16 (kx_st so xc a p q (nI i))) kn_c i)) 16 (fun n => br_t kw_e16 ?_) ?_
  · have h5 := kn_L5 (fun i => !bt (nI i) q && kw_al 16 (kx_st so xc a p q (nI i))) kn_c 16
    show (nI (kn_L (fun i => !bt (nI i) q && kw_al 16 (kx_st so xc a p q (nI i))) kn_c 16) ≤ 4 → _) ∧ _
    generalize kn_L (fun i => !bt (nI i) q && kw_al 16 (kx_st so xc a p q (nI i))) kn_c 16 = L at h h5 ⊢
    unfold kn_M at h
    by_cases e : L = 5
    · rw [if_pos e] at h
      exact br_f (nI_ge (a := 4) (by omega) (by omega)) h
    · rw [if_neg e] at h
      exact br_t (nI_le (b := 4) (by omega) (by decide)) h
  · intro n i hi k
    have h5 := kn_L5 (fun i => !bt (nI i) q && kw_al 16 (kx_st so xc a p q (nI i))) kn_c i
    have c4 := kn_c4 i hi
    obtain ⟨L, hL⟩ : ∃ L, L = kn_L (fun i => !bt (nI i) q && kw_al 16 (kx_st so xc a p q (nI i))) kn_c i := ⟨_, rfl⟩
    rw [← hL] at h5
    have hno : ¬ ((!bt (nI i) q && kw_al 16 (kx_st so xc a p q (nI i))) = true ∧ kn_c i < L) → wX_needed_23 post (nI a) (nI q) th (nI p) hh rg so xc kd ar sp en fo ab op ra lk nl n (nI L) (nI (i + 1)) := by
      intro z
      rw [hL] at z
      refine k _ ?_
      rw [hL]
      show _ = nI (if (!bt (nI i) q && kw_al 16 (kx_st so xc a p q (nI i))) = true ∧ kn_c i < kn_L _ kn_c i then kn_c i else kn_L _ kn_c i)
      rw [if_neg z]
    have hyes : ((!bt (nI i) q && kw_al 16 (kx_st so xc a p q (nI i))) = true ∧ kn_c i < L) → wX_needed_23 post (nI a) (nI q) th (nI p) hh rg so xc kd ar sp en fo ab op ra lk nl n (nI (kn_c i)) (nI (i + 1)) := by
      intro z
      rw [hL] at z
      refine k _ ?_
      show _ = nI (if (!bt (nI i) q && kw_al 16 (kx_st so xc a p q (nI i))) = true ∧ kn_c i < kn_L _ kn_c i then kn_c i else kn_L _ kn_c i)
      rw [if_pos z]
    show wX_needed_23 post (nI a) (nI q) th (nI p) hh rg so xc kd ar sp en fo ab op ra lk nl (n + 1) (nI (kn_L (fun i => !bt (nI i) q && kw_al 16 (kx_st so xc a p q (nI i))) kn_c i)) (nI i)
    rw [← hL]
    refine br_f (kw_n16 hi) (xw_ones ?_)
    show (((nI i >>> (nI q &&& 31)) &&& 1) = 0 → ((nI L ≤ nI (kn_c i) → _) ∧ (¬ nI L ≤ nI (kn_c i) → _))) ∧ _
    rw [kw_bit (nI i) hq]
    refine kw_bz (fun e => pk_le L (kn_c i) (fun hl => ?_) (fun hl => ?_)) (fun e => ?_)
    · exact xw_n57 (z := false) ha hp hq (fun _ => hno (fun z => by omega)) (fun z => absurd z (by simp))
    · refine xw_n57 (z := true) ha hp hq (fun z => hno (fun y => ?_)) (fun z => hyes ⟨?_, hl⟩)
      · rw [Bool.true_and] at z
        rw [z, Bool.and_false] at y
        exact absurd y.1 (by decide)
      · rw [e]; exact z
    · refine xw_n57 (z := false) ha hp hq (fun _ => hno (fun z => ?_)) (fun z => absurd z (by simp))
      rw [e] at z
      exact absurd z.1 (by simp)
theorem yw_needed25 {post : Int32 → Prop} {tt tg : Int32} {fa yc sz ks ag fi tk ia ho ro di : Nat → Int32} {a p q : Nat} (ha : a < 3) (hp : p < 16) (hq : q < 32) (h : post (kn_M (kn_L (fun i => !bt (nI i) q && kw_al 16 (ky_kn tt fa yc a p q (nI i))) kn_c 16))) : ∃ n, wY_needed_25 post (nI a) (nI q) tt (nI p) tg fa yc sz ks ag fi tk ia ho ro di n (-2) 0 := by
  refine kw_lp (fun n i x => wY_needed_25 post (nI a) (nI q) tt (nI p) tg fa yc sz ks ag fi tk ia ho ro di n x (nI i)) (fun i => kn_M (kn_L (fun i => !bt (nI i) q && kw_al 16 (ky_kn tt fa yc a p q (nI i))) kn_c i)) 16 (fun n => br_t kw_e16 h) ?_
  intro n i hi k
  have h5 := kn_L5 (fun i => !bt (nI i) q && kw_al 16 (ky_kn tt fa yc a p q (nI i))) kn_c i
  have c4 := kn_c4 i hi
  obtain ⟨L, hL⟩ : ∃ L, L = kn_L (fun i => !bt (nI i) q && kw_al 16 (ky_kn tt fa yc a p q (nI i))) kn_c i := ⟨_, rfl⟩
  rw [← hL] at h5
  have hno : ¬ ((!bt (nI i) q && kw_al 16 (ky_kn tt fa yc a p q (nI i))) = true ∧ kn_c i < L) → wY_needed_25 post (nI a) (nI q) tt (nI p) tg fa yc sz ks ag fi tk ia ho ro di n (kn_M L) (nI (i + 1)) := by
    intro z
    rw [hL] at z
    refine k _ ?_
    rw [hL]
    show _ = kn_M (if (!bt (nI i) q && kw_al 16 (ky_kn tt fa yc a p q (nI i))) = true ∧ kn_c i < kn_L _ kn_c i then kn_c i else kn_L _ kn_c i)
    rw [if_neg z]
  have hyes : ((!bt (nI i) q && kw_al 16 (ky_kn tt fa yc a p q (nI i))) = true ∧ kn_c i < L) → wY_needed_25 post (nI a) (nI q) tt (nI p) tg fa yc sz ks ag fi tk ia ho ro di n (nI (kn_c i)) (nI (i + 1)) := by
    intro z
    rw [hL] at z
    refine k _ ?_
    show _ = kn_M (if (!bt (nI i) q && kw_al 16 (ky_kn tt fa yc a p q (nI i))) = true ∧ kn_c i < kn_L _ kn_c i then kn_c i else kn_L _ kn_c i)
    rw [if_pos z]
    unfold kn_M
    rw [if_neg (by omega)]
  show wY_needed_25 post (nI a) (nI q) tt (nI p) tg fa yc sz ks ag fi tk ia ho ro di (n + 1) (kn_M (kn_L (fun i => !bt (nI i) q && kw_al 16 (ky_kn tt fa yc a p q (nI i))) kn_c i)) (nI i)
  rw [← hL]
  refine br_f (kw_n16 hi) (yw_in hq (kw_bz (fun e => yw_knows ha hp hq (kw_bz (fun e2 => nm_r (nI_1 i) (hno ?_)) (fun e2 => yw_count ?_))) (fun e => nm_r (nI_1 i) (hno ?_))))
  · rw [e2, Bool.and_false]
    exact fun z => absurd z.1 (by decide)
  · have g1 : (!bt (nI i) q && kw_al 16 (ky_kn tt fa yc a p q (nI i))) = true := by rw [e, e2]; rfl
    show (kn_M L < 0 → _) ∧ (¬ kn_M L < 0 → ((kn_M L ≤ nI (kn_c i) → _) ∧ (¬ kn_M L ≤ nI (kn_c i) → _)))
    by_cases e5 : L = 5
    · have eM : kn_M L = -2 := if_pos e5
      rw [eM]
      exact br_t (by decide) (nm_r (nI_1 i) (hyes ⟨g1, by omega⟩))
    · have eM : kn_M L = nI L := if_neg e5
      rw [eM] at hno ⊢
      exact br_f (nI_pos (by omega)) (pk_le L (kn_c i) (fun hl => nm_r (nI_1 i) (hno (fun z => by omega))) (fun hl => nm_r (nI_1 i) (hyes ⟨g1, hl⟩)))
  · rw [e]
    exact fun z => absurd z.1 (by simp)
theorem i_vc_needed {k : Nat} {u : SX} {v : SY} (I : i_Rel k u v) (hk : k + 4 ≤ 2048) (v1 : Int32) (v2 : Int32) : wpX_needed (fun r => wpY_needed (fun r' => r' = r ∧ i_Rel (k + 4) u v) v v1 v2) u v1 v2 := by
  refine kr_el (P := fun u v => wpX_needed (fun r => wpY_needed (fun r' => r' = r ∧ i_Rel (k + 4) u v) v v1 v2) u v1 v2) I ?_
  intro th rg so xc kd ar sp en fo ab op ra lk nl yc sz ks ag fi tk ia ho ro di p hg hH
  unfold wpX_needed wpY_needed
  dsimp only
  refine xw_isAgent (kw_bz (fun e => yw_isAgent (kw_bz (fun _ => ⟨rfl, kr_in hH⟩) (fun z => absurd (e.symm.trans z) (by decide)))) (fun e1 => ?_))
  rcases kw_ix v2 4 (by decide) with hx | ⟨j, hj, hj2, rfl⟩ | ⟨j, hj, rfl⟩
  · exact br_t hx (yw_isAgent (kw_bz (fun z => absurd (e1.symm.trans z) (by decide)) (fun _ => br_t hx ⟨rfl, kr_in hH⟩)))
  · have a1 := nI_pos hj2
    exact br_f a1 (br_f (nI_nlt (b := 4) hj hj2) (yw_isAgent (kw_bz (fun z => absurd (e1.symm.trans z) (by decide)) (fun _ => br_f a1 (br_f (nI_ge (a := 3) (b := j) (by omega) hj2) ⟨rfl, kr_in hH⟩)))))
  · have a1 : ¬ nI j < 0 := nI_pos (by omega)
    have a2 : nI j < 4 := nI_lt (b := 4) hj (by decide)
    have a3 : nI j ≤ 3 := nI_le (b := 3) (by omega) (by decide)
    obtain ⟨a, ha, rfl⟩ := kw_ag_of e1
    refine br_f a1 (br_t a2 (xw_needed23 ha hH.1 (by omega) (yw_isAgent (kw_bz (fun z => absurd (e1.symm.trans z) (by decide)) (fun _ => br_f a1 (br_t a3 (yw_needed25 ha hH.1 (by omega) ⟨?_, kr_in hH⟩)))))))
    have ef : (fun i => !bt (nI i) j && kw_al 16 (ky_kn th so yc a p j (nI i))) = (fun i => !bt (nI i) j && kw_al 16 (kx_st so xc a p j (nI i))) := by
      funext i
      rw [kp_al (fun w _ => kp_kn hH.2.2.2.1 ha hH.1 hH.2.1 (by omega) w)]
    rw [ef]
end
section
/-! token -/
def kt_4 (a : Int32) : Bool := decide (¬ a < 0) && decide (¬ (4 : Int32) ≤ a)
def kt_7 (a : Int32) : Bool := decide (¬ a < 1) && decide (¬ (7 : Int32) < a)
def kt_ok (k : Nat) (a : Int32) : Bool := match k with
  | 0 => kt_4 a
  | 5 => kw_ag a
  | 6 => kt_7 a
  | 7 => kt_7 a
  | 8 => kt_7 a
  | _ => true
theorem kt_2 {c d : Prop} [Decidable c] [Decidable d] {post : Int32 → Prop} (h : post (kw_b (decide (¬ c) && decide (¬ d)))) : (c → post 0) ∧ (¬ c → ((d → post 0) ∧ (¬ d → post 1))) := by
  by_cases hc : c
  · rw [decide_eq_false (fun z => z hc)] at h
    exact br_t hc h
  · rw [decide_eq_true hc] at h
    by_cases hd : d
    · rw [decide_eq_false (fun z => z hd)] at h
      exact br_f hc (br_t hd h)
    · rw [decide_eq_true hd] at h
      exact br_f hc (br_f hd h)
theorem kt_43 (a : Int32) : ((4 : Int32) ≤ a) ↔ (3 : Int32) < a := by
  rw [Int32.le_iff_toInt_le, Int32.lt_iff_toInt_lt, show (4 : Int32).toInt = 4 by decide, show (3 : Int32).toInt = 3 by decide]
  omega
theorem kt_4o {a : Int32} (h : kt_4 a = true) : ∃ α, α < 4 ∧ a = nI α := by
  unfold kt_4 at h
  rw [Bool.and_eq_true, decide_eq_true_eq, decide_eq_true_eq] at h
  obtain ⟨j, hj, rfl⟩ := nI_of h.1
  refine ⟨j, Classical.byContradiction fun z => h.2 (nI_le (a := 4) (by omega) hj), rfl⟩
theorem kt_A {k : Nat} {a : Int32} (h : kt_ok k a = true) : kf_A k a := by
  constructor
  · intro e; subst e; exact kt_4o h
  · intro e; subst e; exact kw_ag_of h
theorem xw_fits {post : Int32 → Prop} {k : Nat} {a : Int32} (hk : k ≤ 9) (h : post (kw_b (kt_ok k a))) : wpX_fits post (nI k) a := by
  have h3 : post (kw_b (kw_ag a)) → ((a < 0 → post 0) ∧ (¬ a < 0 → (((3 : Int32) ≤ a → post 0) ∧ (¬ (3 : Int32) ≤ a → post 1)))) := fun h => xw_isAgent (post := post) h
  rcases kw_10 hk with rfl | rfl | rfl | rfl | rfl | rfl | rfl | rfl | rfl | rfl
  · exact br_f (by decide) (br_f (by decide) (br_t (by decide) (kt_2 h)))
  · exact br_f (by decide) (br_f (by decide) (br_f (by decide) (br_t (by decide) h)))
  · exact br_f (by decide) (br_f (by decide) (br_f (by decide) (br_f (by decide) (br_t (by decide) h))))
  · exact br_f (by decide) (br_f (by decide) (br_f (by decide) (br_f (by decide) (br_f (by decide) (br_t (by decide) h)))))
  · exact br_f (by decide) (br_f (by decide) (br_f (by decide) (br_f (by decide) (br_f (by decide) (br_f (by decide) (br_t (by decide) h))))))
  · exact br_f (by decide) (br_f (by decide) (br_f (by decide) (br_f (by decide) (br_f (by decide) (br_f (by decide) (br_f (by decide) (br_t (by decide) (h3 h))))))))
  · exact br_f (by decide) (br_f (by decide) (br_f (by decide) (br_f (by decide) (br_f (by decide) (br_f (by decide) (br_f (by decide) (br_f (by decide) (br_t (by decide) (kt_2 h)))))))))
  · exact br_f (by decide) (br_f (by decide) (br_f (by decide) (br_f (by decide) (br_f (by decide) (br_f (by decide) (br_f (by decide) (br_f (by decide) (br_f (by decide) (br_t (by decide) (kt_2 h))))))))))
  · exact br_f (by decide) (br_f (by decide) (br_f (by decide) (br_f (by decide) (br_f (by decide) (br_f (by decide) (br_f (by decide) (br_f (by decide) (br_f (by decide) (br_f (by decide) (br_t (by decide) (kt_2 h)))))))))))
  · exact br_f (by decide) (br_t (by decide) h)
theorem yw_isToken {post : Int32 → Prop} {tt tr tg : Int32} {fa yc sz ks ag fi tk ia ho ro di : Nat → Int32} {k : Nat} {a : Int32} (hk : k ≤ 9) (h : post (kw_b (kt_ok k a))) : wpY_isToken post (tt, tr, tg, fa, yc, sz, ks, ag, fi, tk, ia, ho, ro, di) (nI k) a := by
  rcases kw_10 hk with rfl | rfl | rfl | rfl | rfl | rfl | rfl | rfl | rfl | rfl
  · refine br_t (by decide) (kt_2 ?_)
    have h' : post (kw_b (decide (¬ a < 0) && decide (¬ (4 : Int32) ≤ a))) := h
    have e : decide (¬ (4 : Int32) ≤ a) = decide (¬ (3 : Int32) < a) := decide_eq_decide.mpr (not_congr (kt_43 a))
    rw [e] at h'
    exact h'
  · exact br_f (by decide) (br_f (by decide) (br_t (by decide) (br_f (by decide) (br_f (by decide) h))))
  · exact br_f (by decide) (br_f (by decide) (br_t (by decide) (br_f (by decide) (br_f (by decide) h))))
  · exact br_f (by decide) (br_f (by decide) (br_t (by decide) (br_f (by decide) (br_f (by decide) h))))
  · exact br_f (by decide) (br_f (by decide) (br_t (by decide) (br_f (by decide) (br_f (by decide) h))))
  · exact br_f (by decide) (br_t (by decide) (yw_isAgent ⟨kw_bn _, h⟩))
  · exact br_f (by decide) (br_f (by decide) (br_f (by decide) (br_f (by decide) (kt_2 h))))
  · exact br_f (by decide) (br_f (by decide) (br_f (by decide) (br_f (by decide) (kt_2 h))))
  · exact br_f (by decide) (br_f (by decide) (br_f (by decide) (br_f (by decide) (kt_2 h))))
  · exact br_f (by decide) (br_f (by decide) (br_f (by decide) (br_t (by decide) (br_f (by decide) (br_f (by decide) h)))))
theorem xw_t95 {post : Int32 → SX → Prop} {th hr rg : Int32} {so xc kd ar sp en fo ab op ra lk nl : Nat → Int32} {k a : Int32} {n hg A B : Nat} (hBA : B ≤ A) (hA : A < 2 ^ 30) (hn : n ≤ hg) (hs : hg - n < 6) (hA2 : A - B + 1 ≤ 24 → A < 144) (h4 : 24 < A - B + 1 → post (-4) (th, hr, nI hg, rg, so, xc, kd, ar, sp, en, fo, ab, op, ra, lk, nl)) (h5 : A - B + 1 ≤ 24 → post (nI (hg - n + 1)) (th, hr, nI (hg - n + 1), rg, so, xc, upd kd A k, upd ar A a, upd sp A (nI (A - B + 1)), upd en (hg - n) (nI (A + 1)), fo, ab, op, ra, lk, nl)) : wX_token_95 post k a (nI n) (nI A) (nI B) th hr (nI hg) rg so xc kd ar sp en fo ab op ra lk nl := by
  have e1 : nI A - nI B + 1 = nI (A - B + 1) := by rw [pk_sub hBA, nI_1]
  have e2 : nI hg - nI n + 1 = nI (hg - n + 1) := by rw [pk_sub hn, nI_1]
  have e3 : nI (hg - n + 1) - 1 = nI (hg - n) := nI_pred _
  have cA : (nI A).toNatClampNeg = A := nI_clamp (by omega)
  have cs : (nI (hg - n)).toNatClampNeg = hg - n := nI_clamp (by omega)
  unfold wX_token_95
  rw [e1, e2, cA, nI_1 A]
  refine pk_le (A - B + 1) 24 (fun hl => ?_) h4
  have vA : vp_in (nI A) 144 := vp_in_nI (hA2 hl) (by decide)
  refine ⟨vA, nm_e ⟨vA, nm_e ⟨vA, nm_e (nm_e ?_)⟩⟩⟩
  rw [e3, cs]
  exact ⟨vp_in_nI hs (by decide), nm_e (h5 hl)⟩
theorem xw_token {post : Int32 → SX → Prop} {th hr rg : Int32} {so xc kd ar sp en fo ab op ra lk nl : Nat → Int32} {k hg A B : Nat} {a : Int32} (hk : k ≤ 9) (h6 : hg ≤ 6) (hA : (hg = 0 → A = 0) ∧ (0 < hg → en (hg - 1) = nI A)) (hB0 : kw_tk k = 0 → B = A) (hB : kw_tk k ≤ hg → (hg - kw_tk k = 0 → B = 0) ∧ (0 < hg - kw_tk k → en (hg - kw_tk k - 1) = nI B)) (hBA : B ≤ A) (hA1 : A ≤ 144) (hA2 : hg - kw_tk k < 6 → A - B + 1 ≤ 24 → A < 144) (h1 : kt_ok k a = false → post (-1) (th, hr, nI hg, rg, so, xc, kd, ar, sp, en, fo, ab, op, ra, lk, nl)) (h2 : kt_ok k a = true → hg < kw_tk k → post (-2) (th, hr, nI hg, rg, so, xc, kd, ar, sp, en, fo, ab, op, ra, lk, nl)) (h3 : kt_ok k a = true → kw_tk k = 0 → hg = 6 → post (-3) (th, hr, nI hg, rg, so, xc, kd, ar, sp, en, fo, ab, op, ra, lk, nl)) (h4 : kt_ok k a = true → kw_tk k ≤ hg → hg - kw_tk k < 6 → 24 < A - B + 1 → post (-4) (th, hr, nI hg, rg, so, xc, kd, ar, sp, en, fo, ab, op, ra, lk, nl)) (h5 : kt_ok k a = true → kw_tk k ≤ hg → hg - kw_tk k < 6 → A - B + 1 ≤ 24 → post (nI (hg - kw_tk k + 1)) (th, hr, nI (hg - kw_tk k + 1), rg, so, xc, upd kd A (nI k), upd ar A a, upd sp A (nI (A - B + 1)), upd en (hg - kw_tk k) (nI (A + 1)), fo, ab, op, ra, lk, nl)) : wpX_token post (th, hr, nI hg, rg, so, xc, kd, ar, sp, en, fo, ab, op, ra, lk, nl) (nI k) a := by
  refine br_f (nI_pos (by omega)) (br_f (nI_nlt (a := 9) (b := k) hk (by decide)) (xw_fits hk (kw_bz h1 (fun ok => xw_taken hk ?_))))
  have tk2 : kw_tk k ≤ 2 := by
    rcases kw_10 hk with rfl | rfl | rfl | rfl | rfl | rfl | rfl | rfl | rfl | rfl <;> decide
  refine pk_le (kw_tk k) hg (fun hn => ?_) (h2 ok)
  have main : hg - kw_tk k < 6 → wX_token_52 post (nI k) a (nI (kw_tk k)) th hr (nI hg) rg so xc kd ar sp en fo ab op ra lk nl := by
    intro hs
    have h74 : wX_token_74 post (nI k) a (nI (kw_tk k)) (nI A) th hr (nI hg) rg so xc kd ar sp en fo ab op ra lk nl := by
      unfold wX_token_74
      by_cases e0 : kw_tk k = 0
      · have eB := hB0 e0
        subst eB
        refine br_t (by rw [e0]; decide) (xw_t95 (Nat.le_refl _) (by omega) hn hs (hA2 hs) (h4 ok hn hs) (h5 ok hn hs))
      · refine br_f (nI_ne0 (by omega) (by omega)) ?_
        rw [pk_sub hn]
        exact xw_startOf (by omega) (hB hn).1 (hB hn).2 (xw_t95 hBA (by omega) hn hs (hA2 hs) (h4 ok hn hs) (h5 ok hn hs))
    unfold wX_token_52
    by_cases e : hg = 0
    · have eA := hA.1 e
      rw [eA] at h74
      subst e
      exact br_t (by decide) h74
    · have e1 : nI hg - 1 = nI (hg - 1) := pk_sub (b := 1) (by omega)
      refine br_f (nI_ne0 (by omega) (by omega)) ?_
      rw [e1, nI_clamp (by omega), hA.2 (by omega)]
      exact ⟨vp_in_nI (by omega) (by decide), h74⟩
  refine pk_eq (kw_tk k) 0 (fun e0 => ?_) (fun e0 => main (by omega))
  exact pk_lt hg 6 (fun hl => main (by omega)) (fun hl => h3 ok e0 (by omega))
theorem yw_append {post : SY → Prop} {tt tr tg : Int32} {fa yc sz ks ag fi tk ia ho ro di : Nat → Int32} {s m : Nat} {k a : Int32} (hs : s < 6) (hm : m < 24) (e : sz s = nI m) (h : post (tt, tr, tg, fa, yc, upd sz s (nI (m + 1)), upd ks (24 * s + m) k, upd ag (24 * s + m) a, fi, tk, ia, ho, ro, di)) : wpY_append post (tt, tr, tg, fa, yc, sz, ks, ag, fi, tk, ia, ho, ro, di) (nI s) k a := by
  have cs : (nI s).toNatClampNeg = s := nI_clamp (by omega)
  have vs : vp_in (nI s) 6 := vp_in_nI hs (by decide)
  have cx : (nI (24 * s + m)).toNatClampNeg = 24 * s + m := nI_clamp (by omega)
  have vx : vp_in (nI (24 * s + m)) 144 := vp_in_nI (by omega) (by decide)
  unfold wpY_append
  dsimp only
  rw [cs, e, kw_ix24, cx, nI_1]
  exact ⟨vs, vx, nm_e ⟨vs, vx, nm_e ⟨vs, vs, nm_e h⟩⟩⟩
/-- what a token leaves in the reference's arrays -/
def kt_P (kd ar sz ks ag : Nat → Int32) (s A B k : Nat) (a : Int32) (sz' ks' ag' : Nat → Int32) : Prop := (∀ j, j < 24 * s → ks' j = ks j ∧ ag' j = ag j) ∧ (∀ t, B ≤ t → t < A → ks' (24 * s + (t - B)) = kd t ∧ ag' (24 * s + (t - B)) = ar t) ∧ (ks' (24 * s + (A - B)) = nI k ∧ ag' (24 * s + (A - B)) = a) ∧ sz' s = nI (A - B + 1) ∧ ∀ f, f < s → sz' f = sz f
theorem yw_t178 {post : Int32 → SY → Prop} {tt tr : Int32} {fa yc fi tk ia ho ro di : Nat → Int32} {hg s A B k : Nat} {a : Int32} {kd ar sz0 ks0 ag0 sz ks ag : Nat → Int32} (hs : s < 6) (hm : A - B + 1 ≤ 24) (e : sz s = nI (A - B)) (hz : ∀ f, f < s → sz f = sz0 f) (h1 : ∀ j, j < 24 * s → ks j = ks0 j ∧ ag j = ag0 j) (h2 : ∀ t, B ≤ t → t < A → ks (24 * s + (t - B)) = kd t ∧ ag (24 * s + (t - B)) = ar t) (h : ∀ sz ks ag, kt_P kd ar sz0 ks0 ag0 s A B k a sz ks ag → post (nI (s + 1)) (tt, tr, nI (s + 1), fa, yc, sz, ks, ag, fi, tk, ia, ho, ro, di)) : wY_token_178 post (nI k) a (nI s) tt tr (nI hg) fa yc sz ks ag fi tk ia ho ro di := by
  unfold wY_token_178
  refine yw_append hs (by omega) e (nm_r (nI_1 s) (h _ _ _ ⟨?_, ?_, ⟨pk_us, pk_us⟩, pk_us, ?_⟩))
  · intro j hj
    rw [pk_un (by omega), pk_un (by omega)]
    exact h1 j hj
  · intro t ht ht2
    rw [pk_un (by omega), pk_un (by omega)]
    exact h2 t ht ht2
  · intro f hf
    rw [pk_un (by omega)]
    exact hz f hf
theorem yw_t115 {post : Int32 → SY → Prop} {tt tr : Int32} {fa yc fi tk ia ho ro di : Nat → Int32} {hg s m1 m2 k : Nat} {a : Int32} {sz0 ks0 ag0 : Nat → Int32} (hs : s + 1 < 6) (hm : m1 + m2 + 1 ≤ 24) (h : ∀ sz ks ag, sz s = nI (m1 + m2) → (∀ f, f < s → sz f = sz0 f) → (∀ j, j < 24 * s + m1 → ks j = ks0 j ∧ ag j = ag0 j) → (∀ t, t < m2 → ks (24 * s + m1 + t) = ks0 (24 * s + 24 + t) ∧ ag (24 * s + m1 + t) = ag0 (24 * s + 24 + t)) → wY_token_178 post (nI k) a (nI s) tt tr (nI hg) fa yc sz ks ag fi tk ia ho ro di) (d : Nat) : ∀ i, i + d = m2 → ∀ sz ks ag, sz s = nI (m1 + i) → sz (s + 1) = nI m2 → (∀ f, f < s → sz f = sz0 f) → (∀ j, j < 24 * s + m1 → ks j = ks0 j ∧ ag j = ag0 j) → (∀ t, t < i → ks (24 * s + m1 + t) = ks0 (24 * s + 24 + t) ∧ ag (24 * s + m1 + t) = ag0 (24 * s + 24 + t)) → (∀ t, t < m2 → ks (24 * s + 24 + t) = ks0 (24 * s + 24 + t) ∧ ag (24 * s + 24 + t) = ag0 (24 * s + 24 + t)) → wY_token_115 post (nI k) a (nI 2) (nI s) (d + 1) (nI i) tt tr (nI hg) fa yc sz ks ag fi tk ia ho ro di := by
  have cs : (nI (s + 1)).toNatClampNeg = s + 1 := nI_clamp (by omega)
  have vs : vp_in (nI (s + 1)) 6 := vp_in_nI hs (by decide)
  induction d with
  | zero =>
    intro i hi sz ks ag e1 e2 e3 e4 e5 e6
    have ei : i = m2 := by omega
    subst ei
    refine br_t (by decide) ?_
    rw [nI_1, cs, e2]
    exact ⟨vs, br_t (nI_le (Nat.le_refl _) (by omega)) (h sz ks ag e1 e3 e4 e5)⟩
  | succ d ih =>
    intro i hi sz ks ag e1 e2 e3 e4 e5 e6
    have ex : 24 * nI s + 24 + nI i = nI (24 * s + 24 + i) := by
      show nI 24 * nI s + nI 24 + nI i = _
      rw [pk_mul, nI_add, nI_add]
    have cx : (nI (24 * s + 24 + i)).toNatClampNeg = 24 * s + 24 + i := nI_clamp (by omega)
    have vx : vp_in (nI (24 * s + 24 + i)) 144 := vp_in_nI (by omega) (by decide)
    refine br_t (by decide) ?_
    rw [nI_1, cs, e2, ex, cx]
    refine ⟨vs, br_f (nI_ge (by omega) (by omega)) ⟨vx, vx, yw_append (by omega) (by omega) e1 (nm_r (nI_1 i) ?_)⟩⟩
    refine ih (i + 1) (by omega) _ _ _ ?_ ?_ ?_ ?_ ?_ ?_
    · rw [pk_us]; exact congrArg nI (by omega)
    · rw [pk_un (by omega)]; exact e2
    · intro f hf; rw [pk_un (by omega)]; exact e3 f hf
    · intro j hj; rw [pk_un (by omega), pk_un (by omega)]; exact e4 j hj
    · intro t ht
      by_cases et : t = i
      · subst et
        rw [show 24 * s + m1 + t = 24 * s + (m1 + t) by omega, pk_us, pk_us]
        exact e6 t (by omega)
      · rw [pk_un (by omega), pk_un (by omega)]; exact e5 t (by omega)
    · intro t ht; rw [pk_un (by omega), pk_un (by omega)]; exact e6 t ht
theorem yw_t55 {post : Int32 → SY → Prop} {tt tr : Int32} {fa yc sz ks ag fi tk ia ho ro di : Nat → Int32} {x1 x2 : Int32} {hg n s : Nat} {st : Nat → Nat} (h6 : hg ≤ 6) (hs : s + n = hg) (hz : ∀ f, s ≤ f → f < hg → sz f = nI (st (f + 1) - st f)) (hm : ∀ f, s ≤ f → f < hg → st s ≤ st f ∧ st f ≤ st (f + 1)) (hb : ∀ f, f ≤ hg → st f ≤ 144) (h4 : 24 < st hg - st s + 1 → post (-4) (tt, tr, nI hg, fa, yc, sz, ks, ag, fi, tk, ia, ho, ro, di)) (h0 : st hg - st s + 1 ≤ 24 → n = 0 → ∃ n115, wY_token_115 post x1 x2 (nI n) (nI s) n115 0 tt tr (nI hg) fa yc (upd sz s 0) ks ag fi tk ia ho ro di) (h1 : st hg - st s + 1 ≤ 24 → n ≠ 0 → ∃ n115, wY_token_115 post x1 x2 (nI n) (nI s) n115 0 tt tr (nI hg) fa yc sz ks ag fi tk ia ho ro di) (hs6 : s < 6) (d : Nat) : ∀ j, j + d = n → wY_token_55 post x1 x2 (nI n) tt tr (nI hg) fa yc sz ks ag fi tk ia ho ro di (d + 1) (nI (st (s + j) - st s + 1)) (nI (s + j)) := by
  induction d with
  | zero =>
    intro j hj
    have ej : s + j = hg := by omega
    have hbb := hb hg (Nat.le_refl _)
    rw [ej]
    refine br_t (nI_le (Nat.le_refl _) (by omega)) (pk_le (st hg - st s + 1) 24 (fun hl => ?_) h4)
    refine nm_r (e' := nI s) (by rw [pk_sub (by omega)]; exact congrArg nI (by omega)) ?_
    rw [nI_clamp (by omega)]
    exact pk_eq n 0 (fun e => ⟨vp_in_nI hs6 (by decide), nm_e (h0 hl e)⟩) (fun e => h1 hl e)
  | succ d ih =>
    intro j hj
    have hmj := hm (s + j) (by omega) (by omega)
    refine br_f (nI_ge (by omega) (by omega)) ⟨vp_in_nI (by omega) (by decide), ?_⟩
    rw [nI_clamp (by omega), hz (s + j) (by omega) (by omega)]
    refine nm_r (e' := nI (st (s + (j + 1)) - st s + 1)) ?_ (nm_r (e' := nI (s + (j + 1))) (nI_1 (s + j)) (ih (j + 1) (by omega)))
    rw [nI_add]
    refine congrArg nI ?_
    rw [show s + (j + 1) = s + j + 1 by omega]
    omega
end
section
/-! token: the stack of formulas -/
theorem kr_mono {hg : Nat} {kd ar sp en sz ks ag : Nat → Int32} {st K S : Nat → Nat} (hall : ∀ f, f < hg → kr_f kd ar sp en sz ks ag K S f (st f) (st (f + 1))) (s d : Nat) : s + d ≤ hg → st s ≤ st (s + d) := by
  induction d with
  | zero => intro _; exact Nat.le_refl _
  | succ d ih =>
    intro h
    have a := ih (by omega)
    have b := (hall (s + d) (by omega)).2.1
    rw [show s + (d + 1) = s + d + 1 by omega]
    omega
theorem kr_find {hg : Nat} {kd ar sp en sz ks ag : Nat → Int32} {st K S : Nat → Nat} (hall : ∀ f, f < hg → kr_f kd ar sp en sz ks ag K S f (st f) (st (f + 1))) (s d t : Nat) : s + d ≤ hg → st s ≤ t → t < st (s + d) → ∃ f, s ≤ f ∧ f < hg ∧ st f ≤ t ∧ t < st (f + 1) := by
  induction d with
  | zero =>
    intro _ h1 h2
    rw [Nat.add_zero] at h2
    omega
  | succ d ih =>
    intro h h1 h2
    by_cases e : t < st (s + d)
    · exact ih (by omega) h1 e
    · exact ⟨s + d, by omega, by omega, by omega, by rw [show s + d + 1 = s + (d + 1) by omega]; exact h2⟩
theorem kr_okX {K S K' S' : Nat → Nat} {s s' t : Nat} (h : kr_ok K S s t) (hx : ∀ x, x ≤ t → K' x = K x ∧ S' x = S x) (hs : s' ≤ s) : kr_ok K' S' s' t := by
  unfold kr_ok
  rw [(hx t (Nat.le_refl t)).1, (hx t (Nat.le_refl t)).2, (hx (t - 1) (by omega)).2, (hx (t - 1 - S (t - 1)) (by omega)).2]
  rcases h with h | ⟨h1, h2, h3⟩ | ⟨h1, h2, h3⟩
  · exact Or.inl h
  · exact Or.inr (Or.inl ⟨h1, by omega, h3⟩)
  · exact Or.inr (Or.inr ⟨h1, by omega, h3⟩)
theorem kw_tk_le {k : Nat} : kw_tk k ≤ 2 := by
  unfold kw_tk
  by_cases e : k = 0
  · rw [if_pos e]; omega
  · rw [if_neg e]
    by_cases e2 : k = 2 ∨ k = 3 ∨ k = 4 ∨ k = 9
    · rw [if_pos e2]; omega
    · rw [if_neg e2]; omega
theorem kr_push {hg k s A B : Nat} {a : Int32} {kd ar sp en sz ks ag sz' ks' ag' : Nat → Int32} {st K S : Nat → Nat} (h0 : st 0 = 0) (hall : ∀ f, f < hg → kr_f kd ar sp en sz ks ag K S f (st f) (st (f + 1))) (h6 : hg ≤ 6) (hk : k ≤ 9) (hs : s + kw_tk k = hg) (hs6 : s < 6) (eA : A = st hg) (eB : B = st s) (hm : A - B + 1 ≤ 24) (ha : kf_A k a) (hP : kt_P kd ar sz ks ag s A B k a sz' ks' ag') : kr_K (s + 1) (upd kd A (nI k)) (upd ar A a) (upd sp A (nI (A - B + 1))) (upd en s (nI (A + 1))) sz' ks' ag' := by
  obtain ⟨p1, p2, ⟨p3, p4⟩, p5, p6⟩ := hP
  have hBA : B ≤ A := by
    have := kr_mono hall s (kw_tk k) (by omega)
    rw [hs] at this
    omega
  have hx : ∀ t, t < A → ∀ x, x ≤ t → (fun t => if t = A then k else K t) x = K x ∧ (fun t => if t = A then A - B + 1 else S t) x = S x := by
    intro t ht x hx
    exact ⟨if_neg (by omega), if_neg (by omega)⟩
  refine ⟨by omega, fun f => if f = s + 1 then A + 1 else st f, fun t => if t = A then k else K t, fun t => if t = A then A - B + 1 else S t, ?_, ?_⟩
  · show (if 0 = s + 1 then A + 1 else st 0) = 0
    rw [if_neg (by omega)]; exact h0
  · intro f hf
    by_cases e : f = s
    · subst e
      have e1 : (fun g => if g = f + 1 then A + 1 else st g) f = B := by
        show (if f = f + 1 then A + 1 else st f) = B
        rw [if_neg (by omega)]; exact eB.symm
      have e2 : (fun g => if g = f + 1 then A + 1 else st g) (f + 1) = A + 1 := if_pos rfl
      rw [e1, e2]
      refine ⟨pk_us, by omega, by omega, ?_, ?_, ?_⟩
      · rw [p5]; exact congrArg nI (by omega)
      · show (if A + 1 - 1 = A then A - B + 1 else S (A + 1 - 1)) = A + 1 - B
        rw [if_pos (by omega)]; omega
      · intro t ht1 ht2
        by_cases et : t = A
        · subst et
          have f1 : (if t = t then k else K t) = k := if_pos rfl
          have f2 : (if t = t then t - B + 1 else S t) = t - B + 1 := if_pos rfl
          dsimp only
          rw [f1, f2, pk_us, pk_us, pk_us, p3, p4]
          refine ⟨hk, rfl, rfl, ha, ?_, rfl, rfl⟩
          unfold kr_ok
          dsimp only
          rw [f1, f2]
          have t2 := kw_tk_le (k := k)
          by_cases n0 : kw_tk k = 0
          · left
            have : f = hg := by omega
            subst this
            exact ⟨n0, by omega⟩
          · by_cases n1 : kw_tk k = 1
            · right; left
              obtain ⟨a1, a2, a3, a4, a5, a6⟩ := hall f (by omega)
              rw [show f + 1 = hg by omega, ← eA, ← eB] at a2 a5
              rw [if_neg (show ¬ t - 1 = t by omega), a5]
              exact ⟨n1, by omega, rfl⟩
            · right; right
              obtain ⟨a1, a2, a3, a4, a5, a6⟩ := hall f (by omega)
              obtain ⟨b1, b2, b3, b4, b5, b6⟩ := hall (f + 1) (by omega)
              rw [show f + 1 + 1 = hg by omega, ← eA] at b2 b5
              rw [← eB] at a2 a5
              rw [if_neg (show ¬ t - 1 = t by omega), b5, show t - 1 - (t - st (f + 1)) = st (f + 1) - 1 by omega, if_neg (show ¬ st (f + 1) - 1 = t by omega), a5]
              exact ⟨by omega, by omega, by omega⟩
        · have htA : t < A := by omega
          obtain ⟨g, hg1, hg2, hg3, hg4⟩ := kr_find hall f (kw_tk k) t (by omega) (by omega) (by rw [hs]; omega)
          obtain ⟨c1, c2, c3, c4, c5, c6, c7⟩ := (hall g hg2).2.2.2.2.2 t hg3 hg4
          have hgB : B ≤ st g := by
            have := kr_mono hall f (g - f) (by omega)
            rw [show f + (g - f) = g by omega] at this
            omega
          have q := p2 t ht1 htA
          dsimp only
          rw [pk_un et, pk_un et, pk_un et, if_neg et, if_neg et]
          exact ⟨c1, c2, c3, c4, kr_okX c5 (hx t htA) hgB, q.1, q.2⟩
    · have hfs : f < s := by omega
      have e1 : (fun g => if g = s + 1 then A + 1 else st g) f = st f := if_neg (by omega)
      have e2 : (fun g => if g = s + 1 then A + 1 else st g) (f + 1) = st (f + 1) := if_neg (by omega)
      rw [e1, e2]
      obtain ⟨a1, a2, a3, a4, a5, a6⟩ := hall f (by omega)
      have hfB : st (f + 1) ≤ B := by
        have := kr_mono hall (f + 1) (s - (f + 1)) (by omega)
        rw [show f + 1 + (s - (f + 1)) = s by omega] at this
        omega
      refine ⟨by rw [pk_un (by omega)]; exact a1, a2, a3, by rw [p6 f hfs]; exact a4, ?_, ?_⟩
      · show (if st (f + 1) - 1 = A then A - B + 1 else S (st (f + 1) - 1)) = _
        rw [if_neg (by omega)]; exact a5
      · intro t ht1 ht2
        have et : t ≠ A := by omega
        obtain ⟨c1, c2, c3, c4, c5, c6, c7⟩ := a6 t ht1 ht2
        have q := p1 (24 * f + (t - st f)) (by omega)
        dsimp only
        rw [pk_un et, pk_un et, pk_un et, if_neg et, if_neg et, q.1, q.2]
        exact ⟨c1, c2, c3, c4, kr_okX c5 (hx t (by omega)) (Nat.le_refl _), c6, c7⟩
theorem yw_token {post : Int32 → SY → Prop} {tt tr : Int32} {fa yc sz ks ag fi tk ia ho ro di : Nat → Int32} {k hg s : Nat} {a : Int32} {kd ar sp en : Nat → Int32} {st K S : Nat → Nat} (h0 : st 0 = 0) (hall : ∀ f, f < hg → kr_f kd ar sp en sz ks ag K S f (st f) (st (f + 1))) (h6 : hg ≤ 6) (hk : k ≤ 9) (es : s = hg - kw_tk k) (h1 : kt_ok k a = false → post (-1) (tt, tr, nI hg, fa, yc, sz, ks, ag, fi, tk, ia, ho, ro, di)) (h2 : kt_ok k a = true → hg < kw_tk k → post (-2) (tt, tr, nI hg, fa, yc, sz, ks, ag, fi, tk, ia, ho, ro, di)) (h3 : kt_ok k a = true → kw_tk k = 0 → hg = 6 → post (-3) (tt, tr, nI hg, fa, yc, sz, ks, ag, fi, tk, ia, ho, ro, di)) (h4 : kt_ok k a = true → kw_tk k ≤ hg → s < 6 → 24 < st hg - st s + 1 → post (-4) (tt, tr, nI hg, fa, yc, sz, ks, ag, fi, tk, ia, ho, ro, di)) (h5 : kt_ok k a = true → kw_tk k ≤ hg → s < 6 → st hg - st s + 1 ≤ 24 → ∀ sz' ks' ag', kt_P kd ar sz ks ag s (st hg) (st s) k a sz' ks' ag' → post (nI (s + 1)) (tt, tr, nI (s + 1), fa, yc, sz', ks', ag', fi, tk, ia, ho, ro, di)) : wpY_token post (tt, tr, nI hg, fa, yc, sz, ks, ag, fi, tk, ia, ho, ro, di) (nI k) a := by
  unfold wpY_token
  dsimp only
  refine yw_isToken hk (kw_bz h1 (fun ok => yw_takes hk ?_))
  have t2 := kw_tk_le (k := k)
  refine pk_le (kw_tk k) hg (fun hn => ?_) (h2 ok)
  have hst := kr_st h0 hall
  have main : s < 6 → ∃ n55, wY_token_55 post (nI k) a (nI (kw_tk k)) tt tr (nI hg) fa yc sz ks ag fi tk ia ho ro di n55 1 (nI s) := by
    intro hs6
    have hsn : s + kw_tk k = hg := by omega
    have H := yw_t55 (post := post) (x1 := nI k) (x2 := a) (tt := tt) (tr := tr) (fa := fa) (yc := yc) (sz := sz) (ks := ks) (ag := ag) (fi := fi) (tk := tk) (ia := ia) (ho := ho) (ro := ro) (di := di) (st := st) h6 hsn (fun f f1 f2 => (hall f f2).2.2.2.1) (fun f f1 f2 => ?_) (fun f hf => ?_) (h4 ok hn hs6) (fun hl n0 => ?_) (fun hl n0 => ?_) hs6 (kw_tk k) 0 (by omega)
    · rw [show s + 0 = s from rfl, Nat.sub_self] at H
      exact ⟨_, H⟩
    · have a1 := kr_mono hall s (f - s) (by omega)
      have a2 := (hall f f2).2.1
      rw [show s + (f - s) = f by omega] at a1
      omega
    · have := hst f hf
      omega
    · have eh : hg = s := by omega
      refine ⟨1, br_f (by rw [n0]; decide) (yw_t178 (A := st hg) (B := st s) hs6 hl ?_ ?_ (fun j hj => ⟨rfl, rfl⟩) (fun t t1 t3 => by rw [eh] at t3; omega) (h5 ok hn hs6 hl))⟩
      · rw [pk_us, eh, Nat.sub_self]; rfl
      · intro f hf; rw [pk_un (by omega)]
    · by_cases n1 : kw_tk k = 1
      · obtain ⟨a1, a2, a3, a4, a5, a6⟩ := hall s (by omega)
        have eh : s + 1 = hg := by omega
        rw [eh] at a4 a6
        refine ⟨1, br_f (by rw [n1]; decide) (yw_t178 (A := st hg) (B := st s) hs6 hl a4 (fun f hf => rfl) (fun j hj => ⟨rfl, rfl⟩) (fun t t1 t3 => ?_) (h5 ok hn hs6 hl))⟩
        have q := a6 t t1 t3
        exact q.2.2.2.2.2
      · have n2 : kw_tk k = 2 := by omega
        obtain ⟨a1, a2, a3, a4, a5, a6⟩ := hall s (by omega)
        obtain ⟨b1, b2, b3, b4, b5, b6⟩ := hall (s + 1) (by omega)
        rw [show s + 1 + 1 = hg by omega] at b2 b3 b4 b5 b6
        rw [n2]
        refine ⟨_, yw_t115 (m1 := st (s + 1) - st s) (m2 := st hg - st (s + 1)) (sz0 := sz) (ks0 := ks) (ag0 := ag) (by omega) (by omega) (fun sz1 ks1 ag1 e1 e3 e4 e5 => ?_) (st hg - st (s + 1)) 0 (by omega) sz ks ag (by rw [Nat.add_zero]; exact a4) b4 (fun f hf => rfl) (fun j hj => ⟨rfl, rfl⟩) (fun t ht => absurd ht (by omega)) (fun t ht => ⟨rfl, rfl⟩)⟩
        refine yw_t178 (A := st hg) (B := st s) hs6 hl (by rw [e1]; exact congrArg nI (by omega)) e3 (fun j hj => e4 j (by omega)) (fun t t1 t3 => ?_) (h5 ok hn hs6 hl)
        by_cases hc : t < st (s + 1)
        · have q := (a6 t t1 hc).2.2.2.2.2
          have q2 := e4 (24 * s + (t - st s)) (by omega)
          rw [q2.1, q2.2]
          exact q
        · have q := (b6 t (by omega) t3).2.2.2.2.2
          have q2 := e5 (t - st (s + 1)) (by omega)
          rw [show 24 * s + (st (s + 1) - st s) + (t - st (s + 1)) = 24 * s + (t - st s) by omega, show 24 * s + 24 + (t - st (s + 1)) = 24 * (s + 1) + (t - st (s + 1)) by omega] at q2
          rw [q2.1, q2.2]
          exact q
  have e1 : nI hg - nI (kw_tk k) = nI s := by rw [pk_sub hn, es]
  exact pk_eq (kw_tk k) 0 (fun e0 => pk_eq hg 6 (fun e6 => h3 ok e0 e6) (fun n6 => nm_r e1 (main (by omega)))) (fun e0 => nm_r e1 (main (by omega)))
theorem yw_noToken {post : Int32 → Prop} {tt tr tg : Int32} {fa yc sz ks ag fi tk ia ho ro di : Nat → Int32} {x a : Int32} (hx : x < 0 ∨ ∃ j, 10 ≤ j ∧ j < 2 ^ 31 ∧ x = nI j) (h : post 0) : wpY_isToken post (tt, tr, tg, fa, yc, sz, ks, ag, fi, tk, ia, ho, ro, di) x a := by
  rcases hx with hx | ⟨j, hj, hj2, rfl⟩
  · have n0 : ¬ x = 0 := fun e => by rw [e] at hx; exact absurd hx (by decide)
    have n5 : ¬ x = 5 := fun e => by rw [e] at hx; exact absurd hx (by decide)
    exact br_f n0 (br_f n5 (br_t (Int32.lt_trans hx (by decide)) (br_t (Int32.le_of_lt hx) h)))
  · have n5 : ¬ nI j = 5 := fun e => by have := (nI_eq (b := 5) hj2 (by decide)).mp e; omega
    exact br_f (nI_ne0 (by omega) hj2) (br_f n5 (br_f (nI_nlt (b := 6) (by omega) hj2) (br_t (nI_lt (a := 8) (by omega) hj2) (br_f (nI_nle (by omega) hj2) (br_t (nI_lt (a := 9) (by omega) hj2) h)))))
theorem i_vc_token {k : Nat} {u : SX} {v : SY} (I : i_Rel k u v) (hk : k + 4 ≤ 2048) (v1 : Int32) (v2 : Int32) : wpX_token (fun r u' => wpY_token (fun r' v' => r' = r ∧ i_Rel (k + 4) u' v') v v1 v2) u v1 v2 := by
  refine kr_el (P := fun u v => wpX_token (fun r u' => wpY_token (fun r' v' => r' = r ∧ i_Rel (k + 4) u' v') v v1 v2) u v1 v2) I ?_
  intro th rg so xc kd ar sp en fo ab op ra lk nl yc sz ks ag fi tk ia ho ro di p hg hH
  have hno : (v1 < 0 ∨ ∃ j, 10 ≤ j ∧ j < 2 ^ 31 ∧ v1 = nI j) → wpY_token (fun r' v' => r' = -1 ∧ i_Rel (k + 4) (th, nI p, nI hg, rg, so, xc, kd, ar, sp, en, fo, ab, op, ra, lk, nl) v') (th, nI p, nI hg, so, yc, sz, ks, ag, fi, tk, ia, ho, ro, di) v1 v2 := by
    intro hx
    unfold wpY_token
    exact yw_noToken hx (br_t rfl ⟨rfl, kr_in hH⟩)
  rcases kw_ix v1 10 (by decide) with hx | ⟨j, hj, hj2, ej⟩ | ⟨j, hj, rfl⟩
  · exact br_t hx (hno (Or.inl hx))
  · have a1 : ¬ v1 < 0 := by rw [ej]; exact nI_pos hj2
    have a2 : 9 < v1 := by rw [ej]; exact nI_lt (a := 9) (by omega) hj2
    exact br_f a1 (br_t a2 (hno (Or.inr ⟨j, hj, hj2, ej⟩)))
  · obtain ⟨hp, hb, hT, hC, h6, st, K, S, h0, hall⟩ := hH
    have hst := kr_st h0 hall
    obtain ⟨s, es⟩ : ∃ s, s = hg - kw_tk j := ⟨_, rfl⟩
    have hK : kr_K hg kd ar sp en sz ks ag := ⟨h6, st, K, S, h0, hall⟩
    have hR : kr_H th p hg xc kd ar sp en yc sz ks ag := ⟨hp, hb, hT, hC, hK⟩
    have een : ∀ f, 0 < f → f ≤ hg → en (f - 1) = nI (st f) := by
      intro f f1 f2
      have := (hall (f - 1) (by omega)).1
      rw [show f - 1 + 1 = f by omega] at this
      exact this
    have hmono : st s ≤ st hg := by
      have := kr_mono hall s (hg - s) (by omega)
      rw [show s + (hg - s) = hg by omega] at this
      exact this
    have hj9 : j ≤ 9 := by omega
    have b1 := hst hg (Nat.le_refl _)
    have b2 := hst s (by omega)
    refine xw_token (A := st hg) (B := st s) hj9 h6 ⟨fun e => by rw [e]; exact h0, fun e => een hg e (Nat.le_refl _)⟩ (fun e => by rw [es, e]; rfl) (fun e => ⟨fun z => by rw [es, z]; exact h0, fun z => by rw [← es] at z ⊢; exact een s z (by omega)⟩) hmono (by omega) (fun z1 z2 => by omega) (fun z => ?_) (fun ok z => ?_) (fun ok z1 z2 => ?_) (fun ok z1 z2 z3 => ?_) (fun ok z1 z2 z3 => ?_)
    · exact yw_token h0 hall h6 hj9 es (fun _ => ⟨rfl, kr_in hR⟩) (fun y => absurd (z.symm.trans y) (by decide)) (fun y => absurd (z.symm.trans y) (by decide)) (fun y => absurd (z.symm.trans y) (by decide)) (fun y => absurd (z.symm.trans y) (by decide))
    · exact yw_token h0 hall h6 hj9 es (fun y => absurd (y.symm.trans ok) (by decide)) (fun _ _ => ⟨rfl, kr_in hR⟩) (fun _ y1 y2 => absurd z (by omega)) (fun _ y => absurd z (by omega)) (fun _ y => absurd z (by omega))
    · exact yw_token h0 hall h6 hj9 es (fun y => absurd (y.symm.trans ok) (by decide)) (fun _ y => absurd z1 (by omega)) (fun _ _ _ => ⟨rfl, kr_in hR⟩) (fun _ y1 y2 => absurd z2 (by omega)) (fun _ y1 y2 => absurd z2 (by omega))
    · exact yw_token h0 hall h6 hj9 es (fun y => absurd (y.symm.trans ok) (by decide)) (fun _ y => absurd z1 (by omega)) (fun _ y1 y2 => absurd z2 (by omega)) (fun _ _ _ _ => ⟨rfl, kr_in hR⟩) (fun _ y1 y2 y3 => absurd z3 (by omega))
    · rw [← es] at z2 ⊢
      refine yw_token h0 hall h6 hj9 es (fun y => absurd (y.symm.trans ok) (by decide)) (fun _ y => absurd z1 (by omega)) (fun _ y1 y2 => absurd z2 (by omega)) (fun _ y1 y2 y3 => absurd z3 (by omega)) (fun _ y1 y2 y3 sz' ks' ag' hP => ⟨rfl, kr_in ⟨hp, hb, hT, hC, ?_⟩⟩)
      exact kr_push h0 hall h6 hj9 (by omega) z2 rfl rfl z3 (kt_A ok) hP
end
section
/-! worlds that are told apart within n rounds: plain laws -/
def kq_tl (th : Int32) (yc : Nat → Int32) (Q : Nat → Nat → Bool) (a w v : Nat) : Bool := kw_an 16 (fun x => (bt th x && ky_s yc a w x) && kw_al 16 (fun y => !bt th y || (!ky_s yc a v y || !Q x y)))
def kq_Q (th : Int32) (so yc : Nat → Int32) : Nat → Nat → Nat → Bool
  | 0 => fun w v => decide (so w = so v)
  | n + 1 => fun w v => kq_Q th so yc n w v && kw_al 3 (fun a => !(kq_tl th yc (kq_Q th so yc n) a w v || kq_tl th yc (kq_Q th so yc n) a v w))
theorem kq_tlF {th : Int32} {yc : Nat → Int32} {Q : Nat → Nat → Bool} {a w v : Nat} : kq_tl th yc Q a w v = false ↔ ∀ x, x < 16 → bt th x = true → ky_s yc a w x = true → ∃ y, y < 16 ∧ bt th y = true ∧ ky_s yc a v y = true ∧ Q x y = true := by
  unfold kq_tl
  rw [kw_anF]
  constructor
  · intro h x hx h1 h2
    have h3 := h x hx
    rw [h1, h2] at h3
    have h4 : kw_al 16 (fun y => !bt th y || (!ky_s yc a v y || !Q x y)) = false := h3
    obtain ⟨y, hy, h5⟩ := kw_alF.mp h4
    refine ⟨y, hy, ?_⟩
    cases b1 : bt th y
    · rw [b1] at h5; exact absurd h5 (by simp)
    · cases b2 : ky_s yc a v y
      · rw [b1, b2] at h5; exact absurd h5 (by simp)
      · cases b3 : Q x y
        · rw [b1, b2, b3] at h5; exact absurd h5 (by simp)
        · exact ⟨rfl, rfl, rfl⟩
  · intro h x hx
    cases b1 : bt th x
    · rfl
    · cases b2 : ky_s yc a w x
      · rfl
      · obtain ⟨y, hy, c1, c2, c3⟩ := h x hx b1 b2
        show kw_al 16 (fun y => !bt th y || (!ky_s yc a v y || !Q x y)) = false
        refine kw_alF.mpr ⟨y, hy, ?_⟩
        rw [c1, c2, c3]; rfl
theorem kq_QS {th : Int32} {so yc : Nat → Int32} {n w v : Nat} : kq_Q th so yc (n + 1) w v = true ↔ kq_Q th so yc n w v = true ∧ ∀ a, a < 3 → kq_tl th yc (kq_Q th so yc n) a w v = false ∧ kq_tl th yc (kq_Q th so yc n) a v w = false := by
  show (kq_Q th so yc n w v && kw_al 3 (fun a => !(kq_tl th yc (kq_Q th so yc n) a w v || kq_tl th yc (kq_Q th so yc n) a v w))) = true ↔ _
  rw [Bool.and_eq_true, kw_alI]
  refine and_congr_right fun _ => ?_
  constructor
  · intro h a ha
    have := h a ha
    cases b1 : kq_tl th yc (kq_Q th so yc n) a w v
    · cases b2 : kq_tl th yc (kq_Q th so yc n) a v w
      · exact ⟨rfl, rfl⟩
      · rw [b1, b2] at this; exact absurd this (by decide)
    · rw [b1] at this; exact absurd this (by simp)
  · intro h a ha
    show (!(kq_tl th yc (kq_Q th so yc n) a w v || kq_tl th yc (kq_Q th so yc n) a v w)) = true
    rw [(h a ha).1, (h a ha).2]; rfl
theorem kq_eqv (th : Int32) (so yc : Nat → Int32) (n : Nat) : (∀ w, kq_Q th so yc n w w = true) ∧ (∀ w v, kq_Q th so yc n w v = true → kq_Q th so yc n v w = true) ∧ (∀ u v w, kq_Q th so yc n u v = true → kq_Q th so yc n v w = true → kq_Q th so yc n u w = true) := by
  induction n with
  | zero =>
    refine ⟨fun w => decide_eq_true rfl, fun w v h => ?_, fun u v w h1 h2 => ?_⟩
    · exact decide_eq_true (of_decide_eq_true (show decide (so w = so v) = true from h)).symm
    · exact decide_eq_true ((of_decide_eq_true (show decide (so u = so v) = true from h1)).trans (of_decide_eq_true (show decide (so v = so w) = true from h2)))
  | succ n ih =>
    obtain ⟨r, s, t⟩ := ih
    have tr1 : ∀ a u v w, kq_tl th yc (kq_Q th so yc n) a u v = false → kq_tl th yc (kq_Q th so yc n) a v w = false → kq_tl th yc (kq_Q th so yc n) a u w = false := by
      intro a u v w h1 h2
      rw [kq_tlF] at h1 h2 ⊢
      intro x hx b1 b2
      obtain ⟨y, hy, c1, c2, c3⟩ := h1 x hx b1 b2
      obtain ⟨z, hz, d1, d2, d3⟩ := h2 y hy c1 c2
      exact ⟨z, hz, d1, d2, t x y z c3 d3⟩
    refine ⟨fun w => kq_QS.mpr ⟨r w, fun a _ => ?_⟩, fun w v h => ?_, fun u v w h1 h2 => ?_⟩
    · have : kq_tl th yc (kq_Q th so yc n) a w w = false := kq_tlF.mpr fun x hx b1 b2 => ⟨x, hx, b1, b2, r x⟩
      exact ⟨this, this⟩
    · have h' := kq_QS.mp h
      exact kq_QS.mpr ⟨s w v h'.1, fun a ha => ⟨(h'.2 a ha).2, (h'.2 a ha).1⟩⟩
    · have a1 := kq_QS.mp h1
      have a2 := kq_QS.mp h2
      exact kq_QS.mpr ⟨t u v w a1.1 a2.1, fun a ha => ⟨tr1 a u v w (a1.2 a ha).1 (a2.2 a ha).1, tr1 a w v u (a2.2 a ha).2 (a1.2 a ha).2⟩⟩
def kq_A (th : Int32) (so yc : Nat → Int32) (n w : Nat) : Bool := bt th w && kw_al w (fun v => !(bt th v && kq_Q th so yc n w v))
theorem kq_AI {th : Int32} {so yc : Nat → Int32} {n w : Nat} : kq_A th so yc n w = true ↔ bt th w = true ∧ ∀ v, v < w → bt th v = true → kq_Q th so yc n w v = false := by
  unfold kq_A
  rw [Bool.and_eq_true, kw_alI]
  refine and_congr_right fun _ => ?_
  constructor
  · intro h v hv b1
    have := h v hv
    rw [b1] at this
    cases b2 : kq_Q th so yc n w v
    · rfl
    · rw [b2] at this; exact absurd this (by decide)
  · intro h v hv
    cases b1 : bt th v
    · rfl
    · rw [h v hv b1]; rfl
theorem kq_rep {th : Int32} {so yc : Nat → Int32} {n : Nat} (x : Nat) : bt th x = true → ∃ z, z ≤ x ∧ bt th z = true ∧ kq_Q th so yc n x z = true ∧ kq_A th so yc n z = true := by
  induction x using Nat.strongRecOn with
  | _ x ih =>
    intro hb
    obtain ⟨r, s, t⟩ := kq_eqv th so yc n
    cases hA : kq_A th so yc n x
    · have : ¬ (bt th x = true ∧ ∀ v, v < x → bt th v = true → kq_Q th so yc n x v = false) := by
        rw [← kq_AI, hA]; decide
      have h2 : ∃ v, v < x ∧ bt th v = true ∧ kq_Q th so yc n x v = true := by
        refine Classical.byContradiction fun z => this ⟨hb, fun v hv b1 => ?_⟩
        exact kw_bF.mpr fun b2 => z ⟨v, hv, b1, b2⟩
      obtain ⟨v, hv, b1, b2⟩ := h2
      obtain ⟨z, hz, c1, c2, c3⟩ := ih v hv b1
      exact ⟨z, by omega, c1, t x v z b2 c2, c3⟩
    · exact ⟨x, Nat.le_refl x, hb, r x, hA⟩
theorem kq_tlX {th : Int32} {yc : Nat → Int32} {Q R : Nat → Nat → Bool} (h : ∀ x y, x < 16 → y < 16 → bt th x = true → bt th y = true → Q x y = R x y) (a w v : Nat) : kq_tl th yc Q a w v = kq_tl th yc R a w v := by
  apply kp_beq
  have key : kq_tl th yc Q a w v = false ↔ kq_tl th yc R a w v = false := by
    rw [kq_tlF, kq_tlF]
    constructor
    · intro k x hx b1 b2
      obtain ⟨y, hy, c1, c2, c3⟩ := k x hx b1 b2
      exact ⟨y, hy, c1, c2, by rw [← h x y hx hy b1 c1]; exact c3⟩
    · intro k x hx b1 b2
      obtain ⟨y, hy, c1, c2, c3⟩ := k x hx b1 b2
      exact ⟨y, hy, c1, c2, by rw [h x y hx hy b1 c1]; exact c3⟩
  cases h1 : kq_tl th yc Q a w v <;> cases h2 : kq_tl th yc R a w v
  · exact Iff.rfl
  · rw [h1, h2] at key; exact absurd (key.mp rfl) (by decide)
  · rw [h1, h2] at key; exact absurd (key.mpr rfl) (by decide)
  · exact Iff.rfl
theorem kq_stay {th : Int32} {so yc : Nat → Int32} {n : Nat} (h : ∀ x y, x < 16 → y < 16 → bt th x = true → bt th y = true → kq_Q th so yc (n + 1) x y = kq_Q th so yc n x y) (d : Nat) : ∀ x y, x < 16 → y < 16 → bt th x = true → bt th y = true → kq_Q th so yc (n + d + 1) x y = kq_Q th so yc (n + d) x y := by
  induction d with
  | zero => exact h
  | succ d ih =>
    intro x y hx hy b1 b2
    show (kq_Q th so yc (n + d + 1) x y && kw_al 3 (fun a => !(kq_tl th yc (kq_Q th so yc (n + d + 1)) a x y || kq_tl th yc (kq_Q th so yc (n + d + 1)) a y x))) = (kq_Q th so yc (n + d) x y && kw_al 3 (fun a => !(kq_tl th yc (kq_Q th so yc (n + d)) a x y || kq_tl th yc (kq_Q th so yc (n + d)) a y x)))
    rw [ih x y hx hy b1 b2]
    congr 1
    refine kp_al fun a _ => ?_
    rw [kq_tlX ih, kq_tlX ih]
theorem kq_17 {th : Int32} {so yc : Nat → Int32} : ∀ x y, x < 16 → y < 16 → bt th x = true → bt th y = true → kq_Q th so yc 17 x y = kq_Q th so yc 16 x y := by
  obtain ⟨n, hn, h⟩ := kw_stab (A := kq_A th so yc) (N := 17) (c := 0) (fun n v _ hA => by
    have := kq_AI.mp hA
    refine kq_AI.mpr ⟨this.1, fun u hu b1 => kw_bF.mpr fun z => ?_⟩
    have h2 := this.2 u hu b1
    rw [(kq_QS.mp z).1] at h2
    exact absurd h2 (by decide)) (Nat.zero_le _) (by omega)
  have hst : ∀ x y, x < 16 → y < 16 → bt th x = true → bt th y = true → kq_Q th so yc (n + 1) x y = kq_Q th so yc n x y := by
    intro x y hx hy b1 b2
    obtain ⟨r, s, t⟩ := kq_eqv th so yc n
    obtain ⟨r', s', t'⟩ := kq_eqv th so yc (n + 1)
    apply kp_beq
    constructor
    · intro z; exact (kq_QS.mp z).1
    · intro hQ
      obtain ⟨x0, hx0, c1, c2, c3⟩ := kq_rep (so := so) (yc := yc) (n := n + 1) x b1
      obtain ⟨y0, hy0, d1, d2, d3⟩ := kq_rep (so := so) (yc := yc) (n := n + 1) y b2
      have A1 : kq_A th so yc n x0 = true := by rw [← h x0 (by omega)]; exact c3
      have A2 : kq_A th so yc n y0 = true := by rw [← h y0 (by omega)]; exact d3
      have hq : kq_Q th so yc n x0 y0 = true := t x0 x y0 (s x x0 (kq_QS.mp c2).1) (t x y y0 hQ (kq_QS.mp d2).1)
      have e : x0 = y0 := by
        rcases Nat.lt_trichotomy x0 y0 with hl | hl | hl
        · have := (kq_AI.mp A2).2 x0 hl c1
          rw [s x0 y0 hq] at this
          exact absurd this (by decide)
        · exact hl
        · have := (kq_AI.mp A1).2 y0 hl d1
          rw [hq] at this
          exact absurd this (by decide)
      rw [← e] at d2
      exact t' x x0 y c2 (s' y x0 d2)
  have := kq_stay hst (16 - n)
  rw [show n + (16 - n) + 1 = 17 by omega, show n + (16 - n) = 16 by omega] at this
  exact this
/-! the least world with a property, or w -/
def kq_f (P : Nat → Bool) (w : Nat) : Nat → Nat
  | 0 => w
  | j + 1 => if kq_f P w j = w ∧ P j = true then j else kq_f P w j
def kq_L (P : Nat → Bool) (w r : Nat) : Prop := r ≤ w ∧ (r < w → P r = true) ∧ ∀ v, v < r → P v = false
theorem kq_fP (P : Nat → Bool) (w j : Nat) : j ≤ w → (kq_f P w j = w ∧ ∀ v, v < j → P v = false) ∨ (kq_f P w j < j ∧ P (kq_f P w j) = true ∧ ∀ v, v < kq_f P w j → P v = false) := by
  induction j with
  | zero => intro _; exact Or.inl ⟨rfl, fun v hv => absurd hv (by omega)⟩
  | succ j ih =>
    intro hj
    have ih := ih (by omega)
    by_cases h : kq_f P w j = w ∧ P j = true
    · have e : kq_f P w (j + 1) = j := if_pos h
      rw [e]
      rcases ih with ⟨_, h2⟩ | ⟨h1, _⟩
      · exact Or.inr ⟨by omega, h.2, h2⟩
      · have := h.1; omega
    · have e : kq_f P w (j + 1) = kq_f P w j := if_neg h
      rw [e]
      rcases ih with ⟨h1, h2⟩ | ⟨h1, h2, h3⟩
      · refine Or.inl ⟨h1, fun v hv => ?_⟩
        by_cases ev : v = j
        · rw [ev]; exact kw_bF.mpr fun z => h ⟨h1, z⟩
        · exact h2 v (by omega)
      · exact Or.inr ⟨by omega, h2, h3⟩
theorem kq_fL (P : Nat → Bool) (w : Nat) : kq_L P w (kq_f P w w) := by
  rcases kq_fP P w w (Nat.le_refl w) with ⟨h1, h2⟩ | ⟨h1, h2, h3⟩
  · rw [h1]; exact ⟨Nat.le_refl w, fun z => absurd z (by omega), h2⟩
  · exact ⟨by omega, fun _ => h2, h3⟩
theorem kq_Lu {P : Nat → Bool} {w r r' : Nat} (h : kq_L P w r) (h' : kq_L P w r') : r = r' := by
  obtain ⟨a1, a2, a3⟩ := h
  obtain ⟨b1, b2, b3⟩ := h'
  rcases Nat.lt_trichotomy r r' with hl | hl | hl
  · have x := b3 r hl
    rw [a2 (by omega)] at x
    exact absurd x (by decide)
  · exact hl
  · have x := a3 r' hl
    rw [b2 (by omega)] at x
    exact absurd x (by decide)
/-- what the component's likeness says after n rounds -/
def kq_K (th : Int32) (so yc : Nat → Int32) (n : Nat) (lk : Nat → Int32) : Prop := ∃ L : Nat → Nat, (∀ w, w < 16 → lk w = nI (L w) ∧ L w < 16) ∧ (∀ w v, w < 16 → v < 16 → bt th w = true → bt th v = true → (L w = L v ↔ kq_Q th so yc n w v = true)) ∧ ∀ w, w < 16 → bt th w = true → (L w = w ↔ kq_A th so yc n w = true)
theorem kq_mk {th : Int32} {so yc : Nat → Int32} {n : Nat} {lk : Nat → Int32} {P : Nat → Nat → Bool} (hP : ∀ w v, w < 16 → v < w → P w v = (bt th v && (bt th w && kq_Q th so yc n w v))) (hl : ∀ w, w < 16 → ∃ r, lk w = nI r ∧ kq_L (P w) w r) : kq_K th so yc n lk := by
  obtain ⟨r, s, t⟩ := kq_eqv th so yc n
  have hL : ∀ w, w < 16 → lk w = nI (kq_f (P w) w w) := by
    intro w hw
    obtain ⟨q, e, hq⟩ := hl w hw
    rw [e, kq_Lu hq (kq_fL (P w) w)]
  have key : ∀ w, w < 16 → bt th w = true → kq_f (P w) w w ≤ w ∧ bt th (kq_f (P w) w w) = true ∧ kq_Q th so yc n w (kq_f (P w) w w) = true ∧ ∀ v, v < kq_f (P w) w w → bt th v = true → kq_Q th so yc n w v = false := by
    intro w hw hb
    obtain ⟨a1, a2, a3⟩ := kq_fL (P w) w
    refine ⟨a1, ?_, ?_, ?_⟩
    · by_cases e : kq_f (P w) w w < w
      · have := a2 e
        rw [hP w _ hw e, Bool.and_eq_true] at this
        exact this.1
      · rw [show kq_f (P w) w w = w by omega]; exact hb
    · by_cases e : kq_f (P w) w w < w
      · have := a2 e
        rw [hP w _ hw e, Bool.and_eq_true, Bool.and_eq_true] at this
        exact this.2.2
      · rw [show kq_f (P w) w w = w by omega]; exact r w
    · intro v hv b1
      have := a3 v hv
      rw [hP w v hw (by omega), b1, hb] at this
      exact this
  refine ⟨fun w => kq_f (P w) w w, fun w hw => ⟨hL w hw, ?_⟩, ?_, ?_⟩
  · have := (kq_fL (P w) w).1
    show kq_f (P w) w w < 16
    omega
  · intro w v hw hv b1 b2
    obtain ⟨c1, c2, c3, c4⟩ := key w hw b1
    obtain ⟨d1, d2, d3, d4⟩ := key v hv b2
    show kq_f (P w) w w = kq_f (P v) v v ↔ _
    constructor
    · intro e
      rw [← e] at d3
      exact t w _ v c3 (s v _ d3)
    · intro hQ
      rcases Nat.lt_trichotomy (kq_f (P w) w w) (kq_f (P v) v v) with hl | hl | hl
      · have := d4 _ hl c2
        rw [t v w _ (s w v hQ) c3] at this
        exact absurd this (by decide)
      · exact hl
      · have := c4 _ hl d2
        rw [t w v _ hQ d3] at this
        exact absurd this (by decide)
  · intro w hw b1
    obtain ⟨c1, c2, c3, c4⟩ := key w hw b1
    show kq_f (P w) w w = w ↔ _
    rw [kq_AI]
    constructor
    · intro e
      rw [e] at c4
      exact ⟨b1, c4⟩
    · rintro ⟨_, h2⟩
      by_cases e : kq_f (P w) w w < w
      · have := h2 _ e c2
        rw [c3] at this
        exact absurd this (by decide)
      · omega
/-! distances -/
def kq_D (th : Int32) (so yc : Nat → Int32) (w v : Nat) : Nat → Int32
  | 0 => if kq_Q th so yc 0 w v = true then -2 else 0
  | n + 1 => if kq_Q th so yc n w v = true then (if kq_Q th so yc (n + 1) w v = true then -2 else nI (n + 1)) else kq_D th so yc w v n
theorem kq_DT {th : Int32} {so yc : Nat → Int32} {w v n : Nat} (h : kq_Q th so yc n w v = true) : kq_D th so yc w v n = -2 := by
  cases n with
  | zero => exact if_pos h
  | succ n =>
    show (if kq_Q th so yc n w v = true then (if kq_Q th so yc (n + 1) w v = true then (-2 : Int32) else nI (n + 1)) else kq_D th so yc w v n) = -2
    rw [if_pos (kq_QS.mp h).1, if_pos h]
theorem kq_DF {th : Int32} {so yc : Nat → Int32} {w v n : Nat} (h : kq_Q th so yc n w v = false) : ∃ k, k ≤ n ∧ kq_D th so yc w v n = nI k ∧ kq_Q th so yc k w v = false ∧ ∀ j, j < k → kq_Q th so yc j w v = true := by
  induction n with
  | zero => exact ⟨0, Nat.le_refl 0, if_neg (by rw [h]; decide), h, fun j hj => absurd hj (by omega)⟩
  | succ n ih =>
    have hmono : ∀ m, kq_Q th so yc m w v = true → ∀ j, j ≤ m → kq_Q th so yc j w v = true := by
      intro m
      induction m with
      | zero => intro hz j hj; rw [show j = 0 by omega]; exact hz
      | succ m ihm =>
        intro hz j hj
        by_cases e : j = m + 1
        · rw [e]; exact hz
        · exact ihm (kq_QS.mp hz).1 j (by omega)
    cases hq : kq_Q th so yc n w v
    · obtain ⟨k, h1, h2, h3, h4⟩ := ih hq
      refine ⟨k, by omega, ?_, h3, h4⟩
      show (if kq_Q th so yc n w v = true then (if kq_Q th so yc (n + 1) w v = true then (-2 : Int32) else nI (n + 1)) else kq_D th so yc w v n) = nI k
      rw [if_neg (by rw [hq]; decide)]; exact h2
    · refine ⟨n + 1, Nat.le_refl _, ?_, h, fun j hj => hmono n hq j (by omega)⟩
      show (if kq_Q th so yc n w v = true then (if kq_Q th so yc (n + 1) w v = true then (-2 : Int32) else nI (n + 1)) else kq_D th so yc w v n) = nI (n + 1)
      rw [if_pos hq, if_neg (by rw [h]; decide)]
theorem kq_DS {th : Int32} {so yc : Nat → Int32} {w v n : Nat} (h : kq_Q th so yc n w v = false) : kq_D th so yc w v (n + 1) = kq_D th so yc w v n := if_neg (by rw [h]; decide)
end
section
/-! the component's likeness -/
def kx_bP (th : Int32) (so : Nat → Int32) (w v : Nat) : Bool := bt th v && (bt th w && decide (so w = so v))
theorem kq_fle (P : Nat → Bool) (w j : Nat) (h : j ≤ w) : kq_f P w j ≤ w := by
  rcases kq_fP P w j h with ⟨h1, _⟩ | ⟨h1, _⟩ <;> omega
theorem xw_bl17 {post : SX → Prop} {J : Int32 → (Nat → Int32) → (Nat → Int32) → (Nat → Int32) → (Nat → Int32) → (Nat → Int32) → (Nat → Int32) → (Nat → Int32) → (Nat → Int32) → (Nat → Int32) → (Nat → Int32) → (Nat → Int32) → (Nat → Int32) → Prop} {th hr hh rg : Int32} {so xc kd ar sp en fo ab op ra lk nl : Nat → Int32} {w : Nat} (hw : w < 16) (h : J (nI (w + 1)) so xc kd ar sp en fo ab op ra (upd lk w (nI (kq_f (kx_bP th so w) w w))) nl) : ∃ n, wX_beginLikeness_17 post J (nI w) th hr hh rg n 0 so xc kd ar sp en fo ab op ra (upd lk w (nI w)) nl := by
  refine kw_lp0 (fun n j s => wX_beginLikeness_17 post J (nI w) th hr hh rg n (nI j) so xc kd ar sp en fo ab op ra s nl) (fun j => upd lk w (nI (kq_f (kx_bP th so w) w j))) w (upd lk w (nI w)) rfl (fun n => br_t (nI_le (Nat.le_refl _) (by omega)) (nm_r (nI_1 w) h)) ?_
  intro n i hi k
  have hf := kq_fle (kx_bP th so w) w i (by omega)
  have vw : vp_in (nI w) 16 := vp_in_nI hw (by decide)
  have vi : vp_in (nI i) 16 := vp_in_nI (by omega) (by decide)
  have cw : (nI w).toNatClampNeg = w := nI_clamp (by omega)
  have ci : (nI i).toNatClampNeg = i := nI_clamp (by omega)
  have hno : ¬ (kq_f (kx_bP th so w) w i = w ∧ kx_bP th so w i = true) → wX_beginLikeness_17 post J (nI w) th hr hh rg n (nI (i + 1)) so xc kd ar sp en fo ab op ra (upd lk w (nI (kq_f (kx_bP th so w) w i))) nl := by
    intro z
    refine k _ ?_
    show _ = upd lk w (nI (if kq_f (kx_bP th so w) w i = w ∧ kx_bP th so w i = true then i else kq_f (kx_bP th so w) w i))
    rw [if_neg z]
  have hyes : (kq_f (kx_bP th so w) w i = w ∧ kx_bP th so w i = true) → wX_beginLikeness_17 post J (nI w) th hr hh rg n (nI (i + 1)) so xc kd ar sp en fo ab op ra (upd (upd lk w (nI (kq_f (kx_bP th so w) w i))) w (nI i)) nl := by
    intro z
    refine k _ ?_
    show _ = upd lk w (nI (if kq_f (kx_bP th so w) w i = w ∧ kx_bP th so w i = true then i else kq_f (kx_bP th so w) w i))
    rw [if_pos z, kw_uu]
  refine br_f (nI_ge hi (by omega)) ⟨vw, ?_⟩
  rw [cw, ci]
  show (upd lk w (nI (kq_f (kx_bP th so w) w i)) w = nI w → _) ∧ (¬ upd lk w (nI (kq_f (kx_bP th so w) w i)) w = nI w → _)
  rw [pk_us]
  refine pk_eq (kq_f (kx_bP th so w) w i) w (fun ef => xw_in (by omega) (kw_bz (fun z1 => nm_r (nI_1 i) (hno (fun y => ?_))) (fun z1 => xw_in (by omega) (kw_bz (fun z2 => nm_r (nI_1 i) (hno (fun y => ?_))) (fun z2 => ⟨vi, vw, br_c (fun z3 => ⟨vw, nm_e (nm_r (nI_1 i) (hyes ⟨ef, ?_⟩))⟩) (fun z3 => nm_r (nI_1 i) (hno (fun y => ?_)))⟩))))) (fun ef => nm_r (nI_1 i) (hno (fun y => ef y.1)))
  · have y2 := y.2
    unfold kx_bP at y2
    rw [z1] at y2
    exact absurd y2 (by simp)
  · have y2 := y.2
    unfold kx_bP at y2
    rw [z2] at y2
    exact absurd y2 (by simp)
  · unfold kx_bP
    rw [z1, z2, decide_eq_true z3.symm]; rfl
  · have y2 := y.2
    unfold kx_bP at y2
    rw [decide_eq_false (fun e => z3 e.symm)] at y2
    exact absurd y2 (by simp)
theorem xw_beginLikeness {post : SX → Prop} {th hr hh rg : Int32} {so xc kd ar sp en fo ab op ra lk nl : Nat → Int32} (h : post (th, hr, hh, rg, so, xc, kd, ar, sp, en, fo, ab, op, ra, kw_fl (fun w => nI (kq_f (kx_bP th so w) w w)) lk 16, nl)) : wpX_beginLikeness post (th, hr, hh, rg, so, xc, kd, ar, sp, en, fo, ab, op, ra, lk, nl) := by
  refine kw_lp0 (fun n i s => wX_beginLikeness_2 post th hr hh rg n (nI i) so xc kd ar sp en fo ab op ra s nl) (kw_fl (fun w => nI (kq_f (kx_bP th so w) w w)) lk) 16 lk kw_fl0.symm (fun n => br_t kw_e16 h) ?_
  intro n i hi k
  refine br_f (kw_n16 hi) ⟨vp_in_nI hi (by decide), ?_⟩
  rw [nI_clamp (by omega)]
  exact nm_e (xw_bl17 hi (k _ (kw_flS rfl)))
def kx_ki (lk xc : Nat → Int32) (a w : Nat) : Nat → Int32
  | 0 => 0
  | v + 1 => if bt (xc (16 * a + w)) v = true then kx_ki lk xc a w v ||| ((1 : Int32) <<< (lk v &&& 31)) else kx_ki lk xc a w v
theorem kx_kiT {lk xc : Nat → Int32} {a w v : Nat} (h : bt (xc (16 * a + w)) v = true) : kx_ki lk xc a w v ||| ((1 : Int32) <<< (lk v &&& 31)) = kx_ki lk xc a w (v + 1) := (if_pos h).symm
theorem kx_kiF {lk xc : Nat → Int32} {a w v : Nat} (h : bt (xc (16 * a + w)) v = false) : kx_ki lk xc a w v = kx_ki lk xc a w (v + 1) := (if_neg (by rw [h]; decide)).symm
theorem xw_kindsIn {post : Int32 → Prop} {th hr hh rg : Int32} {so xc kd ar sp en fo ab op ra lk nl : Nat → Int32} {a w : Nat} (ha : a < 3) (hw : w < 16) (h : post (kx_ki lk xc a w 16)) : wpX_kindsIn post (th, hr, hh, rg, so, xc, kd, ar, sp, en, fo, ab, op, ra, lk, nl) (nI a) (nI w) := by
  refine kw_lp (fun n i x => wX_kindsIn_5 post (nI a) (nI w) th hr hh rg so xc kd ar sp en fo ab op ra lk nl n x (nI i)) (kx_ki lk xc a w) 16 (fun n => br_t kw_e16 h) ?_
  intro n i hi k
  refine br_f (kw_n16 hi) ⟨kw_ixv ha hw, ?_⟩
  rw [kw_ixc ha hw, nI_clamp (by omega)]
  exact xw_in (by omega) (kw_bz (fun z => nm_r (nI_1 i) (k _ (kx_kiF z))) (fun z => ⟨vp_in_nI hi (by decide), fun x ex => nm_r (nI_1 i) (k x (ex.trans (kx_kiT z)))⟩))
def kx_ka (lk xc : Nat → Int32) (w v a : Nat) : Bool := decide (kx_ki lk xc a w 16 = kx_ki lk xc a v 16)
def kx_al (lk xc : Nat → Int32) (w v : Nat) : Bool := decide (lk w = lk v) && kw_al 3 (kx_ka lk xc w v)
theorem xw_stayAlike {post : Int32 → Prop} {th hr hh rg : Int32} {so xc kd ar sp en fo ab op ra lk nl : Nat → Int32} {w v : Nat} (hw : w < 16) (hv : v < 16) (h : post (kw_b (kx_al lk xc w v))) : wpX_stayAlike post (th, hr, hh, rg, so, xc, kd, ar, sp, en, fo, ab, op, ra, lk, nl) (nI w) (nI v) := by
  have key : kw_al 3 (kx_ka lk xc w v) = kx_al lk xc w v → ∀ d i, i + d = 3 → (∀ a, a < i → kx_ka lk xc w v a = true) → wX_stayAlike_19 post (nI w) (nI v) th hr hh rg so xc kd ar sp en fo ab op ra lk nl (d + 1) (nI i) := by
    intro ee d
    rw [← ee] at h
    induction d with
    | zero =>
      intro i hi hp
      have e : i = 3 := by omega
      subst e
      rw [kw_alI.mpr hp] at h
      exact br_t kw_e3 h
    | succ d ih =>
      intro i hi hp
      refine br_f (kw_n3 (by omega)) (xw_kindsIn (by omega) hw (xw_kindsIn (by omega) hv (br_c (fun e => nm_r (nI_1 i) (ih (i + 1) (by omega) fun a ha => ?_)) (fun e => ?_))))
      · by_cases ea : a = i
        · rw [ea]; exact decide_eq_true e
        · exact hp a (by omega)
      · have : kw_al 3 (kx_ka lk xc w v) = false := kw_alF.mpr ⟨i, by omega, decide_eq_false e⟩
        rw [this] at h
        exact h
  unfold wpX_stayAlike
  dsimp only
  rw [nI_clamp (show w < 2 ^ 31 by omega), nI_clamp (show v < 2 ^ 31 by omega)]
  refine ⟨vp_in_nI hw (by decide), vp_in_nI hv (by decide), br_c (fun e => ⟨4, key ?_ 3 0 (by omega) (fun a ha => absurd ha (by omega))⟩) (fun e => ?_)⟩
  · unfold kx_al; rw [decide_eq_true e, Bool.true_and]
  · unfold kx_al at h
    rw [decide_eq_false e] at h
    exact h
def kx_aP (th : Int32) (lk xc : Nat → Int32) (w v : Nat) : Bool := bt th v && (bt th w && kx_al lk xc w v)
theorem xw_leastAlike {post : Int32 → Prop} {th hr hh rg : Int32} {so xc kd ar sp en fo ab op ra lk nl : Nat → Int32} {w : Nat} (hw : w < 16) (h : post (nI (kq_f (kx_aP th lk xc w) w w))) : wpX_leastAlike post (th, hr, hh, rg, so, xc, kd, ar, sp, en, fo, ab, op, ra, lk, nl) (nI w) := by
  have key : ∀ d i, i + d = w → (∀ v, v < i → kx_aP th lk xc w v = false) → wX_leastAlike_2 post (nI w) th hr hh rg so xc kd ar sp en fo ab op ra lk nl (d + 1) (nI i) := by
    intro d
    induction d with
    | zero =>
      intro i hi hp
      have e : i = w := by omega
      subst e
      rw [kq_Lu (kq_fL (kx_aP th lk xc i) i) ⟨Nat.le_refl i, fun z => absurd z (by omega), hp⟩] at h
      exact br_t (nI_le (Nat.le_refl _) (by omega)) h
    | succ d ih =>
      intro i hi hp
      have hno : kx_aP th lk xc w i = false → wX_leastAlike_42 post (wX_leastAlike_2 post (nI w) th hr hh rg so xc kd ar sp en fo ab op ra lk nl (d + 1)) (nI w) (nI i) th hr hh rg so xc kd ar sp en fo ab op ra lk nl := by
        intro z
        refine br_t rfl (nm_r (nI_1 i) (ih (i + 1) (by omega) fun v hv => ?_))
        by_cases ev : v = i
        · rw [ev]; exact z
        · exact hp v (by omega)
      refine br_f (nI_ge (by omega) (by omega)) (xw_in (by omega) (kw_bz (fun z => hno ?_) (fun z => xw_in (by omega) (kw_bz (fun z2 => hno ?_) (fun z2 => xw_stayAlike hw (by omega) (kw_bz (fun z3 => hno ?_) (fun z3 => br_f (by decide) ?_)))))))
      · unfold kx_aP; rw [z]; rfl
      · unfold kx_aP; rw [z2]; exact Bool.and_false _
      · unfold kx_aP; rw [z3, Bool.and_false, Bool.and_false]
      · have hT : kx_aP th lk xc w i = true := by unfold kx_aP; rw [z, z2, z3]; rfl
        rw [kq_Lu (kq_fL (kx_aP th lk xc w) w) ⟨by omega, fun _ => hT, hp⟩] at h
        exact h
  exact ⟨w + 1, key w 0 (by omega) (fun v hv => absurd hv (by omega))⟩
theorem xw_refine {post : SX → Prop} {th hr hh rg : Int32} {so xc kd ar sp en fo ab op ra lk nl : Nat → Int32} (h : ∀ lk' nl', (∀ w, w < 16 → lk' w = nI (kq_f (kx_aP th lk xc w) w w)) → post (th, hr, hh, rg, so, xc, kd, ar, sp, en, fo, ab, op, ra, lk', nl')) : wpX_refine post (th, hr, hh, rg, so, xc, kd, ar, sp, en, fo, ab, op, ra, lk, nl) := by
  refine kw_lp0 (fun n i s => wX_refine_2 post th hr hh rg n (nI i) so xc kd ar sp en fo ab op ra lk s) (kw_fl (fun w => nI (kq_f (kx_aP th lk xc w) w w)) nl) 16 nl kw_fl0.symm (fun n => br_t kw_e16 ?_) ?_
  · refine kw_lp0 (fun n i s => wX_refine_27 post th hr hh rg n (nI i) so xc kd ar sp en fo ab op ra s (kw_fl (fun w => nI (kq_f (kx_aP th lk xc w) w w)) nl 16)) (kw_fl (kw_fl (fun w => nI (kq_f (kx_aP th lk xc w) w w)) nl 16) lk) 16 lk kw_fl0.symm (fun n => br_t kw_e16 (h _ _ fun w hw => ?_)) ?_
    · rw [kw_fli hw, kw_fli hw]
    · intro n i hi k
      refine br_f (kw_n16 hi) ⟨vp_in_nI hi (by decide), vp_in_nI hi (by decide), fun s es => nm_r (nI_1 i) (k s ?_)⟩
      rw [es, nI_clamp (by omega)]
      exact kw_flS rfl
  · intro n i hi k
    refine br_f (kw_n16 hi) (xw_leastAlike hi ⟨vp_in_nI hi (by decide), fun s es => nm_r (nI_1 i) (k s ?_)⟩)
    rw [es, nI_clamp (by omega)]
    exact kw_flS rfl
/-! what a round says -/
theorem kp_ki {th : Int32} {xc yc : Nat → Int32} (hC : kr_C th xc yc) {lk : Nat → Int32} {L : Nat → Nat} (hL : ∀ w, w < 16 → lk w = nI (L w) ∧ L w < 16) {a w : Nat} (ha : a < 3) (hw : w < 16) (hb : bt th w = true) (n l : Nat) (hl : l < 32) : n ≤ 16 → (bt (kx_ki lk xc a w n) l = true ↔ ∃ x, x < n ∧ bt th x = true ∧ ky_s yc a w x = true ∧ L x = l) := by
  induction n with
  | zero =>
    intro _
    show bt 0 l = true ↔ _
    rw [b_0]
    exact ⟨fun z => absurd z (by decide), fun ⟨x, hx, _⟩ => absurd hx (by omega)⟩
  | succ n ih =>
    intro hn
    have ih := ih (by omega)
    have hc := hC a ha w hw hb n
    cases hz : bt (xc (16 * a + w)) n
    · rw [← kx_kiF hz, ih]
      constructor
      · rintro ⟨x, hx, h1⟩; exact ⟨x, by omega, h1⟩
      · rintro ⟨x, hx, h1, h2, h3⟩
        by_cases e : x = n
        · subst e
          rw [hz, h1, h2] at hc
          exact absurd hc (by decide)
        · exact ⟨x, by omega, h1, h2, h3⟩
    · rw [hz] at hc
      have hc' := hc.symm
      rw [Bool.and_eq_true] at hc'
      rw [← kx_kiT hz, b_or, Bool.or_eq_true, ih, (hL n (by omega)).1, kw_sh (by have := (hL n (by omega)).2; omega) hl, decide_eq_true_eq]
      constructor
      · rintro (⟨x, hx, h1⟩ | h1)
        · exact ⟨x, by omega, h1⟩
        · exact ⟨n, by omega, hc'.1, hc'.2, h1.symm⟩
      · rintro ⟨x, hx, h1, h2, h3⟩
        by_cases e : x = n
        · subst e; exact Or.inr h3.symm
        · exact Or.inl ⟨x, by omega, h1, h2, h3⟩
theorem kp_ka {th : Int32} {so xc yc : Nat → Int32} (hC : kr_C th xc yc) {lk : Nat → Int32} {L : Nat → Nat} {n : Nat} (hL : ∀ w, w < 16 → lk w = nI (L w) ∧ L w < 16) (hQ : ∀ w v, w < 16 → v < 16 → bt th w = true → bt th v = true → (L w = L v ↔ kq_Q th so yc n w v = true)) {a w v : Nat} (ha : a < 3) (hw : w < 16) (hv : v < 16) (b1 : bt th w = true) (b2 : bt th v = true) : kx_ki lk xc a w 16 = kx_ki lk xc a v 16 ↔ kq_tl th yc (kq_Q th so yc n) a w v = false ∧ kq_tl th yc (kq_Q th so yc n) a v w = false := by
  rw [kq_tlF, kq_tlF]
  have one : ∀ {w v : Nat}, w < 16 → v < 16 → bt th w = true → bt th v = true → kx_ki lk xc a w 16 = kx_ki lk xc a v 16 → ∀ x, x < 16 → bt th x = true → ky_s yc a w x = true → ∃ y, y < 16 ∧ bt th y = true ∧ ky_s yc a v y = true ∧ kq_Q th so yc n x y = true := by
    intro w v hw hv b1 b2 e x hx c1 c2
    have hlx := (hL x hx).2
    have h1 := (kp_ki hC hL ha hw b1 16 (L x) (by omega) (Nat.le_refl _)).mpr ⟨x, hx, c1, c2, rfl⟩
    rw [e] at h1
    obtain ⟨y, hy, d1, d2, d3⟩ := (kp_ki hC hL ha hv b2 16 (L x) (by omega) (Nat.le_refl _)).mp h1
    exact ⟨y, hy, d1, d2, (hQ x y hx hy c1 d1).mp d3.symm⟩
  have two : ∀ {w v : Nat}, w < 16 → v < 16 → bt th w = true → bt th v = true → (∀ x, x < 16 → bt th x = true → ky_s yc a w x = true → ∃ y, y < 16 ∧ bt th y = true ∧ ky_s yc a v y = true ∧ kq_Q th so yc n x y = true) → ∀ l, l < 32 → bt (kx_ki lk xc a w 16) l = true → bt (kx_ki lk xc a v 16) l = true := by
    intro w v hw hv b1 b2 h l hl h1
    obtain ⟨x, hx, c1, c2, c3⟩ := (kp_ki hC hL ha hw b1 16 l hl (Nat.le_refl _)).mp h1
    obtain ⟨y, hy, d1, d2, d3⟩ := h x hx c1 c2
    exact (kp_ki hC hL ha hv b2 16 l hl (Nat.le_refl _)).mpr ⟨y, hy, d1, d2, ((hQ x y hx hy c1 d1).mpr d3).symm.trans c3⟩
  constructor
  · intro e
    exact ⟨one hw hv b1 b2 e, one hv hw b2 b1 e.symm⟩
  · rintro ⟨h1, h2⟩
    exact b_ext fun l hl => kp_beq ⟨two hw hv b1 b2 h1 l hl, two hv hw b2 b1 h2 l hl⟩
theorem kq_next {th : Int32} {so xc yc : Nat → Int32} (hC : kr_C th xc yc) {n : Nat} {lk lk' : Nat → Int32} (h : kq_K th so yc n lk) (hl : ∀ w, w < 16 → lk' w = nI (kq_f (kx_aP th lk xc w) w w)) : kq_K th so yc (n + 1) lk' := by
  obtain ⟨L, hL, hQ, hA⟩ := h
  refine kq_mk (P := kx_aP th lk xc) (fun w v hw hv => ?_) (fun w hw => ⟨_, hl w hw, kq_fL _ w⟩)
  unfold kx_aP
  cases b2 : bt th v
  · rfl
  · cases b1 : bt th w
    · rfl
    · rw [Bool.true_and, Bool.true_and, Bool.true_and, Bool.true_and]
      apply kp_beq
      unfold kx_al
      rw [Bool.and_eq_true, decide_eq_true_eq, kw_alI, kq_QS, (hL w hw).1, (hL v (by omega)).1, nI_eq (by have := (hL w hw).2; omega) (by have := (hL v (by omega)).2; omega), hQ w v hw (by omega) b1 b2]
      refine and_congr_right fun _ => ?_
      constructor
      · intro k a ha
        exact (kp_ka hC hL hQ ha hw (by omega) b1 b2).mp (of_decide_eq_true (k a ha))
      · intro k a ha
        exact decide_eq_true ((kp_ka hC hL hQ ha hw (by omega) b1 b2).mpr (k a ha))
theorem kq_begin {th : Int32} {so yc lk : Nat → Int32} (hl : ∀ w, w < 16 → lk w = nI (kq_f (kx_bP th so w) w w)) : kq_K th so yc 0 lk :=
  kq_mk (P := kx_bP th so) (fun w v hw hv => rfl) (fun w hw => ⟨_, hl w hw, kq_fL _ w⟩)
theorem xw_apart24 {post : Int32 → SX → Prop} {th hr hh rg : Int32} {so xc kd ar sp en fo ab op ra : Nat → Int32} {yc : Nat → Int32} (hC : kr_C th xc yc) {w v : Nat} (hw : w < 16) (hv : v < 16) (b1 : bt th w = true) (b2 : bt th v = true) (h : ∀ lk nl, post (kq_D th so yc w v 17) (th, hr, hh, rg, so, xc, kd, ar, sp, en, fo, ab, op, ra, lk, nl)) (d : Nat) : ∀ i, i + d = 17 → ∀ lk nl, kq_K th so yc i lk → (∀ j, j < i → kq_Q th so yc j w v = true) → wX_apart_24 post (nI w) (nI v) (d + 1) (nI i) th hr hh rg so xc kd ar sp en fo ab op ra lk nl := by
  induction d with
  | zero =>
    intro i hi lk nl hK hq
    have e : i = 17 := by omega
    subst e
    have e17 : kq_Q th so yc 17 w v = true := by
      rw [kq_17 w v hw hv b1 b2]; exact hq 16 (by omega)
    have h' := h lk nl
    rw [kq_DT e17] at h'
    exact br_t (by decide) h'
  | succ d ih =>
    intro i hi lk nl hK hq
    have hK' := hK
    obtain ⟨L, hL, hQ, hA⟩ := hK'
    refine br_f (nI_nlt (a := 16) (b := i) (by omega) (by decide)) ⟨vp_in_nI hw (by decide), vp_in_nI hv (by decide), ?_⟩
    rw [nI_clamp (show w < 2 ^ 31 by omega), nI_clamp (show v < 2 ^ 31 by omega), (hL w hw).1, (hL v hv).1]
    have l1 := (hL w hw).2
    have l2 := (hL v hv).2
    refine pk_eq (L w) (L v) (fun e => xw_refine fun lk' nl' hl => nm_r (nI_1 i) (ih (i + 1) (by omega) lk' nl' (kq_next hC hK hl) fun j hj => ?_)) (fun e => ?_)
    · by_cases ej : j = i
      · rw [ej]; exact (hQ w v hw hv b1 b2).mp e
      · exact hq j (by omega)
    · have f1 : kq_Q th so yc i w v = false := kw_bF.mpr fun z => e ((hQ w v hw hv b1 b2).mpr z)
      have f17 : ∀ m, kq_Q th so yc (i + m) w v = false := by
        intro m
        induction m with
        | zero => exact f1
        | succ m ihm =>
          refine kw_bF.mpr fun z => ?_
          have z' : kq_Q th so yc (i + m + 1) w v = true := z
          rw [(kq_QS.mp z').1] at ihm
          exact absurd ihm (by decide)
      have f2 := f17 (17 - i)
      rw [show i + (17 - i) = 17 by omega] at f2
      obtain ⟨k, k1, k2, k3, k4⟩ := kq_DF f2
      have ek : k = i := by
        rcases Nat.lt_trichotomy k i with hl | hl | hl
        · rw [hq k hl] at k3; exact absurd k3 (by decide)
        · exact hl
        · rw [k4 i hl] at f1; exact absurd f1 (by decide)
      have h' := h lk nl
      rw [k2, ek] at h'
      exact h'
theorem xw_kinds26 {post : Int32 → SX → Prop} {th hr hh rg : Int32} {so xc kd ar sp en fo ab op ra lk nl : Nat → Int32} {yc : Nat → Int32} {m : Nat} (hK : kq_K th so yc m lk) (h : post (nI (kw_cnt 16 (kq_A th so yc m))) (th, hr, hh, rg, so, xc, kd, ar, sp, en, fo, ab, op, ra, lk, nl)) : ∃ n, wX_kinds_26 post th hr hh rg so xc kd ar sp en fo ab op ra lk nl n 0 0 := by
  obtain ⟨L, hL, hQ, hA⟩ := hK
  refine kw_lp (fun n i x => wX_kinds_26 post th hr hh rg so xc kd ar sp en fo ab op ra lk nl n x (nI i)) (fun i => nI (kw_cnt i (kq_A th so yc m))) 16 (fun n => br_t kw_e16 h) ?_
  intro n i hi k
  have l1 := (hL i hi).2
  refine br_f (kw_n16 hi) (xw_in (by omega) (kw_bz (fun z x ex => nm_r (nI_1 i) (k x (ex.trans (kw_cntF0 ?_)))) (fun z => ⟨vp_in_nI hi (by decide), ?_⟩)))
  · unfold kq_A; rw [z]; rfl
  · rw [nI_clamp (by omega), (hL i hi).1]
    refine pk_eq (L i) i (fun e x ex => nm_r (nI_1 i) (k x (ex.trans (kw_cntT ?_)))) (fun e x ex => nm_r (nI_1 i) (k x (ex.trans (kw_cntF0 ?_))))
    · exact (hA i hi z).mp e
    · exact kw_bF.mpr fun y => e ((hA i hi z).mpr y)
theorem xw_kinds6 {post : Int32 → SX → Prop} {th hr hh rg : Int32} {so xc kd ar sp en fo ab op ra : Nat → Int32} {yc : Nat → Int32} (hC : kr_C th xc yc) (h : ∀ lk nl, post (nI (kw_cnt 16 (kq_A th so yc 16))) (th, hr, hh, rg, so, xc, kd, ar, sp, en, fo, ab, op, ra, lk, nl)) (d : Nat) : ∀ i, i + d = 16 → ∀ lk nl, kq_K th so yc i lk → wX_kinds_6 post (d + 1) (nI i) th hr hh rg so xc kd ar sp en fo ab op ra lk nl := by
  induction d with
  | zero =>
    intro i hi lk nl hK
    have e : i = 16 := by omega
    subst e
    exact br_t kw_e16 (xw_kinds26 hK (h lk nl))
  | succ d ih =>
    intro i hi lk nl hK
    exact br_f (kw_n16 (by omega)) (xw_refine fun lk' nl' hl => nm_r (nI_1 i) (ih (i + 1) (by omega) lk' nl' (kq_next hC hK hl)))
end
section
/-! the reference's distances -/
def ky_ir (n d : Int32) : Bool := decide (¬ d < 0) && decide (¬ n < d)
def ky_tG (th : Int32) (yc di : Nat → Int32) (n : Int32) (a v x y : Nat) : Bool := !bt th y || (!ky_s yc a v y || ky_ir n (di (16 * x + y)))
def ky_tx (th : Int32) (yc di : Nat → Int32) (n : Int32) (a w v x : Nat) : Bool := (bt th x && ky_s yc a w x) && kw_al 16 (ky_tG th yc di n a v x)
def ky_te (th : Int32) (yc di : Nat → Int32) (n : Int32) (a w v : Nat) : Bool := kw_an 16 (ky_tx th yc di n a w v)
theorem kw_alD {n m : Nat} {P : Nat → Bool} (h : kw_al n P = false) (hn : n ≤ m) : kw_al m P = false := by
  obtain ⟨i, hi, hp⟩ := kw_alF.mp h
  exact kw_alF.mpr ⟨i, by omega, hp⟩
theorem yw_t40 {post : Int32 → Prop} {J : Int32 → Prop} {tt tr tg : Int32} {fa yc sz ks ag fi tk ia ho ro di : Nat → Int32} {a w v x : Nat} {nn : Int32} (ha : a < 3) (hv : v < 16) (hx : x < 16) {c0 : Bool} (h1 : (c0 && kw_al 16 (ky_tG tt yc di nn a v x)) = true → post 1) (h0 : (c0 && kw_al 16 (ky_tG tt yc di nn a v x)) = false → J (nI (x + 1))) (d : Nat) : ∀ y, y + d = 16 → ∀ c : Bool, c = (c0 && kw_al y (ky_tG tt yc di nn a v x)) → wY_tells_40 post J (nI a) (nI w) (nI v) nn (nI x) tt tr tg fa yc sz ks ag fi tk ia ho ro di (d + 1) (kw_b c) (nI y) := by
  induction d with
  | zero =>
    intro y hy c hc
    have e : y = 16 := by omega
    subst e
    exact br_t kw_e16 (kw_bz (fun z => nm_r (nI_1 x) (h0 (by rw [← hc]; exact z))) (fun z => h1 (by rw [← hc]; exact z)))
  | succ d ih =>
    intro y hy c hc
    have hy16 : y < 16 := by omega
    have ex : 16 * nI x + nI y = nI (16 * x + y) := kw_ixe x y
    have hn : ∀ c' : Bool, c' = (c && ky_tG tt yc di nn a v x y) → ∀ z, z = nI y + 1 → wY_tells_40 post J (nI a) (nI w) (nI v) nn (nI x) tt tr tg fa yc sz ks ag fi tk ia ho ro di (d + 1) (kw_b c') z := by
      intro c' e z ez
      rw [ez, nI_1]
      refine ih (y + 1) (by omega) c' ?_
      show c' = (c0 && (kw_al y (ky_tG tt yc di nn a v x) && ky_tG tt yc di nn a v x y))
      rw [e, hc, Bool.and_assoc]
    refine br_f (kw_n16 hy16) (kw_bz (fun z => kw_bz (fun _ => nm_r (nI_1 x) (h0 ?_)) (fun z2 => absurd (z.symm.trans z2) (by decide))) (fun z => ?_))
    · rw [z] at hc
      cases hc0 : c0
      · rfl
      · rw [hc0, Bool.true_and] at hc
        rw [Bool.true_and]
        exact kw_alD hc.symm (by omega)
    · rw [ex, nI_clamp (by omega)]
      refine ⟨vp_in_nI (by omega) (by decide), nm_e (yw_isThereN hy16 (kw_bz (fun z1 => hn true ?_) (fun z1 => yw_same ha hv hy16 (kw_bz (fun z2 => hn true ?_) (fun z2 => kt_2 (post := fun q => ∀ z, z = nI y + 1 → wY_tells_40 post J (nI a) (nI w) (nI v) nn (nI x) tt tr tg fa yc sz ks ag fi tk ia ho ro di (d + 1) q z) (hn (ky_ir nn (di (16 * x + y))) ?_))))))⟩
      · unfold ky_tG; rw [z, z1]; rfl
      · unfold ky_tG; rw [z, z1, z2]; rfl
      · unfold ky_tG; rw [z, z1, z2]; rfl
theorem yw_tells {post : Int32 → Prop} {tt tr tg : Int32} {fa yc sz ks ag fi tk ia ho ro di : Nat → Int32} {a w v : Nat} {nn : Int32} (ha : a < 3) (hw : w < 16) (hv : v < 16) (h : post (kw_b (ky_te tt yc di nn a w v))) : wpY_tells post (tt, tr, tg, fa, yc, sz, ks, ag, fi, tk, ia, ho, ro, di) (nI a) (nI w) (nI v) nn := by
  have key : ∀ d x, x + d = 16 → (∀ x', x' < x → ky_tx tt yc di nn a w v x' = false) → wY_tells_3 post (nI a) (nI w) (nI v) nn tt tr tg fa yc sz ks ag fi tk ia ho ro di (d + 1) (nI x) := by
    intro d
    induction d with
    | zero =>
      intro x hx hp
      have e : x = 16 := by omega
      subst e
      have e2 : ky_te tt yc di nn a w v = false := kw_anF.mpr hp
      rw [e2] at h
      exact br_t kw_e16 h
    | succ d ih =>
      intro x hx hp
      have hx16 : x < 16 := by omega
      have hF : ky_tx tt yc di nn a w v x = false → wY_tells_3 post (nI a) (nI w) (nI v) nn tt tr tg fa yc sz ks ag fi tk ia ho ro di (d + 1) (nI (x + 1)) := by
        intro z
        refine ih (x + 1) (by omega) fun x' hx' => ?_
        by_cases e : x' = x
        · rw [e]; exact z
        · exact hp x' (by omega)
      have hT : ky_tx tt yc di nn a w v x = true → post 1 := by
        intro z
        have e2 : ky_te tt yc di nn a w v = true := kw_anI.mpr ⟨x, hx16, z⟩
        rw [e2] at h
        exact h
      refine br_f (kw_n16 hx16) (yw_isThereN hx16 (kw_bz (fun z => ⟨17, yw_t40 (c0 := false) ha hv hx16 (fun y => absurd y (by simp)) (fun _ => hF ?_) 16 0 (by omega) false rfl⟩) (fun z => yw_same ha hw hx16 (kw_bz (fun z2 => ⟨17, yw_t40 (c0 := false) ha hv hx16 (fun y => absurd y (by simp)) (fun _ => hF ?_) 16 0 (by omega) false rfl⟩) (fun z2 => ⟨17, yw_t40 (c0 := true) ha hv hx16 (fun y => hT ?_) (fun y => hF ?_) 16 0 (by omega) true rfl⟩)))))
      · unfold ky_tx; rw [z]; rfl
      · unfold ky_tx; rw [z, z2]; rfl
      · unfold ky_tx; rw [z, z2]; exact y
      · unfold ky_tx; rw [z, z2]; exact y
  exact ⟨17, key 16 0 (by omega) (fun x' hx' => absurd hx' (by omega))⟩
theorem yw_telling {post : Int32 → Prop} {tt tr tg : Int32} {fa yc sz ks ag fi tk ia ho ro di : Nat → Int32} {w v : Nat} {nn : Int32} (hw : w < 16) (hv : v < 16) (h : post (kw_b (kw_an 3 (fun a => ky_te tt yc di nn a w v || ky_te tt yc di nn a v w)))) : wpY_telling post (tt, tr, tg, fa, yc, sz, ks, ag, fi, tk, ia, ho, ro, di) (nI w) (nI v) nn := by
  refine kw_lp (fun n i x => wY_telling_6 post (nI w) (nI v) nn tt tr tg fa yc sz ks ag fi tk ia ho ro di n x (nI i)) (fun i => kw_b (kw_an i (fun a => ky_te tt yc di nn a w v || ky_te tt yc di nn a v w))) 3 (fun n => br_t kw_e3 ⟨kw_bn _, h⟩) ?_
  intro n i hi k
  have hn : ∀ c : Bool, c = (kw_an i (fun a => ky_te tt yc di nn a w v || ky_te tt yc di nn a v w) || (ky_te tt yc di nn i w v || ky_te tt yc di nn i v w)) → ∀ z, z = nI i + 1 → wY_telling_6 post (nI w) (nI v) nn tt tr tg fa yc sz ks ag fi tk ia ho ro di n (kw_b c) z := by
    intro c e z ez
    rw [ez, nI_1]
    exact k _ (by rw [e]; rfl)
  refine br_f (kw_n3 hi) (kw_bz (fun z => yw_tells hi hw hv (kw_bz (fun z1 => yw_tells hi hv hw (kw_bz (fun z2 => hn false ?_) (fun z2 => hn true ?_))) (fun z1 => hn true ?_))) (fun z => hn true ?_))
  · rw [z, z1, z2]; rfl
  · rw [z, z1, z2]; rfl
  · rw [z, z1]; rfl
  · rw [z]; rfl
def kq_E (th : Int32) (so yc : Nat → Int32) (n p : Nat) : Int32 := if (bt th (p / 16) && bt th (p % 16)) = true then kq_D th so yc (p / 16) (p % 16) n else kq_D th so yc (p / 16) (p % 16) 0
theorem kq_ET {th : Int32} {so yc : Nat → Int32} {n x y : Nat} (hy : y < 16) (b1 : bt th x = true) (b2 : bt th y = true) : kq_E th so yc n (16 * x + y) = kq_D th so yc x y n := by
  unfold kq_E
  rw [show (16 * x + y) / 16 = x by omega, show (16 * x + y) % 16 = y by omega, b1, b2]
  rfl
theorem kq_ir {th : Int32} {so yc : Nat → Int32} {m x y : Nat} {d : Int32} (hm : m < 100) (h : d = kq_D th so yc x y m ∨ d = kq_D th so yc x y (m + 1)) : ky_ir (nI m) d = !kq_Q th so yc m x y := by
  unfold ky_ir
  cases hq : kq_Q th so yc m x y
  · obtain ⟨k, k1, k2, _⟩ := kq_DF hq
    have e : d = nI k := by
      rcases h with h | h
      · rw [h]; exact k2
      · rw [h, kq_DS hq]; exact k2
    rw [e, decide_eq_true (nI_pos (by omega)), decide_eq_true (nI_nlt k1 (by omega))]
    rfl
  · cases hq1 : kq_Q th so yc (m + 1) x y
    · have e1 : kq_D th so yc x y (m + 1) = nI (m + 1) := by
        show (if kq_Q th so yc m x y = true then (if kq_Q th so yc (m + 1) x y = true then (-2 : Int32) else nI (m + 1)) else kq_D th so yc x y m) = nI (m + 1)
        rw [if_pos hq, if_neg (by rw [hq1]; decide)]
      rcases h with h | h
      · rw [h, kq_DT hq]; rfl
      · have hl : nI m < nI (m + 1) := nI_lt (by omega) (by omega)
        rw [h, e1, decide_eq_false (show ¬ ¬ nI m < nI (m + 1) from fun z => z hl)]
        exact Bool.and_false _
    · rcases h with h | h
      · rw [h, kq_DT hq]; rfl
      · rw [h, kq_DT hq1]; rfl
theorem kp_an {n : Nat} {P Q : Nat → Bool} (h : ∀ i, i < n → P i = Q i) : kw_an n P = kw_an n Q := by
  induction n with
  | zero => rfl
  | succ n ih =>
    show (kw_an n P || P n) = (kw_an n Q || Q n)
    rw [ih (fun i hi => h i (by omega)), h n (by omega)]
theorem kq_te {th : Int32} {so yc di : Nat → Int32} {m : Nat} (hm : m < 100) (h : ∀ p, p < 256 → di p = kq_E th so yc m p ∨ di p = kq_E th so yc (m + 1) p) (a w v : Nat) : ky_te th yc di (nI m) a w v = kq_tl th yc (kq_Q th so yc m) a w v := by
  unfold ky_te kq_tl
  refine kp_an fun x hx => ?_
  unfold ky_tx
  cases b1 : bt th x
  · rfl
  · congr 1
    refine kp_al fun y hy => ?_
    unfold ky_tG
    cases b2 : bt th y
    · rfl
    · have hp := h (16 * x + y) (by omega)
      rw [kq_ET hy b1 b2, kq_ET hy b1 b2] at hp
      rw [kq_ir hm hp]
theorem kw_dm (P : Nat → Bool) : kw_al 3 (fun a => !P a) = !kw_an 3 P := by
  show (((true && !P 0) && !P 1) && !P 2) = !(((false || P 0) || P 1) || P 2)
  cases P 0 <;> cases P 1 <;> cases P 2 <;> rfl
theorem kq_any {th : Int32} {so yc : Nat → Int32} {m w v : Nat} (hq : kq_Q th so yc m w v = true) : kq_Q th so yc (m + 1) w v = !kw_an 3 (fun a => kq_tl th yc (kq_Q th so yc m) a w v || kq_tl th yc (kq_Q th so yc m) a v w) := by
  show (kq_Q th so yc m w v && kw_al 3 (fun a => !(kq_tl th yc (kq_Q th so yc m) a w v || kq_tl th yc (kq_Q th so yc m) a v w))) = _
  rw [hq, Bool.true_and]
  exact kw_dm _
theorem yw_fd58 {post : SY → Prop} {J : Int32 → (Nat → Int32) → (Nat → Int32) → (Nat → Int32) → (Nat → Int32) → (Nat → Int32) → (Nat → Int32) → (Nat → Int32) → (Nat → Int32) → (Nat → Int32) → (Nat → Int32) → (Nat → Int32) → Prop} {tt tr tg : Int32} {fa yc sz ks ag fi tk ia ho ro : Nat → Int32} {m : Nat} (hm : m < 17) (h : ∀ di, (∀ p, p < 256 → di p = kq_E tt fa yc (m + 1) p) → J (nI (m + 2)) fa yc sz ks ag fi tk ia ho ro di) (d : Nat) : ∀ i, i + d = 256 → ∀ di, (∀ p, p < i → di p = kq_E tt fa yc (m + 1) p) → (∀ p, i ≤ p → p < 256 → di p = kq_E tt fa yc m p) → wY_findDistances_58 post J (nI (m + 1)) tt tr tg (d + 1) (nI i) fa yc sz ks ag fi tk ia ho ro di := by
  induction d with
  | zero =>
    intro i hi di h1 h2
    have e : i = 256 := by omega
    subst e
    exact br_t kw_e256 (nm_r (nI_1 (m + 1)) (h di h1))
  | succ d ih =>
    intro i hi di h1 h2
    have hi256 : i < 256 := by omega
    have e1 : nI i / 16 = nI (i / 16) := pk_div (d := 16) (by omega) (by decide) (by decide)
    have e2 : nI i - nI i / 16 * 16 = nI (i % 16) := pk_rem (d := 16) (by omega) (by decide) (by decide)
    have hw : i / 16 < 16 := by omega
    have hv : i % 16 < 16 := by omega
    have edi : di i = kq_E tt fa yc m i := h2 i (Nat.le_refl i) hi256
    have hsame : kq_E tt fa yc (m + 1) i = kq_E tt fa yc m i → wY_findDistances_58 post J (nI (m + 1)) tt tr tg (d + 1) (nI (i + 1)) fa yc sz ks ag fi tk ia ho ro di := by
      intro z
      refine ih (i + 1) (by omega) di (fun p hp => ?_) (fun p hp hp2 => h2 p (by omega) hp2)
      by_cases ep : p = i
      · rw [ep, edi, z]
      · exact h1 p (by omega)
    have h100 : kq_E tt fa yc (m + 1) i = kq_E tt fa yc m i → wY_findDistances_100 post J (wY_findDistances_58 post J (nI (m + 1)) tt tr tg (d + 1)) (nI (m + 1)) (nI i) tt tr tg fa yc sz ks ag fi tk ia ho ro di := fun z => br_t rfl (nm_r (nI_1 i) (hsame z))
    refine br_f (kw_n256 hi256) ⟨by decide, ?_⟩
    rw [e2, e1, nI_clamp (show i < 2 ^ 31 by omega)]
    refine yw_isThereN hw (kw_bz (fun z1 => h100 ?_) (fun z1 => ⟨by decide, yw_isThereN hv (kw_bz (fun z2 => h100 ?_) (fun z2 => ⟨vp_in_nI hi256 (by decide), ?_⟩))⟩))
    · unfold kq_E; rw [z1]; rfl
    · unfold kq_E; rw [z2, Bool.and_false]; rfl
    · have eE : ∀ n, kq_E tt fa yc n i = kq_D tt fa yc (i / 16) (i % 16) n := by
        intro n; unfold kq_E; rw [z1, z2]; rfl
      rw [edi, eE]
      cases hq : kq_Q tt fa yc m (i / 16) (i % 16)
      · obtain ⟨k, k1, k2, _⟩ := kq_DF hq
        rw [k2]
        exact br_t (nI_pos' (by omega)) (h100 (by rw [eE, eE]; exact kq_DS hq))
      · rw [kq_DT hq]
        refine br_f (by decide) (br_f (by decide) ⟨by decide, by decide, ?_⟩)
        rw [e2, e1, nI_pred]
        have hdi : ∀ p, p < 256 → di p = kq_E tt fa yc m p ∨ di p = kq_E tt fa yc (m + 1) p := by
          intro p hp
          by_cases hl : p < i
          · exact Or.inr (h1 p hl)
          · exact Or.inl (h2 p (by omega) hp)
        refine yw_telling hw hv ?_
        have ean : kw_an 3 (fun a => ky_te tt yc di (nI m) a (i / 16) (i % 16) || ky_te tt yc di (nI m) a (i % 16) (i / 16)) = kw_an 3 (fun a => kq_tl tt yc (kq_Q tt fa yc m) a (i / 16) (i % 16) || kq_tl tt yc (kq_Q tt fa yc m) a (i % 16) (i / 16)) := by
          refine kp_an fun a _ => ?_
          rw [kq_te (by omega) hdi, kq_te (by omega) hdi]
        rw [ean]
        have hny := kq_any hq
        refine kw_bz (fun z => nm_r (nI_1 i) (hsame ?_)) (fun z => ⟨vp_in_nI hi256 (by decide), nm_e (nm_r (nI_1 i) ?_)⟩)
        · rw [z] at hny
          rw [eE, eE, kq_DT hq, kq_DT hny]
        · rw [z] at hny
          rw [nI_clamp (show i < 2 ^ 31 by omega)]
          refine ih (i + 1) (by omega) _ (fun p hp => ?_) (fun p hp hp2 => ?_)
          · by_cases ep : p = i
            · rw [ep, pk_us, eE]
              show _ = (if kq_Q tt fa yc m (i / 16) (i % 16) = true then (if kq_Q tt fa yc (m + 1) (i / 16) (i % 16) = true then (-2 : Int32) else nI (m + 1)) else kq_D tt fa yc (i / 16) (i % 16) m)
              rw [if_pos hq, if_neg (by rw [hny]; decide)]
            · rw [pk_un ep]; exact h1 p (by omega)
          · rw [pk_un (by omega)]; exact h2 p (by omega) hp2
theorem yw_fd50 {post : SY → Prop} {tt tr tg : Int32} {fa yc sz ks ag fi tk ia ho ro : Nat → Int32} (h : ∀ di, (∀ p, p < 256 → di p = kq_E tt fa yc 17 p) → post (tt, tr, tg, fa, yc, sz, ks, ag, fi, tk, ia, ho, ro, di)) (d : Nat) : ∀ m, m + d = 17 → ∀ di, (∀ p, p < 256 → di p = kq_E tt fa yc m p) → wY_findDistances_50 post tt tr tg (d + 1) (nI (m + 1)) fa yc sz ks ag fi tk ia ho ro di := by
  induction d with
  | zero =>
    intro m hm di h1
    have e : m = 17 := by omega
    subst e
    exact br_t (by decide) (h di h1)
  | succ d ih =>
    intro m hm di h1
    exact br_f (nI_ge (b := 18) (by omega) (by decide)) ⟨257, yw_fd58 (by omega) (fun di hd => ih (m + 1) (by omega) di hd) 256 0 (by omega) di (fun p hp => absurd hp (by omega)) (fun p _ hp => h1 p hp)⟩
theorem yw_findDistances {post : SY → Prop} {tt tr tg : Int32} {fa yc sz ks ag fi tk ia ho ro di : Nat → Int32} (h : ∀ di, (∀ p, p < 256 → di p = kq_E tt fa yc 17 p) → post (tt, tr, tg, fa, yc, sz, ks, ag, fi, tk, ia, ho, ro, di)) : wpY_findDistances post (tt, tr, tg, fa, yc, sz, ks, ag, fi, tk, ia, ho, ro, di) := by
  refine kw_lp0 (fun n i s => wY_findDistances_2 post tt tr tg n (nI i) fa yc sz ks ag fi tk ia ho ro s) (kw_fl (fun p => kq_E tt fa yc 0 p) di) 256 di kw_fl0.symm (fun n => br_t kw_e256 ⟨18, yw_fd50 h 17 0 (by omega) _ (fun p hp => kw_fli hp)⟩) ?_
  intro n i hi k
  have e1 : nI i / 16 = nI (i / 16) := pk_div (d := 16) (by omega) (by decide) (by decide)
  have e2 : nI i - nI i / 16 * 16 = nI (i % 16) := pk_rem (d := 16) (by omega) (by decide) (by decide)
  have hE : kq_E tt fa yc 0 i = if fa (i / 16) = fa (i % 16) then -2 else 0 := by
    have : kq_E tt fa yc 0 i = kq_D tt fa yc (i / 16) (i % 16) 0 := by
      unfold kq_E
      by_cases hz : (bt tt (i / 16) && bt tt (i % 16)) = true
      · rw [if_pos hz]
      · rw [if_neg hz]
    rw [this]
    show (if decide (fa (i / 16) = fa (i % 16)) = true then (-2 : Int32) else 0) = _
    by_cases hz : fa (i / 16) = fa (i % 16)
    · rw [decide_eq_true hz, if_pos rfl, if_pos hz]
    · rw [decide_eq_false hz, if_neg (by decide), if_neg hz]
  refine br_f (kw_n256 hi) ⟨by decide, ?_⟩
  rw [e2, e1, nI_clamp (show i / 16 < 2 ^ 31 by omega), nI_clamp (show i % 16 < 2 ^ 31 by omega), nI_clamp (show i < 2 ^ 31 by omega)]
  refine ⟨vp_in_nI (by omega) (by decide), by decide, vp_in_nI (by omega) (by decide), br_c (fun z => ⟨vp_in_nI hi (by decide), fun s es => nm_r (nI_1 i) (k s ?_)⟩) (fun z => ⟨vp_in_nI hi (by decide), fun s es => nm_r (nI_1 i) (k s ?_)⟩)⟩
  · rw [es]
    exact kw_flS (by rw [hE, if_pos z])
  · rw [es]
    exact kw_flS (by rw [hE, if_neg z])
def ky_kf (th : Int32) (di : Nat → Int32) (w : Nat) : Bool := bt th w && kw_al w (fun v => !(bt th v && decide (di (16 * w + v) = -2)))
theorem yw_kd23 {post : Int32 → SY → Prop} {J : Int32 → Int32 → Prop} {tt tr tg : Int32} {fa yc sz ks ag fi tk ia ho ro di : Nat → Int32} {w : Nat} {x1 : Int32} (hw : w < 16) (h : ∀ y, y = x1 + kw_b (ky_kf tt di w) → J y (nI (w + 1))) : ∃ n, wY_kinds_23 post J x1 (nI w) tt tr tg fa yc sz ks ag fi tk ia ho ro di n (kw_b (bt tt w)) 0 := by
  refine kw_lp0 (fun n i x => wY_kinds_23 post J x1 (nI w) tt tr tg fa yc sz ks ag fi tk ia ho ro di n x (nI i)) (fun i => kw_b (bt tt w && kw_al i (fun v => !(bt tt v && decide (di (16 * w + v) = -2))))) w (kw_b (bt tt w)) (by show _ = kw_b (bt tt w && true); rw [Bool.and_true]) (fun n => br_t (nI_le (Nat.le_refl w) (by omega)) (kw_bz (fun z => nm_r (nI_1 w) (h _ ?_)) (fun z y ey => nm_r (nI_1 w) (h y (ey.trans ?_))))) ?_
  · have e : ky_kf tt di w = false := z
    rw [e]; exact (Int32.add_zero x1).symm
  · have e : ky_kf tt di w = true := z
    rw [e]; rfl
  · intro n i hi k
    have ex : 16 * nI w + nI i = nI (16 * w + i) := kw_ixe w i
    have hstep : ∀ c : Bool, c = (bt tt w && (kw_al i (fun v => !(bt tt v && decide (di (16 * w + v) = -2))) && !(bt tt i && decide (di (16 * w + i) = -2)))) → ∀ y, y = nI (i + 1) → wY_kinds_23 post J x1 (nI w) tt tr tg fa yc sz ks ag fi tk ia ho ro di n (kw_b c) y := by
      intro c ec y ey
      rw [ey]
      exact k _ (by rw [ec]; rfl)
    refine br_f (nI_ge hi (by omega)) (kw_bz (fun z => nm_r (nI_1 i) (hstep false ?_ _ rfl)) (fun z => yw_isThereN (by omega) (kw_bz (fun z1 => nm_r (nI_1 i) (hstep true ?_ _ rfl)) (fun z1 => ?_))))
    · rw [← Bool.and_assoc, z]; rfl
    · rw [← Bool.and_assoc, z, z1]; rfl
    · rw [ex, nI_clamp (by omega)]
      refine ⟨vp_in_nI (by omega) (by decide), br_c (fun z2 => nm_r (nI_1 i) (hstep false ?_ _ rfl)) (fun z2 => nm_r (nI_1 i) (hstep true ?_ _ rfl))⟩
      · rw [← Bool.and_assoc, z, z1, decide_eq_true z2]; rfl
      · rw [← Bool.and_assoc, z, z1, decide_eq_false z2]; rfl
theorem yw_kinds8 {post : Int32 → SY → Prop} {tt tr tg : Int32} {fa yc sz ks ag fi tk ia ho ro di : Nat → Int32} (hd : ∀ p, p < 256 → di p = kq_E tt fa yc 17 p) (h : post (nI (kw_cnt 16 (kq_A tt fa yc 16))) (tt, tr, tg, fa, yc, sz, ks, ag, fi, tk, ia, ho, ro, di)) : ∃ n, wY_kinds_8 post tt tr tg fa yc sz ks ag fi tk ia ho ro di n 0 0 := by
  have ee : ∀ i, i < 16 → kq_A tt fa yc 16 i = ky_kf tt di i := by
    intro i hi
    unfold kq_A ky_kf
    cases b1 : bt tt i
    · rfl
    · congr 1
      refine kp_al fun v hv => ?_
      cases b2 : bt tt v
      · rfl
      · rw [hd (16 * i + v) (by omega), kq_ET (by omega) b1 b2]
        congr 1
        rw [Bool.true_and, Bool.true_and, ← kq_17 i v hi (by omega) b1 b2]
        cases hq : kq_Q tt fa yc 17 i v
        · obtain ⟨k, k1, k2, _⟩ := kq_DF hq
          rw [k2]
          refine (decide_eq_false fun z => ?_).symm
          have p1 := nI_pos (n := k) (by omega)
          rw [z] at p1
          exact p1 (by decide)
        · rw [kq_DT hq]; rfl
  rw [kw_cntX ee] at h
  refine kw_lp (fun n i x => wY_kinds_8 post tt tr tg fa yc sz ks ag fi tk ia ho ro di n x (nI i)) (fun i => nI (kw_cnt i (ky_kf tt di))) 16 (fun n => br_t kw_e16 h) ?_
  intro n i hi k
  exact br_f (kw_n16 hi) (yw_isThereN hi (yw_kd23 hi (fun y ey => k y (ey.trans kw_cntS))))
end
section
/-! apart and kinds -/
theorem i_vc_apart {k : Nat} {u : SX} {v : SY} (I : i_Rel k u v) (hk : k + 4 ≤ 2048) (v1 : Int32) (v2 : Int32) : wpX_apart (fun r u' => wpY_apart (fun r' v' => r' = r ∧ i_Rel (k + 4) u' v') v v1 v2) u v1 v2 := by
  refine kr_el (P := fun u v => wpX_apart (fun r u' => wpY_apart (fun r' v' => r' = r ∧ i_Rel (k + 4) u' v') v v1 v2) u v1 v2) I ?_
  intro th rg so xc kd ar sp en fo ab op ra lk nl yc sz ks ag fi tk ia ho ro di p hg hH
  unfold wpX_apart wpY_apart
  dsimp only
  refine xw_isThere (kw_bz (fun e => yw_isThere (kw_bz (fun _ => ⟨rfl, kr_in hH⟩) (fun z => absurd (e.symm.trans z) (by decide)))) (fun e1 => ?_))
  refine xw_isThere (kw_bz (fun e => yw_isThere (kw_bz (fun z => absurd (e1.symm.trans z) (by decide)) (fun _ => yw_isThere (kw_bz (fun _ => ⟨rfl, kr_in hH⟩) (fun z => absurd (e.symm.trans z) (by decide)))))) (fun e2 => ?_))
  obtain ⟨w, hw, rfl, b1⟩ := kw_th_of e1
  obtain ⟨x, hx, rfl, b2⟩ := kw_th_of e2
  have K0 : kq_K th so yc 0 (kw_fl (fun w => nI (kq_f (kx_bP th so w) w w)) lk 16) := kq_begin (fun w hw => kw_fli hw)
  refine xw_beginLikeness ⟨18, xw_apart24 (yc := yc) hH.2.2.2.1 hw hx b1 b2 (fun lk nl => ?_) 17 0 (by omega) _ _ K0 (fun j hj => absurd hj (by omega))⟩
  refine yw_isThere (kw_bz (fun z => absurd (e1.symm.trans z) (by decide)) (fun _ => yw_isThere (kw_bz (fun z => absurd (e2.symm.trans z) (by decide)) (fun _ => yw_findDistances fun di hd => ?_))))
  have ex : 16 * nI w + nI x = nI (16 * w + x) := kw_ixe w x
  dsimp only
  rw [ex, nI_clamp (by omega)]
  exact ⟨vp_in_nI (by omega) (by decide), by rw [hd _ (by omega), kq_ET hx b1 b2], kr_in hH⟩
theorem i_vc_kinds {k : Nat} {u : SX} {v : SY} (I : i_Rel k u v) (hk : k + 4 ≤ 2048) : wpX_kinds (fun r u' => wpY_kinds (fun r' v' => r' = r ∧ i_Rel (k + 4) u' v') v) u := by
  refine kr_el (P := fun u v => wpX_kinds (fun r u' => wpY_kinds (fun r' v' => r' = r ∧ i_Rel (k + 4) u' v') v) u) I ?_
  intro th rg so xc kd ar sp en fo ab op ra lk nl yc sz ks ag fi tk ia ho ro di p hg hH
  unfold wpX_kinds wpY_kinds
  dsimp only
  have K0 : kq_K th so yc 0 (kw_fl (fun w => nI (kq_f (kx_bP th so w) w w)) lk 16) := kq_begin (fun w hw => kw_fli hw)
  refine xw_beginLikeness ⟨17, xw_kinds6 (yc := yc) hH.2.2.2.1 (fun lk nl => ?_) 16 0 (by omega) _ _ K0⟩
  exact yw_findDistances fun di hd => yw_kinds8 hd ⟨rfl, kr_in hH⟩
end

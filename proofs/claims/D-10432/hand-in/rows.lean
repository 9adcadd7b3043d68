section
/-! ===== how many below n have a property ===== -/
noncomputable def zc_ct (p : Nat → Prop) : Nat → Nat
  | 0 => 0
  | n + 1 => zc_ct p n + @ite Nat (p n) (Classical.propDecidable _) 1 0
theorem zc_s (p : Nat → Prop) (n : Nat) : zc_ct p (n + 1) = zc_ct p n + @ite Nat (p n) (Classical.propDecidable _) 1 0 := rfl
theorem zc_t {p : Nat → Prop} {n : Nat} (h : p n) : zc_ct p (n + 1) = zc_ct p n + 1 := by rw [zc_s, if_pos h]
theorem zc_f {p : Nat → Prop} {n : Nat} (h : ¬ p n) : zc_ct p (n + 1) = zc_ct p n := by rw [zc_s, if_neg h, Nat.add_zero]
theorem zc_le (p : Nat → Prop) (n : Nat) : zc_ct p n ≤ n := by
  induction n with
  | zero => exact Nat.le_refl 0
  | succ n ih =>
    by_cases h : p n
    · rw [zc_t h]; omega
    · rw [zc_f h]; omega
theorem zc_mono {p q : Nat → Prop} (n : Nat) (h : ∀ i, i < n → p i → q i) : zc_ct p n ≤ zc_ct q n := by
  induction n with
  | zero => exact Nat.le_refl 0
  | succ n ih =>
    have ih := ih (fun i hi => h i (by omega))
    by_cases hp : p n
    · rw [zc_t hp, zc_t (h n (by omega) hp)]; omega
    · by_cases hq : q n
      · rw [zc_f hp, zc_t hq]; omega
      · rw [zc_f hp, zc_f hq]; exact ih
theorem zc_congr {p q : Nat → Prop} (n : Nat) (h : ∀ i, i < n → (p i ↔ q i)) : zc_ct p n = zc_ct q n :=
  Nat.le_antisymm (zc_mono n (fun i hi => (h i hi).mp)) (zc_mono n (fun i hi => (h i hi).mpr))
theorem zc_add {p q : Nat → Prop} (n : Nat) (h : ∀ i, i < n → p i → ¬ q i) : zc_ct (fun i => p i ∨ q i) n = zc_ct p n + zc_ct q n := by
  induction n with
  | zero => rfl
  | succ n ih =>
    have ih := ih (fun i hi => h i (by omega))
    by_cases hp : p n
    · rw [zc_t (p := fun i => p i ∨ q i) (Or.inl hp), zc_t hp, zc_f (h n (by omega) hp)]; omega
    · by_cases hq : q n
      · rw [zc_t (p := fun i => p i ∨ q i) (Or.inr hq), zc_f hp, zc_t hq]; omega
      · rw [zc_f (p := fun i => p i ∨ q i) (fun z => z.elim hp hq), zc_f hp, zc_f hq]; exact ih
theorem zc_zero {p : Nat → Prop} (n : Nat) (h : ∀ i, i < n → ¬ p i) : zc_ct p n = 0 := by
  induction n with
  | zero => rfl
  | succ n ih => rw [zc_f (h n (by omega))]; exact ih (fun i hi => h i (by omega))
theorem zc_one {n : Nat} (r : Nat) (h : r < n) : zc_ct (fun i => i = r) n = 1 := by
  induction n with
  | zero => exact absurd h (by omega)
  | succ n ih =>
    by_cases e : n = r
    · rw [zc_t (p := fun i => i = r) e, zc_zero (p := fun i => i = r) n (fun i hi z => by omega)]
    · rw [zc_f (p := fun i => i = r) e]; exact ih (by omega)
theorem zc_below {n : Nat} (r : Nat) (h : r ≤ n) : zc_ct (fun i => i < r) n = r := by
  induction n with
  | zero => exact (show 0 = r by omega)
  | succ n ih =>
    by_cases e : n < r
    · rw [zc_t (p := fun i => i < r) e]
      have e2 : r = n + 1 := by omega
      subst e2
      have : ∀ m, m ≤ n + 1 → zc_ct (fun i => i < n + 1) m = m := by
        intro m
        induction m with
        | zero => intro _; rfl
        | succ m ihm => intro hm; rw [zc_t (p := fun i => i < n + 1) (show m < n + 1 by omega), ihm (by omega)]
      rw [this n (by omega)]
    · rw [zc_f (p := fun i => i < r) e]; exact ih (by omega)
theorem zc_del {p q : Nat → Prop} (n r : Nat) (hr : r < n) (hp : p r) (hq : ∀ i, i < n → (q i ↔ p i ∧ i ≠ r)) : zc_ct p n = zc_ct q n + 1 := by
  rw [← zc_one r hr, ← zc_add n (fun i hi h => ((hq i hi).mp h).2)]
  refine zc_congr n (fun i hi => ⟨fun h => ?_, fun h => ?_⟩)
  · by_cases e : i = r
    · exact Or.inr e
    · exact Or.inl ((hq i hi).mpr ⟨h, e⟩)
  · rcases h with h | h
    · exact ((hq i hi).mp h).1
    · rw [h]; exact hp
theorem zc_lt {p q : Nat → Prop} (n : Nat) (h : ∀ i, i < n → p i → q i) (r : Nat) (hr : r < n) (hq : q r) (hp : ¬ p r) : zc_ct p n + 1 ≤ zc_ct q n := by
  rw [zc_del (p := q) (q := fun i => q i ∧ i ≠ r) n r hr hq (fun i _ => Iff.rfl)]
  exact Nat.succ_le_succ (zc_mono n (fun i hi hpi => ⟨h i hi hpi, fun e => hp (e ▸ hpi)⟩))
theorem zc_full {p : Nat → Prop} {n : Nat} (h : n ≤ zc_ct p n) : ∀ i, i < n → p i := by
  intro i hi
  refine Classical.byContradiction (fun hn => ?_)
  have h1 := zc_lt (p := p) (q := fun _ => True) n (fun _ _ _ => trivial) i hi trivial hn
  have h2 := zc_le (fun _ => True) n
  omega
theorem zc_inj (m : Nat) (f : Nat → Nat → Prop) (p : Nat → Prop) : ∀ (n : Nat) (q : Nat → Prop), (∀ i, i < n → p i → ∃ j, j < m ∧ q j ∧ f i j) → (∀ i k j, i < n → k < n → p i → p k → f i j → f k j → i = k) → zc_ct p n ≤ zc_ct q m := by
  intro n
  induction n with
  | zero => intro q _ _; exact Nat.zero_le _
  | succ n ih =>
    intro q h1 h2
    by_cases hp : p n
    · obtain ⟨j, hj, hq, hf⟩ := h1 n (by omega) hp
      rw [zc_t hp, zc_del (p := q) (q := fun i => q i ∧ i ≠ j) m j hj hq (fun i _ => Iff.rfl)]
      refine Nat.succ_le_succ (ih _ (fun i hi hpi => ?_) (fun i k j hi hk => h2 i k j (by omega) (by omega)))
      obtain ⟨j', hj', hq', hf'⟩ := h1 i (by omega) hpi
      refine ⟨j', hj', ⟨hq', fun e => ?_⟩, hf'⟩
      have := h2 i n j (by omega) (by omega) hpi hp (e ▸ hf') hf
      omega
    · rw [zc_f hp]
      exact ih q (fun i hi => h1 i (by omega)) (fun i k j hi hk => h2 i k j (by omega) (by omega))
/-! ===== the least with a property ===== -/
noncomputable def zc_lst (P : Nat → Prop) : Nat := @dite Nat (∃ k, P k) (Classical.propDecidable _) (fun h => Classical.choose (pk_least P h)) (fun _ => 0)
theorem zc_lst_s {P : Nat → Prop} (h : ∃ k, P k) : P (zc_lst P) ∧ ∀ j, j < zc_lst P → ¬ P j := by
  unfold zc_lst
  rw [dif_pos h]
  exact Classical.choose_spec (pk_least P h)
theorem zc_lst_e {P : Nat → Prop} {k : Nat} (h : P k) (hm : ∀ j, P j → k ≤ j) : zc_lst P = k := by
  obtain ⟨h1, h2⟩ := zc_lst_s ⟨k, h⟩
  have := hm _ h1
  rcases Nat.lt_or_ge k (zc_lst P) with z | z
  · exact absurd h (h2 k z)
  · omega
end
section
/-! ===== an Int64 as a set of bits ===== -/
def zb_t (w : Int64) (i : Nat) : Prop := w.toBitVec.getLsbD i = true
theorem zb_ext {x y : Int64} (h : ∀ i, i < 64 → (zb_t x i ↔ zb_t y i)) : x = y :=
  Int64.toBitVec_inj.mp (BitVec.eq_of_getLsbD_eq (fun i hi => Bool.eq_iff_iff.mpr (h i hi)))
theorem zb_lt {w : Int64} {i : Nat} (h : zb_t w i) : i < 64 := by
  rcases Nat.lt_or_ge i 64 with z | z
  · exact z
  · unfold zb_t at h
    rw [BitVec.getLsbD_of_ge _ _ z] at h
    exact absurd h (by decide)
theorem zb_or (x y : Int64) (i : Nat) : zb_t (x ||| y) i ↔ zb_t x i ∨ zb_t y i := by
  unfold zb_t
  rw [Int64.toBitVec_or, BitVec.getLsbD_or, Bool.or_eq_true]
theorem zb_and (x y : Int64) (i : Nat) : zb_t (x &&& y) i ↔ zb_t x i ∧ zb_t y i := by
  unfold zb_t
  rw [Int64.toBitVec_and, BitVec.getLsbD_and, Bool.and_eq_true]
theorem zb_xor (x y : Int64) (i : Nat) : zb_t (x ^^^ y) i ↔ ((zb_t x i ∧ ¬ zb_t y i) ∨ (¬ zb_t x i ∧ zb_t y i)) := by
  unfold zb_t
  rw [Int64.toBitVec_xor, BitVec.getLsbD_xor]
  cases x.toBitVec.getLsbD i <;> cases y.toBitVec.getLsbD i <;> decide
theorem zb_m1 : ∀ i, i < 64 → zb_t (-1) i := by
  have h : ∀ i, i < 64 → (-1 : Int64).toBitVec.getLsbD i = true := by decide +kernel
  exact h
theorem zb_not (x : Int64) {i : Nat} (hi : i < 64) : zb_t (x ^^^ (-1)) i ↔ ¬ zb_t x i := by
  rw [zb_xor]
  have h := zb_m1 i hi
  exact ⟨fun z => z.elim (fun a => absurd h a.2) (fun a => a.1), fun z => Or.inr ⟨z, h⟩⟩
theorem zb_0 (i : Nat) : ¬ zb_t 0 i := by
  unfold zb_t
  show ¬ (0#64).getLsbD i = true
  rw [BitVec.getLsbD_zero]
  decide
theorem zb_ne0 {x : Int64} (h : ¬ x = 0) : ∃ i, zb_t x i := by
  refine Classical.byContradiction (fun hn => h (zb_ext (fun i hi => ⟨fun z => absurd ⟨i, z⟩ hn, fun z => absurd z (zb_0 i)⟩)))
theorem zb_cl : ∀ n, n < 64 → (((nI n).toInt64 &&& 63).toBitVec.smod 64).toNat = n := by decide +kernel
theorem zb_cu : ∀ n, n < 64 → (((nI n).toInt64.toUInt64 &&& Int64.toUInt64 63).toBitVec % 64).toNat = n := by decide +kernel
theorem zb_shl (n : Nat) (hn : n < 64) (x : Int64) {i : Nat} (hi : i < 64) : zb_t (x <<< ((nI n).toInt64 &&& 63)) i ↔ n ≤ i ∧ zb_t x (i - n) := by
  unfold zb_t
  rw [Int64.toBitVec_shiftLeft]
  show (x.toBitVec <<< (((nI n).toInt64 &&& 63).toBitVec.smod 64).toNat).getLsbD i = true ↔ _
  rw [zb_cl n hn, BitVec.getLsbD_shiftLeft]
  rcases Nat.lt_or_ge i n with h | h
  · simp [h, Nat.not_le.mpr h]
  · simp [hi, h, Nat.not_lt.mpr h]
theorem zb_shr (n : Nat) (hn : n < 64) (x : Int64) (i : Nat) : zb_t ((x.toUInt64 >>> ((nI n).toInt64.toUInt64 &&& Int64.toUInt64 63)).toInt64) i ↔ zb_t x (n + i) := by
  show (x.toUInt64 >>> ((nI n).toInt64.toUInt64 &&& Int64.toUInt64 63)).toBitVec.getLsbD i = true ↔ x.toUInt64.toBitVec.getLsbD (n + i) = true
  rw [UInt64.toBitVec_shiftRight]
  show (x.toUInt64.toBitVec >>> (((nI n).toInt64.toUInt64 &&& Int64.toUInt64 63).toBitVec % 64).toNat).getLsbD i = true ↔ _
  rw [zb_cu n hn, BitVec.getLsbD_ushiftRight]
theorem zb_1 : ∀ i, i < 64 → (zb_t 1 i ↔ i = 0) := by
  have h : ∀ i, i < 64 → ((1 : Int64).toBitVec.getLsbD i = true ↔ i = 0) := by decide +kernel
  exact h
theorem zb_a1 (x : Int64) : x &&& 1 = 0 ∧ ¬ zb_t x 0 ∨ x &&& 1 = 1 ∧ zb_t x 0 := by
  by_cases h : zb_t x 0
  · refine Or.inr ⟨zb_ext (fun i hi => ?_), h⟩
    rw [zb_and, zb_1 i hi]
    exact ⟨fun z => z.2, fun z => ⟨z ▸ h, z⟩⟩
  · refine Or.inl ⟨zb_ext (fun i hi => ?_), h⟩
    rw [zb_and, zb_1 i hi]
    exact ⟨fun z => absurd (z.2 ▸ z.1) h, fun z => absurd z (zb_0 i)⟩
/-- bit n read: 0 or 1 -/
theorem zb_bit (x : Int64) (n : Nat) (hn : n < 64) : ((x.toUInt64 >>> ((nI n).toInt64.toUInt64 &&& Int64.toUInt64 63)).toInt64 &&& 1 = 0 ∧ ¬ zb_t x n) ∨ ((x.toUInt64 >>> ((nI n).toInt64.toUInt64 &&& Int64.toUInt64 63)).toInt64 &&& 1 = 1 ∧ zb_t x n) := by
  have h := zb_a1 ((x.toUInt64 >>> ((nI n).toInt64.toUInt64 &&& Int64.toUInt64 63)).toInt64)
  rw [zb_shr n hn, Nat.add_zero] at h
  exact h
theorem zb_bit0 (x : Int64) (n : Nat) (hn : n < 64) : (x.toUInt64 >>> ((nI n).toInt64.toUInt64 &&& Int64.toUInt64 63)).toInt64 &&& 1 = 0 ↔ ¬ zb_t x n := by
  rcases zb_bit x n hn with h | h
  · exact ⟨fun _ => h.2, fun _ => h.1⟩
  · exact ⟨fun z => absurd (h.1.symm.trans z) (by decide), fun z => absurd h.2 z⟩
theorem zb_bit1 (x : Int64) (n : Nat) (hn : n < 64) : (x.toUInt64 >>> ((nI n).toInt64.toUInt64 &&& Int64.toUInt64 63)).toInt64 &&& 1 = 1 ↔ zb_t x n := by
  rcases zb_bit x n hn with h | h
  · exact ⟨fun z => absurd (h.1.symm.trans z) (by decide), fun z => absurd z h.2⟩
  · exact ⟨fun _ => h.2, fun _ => h.1⟩
/-- the word of one cell -/
theorem zb_one (n : Nat) (hn : n < 64) (i : Nat) : zb_t ((1 : Int64) <<< ((nI n).toInt64 &&& 63)) i ↔ i = n := by
  rcases Nat.lt_or_ge i 64 with hi | hi
  · rw [zb_shl n hn _ hi]
    constructor
    · intro h
      have := (zb_1 (i - n) (by omega)).mp h.2
      omega
    · intro h
      exact ⟨by omega, (zb_1 (i - n) (by omega)).mpr (by omega)⟩
  · exact ⟨fun z => absurd (zb_lt z) (by omega), fun z => by omega⟩
theorem zb_neg (x : Int64) {i : Nat} (hi : i < 64) : zb_t (-x) i ↔ ((zb_t x i ∧ ¬ ∃ j, j < i ∧ zb_t x j) ∨ (¬ zb_t x i ∧ ∃ j, j < i ∧ zb_t x j)) := by
  unfold zb_t
  rw [Int64.toBitVec_neg, BitVec.getLsbD_neg]
  by_cases h : ∃ j, j < i ∧ x.toBitVec.getLsbD j = true
  · rw [decide_eq_true h, decide_eq_true hi]
    cases x.toBitVec.getLsbD i
    · exact ⟨fun _ => Or.inr ⟨by decide, h⟩, fun _ => by decide⟩
    · exact ⟨fun z => absurd z (by decide), fun z => z.elim (fun a => absurd h a.2) (fun a => absurd rfl a.1)⟩
  · rw [decide_eq_false h, decide_eq_true hi]
    cases x.toBitVec.getLsbD i
    · exact ⟨fun z => absurd z (by decide), fun z => z.elim (fun a => absurd a.1 (by decide)) (fun a => absurd a.2 h)⟩
    · exact ⟨fun _ => Or.inl ⟨rfl, h⟩, fun _ => by decide⟩
theorem zb_sub1 (x : Int64) {i : Nat} (hi : i < 64) : zb_t (x - 1) i ↔ ¬ zb_t (-x) i := by
  have e : x - 1 = (-x) ^^^ (-1) := by
    apply Int64.toBitVec_inj.mp
    rw [Int64.toBitVec_xor, Int64.toBitVec_neg, Int64.toBitVec_sub]
    show x.toBitVec - 1#64 = -x.toBitVec ^^^ (-1 : Int64).toBitVec
    rw [show (-1 : Int64).toBitVec = BitVec.allOnes 64 by decide, BitVec.xor_allOnes, BitVec.not_neg]
  rw [e, zb_not _ hi]
/-- x & -x: the least bit alone -/
theorem zb_low (x : Int64) (i : Nat) : zb_t (x &&& (-x)) i ↔ (zb_t x i ∧ ∀ j, j < i → ¬ zb_t x j) := by
  rw [zb_and]
  constructor
  · intro h
    have hi := zb_lt h.1
    rcases (zb_neg x hi).mp h.2 with z | z
    · exact ⟨h.1, fun j hj hx => z.2 ⟨j, hj, hx⟩⟩
    · exact absurd h.1 z.1
  · intro h
    exact ⟨h.1, (zb_neg x (zb_lt h.1)).mpr (Or.inl ⟨h.1, fun ⟨j, hj, hx⟩ => h.2 j hj hx⟩)⟩
/-- ~x & (x - 1): the places below the least bit -/
theorem zb_under (x : Int64) {i : Nat} (hi : i < 64) : zb_t ((x ^^^ (-1)) &&& (x - 1)) i ↔ ∀ j, j ≤ i → ¬ zb_t x j := by
  rw [zb_and, zb_not x hi, zb_sub1 x hi, zb_neg x hi]
  constructor
  · intro h j hj hx
    rcases Nat.lt_or_ge j i with z | z
    · exact h.2 (Or.inr ⟨h.1, j, z, hx⟩)
    · exact h.1 ((show i = j by omega) ▸ hx)
  · intro h
    refine ⟨h i (Nat.le_refl i), fun z => ?_⟩
    rcases z with z | ⟨_, j, hj, hx⟩
    · exact h i (Nat.le_refl i) z.1
    · exact h j (by omega) hx
end
section
/-! ===== the number of bits: ones ===== -/
def zo_u (x : Int64) : Nat := x.toUInt64.toNat
theorem zo_u_lt (x : Int64) : zo_u x < 18446744073709551616 := x.toUInt64.toNat_lt
theorem zo_u_inj {x y : Int64} (h : zo_u x = zo_u y) : x = y := congrArg UInt64.toInt64 (UInt64.toNat_inj.mp h)
theorem zo_u_add (x y : Int64) : zo_u (x + y) = (zo_u x + zo_u y) % 18446744073709551616 := by
  show (x.toUInt64 + y.toUInt64).toNat = _
  exact UInt64.toNat_add _ _
theorem zo_u_sub (x y : Int64) (h : zo_u y ≤ zo_u x) : zo_u (x - y) = zo_u x - zo_u y := by
  have e : zo_u (x - y) = (18446744073709551616 - zo_u y + zo_u x) % 18446744073709551616 := by
    show (x.toUInt64 - y.toUInt64).toNat = _
    exact UInt64.toNat_sub _ _
  have h1 := zo_u_lt x
  have h2 := zo_u_lt y
  omega
theorem zo_u_mul (x y : Int64) : zo_u (x * y) = (zo_u x * zo_u y) % 18446744073709551616 := by
  show (x.toUInt64 * y.toUInt64).toNat = _
  exact UInt64.toNat_mul _ _
theorem zo_u_and (x y : Int64) : zo_u (x &&& y) = zo_u x &&& zo_u y := by
  show (x.toUInt64 &&& y.toUInt64).toNat = _
  exact UInt64.toNat_and _ _
theorem zo_u_shr (x : Int64) (s : UInt64) (k : Nat) (hs : s.toNat % 64 = k) : zo_u (x.toUInt64 >>> s).toInt64 = zo_u x / 2 ^ k := by
  show (x.toUInt64 >>> s).toNat = _
  rw [UInt64.toNat_shiftRight, Nat.shiftRight_eq_div_pow, hs]
  rfl
theorem zo_u_lN {n : Nat} (h : n < 18446744073709551616) : zo_u (lN n) = n := by
  show n % 18446744073709551616 = n
  exact Nat.mod_eq_of_lt h
/-- eight bytes -/
def zo_8 (a b c d e f g h : Nat) : Nat := 256 * (256 * (256 * (256 * (256 * (256 * (256 * h + g) + f) + e) + d) + c) + b) + a
theorem zo_and1 (a b x y : Nat) (hx : x < 256) (hy : y < 256) : (256 * a + x) &&& (256 * b + y) = 256 * (a &&& b) + (x &&& y) := by
  have hxy : x &&& y < 2 ^ 8 := Nat.lt_of_le_of_lt Nat.and_le_left hx
  apply Nat.eq_of_testBit_eq
  intro i
  have e1 := Nat.testBit_two_pow_mul_add a (show x < 2 ^ 8 from hx) i
  have e2 := Nat.testBit_two_pow_mul_add b (show y < 2 ^ 8 from hy) i
  have e3 := Nat.testBit_two_pow_mul_add (a &&& b) hxy i
  rw [Nat.testBit_and]
  show ((2 ^ 8 * a + x).testBit i && (2 ^ 8 * b + y).testBit i) = (2 ^ 8 * (a &&& b) + (x &&& y)).testBit i
  rw [e1, e2, e3]
  split
  · rw [Nat.testBit_and]
  · rw [Nat.testBit_and]
theorem zo_and8 {a b c d e f g h : Nat} (a' b' c' d' e' f' g' h' : Nat) (ha : a < 256) (hb : b < 256) (hc : c < 256) (hd : d < 256) (he : e < 256) (hf : f < 256) (hg : g < 256) (ha' : a' < 256) (hb' : b' < 256) (hc' : c' < 256) (hd' : d' < 256) (he' : e' < 256) (hf' : f' < 256) (hg' : g' < 256) :
    zo_8 a b c d e f g h &&& zo_8 a' b' c' d' e' f' g' h' = zo_8 (a &&& a') (b &&& b') (c &&& c') (d &&& d') (e &&& e') (f &&& f') (g &&& g') (h &&& h') := by
  unfold zo_8
  rw [zo_and1 _ _ _ _ ha ha', zo_and1 _ _ _ _ hb hb', zo_and1 _ _ _ _ hc hc', zo_and1 _ _ _ _ hd hd', zo_and1 _ _ _ _ he he', zo_and1 _ _ _ _ hf hf', zo_and1 _ _ _ _ hg hg']
def zo_A (d : Nat) : Nat := d - ((d / 2) &&& 85)
def zo_B (d : Nat) : Nat := (zo_A d &&& 51) + ((zo_A d / 4) &&& 51)
def zo_p (d : Nat) : Nat := d % 2 + d / 2 % 2 + d / 4 % 2 + d / 8 % 2 + d / 16 % 2 + d / 32 % 2 + d / 64 % 2 + d / 128 % 2
theorem zo_b1 : ∀ d, d < 256 → ∀ t, t < 2 → (d / 2 + 128 * t) &&& 85 = d - zo_A d ∧ zo_A d ≤ d := by decide +kernel
theorem zo_b2 : ∀ d, d < 256 → ∀ t, t < 4 → (d / 4 + 64 * t) &&& 51 = (d / 4) &&& 51 := by decide +kernel
theorem zo_b3 : ∀ d, d < 256 → zo_B d % 16 ≤ 4 ∧ zo_B d / 16 ≤ 4 ∧ zo_B d % 16 + zo_B d / 16 = zo_p d ∧ (zo_A d &&& 51) ≤ 51 ∧ ((zo_A d / 4) &&& 51) ≤ 51 := by decide +kernel
theorem zo_b4 : ∀ d, d < 256 → zo_p d ≤ 8 := by decide +kernel
theorem zo_15 (x : Nat) : x &&& 15 = x % 16 := Nat.and_two_pow_sub_one_eq_mod x 4
theorem zo_split (n : Nat) (h : n < 18446744073709551616) : ∃ a b c d e f g k, n = zo_8 a b c d e f g k ∧ a < 256 ∧ b < 256 ∧ c < 256 ∧ d < 256 ∧ e < 256 ∧ f < 256 ∧ g < 256 ∧ k < 256 := by
  refine ⟨n % 256, n / 256 % 256, n / 65536 % 256, n / 16777216 % 256, n / 4294967296 % 256, n / 1099511627776 % 256, n / 281474976710656 % 256, n / 72057594037927936 % 256, ?_, by omega, by omega, by omega, by omega, by omega, by omega, by omega, by omega⟩
  unfold zo_8
  omega
theorem zo_s1 {a b c d e f g k : Nat} (ha : a < 256) (hb : b < 256) (hc : c < 256) (hd : d < 256) (he : e < 256) (hf : f < 256) (hg : g < 256) (hk : k < 256) :
    (zo_8 a b c d e f g k / 2) &&& 6148914691236517205 = zo_8 (a - zo_A a) (b - zo_A b) (c - zo_A c) (d - zo_A d) (e - zo_A e) (f - zo_A f) (g - zo_A g) (k - zo_A k) := by
  have e1 : zo_8 a b c d e f g k / 2 = zo_8 (a / 2 + 128 * (b % 2)) (b / 2 + 128 * (c % 2)) (c / 2 + 128 * (d % 2)) (d / 2 + 128 * (e % 2)) (e / 2 + 128 * (f % 2)) (f / 2 + 128 * (g % 2)) (g / 2 + 128 * (k % 2)) (k / 2 + 128 * 0) := by
    unfold zo_8; omega
  have e2 : 6148914691236517205 = zo_8 85 85 85 85 85 85 85 85 := by decide
  rw [e1, e2, zo_and8 _ _ _ _ _ _ _ _ (by omega) (by omega) (by omega) (by omega) (by omega) (by omega) (by omega) (by omega) (by omega) (by omega) (by omega) (by omega) (by omega) (by omega)]
  rw [(zo_b1 a ha (b % 2) (by omega)).1, (zo_b1 b hb (c % 2) (by omega)).1, (zo_b1 c hc (d % 2) (by omega)).1, (zo_b1 d hd (e % 2) (by omega)).1, (zo_b1 e he (f % 2) (by omega)).1, (zo_b1 f hf (g % 2) (by omega)).1, (zo_b1 g hg (k % 2) (by omega)).1, (zo_b1 k hk 0 (by omega)).1]
theorem zo_s2 {a b c d e f g k : Nat} (ha : a < 256) (hb : b < 256) (hc : c < 256) (hd : d < 256) (he : e < 256) (hf : f < 256) (hg : g < 256) (hk : k < 256) :
    (zo_8 a b c d e f g k / 4) &&& 3689348814741910323 = zo_8 ((a / 4) &&& 51) ((b / 4) &&& 51) ((c / 4) &&& 51) ((d / 4) &&& 51) ((e / 4) &&& 51) ((f / 4) &&& 51) ((g / 4) &&& 51) ((k / 4) &&& 51) := by
  have e1 : zo_8 a b c d e f g k / 4 = zo_8 (a / 4 + 64 * (b % 4)) (b / 4 + 64 * (c % 4)) (c / 4 + 64 * (d % 4)) (d / 4 + 64 * (e % 4)) (e / 4 + 64 * (f % 4)) (f / 4 + 64 * (g % 4)) (g / 4 + 64 * (k % 4)) (k / 4 + 64 * 0) := by
    unfold zo_8; omega
  have e2 : 3689348814741910323 = zo_8 51 51 51 51 51 51 51 51 := by decide
  rw [e1, e2, zo_and8 _ _ _ _ _ _ _ _ (by omega) (by omega) (by omega) (by omega) (by omega) (by omega) (by omega) (by omega) (by omega) (by omega) (by omega) (by omega) (by omega) (by omega)]
  rw [zo_b2 a ha (b % 4) (by omega), zo_b2 b hb (c % 4) (by omega), zo_b2 c hc (d % 4) (by omega), zo_b2 d hd (e % 4) (by omega), zo_b2 e he (f % 4) (by omega), zo_b2 f hf (g % 4) (by omega), zo_b2 g hg (k % 4) (by omega), zo_b2 k hk 0 (by omega)]
theorem zo_s2' {a b c d e f g k : Nat} (ha : a < 256) (hb : b < 256) (hc : c < 256) (hd : d < 256) (he : e < 256) (hf : f < 256) (hg : g < 256) :
    zo_8 a b c d e f g k &&& 3689348814741910323 = zo_8 (a &&& 51) (b &&& 51) (c &&& 51) (d &&& 51) (e &&& 51) (f &&& 51) (g &&& 51) (k &&& 51) := by
  have e2 : 3689348814741910323 = zo_8 51 51 51 51 51 51 51 51 := by decide
  rw [e2, zo_and8 _ _ _ _ _ _ _ _ ha hb hc hd he hf hg (by omega) (by omega) (by omega) (by omega) (by omega) (by omega) (by omega)]
theorem zo_s3 {a b c d e f g k : Nat} (ha : a % 16 ≤ 4 ∧ a / 16 ≤ 4) (hb : b % 16 ≤ 4 ∧ b / 16 ≤ 4) (hc : c % 16 ≤ 4 ∧ c / 16 ≤ 4) (hd : d % 16 ≤ 4 ∧ d / 16 ≤ 4) (he : e % 16 ≤ 4 ∧ e / 16 ≤ 4) (hf : f % 16 ≤ 4 ∧ f / 16 ≤ 4) (hg : g % 16 ≤ 4 ∧ g / 16 ≤ 4) (hk : k % 16 ≤ 4 ∧ k / 16 ≤ 4) :
    ((zo_8 a b c d e f g k + zo_8 a b c d e f g k / 16) % 18446744073709551616) &&& 1085102592571150095 = zo_8 (a % 16 + a / 16) (b % 16 + b / 16) (c % 16 + c / 16) (d % 16 + d / 16) (e % 16 + e / 16) (f % 16 + f / 16) (g % 16 + g / 16) (k % 16 + k / 16) := by
  have e1 : (zo_8 a b c d e f g k + zo_8 a b c d e f g k / 16) % 18446744073709551616 = zo_8 (a + a / 16 + 16 * (b % 16)) (b + b / 16 + 16 * (c % 16)) (c + c / 16 + 16 * (d % 16)) (d + d / 16 + 16 * (e % 16)) (e + e / 16 + 16 * (f % 16)) (f + f / 16 + 16 * (g % 16)) (g + g / 16 + 16 * (k % 16)) (k + k / 16) := by
    have e0 : zo_8 a b c d e f g k / 16 = zo_8 (a / 16 + 16 * (b % 16)) (b / 16 + 16 * (c % 16)) (c / 16 + 16 * (d % 16)) (d / 16 + 16 * (e % 16)) (e / 16 + 16 * (f % 16)) (f / 16 + 16 * (g % 16)) (g / 16 + 16 * (k % 16)) (k / 16) := by
      unfold zo_8; omega
    rw [e0]
    unfold zo_8
    omega
  have e2 : 1085102592571150095 = zo_8 15 15 15 15 15 15 15 15 := by decide
  rw [e1, e2, zo_and8 _ _ _ _ _ _ _ _ (by omega) (by omega) (by omega) (by omega) (by omega) (by omega) (by omega) (by omega) (by omega) (by omega) (by omega) (by omega) (by omega) (by omega)]
  rw [zo_15, zo_15, zo_15, zo_15, zo_15, zo_15, zo_15, zo_15]
  have q : ∀ u v : Nat, u % 16 ≤ 4 ∧ u / 16 ≤ 4 → (u + u / 16 + 16 * v) % 16 = u % 16 + u / 16 := by
    intro u v h
    omega
  have q0 : ∀ u : Nat, u % 16 ≤ 4 ∧ u / 16 ≤ 4 → (u + u / 16) % 16 = u % 16 + u / 16 := by
    intro u h
    omega
  rw [q a _ ha, q b _ hb, q c _ hc, q d _ hd, q e _ he, q f _ hf, q g _ hg, q0 k hk]
theorem zo_s4 {a b c d e f g k : Nat} (ha : a ≤ 8) (hb : b ≤ 8) (hc : c ≤ 8) (hd : d ≤ 8) (he : e ≤ 8) (hf : f ≤ 8) (hg : g ≤ 8) (hk : k ≤ 8) :
    (zo_8 a b c d e f g k * 72340172838076673) % 18446744073709551616 / 72057594037927936 = a + b + c + d + e + f + g + k := by
  have hP : zo_8 a b c d e f g k * 72340172838076673 = 18446744073709551616 * (1 * b + 257 * c + 65793 * d + 16843009 * e + 4311810305 * f + 1103823438081 * g + 282578800148737 * k) + (72057594037927936 * (a + b + c + d + e + f + g + k) + (282578800148737 * a + 282578800148736 * b + 282578800148480 * c + 282578800082944 * d + 282578783305728 * e + 282574488338432 * f + 281474976710656 * g)) := by
    unfold zo_8; omega
  have hR : 282578800148737 * a + 282578800148736 * b + 282578800148480 * c + 282578800082944 * d + 282578783305728 * e + 282574488338432 * f + 281474976710656 * g < 72057594037927936 := by omega
  have hS : a + b + c + d + e + f + g + k ≤ 64 := by omega
  rw [hP]
  generalize 1 * b + 257 * c + 65793 * d + 16843009 * e + 4311810305 * f + 1103823438081 * g + 282578800148737 * k = H
  generalize 282578800148737 * a + 282578800148736 * b + 282578800148480 * c + 282578800082944 * d + 282578783305728 * e + 282574488338432 * f + 281474976710656 * g = R at hR ⊢
  generalize a + b + c + d + e + f + g + k = s at hS ⊢
  omega
/-- the sum of the binary digits below k -/
def zo_s (n : Nat) : Nat → Nat
  | 0 => 0
  | k + 1 => zo_s n k + n / 2 ^ k % 2
theorem zo_tb (x : Int64) (k : Nat) : zb_t x k ↔ zo_u x / 2 ^ k % 2 = 1 := by
  show (zo_u x).testBit k = true ↔ _
  rw [Nat.testBit_eq_decide_div_mod_eq, decide_eq_true_eq]
theorem zo_ct (x : Int64) (k : Nat) : zc_ct (zb_t x) k = zo_s (zo_u x) k := by
  induction k with
  | zero => rfl
  | succ k ih =>
    show _ = zo_s (zo_u x) k + zo_u x / 2 ^ k % 2
    by_cases h : zb_t x k
    · rw [zc_t h, ih, (zo_tb x k).mp h]
    · rw [zc_f h, ih]
      have : ¬ zo_u x / 2 ^ k % 2 = 1 := fun z => h ((zo_tb x k).mpr z)
      omega
theorem zo_s8 (n k : Nat) : zo_s n (k + 8) = zo_s n k + zo_p (n / 2 ^ k % 256) := by
  show zo_s n k + n / 2 ^ k % 2 + n / 2 ^ (k + 1) % 2 + n / 2 ^ (k + 2) % 2 + n / 2 ^ (k + 3) % 2 + n / 2 ^ (k + 4) % 2 + n / 2 ^ (k + 5) % 2 + n / 2 ^ (k + 6) % 2 + n / 2 ^ (k + 7) % 2 = _
  rw [Nat.pow_add 2 k 1, Nat.pow_add 2 k 2, Nat.pow_add 2 k 3, Nat.pow_add 2 k 4, Nat.pow_add 2 k 5, Nat.pow_add 2 k 6, Nat.pow_add 2 k 7]
  rw [← Nat.div_div_eq_div_mul, ← Nat.div_div_eq_div_mul, ← Nat.div_div_eq_div_mul, ← Nat.div_div_eq_div_mul, ← Nat.div_div_eq_div_mul, ← Nat.div_div_eq_div_mul, ← Nat.div_div_eq_div_mul]
  generalize n / 2 ^ k = m
  generalize zo_s n k = q
  unfold zo_p
  omega
theorem zo_s64 {a b c d e f g k : Nat} (ha : a < 256) (hb : b < 256) (hc : c < 256) (hd : d < 256) (he : e < 256) (hf : f < 256) (hg : g < 256) (hk : k < 256) :
    zo_s (zo_8 a b c d e f g k) 64 = zo_p a + zo_p b + zo_p c + zo_p d + zo_p e + zo_p f + zo_p g + zo_p k := by
  have e0 : zo_8 a b c d e f g k / 2 ^ 0 % 256 = a := by unfold zo_8; omega
  have e1 : zo_8 a b c d e f g k / 2 ^ 8 % 256 = b := by unfold zo_8; omega
  have e2 : zo_8 a b c d e f g k / 2 ^ 16 % 256 = c := by unfold zo_8; omega
  have e3 : zo_8 a b c d e f g k / 2 ^ 24 % 256 = d := by unfold zo_8; omega
  have e4 : zo_8 a b c d e f g k / 2 ^ 32 % 256 = e := by unfold zo_8; omega
  have e5 : zo_8 a b c d e f g k / 2 ^ 40 % 256 = f := by unfold zo_8; omega
  have e6 : zo_8 a b c d e f g k / 2 ^ 48 % 256 = g := by unfold zo_8; omega
  have e7 : zo_8 a b c d e f g k / 2 ^ 56 % 256 = k := by unfold zo_8; omega
  generalize zo_8 a b c d e f g k = n at e0 e1 e2 e3 e4 e5 e6 e7
  rw [show (64 : Nat) = 56 + 8 from rfl, zo_s8, show (56 : Nat) = 48 + 8 from rfl, zo_s8, show (48 : Nat) = 40 + 8 from rfl, zo_s8, show (40 : Nat) = 32 + 8 from rfl, zo_s8, show (32 : Nat) = 24 + 8 from rfl, zo_s8, show (24 : Nat) = 16 + 8 from rfl, zo_s8, show (16 : Nat) = 8 + 8 from rfl, zo_s8, show (8 : Nat) = 0 + 8 from rfl, zo_s8]
  have t0 : zo_s n 0 = 0 := rfl
  rw [t0, e0]
  have r1 : n / 2 ^ (0 + 8) % 256 = b := e1
  have r2 : n / 2 ^ (0 + 8 + (0 + 8)) % 256 = c := e2
  have r3 : n / 2 ^ (0 + 8 + (0 + 8) + (0 + 8)) % 256 = d := e3
  have r4 : n / 2 ^ (0 + 8 + (0 + 8) + (0 + 8) + (0 + 8)) % 256 = e := e4
  have r5 : n / 2 ^ (0 + 8 + (0 + 8) + (0 + 8) + (0 + 8) + (0 + 8)) % 256 = f := e5
  have r6 : n / 2 ^ (0 + 8 + (0 + 8) + (0 + 8) + (0 + 8) + (0 + 8) + (0 + 8)) % 256 = g := e6
  have r7 : n / 2 ^ (0 + 8 + (0 + 8) + (0 + 8) + (0 + 8) + (0 + 8) + (0 + 8) + (0 + 8)) % 256 = k := e7
  rw [r1, r2, r3, r4, r5, r6, r7]
  omega
/-- the walk of ones: the number of bits -/
theorem zo_main {post : Int32 → Prop} {u : St1} {x : Int64} (H : post (nI (zc_ct (zb_t x) 64))) : wpX_ones post u x := by
  obtain ⟨on, a1⟩ := u
  obtain ⟨a, b, c, d, e, f, g, k, hn, ha, hb, hc, hd, he, hf, hg, hk⟩ := zo_split (zo_u x) (zo_u_lt x)
  have hA : ∀ y, y < 256 → zo_A y ≤ y := fun y hy => (zo_b1 y hy 0 (by omega)).2
  have hAl : ∀ y, y < 256 → zo_A y < 256 := fun y hy => Nat.lt_of_le_of_lt (hA y hy) hy
  refine fun x3 h3 x5 h5 x7 h7 => ?_
  have u3 : zo_u x3 = zo_8 (zo_A a) (zo_A b) (zo_A c) (zo_A d) (zo_A e) (zo_A f) (zo_A g) (zo_A k) := by
    have t : zo_u (((x.toUInt64 >>> ((1 : Int32).toInt64.toUInt64 &&& Int64.toUInt64 63)).toInt64) &&& 6148914691236517205) = zo_8 (a - zo_A a) (b - zo_A b) (c - zo_A c) (d - zo_A d) (e - zo_A e) (f - zo_A f) (g - zo_A g) (k - zo_A k) := by
      rw [zo_u_and, zo_u_shr x _ 1 (by decide), hn]
      exact zo_s1 ha hb hc hd he hf hg hk
    have l1 := hA a ha
    have l2 := hA b hb
    have l3 := hA c hc
    have l4 := hA d hd
    have l5 := hA e he
    have l6 := hA f hf
    have l7 := hA g hg
    have l8 := hA k hk
    rw [h3, zo_u_sub _ _ (by rw [t, hn]; unfold zo_8; omega), t, hn]
    unfold zo_8
    omega
  have B : ∀ y, y < 256 → (zo_A y &&& 51) + ((zo_A y / 4) &&& 51) = zo_B y := fun _ _ => rfl
  have u5 : zo_u x5 = zo_8 (zo_B a) (zo_B b) (zo_B c) (zo_B d) (zo_B e) (zo_B f) (zo_B g) (zo_B k) := by
    rw [h5, zo_u_add, zo_u_and, zo_u_and, zo_u_shr x3 _ 2 (by decide), u3]
    have t1 := zo_s2' (k := zo_A k) (hAl a ha) (hAl b hb) (hAl c hc) (hAl d hd) (hAl e he) (hAl f hf) (hAl g hg)
    have t2 := zo_s2 (hAl a ha) (hAl b hb) (hAl c hc) (hAl d hd) (hAl e he) (hAl f hf) (hAl g hg) (hAl k hk)
    show ((zo_8 (zo_A a) (zo_A b) (zo_A c) (zo_A d) (zo_A e) (zo_A f) (zo_A g) (zo_A k) &&& 3689348814741910323) + (zo_8 (zo_A a) (zo_A b) (zo_A c) (zo_A d) (zo_A e) (zo_A f) (zo_A g) (zo_A k) / 4 &&& 3689348814741910323)) % 18446744073709551616 = _
    rw [t1, t2]
    have l1 := zo_b3 a ha
    have l2 := zo_b3 b hb
    have l3 := zo_b3 c hc
    have l4 := zo_b3 d hd
    have l5 := zo_b3 e he
    have l6 := zo_b3 f hf
    have l7 := zo_b3 g hg
    have l8 := zo_b3 k hk
    rw [← B a ha, ← B b hb, ← B c hc, ← B d hd, ← B e he, ← B f hf, ← B g hg, ← B k hk]
    have q1 := l1.2.2.2
    have q2 := l2.2.2.2
    have q3 := l3.2.2.2
    have q4 := l4.2.2.2
    have q5 := l5.2.2.2
    have q6 := l6.2.2.2
    have q7 := l7.2.2.2
    have q8 := l8.2.2.2
    clear l1 l2 l3 l4 l5 l6 l7 l8 t1 t2 u3 h3 h5 h7 hn
    unfold zo_8
    omega
  have u7 : zo_u x7 = zo_8 (zo_p a) (zo_p b) (zo_p c) (zo_p d) (zo_p e) (zo_p f) (zo_p g) (zo_p k) := by
    rw [h7, zo_u_and, zo_u_add, zo_u_shr x5 _ 4 (by decide), u5]
    have P : ∀ y, y < 256 → zo_B y % 16 ≤ 4 ∧ zo_B y / 16 ≤ 4 := fun y hy => ⟨(zo_b3 y hy).1, (zo_b3 y hy).2.1⟩
    refine (zo_s3 (P a ha) (P b hb) (P c hc) (P d hd) (P e he) (P f hf) (P g hg) (P k hk)).trans ?_
    rw [(zo_b3 a ha).2.2.1, (zo_b3 b hb).2.2.1, (zo_b3 c hc).2.2.1, (zo_b3 d hd).2.2.1, (zo_b3 e he).2.2.1, (zo_b3 f hf).2.2.1, (zo_b3 g hg).2.2.1, (zo_b3 k hk).2.2.1]
  have hs : zc_ct (zb_t x) 64 = zo_p a + zo_p b + zo_p c + zo_p d + zo_p e + zo_p f + zo_p g + zo_p k := by
    rw [zo_ct, hn, zo_s64 ha hb hc hd he hf hg hk]
  have hle := zc_le (zb_t x) 64
  have ur : zo_u (((x7 * 72340172838076673).toUInt64 >>> ((56 : Int32).toInt64.toUInt64 &&& Int64.toUInt64 63)).toInt64) = zc_ct (zb_t x) 64 := by
    rw [zo_u_shr _ _ 56 (by decide), zo_u_mul, u7, hs]
    exact zo_s4 (zo_b4 a ha) (zo_b4 b hb) (zo_b4 c hc) (zo_b4 d hd) (zo_b4 e he) (zo_b4 f hf) (zo_b4 g hg) (zo_b4 k hk)
  have er : (((x7 * 72340172838076673).toUInt64 >>> ((56 : Int32).toInt64.toUInt64 &&& Int64.toUInt64 63)).toInt64) = lN (zc_ct (zb_t x) 64) := zo_u_inj (by rw [ur, zo_u_lN (by omega)])
  rw [er, lN_i]
  exact H
end
section
/-! ===== cells that are near, what can be come to, roots ===== -/
def zn_r (e : Bool) (i j : Nat) : Prop :=
  match e with
  | true => i % 8 ≤ j % 8 + 1 ∧ j % 8 ≤ i % 8 + 1 ∧ i / 8 ≤ j / 8 + 1 ∧ j / 8 ≤ i / 8 + 1
  | false => (i / 8 = j / 8 ∧ i % 8 ≤ j % 8 + 1 ∧ j % 8 ≤ i % 8 + 1) ∨ (i % 8 = j % 8 ∧ i / 8 ≤ j / 8 + 1 ∧ j / 8 ≤ i / 8 + 1)
theorem zn_rt {i j : Nat} : zn_r true i j ↔ (i % 8 ≤ j % 8 + 1 ∧ j % 8 ≤ i % 8 + 1 ∧ i / 8 ≤ j / 8 + 1 ∧ j / 8 ≤ i / 8 + 1) := Iff.rfl
theorem zn_rf {i j : Nat} : zn_r false i j ↔ ((i / 8 = j / 8 ∧ i % 8 ≤ j % 8 + 1 ∧ j % 8 ≤ i % 8 + 1) ∨ (i % 8 = j % 8 ∧ i / 8 ≤ j / 8 + 1 ∧ j / 8 ≤ i / 8 + 1)) := Iff.rfl
theorem zn_sym {e : Bool} {i j : Nat} (h : zn_r e i j) : zn_r e j i := by
  cases e
  · rw [zn_rf] at h ⊢; omega
  · rw [zn_rt] at h ⊢; omega
theorem zn_refl (e : Bool) (i : Nat) : zn_r e i i := by
  cases e
  · rw [zn_rf]; omega
  · rw [zn_rt]; omega
theorem zn_48 {e : Bool} {i j : Nat} (h : zn_r false i j) : zn_r e i j := by
  cases e
  · exact h
  · rw [zn_rf] at h; rw [zn_rt]; omega
/-- j can be come to from i over cells of S (i itself need not be one) -/
def zn_c (e : Bool) (S : Nat → Prop) (i j : Nat) : Prop := ∀ P : Nat → Prop, P i → (∀ x y, P x → zn_r e x y → S y → P y) → P j
theorem zn_c0 {e : Bool} {S : Nat → Prop} {i : Nat} : zn_c e S i i := fun _ h _ => h
theorem zn_cs {e : Bool} {S : Nat → Prop} {i j k : Nat} (h : zn_c e S i j) (hr : zn_r e j k) (hk : S k) : zn_c e S i k := fun P h0 hs => hs j k (h P h0 hs) hr hk
theorem zn_c1 {e : Bool} {S : Nat → Prop} {i j : Nat} (hr : zn_r e i j) (hj : S j) : zn_c e S i j := zn_cs zn_c0 hr hj
theorem zn_cc {e : Bool} {S : Nat → Prop} {i j k : Nat} (h : zn_c e S i j) (h2 : zn_c e S j k) : zn_c e S i k :=
  h2 (fun k => zn_c e S i k) h (fun _ _ hx hr hy => zn_cs hx hr hy)
theorem zn_in {e : Bool} {S : Nat → Prop} {i j : Nat} (hi : S i) (h : zn_c e S i j) : S j := h S hi (fun _ _ _ _ h => h)
theorem zn_csym {e : Bool} {S : Nat → Prop} {i j : Nat} (hi : S i) (h : zn_c e S i j) : zn_c e S j i :=
  (h (fun k => S k ∧ zn_c e S k i) ⟨hi, zn_c0⟩ (fun _ _ hx hr hy => ⟨hy, zn_cc (zn_c1 (zn_sym hr) hx.1) hx.2⟩)).2
theorem zn_cmono {e : Bool} {S T : Nat → Prop} {i j : Nat} (hST : ∀ k, S k → T k) (h : zn_c e S i j) : zn_c e T i j :=
  h (zn_c e T i) zn_c0 (fun _ y hx hr hy => zn_cs hx hr (hST y hy))
theorem zn_c48 {e : Bool} {S : Nat → Prop} {i j : Nat} (h : zn_c false S i j) : zn_c e S i j :=
  h (zn_c e S i) zn_c0 (fun _ _ hx hr hy => zn_cs hx (zn_48 hr) hy)
/-- a root: the least of its piece -/
def zn_t (e : Bool) (S : Nat → Prop) (i : Nat) : Prop := S i ∧ ∀ j, zn_c e S i j → i ≤ j
theorem zn_root {e : Bool} {S : Nat → Prop} {i : Nat} (hi : S i) : ∃ r, r ≤ i ∧ zn_t e S r ∧ zn_c e S r i ∧ zn_c e S i r := by
  obtain ⟨r, h1, h2⟩ := pk_least (fun r => zn_c e S i r) ⟨i, zn_c0⟩
  have hr : S r := zn_in hi h1
  have hm : ∀ j, zn_c e S i j → r ≤ j := by
    intro j hj
    rcases Nat.lt_or_ge j r with z | z
    · exact absurd hj (h2 j z)
    · exact z
  exact ⟨r, hm i zn_c0, ⟨hr, fun j hj => hm j (zn_cc h1 hj)⟩, zn_csym hi h1, h1⟩
theorem zn_tu {e : Bool} {S : Nat → Prop} {r s : Nat} (h1 : zn_t e S r) (h2 : zn_t e S s) (h : zn_c e S r s) : r = s := by
  have a := h1.2 s h
  have b := h2.2 r (zn_csym h1.1 h)
  omega
/-- the number of pieces -/
noncomputable def zn_C (e : Bool) (S : Nat → Prop) : Nat := zc_ct (zn_t e S) 64
theorem zn_C_le (e : Bool) (S : Nat → Prop) : zn_C e S ≤ 64 := zc_le _ 64
theorem zn_84 (S : Nat → Prop) : zn_C true S ≤ zn_C false S :=
  zc_mono 64 (fun _ _ h => ⟨h.1, fun j hj => h.2 j (zn_c48 hj)⟩)
/-! ===== the ball about a ===== -/
def zn_b (e : Bool) (S : Nat → Prop) (a : Nat) : Nat → Nat → Prop
  | 0 => fun j => j = a
  | n + 1 => fun j => S j ∧ ∃ i, zn_b e S a n i ∧ zn_r e i j
theorem zn_b_in {e : Bool} {S : Nat → Prop} {a : Nat} (ha : S a) (n j : Nat) (h : zn_b e S a n j) : S j := by
  cases n with
  | zero => exact (show j = a from h) ▸ ha
  | succ n => exact h.1
theorem zn_b_up {e : Bool} {S : Nat → Prop} {a : Nat} (ha : S a) {n j : Nat} (h : zn_b e S a n j) : zn_b e S a (n + 1) j :=
  ⟨zn_b_in ha n j h, j, h, zn_refl e j⟩
theorem zn_b_pre {e : Bool} {S : Nat → Prop} {k i : Nat} (hr : zn_r e k i) (hi : S i) : ∀ n j, zn_b e S i n j → zn_b e S k (n + 1) j := by
  intro n
  induction n with
  | zero => intro j h; exact (show j = i from h) ▸ ⟨hi, k, rfl, hr⟩
  | succ n ih => intro j h; exact ⟨h.1, h.2.elim (fun x hx => ⟨x, ih x hx.1, hx.2⟩)⟩
theorem zn_b_sym {e : Bool} {S : Nat → Prop} {a : Nat} (ha : S a) : ∀ n b, zn_b e S a n b → zn_b e S b n a := by
  intro n
  induction n with
  | zero => intro b h; exact (show b = a from h).symm
  | succ n ih =>
    intro b h
    obtain ⟨_, i, hi, hr⟩ := h
    exact zn_b_pre (zn_sym hr) (zn_b_in ha n i hi) n a (ih i hi)
theorem zn_b_c {e : Bool} {S : Nat → Prop} {a : Nat} : ∀ n b, zn_b e S a n b → zn_c e S a b := by
  intro n
  induction n with
  | zero => intro b h; exact (show b = a from h) ▸ zn_c0
  | succ n ih =>
    intro b h
    obtain ⟨hb, i, hi, hr⟩ := h
    exact zn_cs (ih i hi) hr hb
theorem zn_b_grow {e : Bool} {S : Nat → Prop} {a : Nat} (ha : S a) (hS : ∀ i, S i → i < 64) (n : Nat) : (∀ x y, zn_b e S a n x → zn_r e x y → S y → zn_b e S a n y) ∨ n + 1 ≤ zc_ct (zn_b e S a n) 64 := by
  induction n with
  | zero => exact Or.inr (Nat.le_of_eq (zc_one a (hS a ha)).symm)
  | succ n ih =>
    by_cases hc : ∀ x y, zn_b e S a n x → zn_r e x y → S y → zn_b e S a n y
    · refine Or.inl (fun x y hx hr hy => ⟨hy, x, ?_, hr⟩)
      obtain ⟨hxS, i, hi, hri⟩ := hx
      exact hc i x hi hri hxS
    · refine Or.inr ?_
      have h1 := ih.resolve_left hc
      have : ∃ y, zn_b e S a (n + 1) y ∧ ¬ zn_b e S a n y := by
        refine Classical.byContradiction (fun hn => hc (fun x y hx hr hy => ?_))
        refine Classical.byContradiction (fun hny => hn ⟨y, ⟨hy, x, hx, hr⟩, hny⟩)
      obtain ⟨y, hy, hny⟩ := this
      have h2 := zc_lt (p := zn_b e S a n) (q := zn_b e S a (n + 1)) 64 (fun i _ h => zn_b_up ha h) y (hS y hy.1) hy hny
      omega
theorem zn_b_all {e : Bool} {S : Nat → Prop} {a b : Nat} (ha : S a) (hS : ∀ i, S i → i < 64) (h : zn_c e S a b) : zn_b e S a 63 b := by
  have h0 : ∀ n, zn_b e S a n a := by
    intro n
    induction n with
    | zero => rfl
    | succ n ih => exact zn_b_up ha ih
  rcases zn_b_grow (e := e) ha hS 63 with hc | hc
  · exact h (zn_b e S a 63) (h0 63) hc
  · exact zc_full hc b (hS b (zn_in ha h))
/-! ===== the mode's ways in and out: one cell more ===== -/
/-- what is come to when n is added -/
theorem zn_add {e : Bool} {T : Nat → Prop} {n i j : Nat} (hi : T i) (h : zn_c e (fun k => T k ∨ k = n) i j) :
    zn_c e T i j ∨ ∃ p, T p ∧ zn_r e p n ∧ zn_c e T i p ∧ (j = n ∨ ∃ q, T q ∧ zn_r e q n ∧ zn_c e T q j) := by
  refine h (fun j => zn_c e T i j ∨ ∃ p, T p ∧ zn_r e p n ∧ zn_c e T i p ∧ (j = n ∨ ∃ q, T q ∧ zn_r e q n ∧ zn_c e T q j)) (Or.inl zn_c0) ?_
  intro x y hx hr hy
  rcases hx with hx | ⟨p, hp, hpn, hip, hx⟩
  · rcases hy with hy | hy
    · exact Or.inl (zn_cs hx hr hy)
    · subst hy
      exact Or.inr ⟨x, zn_in hi hx, hr, hx, Or.inl rfl⟩
  · rcases hy with hy | hy
    · refine Or.inr ⟨p, hp, hpn, hip, Or.inr ?_⟩
      rcases hx with hx | ⟨q, hq, hqn, hqx⟩
      · subst hx
        exact ⟨y, hy, zn_sym hr, zn_c0⟩
      · exact ⟨q, hq, hqn, zn_cs hqx hr hy⟩
    · exact Or.inr ⟨p, hp, hpn, hip, Or.inl hy⟩
theorem zn_L0 {e : Bool} {T : Nat → Prop} {n : Nat} (hn : n < 64) (hT : ∀ i, T i → i < n) (h : ∀ p, T p → ¬ zn_r e p n) : zn_C e (fun k => T k ∨ k = n) = zn_C e T + 1 := by
  refine zc_del 64 n hn ⟨Or.inr rfl, fun j hj => ?_⟩ (fun i _ => ⟨fun hi => ⟨⟨Or.inl hi.1, fun j hj => ?_⟩, ?_⟩, fun hi => ?_⟩)
  · have : j = n := hj (fun k => k = n) rfl (fun x y hx hr hy => hy.elim (fun hy => absurd (hx ▸ zn_sym hr) (h y hy)) id)
    omega
  · rcases zn_add hi.1 hj with z | ⟨p, hp, hpn, _⟩
    · exact hi.2 j z
    · exact absurd hpn (h p hp)
  · have := hT i hi.1
    omega
  · have hT' : T i := hi.1.1.resolve_right hi.2
    exact ⟨hT', fun j hj => hi.1.2 j (zn_cmono (fun _ => Or.inl) hj)⟩
theorem zn_L1 {e : Bool} {T : Nat → Prop} {n p : Nat} (hT : ∀ i, T i → i < n) (hp : T p) (hpn : zn_r e p n) (h : ∀ q, T q → zn_r e q n → zn_c e T p q) : zn_C e (fun k => T k ∨ k = n) = zn_C e T := by
  refine zc_congr 64 (fun i _ => ⟨fun hi => ?_, fun hi => ⟨Or.inl hi.1, fun j hj => ?_⟩⟩)
  · rcases hi.1 with hT' | e1
    · exact ⟨hT', fun j hj => hi.2 j (zn_cmono (fun _ => Or.inl) hj)⟩
    · subst e1
      have a := hi.2 p (zn_c1 (zn_sym hpn) (Or.inl hp))
      have b := hT p hp
      omega
  · have hin := hT i hi.1
    rcases zn_add hi.1 hj with z | ⟨q, hq, hqn, hiq, z⟩
    · exact hi.2 j z
    · rcases z with z | ⟨q', hq', hqn', hj'⟩
      · omega
      · exact hi.2 j (zn_cc hiq (zn_cc (zn_csym hp (h q hq hqn)) (zn_cc (h q' hq' hqn') hj')))
theorem zn_L2a {e : Bool} {T : Nat → Prop} {n p q rp rq : Nat} (hn : n < 64) (hT : ∀ i, T i → i < n) (hp : T p) (hq : T q) (hpn : zn_r e p n) (hqn : zn_r e q n)
    (h : ∀ x, T x → zn_r e x n → zn_c e T p x ∨ zn_c e T q x) (trp : zn_t e T rp) (trq : zn_t e T rq) (crp : zn_c e T rp p) (crq : zn_c e T rq q) (hlt : rp < rq) : zn_C e T = zn_C e (fun k => T k ∨ k = n) + 1 := by
  have up : ∀ {x y}, zn_c e T x y → zn_c e (fun k => T k ∨ k = n) x y := fun h => zn_cmono (fun _ => Or.inl) h
  have hrq := hT rq trq.1
  refine zc_del 64 rq (by omega) trq (fun i _ => ⟨fun hi => ?_, fun hi => ⟨Or.inl hi.1.1, fun j hj => ?_⟩⟩)
  · have hiT : T i := by
      rcases hi.1 with hT' | e1
      · exact hT'
      · subst e1
        have a := hi.2 p (zn_c1 (zn_sym hpn) (Or.inl hp))
        have b := hT p hp
        omega
    refine ⟨⟨hiT, fun j hj => hi.2 j (up hj)⟩, fun e1 => ?_⟩
    subst e1
    have a := hi.2 rp (zn_cc (up crq) (zn_cs (zn_cc (zn_cs (zn_c1 hqn (Or.inr rfl)) (zn_sym hpn) (Or.inl hp)) (up (zn_csym trp.1 crp))) (zn_refl e rp) (Or.inl trp.1)))
    omega
  · obtain ⟨ti, hne⟩ := hi
    have hin := hT i ti.1
    have ofp : zn_c e T i p → i = rp := fun z => zn_tu ti trp (zn_cc z (zn_csym trp.1 crp))
    have ofq : zn_c e T i q → i = rq := fun z => zn_tu ti trq (zn_cc z (zn_csym trq.1 crq))
    rcases zn_add ti.1 hj with z | ⟨x, hx, hxn, hix, z⟩
    · exact ti.2 j z
    · rcases z with z | ⟨y, hy, hyn, hyj⟩
      · omega
      · rcases h x hx hxn with hpx | hqx
        · have hip := zn_cc hix (zn_csym hp hpx)
          have e1 := ofp hip
          rcases h y hy hyn with hpy | hqy
          · exact ti.2 j (zn_cc hip (zn_cc hpy hyj))
          · have := trq.2 j (zn_cc crq (zn_cc hqy hyj))
            omega
        · exact absurd (ofq (zn_cc hix (zn_csym hq hqx))) hne
theorem zn_L2 {e : Bool} {T : Nat → Prop} {n p q : Nat} (hn : n < 64) (hT : ∀ i, T i → i < n) (hp : T p) (hq : T q) (hpn : zn_r e p n) (hqn : zn_r e q n)
    (h : ∀ x, T x → zn_r e x n → zn_c e T p x ∨ zn_c e T q x) (hpq : ¬ zn_c e T p q) : zn_C e T = zn_C e (fun k => T k ∨ k = n) + 1 := by
  obtain ⟨rp, _, trp, crp, cpr⟩ := zn_root (e := e) hp
  obtain ⟨rq, _, trq, crq, cqr⟩ := zn_root (e := e) hq
  rcases Nat.lt_trichotomy rp rq with z | z | z
  · exact zn_L2a hn hT hp hq hpn hqn h trp trq crp crq z
  · subst z
    exact absurd (zn_cc cpr crq) hpq
  · exact zn_L2a hn hT hq hp hqn hpn (fun x hx hxn => (h x hx hxn).symm) trq trp crq crp z
end
section
/-! ===== a closed walk and the cells that are off: parity ===== -/
/-- the step j - k goes between the columns x and x + 1, its left end above row y -/
def zj_X (jx jy kx ky x y : Nat) : Bool := decide ((jx = x ∧ kx = x + 1 ∧ jy < y) ∨ (kx = x ∧ jx = x + 1 ∧ ky < y))
def zj_K (jx jy x y : Nat) : Bool := decide (jx = x ∧ jy < y)
theorem zj_d4 {P Q R T : Prop} [Decidable P] [Decidable Q] [Decidable R] [Decidable T] (h : (¬ (P ↔ Q)) ↔ (¬ (R ↔ T))) : (decide P ^^ decide Q) = (decide R ^^ decide T) := by
  by_cases p : P <;> by_cases q : Q <;> by_cases r : R <;> by_cases t : T <;> simp_all
theorem zj_d3 {P R T : Prop} [Decidable P] [Decidable R] [Decidable T] (h : P ↔ ¬ (R ↔ T)) : decide P = (decide R ^^ decide T) := by
  by_cases p : P <;> by_cases r : R <;> by_cases t : T <;> simp_all
theorem zj_1 {jx jy kx ky x y : Nat} (h1 : ¬ (jx = x ∧ jy = y)) (h2 : ¬ (kx = x ∧ ky = y)) : zj_X jx jy kx ky x y = zj_X jx jy kx ky x (y + 1) := by
  unfold zj_X
  exact decide_eq_decide.mpr (by omega)
theorem zj_28 {jx jy kx ky x y : Nat} (h1 : ¬ (jx = x ∧ jy = y)) (h2 : ¬ (kx = x ∧ ky = y)) (h3 : ¬ (jx = x + 1 ∧ jy = y)) (h4 : ¬ (kx = x + 1 ∧ ky = y)) (hr : jx ≤ kx + 1 ∧ kx ≤ jx + 1 ∧ jy ≤ ky + 1 ∧ ky ≤ jy + 1) :
    (zj_X jx jy kx ky x y ^^ zj_X jx jy kx ky (x + 1) y) = (zj_K jx jy (x + 1) y ^^ zj_K kx ky (x + 1) y) := by
  unfold zj_X zj_K
  refine zj_d4 ?_
  obtain ⟨r1, r2, r3, r4⟩ := hr
  rcases (show jx = kx ∨ jx = kx + 1 ∨ kx = jx + 1 by omega) with e | e | e
  · subst e; omega
  · subst e; omega
  · subst e; omega
theorem zj_24 {jx jy kx ky x y : Nat} (h3 : ¬ (jx = x + 1 ∧ jy = y)) (h4 : ¬ (kx = x + 1 ∧ ky = y)) (hr : (jy = ky ∧ jx ≤ kx + 1 ∧ kx ≤ jx + 1) ∨ (jx = kx ∧ jy ≤ ky + 1 ∧ ky ≤ jy + 1)) :
    (zj_X jx jy kx ky x y ^^ zj_X jx jy kx ky (x + 1) y) = (zj_K jx jy (x + 1) y ^^ zj_K kx ky (x + 1) y) := by
  unfold zj_X zj_K
  refine zj_d4 ?_
  rcases hr with ⟨e, r1, r2⟩ | ⟨e, r1, r2⟩
  · subst e
    rcases (show jx = kx ∨ jx = kx + 1 ∨ kx = jx + 1 by omega) with e | e | e
    · subst e; omega
    · subst e; omega
    · subst e; omega
  · subst e; omega
theorem zj_24b {jx jy kx ky x y : Nat} (h3 : ¬ (jx = x + 1 ∧ jy = y)) (h4 : ¬ (kx = x + 1 ∧ ky = y)) (hr : (jy = ky ∧ jx ≤ kx + 1 ∧ kx ≤ jx + 1) ∨ (jx = kx ∧ jy ≤ ky + 1 ∧ ky ≤ jy + 1)) :
    (zj_X jx jy kx ky x (y + 1) ^^ zj_X jx jy kx ky (x + 1) (y + 1)) = (zj_K jx jy (x + 1) (y + 1) ^^ zj_K kx ky (x + 1) (y + 1)) := by
  unfold zj_X zj_K
  refine zj_d4 ?_
  rcases hr with ⟨e, r1, r2⟩ | ⟨e, r1, r2⟩
  · subst e
    rcases (show jx = kx ∨ jx = kx + 1 ∨ kx = jx + 1 by omega) with e | e | e
    · subst e; omega
    · subst e; omega
    · subst e; omega
  · subst e; omega
theorem zj_20 {jx jy kx ky y : Nat} (h3 : ¬ (jx = 0 ∧ jy = y)) (h4 : ¬ (kx = 0 ∧ ky = y)) (hr : jx ≤ kx + 1 ∧ kx ≤ jx + 1 ∧ jy ≤ ky + 1 ∧ ky ≤ jy + 1) :
    zj_X jx jy kx ky 0 y = (zj_K jx jy 0 y ^^ zj_K kx ky 0 y) := by
  unfold zj_X zj_K
  refine zj_d3 ?_
  obtain ⟨r1, r2, r3, r4⟩ := hr
  rcases (show jx = kx ∨ jx = kx + 1 ∨ kx = jx + 1 by omega) with e | e | e
  · subst e; omega
  · subst e; omega
  · subst e; omega
theorem zj_c0 {jx jy kx ky x : Nat} : zj_X jx jy kx ky x 0 = false := by
  unfold zj_X
  exact decide_eq_false (by omega)
theorem zj_c7 {jx jy kx ky y : Nat} (h1 : jx < 8) (h2 : kx < 8) : zj_X jx jy kx ky 7 y = false := by
  unfold zj_X
  exact decide_eq_false (by omega)
theorem zj_c8 {jx jy kx ky x : Nat} (h1 : jy < 8) (h2 : ky < 8) (r1 : jx ≤ kx + 1) (r2 : kx ≤ jx + 1) : zj_X jx jy kx ky x 8 = (decide (jx ≤ x) ^^ decide (kx ≤ x)) := by
  unfold zj_X
  refine zj_d3 ?_
  rcases (show jx = kx ∨ jx = kx + 1 ∨ kx = jx + 1 by omega) with e | e | e
  · subst e; omega
  · subst e; omega
  · subst e; omega
theorem zj_b1 : ∀ a b p q r c d : Bool, (a ^^ b) = (p ^^ q) → (c ^^ d) = (q ^^ r) → ((a ^^ c) ^^ (b ^^ d)) = (p ^^ r) := by decide
theorem zj_b2 : ∀ a p q r c : Bool, a = (p ^^ q) → c = (q ^^ r) → (a ^^ c) = (p ^^ r) := by decide
theorem zj_b3 : ∀ a b p : Bool, (a ^^ b) = (p ^^ p) → a = b := by decide
theorem zj_b4 : ∀ a p : Bool, a = (p ^^ p) → a = false := by decide
theorem zj_b5 : ∀ a b c d : Bool, (a ^^ b) = true → c = d → ((a ^^ c) ^^ (b ^^ d)) = true := by decide
def zj_I (e : Bool) (S : Nat → Prop) (s j : Nat) (A : Nat → Nat → Bool) : Prop :=
  (∀ x y, x < 8 → ¬ S (8 * y + x) → A x y = A x (y + 1)) ∧
  (∀ x y, x < 7 → ¬ S (8 * y + (x + 1)) → (e = true → ¬ S (8 * y + x)) → (A x y ^^ A (x + 1) y) = (zj_K (s % 8) (s / 8) (x + 1) y ^^ zj_K (j % 8) (j / 8) (x + 1) y)) ∧
  (e = false → ∀ x y, x < 7 → ¬ S (8 * y + (x + 1)) → (A x (y + 1) ^^ A (x + 1) (y + 1)) = (zj_K (s % 8) (s / 8) (x + 1) (y + 1) ^^ zj_K (j % 8) (j / 8) (x + 1) (y + 1))) ∧
  (∀ y, ¬ S (8 * y) → A 0 y = (zj_K (s % 8) (s / 8) 0 y ^^ zj_K (j % 8) (j / 8) 0 y)) ∧
  (∀ x, A x 0 = false) ∧ (∀ y, A 7 y = false) ∧
  (∀ x, A x 8 = (decide (s % 8 ≤ x) ^^ decide (j % 8 ≤ x)))
theorem zj_start (e : Bool) (S : Nat → Prop) (s : Nat) : zj_I e S s s (fun _ _ => false) := by
  refine ⟨fun _ _ _ _ => rfl, fun x y _ _ _ => ?_, fun _ x y _ _ => ?_, fun y _ => ?_, fun _ => rfl, fun _ => rfl, fun x => ?_⟩
  · rw [Bool.xor_self, Bool.xor_self]
  · rw [Bool.xor_self, Bool.xor_self]
  · rw [Bool.xor_self]
  · rw [Bool.xor_self]
theorem zj_step {e : Bool} {S : Nat → Prop} {s j k : Nat} {A : Nat → Nat → Bool} (h : zj_I e S s j A) (hj : S j) (hk : S k) (hj64 : j < 64) (hk64 : k < 64) (hr : zn_r e j k) :
    zj_I e S s k (fun x y => A x y ^^ zj_X (j % 8) (j / 8) (k % 8) (k / 8) x y) := by
  have nj : ∀ x y, ¬ S (8 * y + x) → ¬ (j % 8 = x ∧ j / 8 = y) := by
    intro x y hn hh
    have : 8 * y + x = j := by omega
    exact hn (this ▸ hj)
  have nk : ∀ x y, ¬ S (8 * y + x) → ¬ (k % 8 = x ∧ k / 8 = y) := by
    intro x y hn hh
    have : 8 * y + x = k := by omega
    exact hn (this ▸ hk)
  have r8 : j % 8 ≤ k % 8 + 1 ∧ k % 8 ≤ j % 8 + 1 ∧ j / 8 ≤ k / 8 + 1 ∧ k / 8 ≤ j / 8 + 1 := by
    cases e
    · rw [zn_rf] at hr; omega
    · exact hr
  obtain ⟨i1, i2, i3, i4, i5, i6, i7⟩ := h
  refine ⟨fun x y hx hn => ?_, fun x y hx hn hn2 => ?_, fun he x y hx hn => ?_, fun y hn => ?_, fun x => ?_, fun y => ?_, fun x => ?_⟩
  · show (A x y ^^ _) = (A x (y + 1) ^^ _)
    rw [i1 x y hx hn, zj_1 (nj x y hn) (nk x y hn)]
  · refine zj_b1 _ _ _ _ _ _ _ (i2 x y hx hn hn2) ?_
    cases e
    · exact zj_24 (nj _ _ hn) (nk _ _ hn) hr
    · exact zj_28 (nj _ _ (hn2 rfl)) (nk _ _ (hn2 rfl)) (nj _ _ hn) (nk _ _ hn) r8
  · subst he
    exact zj_b1 _ _ _ _ _ _ _ (i3 rfl x y hx hn) (zj_24b (nj _ _ hn) (nk _ _ hn) hr)
  · exact zj_b2 _ _ _ _ _ (i4 y hn) (zj_20 (nj 0 y hn) (nk 0 y hn) r8)
  · show (A x 0 ^^ _) = false
    rw [i5 x, zj_c0]; rfl
  · show (A 7 y ^^ _) = false
    rw [i6 y, zj_c7 (by omega) (by omega)]; rfl
  · exact zj_b2 _ _ _ _ _ (i7 x) (zj_c8 (by omega) (by omega) r8.1 r8.2.1)
/-- a closed walk: cells that are off and touch have the same parity -/
theorem zj_flat {e : Bool} {S : Nat → Prop} {c : Nat} {A : Nat → Nat → Bool} (h : zj_I e S c c A) {p q : Nat} (hp : ¬ S p) (hq : ¬ S q) (hr : zn_r (!e) p q) : A (p % 8) (p / 8) = A (q % 8) (q / 8) := by
  obtain ⟨i1, i2, i3, i4, i5, i6, i7⟩ := h
  have f2 : ∀ x y, x < 7 → ¬ S (8 * y + (x + 1)) → (e = true → ¬ S (8 * y + x)) → A x y = A (x + 1) y := fun x y hx hn hn2 => zj_b3 _ _ _ (i2 x y hx hn hn2)
  have f3 : e = false → ∀ x y, x < 7 → ¬ S (8 * y + (x + 1)) → A x (y + 1) = A (x + 1) (y + 1) := fun he x y hx hn => zj_b3 _ _ _ (i3 he x y hx hn)
  have ep : p = 8 * (p / 8) + p % 8 := by omega
  have eq : q = 8 * (q / 8) + q % 8 := by omega
  have lp : p % 8 < 8 := by omega
  have lq : q % 8 < 8 := by omega
  rw [ep] at hp
  rw [eq] at hq
  have r8 : p % 8 ≤ q % 8 + 1 ∧ q % 8 ≤ p % 8 + 1 ∧ p / 8 ≤ q / 8 + 1 ∧ q / 8 ≤ p / 8 + 1 ∧ (e = true → p % 8 = q % 8 ∨ p / 8 = q / 8) := by
    cases e
    · have hr' : zn_r true p q := hr
      rw [zn_rt] at hr'
      exact ⟨hr'.1, hr'.2.1, hr'.2.2.1, hr'.2.2.2, fun z => absurd z (by decide)⟩
    · have hr' : zn_r false p q := hr
      rw [zn_rf] at hr'
      exact ⟨by omega, by omega, by omega, by omega, fun _ => by omega⟩
  generalize p % 8 = px at *
  generalize p / 8 = py at *
  generalize q % 8 = qx at *
  generalize q / 8 = qy at *
  obtain ⟨r1, r2, r3, r4, r5⟩ := r8
  rcases (show px = qx ∨ px = qx + 1 ∨ qx = px + 1 by omega) with ex | ex | ex
  · subst ex
    rcases (show py = qy ∨ py = qy + 1 ∨ qy = py + 1 by omega) with ey | ey | ey
    · rw [ey]
    · subst ey
      exact (i1 px qy lp hq).symm
    · subst ey
      exact i1 px py lp hp
  · subst ex
    rcases (show py = qy ∨ py = qy + 1 ∨ qy = py + 1 by omega) with ey | ey | ey
    · subst ey
      exact (f2 qx py (by omega) hp (fun _ => hq)).symm
    · subst ey
      have he : e = false := by
        cases e
        · rfl
        · exact absurd (r5 rfl) (by omega)
      -- p is right below q
      exact (f2 qx (qy + 1) (by omega) hp (fun z => absurd (he.symm.trans z) (by decide))).symm.trans (i1 qx qy (by omega) hq).symm
    · subst ey
      have he : e = false := by
        cases e
        · rfl
        · exact absurd (r5 rfl) (by omega)
      -- p is right above q
      exact (i1 (qx + 1) py (by omega) hp).trans (f3 he qx py (by omega) hp).symm
  · subst ex
    rcases (show py = qy ∨ py = qy + 1 ∨ qy = py + 1 by omega) with ey | ey | ey
    · subst ey
      exact f2 px py (by omega) hq (fun _ => hp)
    · subst ey
      have he : e = false := by
        cases e
        · rfl
        · exact absurd (r5 rfl) (by omega)
      -- q is right above p
      exact (f3 he px qy (by omega) hq).trans (i1 (px + 1) qy (by omega) hq).symm
    · subst ey
      have he : e = false := by
        cases e
        · rfl
        · exact absurd (r5 rfl) (by omega)
      -- q is right below p
      exact (i1 px py (by omega) hp).trans (f2 px (py + 1) (by omega) hq (fun z => absurd (he.symm.trans z) (by decide)))
/-- the border -/
def zj_bd (b : Nat) : Prop := b % 8 = 0 ∨ b % 8 = 7 ∨ b / 8 = 0 ∨ b / 8 = 7
theorem zj_edge {e : Bool} {S : Nat → Prop} {c : Nat} {A : Nat → Nat → Bool} (h : zj_I e S c c A) {b : Nat} (hb : ¬ S b) (hd : zj_bd b) : A (b % 8) (b / 8) = false := by
  obtain ⟨i1, i2, i3, i4, i5, i6, i7⟩ := h
  have eb : b = 8 * (b / 8) + b % 8 := by omega
  have lb : b % 8 < 8 := by omega
  rw [eb] at hb
  unfold zj_bd at hd
  generalize b % 8 = bx at *
  generalize b / 8 = yb at *
  rcases hd with z | z | z | z
  · subst z; exact zj_b4 _ _ (i4 yb hb)
  · subst z; exact i6 yb
  · subst z; exact i5 bx
  · subst z
    rw [i1 bx 7 lb hb]
    exact zj_b4 _ _ (i7 bx)
/-- every cell that is off can be come to from the border, in the other mode, over cells that are off -/
def zj_hf (e : Bool) (S : Nat → Prop) : Prop := ∀ c, c < 64 → ¬ S c → ∃ b, b < 64 ∧ zj_bd b ∧ ¬ S b ∧ zn_c (!e) (fun i => i < 64 ∧ ¬ S i) b c
theorem zj_main {e : Bool} {S T : Nat → Prop} (hS : ∀ i, S i → i < 64) (hf : zj_hf e S) {c p q o X Y : Nat} (hT : ∀ i, T i → S i) (hc : S c) (hp : T p) (rp : zn_r e c p) (rq : zn_r e q c) (ho : ¬ S o) (o64 : o < 64) (oX : o % 8 = X) (oY : o / 8 = Y)
    (x1 : (zj_X (c % 8) (c / 8) (p % 8) (p / 8) X Y ^^ zj_X (c % 8) (c / 8) (p % 8) (p / 8) X 8) = true)
    (x2 : ∀ j k, T j → T k → zn_r e j k → zj_X (j % 8) (j / 8) (k % 8) (k / 8) X Y = zj_X (j % 8) (j / 8) (k % 8) (k / 8) X 8)
    (x3 : zj_X (q % 8) (q / 8) (c % 8) (c / 8) X Y = zj_X (q % 8) (q / 8) (c % 8) (c / 8) X 8) : ¬ zn_c e T p q := by
  intro hw
  have P := hw (fun j => T j ∧ ∃ A, zj_I e S c j A ∧ (A X Y ^^ A X 8) = true)
    ⟨hp, _, zj_step (zj_start e S c) hc (hT p hp) (hS c hc) (hS p (hT p hp)) rp, by
      show ((false ^^ _) ^^ (false ^^ _)) = true
      rw [Bool.false_xor, Bool.false_xor]
      exact x1⟩
    (fun j k hj hr hk => by
      obtain ⟨tj, A, hA, hx⟩ := hj
      exact ⟨hk, _, zj_step hA (hT j tj) (hT k hk) (hS j (hT j tj)) (hS k (hT k hk)) hr, zj_b5 _ _ _ _ hx (x2 j k tj hk hr)⟩)
  obtain ⟨tq, A, hA, hx⟩ := P
  have hB := zj_step hA (hT q tq) hc (hS q (hT q tq)) (hS c hc) rq
  have hBx := zj_b5 _ _ _ _ hx x3
  generalize hBd : (fun x y => A x y ^^ zj_X (q % 8) (q / 8) (c % 8) (c / 8) x y) = B at hB
  have hBx' : (B X Y ^^ B X 8) = true := by
    rw [← hBd]
    exact hBx
  have h8 : B X 8 = false := zj_b4 _ _ (hB.2.2.2.2.2.2 X)
  rw [h8, Bool.xor_false] at hBx'
  obtain ⟨b, b64, hbd, hbS, hbo⟩ := hf o o64 ho
  have F := hbo (fun i => ¬ S i ∧ B (i % 8) (i / 8) = false) ⟨hbS, zj_edge hB hbS hbd⟩
    (fun x y hx hr hy => ⟨hy.2, by rw [← zj_flat hB hx.1 hy.2 hr]; exact hx.2⟩)
  have F2 := F.2
  rw [oX, oY] at F2
  rw [F2] at hBx'
  exact absurd hBx' (by decide)
/-- mode 4: left and upper neighbour on, the one between off: they are not joined before -/
theorem zj_4 {S : Nat → Prop} (hS : ∀ i, S i → i < 64) (hf : zj_hf false S) {n : Nat} (hn : S n) (h1 : n % 8 ≠ 0) (h8 : 8 ≤ n) (hW : S (n - 1)) (hN : ¬ S (n - 9)) : ¬ zn_c false (fun i => i < n ∧ S i) (n - 1) (n - 8) := by
  have n64 := hS n hn
  refine zj_main hS hf (c := n) (o := n - 9) (X := (n - 9) % 8) (Y := (n - 9) / 8) (fun i h => h.2) hn ⟨by omega, hW⟩ ?_ ?_ hN (by omega) rfl rfl ?_ (fun j k hj hk hr => ?_) ?_
  · rw [zn_rf]; omega
  · rw [zn_rf]; omega
  · unfold zj_X
    rw [decide_eq_false (by omega), decide_eq_true (by omega)]; rfl
  · rw [zn_rf] at hr
    have nj : j ≠ n - 9 := fun z => hN (z ▸ hj.2)
    have nk : k ≠ n - 9 := fun z => hN (z ▸ hk.2)
    have lj := hj.1
    have lk := hk.1
    unfold zj_X
    exact decide_eq_decide.mpr (by omega)
  · unfold zj_X
    exact decide_eq_decide.mpr (by omega)
/-- mode 8: the upper right one on, the upper one off, q left of them on: they are not joined before -/
theorem zj_8 {S : Nat → Prop} (hS : ∀ i, S i → i < 64) (hf : zj_hf true S) {n q : Nat} (hn : S n) (h7 : n % 8 ≠ 7) (h8 : 8 ≤ n) (hE : S (n - 7)) (hN : ¬ S (n - 8)) (h0 : n % 8 ≠ 0) (hq : q = n - 1 ∨ (q = n - 9)) : ¬ zn_c true (fun i => i < n ∧ S i) (n - 7) q := by
  have n64 := hS n hn
  refine zj_main hS hf (c := n) (o := n - 8) (X := (n - 8) % 8) (Y := (n - 8) / 8) (fun i h => h.2) hn ⟨by omega, hE⟩ ?_ ?_ hN (by omega) rfl rfl ?_ (fun j k hj hk hr => ?_) ?_
  · rw [zn_rt]; omega
  · rw [zn_rt]; omega
  · unfold zj_X
    rw [decide_eq_false (by omega), decide_eq_true (by omega)]; rfl
  · rw [zn_rt] at hr
    have nj : j ≠ n - 8 := fun z => hN (z ▸ hj.2)
    have nk : k ≠ n - 8 := fun z => hN (z ▸ hk.2)
    have lj := hj.1
    have lk := hk.1
    unfold zj_X
    exact decide_eq_decide.mpr (by omega)
  · unfold zj_X
    exact decide_eq_decide.mpr (by omega)
end
section
/-! ===== pieces of a picture without holes: the sum over its cells ===== -/
noncomputable def ze_i (p : Prop) : Int := @ite Int p (Classical.propDecidable _) 1 0
theorem ze_t {p : Prop} (h : p) : ze_i p = 1 := if_pos h
theorem ze_f {p : Prop} (h : ¬ p) : ze_i p = 0 := if_neg h
theorem ze_c {p q : Prop} (h : p ↔ q) : ze_i p = ze_i q := by rw [propext h]
theorem ze_01 (p : Prop) : ze_i p = 0 ∨ ze_i p = 1 := by
  by_cases h : p
  · exact Or.inr (ze_t h)
  · exact Or.inl (ze_f h)
def ze_W (S : Nat → Prop) (n : Nat) : Prop := n % 8 ≠ 0 ∧ S (n - 1)
def ze_N (S : Nat → Prop) (n : Nat) : Prop := 8 ≤ n ∧ S (n - 8)
def ze_P (S : Nat → Prop) (n : Nat) : Prop := n % 8 ≠ 0 ∧ 8 ≤ n ∧ S (n - 9)
def ze_Q (S : Nat → Prop) (n : Nat) : Prop := n % 8 ≠ 7 ∧ 8 ≤ n ∧ S (n - 7)
/-- cell d, the left one c, the upper one b, between them a, the upper right one r -/
def ze_p (e : Bool) (a b c d r : Int) : Int :=
  match e with
  | false => d * (1 - c - b + c * b * a)
  | true => d * (1 - (c + b + a + r) + (c * a + a * b + c * b + b * r) - c * a * b)
noncomputable def ze_l (e : Bool) (S : Nat → Prop) (n : Nat) : Int := ze_p e (ze_i (ze_P S n)) (ze_i (ze_N S n)) (ze_i (ze_W S n)) (ze_i (S n)) (ze_i (ze_Q S n))
def ze_u (S : Nat → Prop) (n : Nat) : Nat → Prop := fun i => i < n ∧ S i
theorem ze_u_s {S : Nat → Prop} {n : Nat} (h : S n) : ze_u S (n + 1) = fun k => ze_u S n k ∨ k = n := by
  funext k
  refine propext ⟨fun z => ?_, fun z => ?_⟩
  · rcases Nat.lt_or_ge k n with a | a
    · exact Or.inl ⟨a, z.2⟩
    · have := z.1
      exact Or.inr (by omega)
  · rcases z with z | z
    · exact ⟨by have := z.1; omega, z.2⟩
    · exact ⟨by omega, z ▸ h⟩
theorem ze_u_n {S : Nat → Prop} {n : Nat} (h : ¬ S n) : ze_u S (n + 1) = ze_u S n := by
  funext k
  refine propext ⟨fun z => ⟨?_, z.2⟩, fun z => ⟨by have := z.1; omega, z.2⟩⟩
  have a := z.1
  have b : k ≠ n := fun e => h (e ▸ z.2)
  omega
theorem ze_nb4 {n p : Nat} (hp : p < n) (hr : zn_r false p n) : (p = n - 1 ∧ n % 8 ≠ 0) ∨ (p = n - 8 ∧ 8 ≤ n) := by
  rw [zn_rf] at hr
  omega
theorem ze_nb8 {n p : Nat} (hp : p < n) (hr : zn_r true p n) : (p = n - 1 ∧ n % 8 ≠ 0) ∨ (p = n - 8 ∧ 8 ≤ n) ∨ (p = n - 9 ∧ 8 ≤ n ∧ n % 8 ≠ 0) ∨ (p = n - 7 ∧ 8 ≤ n ∧ n % 8 ≠ 7) := by
  rw [zn_rt] at hr
  omega
theorem ze_step4 {S : Nat → Prop} (hS : ∀ i, S i → i < 64) (hf : zj_hf false S) (n : Nat) : ((zn_C false (ze_u S (n + 1)) : Nat) : Int) = (zn_C false (ze_u S n) : Nat) + ze_l false S n := by
  by_cases hn : S n
  · have n64 := hS n hn
    have hT : ∀ i, ze_u S n i → i < n := fun i h => h.1
    rw [ze_u_s hn]
    by_cases hW : ze_W S n
    · have tW : ze_u S n (n - 1) := ⟨by have := hW.1; omega, hW.2⟩
      have rW : zn_r false (n - 1) n := by rw [zn_rf]; have := hW.1; omega
      by_cases hN : ze_N S n
      · have tN : ze_u S n (n - 8) := ⟨by have := hN.1; omega, hN.2⟩
        have rN : zn_r false (n - 8) n := by rw [zn_rf]; have := hN.1; omega
        by_cases hP : ze_P S n
        · have tP : ze_u S n (n - 9) := ⟨by have := hP.2.1; omega, hP.2.2⟩
          rw [zn_L1 hT tW rW (fun q hq hr => by
            rcases ze_nb4 hq.1 hr with z | z
            · rw [z.1]; exact zn_c0
            · rw [z.1]
              refine zn_cs (zn_c1 (j := n - 9) ?_ tP) ?_ tN
              · rw [zn_rf]; have := hP.1; have := hP.2.1; omega
              · rw [zn_rf]; have := hP.1; have := hP.2.1; omega)]
          unfold ze_l
          rw [ze_t hP, ze_t hN, ze_t hW, ze_t hn]
          show _ = _ + (1 * (1 - 1 - 1 + 1 * 1 * 1) : Int)
          omega
        · have hP' : ¬ S (n - 9) := fun z => hP ⟨hW.1, hN.1, z⟩
          have t := zn_L2 n64 hT tW tN rW rN (fun x hx hr => by
            rcases ze_nb4 hx.1 hr with z | z
            · rw [z.1]; exact Or.inl zn_c0
            · rw [z.1]; exact Or.inr zn_c0) (zj_4 hS hf hn hW.1 hN.1 hW.2 hP')
          unfold ze_l
          rw [ze_f hP, ze_t hN, ze_t hW, ze_t hn]
          show _ = _ + (1 * (1 - 1 - 1 + 1 * 1 * 0) : Int)
          omega
      · rw [zn_L1 hT tW rW (fun q hq hr => by
          rcases ze_nb4 hq.1 hr with z | z
          · rw [z.1]; exact zn_c0
          · exact absurd ⟨z.2, z.1 ▸ hq.2⟩ hN)]
        unfold ze_l
        rw [ze_f hN, ze_t hW, ze_t hn]
        show _ = _ + (1 * (1 - 1 - 0 + 1 * 0 * _) : Int)
        omega
    · by_cases hN : ze_N S n
      · have tN : ze_u S n (n - 8) := ⟨by have := hN.1; omega, hN.2⟩
        have rN : zn_r false (n - 8) n := by rw [zn_rf]; have := hN.1; omega
        rw [zn_L1 hT tN rN (fun q hq hr => by
          rcases ze_nb4 hq.1 hr with z | z
          · exact absurd ⟨z.2, z.1 ▸ hq.2⟩ hW
          · rw [z.1]; exact zn_c0)]
        unfold ze_l
        rw [ze_t hN, ze_f hW, ze_t hn]
        show _ = _ + (1 * (1 - 0 - 1 + 0 * 1 * _) : Int)
        omega
      · rw [zn_L0 n64 hT (fun q hq hr => by
          rcases ze_nb4 hq.1 hr with z | z
          · exact absurd ⟨z.2, z.1 ▸ hq.2⟩ hW
          · exact absurd ⟨z.2, z.1 ▸ hq.2⟩ hN)]
        unfold ze_l
        rw [ze_f hN, ze_f hW, ze_t hn]
        show _ = _ + (1 * (1 - 0 - 0 + 0 * 0 * _) : Int)
        omega
  · rw [ze_u_n hn]
    unfold ze_l
    rw [ze_f hn]
    show _ = _ + (0 * _ : Int)
    omega
theorem ze_step8 {S : Nat → Prop} (hS : ∀ i, S i → i < 64) (hf : zj_hf true S) (n : Nat) : ((zn_C true (ze_u S (n + 1)) : Nat) : Int) = (zn_C true (ze_u S n) : Nat) + ze_l true S n := by
  by_cases hn : S n
  · have n64 := hS n hn
    have hT : ∀ i, ze_u S n i → i < n := fun i h => h.1
    rw [ze_u_s hn]
    by_cases hN : ze_N S n
    · have tN : ze_u S n (n - 8) := ⟨by have := hN.1; omega, hN.2⟩
      have h8 := hN.1
      have rN : zn_r true (n - 8) n := by rw [zn_rt]; omega
      rw [zn_L1 hT tN rN (fun q hq hr => by
        rcases ze_nb8 hq.1 hr with z | z | z | z
        · refine zn_c1 ?_ hq
          rw [z.1, zn_rt]; have := z.2; omega
        · rw [z.1]; exact zn_c0
        · refine zn_c1 ?_ hq
          rw [z.1, zn_rt]; have := z.2; omega
        · refine zn_c1 ?_ hq
          rw [z.1, zn_rt]; have := z.2; omega)]
      unfold ze_l
      rw [ze_t hN, ze_t hn]
      rcases ze_01 (ze_P S n) with a | a <;> rcases ze_01 (ze_W S n) with c | c <;> rcases ze_01 (ze_Q S n) with r | r <;> rw [a, c, r] <;> (simp only [ze_p]; omega)
    · by_cases hQ : ze_Q S n
      · have tQ : ze_u S n (n - 7) := ⟨by have := hQ.2.1; omega, hQ.2.2⟩
        have h8 := hQ.2.1
        have h7 := hQ.1
        have rQ : zn_r true (n - 7) n := by rw [zn_rt]; omega
        have hN' : ¬ S (n - 8) := fun z => hN ⟨h8, z⟩
        by_cases hW : ze_W S n
        · have h0 := hW.1
          have tW : ze_u S n (n - 1) := ⟨by omega, hW.2⟩
          have rW : zn_r true (n - 1) n := by rw [zn_rt]; omega
          have t := zn_L2 n64 hT tQ tW rQ rW (fun x hx hr => by
            rcases ze_nb8 hx.1 hr with z | z | z | z
            · rw [z.1]; exact Or.inr zn_c0
            · exact absurd (z.1 ▸ hx.2) hN'
            · refine Or.inr (zn_c1 ?_ hx)
              rw [z.1, zn_rt]; omega
            · rw [z.1]; exact Or.inl zn_c0) (zj_8 hS hf hn h7 h8 hQ.2.2 hN' h0 (Or.inl rfl))
          unfold ze_l
          rw [ze_f hN, ze_t hn, ze_t hW, ze_t hQ]
          rcases ze_01 (ze_P S n) with a | a <;> rw [a] <;> (simp only [ze_p]; omega)
        · by_cases hP : ze_P S n
          · have h0 := hP.1
            have tP : ze_u S n (n - 9) := ⟨by omega, hP.2.2⟩
            have rP : zn_r true (n - 9) n := by rw [zn_rt]; omega
            have t := zn_L2 n64 hT tQ tP rQ rP (fun x hx hr => by
              rcases ze_nb8 hx.1 hr with z | z | z | z
              · exact absurd ⟨z.2, z.1 ▸ hx.2⟩ hW
              · exact absurd (z.1 ▸ hx.2) hN'
              · rw [z.1]; exact Or.inr zn_c0
              · rw [z.1]; exact Or.inl zn_c0) (zj_8 hS hf hn h7 h8 hQ.2.2 hN' h0 (Or.inr rfl))
            unfold ze_l
            rw [ze_f hN, ze_t hn, ze_f hW, ze_t hQ, ze_t hP]
            simp only [ze_p]; omega
          · rw [zn_L1 hT tQ rQ (fun q hq hr => by
              rcases ze_nb8 hq.1 hr with z | z | z | z
              · exact absurd ⟨z.2, z.1 ▸ hq.2⟩ hW
              · exact absurd (z.1 ▸ hq.2) hN'
              · exact absurd ⟨z.2.2, z.2.1, z.1 ▸ hq.2⟩ hP
              · rw [z.1]; exact zn_c0)]
            unfold ze_l
            rw [ze_f hN, ze_t hn, ze_f hW, ze_t hQ, ze_f hP]
            simp only [ze_p]; omega
      · by_cases hW : ze_W S n
        · have h0 := hW.1
          have tW : ze_u S n (n - 1) := ⟨by omega, hW.2⟩
          have rW : zn_r true (n - 1) n := by rw [zn_rt]; omega
          rw [zn_L1 hT tW rW (fun q hq hr => by
            rcases ze_nb8 hq.1 hr with z | z | z | z
            · rw [z.1]; exact zn_c0
            · exact absurd ⟨z.2, z.1 ▸ hq.2⟩ hN
            · refine zn_c1 ?_ hq
              rw [z.1, zn_rt]; have := z.2; omega
            · exact absurd ⟨z.2.2, z.2.1, z.1 ▸ hq.2⟩ hQ)]
          unfold ze_l
          rw [ze_f hN, ze_t hn, ze_t hW, ze_f hQ]
          rcases ze_01 (ze_P S n) with a | a <;> rw [a] <;> (simp only [ze_p]; omega)
        · by_cases hP : ze_P S n
          · have h0 := hP.1
            have h8 := hP.2.1
            have tP : ze_u S n (n - 9) := ⟨by omega, hP.2.2⟩
            have rP : zn_r true (n - 9) n := by rw [zn_rt]; omega
            rw [zn_L1 hT tP rP (fun q hq hr => by
              rcases ze_nb8 hq.1 hr with z | z | z | z
              · exact absurd ⟨z.2, z.1 ▸ hq.2⟩ hW
              · exact absurd ⟨z.2, z.1 ▸ hq.2⟩ hN
              · rw [z.1]; exact zn_c0
              · exact absurd ⟨z.2.2, z.2.1, z.1 ▸ hq.2⟩ hQ)]
            unfold ze_l
            rw [ze_f hN, ze_t hn, ze_f hW, ze_f hQ, ze_t hP]
            simp only [ze_p]; omega
          · rw [zn_L0 n64 hT (fun q hq hr => by
              rcases ze_nb8 hq.1 hr with z | z | z | z
              · exact absurd ⟨z.2, z.1 ▸ hq.2⟩ hW
              · exact absurd ⟨z.2, z.1 ▸ hq.2⟩ hN
              · exact absurd ⟨z.2.2, z.2.1, z.1 ▸ hq.2⟩ hP
              · exact absurd ⟨z.2.2, z.2.1, z.1 ▸ hq.2⟩ hQ)]
            unfold ze_l
            rw [ze_f hN, ze_t hn, ze_f hW, ze_f hQ, ze_f hP]
            simp only [ze_p]; omega
  · rw [ze_u_n hn]
    unfold ze_l
    rw [ze_f hn]
    show _ = _ + (0 * _ : Int)
    omega
theorem ze_step {e : Bool} {S : Nat → Prop} (hS : ∀ i, S i → i < 64) (hf : zj_hf e S) (n : Nat) : ((zn_C e (ze_u S (n + 1)) : Nat) : Int) = (zn_C e (ze_u S n) : Nat) + ze_l e S n := by
  cases e
  · exact ze_step4 hS hf n
  · exact ze_step8 hS hf n
/-! ===== sums ===== -/
def ze_s (u : Nat → Int) : Nat → Int
  | 0 => 0
  | n + 1 => ze_s u n + u n
theorem ze_sum {e : Bool} {S : Nat → Prop} (hS : ∀ i, S i → i < 64) (hf : zj_hf e S) : ((zn_C e S : Nat) : Int) = ze_s (ze_l e S) 64 := by
  have h : ∀ n, ((zn_C e (ze_u S n) : Nat) : Int) = ze_s (ze_l e S) n := by
    intro n
    induction n with
    | zero =>
      have : zn_C e (ze_u S 0) = 0 := zc_zero 64 (fun i _ h => absurd h.1.1 (by omega))
      rw [this]; rfl
    | succ n ih => rw [ze_step hS hf n, ih]; rfl
  have e1 : ze_u S 64 = S := by
    funext k
    exact propext ⟨fun z => z.2, fun z => ⟨hS k z, z⟩⟩
  rw [← h 64, e1]
theorem ze_s_congr {u v : Nat → Int} {n : Nat} (h : ∀ i, i < n → u i = v i) : ze_s u n = ze_s v n := by
  induction n with
  | zero => rfl
  | succ n ih =>
    show ze_s u n + u n = ze_s v n + v n
    rw [ih (fun i hi => h i (by omega)), h n (by omega)]
theorem ze_s_add (u v : Nat → Int) (n : Nat) : ze_s (fun i => u i + v i) n = ze_s u n + ze_s v n := by
  induction n with
  | zero => rfl
  | succ n ih =>
    show ze_s (fun i => u i + v i) n + (u n + v n) = ze_s u n + u n + (ze_s v n + v n)
    rw [ih]; omega
theorem ze_s_4 (u : Nat → Int) (n : Nat) : ze_s (fun i => 4 * u i) n = 4 * ze_s u n := by
  induction n with
  | zero => rfl
  | succ n ih =>
    show ze_s (fun i => 4 * u i) n + 4 * u n = 4 * (ze_s u n + u n)
    rw [ih]; omega
theorem ze_s_sub (u v : Nat → Int) (n : Nat) : ze_s (fun i => u i - v i) n = ze_s u n - ze_s v n := by
  induction n with
  | zero => rfl
  | succ n ih =>
    show ze_s (fun i => u i - v i) n + (u n - v n) = ze_s u n + u n - (ze_s v n + v n)
    rw [ih]; omega
theorem ze_s_tel (u : Nat → Int) (n : Nat) : ze_s (fun i => u i - u (i + 1)) n = u 0 - u n := by
  induction n with
  | zero => show (0 : Int) = u 0 - u 0; omega
  | succ n ih =>
    show ze_s (fun i => u i - u (i + 1)) n + (u n - u (n + 1)) = u 0 - u (n + 1)
    rw [ih]; omega
theorem ze_s_0 {u : Nat → Int} {n : Nat} (h : ∀ i, i < n → u i = 0) : ze_s u n = 0 := by
  induction n with
  | zero => rfl
  | succ n ih =>
    show ze_s u n + u n = 0
    rw [ih (fun i hi => h i (by omega)), h n (by omega)]; rfl
theorem ze_s_app (u : Nat → Int) (a b : Nat) : ze_s u (a + b) = ze_s u a + ze_s (fun j => u (a + j)) b := by
  induction b with
  | zero => show ze_s u a = ze_s u a + 0; omega
  | succ b ih =>
    show ze_s u (a + b) + u (a + b) = ze_s u a + (ze_s (fun j => u (a + j)) b + u (a + b))
    rw [ih]; omega
theorem ze_s_64 (u : Nat → Int) (m : Nat) : ze_s u (8 * m) = ze_s (fun k => ze_s (fun j => u (8 * k + j)) 8) m := by
  induction m with
  | zero => rfl
  | succ m ih =>
    show ze_s u (8 * m + 8) = ze_s (fun k => ze_s (fun j => u (8 * k + j)) 8) m + ze_s (fun j => u (8 * m + j)) 8
    rw [ze_s_app, ih]
/-! ===== the squares of two by two cells ===== -/
noncomputable def zq_g (S : Nat → Prop) (j k : Nat) : Int := ze_i (1 ≤ j ∧ j ≤ 8 ∧ 1 ≤ k ∧ k ≤ 8 ∧ S (8 * (k - 1) + (j - 1)))
def zq_Q (e : Bool) (a b c d : Int) : Int :=
  if a + b + c + d = 1 then 1 else if a + b + c + d = 3 then -1 else if a + b + c + d = 2 then (if a = d then (if e = true then -2 else 2) else 0) else 0
noncomputable def zq_q (e : Bool) (S : Nat → Prop) (j k : Nat) : Int := zq_Q e (zq_g S j k) (zq_g S (j + 1) k) (zq_g S j (k + 1)) (zq_g S (j + 1) (k + 1))
noncomputable def zq_T (e : Bool) (S : Nat → Prop) : Int := ze_s (fun k => ze_s (fun j => zq_q e S j k) 9) 9
theorem zq_01 (S : Nat → Prop) (j k : Nat) : zq_g S j k = 0 ∨ zq_g S j k = 1 := ze_01 _
theorem zq_j0 (S : Nat → Prop) (k : Nat) : zq_g S 0 k = 0 := ze_f (fun h => absurd h.1 (by omega))
theorem zq_j9 (S : Nat → Prop) (k : Nat) : zq_g S 9 k = 0 := ze_f (fun h => absurd h.2.1 (by omega))
theorem zq_k0 (S : Nat → Prop) (j : Nat) : zq_g S j 0 = 0 := ze_f (fun h => absurd h.2.2.1 (by omega))
theorem zq_k9 (S : Nat → Prop) (j : Nat) : zq_g S j 9 = 0 := ze_f (fun h => absurd h.2.2.2.1 (by omega))
noncomputable def zq_l (e : Bool) (S : Nat → Prop) (j k : Nat) : Int := ze_p e (zq_g S j k) (zq_g S (j + 1) k) (zq_g S j (k + 1)) (zq_g S (j + 1) (k + 1)) (zq_g S (j + 2) k)
theorem zq_l_e {e : Bool} {S : Nat → Prop} {j k : Nat} (hj : j < 8) (hk : k < 8) : ze_l e S (8 * k + j) = zq_l e S j k := by
  unfold ze_l zq_l
  have e1 : ze_i (S (8 * k + j)) = zq_g S (j + 1) (k + 1) := ze_c ⟨fun h => ⟨by omega, by omega, by omega, by omega, h⟩, fun h => h.2.2.2.2⟩
  have e2 : ze_i (ze_W S (8 * k + j)) = zq_g S j (k + 1) := by
    refine ze_c ⟨fun h => ⟨by have := h.1; omega, by omega, by omega, by omega, ?_⟩, fun h => ⟨by have := h.1; omega, ?_⟩⟩
    · have t := h.2
      rwa [show 8 * k + j - 1 = 8 * (k + 1 - 1) + (j - 1) by have := h.1; omega] at t
    · have t := h.2.2.2.2
      rwa [show 8 * (k + 1 - 1) + (j - 1) = 8 * k + j - 1 by have := h.1; omega] at t
  have e3 : ze_i (ze_N S (8 * k + j)) = zq_g S (j + 1) k := by
    refine ze_c ⟨fun h => ⟨by omega, by omega, by have := h.1; omega, by omega, ?_⟩, fun h => ⟨by have := h.2.2.1; omega, ?_⟩⟩
    · have t := h.2
      rwa [show 8 * k + j - 8 = 8 * (k - 1) + (j + 1 - 1) by have := h.1; omega] at t
    · have t := h.2.2.2.2
      rwa [show 8 * (k - 1) + (j + 1 - 1) = 8 * k + j - 8 by have := h.2.2.1; omega] at t
  have e4 : ze_i (ze_P S (8 * k + j)) = zq_g S j k := by
    refine ze_c ⟨fun h => ⟨by have := h.1; omega, by omega, by have := h.2.1; omega, by omega, ?_⟩, fun h => ⟨by have := h.1; omega, by have := h.2.2.1; omega, ?_⟩⟩
    · have t := h.2.2
      rwa [show 8 * k + j - 9 = 8 * (k - 1) + (j - 1) by have := h.1; have := h.2.1; omega] at t
    · have t := h.2.2.2.2
      rwa [show 8 * (k - 1) + (j - 1) = 8 * k + j - 9 by have := h.1; have := h.2.2.1; omega] at t
  have e5 : ze_i (ze_Q S (8 * k + j)) = zq_g S (j + 2) k := by
    refine ze_c ⟨fun h => ⟨by omega, by have := h.1; omega, by have := h.2.1; omega, by omega, ?_⟩, fun h => ⟨by have := h.2.1; omega, by have := h.2.2.1; omega, ?_⟩⟩
    · have t := h.2.2
      rwa [show 8 * k + j - 7 = 8 * (k - 1) + (j + 2 - 1) by have := h.2.1; omega] at t
    · have t := h.2.2.2.2
      rwa [show 8 * (k - 1) + (j + 2 - 1) = 8 * k + j - 7 by have := h.2.2.1; omega] at t
  rw [e1, e2, e3, e4, e5]
/-- what telescopes along a row -/
def zq_f (e : Bool) (a b c : Int) : Int :=
  match e with
  | false => a + c - 2 * (a * c)
  | true => a + c - 2 * (a * c) - 4 * (b * c) + 4 * (a * b * c)
theorem zq_loc (e : Bool) {a b c d r : Int} (ha : a = 0 ∨ a = 1) (hb : b = 0 ∨ b = 1) (hc : c = 0 ∨ c = 1) (hd : d = 0 ∨ d = 1) (hr : r = 0 ∨ r = 1) :
    zq_Q e a b c d = 4 * ze_p e a b c d r + (zq_f e a b c - zq_f e b r d) + ((2 * b - 2 * (a * b)) - (2 * d - 2 * (c * d))) := by
  rcases ha with rfl | rfl <;> rcases hb with rfl | rfl <;> rcases hc with rfl | rfl <;> rcases hd with rfl | rfl <;> rcases hr with rfl | rfl <;> cases e <;> decide
theorem zq_main (e : Bool) (S : Nat → Prop) : zq_T e S = 4 * ze_s (ze_l e S) 64 := by
  have h1 : zq_T e S = ze_s (fun k => ze_s (fun j => 4 * zq_l e S j k) 9 + (zq_f e (zq_g S 0 k) (zq_g S (0 + 1) k) (zq_g S 0 (k + 1)) - zq_f e (zq_g S 9 k) (zq_g S (9 + 1) k) (zq_g S 9 (k + 1))) + (ze_s (fun j => 2 * zq_g S (j + 1) k - 2 * (zq_g S j k * zq_g S (j + 1) k)) 9 - ze_s (fun j => 2 * zq_g S (j + 1) (k + 1) - 2 * (zq_g S j (k + 1) * zq_g S (j + 1) (k + 1))) 9)) 9 := by
    refine ze_s_congr (fun k _ => ?_)
    rw [← ze_s_tel (fun j => zq_f e (zq_g S j k) (zq_g S (j + 1) k) (zq_g S j (k + 1))) 9, ← ze_s_sub, ← ze_s_add, ← ze_s_add]
    exact ze_s_congr (fun j _ => zq_loc e (zq_01 _ _ _) (zq_01 _ _ _) (zq_01 _ _ _) (zq_01 _ _ _) (zq_01 _ _ _))
  rw [h1, ze_s_add, ze_s_add]
  have h2 : ze_s (fun k => zq_f e (zq_g S 0 k) (zq_g S (0 + 1) k) (zq_g S 0 (k + 1)) - zq_f e (zq_g S 9 k) (zq_g S (9 + 1) k) (zq_g S 9 (k + 1))) 9 = 0 := by
    refine ze_s_0 (fun k _ => ?_)
    rw [zq_j0, zq_j0, zq_j9, zq_j9]
    cases e <;> simp [zq_f]
  have h3 : ze_s (fun k => ze_s (fun j => 2 * zq_g S (j + 1) k - 2 * (zq_g S j k * zq_g S (j + 1) k)) 9 - ze_s (fun j => 2 * zq_g S (j + 1) (k + 1) - 2 * (zq_g S j (k + 1) * zq_g S (j + 1) (k + 1))) 9) 9 = 0 := by
    rw [ze_s_tel (fun k => ze_s (fun j => 2 * zq_g S (j + 1) k - 2 * (zq_g S j k * zq_g S (j + 1) k)) 9) 9]
    have a : ze_s (fun j => 2 * zq_g S (j + 1) 0 - 2 * (zq_g S j 0 * zq_g S (j + 1) 0)) 9 = 0 := ze_s_0 (fun j _ => by rw [zq_k0, zq_k0]; rfl)
    have b : ze_s (fun j => 2 * zq_g S (j + 1) 9 - 2 * (zq_g S j 9 * zq_g S (j + 1) 9)) 9 = 0 := ze_s_0 (fun j _ => by rw [zq_k9, zq_k9]; rfl)
    rw [a, b]; rfl
  rw [h2, h3]
  have h4 : ze_s (fun k => ze_s (fun j => 4 * zq_l e S j k) 9) 9 = 4 * ze_s (ze_l e S) 64 := by
    have h5 : ∀ k, ze_s (fun j => 4 * zq_l e S j k) 9 = 4 * ze_s (fun j => zq_l e S j k) 8 := by
      intro k
      rw [ze_s_4]
      show 4 * (ze_s (fun j => zq_l e S j k) 8 + zq_l e S 8 k) = _
      have : zq_l e S 8 k = 0 := by
        unfold zq_l
        rw [zq_j9, zq_j9]
        cases e <;> simp [ze_p]
      rw [this]; omega
    have h6 : ze_s (fun j => zq_l e S j 8) 8 = 0 := ze_s_0 (fun j _ => by
      unfold zq_l
      rw [zq_k9, zq_k9]
      cases e <;> simp [ze_p])
    rw [show (64 : Nat) = 8 * 8 from rfl, ze_s_64, ← ze_s_4]
    show ze_s (fun k => ze_s (fun j => 4 * zq_l e S j k) 9) 8 + ze_s (fun j => 4 * zq_l e S j 8) 9 = _
    rw [h5 8, h6]
    have h7 : ze_s (fun k => ze_s (fun j => 4 * zq_l e S j k) 9) 8 = ze_s (fun i => 4 * ze_s (fun j => ze_l e S (8 * i + j)) 8) 8 := by
      refine ze_s_congr (fun k hk => ?_)
      rw [h5 k]
      rw [ze_s_congr (n := 8) (fun j hj => (zq_l_e (e := e) (S := S) hj hk).symm)]
    rw [h7]; omega
  rw [h4]; omega
/-- EULER: without holes the squares say the number of pieces -/
theorem zq_euler {e : Bool} {S : Nat → Prop} (hS : ∀ i, S i → i < 64) (hf : zj_hf e S) : zq_T e S = 4 * ((zn_C e S : Nat) : Int) := by
  rw [zq_main, ze_sum hS hf]
end
section
/-! ===== the walks: modes, near cells, floods ===== -/
def zw_m (e : Bool) : Int32 := match e with | true => 8 | false => 4
theorem zw_bad {post : Int32 → Prop} {u : St1} {e : Bool} (H : post 0) : wpX_badMode post u (zw_m e) := by
  obtain ⟨on, a1⟩ := u
  cases e
  · exact br_t rfl H
  · exact br_f (by decide) (br_t rfl H)
theorem zw_c7 : ∀ i, i < 64 → (zb_t 9187201950435737471 i ↔ i % 8 ≠ 7) := by
  have h : ∀ i, i < 64 → ((9187201950435737471 : Int64).toBitVec.getLsbD i = true ↔ i % 8 ≠ 7) := by decide +kernel
  exact h
theorem zw_c0 : ∀ i, i < 64 → (zb_t (-72340172838076674) i ↔ i % 8 ≠ 0) := by
  have h : ∀ i, i < 64 → ((-72340172838076674 : Int64).toBitVec.getLsbD i = true ↔ i % 8 ≠ 0) := by decide +kernel
  exact h
theorem zw_cb : ∀ i, i < 64 → (zb_t (-35604928818740737) i ↔ zj_bd i) := by
  have h : ∀ i, i < 64 → ((-35604928818740737 : Int64).toBitVec.getLsbD i = true ↔ (i % 8 = 0 ∨ i % 8 = 7 ∨ i / 8 = 0 ∨ i / 8 = 7)) := by decide +kernel
  exact h
theorem zw_l1 (x : Int64) {i : Nat} (hi : i < 64) : zb_t (x <<< ((1 : Int32).toInt64 &&& 63)) i ↔ 1 ≤ i ∧ zb_t x (i - 1) := zb_shl 1 (by decide) x hi
theorem zw_l8 (x : Int64) {i : Nat} (hi : i < 64) : zb_t (x <<< ((8 : Int32).toInt64 &&& 63)) i ↔ 8 ≤ i ∧ zb_t x (i - 8) := zb_shl 8 (by decide) x hi
theorem zw_r1 (x : Int64) (i : Nat) : zb_t ((x.toUInt64 >>> ((1 : Int32).toInt64.toUInt64 &&& Int64.toUInt64 63)).toInt64) i ↔ zb_t x (1 + i) := zb_shr 1 (by decide) x i
theorem zw_r8 (x : Int64) (i : Nat) : zb_t ((x.toUInt64 >>> ((8 : Int32).toInt64.toUInt64 &&& Int64.toUInt64 63)).toInt64) i ↔ zb_t x (8 + i) := zb_shr 8 (by decide) x i
theorem zw_wide (f : Int64) {i : Nat} (hi : i < 64) : zb_t ((f ||| ((f &&& 9187201950435737471) <<< ((1 : Int32).toInt64 &&& 63))) ||| (((f &&& (-72340172838076674)).toUInt64 >>> ((1 : Int32).toInt64.toUInt64 &&& Int64.toUInt64 63)).toInt64)) i ↔ ∃ j, zb_t f j ∧ j / 8 = i / 8 ∧ j % 8 ≤ i % 8 + 1 ∧ i % 8 ≤ j % 8 + 1 := by
  rw [zb_or, zb_or, zw_l1 _ hi, zw_r1, zb_and, zb_and]
  constructor
  · rintro ((h | ⟨h1, h2, h3⟩) | ⟨h2, h3⟩)
    · exact ⟨i, h, by omega, by omega, by omega⟩
    · have := (zw_c7 _ (by omega)).mp h3
      exact ⟨i - 1, h2, by omega, by omega, by omega⟩
    · have l := zb_lt h2
      have := (zw_c0 _ l).mp h3
      exact ⟨1 + i, h2, by omega, by omega, by omega⟩
  · rintro ⟨j, hj, h1, h2, h3⟩
    have l := zb_lt hj
    rcases (show j = i ∨ j = i - 1 ∧ 1 ≤ i ∧ j % 8 ≠ 7 ∨ j = 1 + i ∧ j % 8 ≠ 0 by omega) with z | z | z
    · exact Or.inl (Or.inl (z ▸ hj))
    · obtain ⟨z1, z2, z3⟩ := z
      subst z1
      exact Or.inl (Or.inr ⟨z2, hj, (zw_c7 _ (by omega)).mpr z3⟩)
    · obtain ⟨z1, z3⟩ := z
      subst z1
      exact Or.inr ⟨hj, (zw_c0 _ l).mpr z3⟩
/-- grown: the cells near -/
theorem zw_grown {post : Int64 → Prop} {u : St1} {f : Int64} {e : Bool} (H : ∀ g, (∀ i, i < 64 → (zb_t g i ↔ ∃ j, zb_t f j ∧ zn_r e j i)) → post g) : wpX_grown post u f (zw_m e) := by
  obtain ⟨on, a1⟩ := u
  refine nm_e ?_
  have hw := fun {i : Nat} (hi : i < 64) => zw_wide f hi
  generalize ((f ||| ((f &&& 9187201950435737471) <<< ((1 : Int32).toInt64 &&& 63))) ||| (((f &&& (-72340172838076674)).toUInt64 >>> ((1 : Int32).toInt64.toUInt64 &&& Int64.toUInt64 63)).toInt64)) = wd at hw ⊢
  cases e
  · refine br_f (by decide) (H _ (fun i hi => ?_))
    rw [zb_or, zb_or, zw_l8 _ hi, zw_r8, hw hi]
    constructor
    · rintro ((⟨j, hj, h1⟩ | ⟨h1, h2⟩) | h2)
      · exact ⟨j, hj, by rw [zn_rf]; omega⟩
      · exact ⟨i - 8, h2, by rw [zn_rf]; omega⟩
      · exact ⟨8 + i, h2, by rw [zn_rf]; omega⟩
    · rintro ⟨j, hj, hr⟩
      rw [zn_rf] at hr
      rcases (show (j / 8 = i / 8 ∧ j % 8 ≤ i % 8 + 1 ∧ i % 8 ≤ j % 8 + 1) ∨ (j = i - 8 ∧ 8 ≤ i) ∨ j = 8 + i by omega) with z | z | z
      · exact Or.inl (Or.inl ⟨j, hj, z⟩)
      · exact Or.inl (Or.inr ⟨z.2, z.1 ▸ hj⟩)
      · exact Or.inr (z ▸ hj)
  · refine br_t (by decide) (H _ (fun i hi => ?_))
    rw [zb_or, zb_or, zw_l8 _ hi, zw_r8, hw hi]
    constructor
    · rintro ((⟨j, hj, h1⟩ | ⟨h1, h2⟩) | h2)
      · exact ⟨j, hj, by rw [zn_rt]; omega⟩
      · obtain ⟨j, hj, h3⟩ := (hw (show i - 8 < 64 by omega)).mp h2
        exact ⟨j, hj, by rw [zn_rt]; omega⟩
      · obtain ⟨j, hj, h3⟩ := (hw (zb_lt h2)).mp h2
        exact ⟨j, hj, by rw [zn_rt]; omega⟩
    · rintro ⟨j, hj, hr⟩
      have l := zb_lt hj
      rw [zn_rt] at hr
      rcases (show j / 8 = i / 8 ∨ j / 8 + 1 = i / 8 ∨ j / 8 = i / 8 + 1 by omega) with z | z | z
      · exact Or.inl (Or.inl ⟨j, hj, z, hr.1, hr.2.1⟩)
      · exact Or.inl (Or.inr ⟨by omega, (hw (show i - 8 < 64 by omega)).mpr ⟨j, hj, by omega, by omega, by omega⟩⟩)
      · exact Or.inr ((hw (show 8 + i < 64 by omega)).mpr ⟨j, hj, by omega, by omega, by omega⟩)
/-- flooded: what can be come to -/
theorem zw_flood {post : Int64 → Prop} {u : St1} {s w : Int64} {e : Bool} (H : ∀ F, (∀ j, zb_t F j ↔ ∃ i, zb_t s i ∧ zb_t w i ∧ zn_c e (zb_t w) i j) → post F) : wpX_flooded post u s w (zw_m e) := by
  obtain ⟨on, a1⟩ := u
  refine nm_e ?_
  have fin : ∀ F : Int64, (∀ i, zb_t s i → zb_t w i → zb_t F i) → (∀ j, zb_t F j → ∃ i, zb_t s i ∧ zb_t w i ∧ zn_c e (zb_t w) i j) → (∀ x y, zb_t F x → zn_r e x y → zb_t w y → zb_t F y) → post F := by
    intro F h1 h2 h3
    refine H F (fun j => ⟨h2 j, ?_⟩)
    rintro ⟨i, hs, hw, hc⟩
    exact hc (zb_t F) (h1 i hs hw) h3
  refine lp3 (fun n a b c => wX_flooded_11 post w (zw_m e) on a1 n a b c)
    (fun F more rd => ∃ r : Nat, r ≤ 64 ∧ rd = nI r ∧ (∀ i, zb_t s i → zb_t w i → zb_t F i) ∧ (∀ j, zb_t F j → ∃ i, zb_t s i ∧ zb_t w i ∧ zn_c e (zb_t w) i j) ∧ (∀ i, zb_t F i → zb_t w i) ∧ ((more = 0 ∧ ∀ x y, zb_t F x → zn_r e x y → zb_t w y → zb_t F y) ∨ (more = 1 ∧ r ≤ zc_ct (zb_t F) 64)))
    (fun _ _ rd => 64 - rd.toNatClampNeg) ?_ _ _ _
    ⟨0, by omega, rfl, fun i h1 h2 => (zb_and _ _ _).mpr ⟨h1, h2⟩, fun j hj => ⟨j, ((zb_and _ _ _).mp hj).1, ((zb_and _ _ _).mp hj).2, zn_c0⟩, fun i hi => ((zb_and _ _ _).mp hi).2, Or.inr ⟨rfl, Nat.zero_le _⟩⟩
  intro n F more rd hI hW
  obtain ⟨r, hr, rfl, h1, h2, h3, h4⟩ := hI
  refine pk_le 64 r (fun z => ?_) (fun z => ?_)
  · refine fin F h1 h2 ?_
    rcases h4 with h4 | h4
    · exact h4.2
    · exact fun x y _ _ hy => zc_full (n := 64) (by omega) y (zb_lt hy)
  · rcases h4 with ⟨hm, h4⟩ | ⟨hm, h4⟩
    · exact br_t hm (fin F h1 h2 h4)
    · refine br_f (by rw [hm]; decide) (zw_grown (fun g hg => nm_e ?_))
      have hnx : ∀ y, zb_t (g &&& w) y ↔ (∃ j, zb_t F j ∧ zn_r e j y) ∧ zb_t w y := by
        intro y
        rw [zb_and]
        constructor
        · rintro ⟨a, b⟩
          exact ⟨(hg y (zb_lt a)).mp a, b⟩
        · rintro ⟨a, b⟩
          exact ⟨(hg y (zb_lt b)).mpr a, b⟩
      have hup : ∀ i, zb_t F i → zb_t (g &&& w) i := fun i hi => (hnx i).mpr ⟨⟨i, hi, zn_refl e i⟩, h3 i hi⟩
      have h2' : ∀ j, zb_t (g &&& w) j → ∃ i, zb_t s i ∧ zb_t w i ∧ zn_c e (zb_t w) i j := by
        intro j hj
        obtain ⟨⟨k, hk, hkr⟩, hjw⟩ := (hnx j).mp hj
        obtain ⟨i, a, b, c⟩ := h2 k hk
        exact ⟨i, a, b, zn_cs c hkr hjw⟩
      have hmu : 64 - (nI (r + 1)).toNatClampNeg < 64 - (nI r).toNatClampNeg := by
        rw [nI_clamp (by omega), nI_clamp (by omega)]; omega
      refine br_c (fun he => nm_r (nI_1 r) (hW _ _ _ ⟨r + 1, by omega, rfl, fun i a b => hup i (h1 i a b), h2', fun i hi => ((hnx i).mp hi).2, Or.inl ⟨rfl, ?_⟩⟩ hmu)) (fun he => nm_r (nI_1 r) (hW _ _ _ ⟨r + 1, by omega, rfl, fun i a b => hup i (h1 i a b), h2', fun i hi => ((hnx i).mp hi).2, Or.inr ⟨rfl, ?_⟩⟩ hmu))
      · intro x y hx hxy hy
        rw [he] at hx
        exact (hnx y).mpr ⟨⟨x, hx, hxy⟩, hy⟩
      · have : ∃ y, zb_t (g &&& w) y ∧ ¬ zb_t F y := by
          refine Classical.byContradiction (fun hn => he (zb_ext (fun i _ => ⟨fun hi => ?_, hup i⟩)))
          exact Classical.byContradiction (fun hni => hn ⟨i, hi, hni⟩)
        obtain ⟨y, hy, hny⟩ := this
        have := zc_lt (p := zb_t F) (q := zb_t (g &&& w)) 64 (fun i _ => hup i) y (zb_lt hy) hy hny
        omega
theorem zw_cells {post : Int32 → Prop} {on : Int64} {a1 : Nat → Int32} (H : post (nI (zc_ct (zb_t on) 64))) : wpX_cells post (on, a1) := zo_main (u := (on, a1)) H
theorem zw_change {post : Int32 → St1 → Prop} {on : Int64} {a1 : Nat → Int32} {now : Int64} (H : post (nI (zc_ct (zb_t (on ^^^ now)) 64)) (now, a1)) : wpX_change post (on, a1) now := by
  unfold wpX_change
  dsimp only
  exact zo_main (post := fun r => post r (now, a1)) (u := (on, a1)) H
/-- the least bit of a word that isn't 0 -/
theorem zw_low {x : Int64} (h : ¬ x = 0) : ∃ r, zb_t x r ∧ (∀ j, zb_t x j → r ≤ j) ∧ ∀ i, zb_t (x &&& (-x)) i ↔ i = r := by
  obtain ⟨r, h1, h2⟩ := pk_least (zb_t x) (zb_ne0 h)
  have hm : ∀ j, zb_t x j → r ≤ j := by
    intro j hj
    rcases Nat.lt_or_ge j r with z | z
    · exact absurd hj (h2 j z)
    · exact z
  refine ⟨r, h1, hm, fun i => ?_⟩
  rw [zb_low]
  constructor
  · rintro ⟨a, b⟩
    have := hm i a
    rcases Nat.lt_or_ge r i with z | z
    · exact absurd h1 (b r z)
    · omega
  · intro e1
    subst e1
    exact ⟨h1, h2⟩
theorem zw_lowest {post : Int32 → Prop} {on : Int64} {a1 : Nat → Int32} {f : Int64} {r : Nat} (hr : zb_t f r) (hm : ∀ j, zb_t f j → r ≤ j) (H : post (nI r)) : wpX_lowest post (on, a1) f := by
  refine zo_main (u := (on, a1)) ?_
  have e1 : zc_ct (zb_t ((f ^^^ (-1)) &&& (f - 1))) 64 = r := by
    rw [zc_congr (q := fun i => i < r) 64 (fun i hi => ?_), zc_below r (Nat.le_of_lt (zb_lt hr))]
    rw [zb_under f hi]
    constructor
    · intro h
      rcases Nat.lt_or_ge i r with z | z
      · exact z
      · exact absurd hr (h r z)
    · intro h j hj hf
      have := hm j hf
      omega
  rw [e1]
  exact H
/-- what is come to within a part that is closed -/
theorem zw_closed {e : Bool} {S R : Nat → Prop} (hRS : ∀ i, R i → S i) (hc : ∀ x y, R x → zn_c e S x y → R y) {r j : Nat} (hr : R r) : zn_c e R r j ↔ zn_c e S r j := by
  refine ⟨zn_cmono hRS, fun h => h (zn_c e R r) zn_c0 (fun x y hx hxy hy => ?_)⟩
  exact zn_cs hx hxy (hc x y (zn_in hr hx) (zn_c1 hxy hy))
/-- pieces -/
theorem zw_pieces {post : Int32 → Prop} {on : Int64} {a1 : Nat → Int32} {e : Bool} (H : post (nI (zn_C e (zb_t on)))) : wpX_pieces post (on, a1) (zw_m e) := by
  unfold wpX_pieces
  dsimp only
  refine zw_bad (br_t rfl ?_)
  refine lp3 (fun n a b c => wX_pieces_21 post (zw_m e) on a1 n a b c)
    (fun R n i => ∃ k : Nat, k ≤ 64 ∧ i = nI k ∧ n = nI k ∧ (∀ x, zb_t R x → zb_t on x) ∧ (∀ x y, zb_t R x → zn_c e (zb_t on) x y → zb_t R y) ∧ k + zc_ct (fun i => zb_t R i ∧ zn_t e (zb_t on) i) 64 = zn_C e (zb_t on))
    (fun _ _ i => 64 - i.toNatClampNeg) ?_ _ _ _
    ⟨0, by omega, rfl, rfl, fun _ h => h, fun _ _ hx h => zn_in hx h, by
      rw [Nat.zero_add]
      exact zc_congr 64 (fun i _ => ⟨fun h => h.2, fun h => ⟨h.1, h⟩⟩)⟩
  intro n R nn i hI hW
  obtain ⟨k, hk, rfl, rfl, h1, h2, h3⟩ := hI
  have hC := zn_C_le e (zb_t on)
  refine pk_le 64 k (fun z => ?_) (fun z => ?_)
  · have : k = zn_C e (zb_t on) := by omega
    rw [this]
    exact H
  · refine br_c (fun h0 => ?_) (fun h0 => ?_)
    · have : zc_ct (fun i => zb_t R i ∧ zn_t e (zb_t on) i) 64 = 0 := zc_zero 64 (fun i _ h => zb_0 i (h0 ▸ h.1))
      have : k = zn_C e (zb_t on) := by omega
      rw [this]
      exact H
    · obtain ⟨r, hr, hm, hl⟩ := zw_low h0
      refine zw_flood (fun F hF => nm_e (nm_r (nI_1 k) (nm_r (nI_1 k) ?_)))
      have hF' : ∀ j, zb_t F j ↔ zn_c e (zb_t on) r j := by
        intro j
        rw [hF j, ← zw_closed h1 h2 hr]
        constructor
        · rintro ⟨i, hi, _, hc⟩
          rw [hl i] at hi
          subst hi
          exact hc
        · intro h
          exact ⟨r, (hl r).mpr rfl, hr, h⟩
      have hn : ∀ j, zb_t (R &&& (F ^^^ (-1))) j ↔ zb_t R j ∧ ¬ zn_c e (zb_t on) r j := by
        intro j
        rw [zb_and]
        constructor
        · rintro ⟨a, b⟩
          exact ⟨a, fun z => (zb_not F (zb_lt a)).mp b ((hF' j).mpr z)⟩
        · rintro ⟨a, b⟩
          exact ⟨a, (zb_not F (zb_lt a)).mpr (fun z => b ((hF' j).mp z))⟩
      have tr : zn_t e (zb_t on) r := ⟨h1 r hr, fun j hj => hm j (h2 r j hr hj)⟩
      refine hW _ _ _ ⟨k + 1, by omega, rfl, rfl, fun x hx => h1 x ((hn x).mp hx).1, fun x y hx hc => ?_, ?_⟩ (by rw [nI_clamp (by omega), nI_clamp (by omega)]; omega)
      · obtain ⟨a, b⟩ := (hn x).mp hx
        exact (hn y).mpr ⟨h2 x y a hc, fun z => b (zn_cc z (zn_csym (h1 x a) hc))⟩
      · have := zc_del (p := fun i => zb_t R i ∧ zn_t e (zb_t on) i) (q := fun i => zb_t (R &&& (F ^^^ (-1))) i ∧ zn_t e (zb_t on) i) 64 r (zb_lt hr) ⟨hr, tr⟩ (fun i _ => by
          rw [hn i]
          constructor
          · rintro ⟨⟨a, b⟩, c⟩
            exact ⟨⟨a, c⟩, fun z => b (z ▸ zn_c0)⟩
          · rintro ⟨⟨a, c⟩, d⟩
            exact ⟨⟨a, fun z => d (zn_tu tr c z).symm⟩, c⟩)
        omega
end
section
/-! ===== the walks: cells, pieces, ways, squares ===== -/
theorem zw_badc {post : Int32 → Prop} {u : St1} {b : Nat} (hb : b < 64) (H : post 0) : wpX_badCell post u (nI b) := by
  obtain ⟨on, a1⟩ := u
  exact br_f (nI_pos (by omega)) (br_t (nI_lt (b := 64) hb (by decide)) H)
theorem zw_off {post : Int32 → Prop} {on : Int64} {a1 : Nat → Int32} {b : Nat} (hb : b < 64) (h1 : ¬ zb_t on b → post 1) (h0 : zb_t on b → post 0) : wpX_isOff post (on, a1) (nI b) := by
  unfold wpX_isOff
  dsimp only
  refine zw_badc hb (br_t rfl ?_)
  exact br_c (fun z => h1 ((zb_bit0 on b hb).mp z)) (fun z => h0 (Classical.byContradiction (fun y => z ((zb_bit0 on b hb).mpr y))))
noncomputable def zw_pv (e : Bool) (S : Nat → Prop) (b : Nat) : Int32 := @ite Int32 (S b) (Classical.propDecidable _) (nI (zc_lst (zn_c e S b))) (-4)
noncomputable def zw_sv (e : Bool) (S : Nat → Prop) (b : Nat) : Int32 := @ite Int32 (S b) (Classical.propDecidable _) (nI (zc_ct (zn_c e S b) 64)) (-4)
noncomputable def zw_wv (e : Bool) (S : Nat → Prop) (a b : Nat) : Int32 := @ite Int32 (S a ∧ S b ∧ zn_c e S a b) (Classical.propDecidable _) (nI (zc_lst (fun n => zn_b e S a n b))) (-4)
/-- the flood of one cell that is on -/
theorem zw_flood1 {post : Int64 → Prop} {on : Int64} {a1 : Nat → Int32} {e : Bool} {b : Nat} (hb : zb_t on b) (H : ∀ F, (∀ j, zb_t F j ↔ zn_c e (zb_t on) b j) → post F) : wpX_flooded post (on, a1) ((1 : Int64) <<< ((nI b).toInt64 &&& 63)) on (zw_m e) := by
  refine zw_flood (fun F hF => H F (fun j => ?_))
  rw [hF j]
  constructor
  · rintro ⟨i, hi, _, hc⟩
    rw [zb_one b (zb_lt hb)] at hi
    exact hi ▸ hc
  · intro h
    exact ⟨b, (zb_one b (zb_lt hb) b).mpr rfl, hb, h⟩
theorem zw_piece {post : Int32 → Prop} {on : Int64} {a1 : Nat → Int32} {e : Bool} {b : Nat} (hb : b < 64) (H : post (zw_pv e (zb_t on) b)) : wpX_piece post (on, a1) (zw_m e) (nI b) := by
  unfold wpX_piece
  dsimp only
  refine zw_bad (br_t rfl (zw_off hb (fun h => br_f (by decide) ?_) (fun h => br_t rfl ?_)))
  · unfold zw_pv at H
    rw [if_neg h] at H
    exact H
  · unfold zw_pv at H
    rw [if_pos h] at H
    refine zw_flood1 h (fun F hF => ?_)
    obtain ⟨l1, l2⟩ := zc_lst_s (P := zn_c e (zb_t on) b) ⟨b, zn_c0⟩
    refine zw_lowest ((hF _).mpr l1) (fun j hj => ?_) H
    rcases Nat.lt_or_ge j (zc_lst (zn_c e (zb_t on) b)) with z | z
    · exact absurd ((hF j).mp hj) (l2 j z)
    · exact z
theorem zw_size {post : Int32 → Prop} {on : Int64} {a1 : Nat → Int32} {e : Bool} {b : Nat} (hb : b < 64) (H : post (zw_sv e (zb_t on) b)) : wpX_size post (on, a1) (zw_m e) (nI b) := by
  unfold wpX_size
  dsimp only
  refine zw_bad (br_t rfl (zw_off hb (fun h => br_f (by decide) ?_) (fun h => br_t rfl ?_)))
  · unfold zw_sv at H
    rw [if_neg h] at H
    exact H
  · unfold zw_sv at H
    rw [if_pos h] at H
    refine zw_flood1 h (fun F hF => zo_main ?_)
    rw [zc_congr 64 (fun i _ => hF i)]
    exact H
theorem zw_way {post : Int32 → Prop} {on : Int64} {a1 : Nat → Int32} {e : Bool} {a b : Nat} (ha : a < 64) (hb : b < 64) (H : post (zw_wv e (zb_t on) a b)) : wpX_way post (on, a1) (zw_m e) (nI a) (nI b) := by
  unfold wpX_way
  dsimp only
  have no : ¬ (zb_t on a ∧ zb_t on b ∧ zn_c e (zb_t on) a b) → post (-4) := by
    intro h
    unfold zw_wv at H
    rw [if_neg h] at H
    exact H
  refine zw_bad (br_t rfl (zw_off ha (fun h => br_f (by decide) (no (fun z => h z.1))) (fun hA => br_t rfl (zw_off hb (fun h => br_f (by decide) (no (fun z => h z.2.1))) (fun hB => br_t rfl (nm_e ?_))))))
  refine lp2 (fun n x y => wX_way_37 post (zw_m e) (nI b) on a1 n x y)
    (fun F i => ∃ k : Nat, k ≤ 64 ∧ i = nI k ∧ (∀ j, zb_t F j ↔ zn_b e (zb_t on) a k j) ∧ ∀ k', k' < k → ¬ zn_b e (zb_t on) a k' b)
    (fun _ i => 64 - i.toNatClampNeg) ?_ _ _
    ⟨0, by omega, rfl, fun j => zb_one a ha j, fun k' hk' => absurd hk' (by omega)⟩
  intro n F i hI hW
  obtain ⟨k, hk, rfl, h1, h2⟩ := hI
  refine pk_le 64 k (fun z => ?_) (fun z => ?_)
  · exact no (fun y => h2 63 (by omega) (zn_b_all hA (fun _ => zb_lt) y.2.2))
  · refine ek_if (zb_bit1 F b hb) (fun y => ?_) (fun y => ?_)
    · have y' := (h1 b).mp y
      have e1 : zc_lst (fun n => zn_b e (zb_t on) a n b) = k := zc_lst_e y' (fun j hj => by
        rcases Nat.lt_or_ge j k with t | t
        · exact absurd hj (h2 j t)
        · exact t)
      unfold zw_wv at H
      rw [if_pos ⟨hA, hB, zn_b_c k b y'⟩, e1] at H
      exact H
    · refine zw_grown (fun g hg => nm_e (nm_r (nI_1 k) (hW _ _ ⟨k + 1, by omega, rfl, fun j => ?_, fun k' hk' => ?_⟩ (by rw [nI_clamp (by omega), nI_clamp (by omega)]; omega))))
      · rw [zb_and]
        constructor
        · rintro ⟨p, q⟩
          obtain ⟨x, hx, hr⟩ := (hg j (zb_lt p)).mp p
          exact ⟨q, x, (h1 x).mp hx, hr⟩
        · rintro ⟨q, x, hx, hr⟩
          exact ⟨(hg j (zb_lt q)).mpr ⟨x, (h1 x).mpr hx, hr⟩, q⟩
      · rcases Nat.lt_or_ge k' k with t | t
        · exact h2 k' t
        · have : k' = k := by omega
          subst this
          exact fun z => y ((h1 b).mpr z)
/-! ===== squares ===== -/
theorem zw_lt0 : ¬ (nI 0 + (-1) < (0 : Int32)) → False := by decide
theorem zw_cell {post : Int32 → Prop} {on : Int64} {a1 : Nat → Int32} {j k : Nat} (hj : j ≤ 9) (hk : k ≤ 9) (H : post (Int32.ofInt (zq_g (zb_t on) j k))) : wpX_cellAt post (on, a1) (nI j + (-1)) (nI k + (-1)) := by
  have z0 : zq_g (zb_t on) j k = 0 → post 0 := fun h => by
    rw [h] at H
    exact H
  unfold wpX_cellAt
  dsimp only
  rcases (show j = 0 ∨ j = 9 ∨ ∃ t, j = t + 1 ∧ t < 8 by
    rcases j with _ | t
    · exact Or.inl rfl
    · rcases Nat.lt_or_ge t 8 with z | z
      · exact Or.inr (Or.inr ⟨t, rfl, z⟩)
      · exact Or.inr (Or.inl (by omega))) with e1 | e1 | ⟨t, e1, ht⟩
  · subst e1
    exact br_t (by decide) (z0 (zq_j0 _ _))
  · subst e1
    exact br_f (by decide) (br_t (by decide) (z0 (zq_j9 _ _)))
  · subst e1
    rw [pk_m1]
    refine br_f (nI_pos (by omega)) (br_f (nI_ge (b := 8) ht (by decide)) ?_)
    rcases (show k = 0 ∨ k = 9 ∨ ∃ s, k = s + 1 ∧ s < 8 by
      rcases k with _ | s
      · exact Or.inl rfl
      · rcases Nat.lt_or_ge s 8 with z | z
        · exact Or.inr (Or.inr ⟨s, rfl, z⟩)
        · exact Or.inr (Or.inl (by omega))) with e2 | e2 | ⟨s, e2, hs⟩
    · subst e2
      exact br_t (by decide) (z0 (zq_k0 _ _))
    · subst e2
      exact br_f (by decide) (br_f (by decide) (z0 (zq_k9 _ _)))
    · subst e2
      rw [pk_m1]
      refine br_f (nI_pos (by omega)) (br_t (nI_lt (b := 8) hs (by decide)) ?_)
      have ex : (8 : Int32) * nI s + nI t = nI (8 * s + t) := by
        rw [show (8 : Int32) = nI 8 from rfl, pk_mul, nI_add]
      rw [ex]
      have hg : zq_g (zb_t on) (t + 1) (s + 1) = ze_i (zb_t on (8 * s + t)) := ze_c ⟨fun h => h.2.2.2.2, fun h => ⟨by omega, by omega, by omega, by omega, h⟩⟩
      rw [hg] at H
      rcases zb_bit on (8 * s + t) (by omega) with ⟨h1, h2⟩ | ⟨h1, h2⟩
      · rw [h1]
        rw [ze_f h2] at H
        exact H
      · rw [h1]
        rw [ze_t h2] at H
        exact H
theorem zw_qb {e : Bool} {K : Int32 → Prop} {x2 : Int32} {a b c d : Int} (ha : a = 0 ∨ a = 1) (hb : b = 0 ∨ b = 1) (hc : c = 0 ∨ c = 1) (hd : d = 0 ∨ d = 1) (H : K (x2 + Int32.ofInt (zq_Q e a b c d))) :
    ∀ x9 : Int32, x9 = ((Int32.ofInt a + Int32.ofInt b) + Int32.ofInt c) + Int32.ofInt d → ((x9 = 1 → (∀ y : Int32, y = x2 + 1 → K y)) ∧ (¬ x9 = 1 → ((x9 = 3 → (∀ y : Int32, y = x2 + (-1) → K y)) ∧ (¬ x9 = 3 → ((x9 = 2 → ((Int32.ofInt a = Int32.ofInt d → ((zw_m e = 4 → (∀ y : Int32, y = x2 + 2 → K y)) ∧ (¬ zw_m e = 4 → (∀ y : Int32, y = x2 - 2 → K y)))) ∧ (¬ Int32.ofInt a = Int32.ofInt d → K x2))) ∧ (¬ x9 = 2 → K x2)))))) := by
  have same : zq_Q e a b c d = 0 → K x2 := fun h => by
    rw [h] at H
    have e0 : x2 + Int32.ofInt 0 = x2 := by
      show x2 + 0 = x2
      exact Int32.add_zero x2
    rw [e0] at H
    exact H
  have add : ∀ v : Int, zq_Q e a b c d = v → K (x2 + Int32.ofInt v) := fun v h => h ▸ H
  have m1 : zq_Q e a b c d = -1 → K (x2 + (-1)) := fun h => by
    rw [h, show Int32.ofInt (-1) = -1 by decide] at H
    exact H
  have sub : zq_Q e a b c d = -2 → K (x2 - 2) := fun h => by
    rw [h] at H
    have e0 : x2 + Int32.ofInt (-2) = x2 - 2 := by
      rw [Int32.sub_eq_add_neg]
      rfl
    rw [e0] at H
    exact H
  clear H
  rcases ha with rfl | rfl <;> rcases hb with rfl | rfl <;> rcases hc with rfl | rfl <;> rcases hd with rfl | rfl <;> cases e <;> refine nm_e ?_ <;> first
    | exact br_t (by decide) (nm_e (add 1 (by decide)))
    | exact br_f (by decide) (br_t (by decide) (nm_e (m1 (by decide))))
    | exact br_f (by decide) (br_f (by decide) (br_t (by decide) (br_t (by decide) (br_t (by decide) (nm_e (add 2 (by decide)))))))
    | exact br_f (by decide) (br_f (by decide) (br_t (by decide) (br_t (by decide) (br_f (by decide) (nm_e (sub (by decide)))))))
    | exact br_f (by decide) (br_f (by decide) (br_t (by decide) (br_f (by decide) (same (by decide)))))
    | exact br_f (by decide) (br_f (by decide) (br_f (by decide) (same (by decide))))
theorem zw_up (j : Nat) : nI j + (-1) + 1 = nI (j + 1) + (-1) := by
  rw [pk_m1, Int32.add_assoc]
  exact Int32.add_zero _
theorem zw_lt9 : ∀ j, j < 9 → ¬ (8 : Int32) ≤ nI j + (-1) := by decide +kernel
/-- one row of squares -/
theorem zw_row {post : Int32 → Prop} {J : Int32 → Int32 → Prop} {on : Int64} {a1 : Nat → Int32} {e : Bool} {k : Nat} (hk : k < 9) {s0 : Int} (H : J (Int32.ofInt (s0 + ze_s (fun j => zq_q e (zb_t on) j k) 9)) (nI (k + 1) + (-1))) : ∃ n, wX_quads_13 post J (zw_m e) (nI k + (-1)) on a1 n (Int32.ofInt s0) (-1) := by
  refine loop_0 (fun n i s => wX_quads_13 post J (zw_m e) (nI k + (-1)) on a1 n s (nI i + (-1))) (fun i s => s = Int32.ofInt (s0 + ze_s (fun j => zq_q e (zb_t on) j k) i)) 9 (Int32.ofInt s0) ?_ ?_ ?_
  · show Int32.ofInt s0 = Int32.ofInt (s0 + 0)
    rw [Int.add_zero]
  · intro n s hs
    subst hs
    exact br_t (by decide) (nm_r (zw_up k) H)
  · intro n i s hi hs hw
    subst hs
    refine br_f (zw_lt9 i hi) ?_
    rw [zw_up i, zw_up k]
    refine zw_cell (by omega) (by omega) (zw_cell (by omega) (by omega) (zw_cell (by omega) (by omega) (zw_cell (by omega) (by omega) ?_)))
    refine zw_qb (K := fun y => ∀ x4' : Int32, x4' = nI (i + 1) + (-1) → wX_quads_13 post J (zw_m e) (nI k + (-1)) on a1 n y x4') (zq_01 _ _ _) (zq_01 _ _ _) (zq_01 _ _ _) (zq_01 _ _ _) (nm_e (hw _ ?_))
    rw [← Int32.ofInt_add]
    refine congrArg Int32.ofInt ?_
    show s0 + ze_s (fun j => zq_q e (zb_t on) j k) i + zq_q e (zb_t on) i k = s0 + (ze_s (fun j => zq_q e (zb_t on) j k) i + zq_q e (zb_t on) i k)
    omega
theorem zw_quads {post : Int32 → Prop} {on : Int64} {a1 : Nat → Int32} {e : Bool} (H : post (Int32.ofInt (zq_T e (zb_t on)))) : wpX_quads post (on, a1) (zw_m e) := by
  refine loop_0 (fun n i s => wX_quads_4 post (zw_m e) on a1 n s (nI i + (-1))) (fun i s => s = Int32.ofInt (ze_s (fun k => ze_s (fun j => zq_q e (zb_t on) j k) 9) i)) 9 0 rfl ?_ ?_
  · intro n s hs
    subst hs
    exact br_t (by decide) H
  · intro n i s hi hs hw
    subst hs
    exact br_f (zw_lt9 i hi) (zw_row hi (hw _ rfl))
theorem zw_holes {post : Int32 → Prop} {on : Int64} {a1 : Nat → Int32} {e : Bool} (H : post (nI (zn_C e (zb_t on)) - Int32.ofInt (zq_T e (zb_t on)) / 4)) : wpX_holes post (on, a1) (zw_m e) := by
  unfold wpX_holes
  dsimp only
  exact zw_bad (br_t rfl (zw_pieces (zw_quads ⟨by decide, H⟩)))
theorem zw_balance {post : Int32 → Prop} {on : Int64} {a1 : Nat → Int32} {e : Bool} (H : post (Int32.ofInt (zq_T e (zb_t on)) / 4)) : wpX_balance post (on, a1) (zw_m e) := by
  unfold wpX_balance
  dsimp only
  exact zw_bad (br_t rfl (zw_quads ⟨by decide, H⟩))
/-- fill -/
theorem zw_neg (x : Int64) : zb_t (x ^^^ (-1)) = fun i => i < 64 ∧ ¬ zb_t x i := by
  funext i
  refine propext ⟨fun h => ⟨zb_lt h, (zb_not x (zb_lt h)).mp h⟩, fun h => (zb_not x h.1).mpr h.2⟩
/-- what is off and comes to the border -/
def zw_out (e : Bool) (S : Nat → Prop) (j : Nat) : Prop := ∃ i, zj_bd i ∧ i < 64 ∧ ¬ S i ∧ zn_c (!e) (fun i => i < 64 ∧ ¬ S i) i j
theorem zw_fill {post : Int32 → St1 → Prop} {on : Int64} {a1 : Nat → Int32} {e : Bool} (H : ∀ now, (∀ j, j < 64 → (zb_t now j ↔ ¬ zw_out e (zb_t on) j)) → post (nI (zc_ct (zb_t (on ^^^ now)) 64)) (now, a1)) : wpX_fill post (on, a1) (zw_m e) := by
  unfold wpX_fill
  dsimp only
  refine zw_bad (br_t rfl ?_)
  have e1 : (12 : Int32) - zw_m e = zw_m (!e) := by cases e <;> decide
  rw [e1]
  refine zw_flood (fun F hF => zw_change (H _ (fun j hj => ?_)))
  rw [zb_not F hj, hF j, zw_neg on]
  refine not_congr ⟨?_, ?_⟩
  · rintro ⟨i, h1, h2, h3⟩
    exact ⟨i, (zw_cb i h2.1).mp h1, h2.1, h2.2, h3⟩
  · rintro ⟨i, h1, h2, h3, h4⟩
    exact ⟨i, (zw_cb i h2).mpr h1, ⟨h2, h3⟩, h4⟩
end
section
/-! ===== the walks: sweep and depth ===== -/
def zs_at (c : Nat) : Nat := 10 * (c / 8) + c % 8 + 11
theorem zs_ix {c : Nat} (hc : c < 64) : ((10 * (nI c >>> ((3 : Int32) &&& 31))) + (nI c &&& 7)) + 11 = nI (zs_at c) := by
  rw [pk_shrN (by omega) ((3 : Int32) &&& 31) 3 (by decide), pk_andN (by omega) 3 (by decide), show (10 : Int32) = nI 10 from rfl, show (11 : Int32) = nI 11 from rfl, pk_mul, nI_add, nI_add]
  rfl
theorem zs_lt {c : Nat} (hc : c < 64) : zs_at c + 10 < 100 ∧ 11 ≤ zs_at c := by
  unfold zs_at
  omega
theorem zs_ne {c d : Nat} (hc : c < 64) (hd : d < 64) (h : c ≠ d) : zs_at c ≠ zs_at d := by
  unfold zs_at
  omega
def zs_v (x : Int32) : Prop := ∃ v : Nat, v ≤ 65 ∧ x = nI v
theorem zs_least {post : Int32 → Prop} {u : St1} {x y : Int32} (hx : zs_v x) (hy : zs_v y) (H : ∀ w, w ≤ 64 → post (nI w)) : wpX_least post u x y 64 := by
  obtain ⟨on, a1⟩ := u
  obtain ⟨a, ha, rfl⟩ := hx
  obtain ⟨b, hb, rfl⟩ := hy
  have l10 : ∀ c, c ≤ 65 → wX_least_10 post 64 (nI c) on a1 := fun c hc => pk_le 64 c (fun _ => H 64 (by omega)) (fun z => H c (by omega))
  exact br_c (fun _ => l10 b hb) (fun _ => l10 a ha)
theorem zs_1 (w : Nat) : (1 : Int32) + nI w = nI (w + 1) := by
  rw [Int32.add_comm, nI_1]
theorem zs_nz {w : Nat} (h : w ≤ 65) (h0 : 0 < w) : ¬ nI w = 0 := nI_ne0 h0 (by omega)
/-- the way back -/
theorem zs_back {post : St1 → Prop} {on : Int64} (H : ∀ a, (∀ c, c < 64 → (a (zs_at c) = 0 ↔ ¬ zb_t on c)) → (∀ j, j < 100 → zs_v (a j)) → post (on, a)) {a : Nat → Int32} (h1 : ∀ c, c < 64 → (a (zs_at c) = 0 ↔ ¬ zb_t on c)) (h2 : ∀ j, j < 100 → zs_v (a j)) : ∃ n, wX_sweep_111 post on n 63 a := by
  refine ⟨64 + 1, ?_⟩
  refine pk_loopD (fun n i s => wX_sweep_111 post on n (nI i + (-1)) s) (fun i s => i ≤ 64 ∧ (∀ c, c < 64 → (s (zs_at c) = 0 ↔ ¬ zb_t on c)) ∧ (∀ j, j < 100 → zs_v (s j))) ?_ ?_ 64 a ⟨Nat.le_refl 64, h1, h2⟩
  · intro n s h
    exact br_t (by decide) (H s h.2.1 h.2.2)
  · intro n i s h hw
    obtain ⟨hi, h1, h2⟩ := h
    have hi' : i < 64 := by omega
    have hl := zs_lt hi'
    show wX_sweep_111 post on (n + 1) (nI (i + 1) + (-1)) s
    rw [pk_m1]
    refine br_f (nI_pos (by omega)) (nm_r (zs_ix hi') ?_)
    have e10 : nI (zs_at i) + 10 = nI (zs_at i + 10) := nI_add _ 10
    rw [nI_1, e10, nI_clamp (n := zs_at i + 1) (by omega), nI_clamp (n := zs_at i + 10) (by omega), nI_clamp (n := zs_at i) (by omega)]
    refine ⟨vp_in_nI (by omega) (by decide), vp_in_nI (by omega) (by decide), zs_least (h2 _ (by omega)) (h2 _ (by omega)) (fun w hw' => nm_r (zs_1 w) ⟨vp_in_nI (by omega) (by decide), br_c (fun _ => ⟨vp_in_nI (by omega) (by decide), vp_in_nI (by omega) (by decide), nm_e (nm_e (hw _ ⟨by omega, fun c hc => ?_, fun j hj => ?_⟩))⟩) (fun hg => ⟨vp_in_nI (by omega) (by decide), nm_e (nm_e (hw _ ⟨by omega, fun c hc => ?_, fun j hj => ?_⟩))⟩)⟩)⟩
    · by_cases ec : c = i
      · subst ec; rw [pk_us]; exact h1 c hc
      · rw [pk_un (zs_ne hc hi' ec)]; exact h1 c hc
    · by_cases ej : j = zs_at i
      · subst ej; rw [pk_us]; exact h2 _ hj
      · rw [pk_un ej]; exact h2 j hj
    · by_cases ec : c = i
      · subst ec
        rw [pk_us]
        have nz : ¬ s (zs_at c) = 0 := fun z => hg (by rw [z]; exact nI_le (a := 0) (by omega) (by omega))
        exact ⟨fun z => absurd z (zs_nz (by omega) (by omega)), fun z => absurd ((h1 c hc).mpr z) nz⟩
      · rw [pk_un (zs_ne hc hi' ec)]; exact h1 c hc
    · by_cases ej : j = zs_at i
      · subst ej; rw [pk_us]; exact ⟨w + 1, by omega, rfl⟩
      · rw [pk_un ej]; exact h2 j hj
/-- the way there -/
theorem zs_there {post : St1 → Prop} {on : Int64} (H : ∀ a, (∀ c, c < 64 → (a (zs_at c) = 0 ↔ ¬ zb_t on c)) → (∀ j, j < 100 → zs_v (a j)) → post (on, a)) {a : Nat → Int32} (h2 : ∀ j, j < 100 → zs_v (a j)) : ∃ n, wX_sweep_23 post on n 0 a := by
  refine pk_loop (fun n i s => wX_sweep_23 post on n (nI i) s) (fun i s => (∀ c, c < i → (s (zs_at c) = 0 ↔ ¬ zb_t on c)) ∧ (∀ j, j < 100 → zs_v (s j))) 64 0 a (by omega) ⟨fun c hc => absurd hc (by omega), h2⟩ ?_ ?_
  · intro n s h
    exact pk_le 64 64 (fun _ => zs_back H h.1 h.2) (fun z => absurd z (by omega))
  · intro n i s hi h hw
    obtain ⟨h1, h2⟩ := h
    have hl := zs_lt hi
    refine pk_le 64 i (fun z => absurd z (by omega)) (fun _ => nm_r (zs_ix hi) (ek_if (zb_bit1 on i hi) (fun hb => ?_) (fun hb => ?_)))
    · unfold wX_sweep_62
      have e1 : nI (zs_at i) - 1 = nI (zs_at i - 1) := pk_sub (b := 1) (by omega)
      have e10 : nI (zs_at i) - 10 = nI (zs_at i - 10) := pk_sub (b := 10) (by omega)
      rw [e1, e10, nI_clamp (n := zs_at i - 1) (by omega), nI_clamp (n := zs_at i - 10) (by omega), nI_clamp (n := zs_at i) (by omega)]
      refine br_f (by decide) ⟨vp_in_nI (by omega) (by decide), vp_in_nI (by omega) (by decide), zs_least (h2 _ (by omega)) (h2 _ (by omega)) (fun w hw' => ⟨vp_in_nI (by omega) (by decide), nm_e (nm_r (nI_1 i) (hw _ ⟨fun c hc => ?_, fun j hj => ?_⟩))⟩)⟩
      · by_cases ec : c = i
        · subst ec
          rw [pk_us, zs_1]
          exact ⟨fun z => absurd z (zs_nz (by omega) (by omega)), fun z => absurd hb z⟩
        · rw [pk_un (zs_ne (by omega) hi ec)]; exact h1 c (by omega)
      · by_cases ej : j = zs_at i
        · subst ej; rw [pk_us, zs_1]; exact ⟨w + 1, by omega, rfl⟩
        · rw [pk_un ej]; exact h2 j hj
    · unfold wX_sweep_62
      rw [nI_clamp (n := zs_at i) (by omega)]
      refine br_t rfl ⟨vp_in_nI (by omega) (by decide), nm_e (nm_r (nI_1 i) (hw _ ⟨fun c hc => ?_, fun j hj => ?_⟩))⟩
      · by_cases ec : c = i
        · subst ec
          rw [pk_us]
          exact ⟨fun _ => hb, fun _ => rfl⟩
        · rw [pk_un (zs_ne (by omega) hi ec)]; exact h1 c (by omega)
      · by_cases ej : j = zs_at i
        · subst ej; rw [pk_us]; exact ⟨0, by omega, rfl⟩
        · rw [pk_un ej]; exact h2 j hj
theorem zs_sweep {post : St1 → Prop} {on : Int64} {a1 : Nat → Int32} (H : ∀ a, (∀ c, c < 64 → (a (zs_at c) = 0 ↔ ¬ zb_t on c)) → (∀ j, j < 100 → zs_v (a j)) → post (on, a)) : wpX_sweep post (on, a1) := by
  refine pk_loop (fun n i s => wX_sweep_2 post on n (nI i) s) (fun i s => ∀ j, j < i → zs_v (s j)) 100 0 a1 (by omega) (fun j hj => absurd hj (by omega)) ?_ ?_
  · intro n s h
    exact pk_le 100 100 (fun _ => zs_there H h) (fun z => absurd z (by omega))
  · intro n i s hi h hw
    refine pk_le 100 i (fun z => absurd z (by omega)) (fun _ => ⟨pk_in i 100 hi, nm_e (nm_r (nI_1 i) (hw _ (fun j hj => ?_)))⟩)
    rw [nI_clamp (by omega)]
    by_cases ej : j = i
    · subst ej; rw [pk_us]; exact ⟨0, by omega, rfl⟩
    · rw [pk_un ej]; exact h j (by omega)
theorem zs_depth {post : Int32 → St1 → Prop} {on : Int64} {a1 : Nat → Int32} {b : Nat} (hb : b < 64) (H : ∀ r a, (r = 0 ↔ ¬ zb_t on b) → post r (on, a)) : wpX_depth post (on, a1) (nI b) := by
  unfold wpX_depth
  dsimp only
  have hl := zs_lt hb
  rw [zs_ix hb, nI_clamp (n := zs_at b) (by omega)]
  exact zw_badc hb (br_t rfl (zs_sweep (fun a h1 _ => ⟨vp_in_nI (by omega) (by decide), H _ a (h1 b hb)⟩)))
end
section
/-! ===== the walks: a turn of the script ends ===== -/
theorem zt_badc {post : Int32 → Prop} {u : St1} {p : Int32} (h1 : post 1) (h0 : ∀ c : Nat, c < 64 → p = nI c → post 0) : wpX_badCell post u p := by
  obtain ⟨on, a1⟩ := u
  rcases pk_ix p (n := 64) (by decide) with h | h | ⟨c, hc, rfl⟩
  · exact br_t h h1
  · refine br_c (fun _ => h1) (fun _ => br_c (fun z => ?_) (fun _ => h1))
    exact absurd (Int32.lt_of_lt_of_le z h) Int32.lt_irrefl
  · exact zw_badc hc (h0 c hc rfl)
theorem zt_mode (x : Int32) : ∃ e : Bool, (4 : Int32) + 4 * (x &&& 1) = zw_m e := by
  obtain ⟨j, hj, h⟩ := pk_andE x (m := 1) 1 (by decide)
  rw [h]
  rcases (show j = 0 ∨ j = 1 by omega) with z | z
  · subst z; exact ⟨false, by decide⟩
  · subst z; exact ⟨true, by decide⟩
theorem zt_turn {post : Int32 → St1 → Prop} {on : Int64} {a1 : Nat → Int32} {p : Int32} (H : ∀ r w, post r (w, a1)) : wpX_turn post (on, a1) p := by
  unfold wpX_turn
  dsimp only
  exact zt_badc (br_f (by decide) (H _ _)) (fun _ _ _ => br_t rfl (nm_e (H _ _)))
theorem zt_line {post : Int32 → St1 → Prop} {on : Int64} {a1 : Nat → Int32} {p q : Int32} (H : ∀ r w, post r (w, a1)) : wpX_line post (on, a1) p q :=
  br_c (fun _ => H _ _) (fun _ => br_c (fun _ => H _ _) (fun _ => br_c (fun _ => H _ _) (fun _ => br_c (fun _ => nm_e (nm_e (nm_e (H _ _)))) (fun _ => H _ _))))
theorem zt_change {post : Int32 → St1 → Prop} {on : Int64} {a1 : Nat → Int32} {now : Int64} (H : ∀ r w, post r (w, a1)) : wpX_change post (on, a1) now := zw_change (H _ _)
theorem zt_box {post : Int32 → St1 → Prop} {on : Int64} {a1 : Nat → Int32} {p q v : Int32} (H : ∀ r w, post r (w, a1)) : wpX_box post (on, a1) p q v := by
  unfold wpX_box
  dsimp only
  refine zt_badc (br_f (by decide) (H _ _)) (fun c hc hp => br_t rfl (zt_badc (br_f (by decide) (H _ _)) (fun d hd hq => br_t rfl ?_)))
  refine br_c (fun _ => H _ _) (fun _ => br_c (fun _ => nm_e (nm_e (br_c (fun _ => H _ _) (fun _ => br_c (fun _ => nm_e (nm_e ?_)) (fun _ => H _ _))))) (fun _ => H _ _))
  subst hp hq
  have ec : nI c >>> ((3 : Int32) &&& 31) = nI (c / 8) := pk_shrN (by omega) ((3 : Int32) &&& 31) 3 (by decide)
  have ed : nI d >>> ((3 : Int32) &&& 31) = nI (d / 8) := pk_shrN (by omega) ((3 : Int32) &&& 31) 3 (by decide)
  rw [ec]
  refine lp2 (fun n x y => wX_box_78 post (nI d) v _ on a1 n x y) (fun _ y => ∃ k : Nat, k ≤ 8 ∧ y = nI k) (fun _ y => 64 - y.toNatClampNeg) ?_ _ _ ⟨c / 8, by omega, rfl⟩
  intro n x y hI hW
  obtain ⟨k, hk, rfl⟩ := hI
  show wX_box_78 post (nI d) v _ on a1 (n + 1) x (nI k)
  unfold wX_box_78
  rw [ed]
  refine pk_lt (d / 8) k (fun z => ?_) (fun z => ?_)
  · exact br_c (fun _ => zw_change (H _ _)) (fun _ => zw_change (H _ _))
  · exact nm_e (nm_r (nI_1 k) (hW _ _ ⟨k + 1, by omega, rfl⟩ (by rw [nI_clamp (by omega), nI_clamp (by omega)]; omega)))
theorem zt_grow {post : Int32 → St1 → Prop} {on : Int64} {a1 : Nat → Int32} {e : Bool} (H : ∀ r w, post r (w, a1)) : wpX_grow post (on, a1) (zw_m e) := by
  unfold wpX_grow
  dsimp only
  exact zw_bad (br_t rfl (zw_grown (fun g _ => zw_change (H _ _))))
theorem zt_shrink {post : Int32 → St1 → Prop} {on : Int64} {a1 : Nat → Int32} {e : Bool} (H : ∀ r w, post r (w, a1)) : wpX_shrink post (on, a1) (zw_m e) := by
  unfold wpX_shrink
  dsimp only
  exact zw_bad (br_t rfl (zw_grown (fun g _ => zw_change (H _ _))))
theorem zt_clear {post : Int32 → St1 → Prop} {on : Int64} {a1 : Nat → Int32} {e : Bool} {q : Int32} (H : ∀ r w, post r (w, a1)) : wpX_clear post (on, a1) (zw_m e) q := by
  unfold wpX_clear
  dsimp only
  refine zw_bad (br_t rfl (br_c (fun _ => H _ _) (fun _ => br_c (fun _ => ?_) (fun _ => H _ _))))
  have fin : ∀ x, wX_clear_93 post x on a1 := fun x => zw_change (H _ _)
  refine lp3 (fun n x y z => wX_clear_31 post (zw_m e) q on a1 n x y z) (fun _ _ z => ∃ k : Nat, k ≤ 64 ∧ z = nI k) (fun _ _ z => 64 - z.toNatClampNeg) ?_ _ _ _ ⟨0, by omega, rfl⟩
  intro n x y z hI hW
  obtain ⟨k, hk, rfl⟩ := hI
  refine pk_le 64 k (fun _ => fin y) (fun g => br_c (fun _ => fin y) (fun _ => zw_flood (fun F _ => nm_e (zo_main ?_))))
  have hmu : 64 - (nI (k + 1)).toNatClampNeg < 64 - (nI k).toNatClampNeg := by
    rw [nI_clamp (by omega), nI_clamp (by omega)]; omega
  exact br_c (fun _ => nm_r (nI_1 k) (hW _ _ _ ⟨k + 1, by omega, rfl⟩ hmu)) (fun _ => nm_e (nm_r (nI_1 k) (hW _ _ _ ⟨k + 1, by omega, rfl⟩ hmu)))
theorem zt_main {post : Int32 → St1 → Prop} {on : Int64} {a1 : Nat → Int32} {p q : Int32} (H : ∀ r w, post r (w, a1)) : wpL_turn post (on, a1) p q := by
  unfold wpL_turn
  dsimp only
  obtain ⟨e, he⟩ := zt_mode q
  refine nm_e (nm_r he ?_)
  refine br_c (fun _ => br_c (fun _ => br_c (fun _ => br_c (fun _ => br_c (fun _ => br_c (fun _ => ?_) (fun _ => ?_)) (fun _ => ?_)) (fun _ => ?_)) (fun _ => nm_e (nm_e ?_))) (fun _ => ?_)) (fun _ => ?_)
  · exact zt_clear (fun r w => H r w)
  · exact zw_fill (fun now _ => H _ _)
  · exact zt_shrink (fun r w => H r w)
  · exact zt_grow (fun r w => H r w)
  · exact zt_box (fun r w => H r w)
  · exact zt_line (fun r w => H r w)
  · exact zt_turn (fun r w => H r w)
end
section
/-! ===== what the law says of two cells ===== -/
theorem zf_m4 {n : Nat} (h : n < 100) : ¬ nI n = -4 := by
  intro z
  have h1 := nI_pos (n := n) (by omega)
  rw [z] at h1
  exact h1 (by decide)
theorem zf_lst {e : Bool} {S : Nat → Prop} (hS : ∀ i, S i → i < 64) {b : Nat} (hb : S b) : zc_lst (zn_c e S b) < 64 ∧ zn_c e S b (zc_lst (zn_c e S b)) := by
  have h := (zc_lst_s (P := zn_c e S b) ⟨b, zn_c0⟩).1
  exact ⟨hS _ (zn_in hb h), h⟩
theorem zf_pv1 {e : Bool} {S : Nat → Prop} {b : Nat} (hb : S b) : zw_pv e S b = nI (zc_lst (zn_c e S b)) := by
  unfold zw_pv
  rw [if_pos hb]
theorem zf_pv0 {e : Bool} {S : Nat → Prop} {b : Nat} (hb : ¬ S b) : zw_pv e S b = -4 := by
  unfold zw_pv
  rw [if_neg hb]
theorem zf_off {e : Bool} {S : Nat → Prop} (hS : ∀ i, S i → i < 64) (b : Nat) : zw_pv e S b = -4 ↔ ¬ S b := by
  by_cases hb : S b
  · rw [zf_pv1 hb]
    exact ⟨fun z => absurd z (zf_m4 (by have := (zf_lst (e := e) hS hb).1; omega)), fun z => absurd hb z⟩
  · exact ⟨fun _ => hb, fun _ => zf_pv0 hb⟩
theorem zf_ceq {e : Bool} {S : Nat → Prop} {a b : Nat} (ha : S a) (h : zn_c e S a b) : zn_c e S a = zn_c e S b := by
  funext j
  exact propext ⟨fun z => zn_cc (zn_csym ha h) z, fun z => zn_cc h z⟩
theorem zf_root {e : Bool} {S : Nat → Prop} (hS : ∀ i, S i → i < 64) {b : Nat} (hb : b < 64) : zw_pv e S b = nI b ↔ zn_t e S b := by
  constructor
  · intro h
    have hSb : S b := Classical.byContradiction (fun z => zf_m4 (n := b) (by omega) (by rw [← h, zf_pv0 z]))
    rw [zf_pv1 hSb] at h
    have hl := zf_lst (e := e) hS hSb
    have e1 := (nI_eq (by omega) (by omega)).mp h
    refine ⟨hSb, fun j hj => ?_⟩
    have h2 := (zc_lst_s (P := zn_c e S b) ⟨b, zn_c0⟩).2
    rw [e1] at h2
    rcases Nat.lt_or_ge j b with z | z
    · exact absurd hj (h2 j z)
    · exact z
  · intro h
    rw [zf_pv1 h.1, zc_lst_e (k := b) zn_c0 h.2]
theorem zf_wlst {e : Bool} {S : Nat → Prop} (hS : ∀ i, S i → i < 64) {a b : Nat} (ha : S a) (h : zn_c e S a b) : zn_b e S a (zc_lst (fun n => zn_b e S a n b)) b ∧ zc_lst (fun n => zn_b e S a n b) < 64 := by
  obtain ⟨h1, h2⟩ := zc_lst_s (P := fun n => zn_b e S a n b) ⟨63, zn_b_all ha hS h⟩
  refine ⟨h1, ?_⟩
  rcases Nat.lt_or_ge 63 (zc_lst (fun n => zn_b e S a n b)) with z | z
  · exact absurd (zn_b_all ha hS h) (h2 63 z)
  · omega
theorem zf_wv1 {e : Bool} {S : Nat → Prop} {a b : Nat} (h : S a ∧ S b ∧ zn_c e S a b) : zw_wv e S a b = nI (zc_lst (fun n => zn_b e S a n b)) := by
  unfold zw_wv
  rw [if_pos h]
theorem zf_wv0 {e : Bool} {S : Nat → Prop} {a b : Nat} (h : ¬ (S a ∧ S b ∧ zn_c e S a b)) : zw_wv e S a b = -4 := by
  unfold zw_wv
  rw [if_neg h]
theorem zf_wsym {e : Bool} {S : Nat → Prop} (a b : Nat) : zw_wv e S a b = zw_wv e S b a := by
  by_cases h : S a ∧ S b ∧ zn_c e S a b
  · rw [zf_wv1 h, zf_wv1 ⟨h.2.1, h.1, zn_csym h.1 h.2.2⟩]
    have e1 : (fun n => zn_b e S a n b) = fun n => zn_b e S b n a := by
      funext n
      exact propext ⟨zn_b_sym h.1 n b, zn_b_sym h.2.1 n a⟩
    rw [e1]
  · rw [zf_wv0 h, zf_wv0 (fun z => h ⟨z.2.1, z.1, zn_csym z.1 z.2.2⟩)]
theorem zf_w0 {e : Bool} {S : Nat → Prop} (hS : ∀ i, S i → i < 64) (a b : Nat) : zw_wv e S a b = 0 ↔ a = b ∧ S b := by
  by_cases h : S a ∧ S b ∧ zn_c e S a b
  · rw [zf_wv1 h]
    obtain ⟨h1, h2⟩ := zf_wlst hS h.1 h.2.2
    constructor
    · intro z
      rw [← nI_0, nI_eq (by omega) (by omega)] at z
      rw [z] at h1
      exact ⟨(show b = a from h1).symm, h.2.1⟩
    · rintro ⟨rfl, _⟩
      rw [zc_lst_e (P := fun n => zn_b e S a n a) (k := 0) rfl (fun j _ => Nat.zero_le j)]
      rfl
  · rw [zf_wv0 h]
    refine ⟨fun z => absurd z (by decide), ?_⟩
    rintro ⟨rfl, hb⟩
    exact absurd ⟨hb, hb, zn_c0⟩ h
theorem zf_w4 {e : Bool} {S : Nat → Prop} (hS : ∀ i, S i → i < 64) (a b : Nat) : zw_wv e S a b = -4 ↔ ¬ (S b ∧ zw_pv e S b = zw_pv e S a) := by
  by_cases h : S a ∧ S b ∧ zn_c e S a b
  · rw [zf_wv1 h]
    obtain ⟨_, h2⟩ := zf_wlst hS h.1 h.2.2
    refine ⟨fun z => absurd z (zf_m4 (by omega)), fun z => absurd ⟨h.2.1, ?_⟩ z⟩
    rw [zf_pv1 h.2.1, zf_pv1 h.1, zf_ceq h.1 h.2.2]
  · rw [zf_wv0 h]
    refine ⟨fun _ z => h ?_, fun _ => rfl⟩
    obtain ⟨hb, hp⟩ := z
    have ha : S a := Classical.byContradiction (fun y => (zf_off (e := e) hS b).mp (hp.trans (zf_pv0 y)) hb)
    rw [zf_pv1 hb, zf_pv1 ha] at hp
    have lb := zf_lst (e := e) hS hb
    have la := zf_lst (e := e) hS ha
    have e1 := (nI_eq (by omega) (by omega)).mp hp
    refine ⟨ha, hb, zn_cc la.2 (zn_csym hb ?_)⟩
    rw [← e1]
    exact lb.2
/-! ===== the sum of the sizes ===== -/
def zf_seen (e : Bool) (S : Nat → Prop) (b : Nat) (j : Nat) : Prop := ∃ r, r < b ∧ zn_t e S r ∧ zn_c e S r j
theorem zf_seen_t {e : Bool} {S : Nat → Prop} {b : Nat} (h : zn_t e S b) : zc_ct (zf_seen e S (b + 1)) 64 = zc_ct (zf_seen e S b) 64 + zc_ct (zn_c e S b) 64 := by
  rw [← zc_add 64 (fun j _ => ?_)]
  · refine zc_congr 64 (fun j _ => ⟨?_, ?_⟩)
    · rintro ⟨r, hr, tr, cr⟩
      by_cases er : r = b
      · subst er; exact Or.inr cr
      · exact Or.inl ⟨r, by omega, tr, cr⟩
    · rintro (⟨r, hr, tr, cr⟩ | cr)
      · exact ⟨r, by omega, tr, cr⟩
      · exact ⟨b, by omega, h, cr⟩
  · rintro ⟨r, hr, tr, cr⟩ cb
    have := zn_tu tr h (zn_cc cr (zn_csym h.1 cb))
    omega
theorem zf_seen_f {e : Bool} {S : Nat → Prop} {b : Nat} (h : ¬ zn_t e S b) : zc_ct (zf_seen e S (b + 1)) 64 = zc_ct (zf_seen e S b) 64 := by
  refine zc_congr 64 (fun j _ => ⟨?_, ?_⟩)
  · rintro ⟨r, hr, tr, cr⟩
    have : r ≠ b := fun z => h (z ▸ tr)
    exact ⟨r, by omega, tr, cr⟩
  · rintro ⟨r, hr, tr, cr⟩
    exact ⟨r, by omega, tr, cr⟩
theorem zf_seen_0 (e : Bool) (S : Nat → Prop) : zc_ct (zf_seen e S 0) 64 = 0 := by
  refine zc_zero 64 (fun j _ => ?_)
  rintro ⟨r, hr, _⟩
  omega
theorem zf_seen_64 {e : Bool} {S : Nat → Prop} (hS : ∀ i, S i → i < 64) : zc_ct (zf_seen e S 64) 64 = zc_ct S 64 := by
  refine zc_congr 64 (fun j _ => ⟨?_, fun hj => ?_⟩)
  · rintro ⟨r, _, tr, cr⟩
    exact zn_in tr.1 cr
  · obtain ⟨r, hr, tr, cr, _⟩ := zn_root (e := e) hj
    exact ⟨r, hS r tr.1, tr, cr⟩
/-! ===== after fill ===== -/
theorem zf_out_off {e : Bool} {S : Nat → Prop} {j : Nat} (h : zw_out e S j) : j < 64 ∧ ¬ S j := by
  obtain ⟨i, _, h2, h3, h4⟩ := h
  exact zn_in (S := fun i => i < 64 ∧ ¬ S i) ⟨h2, h3⟩ h4
theorem zf_out_step {e : Bool} {S : Nat → Prop} {i j : Nat} (h : zw_out e S i) (hr : zn_r (!e) i j) (hj : j < 64) (hS : ¬ S j) : zw_out e S j := by
  obtain ⟨b, h1, h2, h3, h4⟩ := h
  exact ⟨b, h1, h2, h3, zn_cs h4 hr ⟨hj, hS⟩⟩
theorem zf_out_bd {e : Bool} {S : Nat → Prop} {j : Nat} (hb : zj_bd j) (hj : j < 64) (hS : ¬ S j) : zw_out e S j := ⟨j, hb, hj, hS, zn_c0⟩
theorem zf_hf {e : Bool} {S T : Nat → Prop} (hT : ∀ j, j < 64 → (T j ↔ ¬ zw_out e S j)) : zj_hf e T := by
  intro c hc hcT
  have hout : zw_out e S c := Classical.byContradiction (fun z => hcT ((hT c hc).mpr z))
  obtain ⟨b, h1, h2, h3, h4⟩ := hout
  have nT : ∀ j, zw_out e S j → j < 64 ∧ ¬ T j := fun j hj => ⟨(zf_out_off hj).1, fun z => (hT j (zf_out_off hj).1).mp z hj⟩
  have hb := zf_out_bd (e := e) h1 h2 h3
  refine ⟨b, h2, h1, (nT b hb).2, ?_⟩
  exact (h4 (fun y => zw_out e S y ∧ zn_c (!e) (fun i => i < 64 ∧ ¬ T i) b y) ⟨hb, zn_c0⟩ (fun x y hx hr hy => ⟨zf_out_step hx.1 hr hy.1 hy.2, zn_cs hx.2 hr (nT y (zf_out_step hx.1 hr hy.1 hy.2))⟩)).2
theorem zf_left {e : Bool} {S T : Nat → Prop} (hT : ∀ j, j < 64 → (T j ↔ ¬ zw_out e S j)) (y : Nat) (hy : y < 8) : ∀ t, t < 8 → T (8 * y + t) → ∃ s, S s ∧ zn_c e T (8 * y + t) s := by
  intro t
  induction t with
  | zero =>
    intro _ h
    refine ⟨8 * y, Classical.byContradiction (fun z => ?_), zn_c0⟩
    exact (hT (8 * y) (by omega)).mp h (zf_out_bd (Or.inl (by omega)) (by omega) z)
  | succ t ih =>
    intro ht h
    by_cases hS : S (8 * y + (t + 1))
    · exact ⟨_, hS, zn_c0⟩
    · have r4 : zn_r false (8 * y + t) (8 * y + (t + 1)) := by rw [zn_rf]; omega
      have hT' : T (8 * y + t) := (hT _ (by omega)).mpr (fun z => (hT _ (by omega)).mp h (zf_out_step z (zn_48 r4) (by omega) hS))
      obtain ⟨s, hs, hc⟩ := ih (by omega) hT'
      exact ⟨s, hs, zn_cc (zn_c1 (zn_48 (zn_sym r4)) hT') hc⟩
theorem zf_fewer {e : Bool} {S T : Nat → Prop} (hS : ∀ i, S i → i < 64) (hTl : ∀ i, T i → i < 64) (hT : ∀ j, j < 64 → (T j ↔ ¬ zw_out e S j)) : zn_C e T ≤ zn_C e S := by
  have sub : ∀ i, S i → T i := fun i hi => (hT i (hS i hi)).mpr (fun z => (zf_out_off z).2 hi)
  refine zc_inj 64 (fun i j => zn_c e T i j) (zn_t e T) 64 (zn_t e S) (fun i hi ti => ?_) (fun i k j _ _ ti tk hij hkj => zn_tu ti tk (zn_cc hij (zn_csym tk.1 hkj)))
  have hTi : T (8 * (i / 8) + i % 8) := by
    rw [show 8 * (i / 8) + i % 8 = i by omega]
    exact ti.1
  obtain ⟨s, hs, hc⟩ := zf_left hT (i / 8) (by omega) (i % 8) (by omega) hTi
  rw [show 8 * (i / 8) + i % 8 = i by omega] at hc
  obtain ⟨r, _, tr, _, cr⟩ := zn_root (e := e) hs
  exact ⟨r, hS r tr.1, tr, zn_cc hc (zn_cmono sub cr)⟩
theorem zf_cells {e : Bool} {on now : Int64} (hT : ∀ j, j < 64 → (zb_t now j ↔ ¬ zw_out e (zb_t on) j)) : zc_ct (zb_t now) 64 = zc_ct (zb_t on) 64 + zc_ct (zb_t (on ^^^ now)) 64 := by
  have sub : ∀ i, zb_t on i → zb_t now i := fun i hi => (hT i (zb_lt hi)).mpr (fun z => (zf_out_off z).2 hi)
  rw [← zc_add 64 (fun i _ hi hx => ?_)]
  · refine zc_congr 64 (fun i _ => ⟨fun h => ?_, fun h => ?_⟩)
    · by_cases ho : zb_t on i
      · exact Or.inl ho
      · exact Or.inr ((zb_xor _ _ _).mpr (Or.inr ⟨ho, h⟩))
    · rcases h with h | h
      · exact sub i h
      · rcases (zb_xor _ _ _).mp h with z | z
        · exact sub i z.1
        · exact z.2
  · rcases (zb_xor _ _ _).mp hx with z | z
    · exact z.2 (sub i hi)
    · exact z.1 hi
theorem zf_again {e : Bool} {on now now2 : Int64} (hT : ∀ j, j < 64 → (zb_t now j ↔ ¬ zw_out e (zb_t on) j)) (hU : ∀ j, j < 64 → (zb_t now2 j ↔ ¬ zw_out e (zb_t now) j)) : zc_ct (zb_t (now ^^^ now2)) 64 = 0 := by
  have e1 : now2 = now := by
    refine zb_ext (fun i hi => ?_)
    rw [hU i hi]
    constructor
    · intro h
      refine Classical.byContradiction (fun z => h ?_)
      obtain ⟨b, h1, h2, h3, h4⟩ := zf_hf hT i hi z
      exact ⟨b, h2, h1, h3, h4⟩
    · exact fun h z => (zf_out_off z).2 h
  rw [e1]
  refine zc_zero 64 (fun i _ h => ?_)
  rcases (zb_xor _ _ _).mp h with z | z
  · exact z.2 z.1
  · exact z.1 z.2
end
section
/-! ===== the law ===== -/
theorem zl_171 {L : Nat} {xs : Nat → Int32} {J74 : Int32 → Int64 → (Nat → Int32) → Prop} {J111 : Int32 → Int32 → Int64 → (Nat → Int32) → Prop} {x2 z : Int32} {a b kc ks : Nat} {on : Int64} {am : Nat → Int32} {e : Bool} (ha : a < 64) (hb : b < 64) (H : ∀ am', J111 z (nI (b + 1)) on am') :
    wL_law_171 (fun r => r = 1) L xs J74 J111 x2 (nI a) (zw_m e) (nI b) (zw_pv e (zb_t on) b) (zw_pv e (zb_t on) a) (zw_wv e (zb_t on) a b) z kc ks on am := by
  have hS : ∀ i, zb_t on i → i < 64 := fun _ => zb_lt
  have l278 : ∀ z1 am', wL_law_278 (fun r => r = 1) L xs J74 J111 x2 (nI a) (zw_m e) z (nI b) z1 z1 kc ks on am' := fun z1 am' => br_t rfl (nm_r (nI_1 b) (H am'))
  have w0 := zf_w0 (e := e) hS a b
  have w4 := zf_w4 (e := e) hS a b
  have ws := zf_wsym (e := e) (S := zb_t on) a b
  have po := zf_off (e := e) hS b
  by_cases hB : zb_t on b
  · have l246 : ∀ z1 am', wL_law_246 (fun r => r = 1) L xs J74 J111 x2 (nI a) (zw_m e) z (nI b) (zw_pv e (zb_t on) b) (zw_pv e (zb_t on) a) (zw_wv e (zb_t on) a b) 0 z1 z1 kc ks on am' := by
      intro z1 am'
      refine br_t rfl (br_c (fun h4 => br_t rfl (br_c (fun h78 => absurd ⟨hB, h78⟩ (w4.mp h4)) (fun _ => l278 0 am'))) (fun h4 => br_t rfl (br_c (fun _ => l278 1 am') (fun h78 => absurd (w4.mpr (fun y => h78 y.2)) h4))))
    have l201 : ∀ am', wL_law_201 (fun r => r = 1) L xs J74 J111 x2 (nI a) (zw_m e) z (nI b) (zw_pv e (zb_t on) b) (zw_pv e (zb_t on) a) (zw_wv e (zb_t on) a b) 0 0 kc ks on am' := by
      intro am'
      refine br_t rfl (zw_way hb ha (br_t ws (br_c (fun h => ?_) (fun h => ?_))))
      · exact br_t (congrArg nI (w0.mp h).1) (br_t rfl (l246 1 am'))
      · exact br_f (fun y => h (w0.mpr ⟨(nI_eq (by omega) (by omega)).mp y, hB⟩)) (l246 0 am')
    exact br_f (fun y => po.mp y hB) (zs_depth hb (fun r a' hr => br_f (fun y => hr.mp y hB) (l201 a')))
  · have h4 : zw_wv e (zb_t on) a b = -4 := w4.mpr (fun y => hB y.1)
    have l246 : ∀ am', wL_law_246 (fun r => r = 1) L xs J74 J111 x2 (nI a) (zw_m e) z (nI b) (zw_pv e (zb_t on) b) (zw_pv e (zb_t on) a) (zw_wv e (zb_t on) a b) 1 0 0 kc ks on am' := by
      intro am'
      exact br_t rfl (br_t h4 (br_f (by decide) (l278 0 am')))
    have l201 : ∀ am', wL_law_201 (fun r => r = 1) L xs J74 J111 x2 (nI a) (zw_m e) z (nI b) (zw_pv e (zb_t on) b) (zw_pv e (zb_t on) a) (zw_wv e (zb_t on) a b) 1 1 kc ks on am' := by
      intro am'
      refine br_t rfl (zw_way hb ha (br_t ws (br_f (by rw [h4]; decide) ?_)))
      exact br_c (fun _ => br_f (by decide) (l246 am')) (fun _ => l246 am')
    exact br_t (po.mpr hB) (zs_depth hb (fun r a' hr => br_t (hr.mpr hB) (l201 a')))
theorem zl_b {L : Nat} {xs : Nat → Int32} {J74 : Int32 → Int64 → (Nat → Int32) → Prop} {x2 : Int32} {a kc ks : Nat} {on : Int64} {am : Nat → Int32} {e : Bool} (ha : a < 64) (H : ∀ am', J74 (zw_m e + 4) on am') :
    ∃ n, wL_law_111 (fun r => r = 1) L xs J74 x2 (nI a) (zw_m e) kc ks n 0 0 on am := by
  have hS : ∀ i, zb_t on i → i < 64 := fun _ => zb_lt
  refine pk_loop (σ := Int32 × (Nat → Int32)) (fun n i s => wL_law_111 (fun r => r = 1) L xs J74 x2 (nI a) (zw_m e) kc ks n s.1 (nI i) on s.2) (fun i s => s.1 = nI (zc_ct (zf_seen e (zb_t on) i) 64)) 64 0 (0, am) (by omega) ?_ ?_ ?_
  · show (0 : Int32) = _
    rw [zf_seen_0]
    rfl
  · intro n s hs
    refine pk_le 64 64 (fun _ => zw_cells (br_t ?_ (nm_e (H s.2)))) (fun y => absurd y (by omega))
    rw [hs, zf_seen_64 hS]
  · intro n i s hi hs hw
    refine pk_le 64 i (fun y => absurd y (by omega)) (fun _ => zw_piece hi (zw_piece ha (zw_way ha hi (ek_if (zf_root hS hi) (fun t => zw_size hi (zl_171 ha hi (fun am' => hw (s.1 + zw_sv e (zb_t on) i, am') ?_))) (fun t => zl_171 ha hi (fun am' => hw (s.1, am') ?_))))))
    · show s.1 + zw_sv e (zb_t on) i = _
      unfold zw_sv
      rw [hs, if_pos t.1, nI_add, zf_seen_t t]
    · show s.1 = _
      rw [hs, zf_seen_f t]
theorem zl_pq (p q : Int32) : q = p - (p - q) := by grind
theorem zl_74 {L : Nat} {xs : Nat → Int32} {x2 : Int32} {a kc ks n : Nat} {on : Int64} {am : Nat → Int32} {e : Bool} (ha : a < 64) (H : ∀ am', wL_law_74 (fun r => r = 1) L xs x2 (nI a) kc ks n (zw_m e + 4) on am') :
    wL_law_74 (fun r => r = 1) L xs x2 (nI a) kc ks (n + 1) (zw_m e) on am :=
  br_f (by cases e <;> decide) (zw_balance (zw_pieces (zw_holes (br_t (zl_pq _ _) (zl_b ha H)))))
theorem zl_mode (x : Int32) : ∃ e : Bool, (4 : Int32) + (((x >>> ((6 : Int32) &&& 31)) &&& 1) * 4) = zw_m e := by
  obtain ⟨j, hj, h⟩ := pk_andE (x >>> ((6 : Int32) &&& 31)) (m := 1) 1 (by decide)
  rw [h]
  rcases (show j = 0 ∨ j = 1 by omega) with z | z
  · subst z; exact ⟨false, by decide⟩
  · subst z; exact ⟨true, by decide⟩
theorem zl_holes {e : Bool} {S : Nat → Prop} (hS : ∀ i, S i → i < 64) (hf : zj_hf e S) : nI (zn_C e S) - Int32.ofInt (zq_T e S) / 4 = 0 := by
  have hC := zn_C_le e S
  have e1 : Int32.ofInt (4 * ((zn_C e S : Nat) : Int)) = nI (4 * zn_C e S) := Int32.ofInt_eq_ofNat (n := 4 * zn_C e S)
  rw [zq_euler hS hf, e1, show (4 : Int32) = nI 4 from rfl, pk_div (by omega) (by omega) (by omega), Nat.mul_div_cancel_left _ (by omega), Int32.sub_self]
theorem zl_last {L : Nat} {xs : Nat → Int32} {x2 x3 : Int32} {kc ks n : Nat} {on : Int64} {am : Nat → Int32} : wL_law_74 (fun r => r = 1) L xs x2 x3 kc ks (n + 1) 12 on am := by
  obtain ⟨e, he⟩ := zl_mode x2
  refine br_t (by decide) (nm_r he (zw_pieces (zw_cells (zw_fill (fun now hT => zw_holes (br_t (zl_holes (fun _ => zb_lt) (zf_hf hT)) (zw_pieces (br_f ?_ (zw_cells (br_t ?_ (zw_fill (fun now2 hU => br_t ?_ rfl))))))))))))
  · have := zf_fewer (fun _ => zb_lt) (fun _ => zb_lt) hT
    have := zn_C_le e (zb_t on)
    exact nI_nlt (by omega) (by omega)
  · rw [zf_cells hT, nI_add]
  · rw [zf_again hT hU]
    rfl
theorem zl_fin {L : Nat} {xs : Nat → Int32} {x2 : Int32} {kc ks : Nat} {on : Int64} {am : Nat → Int32} :
    wpX_pieces (fun r_13 => (wpX_pieces (fun r_14 => (((r_13 ≤ r_14 → (∀ x3 : Int32, x3 = x2 &&& 63 → (∃ fu74 : Nat, wL_law_74 (fun r => r = 1) L xs x2 x3 kc ks fu74 4 on am))) ∧ (¬ r_13 ≤ r_14 → ((fun r => r = 1) (0 : Int32)))))) (on, am) 4)) (on, am) 8 := by
  obtain ⟨a, ha, h63⟩ := pk_andE x2 (m := 63) 6 (by decide)
  refine zw_pieces (e := true) (zw_pieces (e := false) (br_t (nI_le (zn_84 _) (by have := zn_C_le false (zb_t on); omega)) (nm_r h63 ⟨3, ?_⟩)))
  refine zl_74 (e := false) ha (fun am1 => ?_)
  refine zl_74 (e := true) ha (fun am2 => ?_)
  exact zl_last
theorem zl_run {L : Nat} {xs : Nat → Int32} (hL : L ≤ 260) {x2 : Int32} {kc ks : Nat} {on : Int64} {am : Nat → Int32} : ∃ n, wL_law_23 (fun r => r = 1) L xs x2 kc ks n 1 on am := by
  refine lp3 (fun n x w a => wL_law_23 (fun r => r = 1) L xs x2 kc ks n x w a) (fun x _ _ => ∃ k : Nat, k ≤ 300 ∧ x = nI k) (fun x _ _ => 1000 - x.toNatClampNeg) ?_ _ _ _ ⟨1, by omega, rfl⟩
  intro n x w a hI hW
  obtain ⟨k, hk, rfl⟩ := hI
  show wL_law_23 (fun r => r = 1) L xs x2 kc ks (n + 1) (nI k) w a
  unfold wL_law_23
  rw [nI_1]
  refine pk_le L (k + 1) (fun _ => zl_fin) (fun z => ⟨vp_in_nI (by omega) (by omega), vp_in_nI (by omega) (by omega), zt_main (fun r w' => nm_r (nI_add k 2) (hW _ _ _ ⟨k + 2, by omega, rfl⟩ (by rw [nI_clamp (by omega), nI_clamp (by omega)]; omega)))⟩)
theorem i_vc (xs : Nat → Int32) (L : Nat) (hL : L ≤ 260) : wpL_law (fun r => r = 1) L xs := by
  refine ⟨1, 100, by omega, by omega, by omega, by omega, ?_⟩
  refine br_c (fun _ => zl_run hL) (fun h => ⟨?_, nm_e (zl_run hL)⟩)
  have h0 : 0 < L := by
    rcases Nat.eq_zero_or_pos L with z | z
    · subst z
      exact absurd (show Int32.ofNat 0 ≤ 0 by decide) h
    · exact z
  exact vp_in_nI (n := 0) h0 (by omega)
end

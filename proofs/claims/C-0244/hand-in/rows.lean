section
/-! rows of kit/rows (starting texts): stores, nI arithmetic, branches by naturals, shifts, bits -/
theorem pk_us {f : Nat → Int32} {k : Nat} {x : Int32} : upd f k x k = x := if_pos rfl
theorem pk_un {f : Nat → Int32} {k j : Nat} {x : Int32} (h : j ≠ k) : upd f k x j = f j := if_neg h
theorem pk_sub {a b : Nat} (h : b ≤ a) : nI a - nI b = nI (a - b) := by
  obtain ⟨c, rfl⟩ : ∃ c, a = c + b := ⟨a - b, by omega⟩
  rw [← nI_add, Int32.add_sub_cancel, Nat.add_sub_cancel]
theorem pk_mul (a b : Nat) : nI a * nI b = nI (a * b) := (Int32.ofNat_mul a b).symm
theorem pk_ix (x : Int32) {n : Nat} (hn : n < 2 ^ 31) : x < 0 ∨ nI n ≤ x ∨ ∃ j : Nat, j < n ∧ x = nI j := by
  by_cases h : x < 0
  · exact Or.inl h
  · obtain ⟨j, hj, rfl⟩ := nI_of h
    by_cases h2 : j < n
    · exact Or.inr (Or.inr ⟨j, h2, rfl⟩)
    · exact Or.inr (Or.inl (nI_le (by omega) hj))
theorem pk_le {x y : Int32} {A B : Prop} (a b : Nat) (f : a ≤ b → A) (g : b < a → B) (hx : x = nI a := by rfl) (hy : y = nI b := by rfl) (ha : a < 2 ^ 31 := by omega) (hb : b < 2 ^ 31 := by omega) : (x ≤ y → A) ∧ (¬ x ≤ y → B) := by
  subst hx hy
  rw [nI_leI ha hb]
  exact ⟨f, fun z => g (by omega)⟩
theorem pk_lt {x y : Int32} {A B : Prop} (a b : Nat) (f : a < b → A) (g : b ≤ a → B) (hx : x = nI a := by rfl) (hy : y = nI b := by rfl) (ha : a < 2 ^ 31 := by omega) (hb : b < 2 ^ 31 := by omega) : (x < y → A) ∧ (¬ x < y → B) := by
  subst hx hy
  rw [nI_ltI ha hb]
  exact ⟨f, fun z => g (by omega)⟩
theorem pk_eq {x y : Int32} {A B : Prop} (a b : Nat) (f : a = b → A) (g : a ≠ b → B) (hx : x = nI a := by rfl) (hy : y = nI b := by rfl) (ha : a < 2 ^ 31 := by omega) (hb : b < 2 ^ 31 := by omega) : (x = y → A) ∧ (¬ x = y → B) := by
  subst hx hy
  rw [nI_eq ha hb]
  exact ⟨f, g⟩
theorem pk_in {x : Int32} (n N : Nat) (h : n < N) (hx : x = nI n := by rfl) (hN : N < 2 ^ 31 := by omega) : vp_in x N := by
  subst hx
  exact vp_in_nI h hN
theorem pk_cl {x : Int32} (n : Nat) (hx : x = nI n := by rfl) (h : n < 2 ^ 31 := by omega) : x.toNatClampNeg = n := by
  subst hx
  exact nI_clamp h
theorem pk_tn {n : Nat} (h : n < 2 ^ 32) : (nI n).toBitVec.toNat = n := Nat.mod_eq_of_lt h
theorem pk_shl (a s : Int32) (k : Nat) (hs : (s.toBitVec.smod 32).toNat = k) : (a <<< s).toBitVec.toNat = a.toBitVec.toNat * 2 ^ k % 2 ^ 32 := by
  show (a.toBitVec <<< (s.toBitVec.smod 32).toNat).toNat = _
  rw [hs, BitVec.toNat_shiftLeft, Nat.shiftLeft_eq]
theorem pk_shlN {n : Nat} (s : Int32) (k : Nat) (hs : (s.toBitVec.smod 32).toNat = k) (h : n * 2 ^ k < 2 ^ 32) : nI n <<< s = nI (n * 2 ^ k) := by
  apply Int32.toBitVec_inj.mp
  apply BitVec.eq_of_toNat_eq
  have hn : n < 2 ^ 32 := Nat.lt_of_le_of_lt (Nat.le_mul_of_pos_right n (Nat.two_pow_pos k)) h
  rw [pk_shl _ _ k hs, pk_tn hn, pk_tn h, Nat.mod_eq_of_lt h]
theorem pk_shr (a s : Int32) (k : Nat) (hs : (s.toBitVec.smod 32).toNat = k) : (a >>> s).toInt = a.toInt >>> k := by
  show (a.toBitVec.sshiftRight (s.toBitVec.smod 32).toNat).toInt = _
  rw [hs, BitVec.toInt_sshiftRight]
  rfl
theorem pk_shrN {n : Nat} (h : n < 2 ^ 31) (s : Int32) (k : Nat) (hs : (s.toBitVec.smod 32).toNat = k) : nI n >>> s = nI (n / 2 ^ k) := by
  apply Int32.toInt_inj.mp
  have h2 : n / 2 ^ k ≤ n := Nat.div_le_self _ _
  rw [pk_shr _ _ k hs, nI_toInt h, nI_toInt (by omega), Int.shiftRight_eq_div_pow]
  rfl
theorem s_l : ∀ n, n < 32 → ((nI n &&& 31).toBitVec.smod 32).toNat = n := by decide +kernel
theorem nx_and (a b : Nat) : nI a &&& nI b = nI (a &&& b) := by
  apply Int32.toBitVec_inj.1
  show BitVec.ofNat 32 a &&& BitVec.ofNat 32 b = BitVec.ofNat 32 (a &&& b)
  apply BitVec.eq_of_getLsbD_eq
  intro i hi
  simp [hi]
theorem nx_xor (a b : Nat) : nI a ^^^ nI b = nI (a ^^^ b) := by
  apply Int32.toBitVec_inj.1
  show BitVec.ofNat 32 a ^^^ BitVec.ofNat 32 b = BitVec.ofNat 32 (a ^^^ b)
  apply BitVec.eq_of_getLsbD_eq
  intro i hi
  simp [hi]
/-! ===== own rows: Int32 bits over naturals ===== -/
theorem cq_or (a b : Nat) : nI a ||| nI b = nI (a ||| b) := by
  apply Int32.toBitVec_inj.1
  show BitVec.ofNat 32 a ||| BitVec.ofNat 32 b = BitVec.ofNat 32 (a ||| b)
  apply BitVec.eq_of_getLsbD_eq
  intro i hi
  simp [hi]
theorem cq_shl {a : Nat} (h : a < 31) : (1 : Int32) <<< (nI a &&& 31) = nI (2 ^ a) := by
  have e := pk_shlN (n := 1) (nI a &&& 31) a (s_l a (by omega)) (by rw [Nat.one_mul]; exact Nat.pow_lt_pow_right (by decide) (by omega))
  rw [Nat.one_mul] at e
  exact e
theorem cq_p31 {a : Nat} (h : a < 31) : 2 ^ a < 2 ^ 31 := Nat.pow_lt_pow_right (by decide) h
theorem cq_p30 {a : Nat} (h : a < 30) : 2 ^ a < 2 ^ 30 := Nat.pow_lt_pow_right (by decide) h
theorem cq_bit {s a : Nat} (hs : s < 2 ^ 31) (ha : a < 31) : ((nI s >>> (nI a &&& 31)) &&& 1) = nI (s / 2 ^ a % 2) := by
  rw [pk_shrN hs _ a (s_l a (by omega))]
  show nI _ &&& nI 1 = _
  rw [nx_and, Nat.and_one_is_mod]
theorem cq_tb1 {s a : Nat} : s / 2 ^ a % 2 = 1 ↔ s.testBit a = true := by
  rw [Nat.testBit_eq_decide_div_mod_eq, decide_eq_true_eq]
theorem cq_tb0 {s a : Nat} : s / 2 ^ a % 2 = 0 ↔ s.testBit a = false := by
  rw [Nat.testBit_eq_decide_div_mod_eq, decide_eq_false_iff_not]
  generalize s / 2 ^ a = z
  omega
theorem cq_bit1 {s a : Nat} (hs : s < 2 ^ 31) (ha : a < 31) : ((nI s >>> (nI a &&& 31)) &&& 1) = 1 ↔ s.testBit a = true := by
  rw [cq_bit hs ha, ← cq_tb1]
  exact nI_eq (b := 1) (by generalize s / 2 ^ a = z; omega) (by decide)
theorem cq_bit0 {s a : Nat} (hs : s < 2 ^ 31) (ha : a < 31) : ((nI s >>> (nI a &&& 31)) &&& 1) = 0 ↔ s.testBit a = false := by
  rw [cq_bit hs ha, ← cq_tb0]
  exact nI_eq (b := 0) (by generalize s / 2 ^ a = z; omega) (by decide)
def cq_df (s t : Nat) : Nat := s ^^^ (s &&& t)
theorem cq_df_bit (s t i : Nat) : (cq_df s t).testBit i = (s.testBit i && !t.testBit i) := by
  unfold cq_df
  rw [Nat.testBit_xor, Nat.testBit_and]
  cases s.testBit i <;> cases t.testBit i <;> rfl
theorem cq_andn {s : Nat} (t : Nat) (hs : s < 2 ^ 31) : nI s &&& (nI t ^^^ (-1)) = nI (cq_df s t) := by
  have e : (-1 : Int32) = nI (2 ^ 32 - 1) := by decide
  rw [e, nx_xor, nx_and]
  apply congrArg nI
  apply Nat.eq_of_testBit_eq
  intro i
  rw [cq_df_bit, Nat.testBit_and, Nat.testBit_xor, Nat.testBit_two_pow_sub_one]
  by_cases h : i < 32
  · rw [decide_eq_true h]; cases s.testBit i <;> cases t.testBit i <;> rfl
  · have z : s.testBit i = false := Nat.testBit_lt_two_pow (Nat.lt_of_lt_of_le hs (Nat.pow_le_pow_right (by decide) (by omega)))
    rw [z]; rfl
theorem cq_df_le (s t : Nat) : cq_df s t ≤ s := Nat.le_of_testBit (fun i h => by
  rw [cq_df_bit, Bool.and_eq_true] at h; exact h.1)
/-! subsets -/
abbrev cq_sub (x y : Nat) : Prop := x &&& y = x
theorem cq_sub_i {x y : Nat} : cq_sub x y ↔ ∀ i, x.testBit i = true → y.testBit i = true := by
  constructor
  · intro h i hx
    have e : (x &&& y).testBit i = x.testBit i := by rw [h]
    rw [Nat.testBit_and, hx, Bool.true_and] at e
    exact e
  · intro h
    apply Nat.eq_of_testBit_eq
    intro i
    rw [Nat.testBit_and]
    cases hx : x.testBit i
    · rfl
    · rw [h i hx]; rfl
theorem cq_sub_rfl (x : Nat) : cq_sub x x := Nat.and_self x
theorem cq_sub_tr {x y z : Nat} (a : cq_sub x y) (b : cq_sub y z) : cq_sub x z := cq_sub_i.mpr fun i h => cq_sub_i.mp b i (cq_sub_i.mp a i h)
theorem cq_sub_as {x y : Nat} (a : cq_sub x y) (b : cq_sub y x) : x = y := by
  apply Nat.eq_of_testBit_eq
  intro i
  rw [Bool.eq_iff_iff]
  exact ⟨cq_sub_i.mp a i, cq_sub_i.mp b i⟩
theorem cq_sub_le {x y : Nat} (a : cq_sub x y) : x ≤ y := Nat.le_of_testBit (cq_sub_i.mp a)
theorem cq_sub_orl (x y : Nat) : cq_sub x (x ||| y) := cq_sub_i.mpr fun i h => by rw [Nat.testBit_or, h]; rfl
theorem cq_sub_orr (x y : Nat) : cq_sub y (x ||| y) := cq_sub_i.mpr fun i h => by rw [Nat.testBit_or, h, Bool.or_true]
theorem cq_sub_or {x y z : Nat} (a : cq_sub x z) (b : cq_sub y z) : cq_sub (x ||| y) z := cq_sub_i.mpr fun i h => by
  rw [Nat.testBit_or, Bool.or_eq_true] at h
  exact h.elim (cq_sub_i.mp a i) (cq_sub_i.mp b i)
theorem cq_sub_p {a z : Nat} (h : z.testBit a = true) : cq_sub (2 ^ a) z := cq_sub_i.mpr fun i hi => by
  rw [Nat.testBit_two_pow, decide_eq_true_eq] at hi
  exact hi ▸ h
theorem cq_sub_div {x y : Nat} (k : Nat) (h : cq_sub x y) : cq_sub (x / 2 ^ k) (y / 2 ^ k) := cq_sub_i.mpr fun i hi => by
  rw [Nat.testBit_div_two_pow] at hi ⊢
  exact cq_sub_i.mp h _ hi
theorem cq_sub_0 (z : Nat) : cq_sub 0 z := Nat.zero_and z
theorem cq_sub_full {x M : Nat} (h : x < 2 ^ M) : cq_sub x (2 ^ M - 1) := Nat.and_two_pow_sub_one_of_lt_two_pow h
theorem cq_or_sub {x y : Nat} (h : cq_sub y x) : x ||| y = x := cq_sub_as (cq_sub_or (cq_sub_rfl x) h) (cq_sub_orl x y)
theorem cq_sub_of_or {x y : Nat} (h : x ||| y = x) : cq_sub y x := by
  have e := cq_sub_orr x y
  rw [h] at e
  exact e
theorem cq_df0 {s t : Nat} : cq_df s t = 0 ↔ cq_sub s t := by
  rw [cq_sub_i]
  constructor
  · intro h i hs
    have e : (cq_df s t).testBit i = false := by rw [h]; exact Nat.zero_testBit i
    rw [cq_df_bit, hs, Bool.true_and] at e
    cases ht : t.testBit i
    · rw [ht] at e; exact absurd e (by decide)
    · rfl
  · intro h
    apply Nat.eq_of_testBit_eq
    intro i
    rw [cq_df_bit, Nat.zero_testBit]
    cases hs : s.testBit i
    · rfl
    · rw [h i hs]; rfl
/-- 'p without c is empty' as the print asks it -/
theorem cq_isub {s t : Nat} (hs : s < 2 ^ 31) : (nI s &&& (nI t ^^^ (-1))) = 0 ↔ cq_sub s t := by
  rw [cq_andn t hs, ← cq_df0]
  exact nI_eq (b := 0) (Nat.lt_of_le_of_lt (cq_df_le s t) hs) (by decide)
theorem cq_iand {s t : Nat} (hs : s < 2 ^ 31) : (nI s &&& nI t) = nI s ↔ cq_sub s t := by
  rw [nx_and]
  exact nI_eq (Nat.lt_of_le_of_lt Nat.and_le_left hs) hs
/-- the low mask of attribute a -/
theorem cq_mask {a : Nat} : 2 * nI (2 ^ a) - 1 = nI (2 ^ (a + 1) - 1) := by
  show nI 2 * nI (2 ^ a) - nI 1 = _
  rw [pk_mul, pk_sub (by have := Nat.two_pow_pos a; omega), Nat.pow_succ, Nat.mul_comm]
theorem cq_up {s a : Nat} (hs : s < 2 ^ 31) : nI s &&& ((2 * nI (2 ^ a) - 1) ^^^ (-1)) = nI (s / 2 ^ (a + 1) * 2 ^ (a + 1)) := by
  rw [cq_mask, cq_andn _ hs]
  apply congrArg nI
  apply Nat.eq_of_testBit_eq
  intro i
  rw [cq_df_bit, Nat.testBit_two_pow_sub_one, Nat.testBit_mul_two_pow, Nat.testBit_div_two_pow]
  by_cases h : i < a + 1
  · rw [decide_eq_true h, decide_eq_false (by omega)]; simp
  · rw [decide_eq_false h, decide_eq_true (by omega), Nat.sub_add_cancel (by omega)]; simp
theorem cq_full (M : Nat) (h : M < 31) : (1 : Int32) <<< (nI M &&& 31) - 1 = nI (2 ^ M - 1) := by
  rw [cq_shl h]
  show nI _ - nI 1 = _
  exact pk_sub (Nat.two_pow_pos M)
theorem cq_b0 {s a : Nat} (hs : s < 2 ^ 31) (ha : a < 31) : (nI s &&& nI (2 ^ a)) = 0 ↔ s.testBit a = false := by
  rw [nx_and]
  have e : s &&& 2 ^ a = 0 ↔ s.testBit a = false := by
    constructor
    · intro h
      have e : (s &&& 2 ^ a).testBit a = false := by rw [h]; exact Nat.zero_testBit a
      rw [Nat.testBit_and, Nat.testBit_two_pow_self, Bool.and_true] at e
      exact e
    · intro h
      apply Nat.eq_of_testBit_eq
      intro i
      rw [Nat.testBit_and, Nat.zero_testBit, Nat.testBit_two_pow]
      by_cases hi : a = i
      · subst hi; rw [h]; rfl
      · rw [decide_eq_false hi, Bool.and_false]
  rw [← e]
  exact nI_eq (b := 0) (Nat.lt_of_le_of_lt Nat.and_le_left hs) (by decide)
end
section
/-! ===== counts of a property below n ===== -/
noncomputable def cq_b (p : Prop) : Nat := @ite _ p (Classical.propDecidable p) 1 0
theorem cq_b_t {p : Prop} (h : p) : cq_b p = 1 := by unfold cq_b; exact if_pos h
theorem cq_b_f {p : Prop} (h : ¬ p) : cq_b p = 0 := by unfold cq_b; exact if_neg h
theorem cq_b_le (p : Prop) : cq_b p ≤ 1 := by
  by_cases h : p
  · rw [cq_b_t h]; exact Nat.le_refl 1
  · rw [cq_b_f h]; exact Nat.zero_le 1
theorem cq_b_1 {p : Prop} (h : cq_b p ≠ 0) : p := Classical.byContradiction fun z => h (cq_b_f z)
noncomputable def cq_cn (p : Nat → Prop) : Nat → Nat
  | 0 => 0
  | n + 1 => cq_cn p n + cq_b (p n)
theorem cq_cn_s (p : Nat → Prop) (n : Nat) : cq_cn p (n + 1) = cq_cn p n + cq_b (p n) := rfl
theorem cq_cn_t {p : Nat → Prop} {n : Nat} (h : p n) : cq_cn p (n + 1) = cq_cn p n + 1 := by rw [cq_cn_s, cq_b_t h]
theorem cq_cn_f {p : Nat → Prop} {n : Nat} (h : ¬ p n) : cq_cn p (n + 1) = cq_cn p n := by rw [cq_cn_s, cq_b_f h]; rfl
theorem cq_cn_le (p : Nat → Prop) (n : Nat) : cq_cn p n ≤ n := by
  induction n with
  | zero => exact Nat.le_refl 0
  | succ n ih => have := cq_b_le (p n); rw [cq_cn_s]; omega
theorem cq_cn_add (p : Nat → Prop) (i d : Nat) : cq_cn p i ≤ cq_cn p (i + d) := by
  induction d with
  | zero => exact Nat.le_refl _
  | succ d ih => rw [← Nat.add_assoc, cq_cn_s]; omega
theorem cq_cn_mono (p : Nat → Prop) {i j : Nat} (h : i ≤ j) : cq_cn p i ≤ cq_cn p j := by
  obtain ⟨d, rfl⟩ : ∃ d, j = i + d := ⟨j - i, by omega⟩
  exact cq_cn_add p i d
theorem cq_cn_lt {p : Nat → Prop} {i j : Nat} (h : i < j) (hi : p i) : cq_cn p i < cq_cn p j := by
  have := cq_cn_mono p (i := i + 1) (j := j) h
  rw [cq_cn_t hi] at this
  exact this
theorem cq_cn_inj {p : Nat → Prop} {i j : Nat} (hi : p i) (hj : p j) (e : cq_cn p i = cq_cn p j) : i = j := by
  rcases Nat.lt_trichotomy i j with h | h | h
  · have := cq_cn_lt h hi; omega
  · exact h
  · have := cq_cn_lt h hj; omega
theorem cq_cn_surj (p : Nat → Prop) (n : Nat) : ∀ i, i < cq_cn p n → ∃ j, j < n ∧ p j ∧ cq_cn p j = i := by
  induction n with
  | zero => intro i h; exact absurd h (Nat.not_lt_zero i)
  | succ n ih =>
    intro i h
    by_cases hp : p n
    · rw [cq_cn_t hp] at h
      by_cases h2 : i < cq_cn p n
      · obtain ⟨j, a, b, c⟩ := ih i h2; exact ⟨j, by omega, b, c⟩
      · exact ⟨n, by omega, hp, by omega⟩
    · rw [cq_cn_f hp] at h
      obtain ⟨j, a, b, c⟩ := ih i h; exact ⟨j, by omega, b, c⟩
theorem cq_cn_gap {p : Nat → Prop} {i : Nat} (d : Nat) (h : ∀ k, i ≤ k → k < i + d → ¬ p k) : cq_cn p (i + d) = cq_cn p i := by
  induction d with
  | zero => rfl
  | succ d ih => rw [← Nat.add_assoc, cq_cn_f (h _ (by omega) (by omega))]; exact ih fun k a b => h k a (by omega)
theorem cq_cn_gp {p : Nat → Prop} {i j : Nat} (hij : i ≤ j) (h : ∀ k, i ≤ k → k < j → ¬ p k) : cq_cn p j = cq_cn p i := by
  obtain ⟨d, rfl⟩ : ∃ d, j = i + d := ⟨j - i, by omega⟩
  exact cq_cn_gap d h
theorem cq_cn_cg {p q : Nat → Prop} {n : Nat} (h : ∀ i, i < n → (p i ↔ q i)) : cq_cn p n = cq_cn q n := by
  induction n with
  | zero => rfl
  | succ n ih =>
    rw [cq_cn_s, cq_cn_s, ih fun i hi => h i (by omega)]
    by_cases hp : p n
    · rw [cq_b_t hp, cq_b_t ((h n (by omega)).mp hp)]
    · rw [cq_b_f hp, cq_b_f fun z => hp ((h n (by omega)).mpr z)]
theorem cq_cn_rm {p : Nat → Prop} {n d : Nat} (hd : d < n) (hp : p d) : cq_cn p n = cq_cn (fun j => p j ∧ j ≠ d) n + 1 := by
  induction n with
  | zero => exact absurd hd (Nat.not_lt_zero d)
  | succ n ih =>
    by_cases e : d = n
    · subst e
      rw [cq_cn_t hp, cq_cn_f (p := fun j => p j ∧ j ≠ d) (fun z => z.2 rfl)]
      rw [cq_cn_cg (p := p) (q := fun j => p j ∧ j ≠ d) (n := d) fun i hi => ⟨fun z => ⟨z, by omega⟩, fun z => z.1⟩]
    · rw [cq_cn_s, cq_cn_s, ih (by omega)]
      have : cq_b (p n) = cq_b (p n ∧ n ≠ d) := by
        by_cases hn : p n
        · rw [cq_b_t hn, cq_b_t ⟨hn, by omega⟩]
        · rw [cq_b_f hn, cq_b_f fun z => hn z.1]
      rw [this]
      omega
theorem cq_cn_inle {p : Nat → Prop} {m : Nat} : ∀ {q : Nat → Prop} {n : Nat} (f : Nat → Nat), (∀ a, a < m → p a → f a < n ∧ q (f a)) → (∀ a b, a < m → b < m → p a → p b → f a = f b → a = b) → cq_cn p m ≤ cq_cn q n := by
  induction m with
  | zero => intro q n f _ _; exact Nat.zero_le _
  | succ m ih =>
    intro q n f h1 h2
    by_cases hp : p m
    · obtain ⟨hl, hq⟩ := h1 m (by omega) hp
      rw [cq_cn_t hp, cq_cn_rm hl hq]
      have := ih (q := fun j => q j ∧ j ≠ f m) (n := n) f (fun a ha pa => ⟨(h1 a (by omega) pa).1, (h1 a (by omega) pa).2, fun e => by
        have := h2 a m (by omega) (by omega) pa hp e
        omega⟩) (fun a b ha hb => h2 a b (by omega) (by omega))
      omega
    · rw [cq_cn_f hp]
      exact ih f (fun a ha => h1 a (by omega)) (fun a b ha hb => h2 a b (by omega) (by omega))
/-! ===== a fold over a list of the places with p, against one over all numbers ===== -/
noncomputable def cq_fo {σ : Type} (p : Nat → Prop) (st : σ → Nat → σ) (s : σ) : Nat → σ
  | 0 => s
  | n + 1 => @ite _ (p n) (Classical.propDecidable _) (st (cq_fo p st s n) n) (cq_fo p st s n)
theorem cq_fo_t {σ : Type} {p : Nat → Prop} {st : σ → Nat → σ} {s : σ} {n : Nat} (h : p n) : cq_fo p st s (n + 1) = st (cq_fo p st s n) n := if_pos h
theorem cq_fo_f {σ : Type} {p : Nat → Prop} {st : σ → Nat → σ} {s : σ} {n : Nat} (h : ¬ p n) : cq_fo p st s (n + 1) = cq_fo p st s n := if_neg h
theorem cq_fo_gp {σ : Type} {p : Nat → Prop} {st : σ → Nat → σ} {s : σ} {i : Nat} (d : Nat) (h : ∀ k, i ≤ k → k < i + d → ¬ p k) : cq_fo p st s (i + d) = cq_fo p st s i := by
  induction d with
  | zero => rfl
  | succ d ih => rw [← Nat.add_assoc, cq_fo_f (h _ (by omega) (by omega))]; exact ih fun k a b => h k a (by omega)
/-- two places with the same count hold the same fold -/
theorem cq_fo_eq {σ : Type} {p : Nat → Prop} {st : σ → Nat → σ} {s : σ} {i j : Nat} (hij : i ≤ j) (e : cq_cn p i = cq_cn p j) : cq_fo p st s i = cq_fo p st s j := by
  obtain ⟨d, rfl⟩ : ∃ d, j = i + d := ⟨j - i, by omega⟩
  symm
  apply cq_fo_gp
  intro k h1 h2 hp
  have a := cq_cn_lt (j := i + d) h2 hp
  have b := cq_cn_mono p h1
  omega
theorem cq_fo_e2 {σ : Type} {p : Nat → Prop} {st : σ → Nat → σ} {s : σ} {i j : Nat} (e : cq_cn p i = cq_cn p j) : cq_fo p st s i = cq_fo p st s j := by
  rcases Nat.le_total i j with h | h
  · exact cq_fo_eq h e
  · exact (cq_fo_eq h e.symm).symm
/-! ===== closures of a table ===== -/
def cq_hav (R : Nat → Nat) (s : Nat) : Nat → Nat
  | 0 => 0
  | k + 1 => if cq_sub s (R k) then cq_hav R s k ||| 2 ^ k else cq_hav R s k
theorem cq_hav_i (R : Nat → Nat) (s i : Nat) (k : Nat) : (cq_hav R s k).testBit i = true ↔ i < k ∧ cq_sub s (R i) := by
  induction k with
  | zero => exact ⟨fun h => absurd h (by show ¬ Nat.testBit 0 i = true; rw [Nat.zero_testBit]; decide), fun h => absurd h.1 (Nat.not_lt_zero i)⟩
  | succ k ih =>
    unfold cq_hav
    by_cases h : cq_sub s (R k)
    · rw [if_pos h, Nat.testBit_or, Bool.or_eq_true, ih, Nat.testBit_two_pow, decide_eq_true_eq]
      constructor
      · rintro (⟨a, b⟩ | rfl)
        · exact ⟨by omega, b⟩
        · exact ⟨by omega, h⟩
      · rintro ⟨a, b⟩
        by_cases e : k = i
        · exact Or.inr e
        · exact Or.inl ⟨by omega, b⟩
    · rw [if_neg h, ih]
      constructor
      · rintro ⟨a, b⟩; exact ⟨by omega, b⟩
      · rintro ⟨a, b⟩
        by_cases e : k = i
        · subst e; exact absurd b h
        · exact ⟨by omega, b⟩
theorem cq_hav_lt (R : Nat → Nat) (s k : Nat) : cq_hav R s k < 2 ^ k := by
  apply Nat.lt_pow_two_of_testBit
  intro i hi
  cases h : (cq_hav R s k).testBit i
  · rfl
  · have := ((cq_hav_i R s i k).mp h).1; omega
def cq_shr (R : Nat → Nat) (A e : Nat) : Nat → Nat
  | 0 => A
  | k + 1 => if e.testBit k = true then cq_shr R A e k &&& R k else cq_shr R A e k
theorem cq_shr_i (R : Nat → Nat) (A e i k : Nat) : (cq_shr R A e k).testBit i = true ↔ A.testBit i = true ∧ ∀ g, g < k → e.testBit g = true → (R g).testBit i = true := by
  induction k with
  | zero => exact ⟨fun h => ⟨h, fun g z => absurd z (Nat.not_lt_zero g)⟩, fun h => h.1⟩
  | succ k ih =>
    unfold cq_shr
    by_cases h : e.testBit k = true
    · rw [if_pos h, Nat.testBit_and, Bool.and_eq_true, ih]
      constructor
      · rintro ⟨⟨a, b⟩, c⟩
        refine ⟨a, fun g hg he => ?_⟩
        by_cases e2 : g = k
        · subst e2; exact c
        · exact b g (by omega) he
      · rintro ⟨a, b⟩
        exact ⟨⟨a, fun g hg => b g (by omega)⟩, b k (by omega) h⟩
    · rw [if_neg h, ih]
      constructor
      · rintro ⟨a, b⟩
        refine ⟨a, fun g hg he => ?_⟩
        by_cases e2 : g = k
        · subst e2; exact absurd he h
        · exact b g (by omega) he
      · rintro ⟨a, b⟩
        exact ⟨a, fun g hg => b g (by omega)⟩
theorem cq_shr_le (R : Nat → Nat) (A e k : Nat) : cq_shr R A e k ≤ A := Nat.le_of_testBit fun i h => ((cq_shr_i R A e i k).mp h).1
/-- the column form of the extent: what the class reckons -/
theorem cq_ext_eq {N M s : Nat} {R C : Nat → Nat} (hs : s < 2 ^ M) (hC : ∀ a, a < M → ∀ g, g < N → (C a).testBit g = (R g).testBit a) : cq_shr C (2 ^ N - 1) s M = cq_hav R s N := by
  apply Nat.eq_of_testBit_eq
  intro i
  rw [Bool.eq_iff_iff, cq_shr_i, cq_hav_i, Nat.testBit_two_pow_sub_one, decide_eq_true_eq, cq_sub_i]
  constructor
  · rintro ⟨a, b⟩
    refine ⟨a, fun j hj => ?_⟩
    have hjM : j < M := Nat.lt_of_not_le fun z => by
      rw [Nat.testBit_lt_two_pow (Nat.lt_of_lt_of_le hs (Nat.pow_le_pow_right (by decide) z))] at hj
      exact absurd hj (by decide)
    rw [← hC j hjM i a]
    exact b j hjM hj
  · rintro ⟨a, b⟩
    refine ⟨a, fun j hj hs => ?_⟩
    rw [hC j hj i a]
    exact b j hs
def cq_cl (N M : Nat) (R : Nat → Nat) (s : Nat) : Nat := cq_shr R (2 ^ M - 1) (cq_hav R s N) N
theorem cq_cl_i (N M : Nat) (R : Nat → Nat) (s i : Nat) : (cq_cl N M R s).testBit i = true ↔ i < M ∧ ∀ g, g < N → cq_sub s (R g) → (R g).testBit i = true := by
  unfold cq_cl
  rw [cq_shr_i, Nat.testBit_two_pow_sub_one, decide_eq_true_eq]
  constructor
  · rintro ⟨a, b⟩; exact ⟨a, fun g hg hs => b g hg ((cq_hav_i R s g N).mpr ⟨hg, hs⟩)⟩
  · rintro ⟨a, b⟩; exact ⟨a, fun g hg hs => b g hg ((cq_hav_i R s g N).mp hs).2⟩
theorem cq_bit_lt {s M i : Nat} (hs : s < 2 ^ M) (h : s.testBit i = true) : i < M := Nat.lt_of_not_le fun z => by
  rw [Nat.testBit_lt_two_pow (Nat.lt_of_lt_of_le hs (Nat.pow_le_pow_right (by decide) z))] at h
  exact absurd h (by decide)
/-- an abstract closure operator on the sets below n -/
def cq_CL (n : Nat) (K : Nat → Nat) : Prop := (∀ s, s < n → K s < n) ∧ (∀ s, s < n → cq_sub s (K s)) ∧ (∀ s t, s < n → t < n → cq_sub s t → cq_sub (K s) (K t)) ∧ (∀ s, s < n → K (K s) = K s)
theorem cq_cl_lt (N M : Nat) (R : Nat → Nat) (s : Nat) : cq_cl N M R s < 2 ^ M := by
  have := cq_shr_le R (2 ^ M - 1) (cq_hav R s N) N
  have := Nat.two_pow_pos M
  unfold cq_cl
  omega
theorem cq_cl_CL (N M : Nat) (R : Nat → Nat) : cq_CL (2 ^ M) (cq_cl N M R) := by
  have hx : ∀ s, s < 2 ^ M → cq_sub s (cq_cl N M R s) := fun s hs => cq_sub_i.mpr fun i hi => (cq_cl_i N M R s i).mpr ⟨cq_bit_lt hs hi, fun g _ hsub => cq_sub_i.mp hsub i hi⟩
  have hm : ∀ s t, cq_sub s t → cq_sub (cq_cl N M R s) (cq_cl N M R t) := fun s t h => cq_sub_i.mpr fun i hi => by
    rw [cq_cl_i] at hi ⊢
    exact ⟨hi.1, fun g hg ht => hi.2 g hg (cq_sub_tr h ht)⟩
  refine ⟨fun s _ => cq_cl_lt N M R s, hx, fun s t _ _ h => hm s t h, fun s hs => ?_⟩
  refine cq_sub_as (cq_sub_i.mpr fun i hi => ?_) (hx _ (cq_cl_lt N M R s))
  rw [cq_cl_i] at hi ⊢
  refine ⟨hi.1, fun g hg h => hi.2 g hg (cq_sub_i.mpr fun j hj => ?_)⟩
  exact ((cq_cl_i N M R s j).mp hj).2 g hg h
/-- X's 'follows' against Y's -/
theorem cq_fol {N M : Nat} {R : Nat → Nat} {p q : Nat} (hq : q < 2 ^ M) : cq_sub q (cq_cl N M R p) ↔ ∀ g, g < N → cq_sub p (R g) → cq_sub q (R g) := by
  rw [cq_sub_i]
  constructor
  · intro h g hg hp
    exact cq_sub_i.mpr fun i hi => ((cq_cl_i N M R p i).mp (h i hi)).2 g hg hp
  · intro h i hi
    exact (cq_cl_i N M R p i).mpr ⟨cq_bit_lt hq hi, fun g hg hp => cq_sub_i.mp (h g hg hp) i hi⟩
end
section
/-! ===== the least set of a family after a set: by the highest attribute that differs ===== -/
def cq_Lst (P : Nat → Prop) (n x y : Nat) : Prop := y < n ∧ P y ∧ cq_sub x y ∧ ∀ z, z < n → P z → cq_sub x z → cq_sub y z
def cq_Nxt (P : Nat → Prop) (n set y : Nat) : Prop := y < n ∧ P y ∧ set < y ∧ ∀ z, z < n → P z → set < z → y ≤ z
def cq_Iv (P : Nat → Prop) (n set a : Nat) : Prop := ∀ z, z < n → P z → set < z → set / 2 ^ a < z / 2 ^ a
theorem cq_dd (s a : Nat) : s / 2 ^ (a + 1) = s / 2 ^ a / 2 := by rw [Nat.pow_succ, Nat.div_div_eq_div_mul]
theorem cq_iv0 {P : Nat → Prop} {n set : Nat} : cq_Iv P n set 0 := fun z _ _ h => by rw [Nat.pow_zero, Nat.div_one, Nat.div_one]; exact h
theorem cq_iv_b {P : Nat → Prop} {n set a : Nat} (hb : set.testBit a = true) (I : cq_Iv P n set a) : cq_Iv P n set (a + 1) := fun z hz hP h => by
  have i := I z hz hP h
  rw [← cq_tb1] at hb
  rw [cq_dd, cq_dd]
  revert i hb
  generalize set / 2 ^ a = A
  generalize z / 2 ^ a = B
  intro i hb
  omega
theorem cq_above (z k : Nat) : cq_sub (z / 2 ^ k * 2 ^ k) z := cq_sub_i.mpr fun i hi => by
  rw [Nat.testBit_mul_two_pow, Nat.testBit_div_two_pow, Bool.and_eq_true, decide_eq_true_eq] at hi
  rw [← hi.2, Nat.sub_add_cancel hi.1]
theorem cq_above2 (z k : Nat) : z / 2 ^ k * 2 ^ k / 2 ^ k = z / 2 ^ k := Nat.mul_div_cancel _ (Nat.two_pow_pos k)
theorem cq_lst_q {P : Nat → Prop} {n set a y z : Nat} (hL : cq_Lst P n (set / 2 ^ (a + 1) * 2 ^ (a + 1) ||| 2 ^ a) y) (hz : z < n) (hP : P z) (e : set / 2 ^ (a + 1) = z / 2 ^ (a + 1)) (hb : z.testBit a = true) : cq_sub y z := by
  refine hL.2.2.2 z hz hP (cq_sub_or ?_ (cq_sub_p hb))
  rw [e]
  exact cq_above z _
theorem cq_lst_d {P : Nat → Prop} {n set a y : Nat} (hL : cq_Lst P n (set / 2 ^ (a + 1) * 2 ^ (a + 1) ||| 2 ^ a) y) : cq_sub (set / 2 ^ (a + 1)) (y / 2 ^ (a + 1)) ∧ y.testBit a = true := by
  have h := hL.2.2.1
  constructor
  · have := cq_sub_div (a + 1) (cq_sub_tr (cq_sub_orl _ _) h)
    rw [cq_above2] at this
    exact this
  · exact cq_sub_i.mp (cq_sub_tr (cq_sub_orr _ _) h) a Nat.testBit_two_pow_self
theorem cq_even {A B : Nat} (hA : ¬ A % 2 = 1) (h : A < B) (e : ¬ A / 2 < B / 2) : A / 2 = B / 2 ∧ B % 2 = 1 := by omega
theorem cq_iv_s {P : Nat → Prop} {n set a y : Nat} (hb : set.testBit a = false) (I : cq_Iv P n set a) (hL : cq_Lst P n (set / 2 ^ (a + 1) * 2 ^ (a + 1) ||| 2 ^ a) y) (hne : ¬ y / 2 ^ (a + 1) = set / 2 ^ (a + 1)) : cq_Iv P n set (a + 1) := fun z hz hP h => by
  have i := I z hz hP h
  apply Classical.byContradiction
  intro hc
  rw [cq_dd, cq_dd] at hc
  have hb2 : ¬ set / 2 ^ a % 2 = 1 := fun e => by rw [cq_tb1.mp e] at hb; exact absurd hb (by decide)
  obtain ⟨e, o⟩ := cq_even hb2 i hc
  rw [← cq_dd, ← cq_dd] at e
  have hs := cq_sub_div (a + 1) (cq_lst_q hL hz hP e (cq_tb1.mp o))
  rw [← e] at hs
  exact hne (cq_sub_as hs (cq_lst_d hL).1)
theorem cq_nxt_of {P : Nat → Prop} {n set a y : Nat} (hb : set.testBit a = false) (I : cq_Iv P n set a) (hL : cq_Lst P n (set / 2 ^ (a + 1) * 2 ^ (a + 1) ||| 2 ^ a) y) (he : y / 2 ^ (a + 1) = set / 2 ^ (a + 1)) : cq_Nxt P n set y := by
  have hb2 : ¬ set / 2 ^ a % 2 = 1 := fun e => by rw [cq_tb1.mp e] at hb; exact absurd hb (by decide)
  have hy : y / 2 ^ a % 2 = 1 := cq_tb1.mpr (cq_lst_d hL).2
  have lt_of : ∀ u w k : Nat, u / 2 ^ k < w / 2 ^ k → u < w := fun u w k h => Nat.lt_of_not_le fun z => by
    have := Nat.div_le_div_right (c := 2 ^ k) z
    omega
  refine ⟨hL.1, hL.2.1, ?_, fun z hz hP h => ?_⟩
  · apply lt_of set y a
    rw [cq_dd, cq_dd] at he
    revert hb2 hy he
    generalize set / 2 ^ a = A
    generalize y / 2 ^ a = B
    intro h1 h2 h3
    omega
  · have i := I z hz hP h
    by_cases hc : set / 2 ^ a / 2 < z / 2 ^ a / 2
    · rw [← cq_dd, ← cq_dd, ← he] at hc
      exact Nat.le_of_lt (lt_of y z (a + 1) hc)
    · obtain ⟨e, o⟩ := cq_even hb2 i hc
      rw [← cq_dd, ← cq_dd] at e
      exact cq_sub_le (cq_lst_q hL hz hP e (cq_tb1.mp o))
theorem cq_iv_e {P : Nat → Prop} {M set : Nat} (I : cq_Iv P (2 ^ M) set M) (hs : set < 2 ^ M - 1) (hP : P (2 ^ M - 1)) : False := by
  have hp := Nat.two_pow_pos M
  have i := I (2 ^ M - 1) (by omega) hP hs
  rw [Nat.div_eq_of_lt (a := 2 ^ M - 1) (by omega)] at i
  exact absurd i (Nat.not_lt_zero _)
/-- in Int32: the test of the step -/
theorem cq_qeq {y s k : Nat} : nI (y / 2 ^ k * 2 ^ k) = nI (s / 2 ^ k * 2 ^ k) → y < 2 ^ 31 → s < 2 ^ 31 → y / 2 ^ k = s / 2 ^ k := fun h hy hs => by
  rw [nI_eq (Nat.lt_of_le_of_lt (Nat.div_mul_le_self y _) hy) (Nat.lt_of_le_of_lt (Nat.div_mul_le_self s _) hs)] at h
  exact Nat.mul_right_cancel (Nat.two_pow_pos k) h
theorem cq_abv_lt {s a M : Nat} (hs : s < 2 ^ M) (ha : a < M) : (s / 2 ^ (a + 1) * 2 ^ (a + 1) ||| 2 ^ a) < 2 ^ M :=
  Nat.or_lt_two_pow (Nat.lt_of_le_of_lt (Nat.div_mul_le_self s _) hs) (Nat.pow_lt_pow_right (by decide) ha)
/-- the closure is the least closed set -/
theorem cq_lst_K {n x : Nat} {K : Nat → Nat} (hK : cq_CL n K) (hx : x < n) : cq_Lst (fun j => K j = j) n x (K x) :=
  ⟨hK.1 x hx, hK.2.2.2 x hx, hK.2.1 x hx, fun z hz hP h => by have := hK.2.2.1 x z hx hz h; rw [hP] at this; exact this⟩
theorem cq_K_full {M : Nat} {K : Nat → Nat} (hK : cq_CL (2 ^ M) K) : K (2 ^ M - 1) = 2 ^ M - 1 := by
  have hp := Nat.two_pow_pos M
  have a := hK.1 (2 ^ M - 1) (by omega)
  have b := cq_sub_le (hK.2.1 (2 ^ M - 1) (by omega))
  omega
theorem cq_K_0 {M : Nat} {K : Nat → Nat} (hK : cq_CL (2 ^ M) K) : ∀ z, z < 2 ^ M → K z = z → K 0 ≤ z := fun z hz h => by
  have := hK.2.2.1 0 z (Nat.two_pow_pos M) hz (cq_sub_0 z)
  rw [h] at this
  exact cq_sub_le this
/-! ===== pseudo-closed sets ===== -/
def cq_Ps (K : Nat → Nat) (j : Nat) : Prop := K j ≠ j ∧ ∀ q, (h : q < j) → cq_Ps K q → cq_sub q j → cq_sub (K q) j
termination_by j
decreasing_by exact h
def cq_F (K : Nat → Nat) (z : Nat) : Prop := ∀ q, q < z → cq_Ps K q → cq_sub q z → cq_sub (K q) z
theorem cq_Ps_i {K : Nat → Nat} {j : Nat} : cq_Ps K j ↔ K j ≠ j ∧ cq_F K j := by
  rw [cq_Ps]
  exact Iff.rfl
/-- the family under the rules up to b -/
def cq_G (K : Nat → Nat) (b z : Nat) : Prop := ∀ q, q < b → cq_Ps K q → cq_sub q z → q ≠ z → cq_sub (K q) z
theorem cq_F_G {K : Nat → Nat} {b z : Nat} (h : cq_F K z) : cq_G K b z := fun q _ hp hs hn => h q (by have := cq_sub_le hs; omega) hp hs
theorem cq_F_cl {n z : Nat} {K : Nat → Nat} (hK : cq_CL n K) (hz : z < n) (h : K z = z) : cq_F K z := fun q hq _ hs => by
  have := hK.2.2.1 q z (by omega) hz hs
  rw [h] at this
  exact this
theorem cq_G_nx {K : Nat → Nat} {n set y : Nat} (h : cq_Nxt (cq_G K (set + 1)) n set y) : cq_F K y ∧ ∀ j, set + 1 ≤ j → j < y → ¬ cq_Ps K j := by
  have no : ∀ j, set + 1 ≤ j → j < y → ¬ cq_Ps K j := fun j h1 h2 hp => by
    have := h.2.2.2 j (by have := h.1; omega) (cq_F_G (cq_Ps_i.mp hp).2) h1
    omega
  refine ⟨fun q hq hp hs => ?_, no⟩
  by_cases hc : q < set + 1
  · exact h.2.1 q hc hp hs (by omega)
  · exact absurd hp (no q (by omega) hq)
/-! ===== sizes ===== -/
def cq_sz (s : Nat) : Nat → Nat
  | 0 => 0
  | k + 1 => cq_sz s k + s / 2 ^ k % 2
theorem cq_sz_s (s k : Nat) : cq_sz s (k + 1) = cq_sz s k + s / 2 ^ k % 2 := rfl
theorem cq_sz_le (s k : Nat) : cq_sz s k ≤ k := by
  induction k with
  | zero => exact Nat.le_refl 0
  | succ k ih => rw [cq_sz_s]; generalize s / 2 ^ k = z; omega
theorem cq_m2 {x y i : Nat} (h : cq_sub x y) : x / 2 ^ i % 2 ≤ y / 2 ^ i % 2 := by
  cases hx : x.testBit i
  · rw [cq_tb0.mpr hx]; exact Nat.zero_le _
  · rw [cq_tb1.mpr hx, cq_tb1.mpr (cq_sub_i.mp h i hx)]; exact Nat.le_refl 1
theorem cq_sz_mono {x y : Nat} (h : cq_sub x y) (k : Nat) : cq_sz x k ≤ cq_sz y k := by
  induction k with
  | zero => exact Nat.le_refl 0
  | succ k ih => have := cq_m2 (i := k) h; rw [cq_sz_s, cq_sz_s]; omega
theorem cq_sz_lt {x y i : Nat} (h : cq_sub x y) (hx : x.testBit i = false) (hy : y.testBit i = true) (k : Nat) (hi : i < k) : cq_sz x k < cq_sz y k := by
  induction k with
  | zero => exact absurd hi (Nat.not_lt_zero i)
  | succ k ih =>
    rw [cq_sz_s, cq_sz_s]
    by_cases e : i = k
    · subst e
      have := cq_sz_mono h i
      rw [cq_tb0.mpr hx, cq_tb1.mpr hy]
      omega
    · have := ih (by omega)
      have := cq_m2 (i := k) h
      omega
theorem cq_pick {x y : Nat} (h : cq_sub x y) (hn : x ≠ y) : ∃ i, x.testBit i = false ∧ y.testBit i = true := by
  obtain ⟨i, hi⟩ := Nat.exists_testBit_ne_of_ne hn
  refine ⟨i, ?_⟩
  cases hx : x.testBit i
  · cases hy : y.testBit i
    · rw [hx, hy] at hi; exact absurd rfl hi
    · exact ⟨rfl, rfl⟩
  · rw [hx, cq_sub_i.mp h i hx] at hi; exact absurd rfl hi
theorem cq_sz_ss {x y k : Nat} (h : cq_sub x y) (hn : x ≠ y) (hy : y < 2 ^ k) : cq_sz x k < cq_sz y k := by
  obtain ⟨i, h1, h2⟩ := cq_pick h hn
  exact cq_sz_lt h h1 h2 k (cq_bit_lt hy h2)
theorem cq_sz_top {s M : Nat} (hs : s < 2 ^ M) (d : Nat) : cq_sz s (M + d) = cq_sz s M := by
  induction d with
  | zero => rfl
  | succ d ih =>
    rw [← Nat.add_assoc, cq_sz_s, ih, Nat.div_eq_of_lt (Nat.lt_of_lt_of_le hs (Nat.pow_le_pow_right (by decide) (by omega)))]
    rfl
theorem cq_sz_M {s M k : Nat} (hs : s < 2 ^ M) (hk : M ≤ k) : cq_sz s k = cq_sz s M := by
  obtain ⟨d, rfl⟩ : ∃ d, k = M + d := ⟨k - M, by omega⟩
  exact cq_sz_top hs d
/-! ===== the closure under a list of rules ===== -/
def cq_GL (pc : Nat) (P E : Nat → Nat) (z : Nat) : Prop := ∀ i, i < pc → cq_sub (P i) z → P i ≠ z → cq_sub (E i) z
def cq_ur (P E : Nat → Nat) (r : Nat) : Nat → Nat
  | 0 => r
  | i + 1 => if cq_sub (P i) (cq_ur P E r i) ∧ P i ≠ cq_ur P E r i then cq_ur P E r i ||| E i else cq_ur P E r i
theorem cq_ur_t {P E : Nat → Nat} {r i : Nat} (h : cq_sub (P i) (cq_ur P E r i)) (h2 : P i ≠ cq_ur P E r i) : cq_ur P E r (i + 1) = cq_ur P E r i ||| E i := if_pos ⟨h, h2⟩
theorem cq_ur_f {P E : Nat → Nat} {r i : Nat} (h : ¬ (cq_sub (P i) (cq_ur P E r i) ∧ P i ≠ cq_ur P E r i)) : cq_ur P E r (i + 1) = cq_ur P E r i := if_neg h
theorem cq_ur_st (P E : Nat → Nat) (r i : Nat) : cq_sub (cq_ur P E r i) (cq_ur P E r (i + 1)) := by
  by_cases h : cq_sub (P i) (cq_ur P E r i) ∧ P i ≠ cq_ur P E r i
  · rw [cq_ur_t h.1 h.2]; exact cq_sub_orl _ _
  · rw [cq_ur_f h]; exact cq_sub_rfl _
theorem cq_ur_ad (P E : Nat → Nat) (r i d : Nat) : cq_sub (cq_ur P E r i) (cq_ur P E r (i + d)) := by
  induction d with
  | zero => exact cq_sub_rfl _
  | succ d ih => exact cq_sub_tr ih (cq_ur_st P E r (i + d))
theorem cq_ur_mo (P E : Nat → Nat) (r : Nat) {i j : Nat} (h : i ≤ j) : cq_sub (cq_ur P E r i) (cq_ur P E r j) := by
  obtain ⟨d, rfl⟩ : ∃ d, j = i + d := ⟨j - i, by omega⟩
  exact cq_ur_ad P E r i d
theorem cq_ur_lt {P E : Nat → Nat} {r M pc : Nat} (hr : r < 2 ^ M) (hE : ∀ i, i < pc → E i < 2 ^ M) : ∀ i, i ≤ pc → cq_ur P E r i < 2 ^ M := by
  intro i
  induction i with
  | zero => intro _; exact hr
  | succ i ih =>
    intro hi
    by_cases h : cq_sub (P i) (cq_ur P E r i) ∧ P i ≠ cq_ur P E r i
    · rw [cq_ur_t h.1 h.2]; exact Nat.or_lt_two_pow (ih (by omega)) (hE i (by omega))
    · rw [cq_ur_f h]; exact ih (by omega)
theorem cq_ur_min {P E : Nat → Nat} {r z pc : Nat} (hz : cq_GL pc P E z) (hr : cq_sub r z) : ∀ i, i ≤ pc → cq_sub (cq_ur P E r i) z := by
  intro i
  induction i with
  | zero => intro _; exact hr
  | succ i ih =>
    intro hi
    by_cases h : cq_sub (P i) (cq_ur P E r i) ∧ P i ≠ cq_ur P E r i
    · rw [cq_ur_t h.1 h.2]
      have i1 := ih (by omega)
      refine cq_sub_or i1 (hz i (by omega) (cq_sub_tr h.1 i1) fun e => h.2 ?_)
      rw [← e] at i1
      exact cq_sub_as h.1 i1
    · rw [cq_ur_f h]; exact ih (by omega)
theorem cq_ur_fix {P E : Nat → Nat} {r pc : Nat} (h : cq_ur P E r pc = r) : cq_GL pc P E r := by
  intro i hi hs hn
  have e1 : cq_ur P E r i = r := by
    have a := cq_ur_mo P E r (i := i) (j := pc) (by omega)
    rw [h] at a
    exact cq_sub_as a (cq_ur_mo P E r (i := 0) (j := i) (by omega))
  have e2 : cq_ur P E r (i + 1) = r := by
    have a := cq_ur_mo P E r (i := i + 1) (j := pc) (by omega)
    rw [h] at a
    exact cq_sub_as a (cq_ur_mo P E r (i := 0) (j := i + 1) (by omega))
  rw [cq_ur_t (by rw [e1]; exact hs) (by rw [e1]; exact hn), e1] at e2
  exact cq_sub_of_or e2
end
section
/-! ===== covers ===== -/
def cq_lea (K : Nat → Nat) (M c a : Nat) : Prop := ∀ b, b < M → (K (c ||| 2 ^ a)).testBit b = true → c.testBit b = false → K (c ||| 2 ^ b) = K (c ||| 2 ^ a) ∧ a ≤ b
def cq_cov (K : Nat → Nat) (M c a : Nat) : Prop := c.testBit a = false ∧ cq_lea K M c a
def cq_bet (K : Nat → Nat) (n c d : Nat) : Prop := ∃ e, e < n ∧ K e = e ∧ (c ≠ e ∧ cq_sub c e) ∧ (e ≠ d ∧ cq_sub e d)
def cq_ovr (K : Nat → Nat) (n c d : Nat) : Prop := K d = d ∧ (c ≠ d ∧ cq_sub c d) ∧ ¬ cq_bet K n c d
theorem cq_lst_least (P : Nat → Prop) (h : ∃ k, P k) : ∃ k, P k ∧ ∀ j, j < k → ¬ P j := by
  obtain ⟨k, hk⟩ := h
  induction k using Nat.strongRecOn with
  | ind k ih =>
    by_cases h : ∃ j, j < k ∧ P j
    · obtain ⟨j, a, b⟩ := h; exact ih j a b
    · exact ⟨k, hk, fun j a b => h ⟨j, a, b⟩⟩
section
variable {M : Nat} {K : Nat → Nat}
theorem cq_cu_lt {c a : Nat} (hc : c < 2 ^ M) (ha : a < M) : (c ||| 2 ^ a) < 2 ^ M := Nat.or_lt_two_pow hc (Nat.pow_lt_pow_right (by decide) ha)
theorem cq_cu_bit (hK : cq_CL (2 ^ M) K) {c a : Nat} (hc : c < 2 ^ M) (ha : a < M) : (K (c ||| 2 ^ a)).testBit a = true :=
  cq_sub_i.mp (cq_sub_tr (cq_sub_orr c (2 ^ a)) (hK.2.1 _ (cq_cu_lt hc ha))) a Nat.testBit_two_pow_self
theorem cq_cu_sub (hK : cq_CL (2 ^ M) K) {c a : Nat} (hc : c < 2 ^ M) (ha : a < M) : cq_sub c (K (c ||| 2 ^ a)) :=
  cq_sub_tr (cq_sub_orl c (2 ^ a)) (hK.2.1 _ (cq_cu_lt hc ha))
theorem cq_cu_min (hK : cq_CL (2 ^ M) K) {c a d : Nat} (hc : c < 2 ^ M) (hd : d < 2 ^ M) (hk : K d = d) (hs : cq_sub c d) (hb : d.testBit a = true) : cq_sub (K (c ||| 2 ^ a)) d := by
  have := hK.2.2.1 _ d (cq_cu_lt hc (cq_bit_lt hd hb)) hd (cq_sub_or hs (cq_sub_p hb))
  rw [hk] at this
  exact this
theorem cq_nbit {c d a : Nat} (h : c.testBit a = false) (h2 : d.testBit a = true) : c ≠ d := fun e => by
  rw [e, h2] at h
  exact absurd h (by decide)
theorem cq_ovr_eq (hK : cq_CL (2 ^ M) K) {c d b : Nat} (hc : c < 2 ^ M) (hd : d < 2 ^ M) (ho : cq_ovr K (2 ^ M) c d) (h1 : c.testBit b = false) (h2 : d.testBit b = true) : K (c ||| 2 ^ b) = d := by
  have hb : b < M := cq_bit_lt hd h2
  have hs := cq_cu_min hK hc hd ho.1 ho.2.1.2 h2
  apply Classical.byContradiction
  intro hn
  exact ho.2.2 ⟨K (c ||| 2 ^ b), hK.1 _ (cq_cu_lt hc hb), hK.2.2.2 _ (cq_cu_lt hc hb), ⟨cq_nbit h1 (cq_cu_bit hK hc hb), cq_cu_sub hK hc hb⟩, hn, hs⟩
theorem cq_cov_ovr (hK : cq_CL (2 ^ M) K) {c a : Nat} (hc : c < 2 ^ M) (ha : a < M) (h : cq_cov K M c a) : cq_ovr K (2 ^ M) c (K (c ||| 2 ^ a)) := by
  refine ⟨hK.2.2.2 _ (cq_cu_lt hc ha), ⟨cq_nbit h.1 (cq_cu_bit hK hc ha), cq_cu_sub hK hc ha⟩, ?_⟩
  rintro ⟨e, he, hke, ⟨h1, h2⟩, h3, h4⟩
  obtain ⟨b, b1, b2⟩ := cq_pick h2 h1
  have := (h.2 b (cq_bit_lt he b2) (cq_sub_i.mp h4 b b2) b1).1
  have m := cq_cu_min hK hc he hke h2 b2
  rw [this] at m
  exact h3 (cq_sub_as h4 m)
theorem cq_ovr_cov (hK : cq_CL (2 ^ M) K) {c d : Nat} (hc : c < 2 ^ M) (hd : d < 2 ^ M) (ho : cq_ovr K (2 ^ M) c d) : ∃ a, a < M ∧ cq_cov K M c a ∧ K (c ||| 2 ^ a) = d := by
  obtain ⟨a, ⟨a1, a2⟩, am⟩ := cq_lst_least (fun i => c.testBit i = false ∧ d.testBit i = true) (cq_pick ho.2.1.2 ho.2.1.1)
  have e := cq_ovr_eq hK hc hd ho a1 a2
  refine ⟨a, cq_bit_lt hd a2, ⟨a1, fun b hb h1 h2 => ?_⟩, e⟩
  rw [e] at h1 ⊢
  exact ⟨cq_ovr_eq hK hc hd ho h2 h1, Nat.le_of_not_lt fun z => am b z ⟨h2, h1⟩⟩
theorem cq_covers (hK : cq_CL (2 ^ M) K) {c : Nat} (hc : c < 2 ^ M) : cq_cn (cq_cov K M c) M = cq_cn (cq_ovr K (2 ^ M) c) (2 ^ M) := by
  apply Nat.le_antisymm
  · refine cq_cn_inle (fun a => K (c ||| 2 ^ a)) (fun a ha h => ⟨hK.1 _ (cq_cu_lt hc ha), cq_cov_ovr hK hc ha h⟩) ?_
    intro a b ha hb h1 h2 e
    have x := (h1.2 b hb (by rw [e]; exact cq_cu_bit hK hc hb) h2.1).2
    have y := (h2.2 a ha (by rw [← e]; exact cq_cu_bit hK hc ha) h1.1).2
    omega
  · have H : ∀ d, ∃ a, d < 2 ^ M → cq_ovr K (2 ^ M) c d → a < M ∧ cq_cov K M c a ∧ K (c ||| 2 ^ a) = d := fun d => by
      by_cases h : d < 2 ^ M ∧ cq_ovr K (2 ^ M) c d
      · obtain ⟨a, ha⟩ := cq_ovr_cov hK hc h.1 h.2
        exact ⟨a, fun _ _ => ha⟩
      · exact ⟨0, fun h1 h2 => absurd ⟨h1, h2⟩ h⟩
    have S : ∀ d, d < 2 ^ M → cq_ovr K (2 ^ M) c d → Classical.choose (H d) < M ∧ cq_cov K M c (Classical.choose (H d)) ∧ K (c ||| 2 ^ Classical.choose (H d)) = d := fun d => Classical.choose_spec (H d)
    refine cq_cn_inle (fun d => Classical.choose (H d)) (fun d hd h => ⟨(S d hd h).1, (S d hd h).2.1⟩) ?_
    intro d d' hd hd' h h' e
    rw [← (S d hd h).2.2, ← (S d' hd' h').2.2, e]
end
/-! ===== least generators ===== -/
theorem cq_part : ∀ (p g s : Nat), cq_sub p g → cq_sub s g → s < p → s ≤ (p - 1) &&& g := by
  intro p
  induction p using Nat.strongRecOn with
  | ind p ih =>
    intro g s hp hs hlt
    have hpd : cq_sub (p / 2) (g / 2) := by have := cq_sub_div 1 hp; rw [Nat.pow_one] at this; exact this
    have hsd : cq_sub (s / 2) (g / 2) := by have := cq_sub_div 1 hs; rw [Nat.pow_one] at this; exact this
    have hs2 : s % 2 ≤ g % 2 := by have := cq_m2 (i := 0) hs; rw [Nat.pow_zero, Nat.div_one, Nat.div_one] at this; exact this
    have hr : ∀ x : Nat, (x &&& g) / 2 = x / 2 &&& g / 2 := fun x => Nat.and_div_two
    have hm : ∀ x : Nat, x % 2 = 1 → (x &&& g) % 2 = g % 2 := fun x hx => by
      by_cases hg : g % 2 = 1
      · rw [hg]; exact Nat.and_mod_two_eq_one.mpr ⟨hx, hg⟩
      · have : ¬ (x &&& g) % 2 = 1 := fun z => hg (Nat.and_mod_two_eq_one.mp z).2
        omega
    by_cases hb : p % 2 = 1
    · have e : (p - 1) / 2 = p / 2 := by omega
      have h2 := hr (p - 1)
      rw [e, hpd] at h2
      omega
    · have i := ih (p / 2) (by omega) (g / 2) (s / 2) hpd hsd (by omega)
      have e : (p - 1) / 2 = p / 2 - 1 := by omega
      have h2 := hr (p - 1)
      have h3 := hm (p - 1) (by omega)
      rw [e] at h2
      rw [← h2] at i
      omega
def cq_Gs (K : Nat → Nat) (n goal y : Nat) : Prop := (∃ s, s < n ∧ K s = goal ∧ cq_sz s 7 = y) ∧ ∀ s, s < n → K s = goal → y ≤ cq_sz s 7
theorem cq_Gs_u {K : Nat → Nat} {n goal y z : Nat} (h : cq_Gs K n goal y) (h2 : cq_Gs K n goal z) : y = z := by
  obtain ⟨⟨s, a, b, c⟩, d⟩ := h
  obtain ⟨⟨t, a', b', c'⟩, d'⟩ := h2
  have := d t a' b'
  have := d' s a b
  omega
theorem cq_Gs_of {K : Nat → Nat} {n goal y B : Nat} (h1 : y = B ∨ ∃ s, s < n ∧ K s = goal ∧ cq_sz s 7 = y) (h2 : ∀ s, s < n → K s = goal → y ≤ cq_sz s 7) (hg : goal < n) (hk : K goal = goal) (hB : cq_sz goal 7 ≤ B) : cq_Gs K n goal y := by
  refine ⟨?_, h2⟩
  rcases h1 with rfl | h
  · exact ⟨goal, hg, hk, Nat.le_antisymm hB (h2 goal hg hk)⟩
  · exact h
/-! ===== dispensable ===== -/
def cq_Di (K : Nat → Nat) (n a : Nat) : Prop := ∃ j, j < n ∧ K j = j ∧ j.testBit a = false ∧ K (j ||| 2 ^ a) = j ||| 2 ^ a
theorem cq_xor_f {j a : Nat} (h : j.testBit a = false) : j ^^^ 2 ^ a = j ||| 2 ^ a := by
  apply Nat.eq_of_testBit_eq
  intro i
  rw [Nat.testBit_xor, Nat.testBit_or, Nat.testBit_two_pow]
  by_cases e : a = i
  · subst e; rw [h, decide_eq_true rfl]; rfl
  · rw [decide_eq_false e]; cases j.testBit i <;> rfl
theorem cq_Di_y {K : Nat → Nat} {M a : Nat} (ha : a < M) : cq_Di K (2 ^ M) a ↔ ∃ j, j < 2 ^ M ∧ K j = j ∧ K (j ^^^ 2 ^ a) = j ^^^ 2 ^ a := by
  constructor
  · rintro ⟨j, h1, h2, h3, h4⟩
    exact ⟨j, h1, h2, by rw [cq_xor_f h3]; exact h4⟩
  · rintro ⟨j, h1, h2, h3⟩
    cases hb : j.testBit a
    · rw [cq_xor_f hb] at h3
      exact ⟨j, h1, h2, hb, h3⟩
    · have hb2 : (j ^^^ 2 ^ a).testBit a = false := by rw [Nat.testBit_xor, hb, Nat.testBit_two_pow_self]; rfl
      have e : (j ^^^ 2 ^ a) ||| 2 ^ a = j := by rw [← cq_xor_f hb2, Nat.xor_assoc, Nat.xor_self, Nat.xor_zero]
      exact ⟨j ^^^ 2 ^ a, Nat.xor_lt_two_pow h1 (Nat.pow_lt_pow_right (by decide) ha), h3, hb2, by rw [e]; exact h2⟩
theorem cq_or_ne {j a : Nat} : (j ||| 2 ^ a) = j ↔ j.testBit a = true := by
  constructor
  · intro h
    have := cq_sub_of_or h
    exact cq_sub_i.mp this a Nat.testBit_two_pow_self
  · intro h; exact cq_or_sub (cq_sub_p h)
/-! ===== heights ===== -/
noncomputable def cq_hs (K : Nat → Nat) : Nat → Nat → Nat
  | 0 => fun _ => 0
  | d + 1 => fun j => if j = d then (if K d = d then cq_fo (fun c => K c = c) (fun v c => if cq_sub c d ∧ v ≤ cq_hs K d c then cq_hs K d c + 1 else v) 1 d else 0) else cq_hs K d j
noncomputable def cq_h (K : Nat → Nat) (j : Nat) : Nat := cq_hs K (j + 1) j
def cq_hst (h : Nat → Nat) (d : Nat) : Nat → Nat → Nat := fun v c => if cq_sub c d ∧ v ≤ h c then h c + 1 else v
theorem cq_hs_h (K : Nat → Nat) : ∀ d c, c < d → cq_hs K d c = cq_h K c := by
  intro d
  induction d with
  | zero => intro c h; exact absurd h (Nat.not_lt_zero c)
  | succ d ih =>
    intro c h
    by_cases e : c = d
    · subst e; rfl
    · have : cq_hs K (d + 1) c = cq_hs K d c := if_neg e
      rw [this]; exact ih c (by omega)
theorem cq_fo_cg {σ : Type} {p : Nat → Prop} {st st' : σ → Nat → σ} {s : σ} (d : Nat) (h : ∀ v c, c < d → st v c = st' v c) : cq_fo p st s d = cq_fo p st' s d := by
  induction d with
  | zero => rfl
  | succ d ih =>
    have i := ih fun v c hc => h v c (by omega)
    by_cases hp : p d
    · rw [cq_fo_t hp, cq_fo_t hp, i, h _ d (by omega)]
    · rw [cq_fo_f hp, cq_fo_f hp, i]
theorem cq_h_t {K : Nat → Nat} {d : Nat} (hd : K d = d) : cq_h K d = cq_fo (fun c => K c = c) (cq_hst (cq_h K) d) 1 d := by
  have e : cq_h K d = cq_fo (fun c => K c = c) (fun v c => if cq_sub c d ∧ v ≤ cq_hs K d c then cq_hs K d c + 1 else v) 1 d := (if_pos rfl).trans (if_pos hd)
  rw [e]
  refine cq_fo_cg d fun v c hc => ?_
  rw [cq_hs_h K d c hc]
  rfl
theorem cq_hst_t {h : Nat → Nat} {d v c : Nat} (h1 : cq_sub c d) (h2 : v ≤ h c) : cq_hst h d v c = h c + 1 := if_pos ⟨h1, h2⟩
theorem cq_hst_f {h : Nat → Nat} {d v c : Nat} (h1 : ¬ (cq_sub c d ∧ v ≤ h c)) : cq_hst h d v c = v := if_neg h1
theorem cq_fo_inv {σ : Type} {p : Nat → Prop} {st : σ → Nat → σ} {s : σ} (I : Nat → σ → Prop) (d : Nat) (h0 : I 0 s) (hs : ∀ c v, c < d → I c v → p c → I (c + 1) (st v c)) (hn : ∀ c v, c < d → I c v → I (c + 1) v) : I d (cq_fo p st s d) := by
  induction d with
  | zero => exact h0
  | succ d ih =>
    have i := ih (fun c v hc => hs c v (by omega)) (fun c v hc => hn c v (by omega))
    by_cases hp : p d
    · rw [cq_fo_t hp]; exact hs d _ (by omega) i hp
    · rw [cq_fo_f hp]; exact hn d _ (by omega) i
theorem cq_h_le (K : Nat → Nat) : ∀ d, K d = d → cq_h K d ≤ d + 1 := by
  intro d
  induction d using Nat.strongRecOn with
  | ind d ih =>
    intro hd
    rw [cq_h_t hd]
    refine cq_fo_inv (fun c v => v ≤ c + 1) d (Nat.le_refl 1) (fun c v hc i hp => ?_) (fun c v hc i => by omega)
    by_cases h : cq_sub c d ∧ v ≤ cq_h K c
    · rw [cq_hst_t h.1 h.2]; have := ih c hc hp; omega
    · rw [cq_hst_f h]; omega
theorem cq_hv_le (K : Nat → Nat) (d : Nat) : ∀ q, cq_fo (fun c => K c = c) (cq_hst (cq_h K) d) 1 q ≤ q + 1 := fun q => by
  refine cq_fo_inv (fun c v => v ≤ c + 1) q (Nat.le_refl 1) (fun c v hc i hp => ?_) (fun c v hc i => by omega)
  by_cases h : cq_sub c d ∧ v ≤ cq_h K c
  · rw [cq_hst_t h.1 h.2]; have := cq_h_le K c hp; omega
  · rw [cq_hst_f h]; omega
def cq_mst (h : Nat → Nat) : Nat → Nat → Nat := fun m j => if h j ≤ m then m else h j
theorem cq_mst_t {h : Nat → Nat} {m j : Nat} (e : h j ≤ m) : cq_mst h m j = m := if_pos e
theorem cq_mst_f {h : Nat → Nat} {m j : Nat} (e : ¬ h j ≤ m) : cq_mst h m j = h j := if_neg e
theorem cq_ms_le (K : Nat → Nat) : ∀ q, cq_fo (fun c => K c = c) (cq_mst (cq_h K)) 0 q ≤ q + 1 := fun q => by
  refine cq_fo_inv (fun c v => v ≤ c + 1) q (Nat.zero_le _) (fun c v hc i hp => ?_) (fun c v hc i => by omega)
  by_cases h : cq_h K c ≤ v
  · rw [cq_mst_t h]; omega
  · rw [cq_mst_f h]; have := cq_h_le K c hp; omega
end
section
/-! ===== X: extents, intents, closures, tests, the step to the next closed set ===== -/
theorem cq_p7 {M : Nat} (h : M ≤ 7) : 2 ^ M ≤ 128 := Nat.pow_le_pow_right (n := 2) (j := 7) (by decide) h
theorem cq_p8 {M : Nat} (h : M ≤ 8) : 2 ^ M ≤ 256 := Nat.pow_le_pow_right (n := 2) (j := 8) (by decide) h
def cq_XT (N M : Nat) (R : Nat → Nat) (ro co : Nat → Int32) : Prop := (1 ≤ N ∧ N ≤ 8) ∧ (2 ≤ M ∧ M ≤ 7) ∧ (∀ g, R g < 2 ^ M) ∧ (∀ g, ro g = nI (R g)) ∧ ∃ C : Nat → Nat, ∀ a, a < M → co a = nI (C a) ∧ C a < 256 ∧ ∀ g, g < N → (C a).testBit g = (R g).testBit a
section
variable {N M : Nat} {R : Nat → Nat} {cc pc cu : Int32} {ro co cs ps pe lv : Nat → Int32}
theorem cq_xe {C : Nat → Nat} {s A : Nat} {post : Int32 → Prop} (hM : M ≤ 7) (hC : ∀ a, a < M → co a = nI (C a)) (hs : s < 2 ^ 31) (hp : post (nI (cq_shr C A s M))) : ∀ d k, k + d = M → wX_extentOf_11 post (nI s) (nI N) (nI M) cc pc cu ro co cs ps pe lv (d + 1) (nI (cq_shr C A s k)) (nI k) := by
  intro d
  induction d with
  | zero =>
    intro k hk
    have e : k = M := by omega
    rw [e]
    exact pk_le M M (fun _ => hp) (fun h => absurd h (Nat.lt_irrefl _))
  | succ d ih =>
    intro k hk
    refine pk_le M k (fun h => absurd h (by omega)) (fun _ => ?_)
    have i := ih (k + 1) (by omega)
    by_cases hb : s.testBit k = true
    · refine br_t ((cq_bit1 hs (by omega)).mpr hb) ⟨vp_in_nI (by omega) (by decide), nm_r (e' := nI (cq_shr C A s (k + 1))) ?_ (nm_r (nI_1 k) i)⟩
      have e : cq_shr C A s (k + 1) = cq_shr C A s k &&& C k := if_pos hb
      rw [nI_clamp (by omega), hC k (by omega), nx_and, e]
    · have e : cq_shr C A s (k + 1) = cq_shr C A s k := if_neg hb
      rw [e] at i
      exact br_f (fun z => hb ((cq_bit1 hs (by omega)).mp z)) (nm_r (nI_1 k) i)
theorem cq_xi {e A : Nat} {post : Int32 → Prop} (hN : N ≤ 8) (hr : ∀ g, ro g = nI (R g)) (he : e < 2 ^ 31) (hp : post (nI (cq_shr R A e N))) : ∀ d k, k + d = N → wX_intentOf_11 post (nI e) (nI N) (nI M) cc pc cu ro co cs ps pe lv (d + 1) (nI (cq_shr R A e k)) (nI k) := by
  intro d
  induction d with
  | zero =>
    intro k hk
    have e : k = N := by omega
    rw [e]
    exact pk_le N N (fun _ => hp) (fun h => absurd h (Nat.lt_irrefl _))
  | succ d ih =>
    intro k hk
    refine pk_le N k (fun h => absurd h (by omega)) (fun _ => ?_)
    have i := ih (k + 1) (by omega)
    by_cases hb : e.testBit k = true
    · refine br_t ((cq_bit1 he (by omega)).mpr hb) ⟨vp_in_nI (by omega) (by decide), nm_r (e' := nI (cq_shr R A e (k + 1))) ?_ (nm_r (nI_1 k) i)⟩
      have e2 : cq_shr R A e (k + 1) = cq_shr R A e k &&& R k := if_pos hb
      rw [nI_clamp (by omega), hr k, nx_and, e2]
    · have e2 : cq_shr R A e (k + 1) = cq_shr R A e k := if_neg hb
      rw [e2] at i
      exact br_f (fun z => hb ((cq_bit1 he (by omega)).mp z)) (nm_r (nI_1 k) i)
theorem cq_xext (T : cq_XT N M R ro co) {s : Nat} {post : Int32 → Prop} (hs : s < 2 ^ M) (hp : post (nI (cq_hav R s N))) : wpX_extentOf post (nI N, nI M, cc, pc, cu, ro, co, cs, ps, pe, lv) (nI s) := by
  obtain ⟨⟨hN1, hN8⟩, ⟨hM2, hM7⟩, hR, hr, C, hC⟩ := T
  have h7 := cq_p7 hM7
  unfold wpX_extentOf
  dsimp only
  refine nm_r (cq_full N (by omega)) ⟨M + 1, ?_⟩
  have q : post (nI (cq_shr C (2 ^ N - 1) s M)) := by
    rw [cq_ext_eq hs fun a ha => (hC a ha).2.2]
    exact hp
  exact cq_xe (A := 2 ^ N - 1) hM7 (fun a ha => (hC a ha).1) (by omega) q M 0 (by omega)
theorem cq_xint (T : cq_XT N M R ro co) {e : Nat} {post : Int32 → Prop} (he : e < 2 ^ 31) (hp : post (nI (cq_shr R (2 ^ M - 1) e N))) : wpX_intentOf post (nI N, nI M, cc, pc, cu, ro, co, cs, ps, pe, lv) (nI e) := by
  obtain ⟨⟨hN1, hN8⟩, ⟨hM2, hM7⟩, hR, hr, C, hC⟩ := T
  unfold wpX_intentOf
  dsimp only
  refine nm_r (cq_full M (by omega)) ⟨N + 1, ?_⟩
  exact cq_xi (A := 2 ^ M - 1) hN8 hr he hp N 0 (by omega)
theorem cq_hav31 {s : Nat} (hN : N ≤ 8) : cq_hav R s N < 2 ^ 31 := by
  have := cq_hav_lt R s N
  have := cq_p8 hN
  omega
theorem cq_xcl (T : cq_XT N M R ro co) {s : Nat} {post : Int32 → Prop} (hs : s < 2 ^ M) (hp : post (nI (cq_cl N M R s))) : wpX_closed post (nI N, nI M, cc, pc, cu, ro, co, cs, ps, pe, lv) (nI s) := by
  unfold wpX_closed
  dsimp only
  exact cq_xext T hs (cq_xint T (cq_hav31 T.1.2) hp)
theorem cq_xclE (T : cq_XT N M R ro co) {s : Nat} {x : Int32} {post : Int32 → Prop} (hx : x = nI s) (hs : s < 2 ^ M) (hp : post (nI (cq_cl N M R s))) : wpX_closed post (nI N, nI M, cc, pc, cu, ro, co, cs, ps, pe, lv) x := by
  rw [hx]
  exact cq_xcl T hs hp
/-! tests -/
theorem cq_xob1 {g : Nat} {post : Int32 → Prop} (hN : N ≤ 8) (hg : g < N) (hp : post 1) : wpX_isObject post (nI N, nI M, cc, pc, cu, ro, co, cs, ps, pe, lv) (nI g) :=
  br_f (nI_pos (by omega)) (br_f (nI_ge hg (by omega)) hp)
theorem cq_xob0 {x : Int32} {post : Int32 → Prop} (hx : x < 0 ∨ nI N ≤ x) (hp : post 0) : wpX_isObject post (nI N, nI M, cc, pc, cu, ro, co, cs, ps, pe, lv) x := by
  by_cases h : x < 0
  · exact br_t h hp
  · exact br_f h (br_t (hx.resolve_left h) hp)
theorem cq_xat1 {g : Nat} {post : Int32 → Prop} (hN : M ≤ 7) (hg : g < M) (hp : post 1) : wpX_isAttribute post (nI N, nI M, cc, pc, cu, ro, co, cs, ps, pe, lv) (nI g) :=
  br_f (nI_pos (by omega)) (br_f (nI_ge hg (by omega)) hp)
theorem cq_xat0 {x : Int32} {post : Int32 → Prop} (hx : x < 0 ∨ nI M ≤ x) (hp : post 0) : wpX_isAttribute post (nI N, nI M, cc, pc, cu, ro, co, cs, ps, pe, lv) x := by
  by_cases h : x < 0
  · exact br_t h hp
  · exact br_f h (br_t (hx.resolve_left h) hp)
theorem cq_xse1 {s : Nat} {post : Int32 → Prop} (hM : M ≤ 7) (hs : s < 2 ^ M) (hp : post 1) : wpX_isSet post (nI N, nI M, cc, pc, cu, ro, co, cs, ps, pe, lv) (nI s) := by
  have h7 := cq_p7 hM
  unfold wpX_isSet
  dsimp only
  rw [cq_shl (by omega)]
  exact br_f (nI_pos (by omega)) (br_f (nI_ge hs (by omega)) hp)
theorem cq_xse0 {x : Int32} {post : Int32 → Prop} (hM : M ≤ 7) (hx : x < 0 ∨ nI (2 ^ M) ≤ x) (hp : post 0) : wpX_isSet post (nI N, nI M, cc, pc, cu, ro, co, cs, ps, pe, lv) x := by
  unfold wpX_isSet
  dsimp only
  rw [cq_shl (by omega)]
  by_cases h : x < 0
  · exact br_t h hp
  · exact br_f h (br_t (hx.resolve_left h) hp)
/-! the least closed set after a set -/
theorem cq_xs2 (T : cq_XT N M R ro co) {set : Nat} {post : Int32 → Prop} (hs : set < 2 ^ M - 1) (hp : ∀ y, cq_Nxt (fun c => cq_cl N M R c = c) (2 ^ M) set y → post (nI y)) : ∀ d k, k + d = M → cq_Iv (fun c => cq_cl N M R c = c) (2 ^ M) set k → wX_stepClosed_2 post (nI set) (nI N) (nI M) cc pc cu ro co cs ps pe lv (d + 1) (nI k) := by
  have hM7 := T.2.1.2
  have h7 := cq_p7 hM7
  have hs31 : set < 2 ^ 31 := by omega
  intro d
  induction d with
  | zero =>
    intro k hk I
    have e : k = M := by omega
    rw [e] at I
    exact (cq_iv_e I hs (cq_K_full (cq_cl_CL N M R))).elim
  | succ d ih =>
    intro k hk I
    refine pk_le M k (fun h => absurd h (by omega)) (fun _ => nm_r (cq_shl (by omega)) ?_)
    cases hb : set.testBit k
    · have hx := cq_abv_lt (s := set) (a := k) (M := M) (by omega) (by omega)
      have L := cq_lst_K (cq_cl_CL N M R) hx
      refine br_t ((cq_b0 hs31 (by omega)).mpr hb) (nm_r (cq_up hs31) (cq_xclE T (cq_or _ _) hx ?_))
      have hy : cq_cl N M R (set / 2 ^ (k + 1) * 2 ^ (k + 1) ||| 2 ^ k) < 2 ^ 31 := by have := L.1; omega
      try dsimp only
      rw [cq_up hy]
      by_cases hq : cq_cl N M R (set / 2 ^ (k + 1) * 2 ^ (k + 1) ||| 2 ^ k) / 2 ^ (k + 1) = set / 2 ^ (k + 1)
      · exact br_t (by rw [hq]) (hp _ (cq_nxt_of hb I L hq))
      · exact br_f (fun z => hq (cq_qeq z hy hs31)) (nm_r (nI_1 k) (ih (k + 1) (by omega) (cq_iv_s hb I L hq)))
    · exact br_f (fun z => by rw [(cq_b0 hs31 (by omega)).mp z] at hb; exact absurd hb (by decide)) (nm_r (nI_1 k) (ih (k + 1) (by omega) (cq_iv_b hb I)))
theorem cq_xstep (T : cq_XT N M R ro co) {set : Nat} {post : Int32 → Prop} (hs : set < 2 ^ M - 1) (hp : ∀ y, cq_Nxt (fun c => cq_cl N M R c = c) (2 ^ M) set y → post (nI y)) : wpX_stepClosed post (nI N, nI M, cc, pc, cu, ro, co, cs, ps, pe, lv) (nI set) := by
  unfold wpX_stepClosed
  dsimp only
  exact ⟨M + 1, cq_xs2 T hs hp M 0 (by omega) cq_iv0⟩
end
end
section
/-! ===== X: the closure under the rules, the step under them, refresh ===== -/
/-- a list: at the place of j (the count of p below j) stands f j -/
def cq_En (p : Nat → Prop) (b : Nat) (f : Nat → Nat) (a : Nat → Int32) : Prop := ∀ j, j < b → p j → a (cq_cn p j) = nI (f j)
theorem cq_En_0 {p : Nat → Prop} {f : Nat → Nat} {a : Nat → Int32} : cq_En p 0 f a := fun j h => absurd h (Nat.not_lt_zero j)
theorem cq_En_st {p : Nat → Prop} {b : Nat} {f : Nat → Nat} {a : Nat → Int32} (h : cq_En p b f a) (hb : p b) : cq_En p (b + 1) f (upd a (cq_cn p b) (nI (f b))) := fun j hj hp => by
  by_cases e : j = b
  · rw [e]; exact pk_us
  · have hl : j < b := by omega
    have := cq_cn_lt hl hp
    rw [pk_un (by omega)]
    exact h j hl hp
theorem cq_En_sk {p : Nat → Prop} {b : Nat} {f : Nat → Nat} {a : Nat → Int32} (h : cq_En p b f a) (hb : ¬ p b) : cq_En p (b + 1) f a := fun j hj hp => by
  by_cases e : j = b
  · rw [e] at hp; exact absurd hp hb
  · exact h j (by omega) hp
theorem cq_En_gp {p : Nat → Prop} {b c : Nat} {f : Nat → Nat} {a : Nat → Int32} (h : cq_En p b f a) (hb : ∀ k, b ≤ k → k < c → ¬ p k) : cq_En p c f a := fun j hj hp => h j (Nat.lt_of_not_le fun z => hb j z hj hp) hp
def cq_Fr (M : Nat) (K : Nat → Nat) (cc pc : Int32) (cs ps : Nat → Int32) : Prop := cc = nI (cq_cn (fun c => K c = c) (2 ^ M)) ∧ cq_En (fun c => K c = c) (2 ^ M) (fun j => j) cs ∧ pc = nI (cq_cn (cq_Ps K) (2 ^ M)) ∧ cq_En (cq_Ps K) (2 ^ M) (fun j => j) ps
section
variable {N M : Nat} {R : Nat → Nat} {cc pc cu : Int32} {ro co cs ps pe lv : Nat → Int32}
theorem cq_xu16 {q : Nat} {P E : Nat → Nat} {r k : Nat} {J : Int32 → Int32 → Prop} {post : Int32 → Prop} (hM : M ≤ 7) (hq : q ≤ 128) (hP : ∀ i, i < q → ps i = nI (P i) ∧ pe i = nI (E i) ∧ P i < 2 ^ M ∧ E i < 2 ^ M) (hr : r < 2 ^ M) (h1 : cq_ur P E r q = r → post (nI r)) (h2 : cq_ur P E r q ≠ r → J (nI (cq_ur P E r q)) (nI (k + 1))) : ∀ d i, i + d = q → wX_underRules_16 post J (nI k) (nI r) (nI N) (nI M) cc (nI q) cu ro co cs ps pe lv (d + 1) (nI (cq_ur P E r i)) (nI i) := by
  have h7 := cq_p7 hM
  have hu : ∀ i, i ≤ q → cq_ur P E r i < 2 ^ M := cq_ur_lt hr fun i hi => (hP i hi).2.2.2
  intro d
  induction d with
  | zero =>
    intro i hi
    have e : i = q := by omega
    rw [e]
    have := hu q (by omega)
    refine pk_le q q (fun _ => ?_) (fun h => absurd h (Nat.lt_irrefl _))
    exact pk_eq r (cq_ur P E r q) (fun e => by rw [← e]; exact h1 e.symm) (fun e => nm_r (nI_1 k) (h2 fun z => e z.symm))
  | succ d ih =>
    intro i hi
    obtain ⟨p1, p2, p3, p4⟩ := hP i (by omega)
    have hui := hu i (by omega)
    have hin : vp_in (nI i) 128 := vp_in_nI (by omega) (by decide)
    have ii := ih (i + 1) (by omega)
    refine pk_le q i (fun h => absurd h (by omega)) (fun _ => ⟨hin, ?_⟩)
    rw [nI_clamp (by omega), p1, p2]
    by_cases hs : cq_sub (P i) (cq_ur P E r i)
    · refine br_t ((cq_isub (by omega)).mpr hs) ⟨hin, ?_⟩
      by_cases e : P i = cq_ur P E r i
      · rw [cq_ur_f fun z => z.2 e] at ii
        exact br_t (by rw [e]) (nm_r (nI_1 i) ii)
      · rw [cq_ur_t hs e] at ii
        exact br_f (fun z => e ((nI_eq (by omega) (by omega)).mp z)) ⟨hin, nm_r (cq_or _ _) (nm_r (nI_1 i) ii)⟩
    · rw [cq_ur_f fun z => hs z.1] at ii
      exact br_f (fun z => hs ((cq_isub (by omega)).mp z)) (nm_r (nI_1 i) ii)
theorem cq_xu4 {q : Nat} {P E : Nat → Nat} {x : Nat} {post : Int32 → Prop} (hM : M ≤ 7) (hq : q ≤ 128) (hP : ∀ i, i < q → ps i = nI (P i) ∧ pe i = nI (E i) ∧ P i < 2 ^ M ∧ E i < 2 ^ M) (hp : ∀ y, cq_Lst (cq_GL q P E) (2 ^ M) x y → post (nI y)) : ∀ d k r, k + d = 8 → r < 2 ^ M → k ≤ cq_sz r 7 → cq_sub x r → (∀ z, z < 2 ^ M → cq_GL q P E z → cq_sub x z → cq_sub r z) → wX_underRules_4 post (nI N) (nI M) cc (nI q) cu ro co cs ps pe lv (d + 1) (nI r) (nI k) := by
  have h7 := cq_p7 hM
  intro d
  induction d with
  | zero =>
    intro k r hk hr hz
    have := cq_sz_le r 7
    omega
  | succ d ih =>
    intro k r hk hr hz hx hm
    refine pk_le 8 k (fun h => absurd h (by omega)) (fun _ => ⟨q + 1, ?_⟩)
    refine cq_xu16 (r := r) hM hq hP hr (fun e => hp r ⟨hr, cq_ur_fix e, hx, hm⟩) (fun e => ?_) q 0 (by omega)
    have hs : cq_sub r (cq_ur P E r q) := cq_ur_mo P E r (i := 0) (j := q) (by omega)
    have hl := cq_ur_lt (P := P) hr (fun i hi => (hP i hi).2.2.2) q (Nat.le_refl q)
    refine ih (k + 1) _ (by omega) hl ?_ (cq_sub_tr hx hs) (fun z hz hG hxz => cq_ur_min hG (hm z hz hG hxz) q (Nat.le_refl q))
    have := cq_sz_ss (k := 7) hs (fun z => e z.symm) (by omega)
    omega
theorem cq_xund {q : Nat} {P E : Nat → Nat} {x : Nat} {X : Int32} {post : Int32 → Prop} (hM : M ≤ 7) (hq : q ≤ 128) (hP : ∀ i, i < q → ps i = nI (P i) ∧ pe i = nI (E i) ∧ P i < 2 ^ M ∧ E i < 2 ^ M) (hX : X = nI x) (hx : x < 2 ^ M) (hp : ∀ y, cq_Lst (cq_GL q P E) (2 ^ M) x y → post (nI y)) : wpX_underRules post (nI N, nI M, cc, nI q, cu, ro, co, cs, ps, pe, lv) X := by
  rw [hX]
  unfold wpX_underRules
  dsimp only
  exact ⟨9, cq_xu4 hM hq hP hp 8 0 x (by omega) hx (Nat.zero_le _) (cq_sub_rfl x) (fun z _ _ h => h)⟩
theorem cq_xr2 {q : Nat} {P E : Nat → Nat} {set : Nat} {post : Int32 → Prop} (hM : M ≤ 7) (hq : q ≤ 128) (hP : ∀ i, i < q → ps i = nI (P i) ∧ pe i = nI (E i) ∧ P i < 2 ^ M ∧ E i < 2 ^ M) (hs : set < 2 ^ M - 1) (hp : ∀ y, cq_Nxt (cq_GL q P E) (2 ^ M) set y → post (nI y)) : ∀ d k, k + d = M → cq_Iv (cq_GL q P E) (2 ^ M) set k → wX_stepRules_2 post (nI set) (nI N) (nI M) cc (nI q) cu ro co cs ps pe lv (d + 1) (nI k) := by
  have h7 := cq_p7 hM
  have hs31 : set < 2 ^ 31 := by omega
  intro d
  induction d with
  | zero =>
    intro k hk I
    have e : k = M := by omega
    rw [e] at I
    exact (cq_iv_e I hs fun i hi _ _ => cq_sub_full (hP i hi).2.2.2).elim
  | succ d ih =>
    intro k hk I
    refine pk_le M k (fun h => absurd h (by omega)) (fun _ => nm_r (cq_shl (by omega)) ?_)
    cases hb : set.testBit k
    · have hx := cq_abv_lt (s := set) (a := k) (M := M) (by omega) (by omega)
      refine br_t ((cq_b0 hs31 (by omega)).mpr hb) (nm_r (cq_up hs31) (cq_xund hM hq hP (cq_or _ _) hx fun y L => ?_))
      have hy : y < 2 ^ 31 := by have := L.1; omega
      try dsimp only
      rw [cq_up hy]
      by_cases hq : y / 2 ^ (k + 1) = set / 2 ^ (k + 1)
      · exact br_t (by rw [hq]) (hp _ (cq_nxt_of hb I L hq))
      · exact br_f (fun z => hq (cq_qeq z hy hs31)) (nm_r (nI_1 k) (ih (k + 1) (by omega) (cq_iv_s hb I L hq)))
    · exact br_f (fun z => by rw [(cq_b0 hs31 (by omega)).mp z] at hb; exact absurd hb (by decide)) (nm_r (nI_1 k) (ih (k + 1) (by omega) (cq_iv_b hb I)))
theorem cq_xrst {q : Nat} {P E : Nat → Nat} {set : Nat} {post : Int32 → Prop} (hM : M ≤ 7) (hq : q ≤ 128) (hP : ∀ i, i < q → ps i = nI (P i) ∧ pe i = nI (E i) ∧ P i < 2 ^ M ∧ E i < 2 ^ M) (hs : set < 2 ^ M - 1) (hp : ∀ y, cq_Nxt (cq_GL q P E) (2 ^ M) set y → post (nI y)) : wpX_stepRules post (nI N, nI M, cc, nI q, cu, ro, co, cs, ps, pe, lv) (nI set) := by
  unfold wpX_stepRules
  dsimp only
  exact ⟨M + 1, cq_xr2 hM hq hP hs hp M 0 (by omega) cq_iv0⟩
/-- the list's family is that of the rules up to a set -/
theorem cq_GL_G {K : Nat → Nat} {b : Nat} (hK : ∀ j, j < b → K j < 2 ^ M) (hb : b ≤ 2 ^ M) (hM : M ≤ 7) (l1 : cq_En (cq_Ps K) b (fun j => j) ps) (l2 : cq_En (cq_Ps K) b K pe) : (∀ i, i < cq_cn (cq_Ps K) b → ps i = nI ((ps i).toNatClampNeg) ∧ pe i = nI ((pe i).toNatClampNeg) ∧ (ps i).toNatClampNeg < 2 ^ M ∧ (pe i).toNatClampNeg < 2 ^ M) ∧ ∀ z, cq_GL (cq_cn (cq_Ps K) b) (fun i => (ps i).toNatClampNeg) (fun i => (pe i).toNatClampNeg) z ↔ cq_G K b z := by
  have h7 := cq_p7 hM
  have F : ∀ j, j < b → cq_Ps K j → ps (cq_cn (cq_Ps K) j) = nI j ∧ (ps (cq_cn (cq_Ps K) j)).toNatClampNeg = j ∧ pe (cq_cn (cq_Ps K) j) = nI (K j) ∧ (pe (cq_cn (cq_Ps K) j)).toNatClampNeg = K j := fun j hj hp => by
    have a : ps (cq_cn (cq_Ps K) j) = nI j := l1 j hj hp
    have c := l2 j hj hp
    have := hK j hj
    refine ⟨a, ?_, c, ?_⟩
    · rw [a]; exact nI_clamp (by omega)
    · rw [c]; exact nI_clamp (by omega)
  constructor
  · intro i hi
    obtain ⟨j, hj, hp, rfl⟩ := cq_cn_surj (cq_Ps K) b i hi
    obtain ⟨a, a', c, c'⟩ := F j hj hp
    have := hK j hj
    rw [a', c']
    exact ⟨a, c, by omega, this⟩
  · intro z
    constructor
    · intro h j hj hp hs hn
      obtain ⟨a, a', c, c'⟩ := F j hj hp
      have := h (cq_cn (cq_Ps K) j) (cq_cn_lt hj hp)
      dsimp only at this
      rw [a', c'] at this
      exact this hs hn
    · intro h i hi
      obtain ⟨j, hj, hp, rfl⟩ := cq_cn_surj (cq_Ps K) b i hi
      obtain ⟨a, a', c, c'⟩ := F j hj hp
      try dsimp only
      rw [a', c']
      exact h j hj hp
theorem cq_Nxt_cg {P Q : Nat → Prop} {n s y : Nat} (h : ∀ z, P z ↔ Q z) (H : cq_Nxt P n s y) : cq_Nxt Q n s y := ⟨H.1, (h y).mp H.2.1, H.2.2.1, fun z hz hQ => H.2.2.2 z hz ((h z).mpr hQ)⟩
theorem cq_x142 (T : cq_XT N M R ro co) {set k q : Nat} {J : Int32 → Int32 → Int32 → (Nat → Int32) → (Nat → Int32) → (Nat → Int32) → (Nat → Int32) → (Nat → Int32) → (Nat → Int32) → Prop} {post : SX → Prop} (hset : set < 2 ^ M) (eq : q = cq_cn (cq_Ps (cq_cl N M R)) (set + 1)) (l1 : cq_En (cq_Ps (cq_cl N M R)) (set + 1) (fun j => j) ps) (l2 : cq_En (cq_Ps (cq_cl N M R)) (set + 1) (cq_cl N M R) pe) (hend : set = 2 ^ M - 1 → post (nI N, nI M, cc, nI q, 1, ro, co, cs, ps, pe, lv)) (hnx : ∀ y, y < 2 ^ M → set < y → cq_F (cq_cl N M R) y → cq_cn (cq_Ps (cq_cl N M R)) y = q → cq_En (cq_Ps (cq_cl N M R)) y (fun j => j) ps → cq_En (cq_Ps (cq_cl N M R)) y (cq_cl N M R) pe → J (nI y) (nI (k + 1)) (nI q) ro co cs ps pe lv) : wX_refresh_142 post J (nI (2 ^ M - 1)) (nI set) (nI k) (nI N) (nI M) cc (nI q) 1 ro co cs ps pe lv := by
  have hM7 := T.2.1.2
  have h7 := cq_p7 hM7
  refine pk_eq set (2 ^ M - 1) hend (fun hne => ?_)
  have hq : q ≤ 128 := by have := cq_cn_le (cq_Ps (cq_cl N M R)) (set + 1); omega
  obtain ⟨g1, g2⟩ := cq_GL_G (M := M) (b := set + 1) (fun j _ => cq_cl_lt N M R j) hset hM7 l1 l2
  rw [← eq] at g1 g2
  refine cq_xrst hM7 hq g1 (by omega) fun y hy => nm_r (nI_1 k) ?_
  have hG := cq_Nxt_cg g2 hy
  obtain ⟨hF, hno⟩ := cq_G_nx hG
  refine hnx y hG.1 hG.2.2.1 hF ?_ (cq_En_gp l1 hno) (cq_En_gp l2 hno)
  rw [eq]
  exact cq_cn_gp hG.2.2.1 hno
theorem cq_x91 (T : cq_XT N M R ro co) {post : SX → Prop} (hp : ∀ ps pe, cq_En (cq_Ps (cq_cl N M R)) (2 ^ M) (fun j => j) ps → post (nI N, nI M, cc, nI (cq_cn (cq_Ps (cq_cl N M R)) (2 ^ M)), 1, ro, co, cs, ps, pe, lv)) : ∀ n set k ps pe, 2 ^ M - set ≤ n → set < 2 ^ M → k ≤ set → cq_F (cq_cl N M R) set → cq_En (cq_Ps (cq_cl N M R)) set (fun j => j) ps → cq_En (cq_Ps (cq_cl N M R)) set (cq_cl N M R) pe → wX_refresh_91 post (nI (2 ^ M - 1)) (nI N) (nI M) cc 1 n (nI set) (nI k) (nI (cq_cn (cq_Ps (cq_cl N M R)) set)) ro co cs ps pe lv := by
  have hM7 := T.2.1.2
  have h7 := cq_p7 hM7
  have hKl := fun s => cq_cl_lt N M R s
  intro n
  induction n with
  | zero => intro set k ps pe h1 h2; omega
  | succ n ih =>
    intro set k ps pe h1 h2 h3 hF l1 l2
    have hc := cq_cn_le (cq_Ps (cq_cl N M R)) set
    have fin : ∀ ps pe q, q = cq_cn (cq_Ps (cq_cl N M R)) (set + 1) → cq_En (cq_Ps (cq_cl N M R)) (set + 1) (fun j => j) ps → cq_En (cq_Ps (cq_cl N M R)) (set + 1) (cq_cl N M R) pe → wX_refresh_142 post (wX_refresh_91 post (nI (2 ^ M - 1)) (nI N) (nI M) cc 1 n) (nI (2 ^ M - 1)) (nI set) (nI k) (nI N) (nI M) cc (nI q) 1 ro co cs ps pe lv := fun ps pe q eq l1 l2 => by
      refine cq_x142 T h2 eq l1 l2 (fun e => ?_) (fun y a b c d e f => ?_)
      · rw [eq, show set + 1 = 2 ^ M by omega]
        exact hp ps pe (by rw [show set + 1 = 2 ^ M by omega] at l1; exact l1)
      · rw [← d]
        exact ih y (k + 1) ps pe (by omega) a (by omega) c e f
    refine pk_le 128 k (fun h => absurd h (by omega)) (fun _ => cq_xcl T h2 ?_)
    try dsimp only
    refine pk_eq (cq_cl N M R set) set (fun e => ?_) (fun e => ?_) rfl rfl (by have := hKl set; omega)
    · have hn : ¬ cq_Ps (cq_cl N M R) set := fun z => (cq_Ps_i.mp z).1 e
      exact fin ps pe _ (cq_cn_f hn).symm (cq_En_sk l1 hn) (cq_En_sk l2 hn)
    · have hy : cq_Ps (cq_cl N M R) set := cq_Ps_i.mpr ⟨e, hF⟩
      have hin : vp_in (nI (cq_cn (cq_Ps (cq_cl N M R)) set)) 128 := vp_in_nI (by omega) (by decide)
      have cl : (nI (cq_cn (cq_Ps (cq_cl N M R)) set)).toNatClampNeg = cq_cn (cq_Ps (cq_cl N M R)) set := nI_clamp (by omega)
      rw [cl]
      exact ⟨hin, nm_e ⟨hin, nm_e (nm_r (nI_1 _) (fin _ _ _ (cq_cn_t hy).symm (cq_En_st l1 hy) (cq_En_st l2 hy)))⟩⟩
theorem cq_x35 (T : cq_XT N M R ro co) {post : SX → Prop} (hp : ∀ cs, cq_En (fun c => cq_cl N M R c = c) (2 ^ M) (fun j => j) cs → ∃ n91 : Nat, wX_refresh_91 post (nI (2 ^ M - 1)) (nI N) (nI M) (nI (cq_cn (fun c => cq_cl N M R c = c) (2 ^ M))) 1 n91 0 0 0 ro co cs ps pe lv) : ∀ n set k cs, 2 ^ M - set ≤ n → set < 2 ^ M → k ≤ set → cq_cl N M R set = set → cq_En (fun c => cq_cl N M R c = c) set (fun j => j) cs → wX_refresh_35 post (nI (2 ^ M - 1)) (nI N) (nI M) pc 1 n (nI set) (nI k) (nI (cq_cn (fun c => cq_cl N M R c = c) set)) ro co cs ps pe lv := by
  have hM7 := T.2.1.2
  have h7 := cq_p7 hM7
  intro n
  induction n with
  | zero => intro set k cs h1 h2; omega
  | succ n ih =>
    intro set k cs h1 h2 h3 hF l1
    have hc := cq_cn_le (fun c => cq_cl N M R c = c) set
    have hin : vp_in (nI (cq_cn (fun c => cq_cl N M R c = c) set)) 128 := vp_in_nI (by omega) (by decide)
    have cl : (nI (cq_cn (fun c => cq_cl N M R c = c) set)).toNatClampNeg = cq_cn (fun c => cq_cl N M R c = c) set := nI_clamp (by omega)
    have l2 := cq_En_st l1 hF
    have e1 : cq_cn (fun c => cq_cl N M R c = c) (set + 1) = cq_cn (fun c => cq_cl N M R c = c) set + 1 := cq_cn_t hF
    refine pk_le 128 k (fun h => absurd h (by omega)) (fun _ => ?_)
    rw [cl]
    refine ⟨hin, nm_e (nm_r (nI_1 _) ?_)⟩
    refine pk_eq set (2 ^ M - 1) (fun e => ?_) (fun e => cq_xstep T (by omega) fun y hy => nm_r (nI_1 k) ?_)
    · rw [← e1, show set + 1 = 2 ^ M by omega]
      exact hp _ (by rw [show set + 1 = 2 ^ M by omega] at l2; exact l2)
    · have hno : ∀ j, set + 1 ≤ j → j < y → ¬ cq_cl N M R j = j := fun j a b c => by
        have := hy.2.2.2 j (by have := hy.1; omega) c a
        omega
      have e2 : cq_cn (fun c => cq_cl N M R c = c) y = cq_cn (fun c => cq_cl N M R c = c) (set + 1) := cq_cn_gp hy.2.2.1 hno
      rw [← e1, ← e2]
      exact ih y (k + 1) _ (by have := hy.2.2.1; omega) hy.1 (by have := hy.2.2.1; omega) hy.2.1 (cq_En_gp l2 hno)
theorem cq_xref (T : cq_XT N M R ro co) {post : SX → Prop} (hf : ¬ cu = 0 → cq_Fr M (cq_cl N M R) cc pc cs ps) (hp : ∀ cc pc cu cs ps pe, ¬ cu = 0 → cq_Fr M (cq_cl N M R) cc pc cs ps → post (nI N, nI M, cc, pc, cu, ro, co, cs, ps, pe, lv)) : wpX_refresh post (nI N, nI M, cc, pc, cu, ro, co, cs, ps, pe, lv) := by
  have hM7 := T.2.1.2
  have h7 := cq_p7 hM7
  unfold wpX_refresh
  dsimp only
  by_cases h : cu = 0
  · refine br_t h (nm_r (cq_full M (by omega)) (cq_xcl (s := 0) T (Nat.two_pow_pos M) ?_))
    have K0 := cq_K_0 (cq_cl_CL N M R)
    have hk : cq_cl N M R (cq_cl N M R 0) = cq_cl N M R 0 := (cq_cl_CL N M R).2.2.2 0 (Nat.two_pow_pos M)
    have hl := cq_cl_lt N M R 0
    have hno : ∀ j, 0 ≤ j → j < cq_cl N M R 0 → ¬ cq_cl N M R j = j := fun j _ b c => by
      have := K0 j (by omega) c
      omega
    have e0 : cq_cn (fun c => cq_cl N M R c = c) (cq_cl N M R 0) = 0 := cq_cn_gp (i := 0) (Nat.zero_le _) hno
    refine ⟨2 ^ M, ?_⟩
    have A := cq_x35 T (pc := pc) (post := post) (ps := ps) (pe := pe) (lv := lv) (fun cs lc => ⟨2 ^ M, cq_x91 T (fun ps pe lp => hp _ _ 1 cs ps pe (by decide) ⟨rfl, lc, rfl, lp⟩) (2 ^ M) 0 0 ps pe (by omega) (Nat.two_pow_pos M) (Nat.le_refl 0) (fun q hq => absurd hq (Nat.not_lt_zero q)) cq_En_0 cq_En_0⟩) (2 ^ M) (cq_cl N M R 0) 0 cs (by omega) hl (Nat.zero_le _) hk (fun j hj hc => absurd hc (hno j (Nat.zero_le j) hj))
    rw [e0] at A
    exact A
  · exact br_f h (hp _ _ _ _ _ _ h (hf h))
end
end
section
/-! ===== X: setRow, covers, links, height, least generators, dispensable ===== -/
def cq_R' (R : Nat → Nat) (ob set : Nat) : Nat → Nat := fun g => if g = ob then set else R g
theorem cq_R's (R : Nat → Nat) (ob set : Nat) : cq_R' R ob set ob = set := if_pos rfl
theorem cq_R'n (R : Nat → Nat) {ob : Nat} (set : Nat) {g : Nat} (h : g ≠ ob) : cq_R' R ob set g = R g := if_neg h
theorem cq_col {N ob set a : Nat} {R : Nat → Nat} {c c' : Nat} (h : ∀ g, g < N → c.testBit g = (R g).testBit a) (hn : ∀ g, g ≠ ob → c'.testBit g = c.testBit g) (hs : c'.testBit ob = set.testBit a) : ∀ g, g < N → c'.testBit g = (cq_R' R ob set g).testBit a := fun g hg => by
  by_cases e : g = ob
  · rw [e, cq_R's]; exact hs
  · rw [cq_R'n R set e, hn g e]; exact h g hg
section
variable {N M : Nat} {R : Nat → Nat} {cc pc cu : Int32} {ro co cs ps pe lv : Nat → Int32}
theorem cq_xsr9 {ob set : Nat} {post : SX → Prop} (hM : M ≤ 7) (hob : ob < 8) (hs : set < 2 ^ M) (hp : ∀ co, (∃ C : Nat → Nat, ∀ a, a < M → co a = nI (C a) ∧ C a < 256 ∧ ∀ g, g < N → (C a).testBit g = (cq_R' R ob set g).testBit a) → post (nI N, nI M, cc, pc, 0, ro, co, cs, ps, pe, lv)) : ∀ d k co, k + d = M → (∃ C : Nat → Nat, ∀ a, a < M → co a = nI (C a) ∧ C a < 256 ∧ (a < k → ∀ g, g < N → (C a).testBit g = (cq_R' R ob set g).testBit a) ∧ (k ≤ a → ∀ g, g < N → (C a).testBit g = (R g).testBit a)) → wX_setRow_9 post (nI ob) (nI set) (nI N) (nI M) cc pc cu (d + 1) (nI k) ro co cs ps pe lv := by
  have h7 := cq_p7 hM
  intro d
  induction d with
  | zero =>
    intro k co hk hC
    obtain ⟨C, hC⟩ := hC
    have e : k = M := by omega
    rw [e] at hC ⊢
    exact pk_le M M (fun _ => hp co ⟨C, fun a ha => ⟨(hC a ha).1, (hC a ha).2.1, (hC a ha).2.2.1 ha⟩⟩) (fun h => absurd h (Nat.lt_irrefl _))
  | succ d ih =>
    intro k co hk hC
    obtain ⟨C, hC⟩ := hC
    obtain ⟨c1, c2, _, c4⟩ := hC k (by omega)
    have hin : vp_in (nI k) 7 := vp_in_nI (by omega) (by decide)
    have up : ∀ w, w < 256 → (∀ g, g ≠ ob → w.testBit g = (C k).testBit g) → w.testBit ob = set.testBit k → ∃ C : Nat → Nat, ∀ a, a < M → upd co k (nI w) a = nI (C a) ∧ C a < 256 ∧ (a < k + 1 → ∀ g, g < N → (C a).testBit g = (cq_R' R ob set g).testBit a) ∧ (k + 1 ≤ a → ∀ g, g < N → (C a).testBit g = (R g).testBit a) := fun w hw w1 w2 => by
      refine ⟨fun a => if a = k then w else C a, fun a ha => ?_⟩
      dsimp only
      by_cases e : a = k
      · rw [e, if_pos rfl]
        exact ⟨pk_us, hw, fun _ => cq_col (c4 (Nat.le_refl k)) w1 w2, fun z => absurd z (by omega)⟩
      · obtain ⟨d1, d2, d3, d4⟩ := hC a ha
        rw [if_neg e, pk_un e]
        exact ⟨d1, d2, fun z => d3 (by omega), fun z => d4 (by omega)⟩
    refine pk_le M k (fun h => absurd h (by omega)) (fun _ => nm_r (cq_shl (by omega)) ?_)
    rw [nI_clamp (by omega), c1]
    cases hb : set.testBit k
    · refine br_f (fun z => by rw [(cq_bit1 (by omega) (by omega)).mp z] at hb; exact absurd hb (by decide)) ⟨hin, hin, nm_e (nm_r (nI_1 k) ?_)⟩
      rw [cq_andn _ (by omega)]
      refine ih (k + 1) _ (by omega) (up (cq_df (C k) (2 ^ ob)) (Nat.lt_of_le_of_lt (cq_df_le _ _) c2) (fun g hg => ?_) ?_)
      · rw [cq_df_bit, Nat.testBit_two_pow_of_ne (fun z => hg z.symm)]; simp
      · rw [cq_df_bit, Nat.testBit_two_pow_self, hb]; simp
    · refine br_t ((cq_bit1 (by omega) (by omega)).mpr hb) ⟨hin, hin, nm_e (nm_r (nI_1 k) ?_)⟩
      rw [cq_or]
      refine ih (k + 1) _ (by omega) (up (C k ||| 2 ^ ob) (Nat.or_lt_two_pow (n := 8) c2 (Nat.pow_lt_pow_right (by decide) hob)) (fun g hg => ?_) ?_)
      · rw [Nat.testBit_or, Nat.testBit_two_pow_of_ne (fun z => hg z.symm)]; simp
      · rw [Nat.testBit_or, Nat.testBit_two_pow_self, hb]; simp
theorem cq_ro_up {ob set : Nat} (hr : ∀ g, ro g = nI (R g)) : ∀ g, upd ro ob (nI set) g = nI (cq_R' R ob set g) := fun g => by
  by_cases e : g = ob
  · rw [e, pk_us, cq_R's]
  · rw [pk_un e, cq_R'n R set e]; exact hr g
theorem cq_xsr (T : cq_XT N M R ro co) {ob set : Nat} {x : Int32} {post : SX → Prop} (hx : x = nI set) (hob : ob < N) (hs : set < 2 ^ M) (hp : ∀ co, cq_XT N M (cq_R' R ob set) (upd ro ob (nI set)) co → post (nI N, nI M, cc, pc, 0, upd ro ob (nI set), co, cs, ps, pe, lv)) : wpX_setRow post (nI N, nI M, cc, pc, cu, ro, co, cs, ps, pe, lv) (nI ob) x := by
  obtain ⟨⟨hN1, hN8⟩, ⟨hM2, hM7⟩, hR, hr, C, hC⟩ := T
  rw [hx]
  unfold wpX_setRow
  dsimp only
  refine ⟨vp_in_nI (by omega) (by decide), nm_r (e' := upd ro ob (nI set)) (by rw [nI_clamp (by omega)]) ⟨M + 1, ?_⟩⟩
  refine cq_xsr9 (R := R) hM7 (by omega) hs (fun co hC => hp co ⟨⟨hN1, hN8⟩, ⟨hM2, hM7⟩, fun g => ?_, cq_ro_up hr, hC⟩) M 0 co (by omega) ⟨C, fun a ha => ⟨(hC a ha).1, (hC a ha).2.1, fun z => absurd z (Nat.not_lt_zero a), fun _ => (hC a ha).2.2⟩⟩
  by_cases e : g = ob
  · rw [e, cq_R's]; exact hs
  · rw [cq_R'n R set e]; exact hR g
/-! covers -/
theorem cq_xl13 (T : cq_XT N M R ro co) {c a : Nat} {post : Int32 → Prop} (hc : c < 2 ^ M) (ha : a < M) (hy : cq_lea (cq_cl N M R) M c a → post 1) (hn : ¬ cq_lea (cq_cl N M R) M c a → post 0) : ∀ d k, k + d = M → (∀ b, b < k → (cq_cl N M R (c ||| 2 ^ a)).testBit b = true → c.testBit b = false → cq_cl N M R (c ||| 2 ^ b) = cq_cl N M R (c ||| 2 ^ a) ∧ a ≤ b) → wX_isLeast_13 post (nI c) (nI a) (nI (cq_cl N M R (c ||| 2 ^ a))) (nI N) (nI M) cc pc cu ro co cs ps pe lv (d + 1) (nI k) := by
  have hM7 := T.2.1.2
  have h7 := cq_p7 hM7
  have hl := cq_cl_lt N M R (c ||| 2 ^ a)
  intro d
  induction d with
  | zero =>
    intro k hk H
    have e : k = M := by omega
    rw [e] at H ⊢
    exact pk_le M M (fun _ => hy H) (fun h => absurd h (Nat.lt_irrefl _))
  | succ d ih =>
    intro k hk H
    refine pk_le M k (fun h => absurd h (by omega)) (fun _ => ?_)
    have go : ((cq_cl N M R (c ||| 2 ^ a)).testBit k = true → c.testBit k = false → cq_cl N M R (c ||| 2 ^ k) = cq_cl N M R (c ||| 2 ^ a) ∧ a ≤ k) → wX_isLeast_13 post (nI c) (nI a) (nI (cq_cl N M R (c ||| 2 ^ a))) (nI N) (nI M) cc pc cu ro co cs ps pe lv (d + 1) (nI (k + 1)) := fun G => ih (k + 1) (by omega) fun b hb => by
      by_cases e : b = k
      · rw [e]; exact G
      · exact H b (by omega)
    by_cases h1 : (cq_cl N M R (c ||| 2 ^ a)).testBit k = true
    · refine br_t ((cq_bit1 (by omega) (by omega)).mpr h1) ?_
      by_cases h2 : c.testBit k = false
      · refine br_t ((cq_bit0 (by omega) (by omega)).mpr h2) (cq_xclE T (s := c ||| 2 ^ k) (by rw [cq_shl (by omega), cq_or]) (cq_cu_lt hc (by omega)) ?_)
        have hl2 := cq_cl_lt N M R (c ||| 2 ^ k)
        try dsimp only
        refine pk_eq (cq_cl N M R (c ||| 2 ^ k)) (cq_cl N M R (c ||| 2 ^ a)) (fun e => ?_) (fun e => hn fun L => e (L k (by omega) h1 h2).1)
        exact pk_le a k (fun h => nm_r (nI_1 k) (go fun _ _ => ⟨e, h⟩)) (fun h => hn fun L => absurd (L k (by omega) h1 h2).2 (by omega))
      · exact br_f (fun z => h2 ((cq_bit0 (by omega) (by omega)).mp z)) (nm_r (nI_1 k) (go fun _ z => absurd z h2))
    · exact br_f (fun z => h1 ((cq_bit1 (by omega) (by omega)).mp z)) (nm_r (nI_1 k) (go fun z => absurd z h1))
theorem cq_xlea (T : cq_XT N M R ro co) {c a : Nat} {post : Int32 → Prop} (hc : c < 2 ^ M) (ha : a < M) (hy : cq_lea (cq_cl N M R) M c a → post 1) (hn : ¬ cq_lea (cq_cl N M R) M c a → post 0) : wpX_isLeast post (nI N, nI M, cc, pc, cu, ro, co, cs, ps, pe, lv) (nI c) (nI a) := by
  have hM7 := T.2.1.2
  unfold wpX_isLeast
  dsimp only
  exact cq_xclE T (s := c ||| 2 ^ a) (by rw [cq_shl (by omega), cq_or]) (cq_cu_lt hc ha) ⟨M + 1, cq_xl13 T hc ha hy hn M 0 (by omega) (fun b h => absurd h (Nat.not_lt_zero b))⟩
theorem cq_xco4 (T : cq_XT N M R ro co) {c : Nat} {post : Int32 → Prop} (hc : c < 2 ^ M) (hp : post (nI (cq_cn (cq_cov (cq_cl N M R) M c) M))) : ∀ d k, k + d = M → wX_coversOf_4 post (nI c) (nI N) (nI M) cc pc cu ro co cs ps pe lv (d + 1) (nI (cq_cn (cq_cov (cq_cl N M R) M c) k)) (nI k) := by
  have hM7 := T.2.1.2
  have h7 := cq_p7 hM7
  intro d
  induction d with
  | zero =>
    intro k hk
    have e : k = M := by omega
    rw [e]
    exact pk_le M M (fun _ => hp) (fun h => absurd h (Nat.lt_irrefl _))
  | succ d ih =>
    intro k hk
    have i := ih (k + 1) (by omega)
    refine pk_le M k (fun h => absurd h (by omega)) (fun _ => ?_)
    by_cases h2 : c.testBit k = false
    · refine br_t ((cq_bit0 (by omega) (by omega)).mpr h2) (cq_xlea T hc (by omega) (fun L => ?_) (fun L => ?_))
      · rw [cq_cn_t (⟨h2, L⟩ : cq_cov (cq_cl N M R) M c k)] at i
        exact br_f (by decide) (nm_r (nI_1 _) (nm_r (nI_1 k) i))
      · rw [cq_cn_f (fun z => L z.2 : ¬ cq_cov (cq_cl N M R) M c k)] at i
        exact br_t rfl (nm_r (nI_1 k) i)
    · rw [cq_cn_f (fun z => h2 z.1 : ¬ cq_cov (cq_cl N M R) M c k)] at i
      exact br_f (fun z => h2 ((cq_bit0 (by omega) (by omega)).mp z)) (nm_r (nI_1 k) i)
theorem cq_xco (T : cq_XT N M R ro co) {c : Nat} {post : Int32 → Prop} (hc : c < 2 ^ M) (hp : post (nI (cq_cn (cq_cov (cq_cl N M R) M c) M))) : wpX_coversOf post (nI N, nI M, cc, pc, cu, ro, co, cs, ps, pe, lv) (nI c) := by
  unfold wpX_coversOf
  dsimp only
  exact ⟨M + 1, cq_xco4 T hc hp M 0 (by omega)⟩
/-- the place of a list's entry -/
theorem cq_pl {K : Nat → Nat} {i : Nat} (l : cq_En (fun c => K c = c) (2 ^ M) (fun j => j) cs) (h : i < cq_cn (fun c => K c = c) (2 ^ M)) : ∃ j, j < 2 ^ M ∧ K j = j ∧ cq_cn (fun c => K c = c) j = i ∧ cs i = nI j := by
  obtain ⟨j, a, b, c⟩ := cq_cn_surj _ _ i h
  refine ⟨j, a, b, c, ?_⟩
  have := l j a b
  rw [c] at this
  exact this
noncomputable def cq_lst (K : Nat → Nat) (M : Nat) : Nat → Nat → Nat := fun s j => s + cq_cn (cq_cov K M j) M
theorem cq_xlk8 (T : cq_XT N M R ro co) {post : Int32 → SX → Prop} (l : cq_En (fun c => cq_cl N M R c = c) (2 ^ M) (fun j => j) cs) (hp : post (nI (cq_fo (fun c => cq_cl N M R c = c) (cq_lst (cq_cl N M R) M) 0 (2 ^ M))) (nI N, nI M, nI (cq_cn (fun c => cq_cl N M R c = c) (2 ^ M)), pc, cu, ro, co, cs, ps, pe, lv)) : ∀ d i q, i + d = cq_cn (fun c => cq_cl N M R c = c) (2 ^ M) → cq_cn (fun c => cq_cl N M R c = c) q = i → wX_links_8 post (nI N) (nI M) (nI (cq_cn (fun c => cq_cl N M R c = c) (2 ^ M))) pc cu ro co cs ps pe lv (d + 1) (nI (cq_fo (fun c => cq_cl N M R c = c) (cq_lst (cq_cl N M R) M) 0 q)) (nI i) := by
  have hM7 := T.2.1.2
  have h7 := cq_p7 hM7
  have hcn := cq_cn_le (fun c => cq_cl N M R c = c) (2 ^ M)
  intro d
  induction d with
  | zero =>
    intro i q hi hq
    have e : i = cq_cn (fun c => cq_cl N M R c = c) (2 ^ M) := by omega
    rw [cq_fo_e2 (hq.trans e)]
    exact pk_le (cq_cn (fun c => cq_cl N M R c = c) (2 ^ M)) i (fun _ => hp) (fun h => absurd h (by omega))
  | succ d ih =>
    intro i q hi hq
    obtain ⟨j, j1, j2, j3, j4⟩ := cq_pl l (i := i) (by omega)
    refine pk_le (cq_cn (fun c => cq_cl N M R c = c) (2 ^ M)) i (fun h => absurd h (by omega)) (fun _ => ⟨vp_in_nI (by omega) (by decide), ?_⟩)
    rw [nI_clamp (by omega), j4]
    refine cq_xco T j1 (nm_r (nI_add _ _) (nm_r (nI_1 i) ?_))
    have i2 := ih (i + 1) (j + 1) (by omega) (by rw [cq_cn_t (p := (fun c => cq_cl N M R c = c)) j2, j3])
    rw [cq_fo_t (p := (fun c => cq_cl N M R c = c)) j2, ← cq_fo_e2 (hq.trans j3.symm)] at i2
    exact i2
end
end
section
/-! ===== X: height, least generators, dispensable ===== -/
theorem cq_En_e {p : Nat → Prop} {b c : Nat} {f : Nat → Nat} {a : Nat → Int32} (e : cq_cn p b = cq_cn p c) (h : cq_En p b f a) : cq_En p c f a := fun j hj hp => h j (Nat.lt_of_not_le fun z => by
  have := cq_cn_lt hj hp
  have := cq_cn_mono p z
  omega) hp
theorem cq_En_far {p : Nat → Prop} {b : Nat} {f : Nat → Nat} {a : Nat → Int32} {x : Int32} (h : cq_En p b f a) : cq_En p b f (upd a (cq_cn p b) x) := fun j hj hp => by
  have := cq_cn_lt hj hp
  rw [pk_un (by omega)]
  exact h j hj hp
section
variable {N M : Nat} {R : Nat → Nat} {cc pc cu : Int32} {ro co cs ps pe lv : Nat → Int32}
theorem cq_xh25 {i j mo : Nat} {J : Int32 → Int32 → (Nat → Int32) → (Nat → Int32) → (Nat → Int32) → (Nat → Int32) → (Nat → Int32) → (Nat → Int32) → Prop} {post : Int32 → SX → Prop} (hM : M ≤ 7) (l : cq_En (fun c => cq_cl N M R c = c) (2 ^ M) (fun j => j) cs) (hj : j < 2 ^ M) (hk : cq_cl N M R j = j) (hi : cq_cn (fun c => cq_cl N M R c = c) j = i) (hmo : mo < 2 ^ 31) (hJ : ∀ lv, cq_En (fun c => cq_cl N M R c = c) (j + 1) (cq_h (cq_cl N M R)) lv → J (nI (cq_mst (cq_h (cq_cl N M R)) mo j)) (nI (i + 1)) ro co cs ps pe lv) : ∀ d k q lv, k + d = i → cq_cn (fun c => cq_cl N M R c = c) q = k → lv i = nI (cq_fo (fun c => cq_cl N M R c = c) (cq_hst (cq_h (cq_cl N M R)) j) 1 q) → cq_En (fun c => cq_cl N M R c = c) j (cq_h (cq_cl N M R)) lv → wX_height_25 post J (nI mo) (nI i) (nI N) (nI M) cc pc cu (d + 1) (nI k) ro co cs ps pe lv := by
  have h7 := cq_p7 hM
  have hcn := cq_cn_le (fun c => cq_cl N M R c = c) j
  have hhj := cq_h_le (cq_cl N M R) j hk
  have hin : vp_in (nI i) 128 := vp_in_nI (by omega) (by decide)
  have ci : (nI i).toNatClampNeg = i := nI_clamp (by omega)
  have csi : cs i = nI j := by have := l j hj hk; rw [hi] at this; exact this
  intro d
  induction d with
  | zero =>
    intro k q lv hkd hq hv hl
    have e : k = i := by omega
    rw [cq_fo_e2 (hq.trans (e.trans hi.symm)), ← cq_h_t hk] at hv
    have hE : cq_En (fun c => cq_cl N M R c = c) (j + 1) (cq_h (cq_cl N M R)) lv := fun j' h1 h2 => by
      by_cases e2 : j' = j
      · rw [e2, hi]; exact hv
      · exact hl j' (by omega) h2
    have hG := hJ lv hE
    refine pk_le i k (fun _ => ⟨hin, ?_⟩) (fun h => absurd h (by omega))
    rw [ci, hv]
    refine pk_le (cq_h (cq_cl N M R) j) mo (fun h => nm_r (nI_1 i) ?_) (fun h => ⟨hin, nm_e (nm_r (nI_1 i) ?_)⟩)
    · rw [cq_mst_t h] at hG; exact hG
    · rw [cq_mst_f (by omega)] at hG; exact hG
  | succ d ih =>
    intro k q lv hkd hq hv hl
    obtain ⟨j', a1, a2, a3, a4⟩ := cq_pl l (i := k) (by have := cq_cn_lt (p := (fun c => cq_cl N M R c = c)) hj hk; omega)
    have hjj : j' < j := Nat.lt_of_not_le fun z => by have := cq_cn_mono (fun c => cq_cl N M R c = c) z; omega
    have hh := cq_h_le (cq_cl N M R) j' a2
    have hfo := cq_hv_le (cq_cl N M R) j j'
    have hlv : lv k = nI (cq_h (cq_cl N M R) j') := by have := hl j' hjj a2; rw [a3] at this; exact this
    rw [cq_fo_e2 (hq.trans a3.symm)] at hv
    have hc1 : cq_cn (fun c => cq_cl N M R c = c) (j' + 1) = k + 1 := by rw [cq_cn_t (p := (fun c => cq_cl N M R c = c)) a2, a3]
    have f1 := cq_fo_t (p := (fun c => cq_cl N M R c = c)) (st := cq_hst (cq_h (cq_cl N M R)) j) (s := 1) a2
    have hik : vp_in (nI k) 128 := vp_in_nI (by omega) (by decide)
    have ck : (nI k).toNatClampNeg = k := nI_clamp (by omega)
    refine pk_le i k (fun h => absurd h (by omega)) (fun _ => ⟨hik, hin, ?_⟩)
    rw [ci, ck, csi, a4, hv, hlv]
    by_cases hs : cq_sub j' j
    · refine br_t ((cq_isub (by omega)).mpr hs) ⟨hik, hin, ?_⟩
      refine pk_lt (cq_h (cq_cl N M R) j') (cq_fo (fun c => cq_cl N M R c = c) (cq_hst (cq_h (cq_cl N M R)) j) 1 j') (fun h => nm_r (nI_1 k) ?_) (fun h => ⟨hik, hin, nm_r (e' := upd lv i (nI (cq_h (cq_cl N M R) j' + 1))) (by rw [nI_1]) (nm_r (nI_1 k) ?_)⟩)
      · rw [cq_hst_f fun z => absurd z.2 (by omega)] at f1
        exact ih (k + 1) (j' + 1) lv (by omega) hc1 (by rw [f1]; exact hv) hl
      · rw [cq_hst_t hs h] at f1
        exact ih (k + 1) (j' + 1) _ (by omega) hc1 (by rw [f1]; exact pk_us) (by rw [← hi]; exact cq_En_far hl)
    · rw [cq_hst_f fun z => hs z.1] at f1
      exact br_f (fun z => hs ((cq_isub (by omega)).mp z)) (nm_r (nI_1 k) (ih (k + 1) (j' + 1) lv (by omega) hc1 (by rw [f1]; exact hv) hl))
theorem cq_xh8 {post : Int32 → SX → Prop} (hM : M ≤ 7) (l : cq_En (fun c => cq_cl N M R c = c) (2 ^ M) (fun j => j) cs) (hp : ∀ lv, post (nI (cq_fo (fun c => cq_cl N M R c = c) (cq_mst (cq_h (cq_cl N M R))) 0 (2 ^ M))) (nI N, nI M, nI (cq_cn (fun c => cq_cl N M R c = c) (2 ^ M)), pc, cu, ro, co, cs, ps, pe, lv)) : ∀ d i q lv, i + d = cq_cn (fun c => cq_cl N M R c = c) (2 ^ M) → q ≤ 2 ^ M → cq_cn (fun c => cq_cl N M R c = c) q = i → cq_En (fun c => cq_cl N M R c = c) q (cq_h (cq_cl N M R)) lv → wX_height_8 post (nI N) (nI M) (nI (cq_cn (fun c => cq_cl N M R c = c) (2 ^ M))) pc cu (d + 1) (nI (cq_fo (fun c => cq_cl N M R c = c) (cq_mst (cq_h (cq_cl N M R))) 0 q)) (nI i) ro co cs ps pe lv := by
  have h7 := cq_p7 hM
  have hcn := cq_cn_le (fun c => cq_cl N M R c = c) (2 ^ M)
  intro d
  induction d with
  | zero =>
    intro i q lv hi hqM hq hl
    have e : i = cq_cn (fun c => cq_cl N M R c = c) (2 ^ M) := by omega
    rw [cq_fo_e2 (hq.trans e)]
    exact pk_le (cq_cn (fun c => cq_cl N M R c = c) (2 ^ M)) i (fun _ => hp lv) (fun h => absurd h (by omega))
  | succ d ih =>
    intro i q lv hi hqM hq hl
    obtain ⟨j, j1, j2, j3, j4⟩ := cq_pl l (i := i) (by omega)
    have ci : (nI i).toNatClampNeg = i := nI_clamp (by omega)
    refine pk_le (cq_cn (fun c => cq_cl N M R c = c) (2 ^ M)) i (fun h => absurd h (by omega)) (fun _ => ⟨vp_in_nI (by omega) (by decide), nm_r (e' := upd lv i (nI 1)) (by rw [ci]; rfl) ⟨i + 1, ?_⟩⟩)
    have hmo := cq_ms_le (cq_cl N M R) q
    refine cq_xh25 hM l j1 j2 j3 (by omega) (fun lv hE => ?_) i 0 0 _ (by omega) rfl pk_us (by rw [← j3]; exact cq_En_far (cq_En_e (hq.trans j3.symm) hl))
    have := ih (i + 1) (j + 1) lv (by omega) (by omega) (by rw [cq_cn_t (p := (fun c => cq_cl N M R c = c)) j2, j3]) hE
    rw [cq_fo_t (p := (fun c => cq_cl N M R c = c)) j2, ← cq_fo_e2 (hq.trans j3.symm)] at this
    exact this
theorem cq_xon4 {s : Nat} {post : Int32 → Prop} (hs : s < 2 ^ 31) (hp : post (nI (cq_sz s 8))) : ∀ d k, k + d = 8 → wX_ones_4 post (nI s) (d + 1) (nI (cq_sz s k)) (nI k) := by
  intro d
  induction d with
  | zero =>
    intro k hk
    have e : k = 8 := by omega
    rw [e]
    exact br_t (by decide) hp
  | succ d ih =>
    intro k hk
    refine pk_le 8 k (fun h => absurd h (by omega)) (fun _ => nm_r (e' := nI (cq_sz s (k + 1))) ?_ (nm_r (nI_1 k) (ih (k + 1) (by omega))))
    rw [cq_bit hs (by omega), nI_add, cq_sz_s]
theorem cq_xon {s : Nat} {post : Int32 → Prop} (hs : s < 2 ^ 7) (hp : post (nI (cq_sz s 7))) : wpX_ones post (nI s) := by
  unfold wpX_ones
  rw [← cq_sz_M (k := 8) hs (by decide)] at hp
  exact ⟨9, cq_xon4 (by omega) hp 8 0 (by omega)⟩
theorem cq_xg27 (T : cq_XT N M R ro co) {goal : Nat} {post : Int32 → Prop} (hg : goal < 2 ^ M) (hk : cq_cl N M R goal = goal) (hp : ∀ y, cq_Gs (cq_cl N M R) (2 ^ M) goal y → post (nI y)) : ∀ n least part k, part < n → k + part ≤ 127 → cq_sub part goal → least ≤ 7 → (least = M ∨ ∃ s, s < 2 ^ M ∧ cq_cl N M R s = goal ∧ cq_sz s 7 = least) → (∀ s, s < 2 ^ M → cq_cl N M R s = goal → part < s → least ≤ cq_sz s 7) → wX_generatorSize_27 post (nI goal) (nI N) (nI M) cc pc cu ro co cs ps pe lv n (nI least) (nI part) (nI k) := by
  have hM7 := T.2.1.2
  have h7 := cq_p7 hM7
  have hgM : cq_sz goal 7 ≤ M := by rw [cq_sz_M hg hM7]; exact cq_sz_le goal M
  intro n
  induction n with
  | zero => intro least part k h; omega
  | succ n ih =>
    intro least part k hn hkp hsub h7l hl hm
    have hpg := cq_sub_le hsub
    have hsz := cq_sz_le part 7
    have fin : ∀ l, l ≤ 7 → (l = M ∨ ∃ s, s < 2 ^ M ∧ cq_cl N M R s = goal ∧ cq_sz s 7 = l) → (∀ s, s < 2 ^ M → cq_cl N M R s = goal → part ≤ s → l ≤ cq_sz s 7) → wX_generatorSize_61 post (wX_generatorSize_27 post (nI goal) (nI N) (nI M) cc pc cu ro co cs ps pe lv n) (nI goal) (nI l) (nI part) (nI k) (nI N) (nI M) cc pc cu ro co cs ps pe lv := fun l hl7 hl hm => by
      refine pk_eq part 0 (fun e => hp l (cq_Gs_of hl (fun s a b => hm s a b (by omega)) hg hk hgM)) (fun e => ?_)
      have hle : (part - 1) &&& goal ≤ part - 1 := Nat.and_le_left
      refine nm_r (e' := nI ((part - 1) &&& goal)) ?_ (nm_r (nI_1 k) (ih l _ (k + 1) (by omega) (by omega) ?_ hl7 hl fun s a b c => hm s a b ?_))
      · rw [← nx_and]
        exact congrArg (· &&& nI goal) (pk_sub (b := 1) (by omega))
      · show ((part - 1) &&& goal) &&& goal = _
        rw [Nat.and_assoc, Nat.and_self]
      · apply Nat.le_of_not_lt
        intro z
        have hsg : cq_sub s goal := by have := (cq_cl_CL N M R).2.1 s a; rw [b] at this; exact this
        have := cq_part part goal s hsub hsg z
        omega
    refine pk_le 128 k (fun h => absurd h (by omega)) (fun _ => cq_xon (by omega) ?_)
    refine pk_le least (cq_sz part 7) (fun h => fin least h7l hl fun s a b c => ?_) (fun h => cq_xcl T (by omega) ?_)
    · by_cases e : s = part
      · rw [e]; exact h
      · exact hm s a b (by omega)
    · have hkl := cq_cl_lt N M R part
      try dsimp only
      refine pk_eq (cq_cl N M R part) goal (fun e => fin _ (by omega) (Or.inr ⟨part, by omega, e, rfl⟩) fun s a b c => ?_) (fun e => fin least h7l hl fun s a b c => ?_)
      · by_cases e2 : s = part
        · rw [e2]; exact Nat.le_refl _
        · have := hm s a b (by omega); omega
      · by_cases e2 : s = part
        · rw [e2] at b; exact absurd b e
        · exact hm s a b (by omega)
theorem cq_xd20 (T : cq_XT N M R ro co) {a : Nat} {post : Int32 → SX → Prop} (ha : a < M) (l : cq_En (fun c => cq_cl N M R c = c) (2 ^ M) (fun j => j) cs) (hy : cq_Di (cq_cl N M R) (2 ^ M) a → post 0 (nI N, nI M, nI (cq_cn (fun c => cq_cl N M R c = c) (2 ^ M)), pc, cu, ro, co, cs, ps, pe, lv)) (hn : ¬ cq_Di (cq_cl N M R) (2 ^ M) a → post 1 (nI N, nI M, nI (cq_cn (fun c => cq_cl N M R c = c) (2 ^ M)), pc, cu, ro, co, cs, ps, pe, lv)) : ∀ d i, i + d = cq_cn (fun c => cq_cl N M R c = c) (2 ^ M) → (∀ j, j < 2 ^ M → cq_cl N M R j = j → cq_cn (fun c => cq_cl N M R c = c) j < i → ¬ (j.testBit a = false ∧ cq_cl N M R (j ||| 2 ^ a) = j ||| 2 ^ a)) → wX_dispensable_20 post (nI (2 ^ a)) (nI N) (nI M) (nI (cq_cn (fun c => cq_cl N M R c = c) (2 ^ M))) pc cu ro co cs ps pe lv (d + 1) (nI i) := by
  have hM7 := T.2.1.2
  have h7 := cq_p7 hM7
  have hcn := cq_cn_le (fun c => cq_cl N M R c = c) (2 ^ M)
  intro d
  induction d with
  | zero =>
    intro i hi H
    refine pk_le (cq_cn (fun c => cq_cl N M R c = c) (2 ^ M)) i (fun _ => hn ?_) (fun h => absurd h (by omega))
    rintro ⟨j, a1, a2, a3, a4⟩
    exact H j a1 a2 (by have := cq_cn_lt (p := (fun c => cq_cl N M R c = c)) a1 a2; omega) ⟨a3, a4⟩
  | succ d ih =>
    intro i hi H
    obtain ⟨j, j1, j2, j3, j4⟩ := cq_pl l (i := i) (by omega)
    have hin : vp_in (nI i) 128 := vp_in_nI (by omega) (by decide)
    have hlt := cq_cu_lt j1 ha
    have go : ¬ (j.testBit a = false ∧ cq_cl N M R (j ||| 2 ^ a) = j ||| 2 ^ a) → wX_dispensable_20 post (nI (2 ^ a)) (nI N) (nI M) (nI (cq_cn (fun c => cq_cl N M R c = c) (2 ^ M))) pc cu ro co cs ps pe lv (d + 1) (nI (i + 1)) := fun G => ih (i + 1) (by omega) fun j' a1 a2 a3 => by
      by_cases e : cq_cn (fun c => cq_cl N M R c = c) j' = i
      · rw [cq_cn_inj (p := (fun c => cq_cl N M R c = c)) a2 j2 (e.trans j3.symm)]; exact G
      · exact H j' a1 a2 (by omega)
    refine pk_le (cq_cn (fun c => cq_cl N M R c = c) (2 ^ M)) i (fun h => absurd h (by omega)) (fun _ => ⟨hin, ?_⟩)
    rw [nI_clamp (by omega), j4]
    refine nm_r (cq_or _ _) ⟨hin, ?_⟩
    refine pk_eq (j ||| 2 ^ a) j (fun e => nm_r (nI_1 i) (go fun z => ?_)) (fun e => cq_xcl T hlt ?_)
    · rw [cq_or_ne.mp e] at z; exact absurd z.1 (by decide)
    · have hkl := cq_cl_lt N M R (j ||| 2 ^ a)
      try dsimp only
      refine pk_eq (cq_cl N M R (j ||| 2 ^ a)) (j ||| 2 ^ a) (fun e2 => hy ⟨j, j1, j2, ?_, e2⟩) (fun e2 => nm_r (nI_1 i) (go fun z => e2 z.2))
      cases hb : j.testBit a
      · rfl
      · exact absurd (cq_or_ne.mpr hb) e
end
end
section
/-! ===== Y: tests, closures, the table of all sets ===== -/
def cq_YT (N M : Nat) (R : Nat → Nat) (ro : Nat → Int32) : Prop := (1 ≤ N ∧ N ≤ 8) ∧ (2 ≤ M ∧ M ≤ 7) ∧ (∀ g, R g < 2 ^ M) ∧ (∀ g, ro g = nI (R g))
theorem cq_XY {N M : Nat} {R : Nat → Nat} {ro co : Nat → Int32} (T : cq_XT N M R ro co) : cq_YT N M R ro := ⟨T.1, T.2.1, T.2.2.1, T.2.2.2.1⟩
theorem cq_bb {p A B : Prop} (f : ¬ p → A) (g : p → B) : (nI (cq_b p) = 0 → A) ∧ (¬ nI (cq_b p) = 0 → B) := by
  by_cases h : p
  · rw [cq_b_t h]; exact br_f (by decide) (g h)
  · rw [cq_b_f h]; exact br_t rfl (f h)
def cq_Tb (K : Nat → Nat) (b : Nat) (yc yp yk : Nat → Int32) : Prop := ∀ j, j < b → yc j = nI (cq_b (K j = j)) ∧ yp j = nI (cq_b (cq_Ps K j)) ∧ yk j = nI (K j)
section
variable {N M : Nat} {R : Nat → Nat} {ro yc yp yk yh : Nat → Int32}
theorem cq_yob1 {g : Nat} {post : Int32 → Prop} (hN : N ≤ 8) (hg : g < N) (hp : post 0) : wpY_badObject post (nI N, nI M, nI (2 ^ M - 1), ro, yc, yp, yk, yh) (nI g) :=
  br_f (nI_pos (by omega)) (br_f (nI_ge hg (by omega)) (br_t (nI_le (b := 7) (by omega) (by decide)) hp))
theorem cq_yob0 {x : Int32} {post : Int32 → Prop} (hx : x < 0 ∨ nI N ≤ x) (hp : post 1) : wpY_badObject post (nI N, nI M, nI (2 ^ M - 1), ro, yc, yp, yk, yh) x := by
  by_cases h : x < 0
  · exact br_t h hp
  · exact br_f h (br_t (hx.resolve_left h) hp)
theorem cq_yat1 {g : Nat} {post : Int32 → Prop} (hN : M ≤ 7) (hg : g < M) (hp : post 0) : wpY_badAttribute post (nI N, nI M, nI (2 ^ M - 1), ro, yc, yp, yk, yh) (nI g) :=
  br_f (nI_pos (by omega)) (br_t (nI_lt hg (by omega)) hp)
theorem cq_yat0 {x : Int32} {post : Int32 → Prop} (hx : x < 0 ∨ nI M ≤ x) (hp : post 1) : wpY_badAttribute post (nI N, nI M, nI (2 ^ M - 1), ro, yc, yp, yk, yh) x := by
  by_cases h : x < 0
  · exact br_t h hp
  · exact br_f h (br_f (Int32.not_lt.mpr (hx.resolve_left h)) hp)
theorem cq_yse1 {s : Nat} {post : Int32 → Prop} (hM : M ≤ 7) (hs : s < 2 ^ M) (hp : post 0) : wpY_badSet post (nI N, nI M, nI (2 ^ M - 1), ro, yc, yp, yk, yh) (nI s) := by
  have h7 := cq_p7 hM
  exact br_f (nI_pos (by omega)) (br_t (nI_le (by omega) (by omega)) hp)
theorem cq_yse0 {x : Int32} {post : Int32 → Prop} (hM : M ≤ 7) (hx : x < 0 ∨ nI (2 ^ M) ≤ x) (hp : post 1) : wpY_badSet post (nI N, nI M, nI (2 ^ M - 1), ro, yc, yp, yk, yh) x := by
  have h7 := cq_p7 hM
  have h0 := Nat.two_pow_pos M
  by_cases h : x < 0
  · exact br_t h hp
  · refine br_f h (br_f (fun z => ?_) hp)
    have e : nI (2 ^ M) ≤ nI (2 ^ M - 1) := Int32.le_trans (hx.resolve_left h) z
    rw [nI_leI (by omega) (by omega)] at e
    omega
theorem cq_ypart {x y : Nat} {post : Int32 → Prop} (hx : x < 2 ^ 31) (h1 : cq_sub x y → post 1) (h0 : ¬ cq_sub x y → post 0) : wpY_part post (nI N, nI M, nI (2 ^ M - 1), ro, yc, yp, yk, yh) (nI x) (nI y) := by
  by_cases h : cq_sub x y
  · exact br_t ((cq_iand hx).mpr h) (h1 h)
  · exact br_f (fun z => h ((cq_iand hx).mp z)) (h0 h)
theorem cq_yprop {x y : Nat} {post : Int32 → Prop} (hx : x < 2 ^ 31) (hy : y < 2 ^ 31) (h1 : x ≠ y → cq_sub x y → post 1) (h0 : ¬ (x ≠ y ∧ cq_sub x y) → post 0) : wpY_proper post (nI N, nI M, nI (2 ^ M - 1), ro, yc, yp, yk, yh) (nI x) (nI y) := by
  unfold wpY_proper
  dsimp only
  refine pk_eq x y (fun e => h0 fun z => z.1 e) (fun e => cq_ypart hx (fun s => ?_) (fun s => ?_))
  · exact br_f (by decide) (h1 e s)
  · exact br_t rfl (h0 fun z => s z.2)
theorem cq_yh4 (T : cq_YT N M R ro) {s : Nat} {post : Int32 → Prop} (hs : s < 2 ^ 31) (hp : post (nI (cq_hav R s N))) : ∀ d k, k + d = N → wY_havers_4 post (nI s) (nI N) (nI M) (nI (2 ^ M - 1)) ro yc yp yk yh (d + 1) (nI (cq_hav R s k)) (nI k) := by
  obtain ⟨⟨hN1, hN8⟩, ⟨hM2, hM7⟩, hR, hr⟩ := T
  intro d
  induction d with
  | zero =>
    intro k hk
    have e : k = N := by omega
    rw [e]
    exact pk_le N N (fun _ => hp) (fun h => absurd h (Nat.lt_irrefl _))
  | succ d ih =>
    intro k hk
    have i := ih (k + 1) (by omega)
    refine pk_le N k (fun h => absurd h (by omega)) (fun _ => pk_le 8 k (fun h => absurd h (by omega)) (fun _ => ⟨vp_in_nI (by omega) (by decide), ?_⟩))
    rw [nI_clamp (by omega), hr k]
    refine cq_ypart hs (fun h => ?_) (fun h => ?_)
    · have e : cq_hav R s (k + 1) = cq_hav R s k ||| 2 ^ k := if_pos h
      refine br_f (by decide) (nm_r (e' := nI (cq_hav R s (k + 1))) ?_ (nm_r (nI_1 k) i))
      rw [cq_shl (by omega), cq_or, e]
    · have e : cq_hav R s (k + 1) = cq_hav R s k := if_neg h
      rw [e] at i
      exact br_t rfl (nm_r (nI_1 k) i)
theorem cq_ys7 (T : cq_YT N M R ro) {e A : Nat} {post : Int32 → Prop} (he : e < 2 ^ 31) (hp : post (nI (cq_shr R A e N))) : ∀ d k, k + d = N → wY_shared_7 post (nI e) (nI N) (nI M) (nI (2 ^ M - 1)) ro yc yp yk yh (d + 1) (nI (cq_shr R A e k)) (nI k) := by
  obtain ⟨⟨hN1, hN8⟩, ⟨hM2, hM7⟩, hR, hr⟩ := T
  intro d
  induction d with
  | zero =>
    intro k hk
    have e : k = N := by omega
    rw [e]
    exact pk_le N N (fun _ => hp) (fun h => absurd h (Nat.lt_irrefl _))
  | succ d ih =>
    intro k hk
    have i := ih (k + 1) (by omega)
    refine pk_le N k (fun h => absurd h (by omega)) (fun _ => pk_le 8 k (fun h => absurd h (by omega)) (fun _ => ?_))
    by_cases hb : e.testBit k = true
    · refine br_t ((cq_bit1 he (by omega)).mpr hb) ⟨vp_in_nI (by omega) (by decide), nm_r (e' := nI (cq_shr R A e (k + 1))) ?_ (nm_r (nI_1 k) i)⟩
      have e2 : cq_shr R A e (k + 1) = cq_shr R A e k &&& R k := if_pos hb
      rw [nI_clamp (by omega), hr k, nx_and, e2]
    · have e2 : cq_shr R A e (k + 1) = cq_shr R A e k := if_neg hb
      rw [e2] at i
      exact br_f (fun z => hb ((cq_bit1 he (by omega)).mp z)) (nm_r (nI_1 k) i)
theorem cq_yhav (T : cq_YT N M R ro) {s : Nat} {post : Int32 → Prop} (hs : s < 2 ^ 31) (hp : post (nI (cq_hav R s N))) : wpY_havers post (nI N, nI M, nI (2 ^ M - 1), ro, yc, yp, yk, yh) (nI s) := by
  unfold wpY_havers
  dsimp only
  exact ⟨N + 1, cq_yh4 T hs hp N 0 (by omega)⟩
theorem cq_yshr (T : cq_YT N M R ro) {e : Nat} {post : Int32 → Prop} (he : e < 2 ^ 31) (hp : post (nI (cq_shr R (2 ^ M - 1) e N))) : wpY_shared post (nI N, nI M, nI (2 ^ M - 1), ro, yc, yp, yk, yh) (nI e) := by
  unfold wpY_shared
  dsimp only
  exact ⟨N + 1, cq_ys7 T (A := 2 ^ M - 1) he hp N 0 (by omega)⟩
theorem cq_ycl (T : cq_YT N M R ro) {s : Nat} {post : Int32 → Prop} (hs : s < 2 ^ M) (hp : post (nI (cq_cl N M R s))) : wpY_closureOf post (nI N, nI M, nI (2 ^ M - 1), ro, yc, yp, yk, yh) (nI s) := by
  have h7 := cq_p7 T.2.1.2
  unfold wpY_closureOf
  dsimp only
  exact cq_yhav T (by omega) (cq_yshr T (cq_hav31 T.1.2) hp)
theorem cq_yip13 {set : Nat} {post : Int32 → Prop} (hM : M ≤ 7) (hset : set < 2 ^ M) (tp : ∀ j, j < set → yp j = nI (cq_b (cq_Ps (cq_cl N M R) j)) ∧ yk j = nI (cq_cl N M R j)) (hy : cq_F (cq_cl N M R) set → post 1) (hn : ¬ cq_F (cq_cl N M R) set → post 0) : ∀ d k, k + d = set → (∀ q, q < k → cq_Ps (cq_cl N M R) q → cq_sub q set → cq_sub (cq_cl N M R q) set) → wY_isPseudo_13 post (nI set) (nI N) (nI M) (nI (2 ^ M - 1)) ro yc yp yk yh (d + 1) (nI k) := by
  have h7 := cq_p7 hM
  intro d
  induction d with
  | zero =>
    intro k hk H
    have e : k = set := by omega
    rw [e] at H
    exact pk_le set k (fun _ => hy H) (fun h => absurd h (by omega))
  | succ d ih =>
    intro k hk H
    obtain ⟨t1, t2⟩ := tp k (by omega)
    have hin : vp_in (nI k) 128 := vp_in_nI (by omega) (by decide)
    have hkl := cq_cl_lt N M R k
    have go : (cq_Ps (cq_cl N M R) k → cq_sub k set → cq_sub (cq_cl N M R k) set) → wY_isPseudo_13 post (nI set) (nI N) (nI M) (nI (2 ^ M - 1)) ro yc yp yk yh (d + 1) (nI (k + 1)) := fun G => ih (k + 1) (by omega) fun q hq => by
      by_cases e : q = k
      · rw [e]; exact G
      · exact H q (by omega)
    refine pk_le set k (fun h => absurd h (by omega)) (fun _ => ⟨hin, ?_⟩)
    rw [nI_clamp (by omega), t1, t2]
    refine cq_bb (fun h => nm_r (nI_1 k) (go fun z => absurd z h)) (fun h => cq_yprop (by omega) (by omega) (fun a b => ?_) (fun a => ?_))
    · refine br_f (by decide) ⟨hin, cq_ypart (by omega) (fun c => ?_) (fun c => ?_)⟩
      · exact br_f (by decide) (nm_r (nI_1 k) (go fun _ _ => c))
      · exact br_t rfl (hn fun F => c (F k (by omega) h b))
    · exact br_t rfl (nm_r (nI_1 k) (go fun _ z => absurd ⟨by omega, z⟩ a))
theorem cq_yip {set : Nat} {post : Int32 → Prop} (hM : M ≤ 7) (hset : set < 2 ^ M) (tc : yc set = nI (cq_b (cq_cl N M R set = set))) (tp : ∀ j, j < set → yp j = nI (cq_b (cq_Ps (cq_cl N M R) j)) ∧ yk j = nI (cq_cl N M R j)) (hp : ∀ r, r = nI (cq_b (cq_Ps (cq_cl N M R) set)) → vp_nar .boolean r = r → post r) : wpY_isPseudo post (nI N, nI M, nI (2 ^ M - 1), ro, yc, yp, yk, yh) (nI set) := by
  have h7 := cq_p7 hM
  unfold wpY_isPseudo
  dsimp only
  refine ⟨vp_in_nI (by omega) (by decide), ?_⟩
  rw [nI_clamp (by omega), tc]
  refine cq_bb (fun h => ⟨set + 1, cq_yip13 hM hset tp (fun F => hp 1 ?_ rfl) (fun F => hp 0 ?_ rfl) set 0 (by omega) (fun q hq => absurd hq (Nat.not_lt_zero q))⟩) (fun h => hp 0 ?_ rfl)
  · rw [cq_b_t (cq_Ps_i.mpr ⟨h, F⟩)]; rfl
  · rw [cq_b_f fun z => F (cq_Ps_i.mp z).2]; rfl
  · rw [cq_b_f fun z => (cq_Ps_i.mp z).1 h]; rfl
theorem cq_yt48 {set : Nat} {z : Int32} {J : Int32 → (Nat → Int32) → (Nat → Int32) → (Nat → Int32) → (Nat → Int32) → (Nat → Int32) → Prop} {post : SY → Prop} (hM : M ≤ 7) (hset : set < 2 ^ M) (hz : z = nI (cq_b (cq_cl N M R set = set))) (hz2 : vp_nar .boolean z = z) (tb : cq_Tb (cq_cl N M R) set yc yp yk) (tk : yk set = nI (cq_cl N M R set)) (hJ : ∀ yc yp, cq_Tb (cq_cl N M R) (set + 1) yc yp yk → J (nI (set + 1)) ro yc yp yk yh) : wY_tabulate_48 post J (nI set) z (nI set) (nI N) (nI M) (nI (2 ^ M - 1)) ro yc yp yk yh := by
  have h7 := cq_p7 hM
  have hin : vp_in (nI set) 128 := vp_in_nI (by omega) (by decide)
  have cl : (nI set).toNatClampNeg = set := nI_clamp (by omega)
  unfold wY_tabulate_48
  rw [cl, hz2]
  refine ⟨hin, nm_e (cq_yip hM hset (by rw [pk_us]; exact hz) (fun j hj => (tb j hj).2) fun r hr hr2 => ?_)⟩
  refine ⟨hin, nm_r (e' := upd yp set r) (by rw [hr2]) (nm_r (nI_1 set) (hJ _ _ fun j hj => ?_))⟩
  by_cases e : j = set
  · rw [e, pk_us, pk_us]; exact ⟨hz, hr, tk⟩
  · rw [pk_un e, pk_un e]; exact tb j (by omega)
theorem cq_yt2 (T : cq_YT N M R ro) {post : SY → Prop} (hp : ∀ yc yp yk, cq_Tb (cq_cl N M R) (2 ^ M) yc yp yk → post (nI N, nI M, nI (2 ^ M - 1), ro, yc, yp, yk, yh)) : ∀ d k yc yp yk, k + d = 2 ^ M → cq_Tb (cq_cl N M R) k yc yp yk → wY_tabulate_2 post (nI N) (nI M) (nI (2 ^ M - 1)) (d + 1) (nI k) ro yc yp yk yh := by
  have hM7 := T.2.1.2
  have h7 := cq_p7 hM7
  have h0 := Nat.two_pow_pos M
  intro d
  induction d with
  | zero =>
    intro k yc yp yk hk tb
    have e : k = 2 ^ M := by omega
    rw [e] at tb
    exact pk_lt (2 ^ M - 1) k (fun _ => hp _ _ _ tb) (fun h => absurd h (by omega))
  | succ d ih =>
    intro k yc yp yk hk tb
    have hin : vp_in (nI k) 128 := vp_in_nI (by omega) (by decide)
    have cl : (nI k).toNatClampNeg = k := nI_clamp (by omega)
    have hkl := cq_cl_lt N M R k
    refine pk_lt (2 ^ M - 1) k (fun h => absurd h (by omega)) (fun _ => pk_le 128 k (fun h => absurd h (by omega)) (fun _ => cq_ycl T (by omega) ?_))
    rw [cl]
    refine ⟨hin, nm_e ⟨hin, ?_⟩⟩
    rw [pk_us]
    have tb' : cq_Tb (cq_cl N M R) k yc yp (upd yk k (nI (cq_cl N M R k))) := fun j hj => by rw [pk_un (by omega)]; exact tb j hj
    refine pk_eq (cq_cl N M R k) k (fun e => ?_) (fun e => ?_)
    · exact cq_yt48 hM7 (by omega) (by rw [cq_b_t e]; rfl) rfl tb' pk_us fun yc yp t => ih (k + 1) _ _ _ (by omega) t
    · exact cq_yt48 hM7 (by omega) (by rw [cq_b_f e]; rfl) rfl tb' pk_us fun yc yp t => ih (k + 1) _ _ _ (by omega) t
theorem cq_ytab (T : cq_YT N M R ro) {post : SY → Prop} (hp : ∀ yc yp yk, cq_Tb (cq_cl N M R) (2 ^ M) yc yp yk → post (nI N, nI M, nI (2 ^ M - 1), ro, yc, yp, yk, yh)) : wpY_tabulate post (nI N, nI M, nI (2 ^ M - 1), ro, yc, yp, yk, yh) := by
  unfold wpY_tabulate
  dsimp only
  exact ⟨2 ^ M + 1, cq_yt2 T hp (2 ^ M) 0 _ _ _ (by omega) (fun j hj => absurd hj (Nat.not_lt_zero j))⟩
end
end
section
/-! ===== Y: the loops over all sets ===== -/
section
variable {N M : Nat} {R : Nat → Nat} {ro yc yp yk yh : Nat → Int32}
theorem cq_ycs8 {post : Int32 → SY → Prop} (hM : M ≤ 7) (tb : cq_Tb (cq_cl N M R) (2 ^ M) yc yp yk) (hp : post (nI (cq_cn (fun c => cq_cl N M R c = c) (2 ^ M))) (nI N, nI M, nI (2 ^ M - 1), ro, yc, yp, yk, yh)) : ∀ d k, k + d = 2 ^ M → wY_closedSets_8 post (nI N) (nI M) (nI (2 ^ M - 1)) ro yc yp yk yh (d + 1) (nI (cq_cn (fun c => cq_cl N M R c = c) k)) (nI k) := by
  have h7 := cq_p7 hM
  have h0 := Nat.two_pow_pos M
  intro d
  induction d with
  | zero =>
    intro k hk
    have e : k = 2 ^ M := by omega
    rw [e]
    exact pk_lt (2 ^ M - 1) (2 ^ M) (fun _ => hp) (fun h => absurd h (by omega))
  | succ d ih =>
    intro k hk
    have i := ih (k + 1) (by omega)
    refine pk_lt (2 ^ M - 1) k (fun h => absurd h (by omega)) (fun _ => ⟨vp_in_nI (by omega) (by decide), ?_⟩)
    rw [nI_clamp (by omega), (tb k (by omega)).1]
    refine cq_bb (fun h => nm_r (nI_1 k) ?_) (fun h => nm_r (nI_1 _) (nm_r (nI_1 k) ?_))
    · rw [cq_cn_f (p := (fun c => cq_cl N M R c = c)) h] at i; exact i
    · rw [cq_cn_t (p := (fun c => cq_cl N M R c = c)) h] at i; exact i
theorem cq_yru8 {post : Int32 → SY → Prop} (hM : M ≤ 7) (tb : cq_Tb (cq_cl N M R) (2 ^ M) yc yp yk) (hp : post (nI (cq_cn (cq_Ps (cq_cl N M R)) (2 ^ M))) (nI N, nI M, nI (2 ^ M - 1), ro, yc, yp, yk, yh)) : ∀ d k, k + d = 2 ^ M → wY_rules_8 post (nI N) (nI M) (nI (2 ^ M - 1)) ro yc yp yk yh (d + 1) (nI (cq_cn (cq_Ps (cq_cl N M R)) k)) (nI k) := by
  have h7 := cq_p7 hM
  have h0 := Nat.two_pow_pos M
  intro d
  induction d with
  | zero =>
    intro k hk
    have e : k = 2 ^ M := by omega
    rw [e]
    exact pk_lt (2 ^ M - 1) (2 ^ M) (fun _ => hp) (fun h => absurd h (by omega))
  | succ d ih =>
    intro k hk
    have i := ih (k + 1) (by omega)
    refine pk_lt (2 ^ M - 1) k (fun h => absurd h (by omega)) (fun _ => ⟨vp_in_nI (by omega) (by decide), ?_⟩)
    rw [nI_clamp (by omega), (tb k (by omega)).2.1]
    refine cq_bb (fun h => nm_r (nI_1 k) ?_) (fun h => nm_r (nI_1 _) (nm_r (nI_1 k) ?_))
    · rw [cq_cn_f h] at i; exact i
    · rw [cq_cn_t h] at i; exact i
theorem cq_ycl8 {x : Int32} {post : Int32 → SY → Prop} (hM : M ≤ 7) (tb : cq_Tb (cq_cl N M R) (2 ^ M) yc yp yk) (hf : ∀ j, j < 2 ^ M → cq_cl N M R j = j → x = nI (cq_cn (fun c => cq_cl N M R c = c) j) → post (nI j) (nI N, nI M, nI (2 ^ M - 1), ro, yc, yp, yk, yh)) (hn : (∀ j, j < 2 ^ M → cq_cl N M R j = j → x ≠ nI (cq_cn (fun c => cq_cl N M R c = c) j)) → post (-1) (nI N, nI M, nI (2 ^ M - 1), ro, yc, yp, yk, yh)) : ∀ d k, k + d = 2 ^ M → (∀ j, j < k → cq_cl N M R j = j → x ≠ nI (cq_cn (fun c => cq_cl N M R c = c) j)) → wY_closedSet_8 post x (nI N) (nI M) (nI (2 ^ M - 1)) ro yc yp yk yh (d + 1) (nI (cq_cn (fun c => cq_cl N M R c = c) k)) (nI k) := by
  have h7 := cq_p7 hM
  have h0 := Nat.two_pow_pos M
  intro d
  induction d with
  | zero =>
    intro k hk H
    have e : k = 2 ^ M := by omega
    rw [e] at H ⊢
    exact pk_lt (2 ^ M - 1) (2 ^ M) (fun _ => hn H) (fun h => absurd h (by omega))
  | succ d ih =>
    intro k hk H
    have go : (cq_cl N M R k = k → x ≠ nI (cq_cn (fun c => cq_cl N M R c = c) k)) → wY_closedSet_8 post x (nI N) (nI M) (nI (2 ^ M - 1)) ro yc yp yk yh (d + 1) (nI (cq_cn (fun c => cq_cl N M R c = c) (k + 1))) (nI (k + 1)) := fun G => ih (k + 1) (by omega) fun q hq => by
      by_cases e : q = k
      · rw [e]; exact G
      · exact H q (by omega)
    refine pk_lt (2 ^ M - 1) k (fun h => absurd h (by omega)) (fun _ => ⟨vp_in_nI (by omega) (by decide), ?_⟩)
    rw [nI_clamp (by omega), (tb k (by omega)).1]
    refine cq_bb (fun h => nm_r (nI_1 k) ?_) (fun h => br_c (fun z => hf k (by omega) h z.symm) (fun z => nm_r (nI_1 _) (nm_r (nI_1 k) ?_)))
    · have i := go fun z => absurd z h
      rw [cq_cn_f (p := (fun c => cq_cl N M R c = c)) h] at i; exact i
    · have i := go fun _ e => z e.symm
      rw [cq_cn_t (p := (fun c => cq_cl N M R c = c)) h] at i; exact i
theorem cq_yrl8 {x : Int32} {post : Int32 → SY → Prop} (hM : M ≤ 7) (tb : cq_Tb (cq_cl N M R) (2 ^ M) yc yp yk) (hf : ∀ j, j < 2 ^ M → cq_Ps (cq_cl N M R) j → x = nI (cq_cn (cq_Ps (cq_cl N M R)) j) → post (nI j) (nI N, nI M, nI (2 ^ M - 1), ro, yc, yp, yk, yh)) (hn : (∀ j, j < 2 ^ M → cq_Ps (cq_cl N M R) j → x ≠ nI (cq_cn (cq_Ps (cq_cl N M R)) j)) → post (-1) (nI N, nI M, nI (2 ^ M - 1), ro, yc, yp, yk, yh)) : ∀ d k, k + d = 2 ^ M → (∀ j, j < k → cq_Ps (cq_cl N M R) j → x ≠ nI (cq_cn (cq_Ps (cq_cl N M R)) j)) → wY_rule_8 post x (nI N) (nI M) (nI (2 ^ M - 1)) ro yc yp yk yh (d + 1) (nI (cq_cn (cq_Ps (cq_cl N M R)) k)) (nI k) := by
  have h7 := cq_p7 hM
  have h0 := Nat.two_pow_pos M
  intro d
  induction d with
  | zero =>
    intro k hk H
    have e : k = 2 ^ M := by omega
    rw [e] at H ⊢
    exact pk_lt (2 ^ M - 1) (2 ^ M) (fun _ => hn H) (fun h => absurd h (by omega))
  | succ d ih =>
    intro k hk H
    have go : (cq_Ps (cq_cl N M R) k → x ≠ nI (cq_cn (cq_Ps (cq_cl N M R)) k)) → wY_rule_8 post x (nI N) (nI M) (nI (2 ^ M - 1)) ro yc yp yk yh (d + 1) (nI (cq_cn (cq_Ps (cq_cl N M R)) (k + 1))) (nI (k + 1)) := fun G => ih (k + 1) (by omega) fun q hq => by
      by_cases e : q = k
      · rw [e]; exact G
      · exact H q (by omega)
    refine pk_lt (2 ^ M - 1) k (fun h => absurd h (by omega)) (fun _ => ⟨vp_in_nI (by omega) (by decide), ?_⟩)
    rw [nI_clamp (by omega), (tb k (by omega)).2.1]
    refine cq_bb (fun h => nm_r (nI_1 k) ?_) (fun h => br_c (fun z => hf k (by omega) h z.symm) (fun z => nm_r (nI_1 _) (nm_r (nI_1 k) ?_)))
    · have i := go fun z => absurd z h
      rw [cq_cn_f h] at i; exact i
    · have i := go fun _ e => z e.symm
      rw [cq_cn_t h] at i; exact i
theorem cq_ynx6 {x : Int32} {post : Int32 → SY → Prop} (hM : M ≤ 7) (tb : cq_Tb (cq_cl N M R) (2 ^ M) yc yp yk) (hf : ∀ j, j < 2 ^ M → cq_cl N M R j = j → ¬ nI j ≤ x → (∀ q, q < j → cq_cl N M R q = q → nI q ≤ x) → post (nI j) (nI N, nI M, nI (2 ^ M - 1), ro, yc, yp, yk, yh)) (hn : (∀ j, j < 2 ^ M → cq_cl N M R j = j → nI j ≤ x) → post (-1) (nI N, nI M, nI (2 ^ M - 1), ro, yc, yp, yk, yh)) : ∀ d k, k + d = 2 ^ M → (∀ j, j < k → cq_cl N M R j = j → nI j ≤ x) → wY_nextClosed_6 post x (nI N) (nI M) (nI (2 ^ M - 1)) ro yc yp yk yh (d + 1) (nI k) := by
  have h7 := cq_p7 hM
  have h0 := Nat.two_pow_pos M
  intro d
  induction d with
  | zero =>
    intro k hk H
    have e : k = 2 ^ M := by omega
    rw [e] at H ⊢
    exact pk_lt (2 ^ M - 1) (2 ^ M) (fun _ => hn H) (fun h => absurd h (by omega))
  | succ d ih =>
    intro k hk H
    have go : (cq_cl N M R k = k → nI k ≤ x) → wY_nextClosed_6 post x (nI N) (nI M) (nI (2 ^ M - 1)) ro yc yp yk yh (d + 1) (nI (k + 1)) := fun G => ih (k + 1) (by omega) fun q hq => by
      by_cases e : q = k
      · rw [e]; exact G
      · exact H q (by omega)
    refine pk_lt (2 ^ M - 1) k (fun h => absurd h (by omega)) (fun _ => br_c (fun z => nm_r (nI_1 k) (go fun _ => z)) (fun z => ⟨vp_in_nI (by omega) (by decide), ?_⟩))
    rw [nI_clamp (by omega), (tb k (by omega)).1]
    exact cq_bb (fun h => nm_r (nI_1 k) (go fun w => absurd w h)) (fun h => hf k (by omega) h z H)
theorem cq_yfo20 (T : cq_YT N M R ro) {p q : Nat} {post : Int32 → Prop} (hp : p < 2 ^ 31) (hq : q < 2 ^ 31) (hy : (∀ g, g < N → cq_sub p (R g) → cq_sub q (R g)) → post 1) (hn : ¬ (∀ g, g < N → cq_sub p (R g) → cq_sub q (R g)) → post 0) : ∀ d k, k + d = N → (∀ g, g < k → cq_sub p (R g) → cq_sub q (R g)) → wY_follows_20 post (nI p) (nI q) (nI N) (nI M) (nI (2 ^ M - 1)) ro yc yp yk yh (d + 1) (nI k) := by
  obtain ⟨⟨hN1, hN8⟩, ⟨hM2, hM7⟩, hR, hr⟩ := T
  intro d
  induction d with
  | zero =>
    intro k hk H
    have e : k = N := by omega
    rw [e] at H ⊢
    exact pk_le N N (fun _ => hy H) (fun h => absurd h (Nat.lt_irrefl _))
  | succ d ih =>
    intro k hk H
    have hin : vp_in (nI k) 8 := vp_in_nI (by omega) (by decide)
    have go : (cq_sub p (R k) → cq_sub q (R k)) → wY_follows_20 post (nI p) (nI q) (nI N) (nI M) (nI (2 ^ M - 1)) ro yc yp yk yh (d + 1) (nI (k + 1)) := fun G => ih (k + 1) (by omega) fun g hg => by
      by_cases e : g = k
      · rw [e]; exact G
      · exact H g (by omega)
    refine pk_le N k (fun h => absurd h (by omega)) (fun _ => pk_le 8 k (fun h => absurd h (by omega)) (fun _ => ⟨hin, ?_⟩))
    rw [nI_clamp (by omega), hr k]
    refine cq_ypart hp (fun h => br_f (by decide) ⟨hin, cq_ypart hq (fun h2 => ?_) (fun h2 => ?_)⟩) (fun h => br_t rfl (nm_r (nI_1 k) (go fun z => absurd z h)))
    · exact br_f (by decide) (nm_r (nI_1 k) (go fun _ => h2))
    · exact br_t rfl (hn fun H2 => h2 (H2 k (by omega) h))
/-! covers -/
theorem cq_ybe2 {c d : Nat} {post : Int32 → Prop} (hM : M ≤ 7) (tb : cq_Tb (cq_cl N M R) (2 ^ M) yc yp yk) (hc : c < 2 ^ M) (hd : d < 2 ^ M) (hy : cq_bet (cq_cl N M R) (2 ^ M) c d → post 1) (hn : ¬ cq_bet (cq_cl N M R) (2 ^ M) c d → post 0) : ∀ m k, k + m = 2 ^ M → (∀ e, e < k → cq_cl N M R e = e → ¬ ((c ≠ e ∧ cq_sub c e) ∧ (e ≠ d ∧ cq_sub e d))) → wY_between_2 post (nI c) (nI d) (nI N) (nI M) (nI (2 ^ M - 1)) ro yc yp yk yh (m + 1) (nI k) := by
  have h7 := cq_p7 hM
  have h0 := Nat.two_pow_pos M
  intro m
  induction m with
  | zero =>
    intro k hk H
    have e : k = 2 ^ M := by omega
    rw [e] at H ⊢
    refine pk_lt (2 ^ M - 1) (2 ^ M) (fun _ => hn ?_) (fun h => absurd h (by omega))
    rintro ⟨e, e1, e2, e3⟩
    exact H e e1 e2 e3
  | succ m ih =>
    intro k hk H
    have go : (cq_cl N M R k = k → ¬ ((c ≠ k ∧ cq_sub c k) ∧ (k ≠ d ∧ cq_sub k d))) → wY_between_2 post (nI c) (nI d) (nI N) (nI M) (nI (2 ^ M - 1)) ro yc yp yk yh (m + 1) (nI (k + 1)) := fun G => ih (k + 1) (by omega) fun q hq => by
      by_cases e : q = k
      · rw [e]; exact G
      · exact H q (by omega)
    refine pk_lt (2 ^ M - 1) k (fun h => absurd h (by omega)) (fun _ => ⟨vp_in_nI (by omega) (by decide), ?_⟩)
    rw [nI_clamp (by omega), (tb k (by omega)).1]
    refine cq_bb (fun h => nm_r (nI_1 k) (go fun w => absurd w h)) (fun h => cq_yprop (by omega) (by omega) (fun a b => br_f (by decide) (cq_yprop (by omega) (by omega) (fun a2 b2 => ?_) (fun a2 => ?_))) (fun a => ?_))
    · exact br_f (by decide) (hy ⟨k, by omega, h, ⟨a, b⟩, a2, b2⟩)
    · exact br_t rfl (nm_r (nI_1 k) (go fun _ z => a2 z.2))
    · exact br_t rfl (nm_r (nI_1 k) (go fun _ z => a z.1))
theorem cq_ybet {c d : Nat} {post : Int32 → Prop} (hM : M ≤ 7) (tb : cq_Tb (cq_cl N M R) (2 ^ M) yc yp yk) (hc : c < 2 ^ M) (hd : d < 2 ^ M) (hy : cq_bet (cq_cl N M R) (2 ^ M) c d → post 1) (hn : ¬ cq_bet (cq_cl N M R) (2 ^ M) c d → post 0) : wpY_between post (nI N, nI M, nI (2 ^ M - 1), ro, yc, yp, yk, yh) (nI c) (nI d) := by
  unfold wpY_between
  dsimp only
  exact ⟨2 ^ M + 1, cq_ybe2 hM tb hc hd hy hn (2 ^ M) 0 (by omega) (fun e h => absurd h (Nat.not_lt_zero e))⟩
theorem cq_yov4 {c : Nat} {post : Int32 → Prop} (hM : M ≤ 7) (tb : cq_Tb (cq_cl N M R) (2 ^ M) yc yp yk) (hc : c < 2 ^ M) (hp : post (nI (cq_cn (cq_ovr (cq_cl N M R) (2 ^ M) c) (2 ^ M)))) : ∀ m k, k + m = 2 ^ M → wY_over_4 post (nI c) (nI N) (nI M) (nI (2 ^ M - 1)) ro yc yp yk yh (m + 1) (nI (cq_cn (cq_ovr (cq_cl N M R) (2 ^ M) c) k)) (nI k) := by
  have h7 := cq_p7 hM
  have h0 := Nat.two_pow_pos M
  intro m
  induction m with
  | zero =>
    intro k hk
    have e : k = 2 ^ M := by omega
    rw [e]
    exact pk_lt (2 ^ M - 1) (2 ^ M) (fun _ => hp) (fun h => absurd h (by omega))
  | succ m ih =>
    intro k hk
    have i := ih (k + 1) (by omega)
    have skip : ¬ cq_ovr (cq_cl N M R) (2 ^ M) c k → wY_over_4 post (nI c) (nI N) (nI M) (nI (2 ^ M - 1)) ro yc yp yk yh (m + 1) (nI (cq_cn (cq_ovr (cq_cl N M R) (2 ^ M) c) k)) (nI (k + 1)) := fun z => by rw [cq_cn_f z] at i; exact i
    refine pk_lt (2 ^ M - 1) k (fun h => absurd h (by omega)) (fun _ => ⟨vp_in_nI (by omega) (by decide), ?_⟩)
    rw [nI_clamp (by omega), (tb k (by omega)).1]
    refine cq_bb (fun h => nm_r (nI_1 k) (skip fun z => h z.1)) (fun h => cq_yprop (by omega) (by omega) (fun a b => br_f (by decide) (cq_ybet hM tb hc (by omega) (fun g => ?_) (fun g => ?_))) (fun a => ?_))
    · exact br_f (by decide) (nm_r (nI_1 k) (skip fun z => z.2.2 g))
    · have o : cq_ovr (cq_cl N M R) (2 ^ M) c k := ⟨h, ⟨a, b⟩, g⟩
      rw [cq_cn_t o] at i
      exact br_t rfl (nm_r (nI_1 _) (nm_r (nI_1 k) i))
    · exact br_t rfl (nm_r (nI_1 k) (skip fun z => a z.2.1))
theorem cq_yov {c : Nat} {post : Int32 → Prop} (hM : M ≤ 7) (tb : cq_Tb (cq_cl N M R) (2 ^ M) yc yp yk) (hc : c < 2 ^ M) (hp : post (nI (cq_cn (cq_cov (cq_cl N M R) M c) M))) : wpY_over post (nI N, nI M, nI (2 ^ M - 1), ro, yc, yp, yk, yh) (nI c) := by
  unfold wpY_over
  dsimp only
  rw [cq_covers (cq_cl_CL N M R) hc] at hp
  exact ⟨2 ^ M + 1, cq_yov4 hM tb hc hp (2 ^ M) 0 (by omega)⟩
theorem cq_ylk8 {post : Int32 → SY → Prop} (hM : M ≤ 7) (tb : cq_Tb (cq_cl N M R) (2 ^ M) yc yp yk) (hp : post (nI (cq_fo (fun c => cq_cl N M R c = c) (cq_lst (cq_cl N M R) M) 0 (2 ^ M))) (nI N, nI M, nI (2 ^ M - 1), ro, yc, yp, yk, yh)) : ∀ m k, k + m = 2 ^ M → wY_links_8 post (nI N) (nI M) (nI (2 ^ M - 1)) ro yc yp yk yh (m + 1) (nI (cq_fo (fun c => cq_cl N M R c = c) (cq_lst (cq_cl N M R) M) 0 k)) (nI k) := by
  have h7 := cq_p7 hM
  have h0 := Nat.two_pow_pos M
  intro m
  induction m with
  | zero =>
    intro k hk
    have e : k = 2 ^ M := by omega
    rw [e]
    exact pk_lt (2 ^ M - 1) (2 ^ M) (fun _ => hp) (fun h => absurd h (by omega))
  | succ m ih =>
    intro k hk
    have i := ih (k + 1) (by omega)
    refine pk_lt (2 ^ M - 1) k (fun h => absurd h (by omega)) (fun _ => ⟨vp_in_nI (by omega) (by decide), ?_⟩)
    rw [nI_clamp (by omega), (tb k (by omega)).1]
    refine cq_bb (fun h => nm_r (nI_1 k) ?_) (fun h => cq_yov hM tb (by omega) (nm_r (nI_add _ _) (nm_r (nI_1 k) ?_)))
    · rw [cq_fo_f (p := (fun c => cq_cl N M R c = c)) h] at i; exact i
    · rw [cq_fo_t (p := (fun c => cq_cl N M R c = c)) h] at i; exact i
end
end
section
/-! ===== Y: height, least generators, dispensable ===== -/
section
variable {N M : Nat} {R : Nat → Nat} {ro yc yp yk yh : Nat → Int32}
/-- a set that isn't closed: its row of the chain table stays 0 -/
theorem cq_yh45n {d mo : Nat} {J : Int32 → Int32 → (Nat → Int32) → (Nat → Int32) → (Nat → Int32) → (Nat → Int32) → (Nat → Int32) → Prop} {post : Int32 → SY → Prop} (hM : M ≤ 7) (tb : cq_Tb (cq_cl N M R) (2 ^ M) yc yp yk) (hd : d < 2 ^ M) (hk : ¬ cq_cl N M R d = d) (hmo : mo < 2 ^ 31) (hv : yh d = nI 0) (hJ : J (nI mo) (nI (d + 1)) ro yc yp yk yh) : ∀ m k, k + m = d → wY_height_45 post J (nI mo) (nI d) (nI N) (nI M) (nI (2 ^ M - 1)) (m + 1) (nI k) ro yc yp yk yh := by
  have h7 := cq_p7 hM
  have hin : vp_in (nI d) 128 := vp_in_nI (by omega) (by decide)
  have cd : (nI d).toNatClampNeg = d := nI_clamp (by omega)
  intro m
  induction m with
  | zero =>
    intro k hkd
    refine pk_le d k (fun _ => ⟨hin, ?_⟩) (fun h => absurd h (by omega))
    rw [cd, hv]
    exact pk_le 0 mo (fun _ => nm_r (nI_1 d) hJ) (fun h => absurd h (by omega))
  | succ m ih =>
    intro k hkd
    refine pk_le d k (fun h => absurd h (by omega)) (fun _ => ⟨hin, ?_⟩)
    rw [cd, (tb d hd).1]
    exact cq_bb (fun _ => nm_r (nI_1 k) (ih (k + 1) (by omega))) (fun h => absurd h hk)
theorem cq_yh45 {d mo : Nat} {J : Int32 → Int32 → (Nat → Int32) → (Nat → Int32) → (Nat → Int32) → (Nat → Int32) → (Nat → Int32) → Prop} {post : Int32 → SY → Prop} (hM : M ≤ 7) (tb : cq_Tb (cq_cl N M R) (2 ^ M) yc yp yk) (hd : d < 2 ^ M) (hk : cq_cl N M R d = d) (hmo : mo < 2 ^ 31) (hJ : ∀ yh, (∀ j, j < d + 1 → cq_cl N M R j = j → yh j = nI (cq_h (cq_cl N M R) j)) → J (nI (cq_mst (cq_h (cq_cl N M R)) mo d)) (nI (d + 1)) ro yc yp yk yh) : ∀ m k yh, k + m = d → yh d = nI (cq_fo (fun c => cq_cl N M R c = c) (cq_hst (cq_h (cq_cl N M R)) d) 1 k) → (∀ j, j < d → cq_cl N M R j = j → yh j = nI (cq_h (cq_cl N M R) j)) → wY_height_45 post J (nI mo) (nI d) (nI N) (nI M) (nI (2 ^ M - 1)) (m + 1) (nI k) ro yc yp yk yh := by
  have h7 := cq_p7 hM
  have hin : vp_in (nI d) 128 := vp_in_nI (by omega) (by decide)
  have cd : (nI d).toNatClampNeg = d := nI_clamp (by omega)
  have hhj := cq_h_le (cq_cl N M R) d hk
  intro m
  induction m with
  | zero =>
    intro k yh hkd hv hl
    have e : k = d := by omega
    rw [e, ← cq_h_t hk] at hv
    have hG := hJ yh fun j h1 h2 => by
      by_cases e2 : j = d
      · rw [e2]; exact hv
      · exact hl j (by omega) h2
    refine pk_le d k (fun _ => ⟨hin, ?_⟩) (fun h => absurd h (by omega))
    rw [cd, hv]
    refine pk_le (cq_h (cq_cl N M R) d) mo (fun h => nm_r (nI_1 d) ?_) (fun h => ⟨hin, nm_e (nm_r (nI_1 d) ?_)⟩)
    · rw [cq_mst_t h] at hG; exact hG
    · rw [cq_mst_f (by omega)] at hG; exact hG
  | succ m ih =>
    intro k yh hkd hv hl
    have hik : vp_in (nI k) 128 := vp_in_nI (by omega) (by decide)
    have ck : (nI k).toNatClampNeg = k := nI_clamp (by omega)
    have hfo := cq_hv_le (cq_cl N M R) d k
    refine pk_le d k (fun h => absurd h (by omega)) (fun _ => ⟨hin, ?_⟩)
    rw [cd, ck, (tb d hd).1, (tb k (by omega)).1]
    refine cq_bb (fun h => absurd hk h) (fun _ => ⟨hik, cq_bb (fun h => nm_r (nI_1 k) ?_) (fun h => ?_)⟩)
    · exact ih (k + 1) yh (by omega) (by rw [cq_fo_f (p := (fun c => cq_cl N M R c = c)) h]; exact hv) hl
    · have hyk := hl k (by omega) h
      have hh := cq_h_le (cq_cl N M R) k h
      have f1 := cq_fo_t (p := (fun c => cq_cl N M R c = c)) (st := cq_hst (cq_h (cq_cl N M R)) d) (s := 1) h
      rw [hyk, hv]
      refine cq_yprop (by omega) (by omega) (fun a b => br_f (by decide) ⟨hik, hin, ?_⟩) (fun a => br_t rfl (nm_r (nI_1 k) ?_))
      · rw [nI_1]
        refine pk_le (cq_h (cq_cl N M R) k + 1) (cq_fo (fun c => cq_cl N M R c = c) (cq_hst (cq_h (cq_cl N M R)) d) 1 k) (fun g => nm_r (nI_1 k) ?_) (fun g => ⟨hik, hin, nm_e (nm_r (nI_1 k) ?_)⟩)
        · rw [cq_hst_f fun z => absurd z.2 (by omega)] at f1
          exact ih (k + 1) yh (by omega) (by rw [f1]; exact hv) hl
        · rw [cq_hst_t b (by omega)] at f1
          exact ih (k + 1) _ (by omega) (by rw [f1]; exact pk_us) fun j h1 h2 => by rw [pk_un (by omega)]; exact hl j h1 h2
      · rw [cq_hst_f fun z => a ⟨by omega, z.1⟩] at f1
        exact ih (k + 1) yh (by omega) (by rw [f1]; exact hv) hl
theorem cq_yh8 {post : Int32 → SY → Prop} (hM : M ≤ 7) (tb : cq_Tb (cq_cl N M R) (2 ^ M) yc yp yk) (hp : ∀ yh, post (nI (cq_fo (fun c => cq_cl N M R c = c) (cq_mst (cq_h (cq_cl N M R))) 0 (2 ^ M))) (nI N, nI M, nI (2 ^ M - 1), ro, yc, yp, yk, yh)) : ∀ m d yh, d + m = 2 ^ M → (∀ j, j < d → cq_cl N M R j = j → yh j = nI (cq_h (cq_cl N M R) j)) → wY_height_8 post (nI N) (nI M) (nI (2 ^ M - 1)) (m + 1) (nI (cq_fo (fun c => cq_cl N M R c = c) (cq_mst (cq_h (cq_cl N M R))) 0 d)) (nI d) ro yc yp yk yh := by
  have h7 := cq_p7 hM
  have h0 := Nat.two_pow_pos M
  intro m
  induction m with
  | zero =>
    intro d yh hd hl
    have e : d = 2 ^ M := by omega
    rw [e]
    exact pk_lt (2 ^ M - 1) (2 ^ M) (fun _ => hp yh) (fun h => absurd h (by omega))
  | succ m ih =>
    intro d yh hd hl
    have hin : vp_in (nI d) 128 := vp_in_nI (by omega) (by decide)
    have cd : (nI d).toNatClampNeg = d := nI_clamp (by omega)
    have hmo := cq_ms_le (cq_cl N M R) d
    refine pk_lt (2 ^ M - 1) d (fun h => absurd h (by omega)) (fun _ => pk_le 128 d (fun h => absurd h (by omega)) (fun _ => ⟨hin, ?_⟩))
    rw [cd, (tb d (by omega)).1]
    refine cq_bb (fun h => ⟨hin, nm_r (e' := upd yh d (nI 0)) rfl ⟨d + 1, ?_⟩⟩) (fun h => ⟨hin, nm_r (e' := upd yh d (nI 1)) rfl ⟨d + 1, ?_⟩⟩)
    · have i := ih (d + 1) (upd yh d (nI 0)) (by omega) fun j h1 h2 => by
        have e : j ≠ d := fun e => h (e ▸ h2)
        rw [pk_un e]
        exact hl j (by omega) h2
      rw [cq_fo_f (p := (fun c => cq_cl N M R c = c)) h] at i
      exact cq_yh45n hM tb (by omega) h (by omega) pk_us i d 0 (by omega)
    · refine cq_yh45 hM tb (by omega) h (by omega) (fun yh hE => ?_) d 0 _ (by omega) pk_us fun j h1 h2 => by rw [pk_un (by omega)]; exact hl j h1 h2
      have i := ih (d + 1) yh (by omega) hE
      rw [cq_fo_t (p := (fun c => cq_cl N M R c = c)) h] at i
      exact i
theorem cq_ysz4 {s : Nat} {post : Int32 → Prop} (hs : s < 2 ^ 31) (hp : post (nI (cq_sz s 7))) : ∀ d k, k + d = 7 → wY_size_4 post (nI s) (nI N) (nI M) (nI (2 ^ M - 1)) ro yc yp yk yh (d + 1) (nI (cq_sz s k)) (nI k) := by
  intro d
  induction d with
  | zero =>
    intro k hk
    have e : k = 7 := by omega
    rw [e]
    exact br_t (by decide) hp
  | succ d ih =>
    intro k hk
    refine pk_le 7 k (fun h => absurd h (by omega)) (fun _ => nm_r (e' := nI (cq_sz s (k + 1))) ?_ (nm_r (nI_1 k) (ih (k + 1) (by omega))))
    rw [cq_bit hs (by omega), nI_add, cq_sz_s]
theorem cq_ysz {s : Nat} {post : Int32 → Prop} (hs : s < 2 ^ 31) (hp : post (nI (cq_sz s 7))) : wpY_size post (nI N, nI M, nI (2 ^ M - 1), ro, yc, yp, yk, yh) (nI s) := by
  unfold wpY_size
  dsimp only
  exact ⟨8, cq_ysz4 hs hp 7 0 (by omega)⟩
theorem cq_yg19 {set : Nat} {post : Int32 → SY → Prop} (hM : M ≤ 7) (tb : cq_Tb (cq_cl N M R) (2 ^ M) yc yp yk) (hs : set < 2 ^ M) (hp : ∀ y, cq_Gs (cq_cl N M R) (2 ^ M) (cq_cl N M R set) y → post (nI y) (nI N, nI M, nI (2 ^ M - 1), ro, yc, yp, yk, yh)) : ∀ d k l, k + d = 2 ^ M → l ≤ 7 → (l = 7 ∨ ∃ s, s < 2 ^ M ∧ cq_cl N M R s = cq_cl N M R set ∧ cq_sz s 7 = l) → (∀ s, s < k → cq_cl N M R s = cq_cl N M R set → l ≤ cq_sz s 7) → wY_generatorSize_19 post (nI set) (nI N) (nI M) (nI (2 ^ M - 1)) ro yc yp yk yh (d + 1) (nI l) (nI k) := by
  have h7 := cq_p7 hM
  have h0 := Nat.two_pow_pos M
  have hgl := cq_cl_lt N M R set
  intro d
  induction d with
  | zero =>
    intro k l hk hl7 hl hm
    have e : k = 2 ^ M := by omega
    rw [e] at hm ⊢
    exact pk_lt (2 ^ M - 1) (2 ^ M) (fun _ => hp l (cq_Gs_of hl hm hgl ((cq_cl_CL N M R).2.2.2 set hs) (cq_sz_le _ 7))) (fun h => absurd h (by omega))
  | succ d ih =>
    intro k l hk hl7 hl hm
    have hsz := cq_sz_le k 7
    have hkl := cq_cl_lt N M R k
    have go : ∀ l', l' ≤ l → (l' = 7 ∨ ∃ s, s < 2 ^ M ∧ cq_cl N M R s = cq_cl N M R set ∧ cq_sz s 7 = l') → (cq_cl N M R k = cq_cl N M R set → l' ≤ cq_sz k 7) → wY_generatorSize_19 post (nI set) (nI N) (nI M) (nI (2 ^ M - 1)) ro yc yp yk yh (d + 1) (nI l') (nI (k + 1)) := fun l' a b c => ih (k + 1) l' (by omega) (by omega) b fun s hs he => by
      by_cases e : s = k
      · rw [e] at he ⊢; exact c he
      · have := hm s (by omega) he; omega
    refine pk_lt (2 ^ M - 1) k (fun h => absurd h (by omega)) (fun _ => ⟨vp_in_nI (by omega) (by decide), vp_in_nI (by omega) (by decide), ?_⟩)
    rw [nI_clamp (by omega), nI_clamp (by omega), (tb k (by omega)).2.2, (tb set hs).2.2]
    refine pk_eq (cq_cl N M R k) (cq_cl N M R set) (fun e => cq_ysz (by omega) ?_) (fun e => nm_r (nI_1 k) (go l (Nat.le_refl l) hl fun z => absurd z e))
    exact pk_le l (cq_sz k 7) (fun h => nm_r (nI_1 k) (go l (Nat.le_refl l) hl fun _ => h)) (fun h => cq_ysz (by omega) (nm_r (nI_1 k) (go _ (by omega) (Or.inr ⟨k, by omega, e, rfl⟩) fun _ => Nat.le_refl _)))
theorem cq_yd16 {a : Nat} {post : Int32 → SY → Prop} (hM : M ≤ 7) (tb : cq_Tb (cq_cl N M R) (2 ^ M) yc yp yk) (ha : a < M) (hy : cq_Di (cq_cl N M R) (2 ^ M) a → post 0 (nI N, nI M, nI (2 ^ M - 1), ro, yc, yp, yk, yh)) (hn : ¬ cq_Di (cq_cl N M R) (2 ^ M) a → post 1 (nI N, nI M, nI (2 ^ M - 1), ro, yc, yp, yk, yh)) : ∀ d k, k + d = 2 ^ M → (∀ j, j < k → cq_cl N M R j = j → ¬ cq_cl N M R (j ^^^ 2 ^ a) = j ^^^ 2 ^ a) → wY_dispensable_16 post (nI a) (nI N) (nI M) (nI (2 ^ M - 1)) ro yc yp yk yh (d + 1) (nI k) := by
  have h7 := cq_p7 hM
  have h0 := Nat.two_pow_pos M
  intro d
  induction d with
  | zero =>
    intro k hk H
    have e : k = 2 ^ M := by omega
    rw [e] at H ⊢
    refine pk_lt (2 ^ M - 1) (2 ^ M) (fun _ => hn fun z => ?_) (fun h => absurd h (by omega))
    obtain ⟨j, a1, a2, a3⟩ := (cq_Di_y ha).mp z
    exact H j a1 a2 a3
  | succ d ih =>
    intro k hk H
    have go : (cq_cl N M R k = k → ¬ cq_cl N M R (k ^^^ 2 ^ a) = k ^^^ 2 ^ a) → wY_dispensable_16 post (nI a) (nI N) (nI M) (nI (2 ^ M - 1)) ro yc yp yk yh (d + 1) (nI (k + 1)) := fun G => ih (k + 1) (by omega) fun q hq => by
      by_cases e : q = k
      · rw [e]; exact G
      · exact H q (by omega)
    have hx : (k ^^^ 2 ^ a) < 2 ^ M := Nat.xor_lt_two_pow (by omega) (Nat.pow_lt_pow_right (by decide) ha)
    refine pk_lt (2 ^ M - 1) k (fun h => absurd h (by omega)) (fun _ => ⟨vp_in_nI (by omega) (by decide), ?_⟩)
    rw [cq_shl (by omega), nx_xor, nI_clamp (by omega), nI_clamp (by omega), (tb k (by omega)).1, (tb _ hx).1]
    refine cq_bb (fun h => nm_r (nI_1 k) (go fun w => absurd w h)) (fun h => ⟨vp_in_nI (by omega) (by decide), ?_⟩)
    exact cq_bb (fun h2 => nm_r (nI_1 k) (go fun _ => h2)) (fun h2 => hy ((cq_Di_y ha).mpr ⟨k, by omega, h, h2⟩))
end
end
section
/-! ===== the relation ===== -/
/-- both objects hold one table (N objects, M attributes, rows R), the class its columns too; where the class calls its lists current they are the enumerations of the closed and the pseudo-closed sets -/
def i_Rel (_ : Nat) (u : SX) (v : SY) : Prop := ∃ (N M : Nat) (R : Nat → Nat) (cc pc cu : Int32) (ro co cs ps pe lv yc yp yk yh : Nat → Int32), u = (nI N, nI M, cc, pc, cu, ro, co, cs, ps, pe, lv) ∧ v = (nI N, nI M, nI (2 ^ M - 1), ro, yc, yp, yk, yh) ∧ cq_XT N M R ro co ∧ (¬ cu = 0 → cq_Fr M (cq_cl N M R) cc pc cs ps)
theorem cq_mk {k : Nat} {N M : Nat} {R : Nat → Nat} {cc pc cu : Int32} {ro co cs ps pe lv yc yp yk yh : Nat → Int32} (T : cq_XT N M R ro co) (hf : ¬ cu = 0 → cq_Fr M (cq_cl N M R) cc pc cs ps) : i_Rel k (nI N, nI M, cc, pc, cu, ro, co, cs, ps, pe, lv) (nI N, nI M, nI (2 ^ M - 1), ro, yc, yp, yk, yh) :=
  ⟨N, M, R, cc, pc, cu, ro, co, cs, ps, pe, lv, yc, yp, yk, yh, rfl, rfl, T, hf⟩
theorem cq_el {P : SX → SY → Prop} {k : Nat} {u : SX} {v : SY} (h : ∀ (N M : Nat) (R : Nat → Nat) (cc pc cu : Int32) (ro co cs ps pe lv yc yp yk yh : Nat → Int32), cq_XT N M R ro co → (¬ cu = 0 → cq_Fr M (cq_cl N M R) cc pc cs ps) → P (nI N, nI M, cc, pc, cu, ro, co, cs, ps, pe, lv) (nI N, nI M, nI (2 ^ M - 1), ro, yc, yp, yk, yh)) (I : i_Rel k u v) : P u v := by
  obtain ⟨N, M, R, cc, pc, cu, ro, co, cs, ps, pe, lv, yc, yp, yk, yh, e1, e2, T, hf⟩ := I
  rw [e1, e2]
  exact h N M R cc pc cu ro co cs ps pe lv yc yp yk yh T hf
theorem i_up {k : Nat} {u : SX} {v : SY} (h : i_Rel k u v) : i_Rel (k + 4) u v := h
/-! the constructors -/
def cq_cp (lo hi x : Int32) (n : Nat) : Prop := (¬ lo ≤ x ∧ nI n = lo) ∨ (lo ≤ x ∧ x ≤ hi ∧ nI n = x) ∨ (lo ≤ x ∧ ¬ x ≤ hi ∧ nI n = hi)
theorem cq_cpe (x : Int32) {a b : Nat} (hab : a ≤ b) (hb : b < 2 ^ 31) : ∃ n, a ≤ n ∧ n ≤ b ∧ cq_cp (nI a) (nI b) x n := by
  by_cases h1 : nI a ≤ x
  · by_cases h2 : x ≤ nI b
    · have h0 : ¬ x < 0 := Int32.not_lt.mpr (Int32.le_trans (nI_pos' (by omega)) h1)
      obtain ⟨j, hj, rfl⟩ := nI_of h0
      exact ⟨j, (nI_leI (by omega) hj).mp h1, (nI_leI hj hb).mp h2, Or.inr (Or.inl ⟨h1, h2, rfl⟩)⟩
    · exact ⟨b, hab, Nat.le_refl b, Or.inr (Or.inr ⟨h1, h2, rfl⟩)⟩
  · exact ⟨a, Nat.le_refl a, hab, Or.inl ⟨h1, rfl⟩⟩
theorem cq_ix85 {M : Nat} {x fn f0 f1 f2 f3 : Int32} {a0 a1 a2 a3 a4 a5 : Nat → Int32} {post : SX → Prop} (hM : cq_cp 2 7 x M) (hp : post (fn, nI M, f1, f2, f3, a0, a1, a2, a3, a4, a5)) : wX_init_85 post x fn f0 f1 f2 f3 a0 a1 a2 a3 a4 a5 := by
  rcases hM with ⟨h1, e⟩ | ⟨h1, h2, e⟩ | ⟨h1, h2, e⟩
  · rw [e] at hp
    exact br_f h1 (br_t (by decide) hp)
  · rw [e] at hp
    exact br_t h1 (br_t h2 hp)
  · rw [e] at hp
    exact br_t h1 (br_f h2 hp)
theorem cq_ixi {N M : Nat} {x y : Int32} {post : SX → Prop} (hN : cq_cp 1 8 x N) (hM : cq_cp 2 7 y M) (hp : post (nI N, nI M, 0, 0, 0, fun _ => 0, fun _ => 0, fun _ => 0, fun _ => 0, fun _ => 0, fun _ => 0)) : wpX_init post x y := by
  rcases hN with ⟨h1, e⟩ | ⟨h1, h2, e⟩ | ⟨h1, h2, e⟩
  · rw [e] at hp
    exact br_f h1 (br_t (by decide) (cq_ix85 hM hp))
  · rw [e] at hp
    exact br_t h1 (br_t h2 (cq_ix85 hM hp))
  · rw [e] at hp
    exact br_t h1 (br_f h2 (cq_ix85 hM hp))
theorem cq_iy95 {M : Nat} {z fn f0 f1 : Int32} {a0 a1 a2 a3 a4 : Nat → Int32} {post : SY → Prop} (hM : M ≤ 7) (e : nI M = z) (hp : post (fn, nI M, nI (2 ^ M - 1), a0, a1, a2, a3, a4)) : wY_init_95 post z fn f0 f1 a0 a1 a2 a3 a4 := by
  rw [← e]
  exact nm_r (cq_full M (by omega)) hp
theorem cq_iy70 {M : Nat} {x fn f0 f1 f2 : Int32} {a0 a1 a2 a3 a4 : Nat → Int32} {post : SY → Prop} (hM7 : M ≤ 7) (hM : cq_cp 2 7 x M) (hp : post (fn, nI M, nI (2 ^ M - 1), a0, a1, a2, a3, a4)) : wY_init_70 post x fn f0 f1 f2 a0 a1 a2 a3 a4 := by
  rcases hM with ⟨h1, e⟩ | ⟨h1, h2, e⟩ | ⟨h1, h2, e⟩
  · exact br_f h1 (cq_iy95 hM7 e hp)
  · exact br_t h1 (br_t h2 (cq_iy95 hM7 e hp))
  · exact br_t h1 (br_f h2 (cq_iy95 hM7 e hp))
theorem cq_iyi {N M : Nat} {x y : Int32} {post : SY → Prop} (hM7 : M ≤ 7) (hN : cq_cp 1 8 x N) (hM : cq_cp 2 7 y M) (hp : post (nI N, nI M, nI (2 ^ M - 1), fun _ => 0, fun _ => 0, fun _ => 0, fun _ => 0, fun _ => 0)) : wpY_init post x y := by
  rcases hN with ⟨h1, e⟩ | ⟨h1, h2, e⟩ | ⟨h1, h2, e⟩
  · rw [e] at hp
    exact br_f h1 (cq_iy70 hM7 hM hp)
  · rw [e] at hp
    exact br_t h1 (br_t h2 (cq_iy70 hM7 hM hp))
  · rw [e] at hp
    exact br_t h1 (br_f h2 (cq_iy70 hM7 hM hp))
theorem i_vc0 (k0 : Int32) (k1 : Int32) : wpX_init (fun u => wpY_init (fun v => i_Rel 2 u v) k0 k1) k0 k1 := by
  obtain ⟨N, hN1, hN8, hN⟩ := cq_cpe k0 (a := 1) (b := 8) (by decide) (by decide)
  obtain ⟨M, hM2, hM7, hM⟩ := cq_cpe k1 (a := 2) (b := 7) (by decide) (by decide)
  refine cq_ixi hN hM (cq_iyi hM7 hN hM (cq_mk (R := fun _ => 0) ⟨⟨hN1, hN8⟩, ⟨hM2, hM7⟩, fun _ => Nat.two_pow_pos M, fun _ => rfl, fun _ => 0, fun a _ => ⟨rfl, (by decide : (0 : Nat) < 256), fun g _ => (Nat.zero_testBit g).trans (Nat.zero_testBit a).symm⟩⟩ fun z => absurd rfl z))
end
section
/-! ===== the owed rows: plain reads and the table's changes ===== -/
theorem i_vc_objects {k : Nat} {u : SX} {v : SY} (I : i_Rel k u v) (hk : k + 4 ≤ 2050) : wpX_objects (fun r => wpY_objects (fun r' => r' = r ∧ i_Rel (k + 4) u v) v) u := by
  refine cq_el (P := fun u v => wpX_objects (fun r => wpY_objects (fun r' => r' = r ∧ i_Rel (k + 4) u v) v) u) ?_ I
  intro N M R cc pc cu ro co cs ps pe lv yc yp yk yh T hf
  exact ⟨rfl, cq_mk T hf⟩
theorem i_vc_attributes {k : Nat} {u : SX} {v : SY} (I : i_Rel k u v) (hk : k + 4 ≤ 2050) : wpX_attributes (fun r => wpY_attributes (fun r' => r' = r ∧ i_Rel (k + 4) u v) v) u := by
  refine cq_el (P := fun u v => wpX_attributes (fun r => wpY_attributes (fun r' => r' = r ∧ i_Rel (k + 4) u v) v) u) ?_ I
  intro N M R cc pc cu ro co cs ps pe lv yc yp yk yh T hf
  exact ⟨rfl, cq_mk T hf⟩
section
variable {N M : Nat} {R : Nat → Nat} {cc pc cu : Int32} {ro co cs ps pe lv yc yp yk yh : Nat → Int32}
/-- the change of one row, both sides -/
theorem cq_ch {k g set : Nat} {x r : Int32} (T : cq_XT N M R ro co) (hg : g < N) (hs : set < 2 ^ M) (hx : x = nI set) {post : SX → Prop} (hp : ∀ co, i_Rel (k + 4) (nI N, nI M, cc, pc, 0, upd ro g (nI set), co, cs, ps, pe, lv) (nI N, nI M, nI (2 ^ M - 1), upd ro g (nI set), yc, yp, yk, yh) → post (nI N, nI M, cc, pc, 0, upd ro g (nI set), co, cs, ps, pe, lv)) : wpX_setRow post (nI N, nI M, cc, pc, cu, ro, co, cs, ps, pe, lv) (nI g) x :=
  cq_xsr T hx hg hs fun co T' => hp co (cq_mk T' fun z => absurd rfl z)
end
theorem i_vc_cross {k : Nat} {u : SX} {v : SY} (I : i_Rel k u v) (hk : k + 4 ≤ 2050) (v1 : Int32) (v2 : Int32) (v3 : Int32) : wpX_cross (fun r u' => wpY_cross (fun r' v' => r' = r ∧ i_Rel (k + 4) u' v') v v1 v2 v3) u v1 v2 v3 := by
  refine cq_el (P := fun u v => wpX_cross (fun r u' => wpY_cross (fun r' v' => r' = r ∧ i_Rel (k + 4) u' v') v v1 v2 v3) u v1 v2 v3) ?_ I
  intro N M R cc pc cu ro co cs ps pe lv yc yp yk yh T hf
  have hN8 := T.1.2
  have hM7 := T.2.1.2
  have h7 := cq_p7 hM7
  have hR := T.2.2.1
  have hr := T.2.2.2.1
  have out1 : (v1 < 0 ∨ nI N ≤ v1) → wpX_cross (fun r u' => wpY_cross (fun r' v' => r' = r ∧ i_Rel (k + 4) u' v') (nI N, nI M, nI (2 ^ M - 1), ro, yc, yp, yk, yh) v1 v2 v3) (nI N, nI M, cc, pc, cu, ro, co, cs, ps, pe, lv) v1 v2 v3 := fun h => by
    unfold wpX_cross
    dsimp only
    refine cq_xob0 h (br_t rfl ?_)
    unfold wpY_cross
    dsimp only
    exact cq_yob0 h (br_f (by decide) ⟨rfl, cq_mk T hf⟩)
  rcases pk_ix v1 (n := N) (by omega) with h | h | ⟨g, hg, rfl⟩
  · exact out1 (Or.inl h)
  · exact out1 (Or.inr h)
  have out2 : (v2 < 0 ∨ nI M ≤ v2) → wpX_cross (fun r u' => wpY_cross (fun r' v' => r' = r ∧ i_Rel (k + 4) u' v') (nI N, nI M, nI (2 ^ M - 1), ro, yc, yp, yk, yh) (nI g) v2 v3) (nI N, nI M, cc, pc, cu, ro, co, cs, ps, pe, lv) (nI g) v2 v3 := fun h => by
    unfold wpX_cross
    dsimp only
    refine cq_xob1 hN8 hg (br_f (by decide) (cq_xat0 h (br_t rfl ?_)))
    unfold wpY_cross
    dsimp only
    exact cq_yob1 hN8 hg (br_t rfl (cq_yat0 h (br_f (by decide) ⟨rfl, cq_mk T hf⟩)))
  rcases pk_ix v2 (n := M) (by omega) with h | h | ⟨a, ha, rfl⟩
  · exact out2 (Or.inl h)
  · exact out2 (Or.inr h)
  have hin : vp_in (nI g) 8 := vp_in_nI (by omega) (by decide)
  have cl : (nI g).toNatClampNeg = g := nI_clamp (by omega)
  have hRg := hR g
  unfold wpX_cross
  dsimp only
  refine cq_xob1 hN8 hg (br_f (by decide) (cq_xat1 hM7 ha (br_f (by decide) ⟨hin, nm_e (nm_r (cq_shl (by omega)) ?_)⟩)))
  by_cases h3 : v3 = 0
  · refine br_t h3 ⟨hin, ?_⟩
    unfold wX_cross_67
    refine cq_ch (k := k) (r := 0) (yc := yc) (yp := yp) (yk := yk) (yh := yh) T hg (set := cq_df (R g) (2 ^ a)) (Nat.lt_of_le_of_lt (cq_df_le _ _) hRg) (by rw [cl, hr g, cq_andn _ (by omega)]) fun co I => ?_
    try dsimp only
    unfold wpY_cross
    dsimp only
    refine cq_yob1 hN8 hg (br_t rfl (cq_yat1 hM7 ha (br_t rfl ⟨hin, nm_e (br_t h3 ⟨hin, hin, nm_r (e' := upd ro g (nI (cq_df (R g) (2 ^ a)))) ?_ ⟨rfl, I⟩⟩)⟩)))
    rw [cl, hr g, cq_shl (by omega), cq_andn _ (by omega)]
  · refine br_f h3 ⟨hin, ?_⟩
    unfold wX_cross_67
    refine cq_ch (k := k) (r := 0) (yc := yc) (yp := yp) (yk := yk) (yh := yh) T hg (set := R g ||| 2 ^ a) (cq_cu_lt hRg ha) (by rw [cl, hr g, cq_or]) fun co I => ?_
    try dsimp only
    unfold wpY_cross
    dsimp only
    refine cq_yob1 hN8 hg (br_t rfl (cq_yat1 hM7 ha (br_t rfl ⟨hin, nm_e (br_f h3 ⟨hin, hin, nm_r (e' := upd ro g (nI (R g ||| 2 ^ a))) ?_ ⟨rfl, I⟩⟩)⟩)))
    rw [cl, hr g, cq_shl (by omega), cq_or]
theorem i_vc_row {k : Nat} {u : SX} {v : SY} (I : i_Rel k u v) (hk : k + 4 ≤ 2050) (v1 : Int32) (v2 : Int32) : wpX_row (fun r u' => wpY_row (fun r' v' => r' = r ∧ i_Rel (k + 4) u' v') v v1 v2) u v1 v2 := by
  refine cq_el (P := fun u v => wpX_row (fun r u' => wpY_row (fun r' v' => r' = r ∧ i_Rel (k + 4) u' v') v v1 v2) u v1 v2) ?_ I
  intro N M R cc pc cu ro co cs ps pe lv yc yp yk yh T hf
  have hN8 := T.1.2
  have hM7 := T.2.1.2
  have h7 := cq_p7 hM7
  have hr := T.2.2.2.1
  have out1 : (v1 < 0 ∨ nI N ≤ v1) → wpX_row (fun r u' => wpY_row (fun r' v' => r' = r ∧ i_Rel (k + 4) u' v') (nI N, nI M, nI (2 ^ M - 1), ro, yc, yp, yk, yh) v1 v2) (nI N, nI M, cc, pc, cu, ro, co, cs, ps, pe, lv) v1 v2 := fun h => by
    unfold wpX_row
    dsimp only
    refine cq_xob0 h (br_t rfl ?_)
    unfold wpY_row
    dsimp only
    exact cq_yob0 h (br_f (by decide) ⟨rfl, cq_mk T hf⟩)
  rcases pk_ix v1 (n := N) (by omega) with h | h | ⟨g, hg, rfl⟩
  · exact out1 (Or.inl h)
  · exact out1 (Or.inr h)
  have out2 : (v2 < 0 ∨ nI (2 ^ M) ≤ v2) → wpX_row (fun r u' => wpY_row (fun r' v' => r' = r ∧ i_Rel (k + 4) u' v') (nI N, nI M, nI (2 ^ M - 1), ro, yc, yp, yk, yh) (nI g) v2) (nI N, nI M, cc, pc, cu, ro, co, cs, ps, pe, lv) (nI g) v2 := fun h => by
    unfold wpX_row
    dsimp only
    refine cq_xob1 hN8 hg (br_f (by decide) (cq_xse0 hM7 h (br_t rfl ?_)))
    unfold wpY_row
    dsimp only
    exact cq_yob1 hN8 hg (br_t rfl (cq_yse0 hM7 h (br_f (by decide) ⟨rfl, cq_mk T hf⟩)))
  rcases pk_ix v2 (n := 2 ^ M) (by omega) with h | h | ⟨s, hs, rfl⟩
  · exact out2 (Or.inl h)
  · exact out2 (Or.inr h)
  have hin : vp_in (nI g) 8 := vp_in_nI (by omega) (by decide)
  have cl : (nI g).toNatClampNeg = g := nI_clamp (by omega)
  unfold wpX_row
  dsimp only
  refine cq_xob1 hN8 hg (br_f (by decide) (cq_xse1 hM7 hs (br_f (by decide) ⟨hin, nm_e ?_⟩)))
  refine cq_ch (k := k) (r := 0) (yc := yc) (yp := yp) (yk := yk) (yh := yh) T hg hs rfl fun co I => ?_
  try dsimp only
  unfold wpY_row
  dsimp only
  refine cq_yob1 hN8 hg (br_t rfl (cq_yse1 hM7 hs (br_t rfl ⟨hin, nm_e ⟨hin, nm_r (e' := upd ro g (nI s)) ?_ ⟨rfl, I⟩⟩⟩)))
  rw [cl]
theorem i_vc_rowOf {k : Nat} {u : SX} {v : SY} (I : i_Rel k u v) (hk : k + 4 ≤ 2050) (v1 : Int32) : wpX_rowOf (fun r => wpY_rowOf (fun r' => r' = r ∧ i_Rel (k + 4) u v) v v1) u v1 := by
  refine cq_el (P := fun u v => wpX_rowOf (fun r => wpY_rowOf (fun r' => r' = r ∧ i_Rel (k + 4) u v) v v1) u v1) ?_ I
  intro N M R cc pc cu ro co cs ps pe lv yc yp yk yh T hf
  have hN8 := T.1.2
  have out1 : (v1 < 0 ∨ nI N ≤ v1) → wpX_rowOf (fun r => wpY_rowOf (fun r' => r' = r ∧ i_Rel (k + 4) (nI N, nI M, cc, pc, cu, ro, co, cs, ps, pe, lv) (nI N, nI M, nI (2 ^ M - 1), ro, yc, yp, yk, yh)) (nI N, nI M, nI (2 ^ M - 1), ro, yc, yp, yk, yh) v1) (nI N, nI M, cc, pc, cu, ro, co, cs, ps, pe, lv) v1 := fun h => by
    unfold wpX_rowOf
    dsimp only
    refine cq_xob0 h (br_t rfl ?_)
    unfold wpY_rowOf
    dsimp only
    exact cq_yob0 h (br_f (by decide) ⟨rfl, cq_mk T hf⟩)
  rcases pk_ix v1 (n := N) (by omega) with h | h | ⟨g, hg, rfl⟩
  · exact out1 (Or.inl h)
  · exact out1 (Or.inr h)
  have hin : vp_in (nI g) 8 := vp_in_nI (by omega) (by decide)
  unfold wpX_rowOf
  dsimp only
  refine cq_xob1 hN8 hg (br_f (by decide) ⟨hin, ?_⟩)
  unfold wpY_rowOf
  dsimp only
  exact cq_yob1 hN8 hg (br_t rfl ⟨hin, rfl, cq_mk T hf⟩)
theorem i_vc_extent {k : Nat} {u : SX} {v : SY} (I : i_Rel k u v) (hk : k + 4 ≤ 2050) (v1 : Int32) : wpX_extent (fun r => wpY_extent (fun r' => r' = r ∧ i_Rel (k + 4) u v) v v1) u v1 := by
  refine cq_el (P := fun u v => wpX_extent (fun r => wpY_extent (fun r' => r' = r ∧ i_Rel (k + 4) u v) v v1) u v1) ?_ I
  intro N M R cc pc cu ro co cs ps pe lv yc yp yk yh T hf
  have hM7 := T.2.1.2
  have h7 := cq_p7 hM7
  have out1 : (v1 < 0 ∨ nI (2 ^ M) ≤ v1) → wpX_extent (fun r => wpY_extent (fun r' => r' = r ∧ i_Rel (k + 4) (nI N, nI M, cc, pc, cu, ro, co, cs, ps, pe, lv) (nI N, nI M, nI (2 ^ M - 1), ro, yc, yp, yk, yh)) (nI N, nI M, nI (2 ^ M - 1), ro, yc, yp, yk, yh) v1) (nI N, nI M, cc, pc, cu, ro, co, cs, ps, pe, lv) v1 := fun h => by
    unfold wpX_extent
    dsimp only
    refine cq_xse0 hM7 h (br_t rfl ?_)
    unfold wpY_extent
    dsimp only
    exact cq_yse0 hM7 h (br_f (by decide) ⟨rfl, cq_mk T hf⟩)
  rcases pk_ix v1 (n := 2 ^ M) (by omega) with h | h | ⟨s, hs, rfl⟩
  · exact out1 (Or.inl h)
  · exact out1 (Or.inr h)
  unfold wpX_extent
  dsimp only
  refine cq_xse1 hM7 hs (br_f (by decide) (cq_xext T hs ?_))
  unfold wpY_extent
  dsimp only
  exact cq_yse1 hM7 hs (br_t rfl (cq_yhav (cq_XY T) (by omega) ⟨rfl, cq_mk T hf⟩))
theorem i_vc_intent {k : Nat} {u : SX} {v : SY} (I : i_Rel k u v) (hk : k + 4 ≤ 2050) (v1 : Int32) : wpX_intent (fun r => wpY_intent (fun r' => r' = r ∧ i_Rel (k + 4) u v) v v1) u v1 := by
  refine cq_el (P := fun u v => wpX_intent (fun r => wpY_intent (fun r' => r' = r ∧ i_Rel (k + 4) u v) v v1) u v1) ?_ I
  intro N M R cc pc cu ro co cs ps pe lv yc yp yk yh T hf
  have hN8 := T.1.2
  have h8 := cq_p8 hN8
  unfold wpX_intent
  dsimp only
  rw [cq_shl (by omega)]
  rcases pk_ix v1 (n := 2 ^ N) (by omega) with h | h | ⟨s, hs, rfl⟩
  · refine br_t h ?_
    unfold wpY_intent
    dsimp only
    exact br_t h ⟨rfl, cq_mk T hf⟩
  · by_cases h0 : v1 < 0
    · refine br_t h0 ?_
      unfold wpY_intent
      dsimp only
      exact br_t h0 ⟨rfl, cq_mk T hf⟩
    · refine br_f h0 (br_t h ?_)
      unfold wpY_intent
      dsimp only
      rw [cq_shl (by omega)]
      exact br_f h0 (br_f (Int32.not_lt.mpr h) ⟨rfl, cq_mk T hf⟩)
  · refine br_f (nI_pos (by omega)) (br_f (nI_ge hs (by omega)) (cq_xint T (by omega) ?_))
    unfold wpY_intent
    dsimp only
    rw [cq_shl (by omega)]
    exact br_f (nI_pos (by omega)) (br_t (nI_lt hs (by omega)) (cq_yshr (cq_XY T) (by omega) ⟨rfl, cq_mk T hf⟩))
theorem i_vc_closure {k : Nat} {u : SX} {v : SY} (I : i_Rel k u v) (hk : k + 4 ≤ 2050) (v1 : Int32) : wpX_closure (fun r => wpY_closure (fun r' => r' = r ∧ i_Rel (k + 4) u v) v v1) u v1 := by
  refine cq_el (P := fun u v => wpX_closure (fun r => wpY_closure (fun r' => r' = r ∧ i_Rel (k + 4) u v) v v1) u v1) ?_ I
  intro N M R cc pc cu ro co cs ps pe lv yc yp yk yh T hf
  have hM7 := T.2.1.2
  have h7 := cq_p7 hM7
  have out1 : (v1 < 0 ∨ nI (2 ^ M) ≤ v1) → wpX_closure (fun r => wpY_closure (fun r' => r' = r ∧ i_Rel (k + 4) (nI N, nI M, cc, pc, cu, ro, co, cs, ps, pe, lv) (nI N, nI M, nI (2 ^ M - 1), ro, yc, yp, yk, yh)) (nI N, nI M, nI (2 ^ M - 1), ro, yc, yp, yk, yh) v1) (nI N, nI M, cc, pc, cu, ro, co, cs, ps, pe, lv) v1 := fun h => by
    unfold wpX_closure
    dsimp only
    refine cq_xse0 hM7 h (br_t rfl ?_)
    unfold wpY_closure
    dsimp only
    exact cq_yse0 hM7 h (br_f (by decide) ⟨rfl, cq_mk T hf⟩)
  rcases pk_ix v1 (n := 2 ^ M) (by omega) with h | h | ⟨s, hs, rfl⟩
  · exact out1 (Or.inl h)
  · exact out1 (Or.inr h)
  unfold wpX_closure
  dsimp only
  refine cq_xse1 hM7 hs (br_f (by decide) (cq_xcl T hs ?_))
  unfold wpY_closure
  dsimp only
  exact cq_yse1 hM7 hs (br_t rfl (cq_ycl (cq_XY T) hs ⟨rfl, cq_mk T hf⟩))
theorem i_vc_follows {k : Nat} {u : SX} {v : SY} (I : i_Rel k u v) (hk : k + 4 ≤ 2050) (v1 : Int32) (v2 : Int32) : wpX_follows (fun r => wpY_follows (fun r' => r' = r ∧ i_Rel (k + 4) u v) v v1 v2) u v1 v2 := by
  refine cq_el (P := fun u v => wpX_follows (fun r => wpY_follows (fun r' => r' = r ∧ i_Rel (k + 4) u v) v v1 v2) u v1 v2) ?_ I
  intro N M R cc pc cu ro co cs ps pe lv yc yp yk yh T hf
  have hM7 := T.2.1.2
  have h7 := cq_p7 hM7
  have out1 : (v1 < 0 ∨ nI (2 ^ M) ≤ v1) → wpX_follows (fun r => wpY_follows (fun r' => r' = r ∧ i_Rel (k + 4) (nI N, nI M, cc, pc, cu, ro, co, cs, ps, pe, lv) (nI N, nI M, nI (2 ^ M - 1), ro, yc, yp, yk, yh)) (nI N, nI M, nI (2 ^ M - 1), ro, yc, yp, yk, yh) v1 v2) (nI N, nI M, cc, pc, cu, ro, co, cs, ps, pe, lv) v1 v2 := fun h => by
    unfold wpX_follows
    dsimp only
    refine cq_xse0 hM7 h (br_t rfl ?_)
    unfold wpY_follows
    dsimp only
    exact cq_yse0 hM7 h (br_f (by decide) ⟨rfl, cq_mk T hf⟩)
  rcases pk_ix v1 (n := 2 ^ M) (by omega) with h | h | ⟨p, hp, rfl⟩
  · exact out1 (Or.inl h)
  · exact out1 (Or.inr h)
  have out2 : (v2 < 0 ∨ nI (2 ^ M) ≤ v2) → wpX_follows (fun r => wpY_follows (fun r' => r' = r ∧ i_Rel (k + 4) (nI N, nI M, cc, pc, cu, ro, co, cs, ps, pe, lv) (nI N, nI M, nI (2 ^ M - 1), ro, yc, yp, yk, yh)) (nI N, nI M, nI (2 ^ M - 1), ro, yc, yp, yk, yh) (nI p) v2) (nI N, nI M, cc, pc, cu, ro, co, cs, ps, pe, lv) (nI p) v2 := fun h => by
    unfold wpX_follows
    dsimp only
    refine cq_xse1 hM7 hp (br_f (by decide) (cq_xse0 hM7 h (br_t rfl ?_)))
    unfold wpY_follows
    dsimp only
    exact cq_yse1 hM7 hp (br_t rfl (cq_yse0 hM7 h (br_f (by decide) ⟨rfl, cq_mk T hf⟩)))
  rcases pk_ix v2 (n := 2 ^ M) (by omega) with h | h | ⟨q, hq, rfl⟩
  · exact out2 (Or.inl h)
  · exact out2 (Or.inr h)
  have Y : ∀ r : Int32, (cq_sub q (cq_cl N M R p) → r = 1) → (¬ cq_sub q (cq_cl N M R p) → r = 0) → wpY_follows (fun r' => r' = r ∧ i_Rel (k + 4) (nI N, nI M, cc, pc, cu, ro, co, cs, ps, pe, lv) (nI N, nI M, nI (2 ^ M - 1), ro, yc, yp, yk, yh)) (nI N, nI M, nI (2 ^ M - 1), ro, yc, yp, yk, yh) (nI p) (nI q) := fun r r1 r0 => by
    unfold wpY_follows
    dsimp only
    refine cq_yse1 hM7 hp (br_t rfl (cq_yse1 hM7 hq (br_t rfl ⟨N + 1, cq_yfo20 (cq_XY T) (by omega) (by omega) (fun h => ?_) (fun h => ?_) N 0 (by omega) (fun g h => absurd h (Nat.not_lt_zero g))⟩)))
    · exact ⟨(r1 ((cq_fol hq).mpr h)).symm, cq_mk T hf⟩
    · exact ⟨(r0 fun z => h ((cq_fol hq).mp z)).symm, cq_mk T hf⟩
  unfold wpX_follows
  dsimp only
  refine cq_xse1 hM7 hp (br_f (by decide) (cq_xse1 hM7 hq (br_f (by decide) (cq_xcl T hp ?_))))
  try dsimp only
  by_cases h : cq_sub q (cq_cl N M R p)
  · exact br_t ((cq_isub (by omega)).mpr h) (Y 1 (fun _ => rfl) fun z => absurd h z)
  · exact br_f (fun z => h ((cq_isub (by omega)).mp z)) (Y 0 (fun z => absurd z h) fun _ => rfl)
end
section
/-! ===== the owed rows: the lists and what is read off them ===== -/
theorem cq_plp {p : Nat → Prop} {b i : Nat} {a : Nat → Int32} (l : cq_En p b (fun j => j) a) (h : i < cq_cn p b) : ∃ j, j < b ∧ p j ∧ cq_cn p j = i ∧ a i = nI j := by
  obtain ⟨j, a1, b1, c1⟩ := cq_cn_surj _ _ i h
  refine ⟨j, a1, b1, c1, ?_⟩
  have := l j a1 b1
  rw [c1] at this
  exact this
theorem cq_out {x : Int32} {c n : Nat} (hc : c < n) (hn : n < 2 ^ 31) (h : x < 0 ∨ nI n ≤ x) : x ≠ nI c := fun e => by
  rcases h with h | h
  · rw [e] at h; exact nI_pos (by omega) h
  · rw [e] at h; exact nI_ge hc hn h
theorem i_vc_closedSets {k : Nat} {u : SX} {v : SY} (I : i_Rel k u v) (hk : k + 4 ≤ 2050) : wpX_closedSets (fun r u' => wpY_closedSets (fun r' v' => r' = r ∧ i_Rel (k + 4) u' v') v) u := by
  refine cq_el (P := fun u v => wpX_closedSets (fun r u' => wpY_closedSets (fun r' v' => r' = r ∧ i_Rel (k + 4) u' v') v) u) ?_ I
  intro N M R cc pc cu ro co cs ps pe lv yc yp yk yh T hf
  have hM7 := T.2.1.2
  unfold wpX_closedSets
  dsimp only
  refine cq_xref T hf fun cc pc cu cs ps pe hcu F => ?_
  try dsimp only
  unfold wpY_closedSets
  dsimp only
  refine cq_ytab (cq_XY T) fun yc yp yk tb => ?_
  try dsimp only
  exact ⟨2 ^ M + 1, cq_ycs8 hM7 tb ⟨F.1.symm, cq_mk T fun _ => F⟩ (2 ^ M) 0 (by omega)⟩
theorem i_vc_rules {k : Nat} {u : SX} {v : SY} (I : i_Rel k u v) (hk : k + 4 ≤ 2050) : wpX_rules (fun r u' => wpY_rules (fun r' v' => r' = r ∧ i_Rel (k + 4) u' v') v) u := by
  refine cq_el (P := fun u v => wpX_rules (fun r u' => wpY_rules (fun r' v' => r' = r ∧ i_Rel (k + 4) u' v') v) u) ?_ I
  intro N M R cc pc cu ro co cs ps pe lv yc yp yk yh T hf
  have hM7 := T.2.1.2
  unfold wpX_rules
  dsimp only
  refine cq_xref T hf fun cc pc cu cs ps pe hcu F => ?_
  try dsimp only
  unfold wpY_rules
  dsimp only
  refine cq_ytab (cq_XY T) fun yc yp yk tb => ?_
  try dsimp only
  exact ⟨2 ^ M + 1, cq_yru8 hM7 tb ⟨F.2.2.1.symm, cq_mk T fun _ => F⟩ (2 ^ M) 0 (by omega)⟩
theorem i_vc_closedSet {k : Nat} {u : SX} {v : SY} (I : i_Rel k u v) (hk : k + 4 ≤ 2050) (v1 : Int32) : wpX_closedSet (fun r u' => wpY_closedSet (fun r' v' => r' = r ∧ i_Rel (k + 4) u' v') v v1) u v1 := by
  refine cq_el (P := fun u v => wpX_closedSet (fun r u' => wpY_closedSet (fun r' v' => r' = r ∧ i_Rel (k + 4) u' v') v v1) u v1) ?_ I
  intro N M R cc pc cu ro co cs ps pe lv yc yp yk yh T hf
  have hM7 := T.2.1.2
  have h7 := cq_p7 hM7
  have hcn := cq_cn_le (fun c => cq_cl N M R c = c) (2 ^ M)
  unfold wpX_closedSet
  dsimp only
  refine cq_xref T hf fun cc pc cu cs ps pe hcu F => ?_
  try dsimp only
  have F0 := F
  obtain ⟨rfl, l, _, _⟩ := F
  have Y : ∀ r : Int32, (∀ j, j < 2 ^ M → cq_cl N M R j = j → v1 = nI (cq_cn (fun c => cq_cl N M R c = c) j) → nI j = r) → ((∀ j, j < 2 ^ M → cq_cl N M R j = j → v1 ≠ nI (cq_cn (fun c => cq_cl N M R c = c) j)) → -1 = r) → wpY_closedSet (fun r' v' => r' = r ∧ i_Rel (k + 4) (nI N, nI M, nI (cq_cn (fun c => cq_cl N M R c = c) (2 ^ M)), pc, cu, ro, co, cs, ps, pe, lv) v') (nI N, nI M, nI (2 ^ M - 1), ro, yc, yp, yk, yh) v1 := fun r r1 r0 => by
    unfold wpY_closedSet
    dsimp only
    refine cq_ytab (cq_XY T) fun yc yp yk tb => ?_
    try dsimp only
    exact ⟨2 ^ M + 1, cq_ycl8 hM7 tb (fun j a b c => ⟨r1 j a b c, cq_mk T fun _ => F0⟩) (fun h => ⟨r0 h, cq_mk T fun _ => F0⟩) (2 ^ M) 0 (by omega) (fun j h => absurd h (Nat.not_lt_zero j))⟩
  have out : (v1 < 0 ∨ nI (cq_cn (fun c => cq_cl N M R c = c) (2 ^ M)) ≤ v1) → wpY_closedSet (fun r' v' => r' = -1 ∧ i_Rel (k + 4) (nI N, nI M, nI (cq_cn (fun c => cq_cl N M R c = c) (2 ^ M)), pc, cu, ro, co, cs, ps, pe, lv) v') (nI N, nI M, nI (2 ^ M - 1), ro, yc, yp, yk, yh) v1 := fun h => Y (-1) (fun j a b c => absurd c (cq_out (cq_cn_lt (p := (fun c => cq_cl N M R c = c)) a b) (by omega) h)) fun _ => rfl
  rcases pk_ix v1 (n := cq_cn (fun c => cq_cl N M R c = c) (2 ^ M)) (by omega) with h | h | ⟨i, hi, rfl⟩
  · exact br_t h (out (Or.inl h))
  · by_cases h0 : v1 < 0
    · exact br_t h0 (out (Or.inl h0))
    · exact br_f h0 (br_t h (out (Or.inr h)))
  · obtain ⟨j, j1, j2, j3, j4⟩ := cq_plp l hi
    refine br_f (nI_pos (by omega)) (br_f (nI_ge hi (by omega)) ⟨vp_in_nI (by omega) (by decide), ?_⟩)
    refine Y _ (fun q a b c => ?_) (fun h => absurd (by rw [j3]) (h j j1 j2))
    rw [nI_clamp (by omega), j4]
    have hq := cq_cn_le (fun c => cq_cl N M R c = c) q
    rw [nI_eq (by omega) (by omega), ← j3] at c
    rw [cq_cn_inj (p := (fun c => cq_cl N M R c = c)) b j2 c.symm]
theorem i_vc_rule {k : Nat} {u : SX} {v : SY} (I : i_Rel k u v) (hk : k + 4 ≤ 2050) (v1 : Int32) : wpX_rule (fun r u' => wpY_rule (fun r' v' => r' = r ∧ i_Rel (k + 4) u' v') v v1) u v1 := by
  refine cq_el (P := fun u v => wpX_rule (fun r u' => wpY_rule (fun r' v' => r' = r ∧ i_Rel (k + 4) u' v') v v1) u v1) ?_ I
  intro N M R cc pc cu ro co cs ps pe lv yc yp yk yh T hf
  have hM7 := T.2.1.2
  have h7 := cq_p7 hM7
  have hcn := cq_cn_le (cq_Ps (cq_cl N M R)) (2 ^ M)
  unfold wpX_rule
  dsimp only
  refine cq_xref T hf fun cc pc cu cs ps pe hcu F => ?_
  try dsimp only
  have F0 := F
  obtain ⟨_, _, rfl, l⟩ := F
  have Y : ∀ r : Int32, (∀ j, j < 2 ^ M → cq_Ps (cq_cl N M R) j → v1 = nI (cq_cn (cq_Ps (cq_cl N M R)) j) → nI j = r) → ((∀ j, j < 2 ^ M → cq_Ps (cq_cl N M R) j → v1 ≠ nI (cq_cn (cq_Ps (cq_cl N M R)) j)) → -1 = r) → wpY_rule (fun r' v' => r' = r ∧ i_Rel (k + 4) (nI N, nI M, cc, nI (cq_cn (cq_Ps (cq_cl N M R)) (2 ^ M)), cu, ro, co, cs, ps, pe, lv) v') (nI N, nI M, nI (2 ^ M - 1), ro, yc, yp, yk, yh) v1 := fun r r1 r0 => by
    unfold wpY_rule
    dsimp only
    refine cq_ytab (cq_XY T) fun yc yp yk tb => ?_
    try dsimp only
    exact ⟨2 ^ M + 1, cq_yrl8 hM7 tb (fun j a b c => ⟨r1 j a b c, cq_mk T fun _ => F0⟩) (fun h => ⟨r0 h, cq_mk T fun _ => F0⟩) (2 ^ M) 0 (by omega) (fun j h => absurd h (Nat.not_lt_zero j))⟩
  have out : (v1 < 0 ∨ nI (cq_cn (cq_Ps (cq_cl N M R)) (2 ^ M)) ≤ v1) → wpY_rule (fun r' v' => r' = -1 ∧ i_Rel (k + 4) (nI N, nI M, cc, nI (cq_cn (cq_Ps (cq_cl N M R)) (2 ^ M)), cu, ro, co, cs, ps, pe, lv) v') (nI N, nI M, nI (2 ^ M - 1), ro, yc, yp, yk, yh) v1 := fun h => Y (-1) (fun j a b c => absurd c (cq_out (cq_cn_lt a b) (by omega) h)) fun _ => rfl
  rcases pk_ix v1 (n := cq_cn (cq_Ps (cq_cl N M R)) (2 ^ M)) (by omega) with h | h | ⟨i, hi, rfl⟩
  · exact br_t h (out (Or.inl h))
  · by_cases h0 : v1 < 0
    · exact br_t h0 (out (Or.inl h0))
    · exact br_f h0 (br_t h (out (Or.inr h)))
  · obtain ⟨j, j1, j2, j3, j4⟩ := cq_plp l hi
    refine br_f (nI_pos (by omega)) (br_f (nI_ge hi (by omega)) ⟨vp_in_nI (by omega) (by decide), ?_⟩)
    refine Y _ (fun q a b c => ?_) (fun h => absurd (by rw [j3]) (h j j1 j2))
    rw [nI_clamp (by omega), j4]
    have hq := cq_cn_le (cq_Ps (cq_cl N M R)) q
    rw [nI_eq (by omega) (by omega), ← j3] at c
    rw [cq_cn_inj b j2 c.symm]
theorem i_vc_nextClosed {k : Nat} {u : SX} {v : SY} (I : i_Rel k u v) (hk : k + 4 ≤ 2050) (v1 : Int32) : wpX_nextClosed (fun r => wpY_nextClosed (fun r' v' => r' = r ∧ i_Rel (k + 4) u v') v v1) u v1 := by
  refine cq_el (P := fun u v => wpX_nextClosed (fun r => wpY_nextClosed (fun r' v' => r' = r ∧ i_Rel (k + 4) u v') v v1) u v1) ?_ I
  intro N M R cc pc cu ro co cs ps pe lv yc yp yk yh T hf
  have hM7 := T.2.1.2
  have h7 := cq_p7 hM7
  have h0 := Nat.two_pow_pos M
  have Y : ∀ r : Int32, (∀ j, j < 2 ^ M → cq_cl N M R j = j → ¬ nI j ≤ v1 → (∀ q, q < j → cq_cl N M R q = q → nI q ≤ v1) → nI j = r) → ((∀ j, j < 2 ^ M → cq_cl N M R j = j → nI j ≤ v1) → -1 = r) → wpY_nextClosed (fun r' v' => r' = r ∧ i_Rel (k + 4) (nI N, nI M, cc, pc, cu, ro, co, cs, ps, pe, lv) v') (nI N, nI M, nI (2 ^ M - 1), ro, yc, yp, yk, yh) v1 := fun r r1 r0 => by
    unfold wpY_nextClosed
    dsimp only
    refine cq_ytab (cq_XY T) fun yc yp yk tb => ?_
    try dsimp only
    exact ⟨2 ^ M + 1, cq_ynx6 hM7 tb (fun j a b c d => ⟨r1 j a b c d, cq_mk T hf⟩) (fun h => ⟨r0 h, cq_mk T hf⟩) (2 ^ M) 0 (by omega) (fun j h => absurd h (Nat.not_lt_zero j))⟩
  unfold wpX_nextClosed
  dsimp only
  refine nm_r (cq_full M (by omega)) ?_
  have hkl := cq_cl_lt N M R 0
  have hkk := (cq_cl_CL N M R).2.2.2 0 h0
  rcases pk_ix v1 (n := 2 ^ M - 1) (by omega) with h | h | ⟨s, hs, rfl⟩
  · have hl : v1 < nI (2 ^ M - 1) := Int32.lt_of_lt_of_le h (nI_pos' (by omega))
    refine br_t hl (br_f (Int32.not_le.mpr h) (cq_xcl (s := 0) T h0 ?_))
    have no : ∀ q, q < 2 ^ M → ¬ nI q ≤ v1 := fun q hq z => nI_pos (n := q) (by omega) (Int32.lt_of_le_of_lt z h)
    refine Y _ (fun j a b c d => ?_) (fun z => absurd (z _ hkl hkk) (no _ hkl))
    have h1 := cq_K_0 (cq_cl_CL N M R) j a b
    by_cases e : cq_cl N M R 0 = j
    · rw [e]
    · exact absurd (d _ (by omega) hkk) (no _ hkl)
  · refine br_f (Int32.not_lt.mpr h) (Y _ (fun j a b c d => ?_) (fun _ => rfl))
    exact absurd (Int32.le_trans (nI_le (a := j) (b := 2 ^ M - 1) (by omega) (by omega)) h) c
  · refine br_t (nI_lt hs (by omega)) (br_t (nI_pos' (by omega)) (cq_xstep T hs fun y hy => ?_))
    have hy1 := hy.1
    refine Y _ (fun j a b c d => ?_) (fun z => ?_)
    · rw [nI_leI (by omega) (by omega)] at c
      have g1 := hy.2.2.2 j a b (by omega)
      by_cases e : y = j
      · rw [e]
      · have g2 := d y (by omega) hy.2.1
        rw [nI_leI (by omega) (by omega)] at g2
        have := hy.2.2.1
        omega
    · have g2 := z y hy.1 hy.2.1
      rw [nI_leI (by omega) (by omega)] at g2
      have := hy.2.2.1
      omega
theorem i_vc_covers {k : Nat} {u : SX} {v : SY} (I : i_Rel k u v) (hk : k + 4 ≤ 2050) (v1 : Int32) : wpX_covers (fun r => wpY_covers (fun r' v' => r' = r ∧ i_Rel (k + 4) u v') v v1) u v1 := by
  refine cq_el (P := fun u v => wpX_covers (fun r => wpY_covers (fun r' v' => r' = r ∧ i_Rel (k + 4) u v') v v1) u v1) ?_ I
  intro N M R cc pc cu ro co cs ps pe lv yc yp yk yh T hf
  have hM7 := T.2.1.2
  have h7 := cq_p7 hM7
  have out1 : (v1 < 0 ∨ nI (2 ^ M) ≤ v1) → wpX_covers (fun r => wpY_covers (fun r' v' => r' = r ∧ i_Rel (k + 4) (nI N, nI M, cc, pc, cu, ro, co, cs, ps, pe, lv) v') (nI N, nI M, nI (2 ^ M - 1), ro, yc, yp, yk, yh) v1) (nI N, nI M, cc, pc, cu, ro, co, cs, ps, pe, lv) v1 := fun h => by
    unfold wpX_covers
    dsimp only
    refine cq_xse0 hM7 h (br_t rfl ?_)
    unfold wpY_covers
    dsimp only
    exact cq_yse0 hM7 h (br_f (by decide) ⟨rfl, cq_mk T hf⟩)
  rcases pk_ix v1 (n := 2 ^ M) (by omega) with h | h | ⟨s, hs, rfl⟩
  · exact out1 (Or.inl h)
  · exact out1 (Or.inr h)
  unfold wpX_covers
  dsimp only
  refine cq_xse1 hM7 hs (br_f (by decide) (cq_xcl T hs (cq_xco T (cq_cl_lt N M R s) ?_)))
  unfold wpY_covers
  dsimp only
  refine cq_yse1 hM7 hs (br_t rfl (cq_ytab (cq_XY T) fun yc yp yk tb => ?_))
  try dsimp only
  refine ⟨vp_in_nI (by omega) (by decide), ?_⟩
  rw [nI_clamp (by omega), (tb s hs).2.2]
  exact cq_yov hM7 tb (cq_cl_lt N M R s) ⟨rfl, cq_mk T hf⟩
theorem i_vc_links {k : Nat} {u : SX} {v : SY} (I : i_Rel k u v) (hk : k + 4 ≤ 2050) : wpX_links (fun r u' => wpY_links (fun r' v' => r' = r ∧ i_Rel (k + 4) u' v') v) u := by
  refine cq_el (P := fun u v => wpX_links (fun r u' => wpY_links (fun r' v' => r' = r ∧ i_Rel (k + 4) u' v') v) u) ?_ I
  intro N M R cc pc cu ro co cs ps pe lv yc yp yk yh T hf
  have hM7 := T.2.1.2
  unfold wpX_links
  dsimp only
  refine cq_xref T hf fun cc pc cu cs ps pe hcu F => ?_
  try dsimp only
  have F0 := F
  obtain ⟨rfl, l, _, _⟩ := F
  refine ⟨cq_cn (fun c => cq_cl N M R c = c) (2 ^ M) + 1, cq_xlk8 T l ?_ (cq_cn (fun c => cq_cl N M R c = c) (2 ^ M)) 0 0 (by omega) rfl⟩
  unfold wpY_links
  dsimp only
  refine cq_ytab (cq_XY T) fun yc yp yk tb => ?_
  try dsimp only
  exact ⟨2 ^ M + 1, cq_ylk8 hM7 tb ⟨rfl, cq_mk T fun _ => F0⟩ (2 ^ M) 0 (by omega)⟩
theorem i_vc_height {k : Nat} {u : SX} {v : SY} (I : i_Rel k u v) (hk : k + 4 ≤ 2050) : wpX_height (fun r u' => wpY_height (fun r' v' => r' = r ∧ i_Rel (k + 4) u' v') v) u := by
  refine cq_el (P := fun u v => wpX_height (fun r u' => wpY_height (fun r' v' => r' = r ∧ i_Rel (k + 4) u' v') v) u) ?_ I
  intro N M R cc pc cu ro co cs ps pe lv yc yp yk yh T hf
  have hM7 := T.2.1.2
  unfold wpX_height
  dsimp only
  refine cq_xref T hf fun cc pc cu cs ps pe hcu F => ?_
  try dsimp only
  have F0 := F
  obtain ⟨rfl, l, _, _⟩ := F
  refine ⟨cq_cn (fun c => cq_cl N M R c = c) (2 ^ M) + 1, cq_xh8 hM7 l (fun lv => ?_) (cq_cn (fun c => cq_cl N M R c = c) (2 ^ M)) 0 0 lv (by omega) (Nat.zero_le _) rfl cq_En_0⟩
  unfold wpY_height
  dsimp only
  refine cq_ytab (cq_XY T) fun yc yp yk tb => ?_
  try dsimp only
  exact ⟨2 ^ M + 1, cq_yh8 hM7 tb (fun yh => ⟨rfl, cq_mk T fun _ => F0⟩) (2 ^ M) 0 yh (by omega) (fun j h => absurd h (Nat.not_lt_zero j))⟩
theorem i_vc_generatorSize {k : Nat} {u : SX} {v : SY} (I : i_Rel k u v) (hk : k + 4 ≤ 2050) (v1 : Int32) : wpX_generatorSize (fun r => wpY_generatorSize (fun r' v' => r' = r ∧ i_Rel (k + 4) u v') v v1) u v1 := by
  refine cq_el (P := fun u v => wpX_generatorSize (fun r => wpY_generatorSize (fun r' v' => r' = r ∧ i_Rel (k + 4) u v') v v1) u v1) ?_ I
  intro N M R cc pc cu ro co cs ps pe lv yc yp yk yh T hf
  have hM7 := T.2.1.2
  have h7 := cq_p7 hM7
  have out1 : (v1 < 0 ∨ nI (2 ^ M) ≤ v1) → wpX_generatorSize (fun r => wpY_generatorSize (fun r' v' => r' = r ∧ i_Rel (k + 4) (nI N, nI M, cc, pc, cu, ro, co, cs, ps, pe, lv) v') (nI N, nI M, nI (2 ^ M - 1), ro, yc, yp, yk, yh) v1) (nI N, nI M, cc, pc, cu, ro, co, cs, ps, pe, lv) v1 := fun h => by
    unfold wpX_generatorSize
    dsimp only
    refine cq_xse0 hM7 h (br_t rfl ?_)
    unfold wpY_generatorSize
    dsimp only
    exact cq_yse0 hM7 h (br_f (by decide) ⟨rfl, cq_mk T hf⟩)
  rcases pk_ix v1 (n := 2 ^ M) (by omega) with h | h | ⟨s, hs, rfl⟩
  · exact out1 (Or.inl h)
  · exact out1 (Or.inr h)
  have hkl := cq_cl_lt N M R s
  have hid := (cq_cl_CL N M R).2.2.2 s hs
  unfold wpX_generatorSize
  dsimp only
  refine cq_xse1 hM7 hs (br_f (by decide) (cq_xcl T hs ⟨2 ^ M, cq_xg27 T hkl hid (fun y hy => ?_) (2 ^ M) M (cq_cl N M R s) 0 hkl (by omega) (cq_sub_rfl _) hM7 (Or.inl rfl) (fun t a b c => ?_)⟩))
  · unfold wpY_generatorSize
    try dsimp only
    refine cq_yse1 hM7 hs (br_t rfl (cq_ytab (cq_XY T) fun yc yp yk tb => ?_))
    try dsimp only
    refine ⟨2 ^ M + 1, cq_yg19 hM7 tb hs (fun z hz => ⟨?_, cq_mk T hf⟩) (2 ^ M) 0 7 (by omega) (Nat.le_refl 7) (Or.inl rfl) (fun t h => absurd h (Nat.not_lt_zero t))⟩
    rw [cq_Gs_u hy hz]
  · have g := cq_sub_le ((cq_cl_CL N M R).2.1 t a)
    rw [b] at g
    omega
theorem i_vc_dispensable {k : Nat} {u : SX} {v : SY} (I : i_Rel k u v) (hk : k + 4 ≤ 2050) (v1 : Int32) : wpX_dispensable (fun r u' => wpY_dispensable (fun r' v' => r' = r ∧ i_Rel (k + 4) u' v') v v1) u v1 := by
  refine cq_el (P := fun u v => wpX_dispensable (fun r u' => wpY_dispensable (fun r' v' => r' = r ∧ i_Rel (k + 4) u' v') v v1) u v1) ?_ I
  intro N M R cc pc cu ro co cs ps pe lv yc yp yk yh T hf
  have hM7 := T.2.1.2
  have h7 := cq_p7 hM7
  have out1 : (v1 < 0 ∨ nI M ≤ v1) → wpX_dispensable (fun r u' => wpY_dispensable (fun r' v' => r' = r ∧ i_Rel (k + 4) u' v') (nI N, nI M, nI (2 ^ M - 1), ro, yc, yp, yk, yh) v1) (nI N, nI M, cc, pc, cu, ro, co, cs, ps, pe, lv) v1 := fun h => by
    unfold wpX_dispensable
    dsimp only
    refine cq_xat0 h (br_t rfl ?_)
    unfold wpY_dispensable
    dsimp only
    exact cq_yat0 h (br_f (by decide) ⟨rfl, cq_mk T hf⟩)
  rcases pk_ix v1 (n := M) (by omega) with h | h | ⟨a, ha, rfl⟩
  · exact out1 (Or.inl h)
  · exact out1 (Or.inr h)
  unfold wpX_dispensable
  dsimp only
  refine cq_xat1 hM7 ha (br_f (by decide) (cq_xref T hf fun cc pc cu cs ps pe hcu F => ?_))
  try dsimp only
  have F0 := F
  obtain ⟨rfl, l, _, _⟩ := F
  have Y : ∀ r : Int32, (cq_Di (cq_cl N M R) (2 ^ M) a → 0 = r) → (¬ cq_Di (cq_cl N M R) (2 ^ M) a → 1 = r) → wpY_dispensable (fun r' v' => r' = r ∧ i_Rel (k + 4) (nI N, nI M, nI (cq_cn (fun c => cq_cl N M R c = c) (2 ^ M)), pc, cu, ro, co, cs, ps, pe, lv) v') (nI N, nI M, nI (2 ^ M - 1), ro, yc, yp, yk, yh) (nI a) := fun r r1 r0 => by
    unfold wpY_dispensable
    dsimp only
    refine cq_yat1 hM7 ha (br_t rfl (cq_ytab (cq_XY T) fun yc yp yk tb => ?_))
    try dsimp only
    exact ⟨2 ^ M + 1, cq_yd16 hM7 tb ha (fun h => ⟨r1 h, cq_mk T fun _ => F0⟩) (fun h => ⟨r0 h, cq_mk T fun _ => F0⟩) (2 ^ M) 0 (by omega) (fun j h => absurd h (Nat.not_lt_zero j))⟩
  refine nm_r (cq_shl (by omega)) ⟨cq_cn (fun c => cq_cl N M R c = c) (2 ^ M) + 1, cq_xd20 T ha l (fun D => Y 0 (fun _ => rfl) fun z => absurd D z) (fun D => Y 1 (fun z => absurd z D) fun _ => rfl) (cq_cn (fun c => cq_cl N M R c = c) (2 ^ M)) 0 (by omega) (fun j _ _ h => absurd h (Nat.not_lt_zero _))⟩
end

section
/-! ===== part 1: pure rows ===== -/
/-! Int32 by its bits (rows turned from kit/laws/BITS.to-paste) -/
def cd_bt (x : Int32) (i : Nat) : Bool := x.toBitVec.getLsbD i
theorem cd_ext {x y : Int32} (h : ∀ i, i < 32 → cd_bt x i = cd_bt y i) : x = y := Int32.toBitVec_inj.mp (BitVec.eq_of_getLsbD_eq (fun i hi => h i hi))
theorem cd_bor (x y : Int32) (i : Nat) : cd_bt (x ||| y) i = (cd_bt x i || cd_bt y i) := by unfold cd_bt; rw [Int32.toBitVec_or, BitVec.getLsbD_or]
theorem cd_band (x y : Int32) (i : Nat) : cd_bt (x &&& y) i = (cd_bt x i && cd_bt y i) := by unfold cd_bt; rw [Int32.toBitVec_and, BitVec.getLsbD_and]
theorem cd_bxor (x y : Int32) (i : Nat) : cd_bt (x ^^^ y) i = (cd_bt x i ^^ cd_bt y i) := by unfold cd_bt; rw [Int32.toBitVec_xor, BitVec.getLsbD_xor]
theorem cd_b255 : ∀ i, i < 32 → cd_bt 255 i = decide (i < 8) := by decide +kernel
theorem cd_bm1 : ∀ i, i < 32 → cd_bt (-1) i = true := by decide +kernel
theorem cd_b1 : ∀ i, i < 32 → cd_bt 1 i = decide (i = 0) := by decide +kernel
theorem cd_b0 (i : Nat) : cd_bt 0 i = false := BitVec.getLsbD_zero
theorem cd_sm32 : ∀ n, n < 32 → ((nI n &&& 31).toBitVec.smod 32).toNat = n := by decide +kernel
theorem cd_bsshr (n : Nat) (hn : n < 32) (x : Int32) {i : Nat} (hi : i < 32) : cd_bt (x >>> (nI n &&& 31)) i = if n + i < 32 then cd_bt x (n + i) else cd_bt x 31 := by
  unfold cd_bt
  rw [Int32.toBitVec_shiftRight]
  show (x.toBitVec.sshiftRight ((nI n &&& 31).toBitVec.smod 32).toNat).getLsbD i = _
  rw [cd_sm32 n hn, BitVec.getLsbD_sshiftRight, BitVec.msb_eq_getLsbD_last]
  simp [hi]
/-- one bit, as the code tests it -/
theorem cd_tst (x : Int32) {t : Nat} (ht : t < 32) : (x >>> (nI t &&& 31)) &&& 1 = 1 ↔ cd_bt x t = true := by
  constructor
  · intro h
    have e := congrArg (fun z => cd_bt z 0) h
    simp only [cd_band, cd_b1 0 (by omega), cd_bsshr t ht x (show 0 < 32 by omega), Nat.add_zero, ht, if_true] at e
    simpa using e
  · intro h
    apply cd_ext
    intro i hi
    rw [cd_band, cd_b1 i hi, cd_bsshr t ht x hi]
    by_cases e : i = 0
    · subst e
      simp [ht, h]
    · simp [e]
theorem cd_or (a b : Nat) : nI a ||| nI b = nI (a ||| b) := by
  apply Int32.toBitVec_inj.1
  show BitVec.ofNat 32 a ||| BitVec.ofNat 32 b = BitVec.ofNat 32 (a ||| b)
  apply BitVec.eq_of_getLsbD_eq
  intro i hi
  simp [hi]
theorem cd_shl1 : ∀ k, k < 31 → (1 : Int32) <<< (nI k &&& 31) = nI (2 ^ k) := by decide +kernel
theorem cd_shr {n k : Nat} (hn : n < 2 ^ 31) (hk : k < 32) : nI n >>> (nI k &&& 31) = nI (n / 2 ^ k) := pk_shrN hn _ k (cd_sm32 k hk)
theorem cd_bit {n k : Nat} (hn : n < 2 ^ 31) (hk : k < 32) : (nI n >>> (nI k &&& 31)) &&& 1 = nI (n / 2 ^ k % 2) := by
  rw [cd_shr hn hk]
  have hd : n / 2 ^ k ≤ n := Nat.div_le_self _ _
  exact pk_andN (n := n / 2 ^ k) (m := 1) (by omega) 1 (by decide)
theorem cd_i8 : ∀ n, n < 128 → (nI n).toInt8.toInt32 = nI n := by decide +kernel
theorem cd_subz (a b : Int32) : a - b = 0 ↔ a = b := by
  constructor
  · intro h
    grind
  · intro h
    grind
/-- the number of bits -/
def cd_pc (n : Nat) : Nat → Nat
  | 0 => 0
  | k + 1 => cd_pc n k + n / 2 ^ k % 2
theorem cd_pc_le (n k : Nat) : cd_pc n k ≤ k := by
  induction k with
  | zero => exact Nat.le_refl 0
  | succ k ih =>
    show cd_pc n k + n / 2 ^ k % 2 ≤ k + 1
    omega
/-- sums -/
def cd_sm (f : Nat → Nat) : Nat → Nat
  | 0 => 0
  | n + 1 => cd_sm f n + f n
theorem cd_sm_le {f : Nat → Nat} {b : Nat} (n : Nat) (h : ∀ i, i < n → f i ≤ b) : cd_sm f n ≤ n * b := by
  induction n with
  | zero => exact Nat.zero_le _
  | succ n ih =>
    show cd_sm f n + f n ≤ (n + 1) * b
    have h1 := ih (fun i hi => h i (by omega))
    have h2 := h n (by omega)
    rw [Nat.succ_mul]
    omega
theorem cd_sm_c {f : Nat → Nat} {b : Nat} (n : Nat) (h : ∀ i, i < n → f i = b) : cd_sm f n = n * b := by
  induction n with
  | zero => exact (Nat.zero_mul b).symm
  | succ n ih =>
    show cd_sm f n + f n = (n + 1) * b
    rw [ih (fun i hi => h i (by omega)), h n (by omega), Nat.succ_mul]
/-- the threads below each, as the code gathers them: up to cell k of the cloth -/
def cd_uk (U : Nat → Nat → Bool) (W : Nat) : Nat → Nat → Nat
  | 0, _ => 0
  | k + 1, t => if U (k % W) (k / W) = true then (if t = k % W then cd_uk U W k t ||| 2 ^ (8 + k / W) else cd_uk U W k t) else (if t = 8 + k / W then cd_uk U W k t ||| 2 ^ (k % W) else cd_uk U W k t)
theorem cd_uk_lt (U : Nat → Nat → Bool) {W H : Nat} (h0 : 0 < W) (hW : W ≤ 8) (hH : H ≤ 8) (t : Nat) : ∀ k, k ≤ W * H → cd_uk U W k t < 65536 := by
  intro k
  induction k with
  | zero => intro _; exact (by decide : 0 < 65536)
  | succ k ih =>
    intro hk
    have i1 := ih (by omega)
    have hc : k % W < W := Nat.mod_lt _ h0
    have hr : k / W < H := Nat.div_lt_of_lt_mul (by omega)
    have p1 : 2 ^ (8 + k / W) < 2 ^ 16 := Nat.pow_lt_pow_right (by omega) (by omega)
    have p2 : 2 ^ (k % W) < 2 ^ 16 := Nat.pow_lt_pow_right (by omega) (by omega)
    have i2 : cd_uk U W k t < 2 ^ 16 := i1
    have q1 := Nat.or_lt_two_pow i2 p1
    have q2 := Nat.or_lt_two_pow i2 p2
    unfold cd_uk
    split
    · split
      · exact q1
      · exact i1
    · split
      · exact q2
      · exact i1
def cd_un (U : Nat → Nat → Bool) (W H t : Nat) : Nat := cd_uk U W (W * H) t
def cd_sz (U : Nat → Nat → Bool) (W H t : Nat) : Nat := cd_pc (cd_un U W H t) 16
/-- insertion: where the next thread goes among the first n of L -/
def cd_ps (sz L : Nat → Nat) (m : Nat) : Nat → Nat
  | 0 => 0
  | n + 1 => if sz (L n) < m then cd_ps sz L m n else n + 1
def cd_sl (sz : Nat → Nat) (first : Nat) : Nat → (Nat → Nat)
  | 0 => fun _ => 0
  | i + 1 => fun j => if j < cd_ps sz (cd_sl sz first i) (sz (first + i)) i then cd_sl sz first i j else if j = cd_ps sz (cd_sl sz first i) (sz (first + i)) i then first + i else cd_sl sz first i (j - 1)
theorem cd_ps_le (sz L : Nat → Nat) (m n : Nat) : cd_ps sz L m n ≤ n := by
  induction n with
  | zero => exact Nat.le_refl 0
  | succ n ih =>
    unfold cd_ps
    split <;> omega
theorem cd_sl_rng (sz : Nat → Nat) (first i : Nat) : ∀ j, j < i → first ≤ cd_sl sz first i j ∧ cd_sl sz first i j < first + i := by
  induction i with
  | zero => intro j hj; omega
  | succ i ih =>
    intro j hj
    have hp := cd_ps_le sz (cd_sl sz first i) (sz (first + i)) i
    show first ≤ (if j < cd_ps sz (cd_sl sz first i) (sz (first + i)) i then cd_sl sz first i j else if j = cd_ps sz (cd_sl sz first i) (sz (first + i)) i then first + i else cd_sl sz first i (j - 1)) ∧ (if j < cd_ps sz (cd_sl sz first i) (sz (first + i)) i then cd_sl sz first i j else if j = cd_ps sz (cd_sl sz first i) (sz (first + i)) i then first + i else cd_sl sz first i (j - 1)) < first + (i + 1)
    generalize cd_ps sz (cd_sl sz first i) (sz (first + i)) i = a at hp
    split
    · have := ih j (by omega); omega
    · split
      · omega
      · have := ih (j - 1) (by omega); omega
theorem cd_ps_id {sz L : Nat → Nat} {m : Nat} (n : Nat) (h : ∀ j, j < n → ¬ sz (L j) < m) : cd_ps sz L m n = n := by
  cases n with
  | zero => rfl
  | succ n =>
    unfold cd_ps
    exact if_neg (h n (by omega))
theorem cd_sl_id {sz : Nat → Nat} {first many : Nat} (h : ∀ s t, first ≤ s → s < first + many → first ≤ t → t < first + many → sz s = sz t) : ∀ i, i ≤ many → ∀ j, j < i → cd_sl sz first i j = first + j := by
  intro i
  induction i with
  | zero => intro _ j hj; omega
  | succ i ih =>
    intro hi j hj
    have e : cd_ps sz (cd_sl sz first i) (sz (first + i)) i = i := cd_ps_id i (fun k hk => by
      have r := cd_sl_rng sz first i k hk
      rw [h (cd_sl sz first i k) (first + i) r.1 (by omega) (by omega) (by omega)]
      omega)
    show (if j < cd_ps sz (cd_sl sz first i) (sz (first + i)) i then cd_sl sz first i j else if j = cd_ps sz (cd_sl sz first i) (sz (first + i)) i then first + i else cd_sl sz first i (j - 1)) = first + j
    rw [e]
    by_cases hj2 : j < i
    · rw [if_pos hj2]; exact ih (by omega) j hj2
    · rw [if_neg hj2, if_pos (by omega)]; omega
end
section
/-! ===== part 2: findSteps as a pure run over its turns k ===== -/
/-- a step closes at turn k: s = (warps, wefts, steps) so far -/
def cd_cl (Z : Nat → Nat → Bool) (W H k : Nat) (s : Nat × Nat × Nat) : Bool :=
  decide (k % (W + 1) ≤ k / (W + 1) ∧ k / (W + 1) - k % (W + 1) ≤ H ∧ s.1 ≤ k % (W + 1) ∧ s.2.1 ≤ k / (W + 1) - k % (W + 1) ∧ s.1 + s.2.1 < k / (W + 1) ∧ Z (k % (W + 1)) (k / (W + 1) - k % (W + 1)) = true)
def cd_rn (Z : Nat → Nat → Bool) (W H : Nat) : Nat → Nat × Nat × Nat
  | 0 => (0, 0, 0)
  | k + 1 => if cd_cl Z W H k (cd_rn Z W H k) = true then (k % (W + 1), k / (W + 1) - k % (W + 1), (cd_rn Z W H k).2.2 + 1) else cd_rn Z W H k
/-- is t among o P .. o (p - 1) -/
def cd_mm (P : Nat) (o : Nat → Nat) (t : Nat) : Nat → Bool
  | 0 => false
  | p + 1 => cd_mm P o t p || decide (P ≤ p ∧ o p = t)
def cd_u6 (P p : Nat) (o : Nat → Nat) (v : Int32) (g : Nat → Int32) : Nat → Int32 := fun t => if cd_mm P o t p = true then v else g t
def cd_g6 (Z : Nat → Nat → Bool) (W H : Nat) (ow oh : Nat → Nat) (a : Nat → Int32) : Nat → (Nat → Int32)
  | 0 => a
  | k + 1 => if cd_cl Z W H k (cd_rn Z W H k) = true then cd_u6 (cd_rn Z W H k).2.1 (k / (W + 1) - k % (W + 1)) oh (nI (cd_rn Z W H k).2.2) (cd_u6 (cd_rn Z W H k).1 (k % (W + 1)) ow (nI (cd_rn Z W H k).2.2) (cd_g6 Z W H ow oh a k)) else cd_g6 Z W H ow oh a k
def cd_g7 (Z : Nat → Nat → Bool) (W H : Nat) (a : Nat → Int32) : Nat → (Nat → Int32)
  | 0 => a
  | k + 1 => if cd_cl Z W H k (cd_rn Z W H k) = true then upd (cd_g7 Z W H a k) (cd_rn Z W H k).2.2 (nI (k % (W + 1) - (cd_rn Z W H k).1 + (k / (W + 1) - k % (W + 1)) - (cd_rn Z W H k).2.1)) else cd_g7 Z W H a k
def cd_g8 (Z : Nat → Nat → Bool) (W H : Nat) (a : Nat → Int32) : Nat → (Nat → Int32)
  | 0 => a
  | k + 1 => if cd_cl Z W H k (cd_rn Z W H k) = true then upd (cd_g8 Z W H a k) (cd_rn Z W H k).2.2 (if (cd_rn Z W H k).1 < k % (W + 1) then 1 else 0) else cd_g8 Z W H a k
theorem cd_mm_lo (P : Nat) (o : Nat → Nat) (t p : Nat) (h : p ≤ P) : cd_mm P o t p = false := by
  induction p with
  | zero => rfl
  | succ p ih =>
    show (cd_mm P o t p || decide (P ≤ p ∧ o p = t)) = false
    rw [ih (by omega), decide_eq_false (fun z => absurd z.1 (by omega))]
    rfl
theorem cd_u6_0 (P : Nat) (o : Nat → Nat) (v : Int32) (g : Nat → Int32) : cd_u6 P P o v g = g := by
  funext t
  unfold cd_u6
  rw [cd_mm_lo P o t P (Nat.le_refl P)]
  rfl
theorem cd_u6_s {P i : Nat} (h : P ≤ i) (o : Nat → Nat) (v : Int32) (g : Nat → Int32) : upd (cd_u6 P i o v g) (o i) v = cd_u6 P (i + 1) o v g := by
  funext t
  unfold upd cd_u6
  show _ = if (cd_mm P o t i || decide (P ≤ i ∧ o i = t)) = true then v else g t
  by_cases e : t = o i
  · rw [if_pos e, decide_eq_true (show P ≤ i ∧ o i = t from ⟨h, e.symm⟩), Bool.or_true, if_pos rfl]
  · rw [if_neg e, decide_eq_false (show ¬ (P ≤ i ∧ o i = t) from fun z => e z.2.symm), Bool.or_false]
theorem cd_mm_in {P p i : Nat} {o : Nat → Nat} {t : Nat} (h1 : P ≤ i) (h2 : i < p) (h3 : o i = t) : cd_mm P o t p = true := by
  induction p with
  | zero => omega
  | succ p ih =>
    show (cd_mm P o t p || decide (P ≤ p ∧ o p = t)) = true
    by_cases e : i = p
    · subst e
      rw [decide_eq_true (show P ≤ i ∧ o i = t from ⟨h1, h3⟩), Bool.or_true]
    · rw [ih (by omega), Bool.true_or]
theorem cd_mm_out {P p : Nat} {o : Nat → Nat} {t : Nat} (h : ∀ i, P ≤ i → i < p → o i ≠ t) : cd_mm P o t p = false := by
  induction p with
  | zero => rfl
  | succ p ih =>
    show (cd_mm P o t p || decide (P ≤ p ∧ o p = t)) = false
    rw [ih (fun i h1 h2 => h i h1 (by omega)), decide_eq_false (show ¬ (P ≤ p ∧ o p = t) from fun z => h p z.1 (by omega) z.2)]
    rfl
theorem cd_rn_no {Z : Nat → Nat → Bool} {W H k : Nat} (h : ¬ cd_cl Z W H k (cd_rn Z W H k) = true) : cd_rn Z W H (k + 1) = cd_rn Z W H k := by
  rw [cd_rn, if_neg h]
theorem cd_g6_no {Z : Nat → Nat → Bool} {W H k : Nat} (ow oh : Nat → Nat) (a : Nat → Int32) (h : ¬ cd_cl Z W H k (cd_rn Z W H k) = true) : cd_g6 Z W H ow oh a (k + 1) = cd_g6 Z W H ow oh a k := by
  rw [cd_g6, if_neg h]
theorem cd_g7_no {Z : Nat → Nat → Bool} {W H k : Nat} (a : Nat → Int32) (h : ¬ cd_cl Z W H k (cd_rn Z W H k) = true) : cd_g7 Z W H a (k + 1) = cd_g7 Z W H a k := by
  rw [cd_g7, if_neg h]
theorem cd_g8_no {Z : Nat → Nat → Bool} {W H k : Nat} (a : Nat → Int32) (h : ¬ cd_cl Z W H k (cd_rn Z W H k) = true) : cd_g8 Z W H a (k + 1) = cd_g8 Z W H a k := by
  rw [cd_g8, if_neg h]
theorem cd_rn_ya {Z : Nat → Nat → Bool} {W H k : Nat} (h : cd_cl Z W H k (cd_rn Z W H k) = true) : cd_rn Z W H (k + 1) = (k % (W + 1), k / (W + 1) - k % (W + 1), (cd_rn Z W H k).2.2 + 1) := by
  rw [cd_rn, if_pos h]
theorem cd_g6_ya {Z : Nat → Nat → Bool} {W H k : Nat} (ow oh : Nat → Nat) (a : Nat → Int32) (h : cd_cl Z W H k (cd_rn Z W H k) = true) : cd_g6 Z W H ow oh a (k + 1) = cd_u6 (cd_rn Z W H k).2.1 (k / (W + 1) - k % (W + 1)) oh (nI (cd_rn Z W H k).2.2) (cd_u6 (cd_rn Z W H k).1 (k % (W + 1)) ow (nI (cd_rn Z W H k).2.2) (cd_g6 Z W H ow oh a k)) := by
  rw [cd_g6, if_pos h]
theorem cd_g7_ya {Z : Nat → Nat → Bool} {W H k : Nat} (a : Nat → Int32) (h : cd_cl Z W H k (cd_rn Z W H k) = true) : cd_g7 Z W H a (k + 1) = upd (cd_g7 Z W H a k) (cd_rn Z W H k).2.2 (nI (k % (W + 1) - (cd_rn Z W H k).1 + (k / (W + 1) - k % (W + 1)) - (cd_rn Z W H k).2.1)) := by
  rw [cd_g7, if_pos h]
theorem cd_g8_ya {Z : Nat → Nat → Bool} {W H k : Nat} (a : Nat → Int32) (h : cd_cl Z W H k (cd_rn Z W H k) = true) : cd_g8 Z W H a (k + 1) = upd (cd_g8 Z W H a k) (cd_rn Z W H k).2.2 (if (cd_rn Z W H k).1 < k % (W + 1) then 1 else 0) := by
  rw [cd_g8, if_pos h]
theorem cd_rn_bd (Z : Nat → Nat → Bool) (W H k : Nat) : (cd_rn Z W H k).1 ≤ W ∧ (cd_rn Z W H k).2.1 ≤ H ∧ (cd_rn Z W H k).2.2 ≤ (cd_rn Z W H k).1 + (cd_rn Z W H k).2.1 := by
  induction k with
  | zero => exact ⟨Nat.zero_le _, Nat.zero_le _, Nat.zero_le _⟩
  | succ k ih =>
    by_cases h : cd_cl Z W H k (cd_rn Z W H k) = true
    · rw [cd_rn_ya h]
      have hc := of_decide_eq_true h
      have hp : k % (W + 1) < W + 1 := Nat.mod_lt _ (by omega)
      dsimp only
      omega
    · rw [cd_rn_no h]
      exact ih
theorem cd_g6_two (Z : Nat → Nat → Bool) (W H : Nat) (ow oh : Nat → Nat) (k t : Nat) : (∀ a : Nat → Int32, cd_g6 Z W H ow oh a k t = a t) ∨ (∃ v : Int32, ∀ a : Nat → Int32, cd_g6 Z W H ow oh a k t = v) := by
  induction k with
  | zero => exact Or.inl (fun a => rfl)
  | succ k ih =>
    by_cases h : cd_cl Z W H k (cd_rn Z W H k) = true
    · have e := fun a => congrFun (cd_g6_ya ow oh a h) t
      unfold cd_u6 at e
      by_cases h1 : cd_mm (cd_rn Z W H k).2.1 oh t (k / (W + 1) - k % (W + 1)) = true
      · exact Or.inr ⟨nI (cd_rn Z W H k).2.2, fun a => by rw [e a, if_pos h1]⟩
      · by_cases h2 : cd_mm (cd_rn Z W H k).1 ow t (k % (W + 1)) = true
        · exact Or.inr ⟨nI (cd_rn Z W H k).2.2, fun a => by rw [e a, if_neg h1, if_pos h2]⟩
        · rcases ih with ih | ⟨v, ih⟩
          · exact Or.inl (fun a => by rw [e a, if_neg h1, if_neg h2]; exact ih a)
          · exact Or.inr ⟨v, fun a => by rw [e a, if_neg h1, if_neg h2]; exact ih a⟩
    · rcases ih with ih | ⟨v, ih⟩
      · exact Or.inl (fun a => by rw [cd_g6_no ow oh a h]; exact ih a)
      · exact Or.inr ⟨v, fun a => by rw [cd_g6_no ow oh a h]; exact ih a⟩
theorem cd_g6_id (Z : Nat → Nat → Bool) (W H : Nat) (ow oh : Nat → Nat) (k t : Nat) (a : Nat → Int32) : cd_g6 Z W H ow oh (cd_g6 Z W H ow oh a k) k t = cd_g6 Z W H ow oh a k t := by
  rcases cd_g6_two Z W H ow oh k t with h | ⟨v, h⟩
  · rw [h]
  · rw [h, h]
/-! turn k + 1 -/
theorem cd_dm1 {W k : Nat} (h : k % (W + 1) < W) : (k + 1) / (W + 1) = k / (W + 1) ∧ (k + 1) % (W + 1) = k % (W + 1) + 1 := by
  have e := Nat.div_add_mod k (W + 1)
  have e2 : k + 1 = (k % (W + 1) + 1) + (W + 1) * (k / (W + 1)) := by omega
  generalize k % (W + 1) = p at *
  generalize k / (W + 1) = n at *
  rw [e2, Nat.add_mul_div_left _ _ (by omega), Nat.add_mul_mod_self_left, Nat.div_eq_of_lt (by omega), Nat.mod_eq_of_lt (by omega)]
  omega
theorem cd_dm2 {W k : Nat} (h : k % (W + 1) = W) : (k + 1) / (W + 1) = k / (W + 1) + 1 ∧ (k + 1) % (W + 1) = 0 := by
  have e := Nat.div_add_mod k (W + 1)
  have e2 : k + 1 = 0 + (W + 1) * (k / (W + 1) + 1) := by rw [Nat.mul_add]; omega
  generalize k % (W + 1) = p at *
  generalize k / (W + 1) = n at *
  rw [e2, Nat.add_mul_div_left _ _ (by omega), Nat.add_mul_mod_self_left, Nat.zero_div, Nat.zero_mod]
  omega
/-! the run where no warp is above a weft: first the wefts, one by one, then the warps -/
def cd_tA (H n p : Nat) : Nat := if n - H < p then n else n - 1
theorem cd_cA {W H n p : Nat} (hp : p ≤ W) (hn : n ≤ W + H) : (p ≤ n ∧ n - p ≤ H ∧ cd_tA H n p - H ≤ p ∧ min (cd_tA H n p) H ≤ n - p ∧ (cd_tA H n p - H) + min (cd_tA H n p) H < n ∧ (p = 0 ∨ n - p = H)) ↔ (p = n - H ∧ 1 ≤ n) := by
  unfold cd_tA
  split <;> omega
def cd_tB (W n p : Nat) : Nat := if min n W < p then n else n - 1
theorem cd_cB {W H n p : Nat} (hp : p ≤ W) (hn : n ≤ W + H) : (p ≤ n ∧ n - p ≤ H ∧ min (cd_tB W n p) W ≤ p ∧ cd_tB W n p - W ≤ n - p ∧ min (cd_tB W n p) W + (cd_tB W n p - W) < n ∧ (n - p = 0 ∨ p = W)) ↔ (p = min n W ∧ 1 ≤ n) := by
  unfold cd_tB
  split <;> omega
theorem cd_kn {W H k : Nat} (hk : k < (W + H + 1) * (W + 1)) : k / (W + 1) ≤ W + H ∧ k % (W + 1) ≤ W := by
  have h1 : k / (W + 1) < W + H + 1 := Nat.div_lt_of_lt_mul (by rw [Nat.mul_comm]; exact hk)
  have h2 : k % (W + 1) < W + 1 := Nat.mod_lt _ (by omega)
  omega
theorem cd_clA {Z : Nat → Nat → Bool} {W H k : Nat} (hZ : ∀ p q, p ≤ W → q ≤ H → (Z p q = true ↔ p = 0 ∨ q = H)) (hk : k < (W + H + 1) * (W + 1)) : cd_cl Z W H k (cd_tA H (k / (W + 1)) (k % (W + 1)) - H, min (cd_tA H (k / (W + 1)) (k % (W + 1))) H, cd_tA H (k / (W + 1)) (k % (W + 1))) = true ↔ (k % (W + 1) = k / (W + 1) - H ∧ 1 ≤ k / (W + 1)) := by
  obtain ⟨hn, hp⟩ := cd_kn hk
  rw [← cd_cA hp hn]
  unfold cd_cl
  rw [decide_eq_true_iff]
  dsimp only
  constructor
  · rintro ⟨h1, h2, h3, h4, h5, h6⟩
    exact ⟨h1, h2, h3, h4, h5, (hZ _ _ hp h2).mp h6⟩
  · rintro ⟨h1, h2, h3, h4, h5, h6⟩
    exact ⟨h1, h2, h3, h4, h5, (hZ _ _ hp h2).mpr h6⟩
theorem cd_clB {Z : Nat → Nat → Bool} {W H k : Nat} (hZ : ∀ p q, p ≤ W → q ≤ H → (Z p q = true ↔ q = 0 ∨ p = W)) (hk : k < (W + H + 1) * (W + 1)) : cd_cl Z W H k (min (cd_tB W (k / (W + 1)) (k % (W + 1))) W, cd_tB W (k / (W + 1)) (k % (W + 1)) - W, cd_tB W (k / (W + 1)) (k % (W + 1))) = true ↔ (k % (W + 1) = min (k / (W + 1)) W ∧ 1 ≤ k / (W + 1)) := by
  obtain ⟨hn, hp⟩ := cd_kn hk
  rw [← cd_cB hp hn]
  unfold cd_cl
  rw [decide_eq_true_iff]
  dsimp only
  constructor
  · rintro ⟨h1, h2, h3, h4, h5, h6⟩
    exact ⟨h1, h2, h3, h4, h5, (hZ _ _ hp h2).mp h6⟩
  · rintro ⟨h1, h2, h3, h4, h5, h6⟩
    exact ⟨h1, h2, h3, h4, h5, (hZ _ _ hp h2).mpr h6⟩
/-- the count after turn k -/
theorem cd_tA_s {W H k : Nat} (hk : k < (W + H + 1) * (W + 1)) : cd_tA H ((k + 1) / (W + 1)) ((k + 1) % (W + 1)) = (if k % (W + 1) = k / (W + 1) - H ∧ 1 ≤ k / (W + 1) then k / (W + 1) else cd_tA H (k / (W + 1)) (k % (W + 1))) := by
  obtain ⟨hn, hp⟩ := cd_kn hk
  rcases Nat.lt_or_ge (k % (W + 1)) W with h | h
  · obtain ⟨e1, e2⟩ := cd_dm1 h
    rw [e1, e2]
    generalize k % (W + 1) = p at *
    generalize k / (W + 1) = n at *
    unfold cd_tA
    split <;> split <;> (try split) <;> omega
  · obtain ⟨e1, e2⟩ := cd_dm2 (show k % (W + 1) = W by omega)
    rw [e1, e2]
    generalize k % (W + 1) = p at *
    generalize k / (W + 1) = n at *
    unfold cd_tA
    split <;> split <;> (try split) <;> omega
theorem cd_tB_s {W H k : Nat} (hk : k < (W + H + 1) * (W + 1)) : cd_tB W ((k + 1) / (W + 1)) ((k + 1) % (W + 1)) = (if k % (W + 1) = min (k / (W + 1)) W ∧ 1 ≤ k / (W + 1) then k / (W + 1) else cd_tB W (k / (W + 1)) (k % (W + 1))) := by
  obtain ⟨hn, hp⟩ := cd_kn hk
  rcases Nat.lt_or_ge (k % (W + 1)) W with h | h
  · obtain ⟨e1, e2⟩ := cd_dm1 h
    rw [e1, e2]
    generalize k % (W + 1) = p at *
    generalize k / (W + 1) = n at *
    unfold cd_tB
    split <;> split <;> (try split) <;> omega
  · obtain ⟨e1, e2⟩ := cd_dm2 (show k % (W + 1) = W by omega)
    rw [e1, e2]
    generalize k % (W + 1) = p at *
    generalize k / (W + 1) = n at *
    unfold cd_tB
    split <;> split <;> (try split) <;> omega
theorem cd_rnA {Z : Nat → Nat → Bool} {W H : Nat} (hZ : ∀ p q, p ≤ W → q ≤ H → (Z p q = true ↔ p = 0 ∨ q = H)) : ∀ k, k ≤ (W + H + 1) * (W + 1) → cd_rn Z W H k = (cd_tA H (k / (W + 1)) (k % (W + 1)) - H, min (cd_tA H (k / (W + 1)) (k % (W + 1))) H, cd_tA H (k / (W + 1)) (k % (W + 1))) := by
  intro k
  induction k with
  | zero =>
    intro _
    have e : cd_tA H (0 / (W + 1)) (0 % (W + 1)) = 0 := by
      rw [Nat.zero_div, Nat.zero_mod]
      unfold cd_tA
      split <;> omega
    rw [e, Nat.zero_sub, Nat.zero_min]
    rfl
  | succ k ih =>
    intro hk
    have ih' := ih (by omega)
    obtain ⟨hn, hp⟩ := cd_kn (show k < (W + H + 1) * (W + 1) by omega)
    have hc := cd_clA hZ (show k < (W + H + 1) * (W + 1) by omega)
    rw [← ih'] at hc
    rw [cd_tA_s (by omega)]
    by_cases h : k % (W + 1) = k / (W + 1) - H ∧ 1 ≤ k / (W + 1)
    · rw [cd_rn_ya (hc.mpr h), if_pos h, ih']
      generalize k % (W + 1) = p at *
      generalize k / (W + 1) = n at *
      dsimp only
      have e : cd_tA H n p = n - 1 := by
        unfold cd_tA
        split <;> omega
      rw [e]
      refine Prod.ext ?_ (Prod.ext ?_ ?_)
      · show p = n - H
        omega
      · show n - p = min n H
        omega
      · show n - 1 + 1 = n
        omega
    · rw [cd_rn_no (fun z => h (hc.mp z)), if_neg h, ih']
theorem cd_rnB {Z : Nat → Nat → Bool} {W H : Nat} (hZ : ∀ p q, p ≤ W → q ≤ H → (Z p q = true ↔ q = 0 ∨ p = W)) : ∀ k, k ≤ (W + H + 1) * (W + 1) → cd_rn Z W H k = (min (cd_tB W (k / (W + 1)) (k % (W + 1))) W, cd_tB W (k / (W + 1)) (k % (W + 1)) - W, cd_tB W (k / (W + 1)) (k % (W + 1))) := by
  intro k
  induction k with
  | zero =>
    intro _
    have e : cd_tB W (0 / (W + 1)) (0 % (W + 1)) = 0 := by
      rw [Nat.zero_div, Nat.zero_mod]
      unfold cd_tB
      split <;> omega
    rw [e, Nat.zero_sub, Nat.zero_min]
    rfl
  | succ k ih =>
    intro hk
    have ih' := ih (by omega)
    obtain ⟨hn, hp⟩ := cd_kn (show k < (W + H + 1) * (W + 1) by omega)
    have hc := cd_clB hZ (show k < (W + H + 1) * (W + 1) by omega)
    rw [← ih'] at hc
    rw [cd_tB_s (H := H) (by omega)]
    by_cases h : k % (W + 1) = min (k / (W + 1)) W ∧ 1 ≤ k / (W + 1)
    · rw [cd_rn_ya (hc.mpr h), if_pos h, ih']
      generalize k % (W + 1) = p at *
      generalize k / (W + 1) = n at *
      dsimp only
      have e : cd_tB W n p = n - 1 := by
        unfold cd_tB
        split <;> omega
      rw [e]
      refine Prod.ext ?_ (Prod.ext ?_ ?_)
      · show p = min n W
        omega
      · show n - p = n - W
        omega
      · show n - 1 + 1 = n
        omega
    · rw [cd_rn_no (fun z => h (hc.mp z)), if_neg h, ih']
theorem cd_end (W H : Nat) : (W + H + 1) * (W + 1) / (W + 1) = W + H + 1 ∧ (W + H + 1) * (W + 1) % (W + 1) = 0 := ⟨Nat.mul_div_cancel _ (by omega), Nat.mul_mod_left _ _⟩
theorem cd_nA {Z : Nat → Nat → Bool} {W H : Nat} (hZ : ∀ p q, p ≤ W → q ≤ H → (Z p q = true ↔ p = 0 ∨ q = H)) : (cd_rn Z W H ((W + H + 1) * (W + 1))).2.2 = W + H := by
  rw [cd_rnA hZ _ (Nat.le_refl _), (cd_end W H).1, (cd_end W H).2]
  show cd_tA H (W + H + 1) 0 = W + H
  unfold cd_tA
  split <;> omega
theorem cd_nB {Z : Nat → Nat → Bool} {W H : Nat} (hZ : ∀ p q, p ≤ W → q ≤ H → (Z p q = true ↔ q = 0 ∨ p = W)) : (cd_rn Z W H ((W + H + 1) * (W + 1))).2.2 = W + H := by
  rw [cd_rnB hZ _ (Nat.le_refl _), (cd_end W H).1, (cd_end W H).2]
  show cd_tB W (W + H + 1) 0 = W + H
  unfold cd_tB
  split <;> omega
/-- what the run without a warp above a weft leaves in the arrays -/
theorem cd_gA {Z : Nat → Nat → Bool} {W H : Nat} {ow oh : Nat → Nat} (hW : W ≤ 8) (hZ : ∀ p q, p ≤ W → q ≤ H → (Z p q = true ↔ p = 0 ∨ q = H)) (how : ∀ i, i < W → ow i = i) (hoh : ∀ i, i < H → oh i = 8 + i) (a6 a7 a8 : Nat → Int32) : ∀ k, k ≤ (W + H + 1) * (W + 1) →
    (∀ j, j < cd_tA H (k / (W + 1)) (k % (W + 1)) → cd_g7 Z W H a7 k j = 1 ∧ cd_g8 Z W H a8 k j = (if j < H then 0 else 1)) ∧
    (∀ i, i < cd_tA H (k / (W + 1)) (k % (W + 1)) - H → cd_g6 Z W H ow oh a6 k i = nI (H + i)) ∧
    (∀ i, i < min (cd_tA H (k / (W + 1)) (k % (W + 1))) H → cd_g6 Z W H ow oh a6 k (8 + i) = nI i) := by
  intro k
  induction k with
  | zero =>
    intro _
    have e : cd_tA H (0 / (W + 1)) (0 % (W + 1)) = 0 := by
      rw [Nat.zero_div, Nat.zero_mod]
      unfold cd_tA
      split <;> omega
    rw [e]
    exact ⟨fun j hj => by omega, fun i hi => by omega, fun i hi => by omega⟩
  | succ k ih =>
    intro hk
    obtain ⟨i1, i2, i3⟩ := ih (by omega)
    have ih' := cd_rnA hZ k (by omega)
    obtain ⟨hn, hp⟩ := cd_kn (show k < (W + H + 1) * (W + 1) by omega)
    have hc := cd_clA hZ (show k < (W + H + 1) * (W + 1) by omega)
    rw [← ih'] at hc
    rw [cd_tA_s (by omega)]
    by_cases h : k % (W + 1) = k / (W + 1) - H ∧ 1 ≤ k / (W + 1)
    · rw [if_pos h, cd_g6_ya ow oh a6 (hc.mpr h), cd_g7_ya a7 (hc.mpr h), cd_g8_ya a8 (hc.mpr h), ih']
      have e : cd_tA H (k / (W + 1)) (k % (W + 1)) = k / (W + 1) - 1 := by
        unfold cd_tA
        split <;> omega
      rw [e] at i1 i2 i3 ⊢
      generalize cd_g6 Z W H ow oh a6 k = g6 at *
      generalize cd_g7 Z W H a7 k = g7 at *
      generalize cd_g8 Z W H a8 k = g8 at *
      clear hc ih' ih hk e
      generalize k % (W + 1) = p at *
      generalize k / (W + 1) = n at *
      dsimp only
      refine ⟨fun j hj => ?_, fun i hi => ?_, fun i hi => ?_⟩
      · by_cases ej : j = n - 1
        · subst ej
          rw [pk_us, pk_us]
          refine ⟨?_, ?_⟩
          · rw [show p - (n - 1 - H) + (n - p) - min (n - 1) H = 1 by omega]
            rfl
          · by_cases hh : n - 1 < H
            · rw [if_pos hh, if_neg (by omega)]
            · rw [if_neg hh, if_pos (by omega)]
        · rw [pk_un ej, pk_un ej]
          exact i1 j (by omega)
      · unfold cd_u6
        rw [cd_mm_out (o := oh) (fun x hx hx2 => by rw [hoh x (by omega)]; omega), if_neg (by decide)]
        by_cases hi2 : n - 1 - H ≤ i
        · rw [cd_mm_in (o := ow) hi2 (show i < p by omega) (how i (by omega)), if_pos rfl]
          congr 1
          omega
        · rw [cd_mm_out (o := ow) (fun x hx hx2 => by rw [how x (by omega)]; omega), if_neg (by decide)]
          exact i2 i (by omega)
      · unfold cd_u6
        by_cases hi2 : min (n - 1) H ≤ i
        · rw [cd_mm_in (o := oh) hi2 (show i < n - p by omega) (hoh i (by omega)), if_pos rfl]
          congr 1
          omega
        · rw [cd_mm_out (o := oh) (fun x hx hx2 => by rw [hoh x (by omega)]; omega), if_neg (by decide)]
          rw [cd_mm_out (o := ow) (fun x hx hx2 => by rw [how x (by omega)]; omega), if_neg (by decide)]
          exact i3 i (by omega)
    · rw [if_neg h, cd_g6_no ow oh a6 (fun z => h (hc.mp z)), cd_g7_no a7 (fun z => h (hc.mp z)), cd_g8_no a8 (fun z => h (hc.mp z))]
      exact ⟨i1, i2, i3⟩
end
section
/-! ===== part 3: the walks of the loom and the cloth ===== -/
section
variable {W H : Nat} {U : Nat → Nat → Bool} {f h st : Int32} {a1 a2 a3 a4 a5 a6 a7 a8 : Nat → Int32}
/-- the draft: which warp is above which weft -/
def cd_C (W H : Nat) (U : Nat → Nat → Bool) (a1 a2 a3 : Nat → Int32) : Prop :=
  (1 ≤ W ∧ W ≤ 8) ∧ (1 ≤ H ∧ H ≤ 8) ∧ (∀ r, r < H → ∃ t, t < 4 ∧ a2 r = nI t) ∧
  (∀ c r, c < W → r < H → (((a3 (a2 r).toNatClampNeg >>> (a1 c &&& 31)) &&& 1 = 1) ↔ U c r = true))
def cd_in (N : Nat) (c : Int32) : Prop := ∃ j : Nat, j < N ∧ c = nI j
def cd_vt (W H t : Nat) : Prop := t < W ∨ (8 ≤ t ∧ t < 8 + H)
def cd_th (W H : Nat) (c : Int32) : Prop := ∃ t : Nat, c = nI t ∧ cd_vt W H t
theorem cd_in_neg {N : Nat} {c : Int32} (hN : N < 2 ^ 31) (hc : c < 0) : ¬ cd_in N c := by
  rintro ⟨j, hj, rfl⟩
  exact nI_pos (by omega) hc
theorem cd_in_big {N j : Nat} (hj : j < 2 ^ 31) (h : N ≤ j) : ¬ cd_in N (nI j) := by
  rintro ⟨i, hi, e⟩
  have := (nI_eq hj (by omega)).mp e
  omega
theorem cd_badWarp {post : Int32 → Prop} {c : Int32} (hW : W < 2 ^ 31) (h0 : ∀ j, j < W → c = nI j → post 0) (h1 : ¬ cd_in W c → post 1) : wpX_badWarp post (nI W, h, st, a1, a2, a3, a4, a5, a6, a7, a8) c := by
  unfold wpX_badWarp
  dsimp only
  by_cases hc : c < 0
  · exact br_t hc (h1 (cd_in_neg hW hc))
  · obtain ⟨j, hj, rfl⟩ := nI_of hc
    exact br_f hc (pk_lt j W (fun z => h0 j z rfl) (fun z => h1 (cd_in_big hj z)))
theorem cd_badWeft {post : Int32 → Prop} {c : Int32} (hH : H < 2 ^ 31) (h0 : ∀ j, j < H → c = nI j → post 0) (h1 : ¬ cd_in H c → post 1) : wpX_badWeft post (f, nI H, st, a1, a2, a3, a4, a5, a6, a7, a8) c := by
  unfold wpX_badWeft
  dsimp only
  by_cases hc : c < 0
  · exact br_t hc (h1 (cd_in_neg hH hc))
  · obtain ⟨j, hj, rfl⟩ := nI_of hc
    exact br_f hc (pk_lt j H (fun z => h0 j z rfl) (fun z => h1 (cd_in_big hj z)))
theorem cd_badFour {post : Int32 → Prop} {c : Int32} (h0 : ∀ j, j < 4 → c = nI j → post 0) (h1 : ¬ cd_in 4 c → post 1) : wpX_badFour post (f, h, st, a1, a2, a3, a4, a5, a6, a7, a8) c := by
  unfold wpX_badFour
  dsimp only
  by_cases hc : c < 0
  · exact br_t hc (h1 (cd_in_neg (by decide) hc))
  · obtain ⟨j, hj, rfl⟩ := nI_of hc
    exact br_f hc (pk_lt j 4 (fun z => h0 j z rfl) (fun z => h1 (cd_in_big hj z)))
theorem cd_badThread {post : Int32 → Prop} {c : Int32} (hW : W ≤ 8) (hH : H ≤ 8) (h0 : ∀ t, c = nI t → cd_vt W H t → post 0) (h1 : ¬ cd_th W H c → post 1) : wpX_badThread post (nI W, nI H, st, a1, a2, a3, a4, a5, a6, a7, a8) c := by
  unfold wpX_badThread
  dsimp only
  by_cases hc : c < 0
  · refine br_t hc (h1 ?_)
    rintro ⟨t, rfl, ht⟩
    unfold cd_vt at ht
    exact nI_pos (by omega) hc
  · obtain ⟨j, hj, rfl⟩ := nI_of hc
    have hbad : ¬ cd_vt W H j → ¬ cd_th W H (nI j) := by
      rintro hn ⟨t, e, ht⟩
      have ht' := ht
      unfold cd_vt at ht'
      have := (nI_eq hj (by omega)).mp e
      subst this
      exact hn ht
    refine br_f hc (pk_le (8 + H) j (fun z => h1 (hbad ?_)) (fun z => pk_lt j W (fun z2 => h0 j rfl ?_) (fun z2 => pk_le 8 j (fun z3 => h0 j rfl ?_) (fun z3 => h1 (hbad ?_)))) (nI_add 8 H))
    · unfold cd_vt; omega
    · unfold cd_vt; omega
    · unfold cd_vt; omega
    · unfold cd_vt; omega
theorem cd_isAbove {post : Int32 → Prop} (hC : cd_C W H U a1 a2 a3) {c r : Nat} (hc : c < W) (hr : r < H) (h1 : U c r = true → post 1) (h0 : U c r = false → post 0) : wpX_isAbove post (f, h, st, a1, a2, a3, a4, a5, a6, a7, a8) (nI c) (nI r) := by
  obtain ⟨⟨_, hW⟩, ⟨_, hH⟩, h2, hU⟩ := hC
  obtain ⟨t, ht, e⟩ := h2 r hr
  unfold wpX_isAbove
  dsimp only
  rw [nI_clamp (show r < 2 ^ 31 by omega), nI_clamp (show c < 2 ^ 31 by omega)]
  refine ⟨pk_in r 8 (by omega), by rw [e]; exact pk_in t 4 ht, pk_in c 8 (by omega), ?_⟩
  by_cases hu : U c r = true
  · exact br_t ((hU c r hc hr).mpr hu) (h1 hu)
  · exact br_f (fun z => hu ((hU c r hc hr).mp z)) (h0 (by simpa using hu))
theorem cd_above {post : Int32 → Prop} (hC : cd_C W H U a1 a2 a3) {c r : Int32} (h1 : ∀ i j, c = nI i → r = nI j → i < W → j < H → post (if U i j = true then 1 else 0)) (h0 : ¬ (cd_in W c ∧ cd_in H r) → post (-1)) : wpX_above post (nI W, nI H, st, a1, a2, a3, a4, a5, a6, a7, a8) c r := by
  obtain ⟨⟨_, hW⟩, ⟨_, hH⟩, _, _⟩ := id hC
  unfold wpX_above
  dsimp only
  refine cd_badWarp (by omega) (fun i hi ei => br_t rfl (cd_badWeft (by omega) (fun j hj ej => br_t rfl ?_) (fun hn => br_f (by decide) (h0 (fun z => hn z.2))))) (fun hn => br_f (by decide) (h0 (fun z => hn z.1)))
  have h := h1 i j ei ej hi hj
  subst ei ej
  refine cd_isAbove hC hi hj (fun hu => br_f (by decide) ?_) (fun hu => br_t rfl ?_)
  · rw [hu] at h; exact h
  · rw [hu] at h; exact h
theorem cd_fu23 {post : St2 → Prop} (hC : cd_C W H U a1 a2 a3) (hs : ∀ t, t < 16 → a4 t = 0)
    (hp : ∀ b : Nat → Int32, (∀ t, t < 16 → b t = nI (cd_un U W H t)) → post (nI W, nI H, st, a1, a2, a3, b, a5, a6, a7, a8)) :
    ∃ n, wX_findUnder_23 post (nI W) (nI H) st n 0 a1 a2 a3 a4 a5 a6 a7 a8 := by
  obtain ⟨⟨hW1, hW⟩, ⟨hH1, hH⟩, _, _⟩ := id hC
  have hWH : W * H ≤ 64 := Nat.mul_le_mul hW hH
  refine pk_loop (fun n i s => wX_findUnder_23 post (nI W) (nI H) st n (nI i) a1 a2 a3 s a5 a6 a7 a8) (fun i s => ∀ t, t < 16 → s t = nI (cd_uk U W i t)) (W * H) 0 a4 (Nat.zero_le _) (fun t ht => hs t ht) ?_ ?_
  · intro n s hI
    exact pk_le (W * H) (W * H) (fun _ => hp s hI) (fun z => absurd z (by omega)) (pk_mul W H)
  · intro n i s hi hI hw
    have hc : i % W < W := Nat.mod_lt _ (by omega)
    have hr : i / W < H := Nat.div_lt_of_lt_mul hi
    have e8 : (8 : Int32) + nI (i / W) = nI (8 + i / W) := nI_add 8 (i / W)
    refine pk_le (W * H) i (fun z => absurd z (by omega)) (fun _ => ⟨nI_ne0 (by omega) (by omega), nm_r (pk_rem (by omega) (by omega) (by omega)) ⟨nI_ne0 (by omega) (by omega), nm_r (pk_div (by omega) (by omega) (by omega)) (cd_isAbove hC hc hr (fun hu => ?_) (fun hu => ?_))⟩⟩) (pk_mul W H)
    · refine br_f (by decide) ⟨pk_in (i % W) 16 (by omega), pk_in (i % W) 16 (by omega), nm_e (nm_r (nI_1 i) (hw _ (fun t ht => ?_)))⟩
      rw [nI_clamp (show i % W < 2 ^ 31 by omega), e8, cd_shl1 _ (by omega), hI (i % W) (by omega), cd_or, cd_uk, if_pos hu]
      by_cases e : t = i % W
      · rw [if_pos e, e, pk_us]
      · rw [if_neg e, pk_un e, hI t ht]
    · have hu' : ¬ U (i % W) (i / W) = true := by rw [hu]; decide
      refine br_t rfl ⟨pk_in (8 + i / W) 16 (by omega) e8, pk_in (8 + i / W) 16 (by omega) e8, nm_e (nm_r (nI_1 i) (hw _ (fun t ht => ?_)))⟩
      rw [e8, nI_clamp (show 8 + i / W < 2 ^ 31 by omega), cd_shl1 _ (by omega), hI (8 + i / W) (by omega), cd_or, cd_uk, if_neg hu']
      by_cases e : t = 8 + i / W
      · rw [if_pos e, e, pk_us]
      · rw [if_neg e, pk_un e, hI t ht]
theorem cd_findUnder {post : St2 → Prop} (hC : cd_C W H U a1 a2 a3)
    (hp : ∀ b : Nat → Int32, (∀ t, t < 16 → b t = nI (cd_un U W H t)) → post (nI W, nI H, st, a1, a2, a3, b, a5, a6, a7, a8)) :
    wpX_findUnder post (nI W, nI H, st, a1, a2, a3, a4, a5, a6, a7, a8) := by
  unfold wpX_findUnder
  dsimp only
  refine pk_loop (fun n i s => wX_findUnder_2 post (nI W) (nI H) st n (nI i) a1 a2 a3 s a5 a6 a7 a8) (fun i s => ∀ t, t < i → s t = 0) 16 0 a4 (Nat.zero_le _) (fun t ht => absurd ht (by omega)) ?_ ?_
  · intro n s hI
    exact pk_le 16 16 (fun _ => cd_fu23 hC hI hp) (fun z => absurd z (by omega))
  · intro n i s hi hI hw
    refine pk_le 16 i (fun z => absurd z (by omega)) (fun _ => ⟨pk_in i 16 hi, nm_e (nm_r (nI_1 i) (hw _ (fun t ht => ?_)))⟩)
    rw [nI_clamp (show i < 2 ^ 31 by omega)]
    by_cases e : t = i
    · rw [e, pk_us]
    · rw [pk_un e]; exact hI t (by omega)
theorem cd_sizeOf {post : Int32 → Prop} {n : Nat} (hn : n < 65536) (hp : post (nI (cd_pc n 16))) : wpX_sizeOf post (f, h, st, a1, a2, a3, a4, a5, a6, a7, a8) (nI n) := by
  unfold wpX_sizeOf
  dsimp only
  refine pk_loop (fun m i s => wX_sizeOf_4 post (nI n) f h st a1 a2 a3 a4 a5 a6 a7 a8 m s (nI i)) (fun i s => s = nI (cd_pc n i)) 16 0 0 (Nat.zero_le _) rfl ?_ ?_
  · intro m s e
    subst e
    exact pk_le 16 16 (fun _ => hp) (fun z => absurd z (by omega))
  · intro m i s hi e hw
    subst e
    exact pk_le 16 i (fun z => absurd z (by omega)) (fun _ => nm_r (by rw [cd_bit (by omega) (by omega), nI_add]; rfl) (nm_r (nI_1 i) (hw _ rfl)))
theorem cd_un_lt (hC : cd_C W H U a1 a2 a3) (t : Nat) : cd_un U W H t < 65536 := by
  obtain ⟨⟨hW1, hW⟩, ⟨hH1, hH⟩, _, _⟩ := hC
  exact cd_uk_lt U (by omega) hW hH t (W * H) (Nat.le_refl _)
theorem cd_vt16 {t : Nat} (hW : W ≤ 8) (hH : H ≤ 8) (hv : cd_vt W H t) : t < 16 := by
  unfold cd_vt at hv
  omega
theorem cd_over {post : Int32 → St2 → Prop} (hC : cd_C W H U a1 a2 a3) {c : Int32}
    (h0 : ∀ t (b : Nat → Int32), c = nI t → cd_vt W H t → post (nI (cd_sz U W H t)) (nI W, nI H, st, a1, a2, a3, b, a5, a6, a7, a8))
    (h1 : ¬ cd_th W H c → post (-1) (nI W, nI H, st, a1, a2, a3, a4, a5, a6, a7, a8)) :
    wpX_over post (nI W, nI H, st, a1, a2, a3, a4, a5, a6, a7, a8) c := by
  obtain ⟨⟨_, hW⟩, ⟨_, hH⟩, _, _⟩ := id hC
  unfold wpX_over
  dsimp only
  refine cd_badThread hW hH (fun t e hv => br_t rfl (cd_findUnder hC (fun b hb => ?_))) (fun hn => br_f (by decide) (h1 hn))
  have ht := cd_vt16 hW hH hv
  have h := h0 t b e hv
  subst e
  dsimp only
  refine ⟨pk_in t 16 ht, ?_⟩
  rw [nI_clamp (show t < 2 ^ 31 by omega), hb t ht]
  exact cd_sizeOf (cd_un_lt hC t) h
/-! longest, where all the crossings of a thread are alike -/
theorem cd_longest {post : Int32 → St2 → Prop} (hC : cd_C W H U a1 a2 a3) {c : Int32}
    (hu : ∀ t, cd_vt W H t → ∃ v, v < 2 ∧ ∀ i, i < (if t < 8 then H else W) → cd_un U W H t / 2 ^ ((if t < 8 then 8 else 0) + i) % 2 = v)
    (h0 : ∀ t (b : Nat → Int32), c = nI t → cd_vt W H t → post (nI (if t < 8 then H else W)) (nI W, nI H, st, a1, a2, a3, b, a5, a6, a7, a8))
    (h1 : ¬ cd_th W H c → post (-1) (nI W, nI H, st, a1, a2, a3, a4, a5, a6, a7, a8)) :
    wpX_longest post (nI W, nI H, st, a1, a2, a3, a4, a5, a6, a7, a8) c := by
  obtain ⟨⟨_, hW⟩, ⟨_, hH⟩, _, _⟩ := id hC
  have main : ∀ (t fi many v : Nat) (b : Nat → Int32), t < 16 → fi ≤ 8 → many ≤ 8 → v < 2 → (∀ t, t < 16 → b t = nI (cd_un U W H t)) → (∀ i, i < many → cd_un U W H t / 2 ^ (fi + i) % 2 = v) → post (nI many) (nI W, nI H, st, a1, a2, a3, b, a5, a6, a7, a8) → ∃ n, wX_longest_54 post (nI t) (nI fi) (nI many) (nI W) (nI H) st a1 a2 a3 b a5 a6 a7 a8 n 0 0 0 := by
    intro t fi many v b ht hf hm hv hb hbit hp
    have hlt := cd_un_lt hC t
    refine pk_loop (σ := Unit) (fun n i _ => wX_longest_54 post (nI t) (nI fi) (nI many) (nI W) (nI H) st a1 a2 a3 b a5 a6 a7 a8 n (nI i) (nI i) (nI i)) (fun _ _ => True) many 0 () (Nat.zero_le _) trivial ?_ ?_
    · intro n _ _
      exact pk_le many many (fun _ => hp) (fun z => absurd z (by omega))
    · intro n i _ hi _ hw
      have hw' := hw () trivial
      have e1 : ((b (nI t).toNatClampNeg) >>> ((nI fi + nI i) &&& 31)) &&& 1 = nI v := by
        rw [nI_clamp (show t < 2 ^ 31 by omega), hb t ht, nI_add, cd_bit (by omega) (by omega), hbit i hi]
      have tail : wX_longest_119 post (wX_longest_54 post (nI t) (nI fi) (nI many) (nI W) (nI H) st a1 a2 a3 b a5 a6 a7 a8 n) (nI t) (nI i) (nI fi) (nI many) (nI i) (nI i + 1) (nI W) (nI H) st a1 a2 a3 b a5 a6 a7 a8 := by
        unfold wX_longest_119
        rw [nI_1]
        exact pk_le (i + 1) i (fun z => absurd z (by omega)) (fun _ => nm_e hw')
      refine pk_le many i (fun z => absurd z (by omega)) (fun _ => ⟨pk_in t 16 ht, nm_r e1 (pk_le i 0 (fun z => br_t rfl tail) (fun z => ⟨pk_in t 16 ht, br_t ?_ tail⟩))⟩)
      obtain ⟨j, rfl⟩ : ∃ j, i = j + 1 := ⟨i - 1, by omega⟩
      rw [nI_clamp (show t < 2 ^ 31 by omega), hb t ht, nI_add, show fi + (j + 1) = (fi + j) + 1 by omega, nI_pred, cd_bit (by omega) (by omega), hbit j (by omega)]
  unfold wpX_longest
  dsimp only
  refine cd_badThread hW hH (fun t e hv => br_t rfl (cd_findUnder hC (fun b hb => ?_))) (fun hn => br_f (by decide) (h1 hn))
  have ht := cd_vt16 hW hH hv
  have h := h0 t b e hv
  obtain ⟨v, hv2, hbit⟩ := hu t hv
  subst e
  dsimp only
  refine pk_le 8 t (fun z => ?_) (fun z => ?_)
  · rw [if_neg (show ¬ t < 8 by omega)] at h hbit
    rw [if_neg (show ¬ t < 8 by omega)] at hbit
    exact br_t (nI_le z (by omega)) (main t 0 W v b ht (by omega) hW hv2 hb hbit h)
  · rw [if_pos (show t < 8 by omega)] at h hbit
    rw [if_pos (show t < 8 by omega)] at hbit
    exact br_f (nI_ge (b := 8) z (by decide)) (main t 8 H v b ht (by omega) hH hv2 hb hbit h)
/-! how many are different -/
def cd_fr (un : Nat → Nat) (first i : Nat) : Nat → Bool
  | 0 => true
  | j + 1 => cd_fr un first i j && decide (un (first + j) ≠ un (first + i))
def cd_df (un : Nat → Nat) (first : Nat) : Nat → Nat
  | 0 => 0
  | i + 1 => if cd_fr un first i i = true then cd_df un first i + 1 else cd_df un first i
theorem cd_df21 {post : Int32 → St2 → Prop} {J : Int32 → Int32 → Prop} {un : Nat → Nat} {first i d : Nat} {x2 : Int32} (h4 : ∀ t, t < 16 → a4 t = nI (un t)) (hl : ∀ t, un t < 65536) (hf : first + i < 16) (hd : d ≤ 16)
    (hJ : J (nI (if cd_fr un first i i = true then d + 1 else d)) (nI (i + 1))) :
    ∃ n, wX_different_21 post J (nI first) x2 (nI d) (nI i) f h st a1 a2 a3 a4 a5 a6 a7 a8 n 1 0 := by
  refine pk_loop (fun n j s => wX_different_21 post J (nI first) x2 (nI d) (nI i) f h st a1 a2 a3 a4 a5 a6 a7 a8 n s (nI j)) (fun j s => s = (if cd_fr un first i j = true then 1 else 0)) i 0 1 (Nat.zero_le _) rfl ?_ ?_
  · intro n s e
    refine pk_le i i (fun _ => ?_) (fun z => absurd z (by omega))
    by_cases hb : cd_fr un first i i = true
    · rw [if_pos hb] at e hJ
      rw [e]
      exact br_f (by decide) (nm_r (nI_1 d) (nm_r (nI_1 i) hJ))
    · rw [if_neg hb] at e hJ
      rw [e]
      exact br_t rfl (nm_r (nI_1 i) hJ)
  · intro n j s hj e hw
    refine pk_le i j (fun z => absurd z (by omega)) (fun _ => ?_)
    by_cases hb : cd_fr un first i j = true
    · rw [if_pos hb] at e
      rw [e]
      refine br_f (by decide) ⟨pk_in (first + j) 16 (by omega) (nI_add first j), pk_in (first + i) 16 (by omega) (nI_add first i), ?_⟩
      rw [nI_add, nI_add, nI_clamp (show first + j < 2 ^ 31 by omega), nI_clamp (show first + i < 2 ^ 31 by omega), h4 _ (show first + j < 16 by omega), h4 _ (show first + i < 16 by omega)]
      have l1 := hl (first + j)
      have l2 := hl (first + i)
      refine pk_eq (un (first + j)) (un (first + i)) (fun z => nm_r (nI_1 j) (hw _ ?_)) (fun z => nm_r (nI_1 j) (hw _ ?_))
      · rw [cd_fr, z]; simp
      · rw [cd_fr, hb]; simp [z]
    · rw [if_neg hb] at e
      rw [e]
      refine br_t rfl (nm_r (nI_1 j) (hw _ ?_))
      rw [cd_fr]
      simp [hb]
theorem cd_df_le (un : Nat → Nat) (first i : Nat) : cd_df un first i ≤ i := by
  induction i with
  | zero => exact Nat.le_refl 0
  | succ i ih =>
    rw [cd_df]
    split <;> omega
theorem cd_different {post : Int32 → St2 → Prop} (hC : cd_C W H U a1 a2 a3) {first many : Nat} (hf : first + many ≤ 16)
    (hp : ∀ b : Nat → Int32, post (nI (cd_df (cd_un U W H) first many)) (nI W, nI H, st, a1, a2, a3, b, a5, a6, a7, a8)) :
    wpX_different post (nI W, nI H, st, a1, a2, a3, a4, a5, a6, a7, a8) (nI first) (nI many) := by
  unfold wpX_different
  dsimp only
  refine cd_findUnder hC (fun b hb => ?_)
  dsimp only
  refine pk_loop (fun n i s => wX_different_9 post (nI first) (nI many) (nI W) (nI H) st a1 a2 a3 b a5 a6 a7 a8 n s (nI i)) (fun i s => s = nI (cd_df (cd_un U W H) first i)) many 0 0 (Nat.zero_le _) rfl ?_ ?_
  · intro n s e
    subst e
    exact pk_le many many (fun _ => hp b) (fun z => absurd z (by omega))
  · intro n i s hi e hw
    subst e
    have hd := cd_df_le (cd_un U W H) first i
    refine pk_le many i (fun z => absurd z (by omega)) (fun _ => cd_df21 hb (cd_un_lt hC) (by omega) (by omega) (hw _ ?_))
    rw [cd_df]
theorem cd_shafts {post : Int32 → St2 → Prop} (hC : cd_C W H U a1 a2 a3)
    (hp : ∀ b : Nat → Int32, post (nI (cd_df (cd_un U W H) 0 W)) (nI W, nI H, st, a1, a2, a3, b, a5, a6, a7, a8)) :
    wpX_shafts post (nI W, nI H, st, a1, a2, a3, a4, a5, a6, a7, a8) := by
  obtain ⟨⟨_, hW⟩, ⟨_, hH⟩, _, _⟩ := id hC
  unfold wpX_shafts
  dsimp only
  exact cd_different (first := 0) (many := W) hC (by omega) (fun b => hp b)
theorem cd_treadles {post : Int32 → St2 → Prop} (hC : cd_C W H U a1 a2 a3)
    (hp : ∀ b : Nat → Int32, post (nI (cd_df (cd_un U W H) 8 H)) (nI W, nI H, st, a1, a2, a3, b, a5, a6, a7, a8)) :
    wpX_treadles post (nI W, nI H, st, a1, a2, a3, a4, a5, a6, a7, a8) := by
  obtain ⟨⟨_, hW⟩, ⟨_, hH⟩, _, _⟩ := id hC
  unfold wpX_treadles
  dsimp only
  exact cd_different (first := 8) (many := H) hC (by omega) (fun b => hp b)
end
end
section
/-! ===== part 4: the walks of sort, lacking, closeStep, findSteps ===== -/
abbrev cd_A : Type := Nat → Int32
section
variable {W H : Nat} {U : Nat → Nat → Bool} {f h st : Int32} {a1 a2 a3 a4 a5 a6 a7 a8 : Nat → Int32} {un : Nat → Nat}
theorem cd_so31 {post : St2 → Prop} {J : Int32 → cd_A → cd_A → cd_A → cd_A → cd_A → cd_A → cd_A → cd_A → Prop} {first i : Nat} {x2 : Int32} {b0 : cd_A} (L : Nat → Nat) (m : Nat)
    (h4 : ∀ t, t < 16 → a4 t = nI (un t)) (hl : ∀ t, un t < 65536) (hf : first + i < 16) (hL : ∀ j, j < i → L j < 16) (hm : m ≤ 16)
    (hJ : ∀ b : cd_A, (∀ j, j < i + 1 → b (first + j) = nI (if j < cd_ps (fun t => cd_pc (un t) 16) L m i then L j else if j = cd_ps (fun t => cd_pc (un t) 16) L m i then first + i else L (j - 1))) → (∀ j, (j < first ∨ first + i < j) → b j = b0 j) → J (nI (i + 1)) a1 a2 a3 a4 b a6 a7 a8) :
    ∀ (k : Nat) (b : cd_A), k ≤ i → (∀ j, j < k → b (first + j) = nI (L j)) → (∀ j, k < j → j ≤ i → b (first + j) = nI (L (j - 1))) → (∀ j, (j < first ∨ first + i < j) → b j = b0 j) → cd_ps (fun t => cd_pc (un t) 16) L m i = cd_ps (fun t => cd_pc (un t) 16) L m k →
      wX_sort_31 post J (nI first) x2 (nI i) (nI (first + i)) (nI m) f h st (k + 2) (nI k) 1 a1 a2 a3 a4 b a6 a7 a8 := by
  have ex : ∀ (k : Nat) (b : cd_A), k ≤ i → (∀ j, j < k → b (first + j) = nI (L j)) → (∀ j, k < j → j ≤ i → b (first + j) = nI (L (j - 1))) → (∀ j, (j < first ∨ first + i < j) → b j = b0 j) → cd_ps (fun t => cd_pc (un t) 16) L m i = k →
      wX_sort_108 post J (nI first) x2 (nI i) (nI (first + i)) (nI k) f h st a1 a2 a3 a4 b a6 a7 a8 := by
    intro k b hk h1 h2 h3 e
    unfold wX_sort_108
    refine ⟨pk_in (first + k) 16 (by omega) (nI_add first k), nm_e (nm_r (nI_1 i) (hJ _ ?_ ?_))⟩
    · intro j hj
      rw [nI_add, nI_clamp (show first + k < 2 ^ 31 by omega), cd_i8 _ (show first + i < 128 by omega), e]
      by_cases ej : j = k
      · rw [ej, pk_us, if_neg (by omega), if_pos rfl]
      · rw [pk_un (show first + j ≠ first + k by omega)]
        by_cases hjk : j < k
        · rw [if_pos hjk]; exact h1 j hjk
        · rw [if_neg hjk, if_neg ej]; exact h2 j (by omega) (by omega)
    · intro j hj
      rw [nI_add, nI_clamp (show first + k < 2 ^ 31 by omega), pk_un (show j ≠ first + k by omega)]
      exact h3 j hj
  intro k
  induction k with
  | zero =>
    intro b hk h1 h2 h3 e
    exact pk_le 0 0 (fun _ => ex 0 b hk h1 h2 h3 e) (fun z => absurd z (by omega))
  | succ k ih =>
    intro b hk h1 h2 h3 e
    have e1 : nI first + nI (k + 1) - 1 = nI (first + k) := by rw [nI_add, ← Nat.add_assoc, nI_pred]
    have eb : b (nI first + nI (k + 1) - 1).toNatClampNeg = nI (L k) := by rw [e1, nI_clamp (show first + k < 2 ^ 31 by omega)]; exact h1 k (by omega)
    have hLk := hL k (by omega)
    have e4 : a4 (b (nI first + nI (k + 1) - 1).toNatClampNeg).toNatClampNeg = nI (un (L k)) := by rw [eb, nI_clamp (show L k < 2 ^ 31 by omega)]; exact h4 _ hLk
    refine pk_le (k + 1) 0 (fun z => absurd z (by omega)) (fun _ => br_f (by decide) ⟨pk_in (first + k) 16 (by omega) e1, pk_in (L k) 16 hLk eb, ?_⟩)
    rw [e4]
    have hpc := cd_pc_le (un (L k)) 16
    refine cd_sizeOf (hl _) (pk_le m (cd_pc (un (L k)) 16) (fun z => ?_) (fun z => ?_))
    · refine br_t rfl (pk_le (k + 1) 0 (fun z => absurd z (by omega)) (fun _ => br_t rfl (ex (k + 1) b hk h1 h2 h3 ?_)))
      rw [e, cd_ps, if_neg (show ¬ cd_pc (un (L k)) 16 < m by omega)]
    · have e5 : upd b (nI first + nI (k + 1)).toNatClampNeg (vp_nar .byte (b (nI first + nI (k + 1) - 1).toNatClampNeg)) = upd b (first + (k + 1)) (nI (L k)) := by
        rw [eb, nI_add, nI_clamp (show first + (k + 1) < 2 ^ 31 by omega), vp_nar_byte, cd_i8 _ (show L k < 128 by omega)]
      refine br_f (by decide) ⟨pk_in (first + k) 16 (by omega) e1, pk_in (first + (k + 1)) 16 (by omega) (nI_add _ _), nm_r e5 (nm_r (pk_m1 k) (ih _ (by omega) ?_ ?_ ?_ ?_))⟩
      · intro j hj
        rw [pk_un (show first + j ≠ first + (k + 1) by omega)]
        exact h1 j (by omega)
      · intro j hj hj2
        by_cases ej : j = k + 1
        · rw [ej, pk_us]; rfl
        · rw [pk_un (show first + j ≠ first + (k + 1) by omega)]
          exact h2 j (by omega) hj2
      · intro j hj
        rw [pk_un (show j ≠ first + (k + 1) by omega)]
        exact h3 j hj
      · rw [e, cd_ps, if_pos (show cd_pc (un (L k)) 16 < m from z)]
theorem cd_sort {post : St2 → Prop} (h4 : ∀ t, t < 16 → a4 t = nI (un t)) (hl : ∀ t, un t < 65536) {first many : Nat} (hf : first + many ≤ 16)
    (hp : ∀ b : cd_A, (∀ j, j < many → b (first + j) = nI (cd_sl (fun t => cd_pc (un t) 16) first many j)) → (∀ j, (j < first ∨ first + many ≤ j) → b j = a5 j) → post (f, h, st, a1, a2, a3, a4, b, a6, a7, a8)) :
    wpX_sort post (f, h, st, a1, a2, a3, a4, a5, a6, a7, a8) (nI first) (nI many) := by
  unfold wpX_sort
  dsimp only
  refine pk_loop (fun n i s => wX_sort_2 post (nI first) (nI many) f h st n (nI i) a1 a2 a3 a4 s a6 a7 a8) (fun i s => (∀ j, j < i → s (first + j) = nI (cd_sl (fun t => cd_pc (un t) 16) first i j)) ∧ (∀ j, (j < first ∨ first + i ≤ j) → s j = a5 j)) many 0 a5 (Nat.zero_le _) ⟨fun j hj => absurd hj (by omega), fun j _ => rfl⟩ ?_ ?_
  · intro n s hI
    exact pk_le many many (fun _ => hp s hI.1 hI.2) (fun z => absurd z (by omega))
  · intro n i s hi hI hw
    have e4 : a4 (nI (first + i)).toNatClampNeg = nI (un (first + i)) := by rw [nI_clamp (show first + i < 2 ^ 31 by omega)]; exact h4 _ (by omega)
    refine pk_le many i (fun z => absurd z (by omega)) (fun _ => nm_r (nI_add first i) ⟨pk_in (first + i) 16 (by omega), ?_⟩)
    rw [e4]
    refine cd_sizeOf (hl _) (Exists.intro (i + 2) (cd_so31 (b0 := s) (cd_sl (fun t => cd_pc (un t) 16) first i) (cd_pc (un (first + i)) 16) h4 hl (by omega) (fun j hj => ?_) (cd_pc_le _ _) (fun b hb1 hb2 => hw b ⟨hb1, fun j hj => ?_⟩) i s (Nat.le_refl i) hI.1 (fun j hj hj2 => absurd hj (by omega)) (fun j _ => rfl) rfl))
    · have := cd_sl_rng (fun t => cd_pc (un t) 16) first i j hj
      omega
    · rw [hb2 j (by omega)]
      exact hI.2 j (by omega)
theorem cd_lacking {post : Int32 → Prop} {ow oh : Nat → Nat} {p q : Nat} (h4 : ∀ t, t < 16 → a4 t = nI (un t)) (hl : ∀ t, un t < 65536) (h5w : ∀ i, i < p → a5 i = nI (ow i) ∧ ow i < 16) (h5h : ∀ i, i < q → a5 (8 + i) = nI (oh i) ∧ oh i < 16) (hp8 : p ≤ 8) (hq8 : q ≤ 8)
    (hp : post (((nI p * nI H + nI q * nI W) - nI p * nI q) - nI (cd_sm (fun i => cd_pc (un (ow i)) 16) p + cd_sm (fun i => cd_pc (un (oh i)) 16) q))) :
    wpX_lacking post (nI W, nI H, st, a1, a2, a3, a4, a5, a6, a7, a8) (nI p) (nI q) := by
  have in39 : ∃ n, wX_lacking_39 post (nI p) (nI q) (nI W) (nI H) st a1 a2 a3 a4 a5 a6 a7 a8 n (nI (cd_sm (fun i => cd_pc (un (ow i)) 16) p)) 0 := by
    refine pk_loop (fun n i s => wX_lacking_39 post (nI p) (nI q) (nI W) (nI H) st a1 a2 a3 a4 a5 a6 a7 a8 n s (nI i)) (fun i s => s = nI (cd_sm (fun i => cd_pc (un (ow i)) 16) p + cd_sm (fun i => cd_pc (un (oh i)) 16) i)) q 0 _ (Nat.zero_le _) rfl ?_ ?_
    · intro n s e
      subst e
      exact pk_le q q (fun _ => hp) (fun z => absurd z (by omega))
    · intro n i s hi e hw
      subst e
      have ho := (h5h i hi).2
      have e8 : (8 : Int32) + nI i = nI (8 + i) := nI_add 8 i
      have eb : a5 ((8 : Int32) + nI i).toNatClampNeg = nI (oh i) := by rw [e8, nI_clamp (show 8 + i < 2 ^ 31 by omega)]; exact (h5h i hi).1
      have e4 : a4 (a5 ((8 : Int32) + nI i).toNatClampNeg).toNatClampNeg = nI (un (oh i)) := by rw [eb, nI_clamp (show oh i < 2 ^ 31 by omega)]; exact h4 _ ho
      refine pk_le q i (fun z => absurd z (by omega)) (fun _ => ⟨pk_in (8 + i) 16 (by omega) e8, pk_in (oh i) 16 ho eb, ?_⟩)
      rw [e4]
      exact cd_sizeOf (hl _) (nm_r (nI_add _ _) (nm_r (nI_1 i) (hw _ (by rw [Nat.add_assoc]; rfl))))
  unfold wpX_lacking
  dsimp only
  refine pk_loop (fun n i s => wX_lacking_5 post (nI p) (nI q) (nI W) (nI H) st a1 a2 a3 a4 a5 a6 a7 a8 n s (nI i)) (fun i s => s = nI (cd_sm (fun i => cd_pc (un (ow i)) 16) i)) p 0 0 (Nat.zero_le _) rfl ?_ ?_
  · intro n s e
    subst e
    exact pk_le p p (fun _ => in39) (fun z => absurd z (by omega))
  · intro n i s hi e hw
    subst e
    have ho := (h5w i hi).2
    have eb : a5 (nI i).toNatClampNeg = nI (ow i) := by rw [nI_clamp (show i < 2 ^ 31 by omega)]; exact (h5w i hi).1
    have e4 : a4 (a5 (nI i).toNatClampNeg).toNatClampNeg = nI (un (ow i)) := by rw [eb, nI_clamp (show ow i < 2 ^ 31 by omega)]; exact h4 _ ho
    refine pk_le p i (fun z => absurd z (by omega)) (fun _ => ⟨pk_in i 16 (by omega), pk_in (ow i) 16 ho eb, ?_⟩)
    rw [e4]
    exact cd_sizeOf (hl _) (nm_r (nI_add _ _) (nm_r (nI_1 i) (hw _ rfl)))
theorem cd_lz {p q S : Nat} (hW : W ≤ 8) (hH : H ≤ 8) (hp : p ≤ 8) (hq : q ≤ H) (hS : S ≤ 1000) : (((nI p * nI H + nI q * nI W) - nI p * nI q) - nI S) = 0 ↔ p * H + q * W - p * q = S := by
  have h1 : p * q ≤ p * H := Nat.mul_le_mul_left p hq
  have h2 : p * H ≤ 8 * 8 := Nat.mul_le_mul hp hH
  have h3 : q * W ≤ 8 * 8 := Nat.mul_le_mul (Nat.le_trans hq hH) hW
  rw [cd_subz, pk_mul, pk_mul, pk_mul, nI_add, pk_sub (by omega), nI_eq (by omega) (by omega)]
theorem cd_closeStep {post : St2 → Prop} {ow oh : Nat → Nat} {P Q p q n : Nat} (hPp : P ≤ p) (hQq : Q ≤ q) (hp8 : p ≤ 8) (hq8 : q ≤ 8) (hn : n < 17) (h5w : ∀ i, i < p → a5 i = nI (ow i) ∧ ow i < 16) (h5h : ∀ i, i < q → a5 (8 + i) = nI (oh i) ∧ oh i < 16)
    (hp : post (f, h, nI (n + 1), a1, a2, a3, a4, a5, cd_u6 Q q oh (nI n) (cd_u6 P p ow (nI n) a6), upd a7 n (nI (p - P + q - Q)), upd a8 n (if P < p then 1 else 0))) :
    wpX_closeStep post (f, h, nI n, a1, a2, a3, a4, a5, a6, a7, a8) (nI P) (nI Q) (nI p) (nI q) := by
  have in35 : ∃ m, wX_closeStep_35 post (nI P) (nI Q) (nI p) (nI q) f h (nI n) m (nI Q) a1 a2 a3 a4 a5 (cd_u6 P p ow (nI n) a6) a7 a8 := by
    refine pk_loop (fun m i s => wX_closeStep_35 post (nI P) (nI Q) (nI p) (nI q) f h (nI n) m (nI i) a1 a2 a3 a4 a5 s a7 a8) (fun i s => Q ≤ i ∧ s = cd_u6 Q i oh (nI n) (cd_u6 P p ow (nI n) a6)) q Q _ hQq ⟨Nat.le_refl Q, (cd_u6_0 _ _ _ _).symm⟩ ?_ ?_
    · intro m s e
      obtain ⟨_, rfl⟩ := e
      have e7 : upd a7 (nI n).toNatClampNeg ((((nI p - nI P) + nI q) - nI Q).toInt8.toInt32) = upd a7 n (nI (p - P + q - Q)) := by
        rw [nI_clamp (show n < 2 ^ 31 by omega), pk_sub hPp, nI_add, pk_sub (show Q ≤ p - P + q by omega), cd_i8 _ (by omega)]
      have e0 : vp_nar .boolean 0 = 0 := rfl
      have e1 : vp_nar .boolean 1 = 1 := rfl
      refine pk_le q q (fun _ => ⟨pk_in n 17 hn, nm_r e7 (pk_le p P (fun z => ?_) (fun z => ?_))⟩) (fun z => absurd z (by omega))
      · rw [if_neg (show ¬ P < p by omega)] at hp
        refine ⟨pk_in n 17 hn, nm_r ?_ (nm_r (nI_1 n) hp)⟩
        rw [nI_clamp (show n < 2 ^ 31 by omega), e0]
      · rw [if_pos z] at hp
        refine ⟨pk_in n 17 hn, nm_r ?_ (nm_r (nI_1 n) hp)⟩
        rw [nI_clamp (show n < 2 ^ 31 by omega), e1]
    · intro m i s hi e hw
      obtain ⟨hQi, rfl⟩ := e
      have ho := (h5h i hi).2
      have e8 : (8 : Int32) + nI i = nI (8 + i) := nI_add 8 i
      have eb : a5 ((8 : Int32) + nI i).toNatClampNeg = nI (oh i) := by rw [e8, nI_clamp (show 8 + i < 2 ^ 31 by omega)]; exact (h5h i hi).1
      refine pk_le q i (fun z => absurd z (by omega)) (fun _ => ⟨pk_in (8 + i) 16 (by omega) e8, pk_in (oh i) 16 ho eb, nm_r ?_ (nm_r (nI_1 i) (hw _ ⟨by omega, rfl⟩))⟩)
      rw [eb, nI_clamp (show oh i < 2 ^ 31 by omega), cd_i8 _ (show n < 128 by omega), cd_u6_s hQi]
  unfold wpX_closeStep
  dsimp only
  refine pk_loop (fun m i s => wX_closeStep_3 post (nI P) (nI Q) (nI p) (nI q) f h (nI n) m (nI i) a1 a2 a3 a4 a5 s a7 a8) (fun i s => P ≤ i ∧ s = cd_u6 P i ow (nI n) a6) p P _ hPp ⟨Nat.le_refl P, (cd_u6_0 _ _ _ _).symm⟩ ?_ ?_
  · intro m s e
    obtain ⟨_, rfl⟩ := e
    exact pk_le p p (fun _ => in35) (fun z => absurd z (by omega))
  · intro m i s hi e hw
    obtain ⟨hPi, rfl⟩ := e
    have ho := (h5w i hi).2
    have eb : a5 (nI i).toNatClampNeg = nI (ow i) := by rw [nI_clamp (show i < 2 ^ 31 by omega)]; exact (h5w i hi).1
    refine pk_le p i (fun z => absurd z (by omega)) (fun _ => ⟨pk_in i 16 (by omega), pk_in (ow i) 16 ho eb, nm_r ?_ (nm_r (nI_1 i) (hw _ ⟨by omega, rfl⟩))⟩)
    rw [eb, nI_clamp (show ow i < 2 ^ 31 by omega), cd_i8 _ (show n < 128 by omega), cd_u6_s hPi]
/-- the zero test of lacking -/
def cd_Z (W H : Nat) (sw sh : Nat → Nat) (p q : Nat) : Bool := decide (p * H + q * W - p * q = cd_sm sw p + cd_sm sh q)
theorem cd_fs34 {post : St2 → Prop} {ow oh : Nat → Nat} {Z : Nat → Nat → Bool} (hW : W ≤ 8) (hH : H ≤ 8) (h4 : ∀ t, t < 16 → a4 t = nI (un t)) (hl : ∀ t, un t < 65536)
    (h5w : ∀ i, i < W → a5 i = nI (ow i) ∧ ow i < 16) (h5h : ∀ i, i < H → a5 (8 + i) = nI (oh i) ∧ oh i < 16)
    (hZ : Z = cd_Z W H (fun i => cd_pc (un (ow i)) 16) (fun i => cd_pc (un (oh i)) 16))
    (hp : post (nI W, nI H, nI (cd_rn Z W H ((W + H + 1) * (W + 1))).2.2, a1, a2, a3, a4, a5, cd_g6 Z W H ow oh a6 ((W + H + 1) * (W + 1)), cd_g7 Z W H a7 ((W + H + 1) * (W + 1)), cd_g8 Z W H a8 ((W + H + 1) * (W + 1)))) :
    ∃ n, wX_findSteps_34 post n 0 0 1 (nI W) (nI H) 0 a1 a2 a3 a4 a5 a6 a7 a8 := by
  have hN : (W + H + 1) * (W + 1) ≤ 17 * 9 := Nat.mul_le_mul (by omega) (by omega)
  have hN1 : 1 * 1 ≤ (W + H + 1) * (W + 1) := Nat.mul_le_mul (by omega) (by omega)
  have c0 : ¬ cd_cl Z W H 0 (cd_rn Z W H 0) = true := by
    intro hc
    have := (of_decide_eq_true hc).2.2.2.2.1
    rw [Nat.zero_div] at this
    omega
  have eN : (nI W + nI H + 1) * (nI W + 1) = nI ((W + H + 1) * (W + 1)) := by rw [nI_add, nI_1, nI_1, pk_mul]
  have hne : ¬ nI W + 1 = 0 := by rw [nI_1]; exact nI_ne0 (by omega) (by omega)
  have key : ∃ n, wX_findSteps_34 post n (nI (cd_rn Z W H 1).1) (nI (cd_rn Z W H 1).2.1) (nI 1) (nI W) (nI H) (nI (cd_rn Z W H 1).2.2) a1 a2 a3 a4 a5 (cd_g6 Z W H ow oh a6 1) (cd_g7 Z W H a7 1) (cd_g8 Z W H a8 1) := by
    refine pk_loop (σ := Unit) (fun n k _ => wX_findSteps_34 post n (nI (cd_rn Z W H k).1) (nI (cd_rn Z W H k).2.1) (nI k) (nI W) (nI H) (nI (cd_rn Z W H k).2.2) a1 a2 a3 a4 a5 (cd_g6 Z W H ow oh a6 k) (cd_g7 Z W H a7 k) (cd_g8 Z W H a8 k)) (fun _ _ => True) ((W + H + 1) * (W + 1)) 1 () (by omega) trivial ?_ ?_
    · intro n _ _
      exact pk_le ((W + H + 1) * (W + 1)) ((W + H + 1) * (W + 1)) (fun _ => hp) (fun z => absurd z (by omega)) eN
    · intro n k _ hk _ hw
      have t : wX_findSteps_34 post n (nI (cd_rn Z W H (k + 1)).1) (nI (cd_rn Z W H (k + 1)).2.1) (nI (k + 1)) (nI W) (nI H) (nI (cd_rn Z W H (k + 1)).2.2) a1 a2 a3 a4 a5 (cd_g6 Z W H ow oh a6 (k + 1)) (cd_g7 Z W H a7 (k + 1)) (cd_g8 Z W H a8 (k + 1)) := hw () trivial
      have hno : ¬ cd_cl Z W H k (cd_rn Z W H k) = true → wX_findSteps_34 post n (nI (cd_rn Z W H k).1) (nI (cd_rn Z W H k).2.1) (nI (k + 1)) (nI W) (nI H) (nI (cd_rn Z W H k).2.2) a1 a2 a3 a4 a5 (cd_g6 Z W H ow oh a6 k) (cd_g7 Z W H a7 k) (cd_g8 Z W H a8 k) := by
        intro hc
        rw [cd_rn_no hc, cd_g6_no ow oh a6 hc, cd_g7_no a7 hc, cd_g8_no a8 hc] at t
        exact t
      have hya : cd_cl Z W H k (cd_rn Z W H k) = true → wX_findSteps_34 post n (nI (k % (W + 1))) (nI (k / (W + 1) - k % (W + 1))) (nI (k + 1)) (nI W) (nI H) (nI ((cd_rn Z W H k).2.2 + 1)) a1 a2 a3 a4 a5 (cd_u6 (cd_rn Z W H k).2.1 (k / (W + 1) - k % (W + 1)) oh (nI (cd_rn Z W H k).2.2) (cd_u6 (cd_rn Z W H k).1 (k % (W + 1)) ow (nI (cd_rn Z W H k).2.2) (cd_g6 Z W H ow oh a6 k))) (upd (cd_g7 Z W H a7 k) (cd_rn Z W H k).2.2 (nI (k % (W + 1) - (cd_rn Z W H k).1 + (k / (W + 1) - k % (W + 1)) - (cd_rn Z W H k).2.1))) (upd (cd_g8 Z W H a8 k) (cd_rn Z W H k).2.2 (if (cd_rn Z W H k).1 < k % (W + 1) then 1 else 0)) := by
        intro hc
        rw [cd_rn_ya hc, cd_g6_ya ow oh a6 hc, cd_g7_ya a7 hc, cd_g8_ya a8 hc] at t
        exact t
      have hb := cd_rn_bd Z W H k
      have hcl : cd_cl Z W H k (cd_rn Z W H k) = true ↔ (k % (W + 1) ≤ k / (W + 1) ∧ k / (W + 1) - k % (W + 1) ≤ H ∧ (cd_rn Z W H k).1 ≤ k % (W + 1) ∧ (cd_rn Z W H k).2.1 ≤ k / (W + 1) - k % (W + 1) ∧ (cd_rn Z W H k).1 + (cd_rn Z W H k).2.1 < k / (W + 1) ∧ Z (k % (W + 1)) (k / (W + 1) - k % (W + 1)) = true) := decide_eq_true_iff
      obtain ⟨hqn, hpW⟩ := cd_kn hk
      have er : nI k - nI k / (nI W + 1) * (nI W + 1) = nI (k % (W + 1)) := by rw [nI_1]; exact pk_rem (by omega) (by omega) (by omega)
      have ed : nI k / (nI W + 1) = nI (k / (W + 1)) := by rw [nI_1]; exact pk_div (by omega) (by omega) (by omega)
      clear t hw
      generalize cd_rn Z W H k = s at *
      obtain ⟨P, Q, m⟩ := s
      dsimp only at hno hya hcl hb
      generalize k % (W + 1) = p at *
      generalize k / (W + 1) = qn at *
      show wX_findSteps_34 post (n + 1) (nI P) (nI Q) (nI k) (nI W) (nI H) (nI m) a1 a2 a3 a4 a5 (cd_g6 Z W H ow oh a6 k) (cd_g7 Z W H a7 k) (cd_g8 Z W H a8 k)
      refine pk_le ((W + H + 1) * (W + 1)) k (fun z => absurd z (by omega)) (fun _ => ⟨hne, nm_r er ⟨hne, ?_⟩⟩) eN
      rcases Nat.lt_or_ge qn p with hqp | hqp
      · refine nm_r (show _ = nI qn - nI p by rw [ed]) (br_t (pk_sneg (by omega) hqp) (nm_r (nI_1 k) (hno ?_)))
        rw [hcl]; omega
      · refine nm_r (show _ = nI (qn - p) by rw [ed, pk_sub hqp]) (br_f (nI_pos (by omega)) ?_)
        generalize hq : qn - p = q at *
        refine pk_lt H q (fun z => nm_r (nI_1 k) (hno ?_)) (fun z1 => pk_lt p P (fun z => nm_r (nI_1 k) (hno ?_)) (fun z2 => pk_lt q Q (fun z => nm_r (nI_1 k) (hno ?_)) (fun z3 => pk_le (p + q) (P + Q) (fun z => nm_r (nI_1 k) (hno ?_)) (fun z4 => ?_) (nI_add p q) (nI_add P Q))))
        · rw [hcl]; omega
        · rw [hcl]; omega
        · rw [hcl]; omega
        · rw [hcl]; omega
        · have s1 : cd_sm (fun i => cd_pc (un (ow i)) 16) p ≤ p * 16 := cd_sm_le p (fun i _ => cd_pc_le _ _)
          have s2 : cd_sm (fun i => cd_pc (un (oh i)) 16) q ≤ q * 16 := cd_sm_le q (fun i _ => cd_pc_le _ _)
          have hz := cd_lz (W := W) (H := H) (p := p) (q := q) (S := cd_sm (fun i => cd_pc (un (ow i)) 16) p + cd_sm (fun i => cd_pc (un (oh i)) 16) q) hW hH (by omega) z1 (by omega)
          refine cd_lacking h4 hl (fun i hi => h5w i (by omega)) (fun i hi => h5h i (by omega)) (by omega) (by omega) ?_
          have hZ2 : Z p q = true ↔ p * H + q * W - p * q = cd_sm (fun i => cd_pc (un (ow i)) 16) p + cd_sm (fun i => cd_pc (un (oh i)) 16) q := by rw [hZ]; exact decide_eq_true_iff
          by_cases hzz : Z p q = true
          · exact br_t (hz.mpr (hZ2.mp hzz)) (cd_closeStep z2 z3 (by omega) (by omega) (by omega) (fun i hi => h5w i (by omega)) (fun i hi => h5h i (by omega)) (nm_r (nI_1 k) (hya (hcl.mpr ⟨hqp, z1, z2, z3, by omega, hzz⟩))))
          · exact br_f (fun z => hzz (hZ2.mpr (hz.mp z))) (nm_r (nI_1 k) (hno (fun z => hzz (hcl.mp z).2.2.2.2.2)))
  obtain ⟨n, hn⟩ := key
  rw [cd_rn_no c0, cd_g6_no ow oh a6 c0, cd_g7_no a7 c0, cd_g8_no a8 c0] at hn
  exact ⟨n, hn⟩
/-! findSteps of a draft -/
def cd_ow (U : Nat → Nat → Bool) (W H : Nat) : Nat → Nat := cd_sl (cd_sz U W H) 0 W
def cd_oh (U : Nat → Nat → Bool) (W H : Nat) : Nat → Nat := cd_sl (cd_sz U W H) 8 H
def cd_Zr (U : Nat → Nat → Bool) (W H : Nat) : Nat → Nat → Bool := cd_Z W H (fun i => cd_sz U W H (cd_ow U W H i)) (fun i => cd_sz U W H (cd_oh U W H i))
def cd_fn (U : Nat → Nat → Bool) (W H : Nat) : Nat := (cd_rn (cd_Zr U W H) W H ((W + H + 1) * (W + 1))).2.2
def cd_G6 (U : Nat → Nat → Bool) (W H : Nat) (a : Nat → Int32) : Nat → Int32 := cd_g6 (cd_Zr U W H) W H (cd_ow U W H) (cd_oh U W H) a ((W + H + 1) * (W + 1))
def cd_G7 (U : Nat → Nat → Bool) (W H : Nat) (a : Nat → Int32) : Nat → Int32 := cd_g7 (cd_Zr U W H) W H a ((W + H + 1) * (W + 1))
def cd_G8 (U : Nat → Nat → Bool) (W H : Nat) (a : Nat → Int32) : Nat → Int32 := cd_g8 (cd_Zr U W H) W H a ((W + H + 1) * (W + 1))
theorem cd_fn_le (U : Nat → Nat → Bool) (W H : Nat) : cd_fn U W H ≤ W + H := by
  have h := cd_rn_bd (cd_Zr U W H) W H ((W + H + 1) * (W + 1))
  unfold cd_fn
  omega
theorem cd_findSteps {post : St2 → Prop} (hC : cd_C W H U a1 a2 a3)
    (hp : ∀ b4 b5 : cd_A, post (nI W, nI H, nI (cd_fn U W H), a1, a2, a3, b4, b5, cd_G6 U W H a6, cd_G7 U W H a7, cd_G8 U W H a8)) :
    wpX_findSteps post (nI W, nI H, st, a1, a2, a3, a4, a5, a6, a7, a8) := by
  obtain ⟨⟨hW1, hW⟩, ⟨hH1, hH⟩, _, _⟩ := id hC
  unfold wpX_findSteps
  dsimp only
  refine cd_findUnder hC (fun b4 hb4 => ?_)
  dsimp only
  refine cd_sort (first := 0) (many := W) hb4 (cd_un_lt hC) (by omega) (fun b hb1 hb2 => ?_)
  dsimp only
  refine cd_sort (first := 8) (many := H) hb4 (cd_un_lt hC) (by omega) (fun b5 hb3 hb5 => ?_)
  dsimp only
  refine cd_fs34 (ow := cd_ow U W H) (oh := cd_oh U W H) (Z := cd_Zr U W H) hW hH hb4 (cd_un_lt hC) (fun i hi => ⟨?_, ?_⟩) (fun i hi => ⟨hb3 i hi, ?_⟩) rfl (hp b4 b5)
  · rw [hb5 i (by omega)]
    have e := hb1 i hi
    rw [Nat.zero_add] at e
    exact e
  · have := cd_sl_rng (cd_sz U W H) 0 W i hi
    unfold cd_ow
    omega
  · have := cd_sl_rng (cd_sz U W H) 8 H i hi
    unfold cd_oh
    omega
theorem cd_hangs {post : Int32 → St2 → Prop} (hC : cd_C W H U a1 a2 a3)
    (hp : ∀ b4 b5 : cd_A, post (if cd_fn U W H = 1 then 1 else 0) (nI W, nI H, nI (cd_fn U W H), a1, a2, a3, b4, b5, cd_G6 U W H a6, cd_G7 U W H a7, cd_G8 U W H a8)) :
    wpX_hangs post (nI W, nI H, st, a1, a2, a3, a4, a5, a6, a7, a8) := by
  obtain ⟨⟨hW1, hW⟩, ⟨hH1, hH⟩, _, _⟩ := id hC
  unfold wpX_hangs
  dsimp only
  refine cd_findSteps hC (fun b4 b5 => ?_)
  have h := hp b4 b5
  have hl := cd_fn_le U W H
  dsimp only
  refine pk_eq (cd_fn U W H) 1 (fun z => ?_) (fun z => ?_)
  · rw [if_pos z] at h; exact h
  · rw [if_neg z] at h; exact h
theorem cd_layers {post : Int32 → St2 → Prop} (hC : cd_C W H U a1 a2 a3)
    (hp : ∀ b4 b5 : cd_A, post (nI (cd_fn U W H)) (nI W, nI H, nI (cd_fn U W H), a1, a2, a3, b4, b5, cd_G6 U W H a6, cd_G7 U W H a7, cd_G8 U W H a8)) :
    wpX_layers post (nI W, nI H, st, a1, a2, a3, a4, a5, a6, a7, a8) := by
  unfold wpX_layers
  dsimp only
  exact cd_findSteps hC (fun b4 b5 => hp b4 b5)
theorem cd_together {post : Int32 → St2 → Prop} (hC : cd_C W H U a1 a2 a3) {c d : Int32}
    (h0 : ∀ (t s : Nat) (b4 b5 : cd_A), c = nI t → d = nI s → cd_vt W H t → cd_vt W H s → post (if cd_G6 U W H a6 t = cd_G6 U W H a6 s then 1 else 0) (nI W, nI H, nI (cd_fn U W H), a1, a2, a3, b4, b5, cd_G6 U W H a6, cd_G7 U W H a7, cd_G8 U W H a8))
    (h1 : ¬ (cd_th W H c ∧ cd_th W H d) → post (-1) (nI W, nI H, st, a1, a2, a3, a4, a5, a6, a7, a8)) :
    wpX_together post (nI W, nI H, st, a1, a2, a3, a4, a5, a6, a7, a8) c d := by
  obtain ⟨⟨hW1, hW⟩, ⟨hH1, hH⟩, _, _⟩ := id hC
  unfold wpX_together
  dsimp only
  refine cd_badThread hW hH (fun t et hvt => br_t rfl (cd_badThread hW hH (fun s es hvs => br_t rfl (cd_findSteps hC (fun b4 b5 => ?_))) (fun hn => br_f (by decide) (h1 (fun z => hn z.2))))) (fun hn => br_f (by decide) (h1 (fun z => hn z.1)))
  have h := h0 t s b4 b5 et es hvt hvs
  have ht := cd_vt16 hW hH hvt
  have hs := cd_vt16 hW hH hvs
  subst et es
  dsimp only
  refine ⟨pk_in t 16 ht, pk_in s 16 hs, ?_⟩
  rw [nI_clamp (show t < 2 ^ 31 by omega), nI_clamp (show s < 2 ^ 31 by omega)]
  by_cases e : cd_G6 U W H a6 t = cd_G6 U W H a6 s
  · rw [if_pos e] at h; exact br_t e h
  · rw [if_neg e] at h; exact br_f e h
end
end
section
/-! ===== part 5: the walks of lifts, divisions, product, liftable, and of what changes the loom ===== -/
section
variable {W H : Nat} {U : Nat → Nat → Bool} {f h st : Int32} {a1 a2 a3 a4 a5 a6 a7 a8 : Nat → Int32}
theorem cd_freeFrom {post : Int32 → Prop} {s m N : Nat} (hN : N ≤ 16) (hs : s < N) (hm : 1 ≤ m) (hsm : s + m ≤ N) (h7 : ∀ j, j < N → a7 j = 1) (h8 : ∀ j, j < m → a8 (s + j) = a8 s) (hend : s + m < N → ¬ a8 (s + m) = a8 s) (hp : post (nI m)) : wpX_freeFrom post (f, h, nI N, a1, a2, a3, a4, a5, a6, a7, a8) (nI s) := by
  unfold wpX_freeFrom
  dsimp only
  refine pk_loop (σ := Unit) (fun n i _ => wX_freeFrom_2 post (nI s) f h (nI N) a1 a2 a3 a4 a5 a6 a7 a8 n (nI i)) (fun _ _ => True) m 1 () hm trivial ?_ ?_
  · intro n _ _
    have c1 : (nI s).toNatClampNeg = s := nI_clamp (by omega)
    have c2 : (nI s + nI m).toNatClampNeg = s + m := by rw [nI_add]; exact nI_clamp (by omega)
    refine ⟨pk_in s 17 (by omega), br_t (by rw [c1]; exact h7 s hs) (pk_le N (s + m) (fun _ => hp) (fun z => ⟨pk_in (s + m) 17 (by omega) (nI_add s m), br_t (by rw [c2]; exact h7 _ z) ⟨pk_in (s + m) 17 (by omega) (nI_add s m), pk_in s 17 (by omega), br_f ?_ hp⟩⟩) rfl (nI_add s m))⟩
    rw [c1, c2]
    exact hend z
  · intro n i _ hi _ hw
    have c1 : (nI s).toNatClampNeg = s := nI_clamp (by omega)
    have c2 : (nI s + nI i).toNatClampNeg = s + i := by rw [nI_add]; exact nI_clamp (by omega)
    refine ⟨pk_in s 17 (by omega), br_t (by rw [c1]; exact h7 s hs) (pk_le N (s + i) (fun z => absurd z (by omega)) (fun z => ⟨pk_in (s + i) 17 (by omega) (nI_add s i), br_t (by rw [c2]; exact h7 _ z) ⟨pk_in (s + i) 17 (by omega) (nI_add s i), pk_in s 17 (by omega), br_t ?_ (nm_r (nI_1 i) (hw () trivial))⟩⟩) rfl (nI_add s i))⟩
    rw [c1, c2]
    exact h8 i hi
theorem cd_lifts {post : Int32 → St2 → Prop} (hC : cd_C W H U a1 a2 a3) (hn : cd_fn U W H = W + H) (h7 : ∀ j, j < W + H → cd_G7 U W H a7 j = 1) (h8 : ∀ j, j < W + H → cd_G8 U W H a8 j = (if j < H then 0 else 1))
    (hp : ∀ b4 b5 : cd_A, post ((((1 : Int32) <<< (nI W &&& 31)) + ((1 : Int32) <<< (nI H &&& 31))) - 3) (nI W, nI H, nI (W + H), a1, a2, a3, b4, b5, cd_G6 U W H a6, cd_G7 U W H a7, cd_G8 U W H a8)) :
    wpX_lifts post (nI W, nI H, st, a1, a2, a3, a4, a5, a6, a7, a8) := by
  obtain ⟨⟨hW1, hW⟩, ⟨hH1, hH⟩, _, _⟩ := id hC
  unfold wpX_lifts
  dsimp only
  refine cd_findSteps hC (fun b4 b5 => ?_)
  have hp' := hp b4 b5
  dsimp only
  rw [hn]
  generalize cd_G7 U W H a7 = g7 at *
  generalize cd_G8 U W H a8 = g8 at *
  refine Exists.intro 3 (pk_le (W + H) 0 (fun z => absurd z (by omega)) (fun _ => cd_freeFrom (s := 0) (m := H) (by omega) (by omega) hH1 (by omega) h7 (fun j hj => ?_) (fun _ => ?_) (nm_e (nm_r (show _ = nI H from by rw [← nI_0, nI_add, Nat.zero_add]) (pk_le (W + H) H (fun z => absurd z (by omega)) (fun _ => cd_freeFrom (s := H) (m := W) (by omega) (by omega) hW1 (by omega) h7 (fun j hj => ?_) (fun z => absurd z (by omega)) (nm_e (nm_r (nI_add H W) (pk_le (W + H) (H + W) (fun _ => ?_) (fun z => absurd z (by omega))))))))))) 
  · rw [h8 _ (by omega), h8 _ (by omega), if_pos (by omega), if_pos (by omega)]
  · rw [h8 _ (by omega), h8 _ (by omega), if_neg (by omega), if_pos (by omega)]
    decide
  · rw [h8 _ (by omega), h8 _ (by omega), if_neg (by omega), if_neg (by omega)]
  · have e : (0 + ((1 : Int32) <<< (nI H &&& 31)) - 1 + ((1 : Int32) <<< (nI W &&& 31)) - 1) - 1 = (((1 : Int32) <<< (nI W &&& 31)) + ((1 : Int32) <<< (nI H &&& 31))) - 3 := by
      generalize (1 : Int32) <<< (nI H &&& 31) = x
      generalize (1 : Int32) <<< (nI W &&& 31) = y
      grind
    rw [← e] at hp'
    exact hp'
/-- the product x * 2 * 3 * .. of k factors behind x -/
def cd_fc (x : Int32) : Nat → Int32
  | 0 => x
  | k + 1 => cd_fc x k * nI (k + 2)
theorem cd_fc_mul (x : Int32) (k : Nat) : cd_fc x k = x * cd_fc 1 k := by
  induction k with
  | zero =>
    show x = x * 1
    grind
  | succ k ih =>
    show cd_fc x k * nI (k + 2) = x * (cd_fc 1 k * nI (k + 2))
    rw [ih]
    grind
theorem cd_product {post : Int32 → Prop} {n : Nat} (h1 : 1 ≤ n) (h2 : n ≤ 8) (hp : post (cd_fc 1 (n - 1))) : wpL_product post () (nI n) := by
  unfold wpL_product
  refine pk_loop (fun m i s => wL_product_4 post (nI n) m s (nI i)) (fun i s => 2 ≤ i ∧ s = cd_fc 1 (i - 2)) (n + 1) 2 1 (by omega) ⟨Nat.le_refl 2, rfl⟩ ?_ ?_
  · intro m s e
    obtain ⟨_, rfl⟩ := e
    exact pk_lt n (n + 1) (fun _ => hp) (fun z => absurd z (by omega))
  · intro m i s hi e hw
    obtain ⟨h2i, rfl⟩ := e
    obtain ⟨k, rfl⟩ : ∃ k, i = k + 2 := ⟨i - 2, by omega⟩
    exact pk_lt n (k + 2) (fun z => absurd z (by omega)) (fun _ => nm_e (nm_r (nI_1 (k + 2)) (hw _ ⟨by omega, rfl⟩)))
theorem cd_dv25 {post : Int32 → St2 → Prop} {J : Int32 → Int32 → Prop} {x : Int32} {s n : Nat} (h1 : 1 ≤ n) (h2 : n ≤ 16) (hJ : J (cd_fc x (n - 1)) (nI (s + n))) : ∃ m, wX_divisions_25 post J (nI s) (nI n) f h st a1 a2 a3 a4 a5 a6 a7 a8 m x 2 := by
  refine pk_loop (fun m i y => wX_divisions_25 post J (nI s) (nI n) f h st a1 a2 a3 a4 a5 a6 a7 a8 m y (nI i)) (fun i y => 2 ≤ i ∧ y = cd_fc x (i - 2)) (n + 1) 2 x (by omega) ⟨Nat.le_refl 2, rfl⟩ ?_ ?_
  · intro m y e
    obtain ⟨_, rfl⟩ := e
    exact pk_lt n (n + 1) (fun _ => nm_r (nI_add s n) hJ) (fun z => absurd z (by omega))
  · intro m i y hi e hw
    obtain ⟨h2i, rfl⟩ := e
    obtain ⟨k, rfl⟩ : ∃ k, i = k + 2 := ⟨i - 2, by omega⟩
    exact pk_lt n (k + 2) (fun z => absurd z (by omega)) (fun _ => nm_e (nm_r (nI_1 (k + 2)) (hw _ ⟨by omega, rfl⟩)))
theorem cd_divisions {post : Int32 → St2 → Prop} (hC : cd_C W H U a1 a2 a3) (hn : cd_fn U W H = W + H) (h7 : ∀ j, j < W + H → cd_G7 U W H a7 j = 1) (h8 : ∀ j, j < W + H → cd_G8 U W H a8 j = (if j < H then 0 else 1))
    (hp : ∀ b4 b5 : cd_A, post (cd_fc 1 (W - 1) * cd_fc 1 (H - 1)) (nI W, nI H, nI (W + H), a1, a2, a3, b4, b5, cd_G6 U W H a6, cd_G7 U W H a7, cd_G8 U W H a8)) :
    wpX_divisions post (nI W, nI H, st, a1, a2, a3, a4, a5, a6, a7, a8) := by
  obtain ⟨⟨hW1, hW⟩, ⟨hH1, hH⟩, _, _⟩ := id hC
  unfold wpX_divisions
  dsimp only
  refine cd_findSteps hC (fun b4 b5 => ?_)
  have hp' := hp b4 b5
  dsimp only
  rw [hn]
  generalize cd_G7 U W H a7 = g7 at *
  generalize cd_G8 U W H a8 = g8 at *
  refine Exists.intro 3 (pk_le (W + H) 0 (fun z => absurd z (by omega)) (fun _ => cd_freeFrom (s := 0) (m := H) (by omega) (by omega) hH1 (by omega) h7 (fun j hj => ?_) (fun _ => ?_) (cd_dv25 (s := 0) hH1 (by omega) ?_)))
  · rw [h8 _ (by omega), h8 _ (by omega), if_pos (by omega), if_pos (by omega)]
  · rw [h8 _ (by omega), h8 _ (by omega), if_neg (by omega), if_pos (by omega)]
    decide
  · rw [Nat.zero_add]
    refine pk_le (W + H) H (fun z => absurd z (by omega)) (fun _ => cd_freeFrom (s := H) (m := W) (by omega) (by omega) hW1 (by omega) h7 (fun j hj => ?_) (fun z => absurd z (by omega)) (cd_dv25 hW1 (by omega) (pk_le (W + H) (H + W) (fun _ => ?_) (fun z => absurd z (by omega)))))
    · rw [h8 _ (by omega), h8 _ (by omega), if_neg (by omega), if_neg (by omega)]
    · rw [cd_fc_mul, Int32.mul_comm]
      exact hp'
/-! liftable -/
def cd_E (W H : Nat) : Int32 := (((1 : Int32) <<< (nI W &&& 31)) - 1) ||| ((((1 : Int32) <<< (nI H &&& 31)) - 1) <<< ((8 : Int32) &&& 31))
def cd_cr (W H t : Nat) : Int32 := if 8 ≤ t then ((1 : Int32) <<< (nI W &&& 31)) - 1 else (cd_E W H >>> ((8 : Int32) &&& 31)) <<< ((8 : Int32) &&& 31)
def cd_P (U : Nat → Nat → Bool) (W H : Nat) (own : Int32) (t : Nat) : Prop := cd_bt own t = true → ((cd_cr W H t &&& (own ^^^ (-1))) &&& (nI (cd_un U W H t) ^^^ (-1))) = 0
theorem cd_li56 {post : Int32 → St2 → Prop} {J : Int32 → Int32 → Prop} {own s cr : Int32} {i : Nat} (hi : i < 16) (hcr : cr = cd_cr W H i) (h4 : ∀ t, t < 16 → a4 t = nI (cd_un U W H t))
    (hI : (s = 1 ∧ ∀ t, t < i → cd_P U W H own t) ∨ (s = 0 ∧ ¬ ∀ t, t < i → cd_P U W H own t))
    (hJ : ∀ s', ((s' = 1 ∧ ∀ t, t < i + 1 → cd_P U W H own t) ∨ (s' = 0 ∧ ¬ ∀ t, t < i + 1 → cd_P U W H own t)) → J s' (nI (i + 1))) :
    wX_liftable_56 post J own s (nI i) cr f h st a1 a2 a3 a4 a5 a6 a7 a8 := by
  have hall : (∀ t, t < i → cd_P U W H own t) → cd_P U W H own i → ∀ t, t < i + 1 → cd_P U W H own t := by
    intro h1 h2 t ht
    by_cases e : t = i
    · rw [e]; exact h2
    · exact h1 t (by omega)
  have r0 : s = 0 → J 0 (nI (i + 1)) := by
    intro e
    rcases hI with ⟨e1, _⟩ | ⟨_, hn⟩
    · rw [e1] at e; exact absurd e (by decide)
    · exact hJ 0 (Or.inr ⟨rfl, fun z => hn (fun t ht => z t (by omega))⟩)
  have r1 : ¬ s = 0 → cd_P U W H own i → J 1 (nI (i + 1)) := by
    intro e hP
    rcases hI with ⟨_, ha⟩ | ⟨e1, _⟩
    · exact hJ 1 (Or.inl ⟨rfl, hall ha hP⟩)
    · exact absurd e1 e
  have c1 : (nI i).toNatClampNeg = i := nI_clamp (by omega)
  unfold wX_liftable_56
  by_cases hb : cd_bt own i = true
  · refine br_t ((cd_tst own (by omega)).mpr hb) (br_c (fun e => nm_r (nI_1 i) (r0 e)) (fun e => br_f (by decide) ⟨pk_in i 16 hi, ?_⟩))
    rw [c1, h4 i hi, hcr]
    refine br_c (fun hz => nm_r (nI_1 i) (r1 e (fun _ => hz))) (fun hz => nm_r (nI_1 i) (hJ 0 (Or.inr ⟨rfl, fun z => hz (z i (by omega) hb)⟩)))
  · exact br_f (fun z => hb ((cd_tst own (by omega)).mp z)) (br_c (fun e => nm_r (nI_1 i) (r0 e)) (fun e => br_t rfl (nm_r (nI_1 i) (r1 e (fun z => absurd z hb)))))
theorem cd_liftable {post : Int32 → St2 → Prop} (hC : cd_C W H U a1 a2 a3) {x : Int32}
    (hp : ∀ (b : cd_A) (r : Int32), ((r = 1 ∧ ∀ t, t < 8 + H → cd_P U W H (x &&& cd_E W H) t) ∨ (r = 0 ∧ ¬ ∀ t, t < 8 + H → cd_P U W H (x &&& cd_E W H) t)) → post r (nI W, nI H, st, a1, a2, a3, b, a5, a6, a7, a8)) :
    wpX_liftable post (nI W, nI H, st, a1, a2, a3, a4, a5, a6, a7, a8) x := by
  obtain ⟨⟨hW1, hW⟩, ⟨hH1, hH⟩, _, _⟩ := id hC
  unfold wpX_liftable
  dsimp only
  refine cd_findUnder hC (fun b hb => ?_)
  dsimp only
  unfold wpX_everyThread
  dsimp only
  refine nm_r (show _ = x &&& cd_E W H from rfl) ?_
  generalize x &&& cd_E W H = own at *
  refine pk_loop (fun n i s => wX_liftable_16 post own (nI W) (nI H) st a1 a2 a3 b a5 a6 a7 a8 n s (nI i)) (fun i s => (s = 1 ∧ ∀ t, t < i → cd_P U W H own t) ∨ (s = 0 ∧ ¬ ∀ t, t < i → cd_P U W H own t)) (8 + H) 0 1 (Nat.zero_le _) (Or.inl ⟨rfl, fun t ht => absurd ht (by omega)⟩) ?_ ?_
  · intro n s hI
    refine pk_le (8 + H) (8 + H) (fun _ => ?_) (fun z => absurd z (by omega)) (nI_add 8 H)
    rcases hI with ⟨e, hI⟩ | ⟨e, hI⟩
    · exact br_f (by rw [e]; decide) (hp b 1 (Or.inl ⟨rfl, hI⟩))
    · exact br_t e (hp b 0 (Or.inr ⟨rfl, hI⟩))
  · intro n i s hi hI hw
    refine pk_le (8 + H) i (fun z => absurd z (by omega)) (fun _ => pk_le 8 i (fun z => ?_) (fun z => ?_)) (nI_add 8 H)
    · exact cd_li56 (by omega) (by rw [cd_cr, if_pos z]) hb hI (fun s' hs' => hw s' hs')
    · exact cd_li56 (by omega) (by rw [cd_cr, if_neg (by omega)]; rfl) hb hI (fun s' hs' => hw s' hs')
/-! what changes the loom -/
theorem cd_thread {post : Int32 → St2 → Prop} (hW : W ≤ 8) {c s : Int32}
    (h0 : ∀ i j, c = nI i → s = nI j → i < W → j < 4 → post (a1 i) (nI W, h, st, upd a1 i (nI j), a2, a3, a4, a5, a6, a7, a8))
    (h1 : ¬ (cd_in W c ∧ cd_in 4 s) → post (-1) (nI W, h, st, a1, a2, a3, a4, a5, a6, a7, a8)) :
    wpX_thread post (nI W, h, st, a1, a2, a3, a4, a5, a6, a7, a8) c s := by
  unfold wpX_thread
  dsimp only
  refine cd_badWarp (by omega) (fun i hi ei => br_t rfl (cd_badFour (fun j hj ej => br_t rfl ?_) (fun hn => br_f (by decide) (h1 (fun z => hn z.2))))) (fun hn => br_f (by decide) (h1 (fun z => hn z.1)))
  have h := h0 i j ei ej hi hj
  subst ei ej
  rw [nI_clamp (show i < 2 ^ 31 by omega), cd_i8 j (by omega)]
  exact ⟨pk_in i 8 (by omega), nm_e ⟨pk_in i 8 (by omega), nm_e h⟩⟩
theorem cd_treadle {post : Int32 → St2 → Prop} (hH : H ≤ 8) {c s : Int32}
    (h0 : ∀ i j, c = nI i → s = nI j → i < H → j < 4 → post (a2 i) (f, nI H, st, a1, upd a2 i (nI j), a3, a4, a5, a6, a7, a8))
    (h1 : ¬ (cd_in H c ∧ cd_in 4 s) → post (-1) (f, nI H, st, a1, a2, a3, a4, a5, a6, a7, a8)) :
    wpX_treadle post (f, nI H, st, a1, a2, a3, a4, a5, a6, a7, a8) c s := by
  unfold wpX_treadle
  dsimp only
  refine cd_badWeft (by omega) (fun i hi ei => br_t rfl (cd_badFour (fun j hj ej => br_t rfl ?_) (fun hn => br_f (by decide) (h1 (fun z => hn z.2))))) (fun hn => br_f (by decide) (h1 (fun z => hn z.1)))
  have h := h0 i j ei ej hi hj
  subst ei ej
  rw [nI_clamp (show i < 2 ^ 31 by omega), cd_i8 j (by omega)]
  exact ⟨pk_in i 8 (by omega), nm_e ⟨pk_in i 8 (by omega), nm_e h⟩⟩
theorem cd_tie {post : Int32 → St2 → Prop} {s x : Int32}
    (h0 : ∀ j v, s = nI j → x = nI v → j < 4 → v < 16 → post (a3 j) (f, h, st, a1, a2, upd a3 j (nI v), a4, a5, a6, a7, a8))
    (h1 : ¬ (cd_in 4 s ∧ cd_in 16 x) → post (-1) (f, h, st, a1, a2, a3, a4, a5, a6, a7, a8)) :
    wpX_tie post (f, h, st, a1, a2, a3, a4, a5, a6, a7, a8) s x := by
  unfold wpX_tie
  dsimp only
  refine cd_badFour (fun j hj ej => br_t rfl ?_) (fun hn => br_f (by decide) (h1 (fun z => hn z.1)))
  by_cases hx : x < 0
  · exact br_t hx (h1 (fun z => cd_in_neg (by decide) hx z.2))
  · obtain ⟨v, hv, ev⟩ := nI_of hx
    refine br_f hx ?_
    subst ev
    refine pk_le v 15 (fun z => ?_) (fun z => h1 (fun w => cd_in_big hv (by omega) w.2))
    have h := h0 j v ej rfl hj (by omega)
    subst ej
    rw [nI_clamp (show j < 2 ^ 31 by omega), cd_i8 v (by omega)]
    exact ⟨pk_in j 4 hj, nm_e ⟨pk_in j 4 hj, nm_e h⟩⟩
theorem cd_and3 (i j c : Nat) (h1 : i < 4) (h2 : j < 4) (h3 : c < 8) : ((nI i + nI j * nI c) &&& 3).toInt8.toInt32 = nI ((i + j * c) % 4) := by
  have hb : j * c ≤ 4 * 8 := Nat.mul_le_mul (by omega) (by omega)
  rw [pk_mul, nI_add, pk_andN (by omega) 2 (by decide), cd_i8 _ (Nat.lt_of_lt_of_le (Nat.mod_lt _ (by decide)) (by decide))]
theorem cd_threadAll {post : Int32 → St2 → Prop} (hW : W ≤ 8) {x y : Int32}
    (h0 : ∀ (i j : Nat) (b : cd_A), x = nI i → y = nI j → i < 4 → j < 4 → (∀ c, c < W → b c = nI ((i + j * c) % 4)) → (∀ c, W ≤ c → b c = a1 c) → post 0 (nI W, h, st, b, a2, a3, a4, a5, a6, a7, a8))
    (h1 : ¬ (cd_in 4 x ∧ cd_in 4 y) → post (-1) (nI W, h, st, a1, a2, a3, a4, a5, a6, a7, a8)) :
    wpX_threadAll post (nI W, h, st, a1, a2, a3, a4, a5, a6, a7, a8) x y := by
  unfold wpX_threadAll
  dsimp only
  refine cd_badFour (fun i hi ei => br_t rfl (cd_badFour (fun j hj ej => br_t rfl ?_) (fun hn => br_f (by decide) (h1 (fun z => hn z.2))))) (fun hn => br_f (by decide) (h1 (fun z => hn z.1)))
  have hp := fun b => h0 i j b ei ej hi hj
  subst ei ej
  refine pk_loop (fun n c s => wX_threadAll_20 post (nI i) (nI j) (nI W) h st n (nI c) s a2 a3 a4 a5 a6 a7 a8) (fun c s => (∀ k, k < c → s k = nI ((i + j * k) % 4)) ∧ (∀ k, c ≤ k → s k = a1 k)) W 0 a1 (Nat.zero_le _) ⟨fun k hk => absurd hk (by omega), fun k _ => rfl⟩ ?_ ?_
  · intro n s hI
    exact pk_le W W (fun _ => hp s hI.1 hI.2) (fun z => absurd z (by omega))
  · intro n c s hc hI hw
    refine pk_le W c (fun z => absurd z (by omega)) (fun _ => ⟨pk_in c 8 (by omega), nm_r (by rw [nI_clamp (show c < 2 ^ 31 by omega), cd_and3 i j c hi hj (by omega)]) (nm_r (nI_1 c) (hw _ ⟨fun k hk => ?_, fun k hk => ?_⟩))⟩)
    · by_cases e : k = c
      · rw [e, pk_us]
      · rw [pk_un e]; exact hI.1 k (by omega)
    · rw [pk_un (show k ≠ c by omega)]; exact hI.2 k (by omega)
theorem cd_treadleAll {post : Int32 → St2 → Prop} (hH : H ≤ 8) {x y : Int32}
    (h0 : ∀ (i j : Nat) (b : cd_A), x = nI i → y = nI j → i < 4 → j < 4 → (∀ c, c < H → b c = nI ((i + j * c) % 4)) → (∀ c, H ≤ c → b c = a2 c) → post 0 (f, nI H, st, a1, b, a3, a4, a5, a6, a7, a8))
    (h1 : ¬ (cd_in 4 x ∧ cd_in 4 y) → post (-1) (f, nI H, st, a1, a2, a3, a4, a5, a6, a7, a8)) :
    wpX_treadleAll post (f, nI H, st, a1, a2, a3, a4, a5, a6, a7, a8) x y := by
  unfold wpX_treadleAll
  dsimp only
  refine cd_badFour (fun i hi ei => br_t rfl (cd_badFour (fun j hj ej => br_t rfl ?_) (fun hn => br_f (by decide) (h1 (fun z => hn z.2))))) (fun hn => br_f (by decide) (h1 (fun z => hn z.1)))
  have hp := fun b => h0 i j b ei ej hi hj
  subst ei ej
  refine pk_loop (fun n c s => wX_treadleAll_20 post (nI i) (nI j) f (nI H) st n (nI c) a1 s a3 a4 a5 a6 a7 a8) (fun c s => (∀ k, k < c → s k = nI ((i + j * k) % 4)) ∧ (∀ k, c ≤ k → s k = a2 k)) H 0 a2 (Nat.zero_le _) ⟨fun k hk => absurd hk (by omega), fun k _ => rfl⟩ ?_ ?_
  · intro n s hI
    exact pk_le H H (fun _ => hp s hI.1 hI.2) (fun z => absurd z (by omega))
  · intro n c s hc hI hw
    refine pk_le H c (fun z => absurd z (by omega)) (fun _ => ⟨pk_in c 8 (by omega), nm_r (by rw [nI_clamp (show c < 2 ^ 31 by omega), cd_and3 i j c hi hj (by omega)]) (nm_r (nI_1 c) (hw _ ⟨fun k hk => ?_, fun k hk => ?_⟩))⟩)
    · by_cases e : k = c
      · rw [e, pk_us]
      · rw [pk_un e]; exact hI.1 k (by omega)
    · rw [pk_un (show k ≠ c by omega)]; exact hI.2 k (by omega)
theorem cd_invert {post : Int32 → St2 → Prop} {x : Nat} (hx : x ≤ 15) (h3 : ∀ k, k < 4 → a3 k = nI x)
    (hp : ∀ b : cd_A, (∀ k, k < 4 → b k = nI (15 - x)) → post (nI (4 * cd_pc (15 - x) 16)) (f, h, st, a1, a2, b, a4, a5, a6, a7, a8)) :
    wpX_invert post (f, h, st, a1, a2, a3, a4, a5, a6, a7, a8) := by
  unfold wpX_invert
  dsimp only
  refine pk_loop (σ := Int32 × cd_A) (fun n i s => wX_invert_4 post f h st n s.1 (nI i) a1 a2 s.2 a4 a5 a6 a7 a8) (fun i s => s.1 = nI (i * cd_pc (15 - x) 16) ∧ (∀ k, k < i → s.2 k = nI (15 - x)) ∧ (∀ k, i ≤ k → k < 4 → s.2 k = nI x)) 4 0 (0, a3) (Nat.zero_le _) ⟨by rw [Nat.zero_mul]; rfl, fun k hk => absurd hk (by omega), fun k _ hk => h3 k hk⟩ ?_ ?_
  · rintro n ⟨y, s⟩ ⟨e, hI, _⟩
    dsimp only at e hI
    subst e
    exact pk_le 4 4 (fun _ => hp s hI) (fun z => absurd z (by omega))
  · rintro n i ⟨y, s⟩ hi ⟨e, hI, hI2⟩ hw
    dsimp only at e hI hI2
    subst e
    have hs := hI2 i (Nat.le_refl i) hi
    have c1 : (nI i).toNatClampNeg = i := nI_clamp (by omega)
    have e1 : ((15 : Int32) - s i).toInt8.toInt32 = nI (15 - x) := by
      rw [hs, show (15 : Int32) = nI 15 from rfl, pk_sub hx, cd_i8 _ (by omega)]
    refine pk_le 4 i (fun z => absurd z (by omega)) (fun _ => ⟨pk_in i 4 hi, pk_in i 4 hi, nm_r (e' := upd s i (nI (15 - x))) ?_ ⟨pk_in i 4 hi, ?_⟩⟩)
    · rw [c1, e1]
    · rw [c1, pk_us]
      refine cd_sizeOf (by omega) (nm_r (nI_add _ _) (nm_r (nI_1 i) (hw (_, _) ⟨?_, fun k hk => ?_, fun k hk hk2 => ?_⟩)))
      · show nI _ = nI _
        rw [Nat.succ_mul]
      · show upd s i (nI (15 - x)) k = _
        by_cases e : k = i
        · rw [e, pk_us]
        · rw [pk_un e]; exact hI k (by omega)
      · show upd s i (nI (15 - x)) k = _
        rw [pk_un (show k ≠ i by omega)]; exact hI2 k (by omega) hk2
end
end
section
/-! ===== part 6: the three drafts of the law: no warp above, every warp above, the diagonal ===== -/
def cd_UA : Nat → Nat → Bool := fun _ _ => false
def cd_UB : Nat → Nat → Bool := fun _ _ => true
def cd_UC : Nat → Nat → Bool := fun c r => decide (c % 4 = r % 4)
theorem cd_unA : ∀ W, W < 9 → ∀ H, H < 9 → ∀ t, t < 16 → cd_un cd_UA W H t = (if 8 ≤ t ∧ t < 8 + H then 2 ^ W - 1 else 0) := by decide +kernel
theorem cd_unB : ∀ W, W < 9 → ∀ H, H < 9 → ∀ t, t < 16 → cd_un cd_UB W H t = (if t < W then (2 ^ H - 1) * 256 else 0) := by decide +kernel
theorem cd_dfA1 : ∀ W, W < 9 → ∀ H, H < 9 → 1 ≤ W → cd_df (cd_un cd_UA W H) 0 W = 1 := by decide +kernel
theorem cd_dfA2 : ∀ W, W < 9 → ∀ H, H < 9 → 1 ≤ H → cd_df (cd_un cd_UA W H) 8 H = 1 := by decide +kernel
theorem cd_dfC1 : ∀ W, W < 9 → ∀ H, H < 9 → 1 ≤ W → 1 ≤ H → cd_df (cd_un cd_UC W H) 0 W = (if H < (if W < 4 then W else 4) then H + 1 else (if W < 4 then W else 4)) := by decide +kernel
theorem cd_dfC2 : ∀ W, W < 9 → ∀ H, H < 9 → 1 ≤ W → 1 ≤ H → cd_df (cd_un cd_UC W H) 8 H = (if W < 4 then (if W < H then W + 1 else H) else (if H < 4 then H else 4)) := by decide +kernel
theorem cd_fnC2 : cd_fn cd_UC 2 2 = 1 := by decide +kernel
theorem cd_fnC3 : cd_fn cd_UC 3 3 = 1 := by decide +kernel
theorem cd_pcm : ∀ W, W < 9 → cd_pc (2 ^ W - 1) 16 = W := by decide +kernel
theorem cd_pch : ∀ H, H < 9 → cd_pc ((2 ^ H - 1) * 256) 16 = H := by decide +kernel
theorem cd_pc0 : cd_pc 0 16 = 0 := by decide +kernel
section
variable {W H : Nat} {a1 a2 a3 : Nat → Int32}
theorem cd_szA (hW : W ≤ 8) (hH : H ≤ 8) {t : Nat} (ht : t < 16) : cd_sz cd_UA W H t = (if 8 ≤ t ∧ t < 8 + H then W else 0) := by
  unfold cd_sz
  rw [cd_unA W (by omega) H (by omega) t ht]
  split
  · exact cd_pcm W (by omega)
  · exact cd_pc0
theorem cd_szB (hW : W ≤ 8) (hH : H ≤ 8) {t : Nat} (ht : t < 16) : cd_sz cd_UB W H t = (if t < W then H else 0) := by
  unfold cd_sz
  rw [cd_unB W (by omega) H (by omega) t ht]
  split
  · exact cd_pch H (by omega)
  · exact cd_pc0
theorem cd_owA (hW : W ≤ 8) (hH : H ≤ 8) : ∀ i, i < W → cd_ow cd_UA W H i = i := by
  intro i hi
  have e := cd_sl_id (sz := cd_sz cd_UA W H) (first := 0) (many := W) (fun s t _ h2 _ h4 => by rw [cd_szA hW hH (by omega), cd_szA hW hH (by omega), if_neg (by omega), if_neg (by omega)]) W (Nat.le_refl W) i hi
  rw [Nat.zero_add] at e
  exact e
theorem cd_ohA (hW : W ≤ 8) (hH : H ≤ 8) : ∀ i, i < H → cd_oh cd_UA W H i = 8 + i := by
  intro i hi
  exact cd_sl_id (sz := cd_sz cd_UA W H) (first := 8) (many := H) (fun s t _ h2 _ h4 => by rw [cd_szA hW hH (by omega), cd_szA hW hH (by omega), if_pos (by omega), if_pos (by omega)]) H (Nat.le_refl H) i hi
theorem cd_owB (hW : W ≤ 8) (hH : H ≤ 8) : ∀ i, i < W → cd_ow cd_UB W H i = i := by
  intro i hi
  have e := cd_sl_id (sz := cd_sz cd_UB W H) (first := 0) (many := W) (fun s t _ h2 _ h4 => by rw [cd_szB hW hH (by omega), cd_szB hW hH (by omega), if_pos (by omega), if_pos (by omega)]) W (Nat.le_refl W) i hi
  rw [Nat.zero_add] at e
  exact e
theorem cd_ohB (hW : W ≤ 8) (hH : H ≤ 8) : ∀ i, i < H → cd_oh cd_UB W H i = 8 + i := by
  intro i hi
  exact cd_sl_id (sz := cd_sz cd_UB W H) (first := 8) (many := H) (fun s t _ h2 _ h4 => by rw [cd_szB hW hH (by omega), cd_szB hW hH (by omega), if_neg (by omega), if_neg (by omega)]) H (Nat.le_refl H) i hi
theorem cd_ZA (hW : W ≤ 8) (hH : H ≤ 8) : ∀ p q, p ≤ W → q ≤ H → (cd_Zr cd_UA W H p q = true ↔ p = 0 ∨ q = H) := by
  intro p q hp hq
  have s1 : cd_sm (fun i => cd_sz cd_UA W H (cd_ow cd_UA W H i)) p = p * 0 := cd_sm_c p (fun i hi => by
    rw [cd_owA hW hH i (by omega), cd_szA hW hH (by omega), if_neg (by omega)])
  have s2 : cd_sm (fun i => cd_sz cd_UA W H (cd_oh cd_UA W H i)) q = q * W := cd_sm_c q (fun i hi => by
    rw [cd_ohA hW hH i (by omega), cd_szA hW hH (by omega), if_pos (by omega)])
  unfold cd_Zr cd_Z
  rw [decide_eq_true_iff, s1, s2, Nat.mul_zero, Nat.zero_add]
  have h1 : p * q ≤ p * H := Nat.mul_le_mul_left p hq
  constructor
  · intro e
    rcases Nat.eq_zero_or_pos p with z | z
    · exact Or.inl z
    · exact Or.inr (Nat.eq_of_mul_eq_mul_left z (by omega))
  · rintro (e | e)
    · subst e
      rw [Nat.zero_mul, Nat.zero_mul, Nat.zero_add, Nat.sub_zero]
    · subst e
      omega
theorem cd_ZB (hW : W ≤ 8) (hH : H ≤ 8) : ∀ p q, p ≤ W → q ≤ H → (cd_Zr cd_UB W H p q = true ↔ q = 0 ∨ p = W) := by
  intro p q hp hq
  have s1 : cd_sm (fun i => cd_sz cd_UB W H (cd_ow cd_UB W H i)) p = p * H := cd_sm_c p (fun i hi => by
    rw [cd_owB hW hH i (by omega), cd_szB hW hH (by omega), if_pos (by omega)])
  have s2 : cd_sm (fun i => cd_sz cd_UB W H (cd_oh cd_UB W H i)) q = q * 0 := cd_sm_c q (fun i hi => by
    rw [cd_ohB hW hH i (by omega), cd_szB hW hH (by omega), if_neg (by omega)])
  unfold cd_Zr cd_Z
  rw [decide_eq_true_iff, s1, s2, Nat.mul_zero, Nat.add_zero]
  have h1 : q * p ≤ q * W := Nat.mul_le_mul_left q hp
  rw [Nat.mul_comm p q]
  constructor
  · intro e
    rcases Nat.eq_zero_or_pos q with z | z
    · exact Or.inl z
    · exact Or.inr (Nat.eq_of_mul_eq_mul_left z (by omega))
  · rintro (e | e)
    · subst e
      rw [Nat.zero_mul, Nat.zero_mul, Nat.add_zero, Nat.sub_zero]
    · subst e
      omega
theorem cd_fnA (hW : W ≤ 8) (hH : H ≤ 8) : cd_fn cd_UA W H = W + H := cd_nA (cd_ZA hW hH)
theorem cd_fnB (hW : W ≤ 8) (hH : H ≤ 8) : cd_fn cd_UB W H = W + H := cd_nB (cd_ZB hW hH)
theorem cd_GA (hW : W ≤ 8) (hH : H ≤ 8) (a6 a7 a8 : Nat → Int32) :
    (∀ j, j < W + H → cd_G7 cd_UA W H a7 j = 1 ∧ cd_G8 cd_UA W H a8 j = (if j < H then 0 else 1)) ∧
    (∀ i, i < W → cd_G6 cd_UA W H a6 i = nI (H + i)) ∧ (∀ i, i < H → cd_G6 cd_UA W H a6 (8 + i) = nI i) := by
  have h := cd_gA hW (cd_ZA hW hH) (cd_owA hW hH) (cd_ohA hW hH) a6 a7 a8 ((W + H + 1) * (W + 1)) (Nat.le_refl _)
  have e : cd_tA H ((W + H + 1) * (W + 1) / (W + 1)) ((W + H + 1) * (W + 1) % (W + 1)) = W + H := by
    rw [(cd_end W H).1, (cd_end W H).2]
    unfold cd_tA
    split <;> omega
  rw [e] at h
  exact ⟨h.1, fun i hi => h.2.1 i (by omega), fun i hi => h.2.2 i (by omega)⟩
/-! the drafts in the state -/
def cd_R (a1 a2 : Nat → Int32) : Prop := (∀ i, i < 8 → ∃ t, t < 4 ∧ a1 i = nI t) ∧ (∀ i, i < 8 → ∃ t, t < 4 ∧ a2 i = nI t)
def cd_B (W H : Nat) : Prop := (1 ≤ W ∧ W ≤ 8) ∧ (1 ≤ H ∧ H ≤ 8)
theorem cd_Cx {x : Nat} {v : Bool} (hx : x ≤ 15) (hv : ∀ s, s < 4 → (x / 2 ^ s % 2 = 1 ↔ v = true)) (hB : cd_B W H) (hR : cd_R a1 a2) (h3 : ∀ k, k < 4 → a3 k = nI x) : cd_C W H (fun _ _ => v) a1 a2 a3 := by
  obtain ⟨⟨w1, w2⟩, ⟨v1, v2⟩⟩ := hB
  refine ⟨⟨w1, w2⟩, ⟨v1, v2⟩, fun r hr => hR.2 r (by omega), fun c r hc hr => ?_⟩
  obtain ⟨t, ht, et⟩ := hR.2 r (by omega)
  obtain ⟨s, hs, es⟩ := hR.1 c (by omega)
  rw [et, es, nI_clamp (show t < 2 ^ 31 by omega), h3 t ht, cd_bit (by omega) (by omega)]
  show nI (x / 2 ^ s % 2) = nI 1 ↔ _
  rw [nI_eq (by omega) (by omega)]
  exact hv s hs
theorem cd_CA (hB : cd_B W H) (hR : cd_R a1 a2) (h3 : ∀ k, k < 4 → a3 k = nI 0) : cd_C W H cd_UA a1 a2 a3 := cd_Cx (v := false) (by omega) (by decide +kernel) hB hR h3
theorem cd_CB (hB : cd_B W H) (hR : cd_R a1 a2) (h3 : ∀ k, k < 4 → a3 k = nI 15) : cd_C W H cd_UB a1 a2 a3 := cd_Cx (v := true) (by omega) (by decide +kernel) hB hR h3
theorem cd_p4 : ∀ s, s < 4 → ∀ t, t < 4 → (2 ^ t / 2 ^ s % 2 = 1 ↔ s = t) := by decide +kernel
theorem cd_CC (hB : cd_B W H) (h1 : ∀ c, c < W → a1 c = nI (c % 4)) (h2 : ∀ r, r < H → a2 r = nI (r % 4)) (h3 : ∀ k, k < 4 → a3 k = nI (2 ^ k)) : cd_C W H cd_UC a1 a2 a3 := by
  obtain ⟨⟨w1, w2⟩, ⟨v1, v2⟩⟩ := hB
  refine ⟨⟨w1, w2⟩, ⟨v1, v2⟩, fun r hr => ⟨r % 4, Nat.mod_lt _ (by omega), h2 r hr⟩, fun c r hc hr => ?_⟩
  have m1 : c % 4 < 4 := Nat.mod_lt _ (by omega)
  have m2 : r % 4 < 4 := Nat.mod_lt _ (by omega)
  have hb : 2 ^ (r % 4) < 2 ^ 4 := Nat.pow_lt_pow_right (by omega) m2
  rw [h1 c hc, h2 r hr, nI_clamp (show r % 4 < 2 ^ 31 by omega), h3 _ m2, cd_bit (by omega) (by omega)]
  show nI (2 ^ (r % 4) / 2 ^ (c % 4) % 2) = nI 1 ↔ _
  rw [nI_eq (by omega) (by omega), cd_p4 _ m1 _ m2]
  unfold cd_UC
  rw [decide_eq_true_iff]
/-! liftable, by bits -/
theorem cd_bE : ∀ W, W < 9 → ∀ H, H < 9 → ∀ i, i < 32 → cd_bt (cd_E W H) i = decide (i < W ∨ (8 ≤ i ∧ i < 8 + H)) := by decide +kernel
theorem cd_bLo : ∀ W, W < 9 → ∀ H, H < 9 → ∀ i, i < 32 → cd_bt ((cd_E W H >>> ((8 : Int32) &&& 31)) <<< ((8 : Int32) &&& 31)) i = decide (8 ≤ i ∧ i < 8 + H) := by decide +kernel
theorem cd_bHi : ∀ W, W < 9 → ∀ i, i < 32 → cd_bt (((1 : Int32) <<< (nI W &&& 31)) - 1) i = decide (i < W) := by decide +kernel
theorem cd_bm : ∀ W, W < 9 → ∀ i, i < 32 → cd_bt (nI (2 ^ W - 1)) i = decide (i < W) := by decide +kernel
theorem cd_bh : ∀ H, H < 9 → ∀ i, i < 32 → cd_bt (nI ((2 ^ H - 1) * 256)) i = decide (8 ≤ i ∧ i < 8 + H) := by decide +kernel
theorem cd_bn0 (i : Nat) : cd_bt (nI 0) i = false := cd_b0 i
theorem cd_z3 {x y z : Int32} : (x &&& (y ^^^ (-1))) &&& (z ^^^ (-1)) = 0 ↔ ∀ i, i < 32 → cd_bt x i = true → cd_bt y i = false → cd_bt z i = true := by
  constructor
  · intro h i hi hx hy
    have e := congrArg (fun v => cd_bt v i) h
    rw [cd_band, cd_band, cd_bxor, cd_bxor, cd_bm1 i hi, cd_b0, hx, hy] at e
    revert e
    cases cd_bt z i <;> decide
  · intro h
    apply cd_ext
    intro i hi
    rw [cd_band, cd_band, cd_bxor, cd_bxor, cd_bm1 i hi, cd_b0]
    have hh := h i hi
    revert hh
    cases cd_bt x i <;> cases cd_bt y i <;> cases cd_bt z i <;> decide
theorem cd_low0 {x : Int32} : x &&& 255 = 0 ↔ ∀ i, i < 8 → cd_bt x i = false := by
  constructor
  · intro h i hi
    have e := congrArg (fun v => cd_bt v i) h
    rw [cd_band, cd_b255 i (by omega), cd_b0, decide_eq_true hi, Bool.and_true] at e
    exact e
  · intro h
    apply cd_ext
    intro i hi
    rw [cd_band, cd_b255 i hi, cd_b0]
    by_cases h8 : i < 8
    · rw [h i h8]; rfl
    · rw [decide_eq_false h8, Bool.and_false]
theorem cd_ownE {x : Int32} (hW : W ≤ 8) (hH : H ≤ 8) {i : Nat} (hi : i < 32) (hn : ¬ (i < W ∨ (8 ≤ i ∧ i < 8 + H))) : cd_bt (x &&& cd_E W H) i = false := by
  rw [cd_band, cd_bE W (by omega) H (by omega) i hi, decide_eq_false hn, Bool.and_false]
theorem cd_hi8 {own m : Int32} (hm : ∀ i, 24 ≤ i → i < 32 → cd_bt m i = false) (ho : ∀ i, 16 ≤ i → i < 32 → cd_bt own i = false) : own >>> ((8 : Int32) &&& 31) = m ↔ ∀ i, i < 24 → cd_bt own (8 + i) = cd_bt m i := by
  have sh : ∀ i, i < 32 → cd_bt (own >>> ((8 : Int32) &&& 31)) i = if 8 + i < 32 then cd_bt own (8 + i) else cd_bt own 31 := fun i hi => cd_bsshr 8 (by omega) own hi
  constructor
  · intro h i hi
    have e := congrArg (fun v => cd_bt v i) h
    rw [sh i (by omega), if_pos (by omega)] at e
    exact e
  · intro h
    apply cd_ext
    intro i hi
    rw [sh i hi]
    by_cases h8 : 8 + i < 32
    · rw [if_pos h8]; exact h i (by omega)
    · rw [if_neg h8, ho 31 (by omega) (by omega), hm i (by omega) hi]
theorem cd_crL {t : Nat} (h : t < 8) : cd_cr W H t = (cd_E W H >>> ((8 : Int32) &&& 31)) <<< ((8 : Int32) &&& 31) := by rw [cd_cr, if_neg (by omega)]
theorem cd_crH {t : Nat} (h : 8 ≤ t) : cd_cr W H t = ((1 : Int32) <<< (nI W &&& 31)) - 1 := by rw [cd_cr, if_pos h]
theorem cd_liA (hW : W ≤ 8) (hH : H ≤ 8) (x : Int32) : (∀ t, t < 8 + H → cd_P cd_UA W H (x &&& cd_E W H) t) ↔ ((x &&& cd_E W H) &&& 255 = 0 ∨ (x &&& cd_E W H) >>> ((8 : Int32) &&& 31) = ((1 : Int32) <<< (nI H &&& 31)) - 1) := by
  have ho : ∀ i, i < 32 → ¬ (i < W ∨ (8 ≤ i ∧ i < 8 + H)) → cd_bt (x &&& cd_E W H) i = false := fun i hi hn => cd_ownE hW hH hi hn
  generalize x &&& cd_E W H = own at *
  rw [cd_low0, cd_hi8 (m := ((1 : Int32) <<< (nI H &&& 31)) - 1) (fun i h1 h2 => by rw [cd_bHi H (by omega) i h2]; exact decide_eq_false (by omega)) (fun i h1 h2 => ho i h2 (by omega))]
  constructor
  · intro h
    by_cases hz : ∀ i, i < 8 → cd_bt own i = false
    · exact Or.inl hz
    · right
      obtain ⟨t, ht⟩ := Classical.not_forall.mp hz
      obtain ⟨ht8, htb⟩ := Classical.not_imp.mp ht
      have hb : cd_bt own t = true := by
        revert htb
        cases cd_bt own t <;> decide
      have hP := h t (by omega) hb
      rw [cd_crL ht8, cd_unA W (by omega) H (by omega) t (by omega), if_neg (by omega), cd_z3] at hP
      intro i hi
      rw [cd_bHi H (by omega) i (by omega)]
      by_cases hiH : i < H
      · rw [decide_eq_true hiH]
        cases hq : cd_bt own (8 + i) with
        | true => rfl
        | false =>
          have e := hP (8 + i) (by omega) (by rw [cd_bLo W (by omega) H (by omega) _ (by omega)]; exact decide_eq_true (by omega)) hq
          rw [cd_bn0] at e
          exact e
      · rw [decide_eq_false hiH]
        exact ho (8 + i) (by omega) (by omega)
  · intro h t ht hb
    by_cases ht8 : t < 8
    · rw [cd_crL ht8, cd_z3]
      intro i hi hx hy
      rcases h with h | h
      · rw [h t ht8] at hb
        exact absurd hb (by decide)
      · rw [cd_bLo W (by omega) H (by omega) i hi] at hx
        have hx' := of_decide_eq_true hx
        have e := h (i - 8) (by omega)
        rw [show 8 + (i - 8) = i by omega, hy, cd_bHi H (by omega) _ (by omega), decide_eq_true (show i - 8 < H by omega)] at e
        exact absurd e (by decide)
    · rw [cd_crH (by omega), cd_unA W (by omega) H (by omega) t (by omega), if_pos (by omega), cd_z3]
      intro i hi hx _
      rw [cd_bHi W (by omega) i hi] at hx
      rw [cd_bm W (by omega) i hi]
      exact hx
theorem cd_liB (hW : W ≤ 8) (hH : H ≤ 8) (x : Int32) : (∀ t, t < 8 + H → cd_P cd_UB W H (x &&& cd_E W H) t) ↔ ((x &&& cd_E W H) >>> ((8 : Int32) &&& 31) = 0 ∨ (x &&& cd_E W H) &&& 255 = ((1 : Int32) <<< (nI W &&& 31)) - 1) := by
  have ho : ∀ i, i < 32 → ¬ (i < W ∨ (8 ≤ i ∧ i < 8 + H)) → cd_bt (x &&& cd_E W H) i = false := fun i hi hn => cd_ownE hW hH hi hn
  generalize x &&& cd_E W H = own at *
  have hlow : own &&& 255 = ((1 : Int32) <<< (nI W &&& 31)) - 1 ↔ ∀ i, i < W → cd_bt own i = true := by
    constructor
    · intro h i hi
      have e := congrArg (fun v => cd_bt v i) h
      rw [cd_band, cd_b255 i (by omega), decide_eq_true (show i < 8 by omega), Bool.and_true, cd_bHi W (by omega) i (by omega), decide_eq_true hi] at e
      exact e
    · intro h
      apply cd_ext
      intro i hi
      rw [cd_band, cd_b255 i hi, cd_bHi W (by omega) i hi]
      by_cases hiW : i < W
      · rw [h i hiW, decide_eq_true (show i < 8 by omega), decide_eq_true hiW]; rfl
      · rw [decide_eq_false hiW]
        by_cases h8 : i < 8
        · rw [ho i hi (by omega)]; rfl
        · rw [decide_eq_false h8, Bool.and_false]
  rw [hlow, cd_hi8 (m := 0) (fun i h1 h2 => cd_b0 i) (fun i h1 h2 => ho i h2 (by omega))]
  constructor
  · intro h
    by_cases hz : ∀ i, i < 24 → cd_bt own (8 + i) = cd_bt 0 i
    · exact Or.inl hz
    · right
      obtain ⟨t, ht⟩ := Classical.not_forall.mp hz
      obtain ⟨ht8, htb⟩ := Classical.not_imp.mp ht
      rw [cd_b0] at htb
      have hb : cd_bt own (8 + t) = true := by
        revert htb
        cases cd_bt own (8 + t) <;> decide
      have htH : t < H := by
        rcases Nat.lt_or_ge t H with z | z
        · exact z
        · rw [ho (8 + t) (by omega) (by omega)] at hb
          exact absurd hb (by decide)
      have hP := h (8 + t) (by omega) hb
      rw [cd_crH (by omega), cd_unB W (by omega) H (by omega) (8 + t) (by omega), if_neg (by omega), cd_z3] at hP
      intro i hi
      cases hq : cd_bt own i with
      | true => rfl
      | false =>
        have e := hP i (by omega) (by rw [cd_bHi W (by omega) i (by omega)]; exact decide_eq_true hi) hq
        rw [cd_bn0] at e
        exact e
  · intro h t ht hb
    by_cases ht8 : t < 8
    · have htW : t < W := by
        rcases Nat.lt_or_ge t W with z | z
        · exact z
        · rw [ho t (by omega) (by omega)] at hb
          exact absurd hb (by decide)
      rw [cd_crL ht8, cd_unB W (by omega) H (by omega) t (by omega), if_pos htW, cd_z3]
      intro i hi hx _
      rw [cd_bLo W (by omega) H (by omega) i hi] at hx
      rw [cd_bh H (by omega) i hi]
      exact hx
    · rw [cd_crH (by omega), cd_z3]
      intro i hi hx hy
      rcases h with h | h
      · have e := h (t - 8) (by omega)
        rw [show 8 + (t - 8) = t by omega, hb, cd_b0] at e
        exact absurd e (by decide)
      · rw [cd_bHi W (by omega) i hi] at hx
        rw [h i (of_decide_eq_true hx)] at hy
        exact absurd hy (by decide)
theorem cd_allE : ∀ W, W < 9 → ∀ H, H < 9 → (cd_E W H &&& cd_E W H) >>> ((8 : Int32) &&& 31) = ((1 : Int32) <<< (nI H &&& 31)) - 1 := by decide +kernel
theorem cd_allZ : ∀ W, W < 9 → ∀ H, H < 9 → (0 &&& cd_E W H) &&& 255 = 0 := by decide +kernel
end
end
section
/-! ===== part 7: the law's walk, from its end to the last draft ===== -/
section
variable {post : Int32 → St0 → Prop} {mc ms kc ks : Nat} {x2 x3 x5 x11 x12 z0 z1 : Int32} {W H : Nat} {U : Nat → Nat → Bool} {st : Int32} {a1 a2 a3 a4 a5 a6 a7 a8 : Nat → Int32}
theorem cd_t0 (hB : 1 ≤ W) : cd_th W H 0 := ⟨0, rfl, Or.inl (by omega)⟩
theorem cd_t8 (hB : 1 ≤ H) : cd_th W H 8 := ⟨8, rfl, Or.inr ⟨Nat.le_refl 8, by omega⟩⟩
theorem cd_t16 (hW : W ≤ 8) (hH : H ≤ 8) : ¬ cd_th W H 16 := by
  rintro ⟨t, e, hv⟩
  have ht := cd_vt16 hW hH hv
  have := (nI_eq (a := 16) (b := t) (by omega) (by omega)).mp e
  omega
theorem cd_tm1 (hW : W ≤ 8) (hH : H ≤ 8) : ¬ cd_th W H (-1) := by
  rintro ⟨t, e, hv⟩
  have ht := cd_vt16 hW hH hv
  have h := nI_pos (n := t) (by omega)
  rw [← e] at h
  exact h (by decide)
theorem cd_longestN {pst : Int32 → St2 → Prop} (hW : W ≤ 8) (hH : H ≤ 8) {c : Int32} (hn : ¬ cd_th W H c) (h1 : pst (-1) (nI W, nI H, st, a1, a2, a3, a4, a5, a6, a7, a8)) : wpX_longest pst (nI W, nI H, st, a1, a2, a3, a4, a5, a6, a7, a8) c := by
  unfold wpX_longest
  dsimp only
  exact cd_badThread hW hH (fun t e hv => absurd ⟨t, e, hv⟩ hn) (fun _ => br_f (by decide) h1)
theorem cd_G6_id (a : Nat → Int32) (t : Nat) : cd_G6 U W H (cd_G6 U W H a) t = cd_G6 U W H a t := cd_g6_id _ _ _ _ _ _ _ _
theorem cd_nIinj {a t : Nat} (ha : a < 2 ^ 31) (ht : t < 2 ^ 31) (e : nI a = nI t) : t = a := ((nI_eq ha ht).mp e).symm
theorem cd_L1039 (hp : post 1 ()) (hC : cd_C W H U a1 a2 a3) (he : z1 = z0) : wL_lawOf_1039 post mc ms z0 z1 kc ks (nI W) (nI H) st a1 a2 a3 a4 a5 a6 a7 a8 := by
  obtain ⟨⟨hW1, hW⟩, ⟨hH1, hH⟩, _, _⟩ := id hC
  have t0 : cd_th W H 0 := cd_t0 hW1
  have t8 : cd_th W H 8 := cd_t8 hH1
  unfold wL_lawOf_1039
  refine br_t he (cd_together hC (fun t s b4 b5 et es hvt hvs => ?_) (fun hn => absurd ⟨t0, t8⟩ hn))
  have e1 : t = 0 := cd_nIinj (a := 0) (by omega) (by have := cd_vt16 hW hH hvt; omega) et
  have e2 : s = 8 := cd_nIinj (a := 8) (by omega) (by have := cd_vt16 hW hH hvs; omega) es
  dsimp only
  refine cd_together hC (fun t' s' b4' b5' et' es' hvt' hvs' => ?_) (fun hn => absurd ⟨t8, t0⟩ hn)
  have e3 : t' = 8 := cd_nIinj (a := 8) (by omega) (by have := cd_vt16 hW hH hvt'; omega) et'
  have e4 : s' = 0 := cd_nIinj (a := 0) (by omega) (by have := cd_vt16 hW hH hvs'; omega) es'
  dsimp only
  refine br_t ?_ (cd_longestN hW hH (cd_t16 hW hH) ?_)
  · rw [e1, e2, e3, e4, cd_G6_id, cd_G6_id]
    by_cases e : cd_G6 U W H a6 0 = cd_G6 U W H a6 8
    · rw [if_pos e, if_pos e.symm]
    · rw [if_neg e, if_neg (fun z => e z.symm)]
  · dsimp only
    refine br_t rfl (cd_over hC (fun t b e hv => absurd ⟨t, e, hv⟩ (cd_tm1 hW hH)) (fun _ => ?_))
    exact br_t rfl hp
theorem cd_L1020 (hp : post 1 ()) (hC : cd_C W H U a1 a2 a3) : wL_lawOf_1020 post mc ms kc ks (nI W) (nI H) st a1 a2 a3 a4 a5 a6 a7 a8 := by
  obtain ⟨⟨hW1, hW⟩, ⟨hH1, hH⟩, _, _⟩ := id hC
  have hl := cd_fn_le U W H
  unfold wL_lawOf_1020
  refine cd_hangs hC (fun b4 b5 => ?_)
  dsimp only
  refine cd_layers hC (fun c4 c5 => ?_)
  dsimp only
  exact pk_eq (cd_fn U W H) 1 (fun z => cd_L1039 hp hC (if_pos z)) (fun z => cd_L1039 hp hC (if_neg z))
theorem cd_L987 (hp : post 1 ()) (hC : cd_C W H cd_UC a1 a2 a3) (he : z1 = z0) : wL_lawOf_987 post mc ms (nI W) (nI H) z0 z1 kc ks (nI W) (nI H) st a1 a2 a3 a4 a5 a6 a7 a8 := by
  obtain ⟨⟨hW1, hW⟩, ⟨hH1, hH⟩, _, _⟩ := id hC
  unfold wL_lawOf_987
  refine br_t he (pk_eq W H (fun e => pk_le W 1 (fun _ => cd_L1020 hp hC) (fun y1 => pk_le 4 W (fun _ => cd_L1020 hp hC) (fun y2 => cd_hangs hC (fun b4 b5 => ?_)))) (fun _ => cd_L1020 hp hC))
  have hfn : cd_fn cd_UC W H = 1 := by
    rw [← e]
    rcases (show W = 2 ∨ W = 3 by omega) with z | z
    · rw [z]; exact cd_fnC2
    · rw [z]; exact cd_fnC3
  dsimp only
  exact br_t (if_pos hfn) (cd_L1020 hp hC)
theorem cd_L940 (hp : post 1 ()) (hC : cd_C W H cd_UC a1 a2 a3) (he : z1 = z0) : wL_lawOf_940 post mc ms (nI W) (nI H) z0 z1 kc ks (nI W) (nI H) st a1 a2 a3 a4 a5 a6 a7 a8 := by
  obtain ⟨⟨hW1, hW⟩, ⟨hH1, hH⟩, _, _⟩ := id hC
  have e := cd_dfC2 W (by omega) H (by omega) hW1 hH1
  unfold wL_lawOf_940
  refine br_t he (cd_treadles hC (fun b => ?_))
  dsimp only
  rw [e]
  refine pk_le 4 W (fun y1 => pk_le 4 H (fun y2 => cd_L987 hp hC ?_) (fun y2 => cd_L987 hp hC ?_)) (fun y1 => pk_le H W (fun y2 => cd_L987 hp hC ?_) (fun y2 => cd_L987 hp hC ?_))
  · rw [if_neg (by omega), if_neg (by omega)]; rfl
  · rw [if_neg (by omega), if_pos (by omega)]
  · rw [if_pos (by omega), if_neg (by omega)]
  · rw [if_pos (by omega), if_pos (by omega), nI_1]
theorem cd_L934 (hp : post 1 ()) (hC : cd_C W H cd_UC a1 a2 a3) {y0 y1 y2 : Int32} (he : y2 = y1 + y0) : wL_lawOf_934 post mc ms (nI W) (nI H) y0 y1 y2 kc ks (nI W) (nI H) st a1 a2 a3 a4 a5 a6 a7 a8 := by
  unfold wL_lawOf_934
  exact cd_L940 hp hC he
theorem cd_L905 (hp : post 1 ()) (hC : cd_C W H cd_UC a1 a2 a3) {x15 : Int32} (hx : x15 = nI (if W < 4 then W else 4)) (he : z1 = z0) : wL_lawOf_905 post mc ms (nI W) (nI H) x15 z0 z1 kc ks (nI W) (nI H) st a1 a2 a3 a4 a5 a6 a7 a8 := by
  obtain ⟨⟨hW1, hW⟩, ⟨hH1, hH⟩, _, _⟩ := id hC
  have e := cd_dfC1 W (by omega) H (by omega) hW1 hH1
  have hm : (if W < 4 then W else 4) ≤ W := by split <;> omega
  unfold wL_lawOf_905
  refine br_t he (cd_shafts hC (fun b => ?_))
  dsimp only
  rw [e]
  generalize (if W < 4 then W else 4) = m at *
  refine pk_le m H (fun y1 => cd_L940 hp hC ?_) (fun y1 => pk_le W H (fun y2 => absurd y2 (by omega)) (fun y2 => cd_L934 hp hC ?_)) hx
  · rw [if_neg (by omega), hx]
  · rw [if_pos (by omega), nI_1]
theorem cd_L887 (hp : post 1 ()) (hC : cd_C W H cd_UC a1 a2 a3) {x15 : Int32} (hx : x15 = nI (if W < 4 then W else 4)) (he : z1 = -1) : wL_lawOf_887 post mc ms (nI W) (nI H) x15 z1 kc ks (nI W) (nI H) st a1 a2 a3 a4 a5 a6 a7 a8 := by
  unfold wL_lawOf_887
  exact cd_L905 hp hC hx he
theorem cd_L868 (hp : post 1 ()) (hC : cd_C W H cd_UC a1 a2 a3) {x15 : Int32} (hx : x15 = nI (if W < 4 then W else 4)) (f11 : (x11 = 1 ∧ cd_in W x2) ∨ (x11 = 0 ∧ ¬ cd_in W x2)) (f12 : (x12 = 1 ∧ cd_in H x3) ∨ (x12 = 0 ∧ ¬ cd_in H x3)) : wL_lawOf_868 post mc ms x2 x3 (nI W) (nI H) x11 x12 x15 kc ks (nI W) (nI H) st a1 a2 a3 a4 a5 a6 a7 a8 := by
  obtain ⟨⟨hW1, hW⟩, ⟨hH1, hH⟩, _, _⟩ := id hC
  unfold wL_lawOf_868
  refine cd_above hC (fun i j ei ej hi hj => ?_) (fun hn => ?_)
  · have g1 : ¬ x11 = 0 := by
      rcases f11 with ⟨e, _⟩ | ⟨_, e⟩
      · rw [e]; decide
      · exact absurd ⟨i, hi, ei⟩ e
    have g2 : ¬ x12 = 0 := by
      rcases f12 with ⟨e, _⟩ | ⟨_, e⟩
      · rw [e]; decide
      · exact absurd ⟨j, hj, ej⟩ e
    refine br_f g1 (br_f g2 ?_)
    rw [ei, ej, pk_andN (by omega) 2 (by decide), pk_andN (by omega) 2 (by decide)]
    refine pk_eq (i % 2 ^ 2) (j % 2 ^ 2) (fun z => cd_L905 hp hC hx ?_) (fun z => cd_L905 hp hC hx ?_)
    · exact if_pos (decide_eq_true z)
    · exact if_neg (fun y => z (of_decide_eq_true y))
  · rcases f11 with ⟨e, g1⟩ | ⟨e, g1⟩
    · rcases f12 with ⟨e2, g2⟩ | ⟨e2, g2⟩
      · exact absurd ⟨g1, g2⟩ hn
      · exact br_f (by rw [e]; decide) (br_t e2 (cd_L887 hp hC hx rfl))
    · exact br_t e (cd_L887 hp hC hx rfl)
theorem cd_L828 (hp : post 1 ()) (hB : cd_B W H) (h1 : ∀ c, c < W → a1 c = nI (c % 4)) (h2 : ∀ r, r < H → a2 r = nI (r % 4)) (h3 : ∀ k, k < 4 → a3 k = nI 0) (f11 : (x11 = 1 ∧ cd_in W x2) ∨ (x11 = 0 ∧ ¬ cd_in W x2)) (f12 : (x12 = 1 ∧ cd_in H x3) ∨ (x12 = 0 ∧ ¬ cd_in H x3)) : ∃ n, wL_lawOf_828 post mc ms x2 x3 (nI W) (nI H) x11 x12 kc ks n 0 (nI W) (nI H) st a1 a2 a3 a4 a5 a6 a7 a8 := by
  obtain ⟨⟨hW1, hW⟩, ⟨hH1, hH⟩⟩ := id hB
  refine pk_loop (fun n i s => wL_lawOf_828 post mc ms x2 x3 (nI W) (nI H) x11 x12 kc ks n (nI i) (nI W) (nI H) st a1 a2 s a4 a5 a6 a7 a8) (fun i s => (∀ k, k < i → s k = nI (2 ^ k)) ∧ (∀ k, i ≤ k → k < 4 → s k = nI 0)) 4 0 a3 (Nat.zero_le _) ⟨fun k hk => absurd hk (by omega), fun k _ hk => h3 k hk⟩ ?_ ?_
  · intro n s hI
    have hC := cd_CC hB h1 h2 hI.1
    refine pk_le 4 4 (fun _ => pk_le 4 W (fun z => cd_L868 hp hC ?_ f11 f12) (fun z => cd_L868 hp hC ?_ f11 f12)) (fun z => absurd z (by omega))
    · rw [if_neg (by omega)]; rfl
    · rw [if_pos (by omega)]
  · intro n i s hi hI hw
    have hv : ∀ i, i < 4 → 2 ^ i < 16 := by decide
    have hv1 := hv i hi
    refine pk_le 4 i (fun z => absurd z (by omega)) (fun _ => cd_tie (fun j v ej ev hj hv2 => ?_) (fun hn => absurd ⟨⟨i, hi, rfl⟩, ⟨2 ^ i, hv1, cd_shl1 i (by omega)⟩⟩ hn))
    have e1 : j = i := cd_nIinj (by omega) (by omega) ej
    have e2 : v = 2 ^ i := cd_nIinj (by omega) (by omega) ((cd_shl1 i (by omega)).symm.trans ev)
    subst e1 e2
    dsimp only
    refine br_t (hI.2 j (Nat.le_refl j) hi) (nm_r (nI_1 j) (hw (upd s j (nI (2 ^ j))) ⟨fun k hk => ?_, fun k hk hk2 => ?_⟩))
    · by_cases e : k = j
      · rw [e, pk_us]
      · rw [pk_un e]; exact hI.1 k (by omega)
    · rw [pk_un (show k ≠ j by omega)]; exact hI.2 k (by omega) hk2
theorem cd_L739 (hp : post 1 ()) (hB : cd_B W H) (hR : cd_R a1 a2) (h3 : ∀ k, k < 4 → a3 k = nI 15) (f11 : (x11 = 1 ∧ cd_in W x2) ∨ (x11 = 0 ∧ ¬ cd_in W x2)) (f12 : (x12 = 1 ∧ cd_in H x3) ∨ (x12 = 0 ∧ ¬ cd_in H x3)) (he : z1 = z0) : wL_lawOf_739 post mc ms x2 x3 (nI W) (nI H) (cd_E W H) x11 x12 z0 z1 kc ks (nI W) (nI H) st a1 a2 a3 a4 a5 a6 a7 a8 := by
  obtain ⟨⟨hW1, hW⟩, ⟨hH1, hH⟩⟩ := id hB
  have hC := cd_CB hB hR h3
  have t0 : cd_th W H 0 := cd_t0 hW1
  have t8 : cd_th W H 8 := cd_t8 hH1
  unfold wL_lawOf_739
  refine br_t he (cd_over hC (fun t b et hv => ?_) (fun hn => absurd t0 hn))
  have e1 : t = 0 := cd_nIinj (a := 0) (by omega) (by have := cd_vt16 hW hH hv; omega) et
  subst e1
  rw [cd_szB hW hH (by omega), if_pos (by omega)]
  dsimp only
  refine br_t rfl (cd_over hC (fun t b et hv => ?_) (fun hn => absurd t8 hn))
  have e1 : t = 8 := cd_nIinj (a := 8) (by omega) (by have := cd_vt16 hW hH hv; omega) et
  subst e1
  rw [cd_szB hW hH (by omega), if_neg (by omega)]
  dsimp only
  refine br_t rfl (cd_invert (x := 15) (by omega) h3 (fun b3 hb3 => ?_))
  dsimp only
  refine br_t (by decide +kernel) ?_
  have hCA := cd_CA hB hR hb3
  refine cd_over hCA (fun t b et hv => ?_) (fun hn => absurd t0 hn)
  have e1 : t = 0 := cd_nIinj (a := 0) (by omega) (by have := cd_vt16 hW hH hv; omega) et
  subst e1
  rw [cd_szA hW hH (by omega), if_neg (by omega)]
  dsimp only
  refine br_t rfl (cd_liftable hCA (fun b r hr => ?_))
  have er : r = 1 := by
    rcases hr with ⟨e, _⟩ | ⟨_, hn⟩
    · exact e
    · exact absurd ((cd_liA hW hH 0).mpr (Or.inl (cd_allZ W (by omega) H (by omega)))) hn
  dsimp only
  refine br_t er (cd_liftable hCA (fun b r hr => ?_))
  have er : r = 1 := by
    rcases hr with ⟨e, _⟩ | ⟨_, hn⟩
    · exact e
    · exact absurd ((cd_liA hW hH (cd_E W H)).mpr (Or.inr (cd_allE W (by omega) H (by omega)))) hn
  dsimp only
  refine br_t er (cd_threadAll hW (fun i j b1 ei ej hi hj hb1 _ => ?_) (fun hn => absurd ⟨⟨0, by omega, rfl⟩, ⟨1, by omega, rfl⟩⟩ hn))
  have e1 : i = 0 := cd_nIinj (a := 0) (by omega) (by omega) ei
  have e2 : j = 1 := cd_nIinj (a := 1) (by omega) (by omega) ej
  subst e1 e2
  dsimp only
  refine br_t rfl (cd_treadleAll hH (fun i j b2 ei ej hi hj hb2 _ => ?_) (fun hn => absurd ⟨⟨0, by omega, rfl⟩, ⟨1, by omega, rfl⟩⟩ hn))
  have e1 : i = 0 := cd_nIinj (a := 0) (by omega) (by omega) ei
  have e2 : j = 1 := cd_nIinj (a := 1) (by omega) (by omega) ej
  subst e1 e2
  dsimp only
  refine br_t rfl (cd_L828 hp hB (fun c hc => ?_) (fun r hr => ?_) hb3 f11 f12)
  · rw [hb1 c hc, Nat.one_mul, Nat.zero_add]
  · rw [hb2 r hr, Nat.one_mul, Nat.zero_add]
theorem cd_L734 (hp : post 1 ()) (hB : cd_B W H) (hR : cd_R a1 a2) (h3 : ∀ k, k < 4 → a3 k = nI 15) (f11 : (x11 = 1 ∧ cd_in W x2) ∨ (x11 = 0 ∧ ¬ cd_in W x2)) (f12 : (x12 = 1 ∧ cd_in H x3) ∨ (x12 = 0 ∧ ¬ cd_in H x3)) (he : z1 = 1) : wL_lawOf_734 post mc ms x2 x3 (nI W) (nI H) (cd_E W H) x11 x12 z1 kc ks (nI W) (nI H) st a1 a2 a3 a4 a5 a6 a7 a8 := by
  unfold wL_lawOf_734
  exact cd_L739 hp hB hR h3 f11 f12 he
end
end
section
/-! ===== part 8: the law's walk, the first two drafts ===== -/
section
variable {post : Int32 → St0 → Prop} {mc ms kc ks : Nat} {x2 x3 x4 x5 x11 x12 x13 x14 z0 z1 : Int32} {W H : Nat} {st : Int32} {a1 a2 a3 a4 a5 a6 a7 a8 : Nat → Int32}
theorem cd_L678 (hp : post 1 ()) (hB : cd_B W H) (hR : cd_R a1 a2) (h3 : ∀ k, k < 4 → a3 k = nI 15) (f11 : (x11 = 1 ∧ cd_in W x2) ∨ (x11 = 0 ∧ ¬ cd_in W x2)) (f12 : (x12 = 1 ∧ cd_in H x3) ∨ (x12 = 0 ∧ ¬ cd_in H x3)) (he : z1 = z0) : wL_lawOf_678 post mc ms x2 x3 x5 (nI W) (nI H) (cd_E W H) (x5 &&& cd_E W H) x11 x12 z0 z1 kc ks (nI W) (nI H) st a1 a2 a3 a4 a5 a6 a7 a8 := by
  obtain ⟨⟨hW1, hW⟩, ⟨hH1, hH⟩⟩ := id hB
  have hC := cd_CB hB hR h3
  have hfn := cd_fnB hW hH
  unfold wL_lawOf_678
  refine br_t he (cd_hangs hC (fun b4 b5 => ?_))
  dsimp only
  refine br_t (if_neg (by rw [hfn]; omega)) (cd_layers hC (fun c4 c5 => ?_))
  dsimp only
  refine br_t (by rw [hfn, nI_add]) (cd_liftable hC (fun b r hr => ?_))
  have hl := cd_liB hW hH x5
  dsimp only
  have r1 : (∀ t, t < 8 + H → cd_P cd_UB W H (x5 &&& cd_E W H) t) → r = 1 := by
    intro ha
    rcases hr with ⟨e, _⟩ | ⟨_, hn⟩
    · exact e
    · exact absurd ha hn
  refine br_c (fun y1 => cd_L734 hp hB hR h3 f11 f12 (r1 (hl.mpr (Or.inl y1)))) (fun y1 => br_c (fun y2 => cd_L734 hp hB hR h3 f11 f12 (r1 (hl.mpr (Or.inr y2)))) (fun y2 => cd_L739 hp hB hR h3 f11 f12 ?_))
  rcases hr with ⟨_, ha⟩ | ⟨e, _⟩
  · rcases hl.mp ha with z | z
    · exact absurd z y1
    · exact absurd z y2
  · exact e
theorem cd_L677 (hp : post 1 ()) (hB : cd_B W H) (hR : cd_R a1 a2) (h3 : ∀ k, k < 4 → a3 k = nI 15) (f11 : (x11 = 1 ∧ cd_in W x2) ∨ (x11 = 0 ∧ ¬ cd_in W x2)) (f12 : (x12 = 1 ∧ cd_in H x3) ∨ (x12 = 0 ∧ ¬ cd_in H x3)) (he : z1 = -1) : wL_lawOf_677 post mc ms x2 x3 x5 (nI W) (nI H) (cd_E W H) (x5 &&& cd_E W H) x11 x12 z1 kc ks (nI W) (nI H) st a1 a2 a3 a4 a5 a6 a7 a8 := by
  unfold wL_lawOf_677
  exact cd_L678 hp hB hR h3 f11 f12 he
theorem cd_L643 (hp : post 1 ()) (hB : cd_B W H) (hR : cd_R a1 a2) (h3 : ∀ k, k < 4 → a3 k = nI 0) (f11 : (x11 = 1 ∧ cd_in W x2) ∨ (x11 = 0 ∧ ¬ cd_in W x2)) (f12 : (x12 = 1 ∧ cd_in H x3) ∨ (x12 = 0 ∧ ¬ cd_in H x3)) (he : z1 = z0) : wL_lawOf_643 post mc ms x2 x3 x5 (nI W) (nI H) (cd_E W H) (x5 &&& cd_E W H) x11 x12 z0 z1 kc ks (nI W) (nI H) st a1 a2 a3 a4 a5 a6 a7 a8 := by
  unfold wL_lawOf_643
  refine br_t he (cd_invert (x := 0) (by omega) h3 (fun b3 hb3 => ?_))
  dsimp only
  have hC := cd_CB hB hR hb3
  refine br_t (by decide +kernel) (cd_above hC (fun i j ei ej hi hj => ?_) (fun hn => ?_))
  · have g1 : ¬ x11 = 0 := by
      rcases f11 with ⟨e, _⟩ | ⟨_, e⟩
      · rw [e]; decide
      · exact absurd ⟨i, hi, ei⟩ e
    have g2 : ¬ x12 = 0 := by
      rcases f12 with ⟨e, _⟩ | ⟨_, e⟩
      · rw [e]; decide
      · exact absurd ⟨j, hj, ej⟩ e
    exact br_f g1 (br_f g2 (cd_L678 hp hB hR hb3 f11 f12 rfl))
  · rcases f11 with ⟨e, g1⟩ | ⟨e, g1⟩
    · rcases f12 with ⟨e2, g2⟩ | ⟨e2, g2⟩
      · exact absurd ⟨g1, g2⟩ hn
      · exact br_f (by rw [e]; decide) (br_t e2 (cd_L677 hp hB hR hb3 (Or.inl ⟨e, g1⟩) (Or.inr ⟨e2, g2⟩) rfl))
    · exact br_t e (cd_L677 hp hB hR hb3 (Or.inr ⟨e, g1⟩) f12 rfl)
theorem cd_L621 (hp : post 1 ()) (hB : cd_B W H) (hR : cd_R a1 a2) (h3 : ∀ k, k < 4 → a3 k = (if x4 = nI k then nI 15 else nI 0)) (f11 : (x11 = 1 ∧ cd_in W x2) ∨ (x11 = 0 ∧ ¬ cd_in W x2)) (f12 : (x12 = 1 ∧ cd_in H x3) ∨ (x12 = 0 ∧ ¬ cd_in H x3)) (f13 : (x13 = 1 ∧ cd_in 4 x4) ∨ (x13 = 0 ∧ ¬ cd_in 4 x4)) (he : z1 = z0) : wL_lawOf_621 post mc ms x2 x3 x4 x5 (nI W) (nI H) (cd_E W H) (x5 &&& cd_E W H) x11 x12 x13 z0 z1 kc ks (nI W) (nI H) st a1 a2 a3 a4 a5 a6 a7 a8 := by
  unfold wL_lawOf_621
  refine br_t he (cd_tie (fun j v ej ev hj hv => ?_) (fun hn => ?_))
  · have e0 : v = 0 := cd_nIinj (a := 0) (by omega) (by omega) ev
    subst e0
    have g : ¬ x13 = 0 := by
      rcases f13 with ⟨e, _⟩ | ⟨_, e⟩
      · rw [e]; decide
      · exact absurd ⟨j, hj, ej⟩ e
    dsimp only
    refine br_f g (cd_L643 hp hB hR (fun k hk => ?_) f11 f12 ?_)
    · by_cases e : k = j
      · rw [e, pk_us]
      · rw [pk_un e, h3 k hk, if_neg (fun z => e (cd_nIinj (by omega) (by omega) (ej.symm.trans z)))]
    · rw [h3 j hj, if_pos ej]; rfl
  · have hn4 : ¬ cd_in 4 x4 := fun z => hn ⟨z, 0, by omega, rfl⟩
    have g : x13 = 0 := by
      rcases f13 with ⟨_, e⟩ | ⟨e, _⟩
      · exact absurd e hn4
      · exact e
    dsimp only
    refine br_t g (cd_L643 hp hB hR (fun k hk => ?_) f11 f12 rfl)
    rw [h3 k hk, if_neg (fun z => hn4 ⟨k, hk, z⟩)]
theorem cd_L597 (hp : post 1 ()) (hB : cd_B W H) (hR : cd_R a1 a2) (h3 : ∀ k, k < 4 → a3 k = nI 0) (f11 : (x11 = 1 ∧ cd_in W x2) ∨ (x11 = 0 ∧ ¬ cd_in W x2)) (f12 : (x12 = 1 ∧ cd_in H x3) ∨ (x12 = 0 ∧ ¬ cd_in H x3)) (f13 : (x13 = 1 ∧ cd_in 4 x4) ∨ (x13 = 0 ∧ ¬ cd_in 4 x4)) (he : z1 = z0) : wL_lawOf_597 post mc ms x2 x3 x4 x5 (nI W) (nI H) (cd_E W H) (x5 &&& cd_E W H) x11 x12 x13 z0 z1 kc ks (nI W) (nI H) st a1 a2 a3 a4 a5 a6 a7 a8 := by
  unfold wL_lawOf_597
  refine br_t he (cd_tie (fun j v ej ev hj hv => ?_) (fun hn => ?_))
  · have e0 : v = 15 := cd_nIinj (a := 15) (by omega) (by omega) ev
    subst e0
    have g : ¬ x13 = 0 := by
      rcases f13 with ⟨e, _⟩ | ⟨_, e⟩
      · rw [e]; decide
      · exact absurd ⟨j, hj, ej⟩ e
    dsimp only
    refine br_f g (cd_L621 hp hB hR (fun k hk => ?_) f11 f12 f13 ?_)
    · by_cases e : k = j
      · rw [e, pk_us, if_pos ej]
      · rw [pk_un e, h3 k hk, if_neg (fun z => e (cd_nIinj (by omega) (by omega) (ej.symm.trans z)))]
    · rw [h3 j hj]; rfl
  · have hn4 : ¬ cd_in 4 x4 := fun z => hn ⟨z, 15, by omega, rfl⟩
    have g : x13 = 0 := by
      rcases f13 with ⟨_, e⟩ | ⟨e, _⟩
      · exact absurd e hn4
      · exact e
    dsimp only
    refine br_t g (cd_L621 hp hB hR (fun k hk => ?_) f11 f12 f13 rfl)
    rw [h3 k hk, if_neg (fun z => hn4 ⟨k, hk, z⟩)]
theorem cd_mod4 (n : Nat) : ∃ t, t < 4 ∧ nI (n % 4) = nI t := ⟨n % 4, Nat.mod_lt _ (by omega), rfl⟩
theorem cd_L575 (hp : post 1 ()) (hB : cd_B W H) (hR : cd_R a1 a2) (h3 : ∀ k, k < 4 → a3 k = nI 0) (f11 : (x11 = 1 ∧ cd_in W x2) ∨ (x11 = 0 ∧ ¬ cd_in W x2)) (f12 : (x12 = 1 ∧ cd_in H x3) ∨ (x12 = 0 ∧ ¬ cd_in H x3)) (f13 : (x13 = 1 ∧ cd_in 4 x4) ∨ (x13 = 0 ∧ ¬ cd_in 4 x4)) (he : z1 = z0) : wL_lawOf_575 post mc ms x2 x3 x4 x5 (nI W) (nI H) (cd_E W H) (x5 &&& cd_E W H) x11 x12 x13 z0 z1 kc ks (nI W) (nI H) st a1 a2 a3 a4 a5 a6 a7 a8 := by
  obtain ⟨⟨hW1, hW⟩, ⟨hH1, hH⟩⟩ := id hB
  unfold wL_lawOf_575
  refine br_t he (cd_treadleAll hH (fun i j b ei ej hi hj hb1 hb2 => ?_) (fun hn => ?_))
  · have g : ¬ x13 = 0 := by
      rcases f13 with ⟨e, _⟩ | ⟨_, e⟩
      · rw [e]; decide
      · exact absurd ⟨j, hj, ej⟩ e
    dsimp only
    refine br_f g (cd_L597 hp hB ⟨hR.1, fun k hk => ?_⟩ h3 f11 f12 f13 rfl)
    by_cases hkH : k < H
    · rw [hb1 k hkH]; exact cd_mod4 _
    · rw [hb2 k (by omega)]; exact hR.2 k hk
  · have hn4 : ¬ cd_in 4 x4 := fun z => hn ⟨z, z⟩
    have g : x13 = 0 := by
      rcases f13 with ⟨_, e⟩ | ⟨e, _⟩
      · exact absurd e hn4
      · exact e
    dsimp only
    exact br_t g (cd_L597 hp hB hR h3 f11 f12 f13 rfl)
theorem cd_n4 : ¬ cd_in 4 4 := cd_in_big (N := 4) (j := 4) (by omega) (by omega)
theorem cd_n16 : ¬ cd_in 16 16 := cd_in_big (N := 16) (j := 16) (by omega) (by omega)
theorem cd_nm (N : Nat) (hN : N < 2 ^ 31) : ¬ cd_in N (-1) := cd_in_neg hN (by decide)
theorem cd_L462 (hp : post 1 ()) (hB : cd_B W H) (hR : cd_R a1 a2) (h3 : ∀ k, k < 4 → a3 k = nI 0) (f11 : (x11 = 1 ∧ cd_in W x2) ∨ (x11 = 0 ∧ ¬ cd_in W x2)) (f12 : (x12 = 1 ∧ cd_in H x3) ∨ (x12 = 0 ∧ ¬ cd_in H x3)) (f13 : (x13 = 1 ∧ cd_in 4 x4) ∨ (x13 = 0 ∧ ¬ cd_in 4 x4)) (he : z1 = z0) : wL_lawOf_462 post mc ms x2 x3 x4 x5 (nI W) (nI H) (cd_E W H) (x5 &&& cd_E W H) x11 x12 x13 z0 z1 kc ks (nI W) (nI H) st a1 a2 a3 a4 a5 a6 a7 a8 := by
  obtain ⟨⟨hW1, hW⟩, ⟨hH1, hH⟩⟩ := id hB
  have hC := cd_CA hB hR h3
  unfold wL_lawOf_462
  refine br_t he (cd_thread hW (fun i j _ ej _ hj => absurd ⟨j, hj, ej⟩ cd_n4) (fun _ => ?_))
  dsimp only
  refine br_t rfl (cd_treadle hH (fun i j _ ej _ hj => absurd ⟨j, hj, ej⟩ (cd_nm 4 (by omega))) (fun _ => ?_))
  dsimp only
  refine br_t rfl (cd_tie (fun j v _ ev _ hv => absurd ⟨v, hv, ev⟩ cd_n16) (fun _ => ?_))
  dsimp only
  refine br_t rfl (cd_tie (fun j v _ ev _ hv => absurd ⟨v, hv, ev⟩ (cd_nm 16 (by omega))) (fun _ => ?_))
  dsimp only
  refine br_t rfl (cd_shafts hC (fun b => ?_))
  rw [cd_dfA1 W (by omega) H (by omega) hW1]
  dsimp only
  refine br_t rfl (cd_treadles hC (fun b => ?_))
  rw [cd_dfA2 W (by omega) H (by omega) hH1]
  dsimp only
  refine br_t rfl (cd_threadAll hW (fun i j _ _ ej _ hj _ _ => absurd ⟨j, hj, ej⟩ cd_n4) (fun _ => ?_))
  dsimp only
  refine br_t rfl (cd_treadleAll hH (fun i j _ ei _ hi _ _ _ => absurd ⟨i, hi, ei⟩ (cd_nm 4 (by omega))) (fun _ => ?_))
  dsimp only
  refine br_t rfl (cd_threadAll hW (fun i j b ei ej hi hj hb1 hb2 => ?_) (fun hn => ?_))
  · have g : ¬ x13 = 0 := by
      rcases f13 with ⟨e, _⟩ | ⟨_, e⟩
      · rw [e]; decide
      · exact absurd ⟨j, hj, ej⟩ e
    dsimp only
    refine br_f g (cd_L575 hp hB ⟨fun k hk => ?_, hR.2⟩ h3 f11 f12 f13 rfl)
    by_cases hkH : k < W
    · rw [hb1 k hkH]; exact cd_mod4 _
    · rw [hb2 k (by omega)]; exact hR.1 k hk
  · have hn4 : ¬ cd_in 4 x4 := fun z => hn ⟨z, z⟩
    have g : x13 = 0 := by
      rcases f13 with ⟨_, e⟩ | ⟨e, _⟩
      · exact absurd e hn4
      · exact e
    dsimp only
    exact br_t g (cd_L575 hp hB hR h3 f11 f12 f13 rfl)
theorem cd_L461 (hp : post 1 ()) (hB : cd_B W H) (hR : cd_R a1 a2) (h3 : ∀ k, k < 4 → a3 k = nI 0) (f11 : (x11 = 1 ∧ cd_in W x2) ∨ (x11 = 0 ∧ ¬ cd_in W x2)) (f12 : (x12 = 1 ∧ cd_in H x3) ∨ (x12 = 0 ∧ ¬ cd_in H x3)) (f13 : (x13 = 1 ∧ cd_in 4 x4) ∨ (x13 = 0 ∧ ¬ cd_in 4 x4)) (he : z1 = -1) : wL_lawOf_461 post mc ms x2 x3 x4 x5 (nI W) (nI H) (cd_E W H) (x5 &&& cd_E W H) x11 x12 x13 z1 kc ks (nI W) (nI H) st a1 a2 a3 a4 a5 a6 a7 a8 := by
  unfold wL_lawOf_461
  exact cd_L462 hp hB hR h3 f11 f12 f13 he
theorem cd_L436 (hp : post 1 ()) (hB : cd_B W H) (hR : ∀ i, i < 8 → ∃ t, t < 4 ∧ a1 i = nI t) (h2 : ∀ i, i < 8 → a2 i = nI 0) (h3 : ∀ k, k < 4 → a3 k = nI 0) (f11 : (x11 = 1 ∧ cd_in W x2) ∨ (x11 = 0 ∧ ¬ cd_in W x2)) (f12 : (x12 = 1 ∧ cd_in H x3) ∨ (x12 = 0 ∧ ¬ cd_in H x3)) (f13 : (x13 = 1 ∧ cd_in 4 x4) ∨ (x13 = 0 ∧ ¬ cd_in 4 x4)) (he : z1 = z0) : wL_lawOf_436 post mc ms x2 x3 x4 x5 (nI W) (nI H) (cd_E W H) (x5 &&& cd_E W H) x11 x12 x13 z0 z1 kc ks (nI W) (nI H) st a1 a2 a3 a4 a5 a6 a7 a8 := by
  obtain ⟨⟨hW1, hW⟩, ⟨hH1, hH⟩⟩ := id hB
  have hR2 : ∀ i, i < 8 → ∃ t, t < 4 ∧ a2 i = nI t := fun i hi => ⟨0, by omega, h2 i hi⟩
  unfold wL_lawOf_436
  refine br_t he (cd_treadle hH (fun i j ei ej hi hj => ?_) (fun hn => ?_))
  · have g1 : ¬ x12 = 0 := by
      rcases f12 with ⟨e, _⟩ | ⟨_, e⟩
      · rw [e]; decide
      · exact absurd ⟨i, hi, ei⟩ e
    have g2 : ¬ x13 = 0 := by
      rcases f13 with ⟨e, _⟩ | ⟨_, e⟩
      · rw [e]; decide
      · exact absurd ⟨j, hj, ej⟩ e
    dsimp only
    refine br_f g1 (br_f g2 (cd_L462 hp hB ⟨hR, fun k hk => ?_⟩ h3 f11 f12 f13 (h2 i (by omega))))
    by_cases e : k = i
    · rw [e, pk_us]; exact ⟨j, hj, rfl⟩
    · rw [pk_un e]; exact hR2 k hk
  · dsimp only
    rcases f12 with ⟨e, g1⟩ | ⟨e, g1⟩
    · rcases f13 with ⟨e2, g2⟩ | ⟨e2, g2⟩
      · exact absurd ⟨g1, g2⟩ hn
      · exact br_f (by rw [e]; decide) (br_t e2 (cd_L461 hp hB ⟨hR, hR2⟩ h3 f11 (Or.inl ⟨e, g1⟩) (Or.inr ⟨e2, g2⟩) rfl))
    · exact br_t e (cd_L461 hp hB ⟨hR, hR2⟩ h3 f11 (Or.inr ⟨e, g1⟩) f13 rfl)
theorem cd_L435 (hp : post 1 ()) (hB : cd_B W H) (hR : ∀ i, i < 8 → ∃ t, t < 4 ∧ a1 i = nI t) (h2 : ∀ i, i < 8 → a2 i = nI 0) (h3 : ∀ k, k < 4 → a3 k = nI 0) (f11 : (x11 = 1 ∧ cd_in W x2) ∨ (x11 = 0 ∧ ¬ cd_in W x2)) (f12 : (x12 = 1 ∧ cd_in H x3) ∨ (x12 = 0 ∧ ¬ cd_in H x3)) (f13 : (x13 = 1 ∧ cd_in 4 x4) ∨ (x13 = 0 ∧ ¬ cd_in 4 x4)) (he : z1 = -1) : wL_lawOf_435 post mc ms x2 x3 x4 x5 (nI W) (nI H) (cd_E W H) (x5 &&& cd_E W H) x11 x12 x13 z1 kc ks (nI W) (nI H) st a1 a2 a3 a4 a5 a6 a7 a8 := by
  unfold wL_lawOf_435
  exact cd_L436 hp hB hR h2 h3 f11 f12 f13 he
theorem cd_L408 (hp : post 1 ()) (hB : cd_B W H) (h1 : ∀ i, i < 8 → a1 i = nI 0) (h2 : ∀ i, i < 8 → a2 i = nI 0) (h3 : ∀ k, k < 4 → a3 k = nI 0) (f11 : (x11 = 1 ∧ cd_in W x2) ∨ (x11 = 0 ∧ ¬ cd_in W x2)) (f12 : (x12 = 1 ∧ cd_in H x3) ∨ (x12 = 0 ∧ ¬ cd_in H x3)) (f13 : (x13 = 1 ∧ cd_in 4 x4) ∨ (x13 = 0 ∧ ¬ cd_in 4 x4)) (he : z1 = z0) : wL_lawOf_408 post mc ms x2 x3 x4 x5 (nI W) (nI H) (cd_E W H) (x5 &&& cd_E W H) x11 x12 x13 z0 z1 kc ks (nI W) (nI H) st a1 a2 a3 a4 a5 a6 a7 a8 := by
  obtain ⟨⟨hW1, hW⟩, ⟨hH1, hH⟩⟩ := id hB
  have hR1 : ∀ i, i < 8 → ∃ t, t < 4 ∧ a1 i = nI t := fun i hi => ⟨0, by omega, h1 i hi⟩
  unfold wL_lawOf_408
  refine br_t he (cd_thread hW (fun i j ei ej hi hj => ?_) (fun hn => ?_))
  · have g1 : ¬ x11 = 0 := by
      rcases f11 with ⟨e, _⟩ | ⟨_, e⟩
      · rw [e]; decide
      · exact absurd ⟨i, hi, ei⟩ e
    have g2 : ¬ x13 = 0 := by
      rcases f13 with ⟨e, _⟩ | ⟨_, e⟩
      · rw [e]; decide
      · exact absurd ⟨j, hj, ej⟩ e
    dsimp only
    refine br_f g1 (br_f g2 (cd_L436 hp hB (fun k hk => ?_) h2 h3 f11 f12 f13 (h1 i (by omega))))
    by_cases e : k = i
    · rw [e, pk_us]; exact ⟨j, hj, rfl⟩
    · rw [pk_un e]; exact hR1 k hk
  · dsimp only
    rcases f11 with ⟨e, g1⟩ | ⟨e, g1⟩
    · rcases f13 with ⟨e2, g2⟩ | ⟨e2, g2⟩
      · exact absurd ⟨g1, g2⟩ hn
      · exact br_f (by rw [e]; decide) (br_t e2 (cd_L435 hp hB hR1 h2 h3 (Or.inl ⟨e, g1⟩) f12 (Or.inr ⟨e2, g2⟩) rfl))
    · exact br_t e (cd_L435 hp hB hR1 h2 h3 (Or.inr ⟨e, g1⟩) f12 f13 rfl)
theorem cd_L403 (hp : post 1 ()) (hB : cd_B W H) (h1 : ∀ i, i < 8 → a1 i = nI 0) (h2 : ∀ i, i < 8 → a2 i = nI 0) (h3 : ∀ k, k < 4 → a3 k = nI 0) (f11 : (x11 = 1 ∧ cd_in W x2) ∨ (x11 = 0 ∧ ¬ cd_in W x2)) (f12 : (x12 = 1 ∧ cd_in H x3) ∨ (x12 = 0 ∧ ¬ cd_in H x3)) (f13 : (x13 = 1 ∧ cd_in 4 x4) ∨ (x13 = 0 ∧ ¬ cd_in 4 x4)) (he : z1 = 1) : wL_lawOf_403 post mc ms x2 x3 x4 x5 (nI W) (nI H) (cd_E W H) (x5 &&& cd_E W H) x11 x12 x13 z1 kc ks (nI W) (nI H) st a1 a2 a3 a4 a5 a6 a7 a8 := by
  unfold wL_lawOf_403
  exact cd_L408 hp hB h1 h2 h3 f11 f12 f13 he
theorem cd_L358 (hp : post 1 ()) (hB : cd_B W H) (h1 : ∀ i, i < 8 → a1 i = nI 0) (h2 : ∀ i, i < 8 → a2 i = nI 0) (h3 : ∀ k, k < 4 → a3 k = nI 0) (f11 : (x11 = 1 ∧ cd_in W x2) ∨ (x11 = 0 ∧ ¬ cd_in W x2)) (f12 : (x12 = 1 ∧ cd_in H x3) ∨ (x12 = 0 ∧ ¬ cd_in H x3)) (f13 : (x13 = 1 ∧ cd_in 4 x4) ∨ (x13 = 0 ∧ ¬ cd_in 4 x4)) (he : z1 = z0) : wL_lawOf_358 post mc ms x2 x3 x4 x5 (nI W) (nI H) (cd_E W H) (x5 &&& cd_E W H) x11 x12 x13 z0 z1 kc ks (nI W) (nI H) st a1 a2 a3 a4 a5 a6 a7 a8 := by
  obtain ⟨⟨hW1, hW⟩, ⟨hH1, hH⟩⟩ := id hB
  have hC := cd_CA hB ⟨fun i hi => ⟨0, by omega, h1 i hi⟩, fun i hi => ⟨0, by omega, h2 i hi⟩⟩ h3
  unfold wL_lawOf_358
  refine br_t he (cd_together hC (fun t s b4 b5 et es hvt hvs => absurd ⟨s, es, hvs⟩ (cd_t16 hW hH)) (fun _ => ?_))
  dsimp only
  refine br_t rfl (cd_liftable hC (fun b r hr => ?_))
  have hl := cd_liA hW hH x5
  dsimp only
  have r1 : (∀ t, t < 8 + H → cd_P cd_UA W H (x5 &&& cd_E W H) t) → r = 1 := by
    intro ha
    rcases hr with ⟨e, _⟩ | ⟨_, hn⟩
    · exact e
    · exact absurd ha hn
  refine br_c (fun y1 => cd_L403 hp hB h1 h2 h3 f11 f12 f13 (r1 (hl.mpr (Or.inl y1)))) (fun y1 => br_c (fun y2 => cd_L403 hp hB h1 h2 h3 f11 f12 f13 (r1 (hl.mpr (Or.inr y2)))) (fun y2 => cd_L408 hp hB h1 h2 h3 f11 f12 f13 ?_))
  rcases hr with ⟨_, ha⟩ | ⟨e, _⟩
  · rcases hl.mp ha with z | z
    · exact absurd z y1
    · exact absurd z y2
  · exact e
end
end
section
/-! ===== part 9: the law's walk, its beginning ===== -/
theorem cd_ones : ∀ W, W < 9 → ∀ i, i < W → (2 ^ W - 1) / 2 ^ (0 + i) % 2 = 1 := by decide +kernel
section
variable {post : Int32 → St0 → Prop} {mc ms kc ks : Nat} {x2 x3 x4 x5 x11 x12 x13 x14 z0 z1 : Int32} {W H : Nat} {st : Int32} {a1 a2 a3 a4 a5 a6 a7 a8 : Nat → Int32}
theorem cd_L249 (hp : post 1 ()) (hB : cd_B W H) (h1 : ∀ i, i < 8 → a1 i = nI 0) (h2 : ∀ i, i < 8 → a2 i = nI 0) (h3 : ∀ k, k < 4 → a3 k = nI 0) (f11 : (x11 = 1 ∧ cd_in W x2) ∨ (x11 = 0 ∧ ¬ cd_in W x2)) (f12 : (x12 = 1 ∧ cd_in H x3) ∨ (x12 = 0 ∧ ¬ cd_in H x3)) (f13 : (x13 = 1 ∧ cd_in 4 x4) ∨ (x13 = 0 ∧ ¬ cd_in 4 x4)) (f14 : (x14 = 1 ∧ cd_th W H x2) ∨ (x14 = 0 ∧ ¬ cd_th W H x2)) (he : z1 = z0) : wL_lawOf_249 post mc ms x2 x3 x4 x5 (nI W) (nI H) (cd_E W H) (x5 &&& cd_E W H) x11 x12 x13 x14 z0 z1 kc ks (nI W) (nI H) st a1 a2 a3 a4 a5 a6 a7 a8 := by
  obtain ⟨⟨hW1, hW⟩, ⟨hH1, hH⟩⟩ := id hB
  have hC := cd_CA hB ⟨fun i hi => ⟨0, by omega, h1 i hi⟩, fun i hi => ⟨0, by omega, h2 i hi⟩⟩ h3
  have hfn := cd_fnA hW hH
  unfold wL_lawOf_249
  refine br_t he (cd_shafts hC (fun b => ?_))
  rw [cd_dfA1 W (by omega) H (by omega) hW1]
  dsimp only
  refine br_t rfl (cd_treadles hC (fun b => ?_))
  rw [cd_dfA2 W (by omega) H (by omega) hH1]
  dsimp only
  refine br_t rfl (cd_hangs hC (fun b4 b5 => ?_))
  dsimp only
  refine br_t (if_neg (by rw [hfn]; omega)) (cd_layers hC (fun c4 c5 => ?_))
  dsimp only
  refine br_t (by rw [hfn, nI_add]) (cd_lifts hC hfn (fun j hj => ((cd_GA hW hH (fun _ => 0) _ (fun _ => 0)).1 j hj).1) (fun j hj => ((cd_GA hW hH (fun _ => 0) (fun _ => 0) _).1 j hj).2) (fun d4 d5 => ?_))
  dsimp only
  refine br_t rfl (cd_divisions hC hfn (fun j hj => ((cd_GA hW hH (fun _ => 0) _ (fun _ => 0)).1 j hj).1) (fun j hj => ((cd_GA hW hH (fun _ => 0) (fun _ => 0) _).1 j hj).2) (fun e4 e5 => ?_))
  dsimp only
  refine cd_product hW1 hW (cd_product hH1 hH (br_t rfl (cd_together hC (fun t s g4 g5 et es hvt hvs => ?_) (fun hn => ?_))))
  · have hs : s = 0 := cd_nIinj (a := 0) (by omega) (by have := cd_vt16 hW hH hvs; omega) es
    have ht := cd_vt16 hW hH hvt
    have q0 : ∀ a : Nat → Int32, cd_G6 cd_UA W H a 0 = nI H := fun a => (cd_GA hW hH a a a).2.1 0 (by omega)
    have g : ¬ x14 = 0 := by
      rcases f14 with ⟨e, _⟩ | ⟨_, e⟩
      · rw [e]; decide
      · exact absurd ⟨t, et, hvt⟩ e
    subst hs
    dsimp only
    refine br_f g (br_c (fun ex => cd_L358 hp hB h1 h2 h3 f11 f12 f13 ?_) (fun ex => cd_L358 hp hB h1 h2 h3 f11 f12 f13 ?_))
    · have ht0 : t = 0 := cd_nIinj (a := 0) (by omega) (by omega) (ex.symm.trans et)
      rw [ht0]
      exact if_pos rfl
    · refine if_neg (fun z => ex ?_)
      rw [q0] at z
      rcases hvt with v | ⟨v1, v2⟩
      · rw [(cd_GA hW hH _ (fun _ => 0) (fun _ => 0)).2.1 t v] at z
        have := (nI_eq (by omega) (by omega)).mp z
        rw [et, show t = 0 by omega]
        rfl
      · have e8 := (cd_GA hW hH (cd_G6 cd_UA W H (cd_G6 cd_UA W H (cd_G6 cd_UA W H (cd_G6 cd_UA W H a6)))) (fun _ => 0) (fun _ => 0)).2.2 (t - 8) (by omega)
        rw [show 8 + (t - 8) = t by omega] at e8
        rw [e8] at z
        have := (nI_eq (by omega) (by omega)).mp z
        omega
  · have hn2 : ¬ cd_th W H x2 := fun z => hn ⟨z, cd_t0 hW1⟩
    have g : x14 = 0 := by
      rcases f14 with ⟨_, e⟩ | ⟨e, _⟩
      · exact absurd e hn2
      · exact e
    dsimp only
    exact br_t g (cd_L358 hp hB h1 h2 h3 f11 f12 f13 rfl)
theorem cd_L218 (hp : post 1 ()) (hB : cd_B W H) (h1 : ∀ i, i < 8 → a1 i = nI 0) (h2 : ∀ i, i < 8 → a2 i = nI 0) (h3 : ∀ k, k < 4 → a3 k = nI 0) (f11 : (x11 = 1 ∧ cd_in W x2) ∨ (x11 = 0 ∧ ¬ cd_in W x2)) (f12 : (x12 = 1 ∧ cd_in H x3) ∨ (x12 = 0 ∧ ¬ cd_in H x3)) (f13 : (x13 = 1 ∧ cd_in 4 x4) ∨ (x13 = 0 ∧ ¬ cd_in 4 x4)) (f14 : (x14 = 1 ∧ cd_th W H x2) ∨ (x14 = 0 ∧ ¬ cd_th W H x2)) (he : z1 = z0) : wL_lawOf_218 post mc ms x2 x3 x4 x5 (nI W) (nI H) (cd_E W H) (x5 &&& cd_E W H) x11 x12 x13 x14 z0 z1 kc ks (nI W) (nI H) st a1 a2 a3 a4 a5 a6 a7 a8 := by
  obtain ⟨⟨hW1, hW⟩, ⟨hH1, hH⟩⟩ := id hB
  have hC := cd_CA hB ⟨fun i hi => ⟨0, by omega, h1 i hi⟩, fun i hi => ⟨0, by omega, h2 i hi⟩⟩ h3
  unfold wL_lawOf_218
  refine br_t he (cd_longest hC (fun t hv => ?_) (fun t b et hv => ?_) (fun hn => ?_))
  · have ht := cd_vt16 hW hH hv
    rw [cd_unA W (by omega) H (by omega) t ht]
    by_cases h8 : t < 8
    · refine ⟨0, by omega, fun i _ => ?_⟩
      rw [if_neg (show ¬ (8 ≤ t ∧ t < 8 + H) by omega), Nat.zero_div]
    · refine ⟨1, by omega, fun i hi => ?_⟩
      unfold cd_vt at hv
      rw [if_neg h8] at hi
      rw [if_pos (show 8 ≤ t ∧ t < 8 + H by omega), if_neg h8]
      exact cd_ones W (by omega) i hi
  · have ht := cd_vt16 hW hH hv
    have g : ¬ x14 = 0 := by
      rcases f14 with ⟨e, _⟩ | ⟨_, e⟩
      · rw [e]; decide
      · exact absurd ⟨t, et, hv⟩ e
    dsimp only
    refine br_f g (pk_le 8 t (fun y => cd_L249 hp hB h1 h2 h3 f11 f12 f13 f14 ?_) (fun y => cd_L249 hp hB h1 h2 h3 f11 f12 f13 f14 ?_) rfl et)
    · rw [if_neg (by omega)]
    · rw [if_pos (by omega)]
  · have g : x14 = 0 := by
      rcases f14 with ⟨_, e⟩ | ⟨e, _⟩
      · exact absurd e hn
      · exact e
    dsimp only
    exact br_t g (cd_L249 hp hB h1 h2 h3 f11 f12 f13 f14 rfl)
theorem cd_L188 (hp : post 1 ()) (hB : cd_B W H) (h1 : ∀ i, i < 8 → a1 i = nI 0) (h2 : ∀ i, i < 8 → a2 i = nI 0) (h3 : ∀ k, k < 4 → a3 k = nI 0) (f11 : (x11 = 1 ∧ cd_in W x2) ∨ (x11 = 0 ∧ ¬ cd_in W x2)) (f12 : (x12 = 1 ∧ cd_in H x3) ∨ (x12 = 0 ∧ ¬ cd_in H x3)) (f13 : (x13 = 1 ∧ cd_in 4 x4) ∨ (x13 = 0 ∧ ¬ cd_in 4 x4)) (f14 : (x14 = 1 ∧ cd_th W H x2) ∨ (x14 = 0 ∧ ¬ cd_th W H x2)) (he : z1 = z0) : wL_lawOf_188 post mc ms x2 x3 x4 x5 (nI W) (nI H) (cd_E W H) (x5 &&& cd_E W H) x11 x12 x13 x14 z0 z1 kc ks (nI W) (nI H) st a1 a2 a3 a4 a5 a6 a7 a8 := by
  obtain ⟨⟨hW1, hW⟩, ⟨hH1, hH⟩⟩ := id hB
  have hC := cd_CA hB ⟨fun i hi => ⟨0, by omega, h1 i hi⟩, fun i hi => ⟨0, by omega, h2 i hi⟩⟩ h3
  unfold wL_lawOf_188
  refine br_t he (cd_over hC (fun t b et hv => ?_) (fun hn => ?_))
  · have ht := cd_vt16 hW hH hv
    have hv' := hv
    unfold cd_vt at hv'
    have g : ¬ x14 = 0 := by
      rcases f14 with ⟨e, _⟩ | ⟨_, e⟩
      · rw [e]; decide
      · exact absurd ⟨t, et, hv⟩ e
    rw [cd_szA hW hH ht]
    dsimp only
    refine br_f g (pk_le 8 t (fun y => cd_L218 hp hB h1 h2 h3 f11 f12 f13 f14 ?_) (fun y => cd_L218 hp hB h1 h2 h3 f11 f12 f13 f14 ?_) rfl et)
    · rw [if_pos (by omega)]
    · rw [if_neg (by omega)]; rfl
  · have g : x14 = 0 := by
      rcases f14 with ⟨_, e⟩ | ⟨e, _⟩
      · exact absurd e hn
      · exact e
    dsimp only
    exact br_t g (cd_L218 hp hB h1 h2 h3 f11 f12 f13 f14 rfl)
theorem cd_L187 (hp : post 1 ()) (hB : cd_B W H) (h1 : ∀ i, i < 8 → a1 i = nI 0) (h2 : ∀ i, i < 8 → a2 i = nI 0) (h3 : ∀ k, k < 4 → a3 k = nI 0) (f11 : (x11 = 1 ∧ cd_in W x2) ∨ (x11 = 0 ∧ ¬ cd_in W x2)) (f12 : (x12 = 1 ∧ cd_in H x3) ∨ (x12 = 0 ∧ ¬ cd_in H x3)) (f13 : (x13 = 1 ∧ cd_in 4 x4) ∨ (x13 = 0 ∧ ¬ cd_in 4 x4)) (f14 : (x14 = 1 ∧ cd_th W H x2) ∨ (x14 = 0 ∧ ¬ cd_th W H x2)) (he : z1 = -1) : wL_lawOf_187 post mc ms x2 x3 x4 x5 (nI W) (nI H) (cd_E W H) (x5 &&& cd_E W H) x11 x12 x13 x14 z1 kc ks (nI W) (nI H) st a1 a2 a3 a4 a5 a6 a7 a8 := by
  unfold wL_lawOf_187
  exact cd_L188 hp hB h1 h2 h3 f11 f12 f13 f14 he
theorem cd_L164 (hp : post 1 ()) (hB : cd_B W H) (h1 : ∀ i, i < 8 → a1 i = nI 0) (h2 : ∀ i, i < 8 → a2 i = nI 0) (h3 : ∀ k, k < 4 → a3 k = nI 0) (f11 : (x11 = 1 ∧ cd_in W x2) ∨ (x11 = 0 ∧ ¬ cd_in W x2)) (f12 : (x12 = 1 ∧ cd_in H x3) ∨ (x12 = 0 ∧ ¬ cd_in H x3)) (f13 : (x13 = 1 ∧ cd_in 4 x4) ∨ (x13 = 0 ∧ ¬ cd_in 4 x4)) (f14 : (x14 = 1 ∧ cd_th W H x2) ∨ (x14 = 0 ∧ ¬ cd_th W H x2)) : wL_lawOf_164 post mc ms x2 x3 x4 x5 (nI W) (nI H) (cd_E W H) (x5 &&& cd_E W H) x11 x12 x13 x14 kc ks (nI W) (nI H) st a1 a2 a3 a4 a5 a6 a7 a8 := by
  have hC := cd_CA hB ⟨fun i hi => ⟨0, by omega, h1 i hi⟩, fun i hi => ⟨0, by omega, h2 i hi⟩⟩ h3
  unfold wL_lawOf_164
  refine cd_above hC (fun i j ei ej hi hj => ?_) (fun hn => ?_)
  · have g1 : ¬ x11 = 0 := by
      rcases f11 with ⟨e, _⟩ | ⟨_, e⟩
      · rw [e]; decide
      · exact absurd ⟨i, hi, ei⟩ e
    have g2 : ¬ x12 = 0 := by
      rcases f12 with ⟨e, _⟩ | ⟨_, e⟩
      · rw [e]; decide
      · exact absurd ⟨j, hj, ej⟩ e
    exact br_f g1 (br_f g2 (cd_L188 hp hB h1 h2 h3 f11 f12 f13 f14 rfl))
  · rcases f11 with ⟨e, g1⟩ | ⟨e, g1⟩
    · rcases f12 with ⟨e2, g2⟩ | ⟨e2, g2⟩
      · exact absurd ⟨g1, g2⟩ hn
      · exact br_f (by rw [e]; decide) (br_t e2 (cd_L187 hp hB h1 h2 h3 (Or.inl ⟨e, g1⟩) (Or.inr ⟨e2, g2⟩) f13 f14 rfl))
    · exact br_t e (cd_L187 hp hB h1 h2 h3 (Or.inr ⟨e, g1⟩) f12 f13 f14 rfl)
theorem cd_L132 (hp : post 1 ()) (hB : cd_B W H) (h1 : ∀ i, i < 8 → a1 i = nI 0) (h2 : ∀ i, i < 8 → a2 i = nI 0) (h3 : ∀ k, k < 4 → a3 k = nI 0) (f11 : (x11 = 1 ∧ cd_in W x2) ∨ (x11 = 0 ∧ ¬ cd_in W x2)) (f12 : (x12 = 1 ∧ cd_in H x3) ∨ (x12 = 0 ∧ ¬ cd_in H x3)) (f13 : (x13 = 1 ∧ cd_in 4 x4) ∨ (x13 = 0 ∧ ¬ cd_in 4 x4)) : wL_lawOf_132 post mc ms x2 x3 x4 x5 (nI W) (nI H) (cd_E W H) (x5 &&& cd_E W H) x11 x12 x13 kc ks (nI W) (nI H) st a1 a2 a3 a4 a5 a6 a7 a8 := by
  obtain ⟨⟨hW1, hW⟩, ⟨hH1, hH⟩⟩ := id hB
  have bad : ¬ cd_th W H x2 → wL_lawOf_163 post mc ms x2 x3 x4 x5 (nI W) (nI H) (cd_E W H) (x5 &&& cd_E W H) x11 x12 x13 kc ks (nI W) (nI H) st a1 a2 a3 a4 a5 a6 a7 a8 := by
    intro hn
    unfold wL_lawOf_163
    exact cd_L164 hp hB h1 h2 h3 f11 f12 f13 (Or.inr ⟨rfl, hn⟩)
  have good : cd_th W H x2 → wL_lawOf_159 post mc ms x2 x3 x4 x5 (nI W) (nI H) (cd_E W H) (x5 &&& cd_E W H) x11 x12 x13 kc ks (nI W) (nI H) st a1 a2 a3 a4 a5 a6 a7 a8 := by
    intro hn
    unfold wL_lawOf_159
    exact cd_L164 hp hB h1 h2 h3 f11 f12 f13 (Or.inl ⟨rfl, hn⟩)
  unfold wL_lawOf_132
  by_cases hc : x2 < 0
  · refine br_t hc (bad ?_)
    rintro ⟨t, e, ht⟩
    unfold cd_vt at ht
    rw [e] at hc
    exact nI_pos (by omega) hc
  · obtain ⟨j, hj, ej⟩ := nI_of hc
    have hbad : ¬ cd_vt W H j → ¬ cd_th W H x2 := by
      rintro hn ⟨t, e, ht⟩
      have ht' := ht
      unfold cd_vt at ht'
      have := (nI_eq hj (by omega)).mp (ej.symm.trans e)
      rw [this] at hn
      exact hn ht
    refine br_f hc (pk_lt j W (fun y => good ⟨j, ej, ?_⟩) (fun y => pk_le j 7 (fun y2 => bad (hbad ?_)) (fun y2 => pk_le (8 + H) j (fun y3 => bad (hbad ?_)) (fun y3 => good ⟨j, ej, ?_⟩) (nI_add 8 H) ej) ej rfl) ej rfl)
    · unfold cd_vt; omega
    · unfold cd_vt; omega
    · unfold cd_vt; omega
    · unfold cd_vt; omega
theorem cd_L114 (hp : post 1 ()) (hB : cd_B W H) (h1 : ∀ i, i < 8 → a1 i = nI 0) (h2 : ∀ i, i < 8 → a2 i = nI 0) (h3 : ∀ k, k < 4 → a3 k = nI 0) (f11 : (x11 = 1 ∧ cd_in W x2) ∨ (x11 = 0 ∧ ¬ cd_in W x2)) (f12 : (x12 = 1 ∧ cd_in H x3) ∨ (x12 = 0 ∧ ¬ cd_in H x3)) : wL_lawOf_114 post mc ms x2 x3 x4 x5 (nI W) (nI H) (cd_E W H) (x5 &&& cd_E W H) x11 x12 kc ks (nI W) (nI H) st a1 a2 a3 a4 a5 a6 a7 a8 := by
  have bad : ¬ cd_in 4 x4 → wL_lawOf_131 post mc ms x2 x3 x4 x5 (nI W) (nI H) (cd_E W H) (x5 &&& cd_E W H) x11 x12 kc ks (nI W) (nI H) st a1 a2 a3 a4 a5 a6 a7 a8 := by
    intro hn
    unfold wL_lawOf_131
    exact cd_L132 hp hB h1 h2 h3 f11 f12 (Or.inr ⟨rfl, hn⟩)
  unfold wL_lawOf_114
  by_cases hc : x4 < 0
  · exact br_t hc (bad (cd_in_neg (by omega) hc))
  · obtain ⟨j, hj, ej⟩ := nI_of hc
    exact br_f hc (pk_le 4 j (fun y => bad (by rw [ej]; exact cd_in_big hj y)) (fun y => cd_L132 hp hB h1 h2 h3 f11 f12 (Or.inl ⟨rfl, j, y, ej⟩)) rfl ej)
theorem cd_L97 (hp : post 1 ()) (hB : cd_B W H) (h1 : ∀ i, i < 8 → a1 i = nI 0) (h2 : ∀ i, i < 8 → a2 i = nI 0) (h3 : ∀ k, k < 4 → a3 k = nI 0) (f11 : (x11 = 1 ∧ cd_in W x2) ∨ (x11 = 0 ∧ ¬ cd_in W x2)) : wL_lawOf_97 post mc ms x2 x3 x4 x5 (nI W) (nI H) (cd_E W H) (x5 &&& cd_E W H) x11 kc ks (nI W) (nI H) st a1 a2 a3 a4 a5 a6 a7 a8 := by
  obtain ⟨⟨hW1, hW⟩, ⟨hH1, hH⟩⟩ := id hB
  have bad : ¬ cd_in H x3 → wL_lawOf_113 post mc ms x2 x3 x4 x5 (nI W) (nI H) (cd_E W H) (x5 &&& cd_E W H) x11 kc ks (nI W) (nI H) st a1 a2 a3 a4 a5 a6 a7 a8 := by
    intro hn
    unfold wL_lawOf_113
    exact cd_L114 hp hB h1 h2 h3 f11 (Or.inr ⟨rfl, hn⟩)
  unfold wL_lawOf_97
  by_cases hc : x3 < 0
  · exact br_t hc (bad (cd_in_neg (by omega) hc))
  · obtain ⟨j, hj, ej⟩ := nI_of hc
    exact br_f hc (pk_le H j (fun y => bad (by rw [ej]; exact cd_in_big hj y)) (fun y => cd_L114 hp hB h1 h2 h3 f11 (Or.inl ⟨rfl, j, y, ej⟩)) rfl ej)
theorem cd_L55 (hp : post 1 ()) (hB : cd_B W H) (h1 : ∀ i, i < 8 → a1 i = nI 0) (h2 : ∀ i, i < 8 → a2 i = nI 0) (h3 : ∀ k, k < 4 → a3 k = nI 0) : wL_lawOf_55 post mc ms x2 x3 x4 x5 (nI W) (nI H) kc ks (nI W) (nI H) st a1 a2 a3 a4 a5 a6 a7 a8 := by
  obtain ⟨⟨hW1, hW⟩, ⟨hH1, hH⟩⟩ := id hB
  have bad : ¬ cd_in W x2 → wL_lawOf_96 post mc ms x2 x3 x4 x5 (nI W) (nI H) (cd_E W H) (x5 &&& cd_E W H) kc ks (nI W) (nI H) st a1 a2 a3 a4 a5 a6 a7 a8 := by
    intro hn
    unfold wL_lawOf_96
    exact cd_L97 hp hB h1 h2 h3 (Or.inr ⟨rfl, hn⟩)
  unfold wL_lawOf_55
  refine nm_r (show _ = cd_E W H from rfl) (nm_e ?_)
  by_cases hc : x2 < 0
  · exact br_t hc (bad (cd_in_neg (by omega) hc))
  · obtain ⟨j, hj, ej⟩ := nI_of hc
    exact br_f hc (pk_le W j (fun y => bad (by rw [ej]; exact cd_in_big hj y)) (fun y => cd_L97 hp hB h1 h2 h3 (Or.inl ⟨rfl, j, y, ej⟩)) rfl ej)
end
end
section
/-! ===== part 10: the top ===== -/
theorem cd_clamp (p : Int32) : ∃ W : Nat, 1 ≤ W ∧ W ≤ 8 ∧ ∀ A : Int32 → Prop, A (nI W) → (1 ≤ p → ((p ≤ 8 → A p) ∧ (¬ p ≤ 8 → A 8))) ∧ (¬ 1 ≤ p → A 1) := by
  by_cases h1 : 1 ≤ p
  · by_cases h8 : p ≤ 8
    · have hn : ¬ p < 0 := by
        intro z
        rw [Int32.le_iff_toInt_le] at h1
        rw [Int32.lt_iff_toInt_lt] at z
        have e1 : (1 : Int32).toInt = 1 := by decide
        have e0 : (0 : Int32).toInt = 0 := by decide
        omega
      obtain ⟨W, hW, e⟩ := nI_of2 (M := 8) (n := 8) (by decide) hn h8
      subst e
      have hW1 := (nI_leI (a := 1) (b := W) (by omega) (by omega)).mp h1
      exact ⟨W, hW1, hW, fun A hA => br_t h1 (br_t h8 hA)⟩
    · exact ⟨8, by omega, by omega, fun A hA => br_t h1 (br_f h8 hA)⟩
  · exact ⟨1, by omega, by omega, fun A hA => br_f h1 hA⟩
theorem cd_init {pst : St2 → Prop} {p0 p1 : Int32} {W H : Nat} (hA : ∀ A : Int32 → Prop, A (nI W) → (1 ≤ p0 → ((p0 ≤ 8 → A p0) ∧ (¬ p0 ≤ 8 → A 8))) ∧ (¬ 1 ≤ p0 → A 1)) (hB : ∀ A : Int32 → Prop, A (nI H) → (1 ≤ p1 → ((p1 ≤ 8 → A p1) ∧ (¬ p1 ≤ 8 → A 8))) ∧ (¬ 1 ≤ p1 → A 1)) (hp : pst (nI W, nI H, 0, (fun _ => 0), (fun _ => 0), (fun _ => 0), (fun _ => 0), (fun _ => 0), (fun _ => 0), (fun _ => 0), (fun _ => 0))) : wpX_init pst 8 102 (0, 0, 0) p0 p1 := by
  unfold wpX_init
  dsimp only
  refine ⟨by omega, by omega, by omega, by omega, by omega, by omega, by omega, by omega, by omega, by omega, by omega, by omega, by omega, by omega, by omega, by omega, ?_⟩
  refine hA (fun v => wX_init_89 pst 8 102 p1 v 8 102 0 0 0 (fun _ => 0) (fun _ => 0) (fun _ => 0) (fun _ => 0) (fun _ => 0) (fun _ => 0) (fun _ => 0) (fun _ => 0)) ?_
  unfold wX_init_89
  exact hB (fun v => pst (nI W, v, 0, (fun _ => 0), (fun _ => 0), (fun _ => 0), (fun _ => 0), (fun _ => 0), (fun _ => 0), (fun _ => 0), (fun _ => 0))) hp
theorem cd_lawOf {post : Int32 → St0 → Prop} (hp : post 1 ()) (p0 p1 p2 p3 p4 p5 : Int32) : wpL_lawOf post 9 113 () p0 p1 p2 p3 p4 p5 := by
  obtain ⟨W, hW1, hW, hA⟩ := cd_clamp p0
  obtain ⟨H, hH1, hH, hB⟩ := cd_clamp p1
  unfold wpL_lawOf
  refine ⟨by omega, by omega, 8, 102, by omega, by omega, ?_⟩
  refine cd_init hA hB ?_
  dsimp only
  refine hA (fun v => wL_lawOf_32 post 9 113 p1 p2 p3 p4 p5 v (1 + 8) (11 + 102) (nI W) (nI H) 0 (fun _ => 0) (fun _ => 0) (fun _ => 0) (fun _ => 0) (fun _ => 0) (fun _ => 0) (fun _ => 0) (fun _ => 0)) ?_
  unfold wL_lawOf_32
  exact hB (fun v => wL_lawOf_55 post 9 113 p2 p3 p4 p5 (nI W) v (1 + 8) (11 + 102) (nI W) (nI H) 0 (fun _ => 0) (fun _ => 0) (fun _ => 0) (fun _ => 0) (fun _ => 0) (fun _ => 0) (fun _ => 0) (fun _ => 0)) (cd_L55 hp ⟨⟨hW1, hW⟩, ⟨hH1, hH⟩⟩ (fun i _ => rfl) (fun i _ => rfl) (fun k _ => rfl))
theorem cd_cell {post : Int32 → Prop} {L : Nat} {xs : Nat → Int32} (hL : L ≤ 6) {i : Nat} (hi : i < 6) (hp : ∀ v, post v) : wpL_cellAt post L xs () (nI i) := by
  unfold wpL_cellAt
  exact pk_le L i (fun _ => hp 0) (fun z => ⟨pk_in i L z, hp _⟩)
theorem i_vc (xs : Nat → Int32) (L : Nat) (hL : L ≤ 6) : wpL_law (fun r => r = 1) L xs := by
  unfold wpL_law
  exact cd_cell (i := 0) hL (by omega) (fun r1 => cd_cell (i := 1) hL (by omega) (fun r2 => cd_cell (i := 2) hL (by omega) (fun r3 => cd_cell (i := 3) hL (by omega) (fun r4 => cd_cell (i := 4) hL (by omega) (fun r5 => cd_cell (i := 5) hL (by omega) (fun r6 => ⟨9, 113, by omega, by omega, cd_lawOf rfl r1 r2 r3 r4 r5 r6⟩))))))
end

section
/-! rows of kit/rows, pasted -/
theorem pk_us {f : Nat → Int32} {k : Nat} {x : Int32} : upd f k x k = x := if_pos rfl
theorem pk_un {f : Nat → Int32} {k j : Nat} {x : Int32} (h : j ≠ k) : upd f k x j = f j := if_neg h
theorem pk_uLs {f : Nat → Int64} {k : Nat} {x : Int64} : vp_updL f k x k = x := if_pos rfl
theorem pk_uLn {f : Nat → Int64} {k j : Nat} {x : Int64} (h : j ≠ k) : vp_updL f k x j = f j := if_neg h
theorem pk_sub {a b : Nat} (h : b ≤ a) : nI a - nI b = nI (a - b) := by
  obtain ⟨c, rfl⟩ : ∃ c, a = c + b := ⟨a - b, by omega⟩
  rw [← nI_add, Int32.add_sub_cancel, Nat.add_sub_cancel]
theorem pk_m1 (n : Nat) : nI (n + 1) + (-1) = nI n := by
  rw [← nI_1, Int32.add_assoc, show (1 : Int32) + (-1) = 0 from rfl, Int32.add_zero]
theorem pk_mul (a b : Nat) : nI a * nI b = nI (a * b) := (Int32.ofNat_mul a b).symm
theorem pk_div {a d : Nat} (ha : a < 2 ^ 31) (h0 : 0 < d) (hd : d < 2 ^ 31) : nI a / nI d = nI (a / d) := by
  apply Int32.toInt_inj.mp
  rw [lg_idiv_nonneg (by rw [nI_toInt ha]; omega) (by rw [nI_toInt hd]; omega), nI_toInt ha, nI_toInt hd, nI_toInt (Nat.lt_of_le_of_lt (Nat.div_le_self a d) ha)]
  first | rfl | exact (Int.natCast_ediv _ _).symm
theorem pk_rem {a d : Nat} (ha : a < 2 ^ 31) (h0 : 0 < d) (hd : d < 2 ^ 31) : nI a - nI a / nI d * nI d = nI (a % d) := by
  rw [pk_div ha h0 hd, pk_mul, pk_sub (Nat.div_mul_le_self a d)]
  exact congrArg nI (by have := Nat.div_add_mod' a d; omega)
theorem pk_ix (x : Int32) {n : Nat} (hn : n < 2 ^ 31) : x < 0 ∨ nI n ≤ x ∨ ∃ j : Nat, j < n ∧ x = nI j := by
  by_cases h : x < 0
  · exact Or.inl h
  · obtain ⟨j, hj, rfl⟩ := nI_of h
    by_cases h2 : j < n
    · exact Or.inr (Or.inr ⟨j, h2, rfl⟩)
    · exact Or.inr (Or.inl (nI_le (by omega) hj))
theorem pk_le {x y : Int32} {A B : Prop} (a b : Nat) (f : a ≤ b → A) (g : b < a → B) (hx : x = nI a := by rfl) (hy : y = nI b := by rfl) (ha : a < 2 ^ 31 := by omega) (hb : b < 2 ^ 31 := by omega) : (x ≤ y → A) ∧ (¬ x ≤ y → B) := by
  subst hx hy
  rw [nI_leI ha hb]
  exact ⟨f, fun z => g (by omega)⟩
theorem pk_lt {x y : Int32} {A B : Prop} (a b : Nat) (f : a < b → A) (g : b ≤ a → B) (hx : x = nI a := by rfl) (hy : y = nI b := by rfl) (ha : a < 2 ^ 31 := by omega) (hb : b < 2 ^ 31 := by omega) : (x < y → A) ∧ (¬ x < y → B) := by
  subst hx hy
  rw [nI_ltI ha hb]
  exact ⟨f, fun z => g (by omega)⟩
theorem pk_eq {x y : Int32} {A B : Prop} (a b : Nat) (f : a = b → A) (g : a ≠ b → B) (hx : x = nI a := by rfl) (hy : y = nI b := by rfl) (ha : a < 2 ^ 31 := by omega) (hb : b < 2 ^ 31 := by omega) : (x = y → A) ∧ (¬ x = y → B) := by
  subst hx hy
  rw [nI_eq ha hb]
  exact ⟨f, g⟩
theorem pk_in {x : Int32} (n N : Nat) (h : n < N) (hx : x = nI n := by rfl) (hN : N < 2 ^ 31 := by omega) : vp_in x N := by
  subst hx
  exact vp_in_nI h hN
theorem pk_cl {x : Int32} (n : Nat) (hx : x = nI n := by rfl) (h : n < 2 ^ 31 := by omega) : x.toNatClampNeg = n := by
  subst hx
  exact nI_clamp h
theorem pk_tn {n : Nat} (h : n < 2 ^ 32) : (nI n).toBitVec.toNat = n := Nat.mod_eq_of_lt h
theorem pk_shl (a s : Int32) (k : Nat) (hs : (s.toBitVec.smod 32).toNat = k) : (a <<< s).toBitVec.toNat = a.toBitVec.toNat * 2 ^ k % 2 ^ 32 := by
  show (a.toBitVec <<< (s.toBitVec.smod 32).toNat).toNat = _
  rw [hs, BitVec.toNat_shiftLeft, Nat.shiftLeft_eq]
theorem pk_shlN {n : Nat} (s : Int32) (k : Nat) (hs : (s.toBitVec.smod 32).toNat = k) (h : n * 2 ^ k < 2 ^ 32) : nI n <<< s = nI (n * 2 ^ k) := by
  apply Int32.toBitVec_inj.mp
  apply BitVec.eq_of_toNat_eq
  have hn : n < 2 ^ 32 := Nat.lt_of_le_of_lt (Nat.le_mul_of_pos_right n (Nat.two_pow_pos k)) h
  rw [pk_shl _ _ k hs, pk_tn hn, pk_tn h, Nat.mod_eq_of_lt h]
theorem pk_shr (a s : Int32) (k : Nat) (hs : (s.toBitVec.smod 32).toNat = k) : (a >>> s).toInt = a.toInt >>> k := by
  show (a.toBitVec.sshiftRight (s.toBitVec.smod 32).toNat).toInt = _
  rw [hs, BitVec.toInt_sshiftRight]
  rfl
theorem pk_shrN {n : Nat} (h : n < 2 ^ 31) (s : Int32) (k : Nat) (hs : (s.toBitVec.smod 32).toNat = k) : nI n >>> s = nI (n / 2 ^ k) := by
  apply Int32.toInt_inj.mp
  have h2 : n / 2 ^ k ≤ n := Nat.div_le_self _ _
  rw [pk_shr _ _ k hs, nI_toInt h, nI_toInt (by omega), Int.shiftRight_eq_div_pow]
  rfl
theorem pk_lT {n : Nat} (h : n < 2 ^ 63) : (lN n).toInt = (n : Int) := lg_ofNat_toInt h
theorem pk_lLT {a b : Nat} (ha : a < 2 ^ 63) (hb : b < 2 ^ 63) : lN a < lN b ↔ a < b := by
  rw [Int64.lt_iff_toInt_lt, pk_lT ha, pk_lT hb]; omega
theorem pk_lLE {a b : Nat} (ha : a < 2 ^ 63) (hb : b < 2 ^ 63) : lN a ≤ lN b ↔ a ≤ b := by
  rw [Int64.le_iff_toInt_le, pk_lT ha, pk_lT hb]; omega
theorem pk_lEQ {a b : Nat} (ha : a < 2 ^ 63) (hb : b < 2 ^ 63) : lN a = lN b ↔ a = b := by
  rw [← Int64.toInt_inj, pk_lT ha, pk_lT hb]; omega
theorem pk_least (P : Nat → Prop) (h : ∃ k, P k) : ∃ k, P k ∧ ∀ j, j < k → ¬ P j := by
  obtain ⟨k, hk⟩ := h
  induction k using Nat.strongRecOn with
  | ind k ih =>
    by_cases e : ∃ j, j < k ∧ P j
    · obtain ⟨j, hj, pj⟩ := e
      exact ih j hj pj
    · exact ⟨k, hk, fun j hj pj => e ⟨j, hj, pj⟩⟩
theorem s_l : ∀ n, n < 32 → ((nI n &&& 31).toBitVec.smod 32).toNat = n := by decide +kernel
theorem nx_and (a b : Nat) : nI a &&& nI b = nI (a &&& b) := by
  apply Int32.toBitVec_inj.1
  show BitVec.ofNat 32 a &&& BitVec.ofNat 32 b = BitVec.ofNat 32 (a &&& b)
  apply BitVec.eq_of_getLsbD_eq
  intro i hi
  simp [hi]
theorem nx_xor (a b : Nat) : nI a ^^^ nI b = nI (a ^^^ b) := by
  apply Int32.toBitVec_inj.1
  show BitVec.ofNat 32 a ^^^ BitVec.ofNat 32 b = BitVec.ofNat 32 (a ^^^ b)
  apply BitVec.eq_of_getLsbD_eq
  intro i hi
  simp [hi]
end
section
/-! bit operations of nI; sets as numbers below 128 -/
theorem bi_or (a b : Nat) : nI a ||| nI b = nI (a ||| b) := by
  apply Int32.toBitVec_inj.1
  show BitVec.ofNat 32 a ||| BitVec.ofNat 32 b = BitVec.ofNat 32 (a ||| b)
  apply BitVec.eq_of_getLsbD_eq
  intro i hi
  simp [hi]
theorem bi_shr {a k : Nat} (ha : a < 2 ^ 31) (hk : k < 32) : nI a >>> (nI k &&& 31) = nI (a / 2 ^ k) := pk_shrN ha _ k (s_l k hk)
theorem bi_bit {a k : Nat} (ha : a < 2 ^ 31) (hk : k < 32) : (nI a >>> (nI k &&& 31)) &&& 1 = nI (a.testBit k).toNat := by
  rw [bi_shr ha hk]
  show nI (a / 2 ^ k) &&& nI 1 = _
  rw [nx_and, Nat.and_one_is_mod, Nat.toNat_testBit]
theorem bi_01 : ∀ b : Bool, nI b.toNat = 1 ↔ b = true := by decide +kernel
theorem bi_b1 {a k : Nat} (ha : a < 2 ^ 31) (hk : k < 32) : ((nI a >>> (nI k &&& 31)) &&& 1) = 1 ↔ a.testBit k = true := by
  rw [bi_bit ha hk]
  exact bi_01 _
theorem bi_br {A B : Prop} {a k : Nat} (ha : a < 2 ^ 31) (hk : k < 32) (f : a.testBit k = true → A) (g : a.testBit k = false → B) : (((nI a >>> (nI k &&& 31)) &&& 1) = 1 → A) ∧ (¬ ((nI a >>> (nI k &&& 31)) &&& 1) = 1 → B) := by
  rw [bi_b1 ha hk]
  exact ⟨f, fun h => g (by simpa using h)⟩
theorem bi_sl {a k : Nat} (hk : k < 32) (h : a * 2 ^ k < 2 ^ 32) : nI a <<< (nI k &&& 31) = nI (a * 2 ^ k) := pk_shlN _ k (s_l k hk) h
theorem bi_1 {k : Nat} (hk : k < 31) : (1 : Int32) <<< (nI k &&& 31) = nI (2 ^ k) := by
  have h : 1 * 2 ^ k < 2 ^ 32 := by
    rw [Nat.one_mul]
    exact Nat.pow_lt_pow_right (by decide) (by omega)
  have e := bi_sl (a := 1) (k := k) (by omega) h
  rw [Nat.one_mul] at e
  exact e
theorem bi_hi {a n i : Nat} (ha : a < 2 ^ n) (hi : n ≤ i) : a.testBit i = false := Nat.testBit_lt_two_pow (Nat.lt_of_lt_of_le ha (Nat.pow_le_pow_right (by decide) hi))
theorem bi_lt {a n i : Nat} (ha : a < 2 ^ n) (h : a.testBit i = true) : i < n := by
  rcases Nat.lt_or_ge i n with g | g
  · exact g
  · rw [bi_hi ha g] at h
    exact absurd h Bool.false_ne_true
theorem bi_ext {a b n : Nat} (ha : a < 2 ^ n) (hb : b < 2 ^ n) (h : ∀ i, i < n → a.testBit i = b.testBit i) : a = b := by
  apply Nat.eq_of_testBit_eq
  intro i
  rcases Nat.lt_or_ge i n with g | g
  · exact h i g
  · rw [bi_hi ha g, bi_hi hb g]
theorem bi_2 (k i : Nat) : (2 ^ k).testBit i = decide (k = i) := Nat.testBit_two_pow
theorem bi_2s (k : Nat) : (2 ^ k).testBit k = true := Nat.testBit_two_pow_self
theorem bi_2n {k i : Nat} (h : k ≠ i) : (2 ^ k).testBit i = false := Nat.testBit_two_pow_of_ne h
theorem bi_2lt {k n : Nat} (h : k < n) : 2 ^ k < 2 ^ n := Nat.pow_lt_pow_right (by decide) h
theorem bi_put {r b a : Nat} (hr : r < 2 ^ a) (hb : b ≤ 1) (ha : a ≤ 7) : nI r ||| (nI b <<< (nI a &&& 31)) = nI (r + b * 2 ^ a) := by
  have h2 : 2 ^ a ≤ 2 ^ 7 := Nat.pow_le_pow_right (by decide) ha
  have h3 : b * 2 ^ a ≤ 1 * 2 ^ a := Nat.mul_le_mul_right _ hb
  have h4 : b * 2 ^ a < 2 ^ 32 := by omega
  rw [bi_sl (by omega) h4, bi_or, Nat.or_comm, Nat.mul_comm b, ← Nat.two_pow_add_eq_or_of_lt hr, Nat.add_comm]
/-- the members of a that are not in b -/
def bi_d (a b : Nat) : Nat := a &&& (127 ^^^ b)
theorem bi_dt {a b i : Nat} (ha : a < 128) : (bi_d a b).testBit i = (a.testBit i && !b.testBit i) := by
  unfold bi_d
  rw [Nat.testBit_and, Nat.testBit_xor, show (127 : Nat) = 2 ^ 7 - 1 from rfl, Nat.testBit_two_pow_sub_one]
  rcases Nat.lt_or_ge i 7 with h | h
  · rw [decide_eq_true h, Bool.true_xor]
  · rw [bi_hi (n := 7) ha h, Bool.false_and, Bool.false_and]
theorem bi_dlt {a b : Nat} (ha : a < 128) : bi_d a b < 128 := by
  unfold bi_d
  rw [Nat.and_comm]
  exact Nat.and_lt_two_pow (n := 7) _ ha
theorem bi_m1 : ∀ i, i < 32 → (-1 : Int32).toBitVec.getLsbD i = true := by decide +kernel
theorem bi_not {a b : Nat} (ha : a < 128) : nI a &&& (nI b ^^^ (-1)) = nI (bi_d a b) := by
  apply Int32.toBitVec_inj.1
  show BitVec.ofNat 32 a &&& (BitVec.ofNat 32 b ^^^ (-1 : Int32).toBitVec) = BitVec.ofNat 32 (bi_d a b)
  apply BitVec.eq_of_getLsbD_eq
  intro i hi
  rw [BitVec.getLsbD_and, BitVec.getLsbD_xor, bi_m1 i hi, BitVec.getLsbD_ofNat, BitVec.getLsbD_ofNat, BitVec.getLsbD_ofNat, bi_dt ha]
  simp [hi]
theorem bi_ns {a s : Nat} (hs : s < 128) : (nI a - nI s) &&& nI s = nI ((a + (2 ^ 32 - s)) &&& s) := by
  have e : nI (a + (2 ^ 32 - s)) + nI s = nI a := by
    rw [nI_add, show a + (2 ^ 32 - s) + s = a + 2 ^ 32 by omega, ← nI_add, show nI (2 ^ 32) = 0 by decide +kernel, Int32.add_zero]
  rw [← nx_and, ← e, Int32.add_sub_cancel]
end
section
/-! packing: pa_c counts the members of s below k, pa_p packs the bits of x at the members of s, pa_u lays the bits of j at the members of s -/
def pa_c (s : Nat) : Nat → Nat
  | 0 => 0
  | k + 1 => pa_c s k + (s.testBit k).toNat
def pa_p (x s : Nat) : Nat → Nat
  | 0 => 0
  | k + 1 => if s.testBit k then pa_p x s k + (x.testBit k).toNat * 2 ^ pa_c s k else pa_p x s k
def pa_u (j s : Nat) : Nat → Nat
  | 0 => 0
  | k + 1 => if s.testBit k then pa_u j s k + (j.testBit (pa_c s k)).toNat * 2 ^ k else pa_u j s k
theorem pa_c_t {s k : Nat} (h : s.testBit k = true) : pa_c s (k + 1) = pa_c s k + 1 := by
  show pa_c s k + (s.testBit k).toNat = _
  rw [h]; rfl
theorem pa_c_f {s k : Nat} (h : s.testBit k = false) : pa_c s (k + 1) = pa_c s k := by
  show pa_c s k + (s.testBit k).toNat = _
  rw [h]; rfl
theorem pa_nt {b : Bool} (h : b = false) : ¬ b = true := by rw [h]; exact Bool.false_ne_true
theorem pa_p_t {x s k : Nat} (h : s.testBit k = true) : pa_p x s (k + 1) = pa_p x s k + (x.testBit k).toNat * 2 ^ pa_c s k := if_pos h
theorem pa_p_f {x s k : Nat} (h : s.testBit k = false) : pa_p x s (k + 1) = pa_p x s k := if_neg (pa_nt h)
theorem pa_u_t {j s k : Nat} (h : s.testBit k = true) : pa_u j s (k + 1) = pa_u j s k + (j.testBit (pa_c s k)).toNat * 2 ^ k := if_pos h
theorem pa_u_f {j s k : Nat} (h : s.testBit k = false) : pa_u j s (k + 1) = pa_u j s k := if_neg (pa_nt h)
theorem pa_c_le (s : Nat) : ∀ k, pa_c s k ≤ k := by
  intro k
  induction k with
  | zero => exact Nat.le_refl _
  | succ k ih =>
    have h : (s.testBit k).toNat ≤ 1 := Bool.toNat_le _
    show pa_c s k + (s.testBit k).toNat ≤ k + 1
    omega
theorem pa_c_mono (s : Nat) {k K : Nat} (h : k ≤ K) : pa_c s k ≤ pa_c s K := by
  induction K with
  | zero => rw [Nat.le_zero.mp h]; exact Nat.le_refl _
  | succ K ih =>
    rcases Nat.lt_or_ge k (K + 1) with g | g
    · have := ih (by omega)
      show pa_c s k ≤ pa_c s K + (s.testBit K).toNat
      omega
    · rw [show k = K + 1 by omega]; exact Nat.le_refl _
theorem pa_add {p c : Nat} (b : Bool) (h : p < 2 ^ c) : p + b.toNat * 2 ^ c < 2 ^ (c + 1) := by
  rw [Nat.pow_succ]
  cases b
  · show p + 0 * 2 ^ c < _
    omega
  · show p + 1 * 2 ^ c < _
    omega
theorem pa_p_lt (x s : Nat) : ∀ k, pa_p x s k < 2 ^ pa_c s k := by
  intro k
  induction k with
  | zero => exact Nat.one_pos
  | succ k ih =>
    cases h : s.testBit k
    · rw [pa_p_f h, pa_c_f h]; exact ih
    · rw [pa_p_t h, pa_c_t h]; exact pa_add _ ih
theorem pa_u_lt (j s : Nat) : ∀ k, pa_u j s k < 2 ^ k := by
  intro k
  induction k with
  | zero => exact Nat.one_pos
  | succ k ih =>
    cases h : s.testBit k
    · rw [pa_u_f h, Nat.pow_succ]; omega
    · rw [pa_u_t h]; exact pa_add _ ih
theorem pa_tb {p c : Nat} (b : Bool) (hp : p < 2 ^ c) (j : Nat) : (p + b.toNat * 2 ^ c).testBit j = if j < c then p.testBit j else (decide (j = c) && b) := by
  rw [Nat.add_comm, Nat.mul_comm, Nat.testBit_two_pow_mul_add _ hp]
  by_cases h : j < c
  · rw [if_pos h, if_pos h]
  · rw [if_neg h, if_neg h, Nat.testBit_bool_toNat]
    congr 1
    exact decide_eq_decide.mpr (by omega)
theorem pa_p_bit {x s k : Nat} (hs : s.testBit k = true) : ∀ K, k < K → (pa_p x s K).testBit (pa_c s k) = x.testBit k := by
  intro K
  induction K with
  | zero => intro h; omega
  | succ K ih =>
    intro h
    rcases Nat.lt_or_ge k K with g | g
    · cases hK : s.testBit K
      · rw [pa_p_f hK]; exact ih g
      · have c1 : pa_c s (k + 1) ≤ pa_c s K := pa_c_mono s (by omega)
        rw [pa_c_t hs] at c1
        rw [pa_p_t hK, pa_tb _ (pa_p_lt x s K), if_pos (by omega)]
        exact ih g
    · obtain rfl : k = K := by omega
      rw [pa_p_t hs, pa_tb _ (pa_p_lt x s k), if_neg (by omega)]
      simp
theorem pa_u_bit (j s : Nat) : ∀ K i, (pa_u j s K).testBit i = (decide (i < K) && (s.testBit i && j.testBit (pa_c s i))) := by
  intro K
  induction K with
  | zero => intro i; show (0 : Nat).testBit i = _; simp
  | succ K ih =>
    intro i
    cases hK : s.testBit K
    · rw [pa_u_f hK, ih]
      by_cases e : i = K
      · subst e; simp [hK]
      · rw [show decide (i < K) = decide (i < K + 1) from decide_eq_decide.mpr (by omega)]
    · rw [pa_u_t hK, pa_tb _ (pa_u_lt j s K)]
      by_cases h : i < K
      · rw [if_pos h, ih, decide_eq_true h, decide_eq_true (show i < K + 1 by omega)]
      · rw [if_neg h]
        by_cases e : i = K
        · subst e; simp [hK]
        · rw [decide_eq_false e, decide_eq_false (show ¬ i < K + 1 by omega), Bool.false_and, Bool.false_and]
theorem pa_p_congr {x y s : Nat} : ∀ k, (∀ i, i < k → s.testBit i = true → x.testBit i = y.testBit i) → pa_p x s k = pa_p y s k := by
  intro k
  induction k with
  | zero => intro _; rfl
  | succ k ih =>
    intro h
    cases hk : s.testBit k
    · rw [pa_p_f hk, pa_p_f hk]; exact ih fun i hi => h i (by omega)
    · rw [pa_p_t hk, pa_p_t hk, h k (by omega) hk, ih fun i hi => h i (by omega)]
theorem pa_p_and (x s k : Nat) : pa_p (x &&& s) s k = pa_p x s k := pa_p_congr k fun i _ h => by rw [Nat.testBit_and, h, Bool.and_true]
theorem pa_up {x s : Nat} (hx : x < 128) : pa_u (pa_p x s 7) s 7 = x &&& s := by
  apply Nat.eq_of_testBit_eq
  intro i
  rw [pa_u_bit, Nat.testBit_and]
  by_cases h : i < 7
  · rw [decide_eq_true h, Bool.true_and]
    cases hs : s.testBit i
    · rw [Bool.false_and, Bool.and_false]
    · rw [Bool.true_and, Bool.and_true, pa_p_bit hs 7 h]
  · rw [decide_eq_false h, Bool.false_and, bi_hi (n := 7) hx (by omega), Bool.false_and]
theorem pa_pu (j s : Nat) : ∀ k, k ≤ 7 → pa_p (pa_u j s 7) s k = j % 2 ^ pa_c s k := by
  intro k
  induction k with
  | zero => intro _; show 0 = j % 1; omega
  | succ k ih =>
    intro hk
    cases h : s.testBit k
    · rw [pa_p_f h, pa_c_f h]; exact ih (by omega)
    · rw [pa_p_t h, pa_c_t h, ih (by omega), Nat.mod_pow_succ, pa_u_bit, h, decide_eq_true (show k < 7 by omega), Bool.true_and, Bool.true_and, Nat.toNat_testBit, Nat.mul_comm]
theorem pa_pj {j s : Nat} (h : j < 2 ^ pa_c s 7) : pa_p (pa_u j s 7) s 7 = j := by
  rw [pa_pu j s 7 (by omega)]
  exact Nat.mod_eq_of_lt h
theorem pa_full (s : Nat) : ∀ k, pa_p s s k + 1 = 2 ^ pa_c s k := by
  intro k
  induction k with
  | zero => rfl
  | succ k ih =>
    cases h : s.testBit k
    · rw [pa_p_f h, pa_c_f h]; exact ih
    · rw [pa_p_t h, pa_c_t h, h, Nat.pow_succ]
      show pa_p s s k + 1 * 2 ^ pa_c s k + 1 = _
      omega
theorem pa_us {s : Nat} (hs : s < 128) : pa_u (pa_p s s 7) s 7 = s := by rw [pa_up hs, Nat.and_self]
theorem pa_u0 (s : Nat) : pa_u 0 s 7 = 0 := by
  apply Nat.eq_of_testBit_eq
  intro i
  rw [pa_u_bit]; simp
theorem pa_p0 (s : Nat) : ∀ k, pa_p 0 s k = 0 := by
  intro k
  induction k with
  | zero => rfl
  | succ k ih =>
    cases h : s.testBit k
    · rw [pa_p_f h]; exact ih
    · rw [pa_p_t h, ih, Nat.zero_testBit]; show 0 + 0 * _ = 0; omega
theorem pa_u_and (j s : Nat) : pa_u j s 7 &&& s = pa_u j s 7 := by
  apply Nat.eq_of_testBit_eq
  intro i
  rw [Nat.testBit_and, pa_u_bit]
  cases s.testBit i <;> simp
theorem pa_c7 (s : Nat) : 2 ^ pa_c s 7 ≤ 128 := Nat.pow_le_pow_right (n := 2) (by decide) (pa_c_le s 7)
theorem pa_p128 (x s : Nat) : pa_p x s 7 < 128 := Nat.lt_of_lt_of_le (pa_p_lt x s 7) (pa_c7 s)
theorem pa_next : ∀ s, s < 128 → ∀ j, j < 2 ^ pa_c s 7 - 1 → (pa_u j s 7 + (2 ^ 32 - s)) &&& s = pa_u (j + 1) s 7 := by decide +kernel
theorem pa_step {s j : Nat} (hs : s < 128) (h : j + 1 < 2 ^ pa_c s 7) : (nI (pa_u j s 7) - nI s) &&& nI s = nI (pa_u (j + 1) s 7) := by
  rw [bi_ns hs, pa_next s hs j (by omega)]
/-- members at or above v: none; the count and the packing stop at v -/
theorem pa_stop {x s v : Nat} (h : s < 2 ^ v) : ∀ K, v ≤ K → pa_p x s K = pa_p x s v := by
  intro K
  induction K with
  | zero => intro hK; rw [Nat.le_zero.mp hK]
  | succ K ih =>
    intro hK
    rcases Nat.lt_or_ge K v with g | g
    · rw [show v = K + 1 by omega]
    · rw [pa_p_f (bi_hi h g)]; exact ih g
/-- counts of nested sets -/
theorem pa_c_sub {s t : Nat} : ∀ k, (∀ i, i < k → s.testBit i = true → t.testBit i = true) → pa_c s k ≤ pa_c t k ∧ (pa_c s k = pa_c t k → ∀ i, i < k → s.testBit i = t.testBit i) := by
  intro k
  induction k with
  | zero => intro _; exact ⟨Nat.le_refl _, fun _ i hi => absurd hi (by omega)⟩
  | succ k ih =>
    intro h
    obtain ⟨h1, h2⟩ := ih fun i hi => h i (by omega)
    have hk := h k (by omega)
    cases es : s.testBit k
    · cases et : t.testBit k
      · rw [pa_c_f es, pa_c_f et]
        refine ⟨h1, fun e i hi => ?_⟩
        rcases Nat.lt_or_ge i k with g | g
        · exact h2 e i g
        · rw [show i = k by omega, es, et]
      · rw [pa_c_f es, pa_c_t et]
        exact ⟨by omega, fun e => by omega⟩
    · rw [es] at hk
      have et := hk rfl
      rw [pa_c_t es, pa_c_t et]
      refine ⟨by omega, fun e i hi => ?_⟩
      rcases Nat.lt_or_ge i k with g | g
      · exact h2 (by omega) i g
      · rw [show i = k by omega, es, et]
theorem pa_c_0 : ∀ s k, pa_c s k = 0 → ∀ i, i < k → s.testBit i = false := by
  intro s k
  induction k with
  | zero => intro _ i hi; omega
  | succ k ih =>
    intro h i hi
    cases es : s.testBit k
    · rw [pa_c_f es] at h
      rcases Nat.lt_or_ge i k with g | g
      · exact ih h i g
      · rw [show i = k by omega, es]
    · rw [pa_c_t es] at h; omega
end
section
/-! sum or greatest (ag_o), over the numbers below N that pass (ag_s), over the subsets of a set (el_sb) -/
def ag_o (g : Bool) (a b : Nat) : Nat := if g then (if a ≤ b then b else a) else a + b
theorem ag_o_t (a b : Nat) : ag_o true a b = if a ≤ b then b else a := rfl
theorem ag_o_f (a b : Nat) : ag_o false a b = a + b := rfl
theorem ag_o_comm (g : Bool) (a b : Nat) : ag_o g a b = ag_o g b a := by
  cases g
  · rw [ag_o_f, ag_o_f]; omega
  · rw [ag_o_t, ag_o_t]; split <;> split <;> omega
theorem ag_o_assoc (g : Bool) (a b c : Nat) : ag_o g (ag_o g a b) c = ag_o g a (ag_o g b c) := by
  cases g
  · simp only [ag_o_f]; omega
  · simp only [ag_o_t]; split <;> split <;> (try split) <;> omega
theorem ag_o_4 (g : Bool) (a b c d : Nat) : ag_o g (ag_o g a b) (ag_o g c d) = ag_o g (ag_o g a c) (ag_o g b d) := by
  rw [ag_o_assoc, ag_o_assoc, ← ag_o_assoc g b c d, ag_o_comm g b c, ag_o_assoc g c b d]
theorem ag_o_0l (g : Bool) (a : Nat) : ag_o g 0 a = a := by
  cases g
  · rw [ag_o_f]; omega
  · rw [ag_o_t, if_pos (Nat.zero_le _)]
theorem ag_o_0r (g : Bool) (a : Nat) : ag_o g a 0 = a := by rw [ag_o_comm, ag_o_0l]
theorem ag_o_mul (g : Bool) (r a b : Nat) : r * ag_o g a b = ag_o g (r * a) (r * b) := by
  cases g
  · rw [ag_o_f, ag_o_f, Nat.mul_add]
  · rw [ag_o_t, ag_o_t]
    by_cases h : a ≤ b
    · rw [if_pos h, if_pos (Nat.mul_le_mul_left r h)]
    · rw [if_neg h]
      by_cases h2 : r * a ≤ r * b
      · rw [if_pos h2]
        exact Nat.le_antisymm h2 (Nat.mul_le_mul_left r (by omega))
      · rw [if_neg h2]
theorem ag_o_le (g : Bool) {a b B : Nat} (ha : a ≤ B) (hb : b ≤ B) : ag_o g a b ≤ 2 * B := by
  cases g
  · rw [ag_o_f]; omega
  · rw [ag_o_t]; split <;> omega
def ag_s (g : Bool) (c : Nat → Bool) (w : Nat → Nat) : Nat → Nat
  | 0 => 0
  | N + 1 => ag_o g (ag_s g c w N) (if c N then w N else 0)
theorem ag_s_congr {g : Bool} {c c' : Nat → Bool} {w w' : Nat → Nat} : ∀ N, (∀ x, x < N → c x = c' x) → (∀ x, x < N → c x = true → w x = w' x) → ag_s g c w N = ag_s g c' w' N := by
  intro N
  induction N with
  | zero => intro _ _; rfl
  | succ N ih =>
    intro h1 h2
    show ag_o g _ (if c N = true then w N else 0) = ag_o g _ (if c' N = true then w' N else 0)
    rw [ih (fun x hx => h1 x (by omega)) (fun x hx => h2 x (by omega))]
    by_cases e : c N = true
    · rw [if_pos e, ← h1 N (by omega), if_pos e, h2 N (by omega) e]
    · rw [if_neg e, ← h1 N (by omega), if_neg e]
theorem ag_s_none {g : Bool} {c : Nat → Bool} {w : Nat → Nat} : ∀ N, (∀ x, x < N → c x = false) → ag_s g c w N = 0 := by
  intro N
  induction N with
  | zero => intro _; rfl
  | succ N ih =>
    intro h
    show ag_o g _ (if c N = true then w N else 0) = 0
    rw [ih fun x hx => h x (by omega), if_neg (pa_nt (h N (by omega))), ag_o_0l]
theorem ag_s_split {g : Bool} {c : Nat → Bool} {w : Nat → Nat} (N : Nat) : ∀ M, ag_s g c w (N + M) = ag_o g (ag_s g c w N) (ag_s g (fun x => c (N + x)) (fun x => w (N + x)) M) := by
  intro M
  induction M with
  | zero => show ag_s g c w N = ag_o g _ 0; rw [ag_o_0r]
  | succ M ih =>
    show ag_o g (ag_s g c w (N + M)) (if c (N + M) = true then w (N + M) else 0) = ag_o g _ (ag_o g _ (if c (N + M) = true then w (N + M) else 0))
    rw [ih, ag_o_assoc]
theorem ag_s_le {g : Bool} {c : Nat → Bool} {w : Nat → Nat} {B : Nat} (hw : ∀ x, w x ≤ B) : ∀ N, ag_s g c w N ≤ N * B := by
  intro N
  induction N with
  | zero => show 0 ≤ _; omega
  | succ N ih =>
    show ag_o g _ (if c N = true then w N else 0) ≤ _
    have h : (if c N = true then w N else 0) ≤ B := by
      split
      · exact hw N
      · omega
    generalize (if c N = true then w N else 0) = z at h
    rw [Nat.add_mul, Nat.one_mul]
    cases g
    · rw [ag_o_f]; omega
    · rw [ag_o_t]; split <;> omega
/-- the greatest: an upper bound, and attained where something passes -/
theorem ag_max_le {c : Nat → Bool} {w : Nat → Nat} : ∀ N x, x < N → c x = true → w x ≤ ag_s true c w N := by
  intro N
  induction N with
  | zero => intro x hx; omega
  | succ N ih =>
    intro x hx hc
    show _ ≤ ag_o true _ (if c N = true then w N else 0)
    rw [ag_o_t]
    rcases Nat.lt_or_ge x N with h | h
    · have := ih x h hc
      generalize (if c N = true then w N else 0) = z
      split <;> omega
    · obtain rfl : x = N := by omega
      rw [if_pos hc]
      split <;> omega
theorem ag_max_at {c : Nat → Bool} {w : Nat → Nat} : ∀ N, (∃ x, x < N ∧ c x = true) → ∃ x, x < N ∧ c x = true ∧ w x = ag_s true c w N := by
  intro N
  induction N with
  | zero => intro ⟨x, hx, _⟩; omega
  | succ N ih =>
    intro ⟨x, hx, hc⟩
    have e : ag_s true c w (N + 1) = ag_o true (ag_s true c w N) (if c N = true then w N else 0) := rfl
    rw [e, ag_o_t]
    by_cases hN : c N = true
    · rw [if_pos hN]
      by_cases hl : ag_s true c w N ≤ w N
      · rw [if_pos hl]
        exact ⟨N, by omega, hN, rfl⟩
      · rw [if_neg hl]
        by_cases he : ∃ y, y < N ∧ c y = true
        · obtain ⟨y, h1, h2, h3⟩ := ih he
          exact ⟨y, by omega, h2, h3⟩
        · have z : ag_s true c w N = 0 := ag_s_none N fun y hy => by
            cases h : c y
            · rfl
            · exact absurd ⟨y, hy, h⟩ he
          omega
    · rw [if_neg hN]
      have hx2 : x < N := by
        rcases Nat.lt_or_ge x N with h | h
        · exact h
        · rw [show x = N by omega] at hc
          exact absurd hc hN
      obtain ⟨y, h1, h2, h3⟩ := ih ⟨x, hx2, hc⟩
      refine ⟨y, by omega, h2, ?_⟩
      rw [h3]
      split <;> omega
def el_sb (g : Bool) (G : Nat → Nat) (o : Nat) : Nat → Nat → Nat
  | 0, y => G y
  | k + 1, y => if o.testBit k then ag_o g (el_sb g G o k y) (el_sb g G o k (y ||| 2 ^ k)) else el_sb g G o k y
theorem el_sb_t {g : Bool} {G : Nat → Nat} {o k y : Nat} (h : o.testBit k = true) : el_sb g G o (k + 1) y = ag_o g (el_sb g G o k y) (el_sb g G o k (y ||| 2 ^ k)) := if_pos h
theorem el_sb_f {g : Bool} {G : Nat → Nat} {o k y : Nat} (h : o.testBit k = false) : el_sb g G o (k + 1) y = el_sb g G o k y := if_neg (pa_nt h)
theorem el_or_lt {y k : Nat} (hy : y < 128) (hk : k < 7) : y ||| 2 ^ k < 128 := Nat.or_lt_two_pow (n := 7) hy (bi_2lt hk)
theorem el_or_v {y k v : Nat} (hy : y.testBit v = false) (hk : k ≠ v) : (y ||| 2 ^ k).testBit v = false := by rw [Nat.testBit_or, hy, bi_2n hk]; rfl
/-- lemma A: taking v out -/
theorem el_takeA {g : Bool} {G G' : Nat → Nat} {o o' v : Nat} (ho : ∀ i, i ≠ v → o'.testBit i = o.testBit i) (hv : v < 7) (hG : ∀ y, y < 128 → y.testBit v = false → G' y = ag_o g (G y) (G (y ||| 2 ^ v))) : ∀ k, k ≤ v → ∀ y, y < 128 → y.testBit v = false → el_sb g G' o' k y = ag_o g (el_sb g G o k y) (el_sb g G o k (y ||| 2 ^ v)) := by
  intro k
  induction k with
  | zero => intro _ y hy h; exact hG y hy h
  | succ k ih =>
    intro hk y hy h
    cases hb : o.testBit k
    · rw [el_sb_f (by rw [ho k (by omega), hb]), el_sb_f hb, el_sb_f hb]
      exact ih (by omega) y hy h
    · rw [el_sb_t (by rw [ho k (by omega), hb]), el_sb_t hb, el_sb_t hb, ih (by omega) y hy h, ih (by omega) _ (el_or_lt hy (by omega)) (el_or_v h (by omega)), ag_o_4, Nat.or_assoc, Nat.or_comm (2 ^ k), ← Nat.or_assoc]
theorem el_take {g : Bool} {G G' : Nat → Nat} {o o' v : Nat} (hb : o.testBit v = true) (hb' : o'.testBit v = false) (ho : ∀ i, i ≠ v → o'.testBit i = o.testBit i) (hv : v < 7) (hG : ∀ y, y < 128 → y.testBit v = false → G' y = ag_o g (G y) (G (y ||| 2 ^ v))) : ∀ d, v + 1 + d ≤ 7 → ∀ y, y < 128 → y.testBit v = false → el_sb g G' o' (v + 1 + d) y = el_sb g G o (v + 1 + d) y := by
  intro d
  induction d with
  | zero =>
    intro _ y hy h
    show el_sb g G' o' (v + 1) y = el_sb g G o (v + 1) y
    rw [el_sb_f hb', el_sb_t hb, el_takeA ho hv hG v (Nat.le_refl _) y hy h]
  | succ d ih =>
    intro hd y hy h
    show el_sb g G' o' (v + 1 + d + 1) y = el_sb g G o (v + 1 + d + 1) y
    cases hk : o.testBit (v + 1 + d)
    · rw [el_sb_f (by rw [ho _ (by omega), hk]), el_sb_f hk]
      exact ih (by omega) y hy h
    · rw [el_sb_t (by rw [ho _ (by omega), hk]), el_sb_t hk, ih (by omega) y hy h, ih (by omega) _ (el_or_lt hy (by omega)) (el_or_v h (by omega))]
theorem el_take7 {g : Bool} {G G' : Nat → Nat} {o o' v : Nat} (hb : o.testBit v = true) (hb' : o'.testBit v = false) (ho : ∀ i, i ≠ v → o'.testBit i = o.testBit i) (hv : v < 7) (hG : ∀ y, y < 128 → y.testBit v = false → G' y = ag_o g (G y) (G (y ||| 2 ^ v))) : el_sb g G' o' 7 0 = el_sb g G o 7 0 := by
  have h := el_take hb hb' ho hv hG (6 - v) (by omega) 0 (by omega) (Nat.zero_testBit _)
  rw [show v + 1 + (6 - v) = 7 by omega] at h
  exact h
theorem el_stop {g : Bool} {G : Nat → Nat} {o n : Nat} (h : ∀ i, n ≤ i → o.testBit i = false) (y : Nat) : ∀ d, el_sb g G o (n + d) y = el_sb g G o n y := by
  intro d
  induction d with
  | zero => rfl
  | succ d ih =>
    show el_sb g G o (n + d + 1) y = _
    rw [el_sb_f (h _ (by omega)), ih]
/-- x agrees with the first k values of X (2 or more: free) -/
def ag_a (X : Nat → Nat) (x : Nat) : Nat → Bool
  | 0 => true
  | k + 1 => ag_a X x k && (decide (2 ≤ X k) || decide ((x.testBit k).toNat = X k))
theorem ag_a_iff {X : Nat → Nat} {x : Nat} : ∀ k, ag_a X x k = true ↔ ∀ i, i < k → 2 ≤ X i ∨ (x.testBit i).toNat = X i := by
  intro k
  induction k with
  | zero => exact ⟨fun _ i hi => absurd hi (by omega), fun _ => rfl⟩
  | succ k ih =>
    show (ag_a X x k && (decide (2 ≤ X k) || decide ((x.testBit k).toNat = X k))) = true ↔ _
    rw [Bool.and_eq_true, ih, Bool.or_eq_true, decide_eq_true_eq, decide_eq_true_eq]
    constructor
    · intro ⟨h1, h2⟩ i hi
      rcases Nat.lt_or_ge i k with g | g
      · exact h1 i g
      · rw [show i = k by omega]; exact h2
    · intro h
      exact ⟨fun i hi => h i (by omega), h k (by omega)⟩
theorem ag_a_congr {X : Nat → Nat} {x y : Nat} : ∀ k, (∀ i, i < k → x.testBit i = y.testBit i) → ag_a X x k = ag_a X y k := by
  intro k
  induction k with
  | zero => intro _; rfl
  | succ k ih =>
    intro h
    show (ag_a X x k && (decide (2 ≤ X k) || decide ((x.testBit k).toNat = X k))) = (ag_a X y k && (decide (2 ≤ X k) || decide ((y.testBit k).toNat = X k)))
    rw [ih fun i hi => h i (by omega), h k (by omega)]
def el_T (g : Bool) (X : Nat → Nat) (w : Nat → Nat) (k y : Nat) : Nat := ag_s g (fun x => ag_a X x k) (fun x => w (x ||| y)) (2 ^ k)
theorem el_T_s (g : Bool) (X : Nat → Nat) (w : Nat → Nat) (k y : Nat) : el_T g X w (k + 1) y = ag_o g (if 2 ≤ X k ∨ X k = 0 then el_T g X w k y else 0) (if 2 ≤ X k ∨ X k = 1 then el_T g X w k (y ||| 2 ^ k) else 0) := by
  unfold el_T
  rw [show 2 ^ (k + 1) = 2 ^ k + 2 ^ k by rw [Nat.pow_succ]; omega, ag_s_split]
  congr 1
  · by_cases h : 2 ≤ X k ∨ X k = 0
    · rw [if_pos h]
      refine ag_s_congr _ (fun x hx => ?_) fun _ _ _ => rfl
      show (ag_a X x k && (decide (2 ≤ X k) || decide ((x.testBit k).toNat = X k))) = _
      rw [bi_hi hx (Nat.le_refl _)]
      rcases h with h | h
      · rw [decide_eq_true h, Bool.true_or, Bool.and_true]
      · rw [h]; simp
    · rw [if_neg h]
      refine ag_s_none _ fun x hx => ?_
      show (ag_a X x k && (decide (2 ≤ X k) || decide ((x.testBit k).toNat = X k))) = _
      rw [bi_hi hx (Nat.le_refl _), decide_eq_false (fun z => h (Or.inl z)), decide_eq_false (show ¬ (false.toNat = X k) from fun z => h (Or.inr z.symm)), Bool.false_or, Bool.and_false]
  · have tb : ∀ x, x < 2 ^ k → (2 ^ k + x).testBit k = true := fun x hx => by rw [Nat.testBit_two_pow_add_eq, bi_hi hx (Nat.le_refl _)]; rfl
    have ta : ∀ x, ag_a X (2 ^ k + x) k = ag_a X x k := fun x => ag_a_congr k fun i hi => Nat.testBit_two_pow_add_gt hi x
    by_cases h : 2 ≤ X k ∨ X k = 1
    · rw [if_pos h]
      refine ag_s_congr _ (fun x hx => ?_) fun x hx _ => ?_
      · show (ag_a X (2 ^ k + x) k && (decide (2 ≤ X k) || decide (((2 ^ k + x).testBit k).toNat = X k))) = _
        rw [tb x hx, ta]
        rcases h with h | h
        · rw [decide_eq_true h, Bool.true_or, Bool.and_true]
        · rw [h]; simp
      · show w ((2 ^ k + x) ||| y) = w (x ||| (y ||| 2 ^ k))
        rw [Nat.add_comm, ← Nat.or_two_pow_eq_add_of_lt hx, Nat.or_assoc, Nat.or_comm y]
    · rw [if_neg h]
      refine ag_s_none _ fun x hx => ?_
      show (ag_a X (2 ^ k + x) k && (decide (2 ≤ X k) || decide (((2 ^ k + x).testBit k).toNat = X k))) = _
      rw [tb x hx, decide_eq_false (fun z => h (Or.inl z)), decide_eq_false (show ¬ (true.toNat = X k) from fun z => h (Or.inr z.symm)), Bool.false_or, Bool.and_false]
/-- the open and the set variables -/
def el_o (X : Nat → Nat) : Nat → Nat
  | 0 => 0
  | k + 1 => if X k = 2 then el_o X k ||| 2 ^ k else el_o X k
def el_s (X : Nat → Nat) : Nat → Nat
  | 0 => 0
  | k + 1 => if X k = 2 then el_s X k else el_s X k ||| X k * 2 ^ k
theorem el_o_bit (X : Nat → Nat) : ∀ k i, (el_o X k).testBit i = (decide (i < k) && decide (X i = 2)) := by
  intro k
  induction k with
  | zero => intro i; show (0 : Nat).testBit i = _; simp
  | succ k ih =>
    intro i
    show (if X k = 2 then el_o X k ||| 2 ^ k else el_o X k).testBit i = _
    by_cases h : X k = 2
    · rw [if_pos h, Nat.testBit_or, ih, bi_2]
      by_cases e : i = k
      · subst e; simp [h]
      · rw [decide_eq_false (show ¬ k = i from fun z => e z.symm), Bool.or_false, show decide (i < k) = decide (i < k + 1) from decide_eq_decide.mpr (by omega)]
    · rw [if_neg h, ih]
      by_cases e : i = k
      · subst e; simp [h]
      · rw [show decide (i < k) = decide (i < k + 1) from decide_eq_decide.mpr (by omega)]
theorem el_s_bit {X : Nat → Nat} : ∀ k, (∀ i, i < k → X i ≤ 2) → ∀ i, (el_s X k).testBit i = (decide (i < k) && decide (X i = 1)) := by
  intro k
  induction k with
  | zero => intro _ i; show (0 : Nat).testBit i = _; simp
  | succ k ih =>
    intro hX i
    have hk := hX k (by omega)
    show (if X k = 2 then el_s X k else el_s X k ||| X k * 2 ^ k).testBit i = _
    have e2 : i ≠ k → decide (i < k) = decide (i < k + 1) := fun e => decide_eq_decide.mpr (by omega)
    have hi := ih (fun i hi => hX i (by omega)) i
    by_cases h : X k = 2
    · rw [if_pos h, hi]
      by_cases e : i = k
      · subst e; simp [h]
      · rw [e2 e]
    · rw [if_neg h, Nat.testBit_or, hi]
      by_cases h0 : X k = 0
      · rw [h0, Nat.zero_mul, Nat.zero_testBit, Bool.or_false]
        by_cases e : i = k
        · subst e; simp [h0]
        · rw [e2 e]
      · have h1 : X k = 1 := by omega
        rw [h1, Nat.one_mul, bi_2]
        by_cases e : i = k
        · subst e; simp [h1]
        · rw [decide_eq_false (show ¬ k = i from fun z => e z.symm), Bool.or_false, e2 e]
theorem el_o_lt (X : Nat → Nat) (k : Nat) : el_o X k < 2 ^ k := Nat.lt_pow_two_of_testBit _ fun i hi => by rw [el_o_bit, decide_eq_false (by omega), Bool.false_and]
theorem el_s_lt {X : Nat → Nat} {k : Nat} (h : ∀ i, i < k → X i ≤ 2) : el_s X k < 2 ^ k := Nat.lt_pow_two_of_testBit _ fun i hi => by rw [el_s_bit k h, decide_eq_false (by omega), Bool.false_and]
/-- lemma B: all agreeing numbers one behind another, or bit by bit -/
theorem el_linB {g : Bool} {X w : Nat → Nat} {n : Nat} (hX : ∀ i, i < n → X i ≤ 2) : ∀ k, k ≤ n → ∀ y z, (∀ i, y.testBit i = true → (el_o X n).testBit i = true) → (∀ i, z.testBit i = (decide (k ≤ i) && (el_s X n).testBit i)) → el_T g X w k (y ||| z) = el_sb g (fun y => w ((y &&& el_o X n) ||| el_s X n)) (el_o X n) k y := by
  intro k
  induction k with
  | zero =>
    intro _ y z hy hz
    have ez : z = el_s X n := Nat.eq_of_testBit_eq fun i => by rw [hz, decide_eq_true (Nat.zero_le _), Bool.true_and]
    have ey : y &&& el_o X n = y := Nat.eq_of_testBit_eq fun i => by
      rw [Nat.testBit_and]
      cases h : y.testBit i
      · rfl
      · rw [hy i h]; rfl
    show ag_o g 0 (if true = true then w (0 ||| (y ||| z)) else 0) = w ((y &&& el_o X n) ||| el_s X n)
    rw [if_pos rfl, ag_o_0l, ez, ey, Nat.zero_or]
  | succ k ih =>
    intro hk y z hy hz
    have hk2 := hX k (by omega)
    have ob : (el_o X n).testBit k = decide (X k = 2) := by rw [el_o_bit, decide_eq_true (show k < n by omega), Bool.true_and]
    have sb : (el_s X n).testBit k = decide (X k = 1) := by rw [el_s_bit n hX, decide_eq_true (show k < n by omega), Bool.true_and]
    have zsame : X k ≠ 1 → ∀ i, z.testBit i = (decide (k ≤ i) && (el_s X n).testBit i) := fun h i => by
      rw [hz]
      by_cases e : i = k
      · subst e
        rw [sb, decide_eq_false h, Bool.and_false, Bool.and_false]
      · rw [show decide (k + 1 ≤ i) = decide (k ≤ i) from decide_eq_decide.mpr (by omega)]
    rw [el_T_s]
    by_cases h2 : X k = 2
    · rw [if_pos (Or.inl (by omega)), if_pos (Or.inl (by omega)), el_sb_t (by rw [ob, decide_eq_true h2])]
      rw [ih (by omega) y z hy (zsame (by omega)), Nat.or_assoc, Nat.or_comm z, ← Nat.or_assoc]
      rw [ih (by omega) (y ||| 2 ^ k) z (fun i hi => ?_) (zsame (by omega))]
      rw [Nat.testBit_or] at hi
      cases e : y.testBit i
      · rw [e, Bool.false_or, bi_2, decide_eq_true_eq] at hi
        rw [← hi, ob, decide_eq_true h2]
      · exact hy i e
    · rw [el_sb_f (by rw [ob, decide_eq_false h2])]
      by_cases h1 : X k = 1
      · rw [if_neg (by omega), if_pos (Or.inr h1), ag_o_0l, Nat.or_assoc]
        refine ih (by omega) y (z ||| 2 ^ k) hy fun i => ?_
        rw [Nat.testBit_or, hz, bi_2]
        by_cases e : i = k
        · subst e
          rw [sb]; simp [h1]
        · rw [decide_eq_false (show ¬ k = i from fun q => e q.symm), Bool.or_false, show decide (k + 1 ≤ i) = decide (k ≤ i) from decide_eq_decide.mpr (by omega)]
      · rw [if_pos (Or.inr (by omega)), if_neg (by omega), ag_o_0r]
        exact ih (by omega) y z hy (zsame h1)
theorem el_lin {g : Bool} {X w : Nat → Nat} {n : Nat} (hX : ∀ i, i < n → X i ≤ 2) (hn : n ≤ 7) : ag_s g (fun x => ag_a X x n) w (2 ^ n) = el_sb g (fun y => w ((y &&& el_o X n) ||| el_s X n)) (el_o X n) 7 0 := by
  have h := el_linB (g := g) (w := w) hX n (Nat.le_refl _) 0 0 (fun i hi => by rw [Nat.zero_testBit] at hi; exact absurd hi Bool.false_ne_true) (fun i => by
    rw [Nat.zero_testBit, el_s_bit n hX]
    rcases Nat.lt_or_ge i n with h | h
    · rw [decide_eq_false (show ¬ n ≤ i by omega), Bool.false_and]
    · rw [decide_eq_false (show ¬ i < n by omega), Bool.false_and, Bool.and_false])
  have e := el_stop (g := g) (G := fun y => w ((y &&& el_o X n) ||| el_s X n)) (o := el_o X n) (n := n) (fun i hi => bi_hi (el_o_lt X n) hi) 0 (7 - n)
  rw [show n + (7 - n) = 7 by omega] at e
  rw [e, ← h]
  unfold el_T
  refine ag_s_congr _ (fun _ _ => rfl) fun x _ _ => ?_
  show w x = w (x ||| (0 ||| 0))
  rw [Nat.zero_or, Nat.or_zero]
end
section
/-! products of factors; one variable taken out -/
def el_pr (h : Nat → Nat) : Nat → Nat
  | 0 => 1
  | m + 1 => el_pr h m * h m
theorem el_pr_congr {h k : Nat → Nat} : ∀ m, (∀ f, f < m → h f = k f) → el_pr h m = el_pr k m := by
  intro m
  induction m with
  | zero => intro _; rfl
  | succ m ih =>
    intro e
    show el_pr h m * h m = el_pr k m * k m
    rw [ih fun f hf => e f (by omega), e m (by omega)]
theorem el_pr_mul (h k : Nat → Nat) : ∀ m, el_pr (fun f => h f * k f) m = el_pr h m * el_pr k m := by
  intro m
  induction m with
  | zero => rfl
  | succ m ih =>
    show el_pr (fun f => h f * k f) m * (h m * k m) = el_pr h m * h m * (el_pr k m * k m)
    rw [ih, Nat.mul_assoc, Nat.mul_assoc, Nat.mul_left_comm (el_pr k m)]
theorem el_pr_le {h k : Nat → Nat} : ∀ m, (∀ f, f < m → h f ≤ k f) → el_pr h m ≤ el_pr k m := by
  intro m
  induction m with
  | zero => intro _; exact Nat.le_refl _
  | succ m ih =>
    intro e
    exact Nat.mul_le_mul (ih fun f hf => e f (by omega)) (e m (by omega))
theorem el_pr_1 {h : Nat → Nat} : ∀ m, (∀ f, f < m → 1 ≤ h f) → 1 ≤ el_pr h m := by
  intro m
  induction m with
  | zero => intro _; exact Nat.le_refl _
  | succ m ih =>
    intro e
    exact Nat.mul_le_mul (ih fun f hf => e f (by omega)) (e m (by omega))
/-- of the used factors: those with v (j), those without (r), all (g) -/
def el_j (u : Nat → Bool) (s : Nat → Nat) (F : Nat → Nat) (v m : Nat) : Nat := el_pr (fun f => if u f && (s f).testBit v then F f else 1) m
def el_r (u : Nat → Bool) (s : Nat → Nat) (F : Nat → Nat) (v m : Nat) : Nat := el_pr (fun f => if u f && !(s f).testBit v then F f else 1) m
def el_g (u : Nat → Bool) (F : Nat → Nat) (m : Nat) : Nat := el_pr (fun f => if u f then F f else 1) m
theorem el_jr (u : Nat → Bool) (s : Nat → Nat) (F : Nat → Nat) (v m : Nat) : el_g u F m = el_r u s F v m * el_j u s F v m := by
  unfold el_g el_r el_j
  rw [← el_pr_mul]
  refine el_pr_congr m fun f _ => ?_
  cases u f <;> cases (s f).testBit v <;> simp
/-- the joint scope of v -/
def el_js (u : Nat → Bool) (s : Nat → Nat) (v : Nat) : Nat → Nat
  | 0 => 0
  | m + 1 => if u m && (s m).testBit v then el_js u s v m ||| s m else el_js u s v m
theorem el_js_lt {u : Nat → Bool} {s : Nat → Nat} {v : Nat} : ∀ m, (∀ f, f < m → s f < 128) → el_js u s v m < 128 := by
  intro m
  induction m with
  | zero => intro _; show 0 < 128; omega
  | succ m ih =>
    intro h
    show (if (u m && (s m).testBit v) = true then el_js u s v m ||| s m else el_js u s v m) < 128
    have h1 := ih fun f hf => h f (by omega)
    split
    · exact Nat.or_lt_two_pow (n := 7) h1 (h m (by omega))
    · exact h1
theorem el_js_in {u : Nat → Bool} {s : Nat → Nat} {v i : Nat} : ∀ m f, f < m → (u f && (s f).testBit v) = true → (s f).testBit i = true → (el_js u s v m).testBit i = true := by
  intro m
  induction m with
  | zero => intro f hf; omega
  | succ m ih =>
    intro f hf hu hi
    show (if (u m && (s m).testBit v) = true then el_js u s v m ||| s m else el_js u s v m).testBit i = true
    rcases Nat.lt_or_ge f m with h | h
    · have h1 := ih f h hu hi
      split
      · rw [Nat.testBit_or, h1, Bool.true_or]
      · exact h1
    · obtain rfl : f = m := by omega
      rw [if_pos hu, Nat.testBit_or, hi, Bool.or_true]
theorem el_js_of {u : Nat → Bool} {s : Nat → Nat} {v i : Nat} : ∀ m, (el_js u s v m).testBit i = true → ∃ f, f < m ∧ u f = true ∧ (s f).testBit i = true := by
  intro m
  induction m with
  | zero => intro h; exact absurd (show (0 : Nat).testBit i = true from h) (by simp)
  | succ m ih =>
    intro h
    have h : (if (u m && (s m).testBit v) = true then el_js u s v m ||| s m else el_js u s v m).testBit i = true := h
    by_cases c : (u m && (s m).testBit v) = true
    · rw [if_pos c, Nat.testBit_or, Bool.or_eq_true] at h
      rcases h with h | h
      · obtain ⟨f, h1, h2, h3⟩ := ih h
        exact ⟨f, by omega, h2, h3⟩
      · rw [Bool.and_eq_true] at c
        exact ⟨m, by omega, c.1, h⟩
    · rw [if_neg c] at h
      obtain ⟨f, h1, h2, h3⟩ := ih h
      exact ⟨f, by omega, h2, h3⟩
/-- what is held of each used factor: its scope within o, its values by its scope, its bound -/
def el_H (m o : Nat) (s : Nat → Nat) (u : Nat → Bool) (F : Nat → Nat → Nat) (b : Nat → Nat) : Prop := ∀ f, f < m → s f < 128 ∧ (u f = true → (∀ i, (s f).testBit i = true → o.testBit i = true) ∧ (∀ x y, x &&& s f = y &&& s f → F f x = F f y) ∧ (∀ x, F f x ≤ b f) ∧ 1 ≤ b f)
def el_fs (m : Nat) (s : Nat → Nat) (k : Nat) : Nat → Nat := fun f => if f = m then k else s f
def el_fu (m v : Nat) (s : Nat → Nat) (u : Nat → Bool) : Nat → Bool := fun f => if f = m then true else (u f && !(s f).testBit v)
def el_fF (m : Nat) (F : Nat → Nat → Nat) (N : Nat → Nat) : Nat → Nat → Nat := fun f => if f = m then N else F f
/-- the new factor -/
def el_N (g : Bool) (m v : Nat) (s : Nat → Nat) (u : Nat → Bool) (F : Nat → Nat → Nat) (x : Nat) : Nat := ag_o g (el_j u s (fun f => F f (x &&& bi_d (el_js u s v m) (2 ^ v))) v m) (el_j u s (fun f => F f ((x &&& bi_d (el_js u s v m) (2 ^ v)) ||| 2 ^ v)) v m)
section
variable {g : Bool} {m o v : Nat} {s : Nat → Nat} {u : Nat → Bool} {F : Nat → Nat → Nat} {b : Nat → Nat}
theorem el_j_congr (H : el_H m o s u F b) {x y : Nat} (h : ∀ i, (el_js u s v m).testBit i = true → x.testBit i = y.testBit i) : el_j u s (fun f => F f x) v m = el_j u s (fun f => F f y) v m := by
  unfold el_j
  refine el_pr_congr m fun f hf => ?_
  by_cases c : (u f && (s f).testBit v) = true
  · rw [if_pos c, if_pos c]
    have hu : u f = true := by rw [Bool.and_eq_true] at c; exact c.1
    refine ((H f hf).2 hu).2.1 x y ?_
    apply Nat.eq_of_testBit_eq
    intro i
    rw [Nat.testBit_and, Nat.testBit_and]
    cases e : (s f).testBit i
    · rw [Bool.and_false, Bool.and_false]
    · rw [h i (el_js_in m f hf c e)]
  · rw [if_neg c, if_neg c]
theorem el_r_congr (H : el_H m o s u F b) {x y : Nat} (h : ∀ i, i ≠ v → x.testBit i = y.testBit i) : el_r u s (fun f => F f x) v m = el_r u s (fun f => F f y) v m := by
  unfold el_r
  refine el_pr_congr m fun f hf => ?_
  by_cases c : (u f && !(s f).testBit v) = true
  · rw [if_pos c, if_pos c]
    rw [Bool.and_eq_true] at c
    refine ((H f hf).2 c.1).2.1 x y ?_
    apply Nat.eq_of_testBit_eq
    intro i
    rw [Nat.testBit_and, Nat.testBit_and]
    by_cases e : i = v
    · rw [e]
      cases e2 : (s f).testBit v
      · rw [Bool.and_false, Bool.and_false]
      · rw [e2] at c
        exact absurd c.2 (by decide)
    · rw [h i e]
  · rw [if_neg c, if_neg c]
theorem el_js128 (H : el_H m o s u F b) : el_js u s v m < 128 := el_js_lt m fun f hf => (H f hf).1
theorem el_g_new (H : el_H m o s u F b) {y : Nat} (hy : y.testBit v = false) : el_g (el_fu m v s u) (fun f => el_fF m F (el_N g m v s u F) f y) (m + 1) = ag_o g (el_g u (fun f => F f y) m) (el_g u (fun f => F f (y ||| 2 ^ v)) m) := by
  have e1 : el_g (el_fu m v s u) (fun f => el_fF m F (el_N g m v s u F) f y) (m + 1) = el_r u s (fun f => F f y) v m * el_N g m v s u F y := by
    show el_pr _ m * (if el_fu m v s u m = true then el_fF m F (el_N g m v s u F) m y else 1) = _
    have a : el_fu m v s u m = true := if_pos rfl
    have c : el_fF m F (el_N g m v s u F) m = el_N g m v s u F := if_pos rfl
    rw [if_pos a, c]
    congr 1
    unfold el_r
    refine el_pr_congr m fun f hf => ?_
    have a : el_fu m v s u f = (u f && !(s f).testBit v) := if_neg (by omega)
    have c : el_fF m F (el_N g m v s u F) f = F f := if_neg (by omega)
    dsimp only
    rw [a, c]
  have bd : ∀ i, (bi_d (el_js u s v m) (2 ^ v)).testBit i = ((el_js u s v m).testBit i && !decide (v = i)) := fun i => by rw [bi_dt (el_js128 H), bi_2]
  rw [e1, el_jr u s (fun f => F f y) v m, el_jr u s (fun f => F f (y ||| 2 ^ v)) v m, el_r_congr H (x := y ||| 2 ^ v) (y := y) (fun i hi => by rw [Nat.testBit_or, bi_2n (fun z => hi z.symm), Bool.or_false]), ← ag_o_mul]
  unfold el_N
  congr 2
  · refine el_j_congr H fun i hi => ?_
    rw [Nat.testBit_and, bd, hi, Bool.true_and]
    by_cases e : v = i
    · subst e; rw [hy, Bool.false_and]
    · rw [decide_eq_false e]; simp
  · refine el_j_congr H fun i hi => ?_
    rw [Nat.testBit_or, Nat.testBit_or, Nat.testBit_and, bd, hi, Bool.true_and]
    by_cases e : v = i
    · subst e; rw [bi_2s, Bool.or_true, Bool.or_true]
    · rw [decide_eq_false e]; simp
theorem el_step_sb (H : el_H m o s u F b) (ho : o < 128) (hv : v < 7) (hb : o.testBit v = true) : el_sb g (fun y => el_g (el_fu m v s u) (fun f => el_fF m F (el_N g m v s u F) f y) (m + 1)) (bi_d o (2 ^ v)) 7 0 = el_sb g (fun y => el_g u (fun f => F f y) m) o 7 0 := by
  refine el_take7 hb ?_ ?_ hv fun y _ h => el_g_new H h
  · rw [bi_dt ho, bi_2s]; simp
  · intro i hi
    rw [bi_dt ho, bi_2n (fun z => hi z.symm)]; simp
/-- the bound of a joint -/
theorem el_j_le (H : el_H m o s u F b) (x : Nat) : el_j u s (fun f => F f x) v m ≤ el_j u s b v m := by
  unfold el_j
  refine el_pr_le m fun f hf => ?_
  by_cases c : (u f && (s f).testBit v) = true
  · rw [if_pos c, if_pos c]
    rw [Bool.and_eq_true] at c
    exact ((H f hf).2 c.1).2.2.1 x
  · rw [if_neg c, if_neg c]
    exact Nat.le_refl _
theorem el_j_1 (H : el_H m o s u F b) : 1 ≤ el_j u s b v m := by
  unfold el_j
  refine el_pr_1 m fun f hf => ?_
  by_cases c : (u f && (s f).testBit v) = true
  · rw [if_pos c]
    rw [Bool.and_eq_true] at c
    exact ((H f hf).2 c.1).2.2.2
  · rw [if_neg c]
    exact Nat.le_refl _
theorem el_r_1 (H : el_H m o s u F b) : 1 ≤ el_r u s b v m := by
  unfold el_r
  refine el_pr_1 m fun f hf => ?_
  by_cases c : (u f && !(s f).testBit v) = true
  · rw [if_pos c]
    rw [Bool.and_eq_true] at c
    exact ((H f hf).2 c.1).2.2.2
  · rw [if_neg c]
    exact Nat.le_refl _
theorem el_j_B (H : el_H m o s u F b) : el_j u s b v m ≤ el_g u b m := by
  rw [el_jr u s b v m]
  exact Nat.le_mul_of_pos_left _ (el_r_1 H)
theorem el_step_H (H : el_H m o s u F b) (ho : o < 128) (hv : v < 7) : el_H (m + 1) (bi_d o (2 ^ v)) (el_fs m s (bi_d (el_js u s v m) (2 ^ v))) (el_fu m v s u) (el_fF m F (el_N g m v s u F)) (el_fs m b (2 * el_j u s b v m)) := by
  intro f hf
  by_cases e : f = m
  · subst e
    have a1 : el_fs f s (bi_d (el_js u s v f) (2 ^ v)) f = bi_d (el_js u s v f) (2 ^ v) := if_pos rfl
    have a2 : el_fF f F (el_N g f v s u F) f = el_N g f v s u F := if_pos rfl
    have a3 : el_fs f b (2 * el_j u s b v f) f = 2 * el_j u s b v f := if_pos rfl
    rw [a1, a2, a3]
    refine ⟨bi_dlt (el_js128 H), fun _ => ⟨fun i hi => ?_, fun x y h => ?_, fun x => ag_o_le g (el_j_le H _) (el_j_le H _), ?_⟩⟩
    · rw [bi_dt (el_js128 H), Bool.and_eq_true] at hi
      obtain ⟨k, h1, h2, h3⟩ := el_js_of f hi.1
      rw [bi_dt ho, ((H k h1).2 h2).1 i h3, hi.2]
      rfl
    · unfold el_N
      rw [h]
    · have := el_j_1 (v := v) H
      omega
  · have a1 : ∀ k, el_fs m s k f = s f := fun k => if_neg e
    have a2 : el_fF m F (el_N g m v s u F) f = F f := if_neg e
    have a3 : ∀ k, el_fs m b k f = b f := fun k => if_neg e
    have a4 : el_fu m v s u f = (u f && !(s f).testBit v) := if_neg e
    rw [a1, a2, a3, a4]
    refine ⟨(H f (by omega)).1, fun c => ?_⟩
    rw [Bool.and_eq_true] at c
    obtain ⟨h1, h2⟩ := (H f (by omega)).2 c.1
    refine ⟨fun i hi => ?_, h2⟩
    rw [bi_dt ho, h1 i hi, bi_2]
    by_cases e : v = i
    · subst e
      rw [hi] at c
      exact absurd c.2 (by decide)
    · rw [decide_eq_false e]; rfl
theorem el_step_B (H : el_H m o s u F b) : el_g (el_fu m v s u) (el_fs m b (2 * el_j u s b v m)) (m + 1) = 2 * el_g u b m := by
  show el_pr _ m * (if el_fu m v s u m = true then el_fs m b (2 * el_j u s b v m) m else 1) = _
  have a : el_fu m v s u m = true := if_pos rfl
  have c : el_fs m b (2 * el_j u s b v m) m = 2 * el_j u s b v m := if_pos rfl
  rw [if_pos a, c, el_jr u s b v m, Nat.mul_left_comm]
  congr 2
  unfold el_r
  refine el_pr_congr m fun f hf => ?_
  have a : el_fu m v s u f = (u f && !(s f).testBit v) := if_neg (by omega)
  have c : ∀ k, el_fs m b k f = b f := fun k => if_neg (by omega)
  rw [a, c]
end
end
section
/-! X's small methods -/
/-- an array that holds naturals -/
def rl_a (P : Nat → Nat) : Nat → Int32 := fun i => nI (P i)
theorem rl_at {P : Nat → Nat} {v : Nat} (h : v < 2 ^ 31) : rl_a P (nI v).toNatClampNeg = nI (P v) := by
  unfold rl_a
  rw [nI_clamp h]
def rl_u (P : Nat → Nat) (k x : Nat) : Nat → Nat := fun j => if j = k then x else P j
theorem rl_upd (P : Nat → Nat) (k x : Nat) : upd (rl_a P) k (nI x) = rl_a (rl_u P k x) := by
  funext j
  show (if j = k then nI x else nI (P j)) = nI (if j = k then x else P j)
  split <;> rfl
theorem rl_updI {P : Nat → Nat} {k x : Nat} (h : k < 2 ^ 31) : upd (rl_a P) (nI k).toNatClampNeg (nI x) = rl_a (rl_u P k x) := by
  rw [nI_clamp h, rl_upd]
theorem rl_zero : (fun _ => 0 : Nat → Int32) = rl_a (fun _ => 0) := rfl
def rl_b (b : Bool) : Int32 := if b then 1 else 0
theorem rl_b0 : ∀ b : Bool, rl_b b = 0 ↔ b = false := by decide +kernel
theorem rl_bbr {A B : Prop} {b : Bool} (f : b = false → A) (g : b = true → B) : (rl_b b = 0 → A) ∧ (¬ rl_b b = 0 → B) := by
  rw [rl_b0]
  exact ⟨f, fun h => g (by simpa using h)⟩
/-- the entry of v for x, the weight of x up to k -/
def rl_e (P E : Nat → Nat) (v x : Nat) : Nat := E (16 * v + 2 * pa_p x (P v) 7 + (x.testBit v).toNat)
def rl_w (P E : Nat → Nat) (x : Nat) : Nat → Nat
  | 0 => 1
  | k + 1 => rl_w P E x k * rl_e P E k x
def rl_ok (n : Nat) (P E S : Nat → Nat) : Prop := 2 ≤ n ∧ n ≤ 7 ∧ (∀ i, P i < 2 ^ i ∧ pa_c (P i) 7 ≤ 3) ∧ (∀ i, E i ≤ 9) ∧ (∀ i, S i ≤ 2)
theorem rl_128 {p i : Nat} (h : p < 2 ^ i) (hi : i ≤ 7) : p < 128 := Nat.lt_of_lt_of_le h (Nat.pow_le_pow_right (n := 2) (by decide) hi)
theorem rl_row {P : Nat → Nat} {v : Nat} (x : Nat) (h : pa_c (P v) 7 ≤ 3) : pa_p x (P v) 7 < 8 := Nat.lt_of_lt_of_le (pa_p_lt x (P v) 7) (Nat.pow_le_pow_right (n := 2) (by decide) h)
theorem rl_t1 (b : Bool) : b.toNat ≤ 1 := Bool.toNat_le _
theorem rl_ix (v r b : Nat) : 16 * nI v + 2 * nI r + nI b = nI (16 * v + 2 * r + b) := by
  show nI 16 * nI v + nI 2 * nI r + nI b = _
  rw [pk_mul, pk_mul, nI_add, nI_add]
theorem xw_ones_l {s : Nat} (hs : s < 2 ^ 31) {post : Int32 → Prop} (hp : post (nI (pa_c s 7))) : ∀ d k, k + d = 7 → wX_ones_4 post (nI s) (d + 1) (nI (pa_c s k)) (nI k) := by
  intro d
  induction d with
  | zero =>
    intro k hk
    obtain rfl : k = 7 := by omega
    exact br_t (Int32.le_refl _) hp
  | succ d ih =>
    intro k hk
    refine br_f (nI_ge (b := 7) (by omega) (by decide)) ?_
    intro a ea b eb
    rw [bi_bit hs (by omega), nI_add] at ea
    rw [nI_1] at eb
    subst ea eb
    exact ih (k + 1) (by omega)
theorem xw_ones {s : Nat} (hs : s < 2 ^ 31) {post : Int32 → Prop} (hp : post (nI (pa_c s 7))) : wpX_ones post (nI s) := ⟨8, xw_ones_l hs hp 7 0 rfl⟩
theorem xw_packed_l {x s : Nat} (hx : x < 2 ^ 31) (hs : s < 2 ^ 31) {post : Int32 → Prop} (hp : post (nI (pa_p x s 7))) : ∀ d k, k + d = 7 → wX_packed_7 post (nI x) (nI s) (d + 1) (nI (pa_p x s k)) (nI (pa_c s k)) (nI k) := by
  intro d
  induction d with
  | zero =>
    intro k hk
    obtain rfl : k = 7 := by omega
    exact br_t (Int32.le_refl _) hp
  | succ d ih =>
    intro k hk
    have c := pa_c_le s k
    refine br_f (nI_ge (b := 7) (by omega) (by decide)) (bi_br hs (by omega) (fun h => ?_) (fun h => ?_))
    · intro a ea b eb z ez
      rw [bi_bit hx (by omega), bi_put (pa_p_lt x s k) (rl_t1 _) (by omega), ← pa_p_t h] at ea
      rw [nI_1, ← pa_c_t h] at eb
      rw [nI_1] at ez
      subst ea eb ez
      exact ih (k + 1) (by omega)
    · intro z ez
      rw [nI_1] at ez
      subst ez
      have q := ih (k + 1) (by omega)
      rw [pa_p_f h, pa_c_f h] at q
      exact q
theorem xw_packed {x s : Nat} (hx : x < 2 ^ 31) (hs : s < 2 ^ 31) {post : Int32 → Prop} (hp : post (nI (pa_p x s 7))) : wpX_packed post (nI x) (nI s) := ⟨8, xw_packed_l hx hs hp 7 0 rfl⟩
section
variable {n : Nat} {P E S : Nat → Nat} {ff gg : Int32} {fx sc us : Nat → Int32} {vs : Nat → Int64}
theorem xw_good {post : Int32 → Prop} (hn : n < 2 ^ 31) {p : Int32} (h0 : (p < 0 ∨ nI n ≤ p) → post 0) (h1 : ∀ v, v < n → p = nI v → post 1) : wpX_isGood post (nI n, ff, gg, rl_a P, rl_a E, rl_a S, fx, sc, vs, us) p := by
  refine br_c (fun h => h0 (Or.inl h)) (fun h => br_c (fun h2 => h0 (Or.inr h2)) (fun h2 => ?_))
  obtain ⟨j, hj, rfl⟩ := nI_of h
  rw [nI_leI hn hj] at h2
  exact h1 j (by omega) rfl
theorem xw_entry (ok : rl_ok n P E S) {post : Int32 → Prop} {v x : Nat} (hv : v < 7) (hx : x < 2 ^ 31) (hp : post (nI (rl_e P E v x))) : wpX_entryFor post (nI n, ff, gg, rl_a P, rl_a E, rl_a S, fx, sc, vs, us) (nI v) (nI x) := by
  obtain ⟨h1, h2⟩ := ok.2.2.1 v
  have hr := rl_row x h2
  have ht := rl_t1 (x.testBit v)
  have h3 := rl_128 h1 (by omega)
  refine And.intro (vp_in_nI hv (by decide)) ?_
  rw [rl_at (by omega)]
  refine xw_packed hx (by omega) ?_
  rw [bi_bit hx (by omega), rl_ix]
  refine And.intro (vp_in_nI (by omega) (by decide)) ?_
  rw [rl_at (by omega)]
  exact hp
theorem xw_weight_l (ok : rl_ok n P E S) {post : Int32 → Prop} {x : Nat} (hx : x < 2 ^ 31) (hp : post (nI (rl_w P E x n))) : ∀ d k, k + d = n → wX_weightOf_4 post (nI x) (nI n) ff gg (rl_a P) (rl_a E) (rl_a S) fx sc vs us (d + 1) (nI (rl_w P E x k)) (nI k) := by
  have hn := ok.2.1
  intro d
  induction d with
  | zero =>
    intro k hk
    obtain rfl : k = n := by omega
    exact br_t (Int32.le_refl _) hp
  | succ d ih =>
    intro k hk
    refine br_f (nI_ge (by omega) (by omega)) ?_
    refine xw_entry ok (by omega) hx ?_
    intro a ea b eb
    rw [pk_mul] at ea
    rw [nI_1] at eb
    subst ea eb
    exact ih (k + 1) (by omega)
theorem xw_weightOf (ok : rl_ok n P E S) {post : Int32 → Prop} {x : Nat} (hx : x < 2 ^ 31) (hp : post (nI (rl_w P E x n))) : wpX_weightOf post (nI n, ff, gg, rl_a P, rl_a E, rl_a S, fx, sc, vs, us) (nI x) := ⟨n + 1, xw_weight_l ok hx hp n 0 (Nat.zero_add n)⟩
theorem xw_take_l (ok : rl_ok n P E S) {post : SX → Prop} (hp : ∀ fx', (∀ i, i < n → fx' i = nI (S i)) → post (nI n, ff, gg, rl_a P, rl_a E, rl_a S, fx', sc, vs, us)) : ∀ d k fx, k + d = n → (∀ i, i < k → fx i = nI (S i)) → wX_takeSeen_2 post (nI n) ff gg (d + 1) (nI k) (rl_a P) (rl_a E) (rl_a S) fx sc vs us := by
  have hn := ok.2.1
  intro d
  induction d with
  | zero =>
    intro k fx hk hf
    obtain rfl : k = n := by omega
    exact br_t (Int32.le_refl _) (hp fx hf)
  | succ d ih =>
    intro k fx hk hf
    have hi : vp_in (nI k) 7 := vp_in_nI (by omega) (by decide)
    refine br_f (nI_ge (by omega) (by omega)) (And.intro hi (And.intro hi ?_))
    intro a ea b eb
    rw [nI_1] at eb
    rw [rl_at (by omega), nI_clamp (by omega)] at ea
    subst ea eb
    refine ih (k + 1) _ (by omega) fun i hi => ?_
    rcases Nat.lt_or_ge i k with h | h
    · rw [pk_un (by omega)]; exact hf i h
    · obtain rfl : i = k := by omega
      exact pk_us
theorem xw_takeSeen (ok : rl_ok n P E S) {post : SX → Prop} (hp : ∀ fx', (∀ i, i < n → fx' i = nI (S i)) → post (nI n, ff, gg, rl_a P, rl_a E, rl_a S, fx', sc, vs, us)) : wpX_takeSeen post (nI n, ff, gg, rl_a P, rl_a E, rl_a S, fx, sc, vs, us) := ⟨n + 1, xw_take_l ok hp n 0 fx (Nat.zero_add n) fun i hi => absurd hi (by omega)⟩
theorem xw_fix {post : Int32 → SX → Prop} {v a y : Nat} (hv : v < 7) (ha : a ≤ 1) (hy : fx v = nI y) (hy2 : y ≤ 2) (h0 : y = 1 - a → post 0 (nI n, ff, gg, rl_a P, rl_a E, rl_a S, fx, sc, vs, us)) (h1 : y ≠ 1 - a → post 1 (nI n, ff, gg, rl_a P, rl_a E, rl_a S, upd fx v (nI a), sc, vs, us)) : wpX_fix post (nI n, ff, gg, rl_a P, rl_a E, rl_a S, fx, sc, vs, us) (nI v) (nI a) := by
  have hi : vp_in (nI v) 7 := vp_in_nI (by omega) (by decide)
  refine And.intro hi ?_
  rw [nI_clamp (by omega), hy, show (1 : Int32) - nI a = nI (1 - a) from pk_sub (a := 1) ha]
  refine pk_eq y (1 - a) h0 fun h => And.intro hi ?_
  intro q eq
  subst eq
  exact h1 h
end
end
section
/-! X's factors: tables, joint scopes, joints -/
/-- the arrays hold the factors -/
def el_V (m : Nat) (s : Nat → Nat) (u : Nat → Bool) (F : Nat → Nat → Nat) (sc us : Nat → Int32) (vs : Nat → Int64) : Prop := ∀ f, f < m → sc f = nI (s f) ∧ us f = rl_b (u f) ∧ (u f = true → ∀ x, x < 128 → vs (128 * f + pa_p x (s f) 7) = lN (F f x))
theorem xw_ix (m j : Nat) : 128 * nI m + nI j = nI (128 * m + j) := by
  show nI 128 * nI m + nI j = _
  rw [pk_mul, nI_add]
section
variable {n m : Nat} {P E S : Nat → Nat} {ff gg : Int32} {fx sc us : Nat → Int32} {vs : Nat → Int64} {s : Nat → Nat} {u : Nat → Bool} {F : Nat → Nat → Nat} {b : Nat → Nat}
theorem xw_js_l (hm : m ≤ 15) (V : el_V m s u F sc us vs) (h128 : ∀ f, f < m → s f < 128) {v : Nat} (hv : v < 7) {post : Int32 → Prop} (hp : post (nI (el_js u s v m))) : ∀ d k, k + d = m → wX_jointScope_4 post (nI v) (nI n) (nI m) gg (rl_a P) (rl_a E) (rl_a S) fx sc vs us (d + 1) (nI (el_js u s v k)) (nI k) := by
  intro d
  induction d with
  | zero =>
    intro k hk
    obtain rfl : k = m := by omega
    exact br_t (Int32.le_refl _) hp
  | succ d ih =>
    intro k hk
    obtain ⟨h1, h2, _⟩ := V k (by omega)
    have h3 := h128 k (by omega)
    have c : (nI k).toNatClampNeg = k := nI_clamp (by omega)
    have hi : vp_in (nI k) 15 := vp_in_nI (by omega) (by decide)
    have q := ih (k + 1) (by omega)
    refine br_f (nI_ge (by omega) (by omega)) (And.intro hi ?_)
    rw [c, h1, h2]
    refine rl_bbr (fun e => ?_) (fun e => And.intro hi (bi_br (by omega) (by omega) (fun e2 => And.intro hi ?_) (fun e2 => ?_)))
    · intro z ez
      rw [nI_1] at ez
      subst ez
      rw [show el_js u s v (k + 1) = el_js u s v k from if_neg (by rw [e]; simp)] at q
      exact q
    · intro a ea z ez
      rw [bi_or, show el_js u s v k ||| s k = el_js u s v (k + 1) from (if_pos (by rw [e, e2]; rfl)).symm] at ea
      rw [nI_1] at ez
      subst ea ez
      exact q
    · intro z ez
      rw [nI_1] at ez
      subst ez
      rw [show el_js u s v (k + 1) = el_js u s v k from if_neg (by rw [e2]; simp)] at q
      exact q
theorem xw_js (hm : m ≤ 15) (V : el_V m s u F sc us vs) (h128 : ∀ f, f < m → s f < 128) {v : Nat} (hv : v < 7) {post : Int32 → Prop} (hp : post (nI (el_js u s v m))) : wpX_jointScope post (nI n, nI m, gg, rl_a P, rl_a E, rl_a S, fx, sc, vs, us) (nI v) := ⟨m + 1, xw_js_l hm V h128 hv hp m 0 (Nat.zero_add m)⟩
theorem xw_ch_l (hn : n ≤ 7) (hm : m ≤ 15) (V : el_V m s u F sc us vs) (h128 : ∀ f, f < m → s f < 128) {o : Nat} (ho : o < 128) (hne : ∃ i, i < n ∧ o.testBit i = true) {post : Int32 → Prop} (hp : ∀ v, v < n → o.testBit v = true → post (nI v)) : ∀ d k x3 x2, k + d = n → ((x2 = -1 ∧ ∀ i, i < k → o.testBit i = false) ∨ ∃ v, v < n ∧ o.testBit v = true ∧ x2 = nI v) → wX_cheapest_7 post (nI o) (nI n) (nI m) gg (rl_a P) (rl_a E) (rl_a S) fx sc vs us (d + 1) x2 x3 (nI k) := by
  intro d
  induction d with
  | zero =>
    intro k x3 x2 hk h
    obtain rfl : k = n := by omega
    refine br_t (Int32.le_refl _) ?_
    rcases h with ⟨_, h⟩ | ⟨v, h1, h2, h3⟩
    · obtain ⟨i, h1, h2⟩ := hne
      rw [h i h1] at h2
      exact absurd h2 Bool.false_ne_true
    · rw [h3]
      exact hp v h1 h2
  | succ d ih =>
    intro k x3 x2 hk h
    refine br_f (nI_ge (by omega) (by omega)) (bi_br (by omega) (by omega) (fun e => ?_) (fun e => ?_))
    · refine xw_js hm V h128 (by omega) ?_
      refine xw_ones (Nat.lt_trans (el_js_lt m h128) (by decide)) ?_
      refine br_c (fun _ => ?_) (fun e0 => br_c (fun _ => ?_) (fun _ => ?_))
      · intro z ez
        rw [nI_1] at ez
        subst ez
        exact ih (k + 1) _ _ (by omega) (Or.inr ⟨k, by omega, e, rfl⟩)
      · intro z ez
        rw [nI_1] at ez
        subst ez
        refine ih (k + 1) _ _ (by omega) ?_
        rcases h with ⟨h1, _⟩ | h
        · rw [h1] at e0
          exact absurd (by decide) e0
        · exact Or.inr h
      · intro z ez
        rw [nI_1] at ez
        subst ez
        exact ih (k + 1) _ _ (by omega) (Or.inr ⟨k, by omega, e, rfl⟩)
    · intro z ez
      rw [nI_1] at ez
      subst ez
      refine ih (k + 1) _ _ (by omega) ?_
      rcases h with ⟨h1, h2⟩ | h
      · refine Or.inl ⟨h1, fun i hi => ?_⟩
        rcases Nat.lt_or_ge i k with g | g
        · exact h2 i g
        · rw [show i = k by omega]; exact e
      · exact Or.inr h
theorem xw_cheapest (hn : n ≤ 7) (hm : m ≤ 15) (V : el_V m s u F sc us vs) (h128 : ∀ f, f < m → s f < 128) {o : Nat} (ho : o < 128) (hne : ∃ i, i < n ∧ o.testBit i = true) {post : Int32 → Prop} (hp : ∀ v, v < n → o.testBit v = true → post (nI v)) : wpX_cheapest post (nI n, nI m, gg, rl_a P, rl_a E, rl_a S, fx, sc, vs, us) (nI o) := ⟨n + 1, xw_ch_l hn hm V h128 ho hne hp n 0 _ _ (Nat.zero_add n) (Or.inl ⟨rfl, fun i hi => absurd hi (by omega)⟩)⟩
theorem xw_jo_l (hm : m ≤ 15) (V : el_V m s u F sc us vs) (h128 : ∀ f, f < m → s f < 128) {v x : Nat} (hv : v < 7) (hx : x < 128) {post : Int64 → Prop} (hp : post (lN (el_j u s (fun f => F f x) v m))) : ∀ d k, k + d = m → wX_joined_5 post (nI v) (nI x) (nI n) (nI m) gg (rl_a P) (rl_a E) (rl_a S) fx sc vs us (d + 1) (lN (el_j u s (fun f => F f x) v k)) (nI k) := by
  intro d
  induction d with
  | zero =>
    intro k hk
    obtain rfl : k = m := by omega
    exact br_t (Int32.le_refl _) hp
  | succ d ih =>
    intro k hk
    obtain ⟨h1, h2, h4⟩ := V k (by omega)
    have h3 := h128 k (by omega)
    have c : (nI k).toNatClampNeg = k := nI_clamp (by omega)
    have hi : vp_in (nI k) 15 := vp_in_nI (by omega) (by decide)
    have q := ih (k + 1) (by omega)
    have e0 : el_j u s (fun f => F f x) v (k + 1) = el_j u s (fun f => F f x) v k * (if (u k && (s k).testBit v) = true then F k x else 1) := rfl
    refine br_f (nI_ge (by omega) (by omega)) (And.intro hi ?_)
    rw [c, h1, h2]
    refine rl_bbr (fun e => ?_) (fun e => And.intro hi (bi_br (by omega) (by omega) (fun e2 => And.intro hi ?_) (fun e2 => ?_)))
    · intro z ez
      rw [nI_1] at ez
      subst ez
      rw [e0, if_neg (by rw [e]; simp), Nat.mul_one] at q
      exact q
    · refine xw_packed (by omega) (by omega) ?_
      have hr := pa_p128 x (s k)
      rw [xw_ix]
      refine And.intro (vp_in_nI (by omega) (by decide)) ?_
      rw [nI_clamp (by omega), h4 e x hx]
      intro a ea z ez
      rw [lN_mul] at ea
      rw [nI_1] at ez
      subst ea ez
      rw [e0, if_pos (by rw [e, e2]; rfl)] at q
      exact q
    · intro z ez
      rw [nI_1] at ez
      subst ez
      rw [e0, if_neg (by rw [e2]; simp), Nat.mul_one] at q
      exact q
theorem xw_joined (hm : m ≤ 15) (V : el_V m s u F sc us vs) (h128 : ∀ f, f < m → s f < 128) {v x : Nat} (hv : v < 7) (hx : x < 128) {post : Int64 → Prop} (hp : post (lN (el_j u s (fun f => F f x) v m))) : wpX_joined post (nI n, nI m, gg, rl_a P, rl_a E, rl_a S, fx, sc, vs, us) (nI v) (nI x) := ⟨m + 1, xw_jo_l hm V h128 hv hx hp m 0 (Nat.zero_add m)⟩
/-- the table of v: entries at j for each subset of its scope -/
theorem xw_mk_l (ok : rl_ok n P E S) {t z v : Nat} (hm : m < 15) (hv : v < 7) (ht : t < 128) (hz : z < 128) {post : SX → Prop} {vs0 : Nat → Int64} (hp : ∀ vs', (∀ i, i < 128 * m → vs' i = vs0 i) → (∀ i, i < 2 ^ pa_c t 7 → vs' (128 * m + i) = lN (rl_e P E v (pa_u i t 7 ||| z))) → post (nI n, nI (m + 1), gg, rl_a P, rl_a E, rl_a S, fx, sc, vs', us)) : ∀ d j vs, j + d + 1 = 2 ^ pa_c t 7 → (∀ i, i < 128 * m → vs i = vs0 i) → (∀ i, i < j → vs (128 * m + i) = lN (rl_e P E v (pa_u i t 7 ||| z))) → wX_makeTable_41 post (nI v) (nI z) (nI t) (nI n) (nI m) gg (d + 1) (nI (pa_u j t 7)) (nI j) (rl_a P) (rl_a E) (rl_a S) fx sc vs us := by
  have h7 := pa_c7 t
  intro d
  induction d with
  | zero =>
    intro j vs hj hf hw
    have hu : pa_u j t 7 < 128 := pa_u_lt j t 7
    have hl : pa_u j t 7 = t := by
      have e := pa_full t 7
      rw [show j = pa_p t t 7 by omega]
      exact pa_us ht
    refine br_f (nI_ge (b := 128) (by omega) (by decide)) ?_
    refine xw_packed (by omega) (by omega) ?_
    rw [pa_pj (by omega), bi_or]
    refine xw_entry ok hv (Nat.lt_trans (Nat.or_lt_two_pow (n := 7) hu hz) (by decide)) ?_
    rw [xw_ix]
    refine And.intro (vp_in_nI (by omega) (by decide)) ?_
    rw [nI_clamp (by omega)]
    intro a ea
    refine br_t (by rw [hl]) ?_
    intro k ek
    rw [nI_1] at ek
    have he : rl_e P E v (pa_u j t 7 ||| z) ≤ 9 := ok.2.2.2.1 _
    rw [nI_l (by omega)] at ea
    subst ea ek
    refine hp _ (fun i hi => ?_) (fun i hi => ?_)
    · rw [pk_uLn (by omega)]; exact hf i hi
    · rcases Nat.lt_or_ge i j with g | g
      · rw [pk_uLn (by omega)]; exact hw i g
      · obtain rfl : i = j := by omega
        exact pk_uLs
  | succ d ih =>
    intro j vs hj hf hw
    have hu : pa_u j t 7 < 128 := pa_u_lt j t 7
    have hl : ¬ pa_u j t 7 = t := fun e => by
      have e1 := pa_pj (j := j) (s := t) (by omega)
      rw [e] at e1
      have e2 := pa_full t 7
      omega
    refine br_f (nI_ge (b := 128) (by omega) (by decide)) ?_
    refine xw_packed (by omega) (by omega) ?_
    rw [pa_pj (by omega), bi_or]
    refine xw_entry ok hv (Nat.lt_trans (Nat.or_lt_two_pow (n := 7) hu hz) (by decide)) ?_
    rw [xw_ix]
    refine And.intro (vp_in_nI (by omega) (by decide)) ?_
    rw [nI_clamp (by omega)]
    intro a ea
    refine br_f (fun e => hl ((nI_eq (by omega) (by omega)).mp e)) ?_
    intro x ex y ey
    rw [pa_step ht (by omega)] at ex
    rw [nI_1] at ey
    have he : rl_e P E v (pa_u j t 7 ||| z) ≤ 9 := ok.2.2.2.1 _
    rw [nI_l (by omega)] at ea
    subst ea ex ey
    refine ih (j + 1) _ (by omega) (fun i hi => ?_) (fun i hi => ?_)
    · rw [pk_uLn (by omega)]; exact hf i hi
    · rcases Nat.lt_or_ge i j with g | g
      · rw [pk_uLn (by omega)]; exact hw i g
      · obtain rfl : i = j := by omega
        exact pk_uLs
theorem xw_nar1 : vp_nar .boolean 1 = rl_b true := rfl
theorem xw_nar0 : vp_nar .boolean 0 = rl_b false := rfl
theorem xw_makeTable (ok : rl_ok n P E S) {o z v : Nat} (hm : m < 15) (hv : v < 7) (ho : o < 128) (hz : z < 128) (V : el_V m s u F sc us vs) {post : SX → Prop} (hp : ∀ sc' vs' us', el_V (m + 1) (el_fs m s ((P v ||| 2 ^ v) &&& o)) (fun f => if f = m then true else u f) (el_fF m F (fun x => rl_e P E v ((x &&& ((P v ||| 2 ^ v) &&& o)) ||| z))) sc' us' vs' → post (nI n, nI (m + 1), gg, rl_a P, rl_a E, rl_a S, fx, sc', vs', us')) : wpX_makeTable post (nI n, nI m, gg, rl_a P, rl_a E, rl_a S, fx, sc, vs, us) (nI v) (nI o) (nI z) := by
  have hP := rl_128 (ok.2.2.1 v).1 (by omega)
  have ht : (P v ||| 2 ^ v) &&& o < 128 := Nat.and_lt_two_pow (n := 7) _ ho
  have hi : vp_in (nI m) 15 := vp_in_nI (by omega) (by decide)
  refine And.intro (vp_in_nI hv (by decide)) ?_
  rw [rl_at (by omega), bi_1 (by omega), bi_or, nx_and, nI_clamp (by omega)]
  intro t et
  subst et
  refine And.intro hi ?_
  intro sc' es
  refine And.intro hi ?_
  intro us' eu
  subst es eu
  have p1 := Nat.two_pow_pos (pa_c ((P v ||| 2 ^ v) &&& o) 7)
  refine ⟨2 ^ pa_c ((P v ||| 2 ^ v) &&& o) 7 - 1 + 1, ?_⟩
  have L := xw_mk_l (gg := gg) (fx := fx) (sc := upd sc m (nI ((P v ||| 2 ^ v) &&& o))) (us := upd us m (vp_nar .boolean 1)) (post := post) (vs0 := vs) ok hm hv ht hz (fun vs' h1 h2 => hp _ vs' _ fun f hf => ?_) (2 ^ pa_c ((P v ||| 2 ^ v) &&& o) 7 - 1) 0 vs (by omega) (fun _ _ => rfl) (fun i hi => absurd hi (by omega))
  · rw [pa_u0] at L
    exact L
  · by_cases e : f = m
    · subst e
      refine ⟨pk_us.trans (congrArg nI (if_pos rfl).symm), pk_us.trans (xw_nar1.trans (congrArg rl_b (if_pos rfl).symm)), fun _ x hx => ?_⟩
      have a1 : el_fs f s ((P v ||| 2 ^ v) &&& o) f = (P v ||| 2 ^ v) &&& o := if_pos rfl
      have a2 : el_fF f F (fun x => rl_e P E v ((x &&& ((P v ||| 2 ^ v) &&& o)) ||| z)) f x = rl_e P E v ((x &&& ((P v ||| 2 ^ v) &&& o)) ||| z) := congrFun (if_pos rfl) x
      rw [a1, a2, h2 _ (pa_p_lt x _ 7), pa_up hx]
    · obtain ⟨v1, v2, v3⟩ := V f (by omega)
      have a1 : el_fs m s ((P v ||| 2 ^ v) &&& o) f = s f := if_neg e
      have a3 : (if f = m then true else u f) = u f := if_neg e
      refine ⟨(pk_un e).trans (v1.trans (congrArg nI a1.symm)), (pk_un e).trans (v2.trans (congrArg rl_b a3.symm)), fun hu x hx => ?_⟩
      have a2 : el_fF m F (fun x => rl_e P E v ((x &&& ((P v ||| 2 ^ v) &&& o)) ||| z)) f x = F f x := congrFun (if_neg e) x
      have hr := pa_p128 x (s f)
      rw [a1, a2, h1 _ (by omega)]
      exact v3 (a3 ▸ hu) x hx
end
end
section
/-! X takes a variable out, X solves -/
theorem el_V_frame {m : Nat} {s : Nat → Nat} {u : Nat → Bool} {F : Nat → Nat → Nat} {sc us : Nat → Int32} {vs vs' : Nat → Int64} (V : el_V m s u F sc us vs) (h : ∀ i, i < 128 * m → vs' i = vs i) : el_V m s u F sc us vs' := by
  intro f hf
  obtain ⟨h1, h2, h3⟩ := V f hf
  refine ⟨h1, h2, fun hu x hx => ?_⟩
  have hr := pa_p128 x (s f)
  rw [h _ (by omega)]
  exact h3 hu x hx
theorem xw_toB {A : Int64 → Prop} {g : Bool} {a b : Nat} {y : Int64} (ha : a < 2 ^ 63) (hb : b < 2 ^ 63) (ey : y = lN a + lN b) (K : A (lN (ag_o g a b))) : (rl_b g = 0 → A y) ∧ (¬ rl_b g = 0 → ((lN a ≤ lN b → A (lN b)) ∧ (¬ lN a ≤ lN b → A (lN a)))) := by
  refine rl_bbr (fun e => ?_) (fun e => ?_)
  · rw [ey, lN_add]
    rw [e] at K
    exact K
  · rw [e, ag_o_t] at K
    rw [pk_lLE ha hb]
    refine br_c (fun h => ?_) (fun h => ?_)
    · rw [if_pos h] at K
      exact K
    · rw [if_neg h] at K
      exact K
section
variable {n m : Nat} {P E S : Nat → Nat} {gg : Int32} {g : Bool} {fx sc us : Nat → Int32} {vs : Nat → Int64} {s : Nat → Nat} {u : Nat → Bool} {F : Nat → Nat → Nat} {b : Nat → Nat}
theorem xw_131 {F : Nat → Nat → Nat} (hm : m < 15) {v t : Nat} (hv : v < 7) (hsc : ∀ f, f < m → sc f = nI (s f) ∧ s f < 128) {post : SX → Prop} (hp : ∀ us', (∀ f, f < m → us' f = rl_b (u f && !(s f).testBit v)) → post (nI n, nI (m + 1), gg, rl_a P, rl_a E, rl_a S, fx, upd sc m (nI t), vs, upd us' m (rl_b true))) : ∀ d k us, k + d = m → (∀ f, f < k → us f = rl_b (u f && !(s f).testBit v)) → (∀ f, k ≤ f → f < m → us f = rl_b (u f)) → wX_takeOut_131 post (nI v) (nI t) (nI n) (nI m) gg (d + 1) (nI k) (rl_a P) (rl_a E) (rl_a S) fx sc vs us := by
  intro d
  induction d with
  | zero =>
    intro k us hk h1 h2
    obtain rfl : k = m := by omega
    have hi : vp_in (nI k) 15 := vp_in_nI (by omega) (by decide)
    have c : (nI k).toNatClampNeg = k := nI_clamp (by omega)
    refine br_t (Int32.le_refl _) (And.intro hi ?_)
    rw [c]
    intro a ea
    refine And.intro hi ?_
    intro z ez w ew
    rw [nI_1] at ew
    rw [xw_nar1] at ez
    subst ea ez ew
    exact hp us h1
  | succ d ih =>
    intro k us hk h1 h2
    obtain ⟨h3, h4⟩ := hsc k (by omega)
    have hi : vp_in (nI k) 15 := vp_in_nI (by omega) (by decide)
    have c : (nI k).toNatClampNeg = k := nI_clamp (by omega)
    refine br_f (nI_ge (by omega) (by omega)) (And.intro hi ?_)
    rw [c, h3]
    refine bi_br (by omega) (by omega) (fun e => And.intro hi ?_) (fun e => ?_)
    · intro a ea z ez
      rw [xw_nar0] at ea
      rw [nI_1] at ez
      subst ea ez
      refine ih (k + 1) _ (by omega) (fun f hf => ?_) (fun f hf hf2 => ?_)
      · rcases Nat.lt_or_ge f k with h | h
        · rw [pk_un (by omega)]; exact h1 f h
        · obtain rfl : f = k := by omega
          rw [pk_us, e]; simp
      · rw [pk_un (by omega)]; exact h2 f (by omega) hf2
    · intro z ez
      rw [nI_1] at ez
      subst ez
      refine ih (k + 1) _ (by omega) (fun f hf => ?_) (fun f hf hf2 => h2 f (by omega) hf2)
      rcases Nat.lt_or_ge f k with h | h
      · exact h1 f h
      · obtain rfl : f = k := by omega
        rw [h2 f (by omega) (by omega), e]; simp
theorem xw_79 (hm : m < 15) {post : SX → Prop} {v t j : Nat} {x2 : Int32} {y : Int64} {J : Int32 → Int32 → (Nat → Int32) → (Nat → Int32) → (Nat → Int32) → (Nat → Int32) → (Nat → Int32) → (Nat → Int64) → (Nat → Int32) → Prop} (ht : t < 128) (hj : j < 2 ^ pa_c t 7) (h1 : pa_u j t 7 = t → ∃ q, wX_takeOut_131 post (nI v) (nI t) (nI n) (nI m) gg q 0 (rl_a P) (rl_a E) (rl_a S) fx sc (vp_updL vs (128 * m + j) y) us) (h2 : j + 1 < 2 ^ pa_c t 7 → J (nI (pa_u (j + 1) t 7)) (nI (j + 1)) (rl_a P) (rl_a E) (rl_a S) fx sc (vp_updL vs (128 * m + j) y) us) : wX_takeOut_79 post J (nI v) x2 (nI t) (nI (pa_u j t 7)) (nI j) y (nI n) (nI m) gg (rl_a P) (rl_a E) (rl_a S) fx sc vs us := by
  have hu : pa_u j t 7 < 128 := pa_u_lt j t 7
  have h7 := pa_c7 t
  refine xw_packed (by omega) (by omega) ?_
  rw [pa_pj hj, xw_ix]
  refine And.intro (vp_in_nI (by omega) (by decide)) ?_
  rw [nI_clamp (by omega)]
  intro a ea
  subst ea
  refine pk_eq (pa_u j t 7) t h1 fun e => ?_
  have hj2 : j + 1 < 2 ^ pa_c t 7 := by
    rcases Nat.lt_or_ge (j + 1) (2 ^ pa_c t 7) with h | h
    · exact h
    · have e1 := pa_full t 7
      rw [show j = pa_p t t 7 by omega] at e
      exact absurd (pa_us ht) e
  intro x ex z ez
  rw [pa_step ht hj2] at ex
  rw [nI_1] at ez
  subst ex ez
  exact h2 hj2
/-- the value at j of the new factor -/
def xw_NV (g : Bool) (m v t : Nat) (s : Nat → Nat) (u : Nat → Bool) (F : Nat → Nat → Nat) (j : Nat) : Nat := ag_o g (el_j u s (fun f => F f (pa_u j t 7)) v m) (el_j u s (fun f => F f (pa_u j t 7 ||| 2 ^ v)) v m)
theorem xw_to_l {o : Nat} (hm : m < 15) {v t : Nat} (hv : v < 7) (ht : t < 128) {vs0 : Nat → Int64} (V : el_V m s u F sc us vs0) (H : el_H m o s u F b) (hB : el_g u b m < 2 ^ 62) {post : SX → Prop} (hp : ∀ vs', (∀ i, i < 128 * m → vs' i = vs0 i) → (∀ i, i < 2 ^ pa_c t 7 → vs' (128 * m + i) = lN (xw_NV g m v t s u F i)) → ∃ q, wX_takeOut_131 post (nI v) (nI t) (nI n) (nI m) (rl_b g) q 0 (rl_a P) (rl_a E) (rl_a S) fx sc vs' us) : ∀ d j vs, j + d + 1 = 2 ^ pa_c t 7 → (∀ i, i < 128 * m → vs i = vs0 i) → (∀ i, i < j → vs (128 * m + i) = lN (xw_NV g m v t s u F i)) → wX_takeOut_20 post (nI v) (nI (2 ^ v)) (nI t) (nI n) (nI m) (rl_b g) (d + 1) (nI (pa_u j t 7)) (nI j) (rl_a P) (rl_a E) (rl_a S) fx sc vs us := by
  have h7 := pa_c7 t
  have h128 : ∀ f, f < m → s f < 128 := fun f hf => (H f hf).1
  have hJ : ∀ x, el_j u s (fun f => F f x) v m < 2 ^ 63 := fun x => Nat.lt_of_le_of_lt (Nat.le_trans (el_j_le H x) (el_j_B H)) (Nat.lt_trans hB (by decide))
  intro d
  induction d with
  | zero =>
    intro j vs hj hf hw
    have hu : pa_u j t 7 < 128 := pa_u_lt j t 7
    have V' := el_V_frame V hf
    refine br_f (nI_ge (b := 128) (by omega) (by decide)) ?_
    refine xw_joined (by omega) V' h128 hv hu ?_
    rw [bi_or]
    refine xw_joined (by omega) V' h128 hv (el_or_lt hu hv) ?_
    intro y ey
    refine xw_toB (A := fun y => wX_takeOut_79 post (wX_takeOut_20 post (nI v) (nI (2 ^ v)) (nI t) (nI n) (nI m) (rl_b g) 0) (nI v) (nI (2 ^ v)) (nI t) (nI (pa_u j t 7)) (nI j) y (nI n) (nI m) (rl_b g) (rl_a P) (rl_a E) (rl_a S) fx sc vs us) (hJ _) (hJ _) ey (xw_79 hm ht (by omega) (fun _ => hp _ (fun i hi => ?_) (fun i hi => ?_)) (fun e => absurd e (by omega)))
    · rw [pk_uLn (by omega)]; exact hf i hi
    · rcases Nat.lt_or_ge i j with q | q
      · rw [pk_uLn (by omega)]; exact hw i q
      · obtain rfl : i = j := by omega
        exact pk_uLs
  | succ d ih =>
    intro j vs hj hf hw
    have hu : pa_u j t 7 < 128 := pa_u_lt j t 7
    have V' := el_V_frame V hf
    have hl : ¬ pa_u j t 7 = t := fun e => by
      have e1 := pa_pj (j := j) (s := t) (by omega)
      rw [e] at e1
      have e2 := pa_full t 7
      omega
    refine br_f (nI_ge (b := 128) (by omega) (by decide)) ?_
    refine xw_joined (by omega) V' h128 hv hu ?_
    rw [bi_or]
    refine xw_joined (by omega) V' h128 hv (el_or_lt hu hv) ?_
    intro y ey
    refine xw_toB (A := fun y => wX_takeOut_79 post (wX_takeOut_20 post (nI v) (nI (2 ^ v)) (nI t) (nI n) (nI m) (rl_b g) (d + 1)) (nI v) (nI (2 ^ v)) (nI t) (nI (pa_u j t 7)) (nI j) y (nI n) (nI m) (rl_b g) (rl_a P) (rl_a E) (rl_a S) fx sc vs us) (hJ _) (hJ _) ey (xw_79 hm ht (by omega) (fun e => absurd e hl) (fun _ => ih (j + 1) _ (by omega) (fun i hi => ?_) (fun i hi => ?_)))
    · rw [pk_uLn (by omega)]; exact hf i hi
    · rcases Nat.lt_or_ge i j with q | q
      · rw [pk_uLn (by omega)]; exact hw i q
      · obtain rfl : i = j := by omega
        exact pk_uLs
theorem xw_takeOut {o : Nat} (hm : m < 15) {v : Nat} (hv : v < 7) (V : el_V m s u F sc us vs) (H : el_H m o s u F b) (hB : el_g u b m < 2 ^ 62) {post : SX → Prop} (hp : ∀ sc' vs' us', el_V (m + 1) (el_fs m s (bi_d (el_js u s v m) (2 ^ v))) (el_fu m v s u) (el_fF m F (el_N g m v s u F)) sc' us' vs' → post (nI n, nI (m + 1), rl_b g, rl_a P, rl_a E, rl_a S, fx, sc', vs', us')) : wpX_takeOut post (nI n, nI m, rl_b g, rl_a P, rl_a E, rl_a S, fx, sc, vs, us) (nI v) := by
  have h128 : ∀ f, f < m → s f < 128 := fun f hf => (H f hf).1
  have hj := el_js128 (v := v) H
  have ht : bi_d (el_js u s v m) (2 ^ v) < 128 := bi_dlt hj
  have p1 := Nat.two_pow_pos (pa_c (bi_d (el_js u s v m) (2 ^ v)) 7)
  intro x2 e2
  rw [bi_1 (by omega)] at e2
  subst e2
  refine xw_js (by omega) V h128 hv ?_
  intro t et
  rw [bi_not hj] at et
  subst et
  refine ⟨2 ^ pa_c (bi_d (el_js u s v m) (2 ^ v)) 7 - 1 + 1, ?_⟩
  have L := xw_to_l (n := n) (P := P) (E := E) (S := S) (g := g) (fx := fx) (post := post) hm hv ht V H hB (fun vs' h1 h2 => ⟨m + 1, xw_131 (F := F) hm hv (fun f hf => ⟨(V f hf).1, h128 f hf⟩) (fun us' h3 => hp _ vs' _ fun f hf => ?_) m 0 us (Nat.zero_add m) (fun f hf => absurd hf (by omega)) (fun f _ hf => (V f hf).2.1)⟩) (2 ^ pa_c (bi_d (el_js u s v m) (2 ^ v)) 7 - 1) 0 vs (by omega) (fun _ _ => rfl) (fun i hi => absurd hi (by omega))
  · rw [pa_u0] at L
    exact L
  · by_cases e : f = m
    · subst e
      refine ⟨pk_us.trans (congrArg nI (if_pos rfl).symm), pk_us.trans (congrArg rl_b (if_pos rfl).symm), fun _ x hx => ?_⟩
      have a1 : el_fs f s (bi_d (el_js u s v f) (2 ^ v)) f = bi_d (el_js u s v f) (2 ^ v) := if_pos rfl
      have a2 : el_fF f F (el_N g f v s u F) f x = el_N g f v s u F x := congrFun (if_pos rfl) x
      rw [a1, a2, h2 _ (pa_p_lt x _ 7)]
      unfold xw_NV el_N
      rw [pa_up hx]
    · obtain ⟨v1, v2, v3⟩ := V f (by omega)
      have a1 : el_fs m s (bi_d (el_js u s v m) (2 ^ v)) f = s f := if_neg e
      have a3 : el_fu m v s u f = (u f && !(s f).testBit v) := if_neg e
      refine ⟨(pk_un e).trans (v1.trans (congrArg nI a1.symm)), (pk_un e).trans ((h3 f (by omega)).trans (congrArg rl_b a3.symm)), fun hu x hx => ?_⟩
      have a2 : el_fF m F (el_N g m v s u F) f x = F f x := congrFun (if_neg e) x
      have hr := pa_p128 x (s f)
      rw [a3, Bool.and_eq_true] at hu
      rw [a1, a2, h1 _ (by omega)]
      exact v3 hu.1 x hx
theorem xw_140_l (hm : m ≤ 15) (V : el_V m s u F sc us vs) {post : Int64 → SX → Prop} (hp : post (lN (el_g u (fun f => F f 0) m)) (nI n, nI m, gg, rl_a P, rl_a E, rl_a S, fx, sc, vs, us)) : ∀ d k, k + d = m → wX_solve_140 post (nI n) (nI m) gg (rl_a P) (rl_a E) (rl_a S) fx sc vs us (d + 1) (lN (el_g u (fun f => F f 0) k)) (nI k) := by
  intro d
  induction d with
  | zero =>
    intro k hk
    obtain rfl : k = m := by omega
    exact br_t (Int32.le_refl _) hp
  | succ d ih =>
    intro k hk
    obtain ⟨h1, h2, h4⟩ := V k (by omega)
    have c : (nI k).toNatClampNeg = k := nI_clamp (by omega)
    have hi : vp_in (nI k) 15 := vp_in_nI (by omega) (by decide)
    have q := ih (k + 1) (by omega)
    have e0 : el_g u (fun f => F f 0) (k + 1) = el_g u (fun f => F f 0) k * (if u k = true then F k 0 else 1) := rfl
    refine br_f (nI_ge (by omega) (by omega)) (And.intro hi ?_)
    rw [c, h2, show (128 : Int32) * nI k = nI (128 * k) from pk_mul 128 k]
    refine rl_bbr (fun e => ?_) (fun e => And.intro (vp_in_nI (by omega) (by decide)) ?_)
    · intro z ez
      rw [nI_1] at ez
      subst ez
      rw [e0, if_neg (pa_nt e), Nat.mul_one] at q
      exact q
    · have h5 := h4 e 0 (by omega)
      rw [pa_p0, Nat.add_zero] at h5
      rw [nI_clamp (by omega), h5]
      intro a ea z ez
      rw [lN_mul] at ea
      rw [nI_1] at ez
      subst ea ez
      rw [e0, if_pos e] at q
      exact q
theorem xw_140 (hm : m ≤ 15) (V : el_V m s u F sc us vs) {post : Int64 → SX → Prop} (hp : post (lN (el_g u (fun f => F f 0) m)) (nI n, nI m, gg, rl_a P, rl_a E, rl_a S, fx, sc, vs, us)) : ∃ q, wX_solve_140 post (nI n) (nI m) gg (rl_a P) (rl_a E) (rl_a S) fx sc vs us q 1 0 := ⟨m + 1, xw_140_l hm V hp m 0 (Nat.zero_add m)⟩
end
end
section
/-! X's solve as a whole -/
theorem pa_c_out {o v : Nat} (ho : o < 128) (hv : v < 7) (hb : o.testBit v = true) : pa_c (bi_d o (2 ^ v)) 7 < pa_c o 7 := by
  obtain ⟨h1, h2⟩ := pa_c_sub (s := bi_d o (2 ^ v)) (t := o) 7 (fun i _ h => by
    rw [bi_dt ho, Bool.and_eq_true] at h
    exact h.1)
  rcases Nat.lt_or_ge (pa_c (bi_d o (2 ^ v)) 7) (pa_c o 7) with h | h
  · exact h
  · have e := h2 (Nat.le_antisymm h1 h) v hv
    rw [bi_dt ho, hb, bi_2s] at e
    exact absurd e (by decide)
theorem bi_d_lt {o b n : Nat} (ho : o < 2 ^ n) (h : o < 128) : bi_d o b < 2 ^ n := Nat.lt_pow_two_of_testBit _ fun i hi => by rw [bi_dt h, bi_hi ho hi, Bool.false_and]
theorem rl_e_congr {P E : Nat → Nat} {v x y : Nat} (h : ∀ i, (P v ||| 2 ^ v).testBit i = true → x.testBit i = y.testBit i) : rl_e P E v x = rl_e P E v y := by
  unfold rl_e
  rw [pa_p_congr 7 (fun i _ hi => h i (by rw [Nat.testBit_or, hi, Bool.true_or])), h v (by rw [Nat.testBit_or, bi_2s, Bool.or_true])]
theorem rl_w_pr (P E : Nat → Nat) (x : Nat) : ∀ k, rl_w P E x k = el_pr (fun f => rl_e P E f x) k := by
  intro k
  induction k with
  | zero => rfl
  | succ k ih => show rl_w P E x k * _ = el_pr _ k * _; rw [ih]
theorem rl_w_le {P E : Nat → Nat} (hE : ∀ i, E i ≤ 9) (x : Nat) : ∀ k, rl_w P E x k ≤ 9 ^ k := by
  intro k
  induction k with
  | zero => exact Nat.le_refl _
  | succ k ih => exact Nat.mul_le_mul ih (hE _)
theorem rl_97 {k : Nat} (h : k ≤ 7) : 9 ^ k ≤ 4782969 := Nat.le_trans (Nat.pow_le_pow_right (by decide) h) (by decide)
theorem el_fs_self (m : Nat) (s : Nat → Nat) {k : Nat} (h : k = s m) : el_fs m s k = s := by
  funext f
  unfold el_fs
  by_cases e : f = m
  · rw [if_pos e, e, h]
  · rw [if_neg e]
theorem el_fF_self (m : Nat) (F : Nat → Nat → Nat) {N : Nat → Nat} (h : N = F m) : el_fF m F N = F := by
  funext f
  unfold el_fF
  by_cases e : f = m
  · rw [if_pos e, e, h]
  · rw [if_neg e]
section
variable {n : Nat} {P E S : Nat → Nat} {g : Bool} {fx sc us : Nat → Int32} {vs : Nat → Int64}
theorem xw_95 (ok : rl_ok n P E S) {post : Int64 → SX → Prop} {T : Nat} (hp : ∀ ff sc vs us, post (lN T) (nI n, ff, rl_b g, rl_a P, rl_a E, rl_a S, fx, sc, vs, us)) : ∀ d k m o sc vs us s u F b, k + d = 7 → m = n + k → o < 2 ^ n → pa_c o 7 + k ≤ 7 → el_V m s u F sc us vs → el_H m o s u F b → el_sb g (fun y => el_g u (fun f => F f y) m) o 7 0 = T → el_g u b m ≤ 2 ^ k * 4782969 → wX_solve_95 post (d + 1) (nI o) (nI k) (nI n) (nI m) (rl_b g) (rl_a P) (rl_a E) (rl_a S) fx sc vs us := by
  have hn := ok.2.1
  have e0 : ∀ m o s u F sc us vs, m ≤ 15 → o = 0 → el_V m s u F sc us vs → el_sb g (fun y => el_g u (fun f => F f y) m) o 7 0 = T → ∃ q, wX_solve_140 post (nI n) (nI m) (rl_b g) (rl_a P) (rl_a E) (rl_a S) fx sc vs us q 1 0 := by
    intro m o s u F sc us vs hm ho V hT
    refine xw_140 hm V ?_
    subst ho
    have q := el_stop (g := g) (G := fun y => el_g u (fun f => F f y) m) (o := 0) (n := 0) (fun i _ => Nat.zero_testBit i) 0 7
    rw [Nat.zero_add] at q
    rw [q] at hT
    have hT : el_g u (fun f => F f 0) m = T := hT
    rw [hT]
    exact hp _ _ _ _
  intro d
  induction d with
  | zero =>
    intro k m o sc vs us s u F b hk hm ho hc V H hT hB
    have ho7 := rl_128 ho hn
    have o0 : o = 0 := bi_ext (n := 7) ho7 (by decide) fun i hi => by rw [pa_c_0 o 7 (by omega) i hi, Nat.zero_testBit]
    obtain rfl : k = 7 := by omega
    exact br_t (Int32.le_refl _) (e0 m o s u F sc us vs (by omega) o0 V hT)
  | succ d ih =>
    intro k m o sc vs us s u F b hk hm ho hc V H hT hB
    have ho7 := rl_128 ho hn
    refine br_f (nI_ge (b := 7) (by omega) (by decide)) (pk_eq o 0 (fun h => e0 m o s u F sc us vs (by omega) h V hT) (fun h => ?_))
    obtain ⟨i, hi⟩ := Nat.exists_testBit_of_ne_zero h
    have h2 : 2 ^ k ≤ 2 ^ 7 := Nat.pow_le_pow_right (by decide) (by omega)
    refine xw_cheapest hn (by omega) V (fun f hf => (H f hf).1) ho7 ⟨i, bi_lt ho hi, hi⟩ fun v hv hb => ?_
    refine xw_takeOut (by omega) (by omega) V H (by omega) fun sc' vs' us' V' => ?_
    intro a ea c ec
    rw [bi_1 (by omega), bi_not ho7] at ea
    rw [nI_1] at ec
    subst ea ec
    have hc' := pa_c_out ho7 (by omega) hb
    refine ih (k + 1) (m + 1) (bi_d o (2 ^ v)) sc' vs' us' _ _ _ _ (by omega) (by omega) (bi_d_lt ho ho7) (by omega) V' (el_step_H H ho7 (by omega)) ?_ ?_
    · rw [el_step_sb H ho7 (by omega) hb]
      exact hT
    · rw [el_step_B H, Nat.pow_succ]
      omega
/-- the table of f -/
def xw_s (P : Nat → Nat) (o f : Nat) : Nat := (P f ||| 2 ^ f) &&& o
def xw_F (P E : Nat → Nat) (o z f x : Nat) : Nat := rl_e P E f ((x &&& xw_s P o f) ||| z)
theorem xw_69 (ok : rl_ok n P E S) {o z : Nat} (ho : o < 2 ^ n) (hz : z < 128) {post : Int64 → SX → Prop} (hp : ∀ ff sc vs us, post (lN (el_sb g (fun y => rl_w P E ((y &&& o) ||| z) n) o 7 0)) (nI n, ff, rl_b g, rl_a P, rl_a E, rl_a S, fx, sc, vs, us)) : ∀ d k sc vs us, k + d = n → el_V k (xw_s P o) (fun _ => true) (xw_F P E o z) sc us vs → wX_solve_69 post (nI o) (nI z) (d + 1) (nI k) (nI n) (nI k) (rl_b g) (rl_a P) (rl_a E) (rl_a S) fx sc vs us := by
  have hn := ok.2.1
  have ho7 := rl_128 ho hn
  intro d
  induction d with
  | zero =>
    intro k sc vs us hk V
    obtain rfl : k = n := by omega
    refine br_t (Int32.le_refl _) ⟨7 + 1, ?_⟩
    refine xw_95 ok hp 7 0 k o sc vs us (xw_s P o) (fun _ => true) (xw_F P E o z) (fun _ => 9) rfl rfl ho (pa_c_le o 7) V (fun f hf => ?_) ?_ ?_
    · refine ⟨Nat.and_lt_two_pow (n := 7) _ ho7, fun _ => ⟨fun i hi => ?_, fun x y h => ?_, fun x => ok.2.2.2.1 _, (by decide : 1 ≤ 9)⟩⟩
      · have hi : ((P f ||| 2 ^ f) &&& o).testBit i = true := hi
        rw [Nat.testBit_and, Bool.and_eq_true] at hi
        exact hi.2
      · unfold xw_F
        rw [h]
    · congr 1
      funext y
      rw [rl_w_pr]
      unfold el_g
      refine el_pr_congr k fun f _ => ?_
      rw [if_pos rfl]
      refine rl_e_congr fun i hi => ?_
      unfold xw_s
      rw [Nat.testBit_or, Nat.testBit_or, Nat.testBit_and, Nat.testBit_and, Nat.testBit_and, hi, Bool.true_and]
    · have e : ∀ q, el_g (fun _ => true) (fun _ => 9) q = 9 ^ q := by
        intro q
        induction q with
        | zero => rfl
        | succ q ih => show el_g (fun _ => true) (fun _ => 9) q * 9 = _; rw [ih, Nat.pow_succ]
      rw [e, Nat.pow_zero, Nat.one_mul]
      exact rl_97 hn
  | succ d ih =>
    intro k sc vs us hk V
    refine br_f (nI_ge (by omega) (by omega)) ?_
    refine xw_makeTable ok (by omega) (by omega) ho7 hz V fun sc' vs' us' V' => ?_
    intro a ea
    rw [nI_1] at ea
    subst ea
    refine ih (k + 1) sc' vs' us' (by omega) ?_
    rw [el_fs_self k (xw_s P o) (k := (P k ||| 2 ^ k) &&& o) rfl, el_fF_self k (xw_F P E o z) (N := fun x => rl_e P E k ((x &&& ((P k ||| 2 ^ k) &&& o)) ||| z)) rfl, show (fun f => if f = k then true else true) = (fun _ : Nat => true) from funext fun f => ite_self _] at V'
    exact V'
theorem xw_12 (ok : rl_ok n P E S) {X : Nat → Nat} (hX : ∀ i, i < n → fx i = nI (X i) ∧ X i ≤ 2) {post : Int64 → SX → Prop} (hp : ∀ ff sc vs us, post (lN (ag_s g (fun x => ag_a X x n) (fun x => rl_w P E x n) (2 ^ n))) (nI n, ff, rl_b g, rl_a P, rl_a E, rl_a S, fx, sc, vs, us)) {ff : Int32} : ∀ d k, k + d = n → wX_solve_12 post (nI n) ff (rl_b g) (rl_a P) (rl_a E) (rl_a S) fx sc vs us (d + 1) (nI (el_o X k)) (nI (el_s X k)) (nI k) := by
  have hn := ok.2.1
  intro d
  induction d with
  | zero =>
    intro k hk
    obtain rfl : k = n := by omega
    refine br_t (Int32.le_refl _) ⟨k + 1, ?_⟩
    refine xw_69 ok (el_o_lt X k) (rl_128 (el_s_lt fun i hi => (hX i hi).2) hn) (fun ff sc vs us => ?_) k 0 sc vs us (Nat.zero_add k) (fun f hf => absurd hf (by omega))
    have e := el_lin (g := g) (w := fun x => rl_w P E x k) (fun i hi => (hX i hi).2) hn
    rw [← e]
    exact hp ff sc vs us
  | succ d ih =>
    intro k hk
    obtain ⟨h1, h2⟩ := hX k (by omega)
    have hi : vp_in (nI k) 7 := vp_in_nI (by omega) (by decide)
    have p1 : 2 ^ k ≤ 2 ^ 7 := Nat.pow_le_pow_right (by decide) (by omega)
    have q := ih (k + 1) (by omega)
    refine br_f (nI_ge (by omega) (by omega)) (And.intro hi ?_)
    rw [nI_clamp (by omega), h1]
    refine pk_eq (X k) 2 (fun e => ?_) (fun e => And.intro hi ?_)
    · intro a ea c ec
      rw [bi_1 (by omega), bi_or] at ea
      rw [nI_1] at ec
      subst ea ec
      rw [show el_o X (k + 1) = el_o X k ||| 2 ^ k from if_pos e, show el_s X (k + 1) = el_s X k from if_pos e] at q
      exact q
    · have h3 : X k * 2 ^ k ≤ 2 * 2 ^ k := Nat.mul_le_mul_right _ h2
      intro a ea c ec
      rw [bi_sl (by omega) (by omega), bi_or] at ea
      rw [nI_1] at ec
      subst ea ec
      rw [show el_o X (k + 1) = el_o X k from if_neg e, show el_s X (k + 1) = el_s X k ||| X k * 2 ^ k from if_neg e] at q
      exact q
theorem xw_bool : ∀ g : Bool, narrow .boolean (.int (rl_b g)) = .int (rl_b g) ∧ fits .boolean (.int (rl_b g)) = true := fun g => by
  cases g
  · exact ⟨rfl, by decide +kernel⟩
  · exact ⟨rfl, by decide +kernel⟩
/-- what solve gives: the sum, or the greatest, of the weights of the numbers that agree with X -/
def xw_Z (g : Bool) (n : Nat) (P E X : Nat → Nat) : Nat := ag_s g (fun x => ag_a X x n) (fun x => rl_w P E x n) (2 ^ n)
theorem xw_solve (ok : rl_ok n P E S) {X : Nat → Nat} (hX : ∀ i, i < n → fx i = nI (X i) ∧ X i ≤ 2) {ff gg : Int32} {post : Int64 → SX → Prop} (hp : ∀ ff sc vs us, post (lN (xw_Z g n P E X)) (nI n, ff, rl_b g, rl_a P, rl_a E, rl_a S, fx, sc, vs, us)) : wpX_solve post (nI n, ff, gg, rl_a P, rl_a E, rl_a S, fx, sc, vs, us) (rl_b g) := by
  obtain ⟨h1, h2⟩ := xw_bool g
  exact And.intro h1 (And.intro h2 ⟨n + 1, xw_12 ok hX hp n 0 (Nat.zero_add n)⟩)
theorem xw_Z_lt (ok : rl_ok n P E S) (g : Bool) (X : Nat → Nat) : xw_Z g n P E X < 2 ^ 30 := by
  have h := ag_s_le (g := g) (c := fun x => ag_a X x n) (w := fun x => rl_w P E x n) (B := 4782969) (fun x => Nat.le_trans (rl_w_le ok.2.2.2.1 x n) (rl_97 ok.2.1)) (2 ^ n)
  have h2 : 2 ^ n ≤ 2 ^ 7 := Nat.pow_le_pow_right (by decide) ok.2.1
  have h3 : 2 ^ n * 4782969 ≤ 2 ^ 7 * 4782969 := Nat.mul_le_mul_right _ h2
  unfold xw_Z
  omega
theorem xw_w_lt (ok : rl_ok n P E S) (x : Nat) {k : Nat} (hk : k ≤ 7) : rl_w P E x k < 2 ^ 30 := by
  have h := Nat.le_trans (rl_w_le (P := P) ok.2.2.2.1 x k) (rl_97 hk)
  omega
end
end
section
/-! Y's methods over all assignments -/
section
variable {n : Nat} {P E S : Nat → Nat} {ln : Nat → Int32}
theorem yw_bad (ok : rl_ok n P E S) {post : Int32 → Prop} {p : Int32} (h1 : (p < 0 ∨ nI n ≤ p) → post 1) (h0 : ∀ v, v < n → p = nI v → post 0) : wpY_bad post (nI n, rl_a P, rl_a E, rl_a S, ln) p := by
  have hn := ok.2.1
  refine br_c (fun h => h1 (Or.inl h)) (fun h => br_c (fun h2 => h1 (Or.inr h2)) (fun h2 => ?_))
  obtain ⟨j, hj, rfl⟩ := nI_of h
  rw [nI_leI (by omega) hj] at h2
  exact br_t (nI_le (b := 6) (by omega) (by decide)) (h0 j (by omega) rfl)
theorem yw_size_l {s : Nat} (hs : s < 2 ^ 31) {post : Int32 → Prop} (hp : post (nI (pa_c s 7))) : ∀ d k, k + d = 7 → wY_size_4 post (nI s) (nI n) (rl_a P) (rl_a E) (rl_a S) ln (d + 1) (nI (pa_c s k)) (nI k) := by
  intro d
  induction d with
  | zero =>
    intro k hk
    obtain rfl : k = 7 := by omega
    exact br_t (Int32.le_refl _) hp
  | succ d ih =>
    intro k hk
    refine br_f (nI_ge (b := 7) (by omega) (by decide)) ?_
    intro a ea b eb
    rw [bi_bit hs (by omega), nI_add] at ea
    rw [nI_1] at eb
    subst ea eb
    exact ih (k + 1) (by omega)
theorem yw_size {s : Nat} (hs : s < 2 ^ 31) {post : Int32 → Prop} (hp : post (nI (pa_c s 7))) : wpY_size post (nI n, rl_a P, rl_a E, rl_a S, ln) (nI s) := ⟨8, yw_size_l hs hp 7 0 rfl⟩
theorem yw_rows (ok : rl_ok n P E S) {v : Nat} (hv : v < 7) {post : Int32 → Prop} (hp : post (nI (2 ^ pa_c (P v) 7))) : wpY_rows post (nI n, rl_a P, rl_a E, rl_a S, ln) (nI v) := by
  obtain ⟨h1, h2⟩ := ok.2.2.1 v
  have h3 := rl_128 h1 (by omega)
  refine And.intro (vp_in_nI hv (by decide)) ?_
  rw [rl_at (by omega)]
  refine yw_size (by omega) ?_
  rw [bi_1 (by omega)]
  exact hp
theorem yw_row_l (ok : rl_ok n P E S) {x v : Nat} (hx : x < 2 ^ 31) (hv : v < 7) {post : Int32 → Prop} (hp : post (nI (pa_p x (P v) v))) : ∀ d k, k + d = v → wY_row_8 post (nI v) (nI x) (nI n) (rl_a P) (rl_a E) (rl_a S) ln (d + 1) (nI (pa_p x (P v) k)) (nI (pa_c (P v) k)) (nI k) := by
  obtain ⟨h1, h2⟩ := ok.2.2.1 v
  have hs := rl_128 h1 (by omega)
  intro d
  induction d with
  | zero =>
    intro k hk
    obtain rfl : k = v := by omega
    exact br_t (Int32.le_refl _) hp
  | succ d ih =>
    intro k hk
    have c := pa_c_le (P v) k
    refine br_f (nI_ge (by omega) (by omega)) (And.intro (vp_in_nI hv (by decide)) ?_)
    rw [rl_at (by omega)]
    refine bi_br (by omega) (by omega) (fun h => ?_) (fun h => ?_)
    · intro a ea b eb z ez
      rw [bi_bit hx (by omega), bi_put (pa_p_lt x (P v) k) (rl_t1 _) (by omega), ← pa_p_t h] at ea
      rw [nI_1, ← pa_c_t h] at eb
      rw [nI_1] at ez
      subst ea eb ez
      exact ih (k + 1) (by omega)
    · intro z ez
      rw [nI_1] at ez
      subst ez
      have q := ih (k + 1) (by omega)
      rw [pa_p_f h, pa_c_f h] at q
      exact q
theorem yw_row (ok : rl_ok n P E S) {x v : Nat} (hx : x < 2 ^ 31) (hv : v < 7) {post : Int32 → Prop} (hp : post (nI (pa_p x (P v) 7))) : wpY_row post (nI n, rl_a P, rl_a E, rl_a S, ln) (nI v) (nI x) := by
  rw [pa_stop (ok.2.2.1 v).1 7 (by omega)] at hp
  exact ⟨v + 1, yw_row_l ok hx hv hp v 0 (Nat.zero_add v)⟩
theorem yw_worth_l (ok : rl_ok n P E S) {x : Nat} (hx : x < 2 ^ 31) {post : Int32 → Prop} (hp : post (nI (rl_w P E x n))) : ∀ d k, k + d = n → wY_worth_4 post (nI x) (nI n) (rl_a P) (rl_a E) (rl_a S) ln (d + 1) (nI (rl_w P E x k)) (nI k) := by
  have hn := ok.2.1
  intro d
  induction d with
  | zero =>
    intro k hk
    obtain rfl : k = n := by omega
    exact br_t (Int32.le_refl _) hp
  | succ d ih =>
    intro k hk
    have hr := rl_row x (ok.2.2.1 k).2
    have ht := rl_t1 (x.testBit k)
    refine br_f (nI_ge (by omega) (by omega)) (br_f (nI_ge (b := 7) (by omega) (by decide)) ?_)
    refine yw_row ok hx (by omega) ?_
    rw [bi_bit hx (by omega), rl_ix]
    refine And.intro (vp_in_nI (by omega) (by decide)) ?_
    rw [rl_at (by omega), pk_mul]
    intro a ea z ez
    rw [nI_1] at ez
    subst ea ez
    exact ih (k + 1) (by omega)
theorem yw_worth (ok : rl_ok n P E S) {x : Nat} (hx : x < 2 ^ 31) {post : Int32 → Prop} (hp : post (nI (rl_w P E x n))) : wpY_worth post (nI n, rl_a P, rl_a E, rl_a S, ln) (nI x) := ⟨n + 1, yw_worth_l ok hx hp n 0 (Nat.zero_add n)⟩
theorem yw_agrees_l (ok : rl_ok n P E S) {x : Nat} (hx : x < 2 ^ 31) {post : Int32 → Prop} (hp : post (rl_b (ag_a S x n))) : ∀ d k, k + d = n → ag_a S x k = true → wY_agrees_2 post (nI x) (nI n) (rl_a P) (rl_a E) (rl_a S) ln (d + 1) (nI k) := by
  have hn := ok.2.1
  intro d
  induction d with
  | zero =>
    intro k hk h
    obtain rfl : k = n := by omega
    rw [h] at hp
    exact br_t (Int32.le_refl _) hp
  | succ d ih =>
    intro k hk h
    have hi : vp_in (nI k) 7 := vp_in_nI (by omega) (by decide)
    have hS := ok.2.2.2.2 k
    have ht := rl_t1 (x.testBit k)
    have e : ag_a S x (k + 1) = (ag_a S x k && (decide (2 ≤ S k) || decide ((x.testBit k).toNat = S k))) := rfl
    refine br_f (nI_ge (by omega) (by omega)) (br_f (nI_ge (b := 7) (by omega) (by decide)) (And.intro hi ?_))
    rw [rl_at (by omega), bi_bit hx (by omega)]
    refine pk_le 2 (S k) (fun h2 => ?_) (fun h2 => And.intro hi (pk_eq (x.testBit k).toNat (S k) (fun h3 => ?_) (fun h3 => ?_)))
    · intro z ez
      rw [nI_1] at ez
      subst ez
      exact ih (k + 1) (by omega) (by rw [e, h, decide_eq_true h2]; rfl)
    · intro z ez
      rw [nI_1] at ez
      subst ez
      exact ih (k + 1) (by omega) (by rw [e, h, decide_eq_true h3, Bool.or_true]; rfl)
    · have f : ag_a S x n = false := by
        cases q : ag_a S x n
        · rfl
        · rcases (ag_a_iff n).mp q k (by omega) with q | q <;> omega
      rw [f] at hp
      exact hp
theorem yw_agrees (ok : rl_ok n P E S) {x : Nat} (hx : x < 2 ^ 31) {post : Int32 → Prop} (hp : post (rl_b (ag_a S x n))) : wpY_agrees post (nI n, rl_a P, rl_a E, rl_a S, ln) (nI x) := ⟨n + 1, yw_agrees_l ok hx hp n 0 (Nat.zero_add n) rfl⟩
theorem yw_2n (ok : rl_ok n P E S) : 2 ^ n ≤ 128 ∧ (1 : Int32) <<< (nI n &&& 31) = nI (2 ^ n) := ⟨Nat.pow_le_pow_right (n := 2) (by decide) ok.2.1, bi_1 (by have := ok.2.1; omega)⟩
/-- x passes: bit u is a, bit v is b, x agrees -/
def yw_C (n : Nat) (S : Nat → Nat) (u a v b x : Nat) : Bool := decide ((x.testBit u).toNat = a) && (decide ((x.testBit v).toNat = b) && ag_a S x n)
theorem yw_sum_l (ok : rl_ok n P E S) {u a v b : Nat} (hu : u < 7) (ha : a ≤ 1) (hv : v < 7) (hb : b ≤ 1) {post : Int64 → Prop} (hp : post (lN (ag_s false (yw_C n S u a v b) (fun x => rl_w P E x n) (2 ^ n)))) : ∀ d k, k + d = 2 ^ n → wY_sum_6 post (nI u) (nI a) (nI v) (nI b) (nI n) (rl_a P) (rl_a E) (rl_a S) ln (d + 1) (lN (ag_s false (yw_C n S u a v b) (fun x => rl_w P E x n) k)) (nI k) := by
  have hn := ok.2.1
  obtain ⟨h128, e2⟩ := yw_2n ok
  intro d
  induction d with
  | zero =>
    intro k hk
    obtain rfl : k = 2 ^ n := by omega
    exact br_t (by rw [e2]; exact Int32.le_refl _) hp
  | succ d ih =>
    intro k hk
    have q := ih (k + 1) (by omega)
    have t1 := rl_t1 (k.testBit u)
    have t2 := rl_t1 (k.testBit v)
    have e0 : ag_s false (yw_C n S u a v b) (fun x => rl_w P E x n) (k + 1) = ag_s false (yw_C n S u a v b) (fun x => rl_w P E x n) k + (if yw_C n S u a v b k = true then rl_w P E k n else 0) := rfl
    have ec : yw_C n S u a v b k = (decide ((k.testBit u).toNat = a) && (decide ((k.testBit v).toNat = b) && ag_a S k n)) := rfl
    refine br_f (by rw [e2]; exact nI_ge (by omega) (by omega)) ?_
    rw [bi_bit (by omega) (by omega), bi_bit (by omega) (by omega)]
    refine pk_eq (k.testBit u).toNat a (fun h1 => pk_eq (k.testBit v).toNat b (fun h2 => ?_) (fun h2 => ?_)) (fun h1 => ?_)
    · refine yw_agrees ok (by omega) (rl_bbr (fun h3 => ?_) (fun h3 => ?_))
      · intro z ez
        rw [nI_1] at ez
        subst ez
        rw [e0, if_neg (by rw [ec, h3]; simp), Nat.add_zero] at q
        exact q
      · refine yw_worth ok (by omega) ?_
        have hw := xw_w_lt ok k hn
        intro y ey z ez
        rw [nI_l (by omega), lN_add] at ey
        rw [nI_1] at ez
        subst ey ez
        rw [e0, if_pos (by rw [ec, decide_eq_true h1, decide_eq_true h2, h3]; rfl)] at q
        exact q
    · intro z ez
      rw [nI_1] at ez
      subst ez
      rw [e0, if_neg (by rw [ec, decide_eq_false h2]; simp), Nat.add_zero] at q
      exact q
    · intro z ez
      rw [nI_1] at ez
      subst ez
      rw [e0, if_neg (by rw [ec, decide_eq_false h1]; simp), Nat.add_zero] at q
      exact q
theorem yw_sum (ok : rl_ok n P E S) {u a v b : Nat} (hu : u < 7) (ha : a ≤ 1) (hv : v < 7) (hb : b ≤ 1) {post : Int64 → Prop} (hp : post (lN (ag_s false (yw_C n S u a v b) (fun x => rl_w P E x n) (2 ^ n)))) : wpY_sum post (nI n, rl_a P, rl_a E, rl_a S, ln) (nI u) (nI a) (nI v) (nI b) := ⟨2 ^ n + 1, yw_sum_l ok hu ha hv hb hp (2 ^ n) 0 (Nat.zero_add _)⟩
def yw_D (n : Nat) (S : Nat → Nat) (v b x : Nat) : Bool := decide ((x.testBit v).toNat = b) && ag_a S x n
theorem yw_max_lt (ok : rl_ok n P E S) (c : Nat → Bool) : ∀ k, ag_s true c (fun x => rl_w P E x n) k < 2 ^ 30 := by
  intro k
  induction k with
  | zero => show 0 < 2 ^ 30; decide
  | succ k ih =>
    have hw := xw_w_lt ok k ok.2.1
    show ag_o true _ (if c k = true then rl_w P E k n else 0) < _
    rw [ag_o_t]
    by_cases h : c k = true
    · rw [if_pos h]; split <;> omega
    · rw [if_neg h]; split <;> omega
theorem yw_most_l (ok : rl_ok n P E S) {v b : Nat} (hv : v < 7) (hb : b ≤ 1) {post : Int32 → Prop} (hp : post (nI (ag_s true (yw_D n S v b) (fun x => rl_w P E x n) (2 ^ n)))) : ∀ d k, k + d = 2 ^ n → wY_most_5 post (nI v) (nI b) (nI n) (rl_a P) (rl_a E) (rl_a S) ln (d + 1) (nI (ag_s true (yw_D n S v b) (fun x => rl_w P E x n) k)) (nI k) := by
  have hn := ok.2.1
  obtain ⟨h128, e2⟩ := yw_2n ok
  intro d
  induction d with
  | zero =>
    intro k hk
    obtain rfl : k = 2 ^ n := by omega
    exact br_t (by rw [e2]; exact Int32.le_refl _) hp
  | succ d ih =>
    intro k hk
    have q := ih (k + 1) (by omega)
    have t2 := rl_t1 (k.testBit v)
    have e0 : ag_s true (yw_D n S v b) (fun x => rl_w P E x n) (k + 1) = ag_o true (ag_s true (yw_D n S v b) (fun x => rl_w P E x n) k) (if yw_D n S v b k = true then rl_w P E k n else 0) := rfl
    have ec : yw_D n S v b k = (decide ((k.testBit v).toNat = b) && ag_a S k n) := rfl
    refine br_f (by rw [e2]; exact nI_ge (by omega) (by omega)) ?_
    rw [bi_bit (by omega) (by omega)]
    refine pk_eq (k.testBit v).toNat b (fun h2 => ?_) (fun h2 => ?_)
    · refine yw_agrees ok (by omega) (rl_bbr (fun h3 => ?_) (fun h3 => ?_))
      · intro z ez
        rw [nI_1] at ez
        subst ez
        rw [e0, if_neg (by rw [ec, h3]; simp), ag_o_0r] at q
        exact q
      · refine yw_worth ok (by omega) ?_
        have hw := xw_w_lt ok k hn
        have hm := yw_max_lt ok (yw_D n S v b) k
        rw [e0, if_pos (by rw [ec, decide_eq_true h2, h3]; rfl), ag_o_t] at q
        refine pk_le (rl_w P E k n) (ag_s true (yw_D n S v b) (fun x => rl_w P E x n) k) (fun h4 => ?_) (fun h4 => ?_)
        · intro z ez
          rw [nI_1] at ez
          subst ez
          by_cases h5 : ag_s true (yw_D n S v b) (fun x => rl_w P E x n) k ≤ rl_w P E k n
          · rw [if_pos h5, Nat.le_antisymm h4 h5] at q
            exact q
          · rw [if_neg h5] at q
            exact q
        · intro z ez
          rw [nI_1] at ez
          subst ez
          rw [if_pos (by omega)] at q
          exact q
    · intro z ez
      rw [nI_1] at ez
      subst ez
      rw [e0, if_neg (by rw [ec, decide_eq_false h2]; simp), ag_o_0r] at q
      exact q
theorem yw_most (ok : rl_ok n P E S) {v b : Nat} (hv : v < 7) (hb : b ≤ 1) {post : Int32 → Prop} (hp : post (nI (ag_s true (yw_D n S v b) (fun x => rl_w P E x n) (2 ^ n)))) : wpY_most post (nI n, rl_a P, rl_a E, rl_a S, ln) (nI v) (nI b) := ⟨2 ^ n + 1, yw_most_l ok hv hb hp (2 ^ n) 0 (Nat.zero_add _)⟩
/-- the two halves of bit 0 -/
theorem ag_halves {g : Bool} {c : Nat → Bool} {w : Nat → Nat} (v : Nat) : ∀ N, ag_o g (ag_s g (fun x => decide ((x.testBit v).toNat = 0) && c x) w N) (ag_s g (fun x => decide ((x.testBit v).toNat = 1) && c x) w N) = ag_s g c w N := by
  intro N
  induction N with
  | zero => exact ag_o_0l g 0
  | succ N ih =>
    show ag_o g (ag_o g _ (if (decide ((N.testBit v).toNat = 0) && c N) = true then w N else 0)) (ag_o g _ (if (decide ((N.testBit v).toNat = 1) && c N) = true then w N else 0)) = ag_o g _ (if c N = true then w N else 0)
    rw [ag_o_4, ih]
    congr 1
    cases N.testBit v
    · show ag_o g (if (decide (0 = 0) && c N) = true then w N else 0) (if (decide (0 = 1) && c N) = true then w N else 0) = _
      rw [decide_eq_true rfl, decide_eq_false (by decide), Bool.true_and, Bool.false_and, if_neg Bool.false_ne_true, ag_o_0r]
    · show ag_o g (if (decide (1 = 0) && c N) = true then w N else 0) (if (decide (1 = 1) && c N) = true then w N else 0) = _
      rw [decide_eq_true rfl, decide_eq_false (by decide), Bool.true_and, Bool.false_and, if_neg Bool.false_ne_true, ag_o_0l]
theorem yw_dup (p q : Bool) : (p && (p && q)) = (p && q) := by cases p <;> rfl
theorem yw_total (ok : rl_ok n P E S) {post : Int64 → Prop} (hp : post (lN (xw_Z false n P E S))) : wpY_total post (nI n, rl_a P, rl_a E, rl_a S, ln) := by
  refine yw_sum ok (u := 0) (a := 0) (v := 0) (b := 0) (by decide) (by decide) (by decide) (by decide) ?_
  refine yw_sum ok (u := 0) (a := 1) (v := 0) (b := 1) (by decide) (by decide) (by decide) (by decide) ?_
  rw [lN_add]
  have e := ag_halves (g := false) (c := fun x => ag_a S x n) (w := fun x => rl_w P E x n) 0 (2 ^ n)
  rw [ag_o_f] at e
  have d : ∀ b, yw_C n S 0 b 0 b = fun x => decide ((x.testBit 0).toNat = b) && ag_a S x n := fun b => funext fun x => yw_dup _ _
  rw [d, d, e]
  exact hp
theorem yw_greatest (ok : rl_ok n P E S) {post : Int32 → Prop} (hp : post (nI (xw_Z true n P E S))) : wpY_greatest post (nI n, rl_a P, rl_a E, rl_a S, ln) := by
  refine yw_most ok (v := 0) (b := 0) (by decide) (by decide) ?_
  refine yw_most ok (v := 0) (b := 1) (by decide) (by decide) ?_
  have e : ag_o true (ag_s true (yw_D n S 0 0) (fun x => rl_w P E x n) (2 ^ n)) (ag_s true (yw_D n S 0 1) (fun x => rl_w P E x n) (2 ^ n)) = xw_Z true n P E S := ag_halves (g := true) (c := fun x => ag_a S x n) (w := fun x => rl_w P E x n) 0 (2 ^ n)
  have h1 := yw_max_lt ok (yw_D n S 0 0) (2 ^ n)
  have h2 := yw_max_lt ok (yw_D n S 0 1) (2 ^ n)
  rw [← e, ag_o_t] at hp
  refine pk_le (ag_s true (yw_D n S 0 0) (fun x => rl_w P E x n) (2 ^ n)) (ag_s true (yw_D n S 0 1) (fun x => rl_w P E x n) (2 ^ n)) (fun h => ?_) (fun h => ?_)
  · rw [if_pos h] at hp
    exact hp
  · rw [if_neg (by omega)] at hp
    exact hp
/-- a value more: agreeing with S and bit v is b -/
theorem yw_agU {v b x : Nat} (hv : v < n) (hb : b ≤ 1) (hS : S v ≠ 1 - b) (hS2 : S v ≤ 2) : (decide ((x.testBit v).toNat = b) && ag_a S x n) = ag_a (rl_u S v b) x n := by
  rw [Bool.eq_iff_iff, Bool.and_eq_true, ag_a_iff, ag_a_iff, decide_eq_true_eq]
  constructor
  · intro ⟨h1, h2⟩ i hi
    unfold rl_u
    by_cases e : i = v
    · rw [if_pos e, e]; exact Or.inr h1
    · rw [if_neg e]; exact h2 i hi
  · intro h
    have hv2 := h v hv
    unfold rl_u at hv2
    rw [if_pos rfl] at hv2
    have e1 : (x.testBit v).toNat = b := by omega
    refine ⟨e1, fun i hi => ?_⟩
    by_cases e : i = v
    · rw [e, e1]
      omega
    · have hi2 := h i hi
      unfold rl_u at hi2
      rw [if_neg e] at hi2
      exact hi2
theorem yw_agN {v b x : Nat} (hv : v < n) (hb : b ≤ 1) (hS : S v = 1 - b) : (decide ((x.testBit v).toNat = b) && ag_a S x n) = false := by
  cases h : (decide ((x.testBit v).toNat = b) && ag_a S x n)
  · rfl
  · rw [Bool.and_eq_true, ag_a_iff, decide_eq_true_eq] at h
    have h2 := h.2 v hv
    have t := rl_t1 (x.testBit v)
    omega
end
end
section
/-! the methods that sum or take the greatest, on both sides -/
section
variable {n : Nat} {P E S : Nat → Nat} {ff gg : Int32} {fx sc us : Nat → Int32} {vs : Nat → Int64} {ln : Nat → Int32}
/-- the answer of totalWith, of pairSum -/
def ou_1 (n : Nat) (P E S : Nat → Nat) (v a : Nat) : Nat := if S v = 1 - a then 0 else xw_Z false n P E (rl_u S v a)
def ou_2 (n : Nat) (P E S : Nat → Nat) (u a v b : Nat) : Nat := if S u = 1 - a then 0 else ou_1 n P E (rl_u S u a) v b
theorem ou_s1 {g : Bool} {v b : Nat} (hv : v < n) (hb : b ≤ 1) (hS : S v ≤ 2) : ag_s g (yw_D n S v b) (fun x => rl_w P E x n) (2 ^ n) = if S v = 1 - b then 0 else xw_Z g n P E (rl_u S v b) := by
  by_cases h : S v = 1 - b
  · rw [if_pos h]
    exact ag_s_none _ fun x _ => yw_agN hv hb h
  · rw [if_neg h]
    exact ag_s_congr _ (fun x _ => yw_agU hv hb h hS) fun _ _ _ => rfl
theorem ou_u2 {v b : Nat} (hb : b ≤ 1) (hS : ∀ i, S i ≤ 2) : ∀ i, rl_u S v b i ≤ 2 := by
  intro i
  unfold rl_u
  split
  · omega
  · exact hS i
theorem ou_sum2 {u a v b : Nat} (hu : u < n) (ha : a ≤ 1) (hv : v < n) (hb : b ≤ 1) (hS : ∀ i, S i ≤ 2) : ag_s false (yw_C n S u a v b) (fun x => rl_w P E x n) (2 ^ n) = ou_2 n P E S u a v b := by
  have hc : ∀ x, yw_C n S u a v b x = (decide ((x.testBit v).toNat = b) && (decide ((x.testBit u).toNat = a) && ag_a S x n)) := fun x => by
    unfold yw_C
    rw [Bool.and_left_comm]
  unfold ou_2
  by_cases h : S u = 1 - a
  · rw [if_pos h]
    refine ag_s_none _ fun x _ => ?_
    rw [hc, yw_agN hu ha h, Bool.and_false]
  · rw [if_neg h]
    unfold ou_1
    rw [← ou_s1 hv hb (ou_u2 ha hS v)]
    refine ag_s_congr _ (fun x _ => ?_) fun _ _ _ => rfl
    rw [hc, yw_agU hu ha h (hS u)]
    rfl
theorem ou_sum1 {v a : Nat} (hv : v < n) (ha : a ≤ 1) (hS : ∀ i, S i ≤ 2) : ag_s false (yw_C n S v a v a) (fun x => rl_w P E x n) (2 ^ n) = ou_1 n P E S v a := by
  unfold ou_1
  rw [← ou_s1 hv ha (hS v)]
  exact ag_s_congr _ (fun x _ => yw_dup _ _) fun _ _ _ => rfl
theorem ou_ySum2 (ok : rl_ok n P E S) {u a v b : Nat} (hu : u < n) (ha : a ≤ 1) (hv : v < n) (hb : b ≤ 1) {post : Int64 → Prop} (hp : post (lN (ou_2 n P E S u a v b))) : wpY_sum post (nI n, rl_a P, rl_a E, rl_a S, ln) (nI u) (nI a) (nI v) (nI b) := by
  have hn := ok.2.1
  refine yw_sum ok (by omega) ha (by omega) hb ?_
  rw [ou_sum2 hu ha hv hb ok.2.2.2.2]
  exact hp
theorem ou_ySum1 (ok : rl_ok n P E S) {v a : Nat} (hv : v < n) (ha : a ≤ 1) {post : Int64 → Prop} (hp : post (lN (ou_1 n P E S v a))) : wpY_sum post (nI n, rl_a P, rl_a E, rl_a S, ln) (nI v) (nI a) (nI v) (nI a) := by
  have hn := ok.2.1
  refine yw_sum ok (by omega) ha (by omega) ha ?_
  rw [ou_sum1 hv ha ok.2.2.2.2]
  exact hp
theorem ou_yMost (ok : rl_ok n P E S) {v a : Nat} (hv : v < n) (ha : a ≤ 1) (h : S v ≠ 1 - a) {post : Int32 → Prop} (hp : post (nI (xw_Z true n P E (rl_u S v a)))) : wpY_most post (nI n, rl_a P, rl_a E, rl_a S, ln) (nI v) (nI a) := by
  have hn := ok.2.1
  refine yw_most ok (by omega) ha ?_
  rw [ou_s1 hv ha (ok.2.2.2.2 v), if_neg h]
  exact hp
theorem ou_total (ok : rl_ok n P E S) {post : Int64 → SX → Prop} (hp : ∀ ff gg fx sc vs us, post (lN (xw_Z false n P E S)) (nI n, ff, gg, rl_a P, rl_a E, rl_a S, fx, sc, vs, us)) : wpX_total post (nI n, ff, gg, rl_a P, rl_a E, rl_a S, fx, sc, vs, us) := by
  refine xw_takeSeen ok fun fx' h => ?_
  refine xw_solve (g := false) ok (X := S) (fun i hi => ⟨h i hi, ok.2.2.2.2 i⟩) fun ff sc vs us => ?_
  exact hp _ _ _ _ _ _
theorem ou_best (ok : rl_ok n P E S) {post : Int32 → SX → Prop} (hp : ∀ ff gg fx sc vs us, post (nI (xw_Z true n P E S)) (nI n, ff, gg, rl_a P, rl_a E, rl_a S, fx, sc, vs, us)) : wpX_best post (nI n, ff, gg, rl_a P, rl_a E, rl_a S, fx, sc, vs, us) := by
  refine xw_takeSeen ok fun fx' h => ?_
  refine xw_solve (g := true) ok (X := S) (fun i hi => ⟨h i hi, ok.2.2.2.2 i⟩) fun ff sc vs us => ?_
  show post (lN (xw_Z true n P E S)).toInt32 _
  rw [lN_i]
  exact hp _ _ _ _ _ _
theorem ou_fx {X : Nat → Nat} (h : ∀ i, i < n → fx i = nI (X i) ∧ X i ≤ 2) {v a : Nat} (ha : a ≤ 1) : ∀ i, i < n → upd fx v (nI a) i = nI (rl_u X v a i) ∧ rl_u X v a i ≤ 2 := by
  intro i hi
  unfold rl_u
  by_cases e : i = v
  · rw [if_pos e, e]
    exact ⟨pk_us, by omega⟩
  · rw [if_neg e, pk_un e]
    exact h i hi
theorem ou_tw25 (ok : rl_ok n P E S) {v a : Nat} (hv : v < n) (ha : a ≤ 1) {post : Int64 → SX → Prop} (hp : ∀ ff gg fx sc vs us, post (lN (ou_1 n P E S v a)) (nI n, ff, gg, rl_a P, rl_a E, rl_a S, fx, sc, vs, us)) : wX_totalWith_25 post (nI v) (nI a) (nI n) ff gg (rl_a P) (rl_a E) (rl_a S) fx sc vs us := by
  have hn := ok.2.1
  refine xw_takeSeen ok fun fx' h => ?_
  have hf : ∀ i, i < n → fx' i = nI (S i) ∧ S i ≤ 2 := fun i hi => ⟨h i hi, ok.2.2.2.2 i⟩
  refine xw_fix (by omega) ha (h v hv) (ok.2.2.2.2 v) (fun e => ?_) (fun e => ?_)
  · refine br_t rfl ?_
    have q := hp ff gg fx' sc vs us
    unfold ou_1 at q
    rw [if_pos e] at q
    exact q
  · refine br_f (by decide) ?_
    refine xw_solve (g := false) ok (ou_fx hf ha) fun ff sc vs us => ?_
    have q := hp ff (rl_b false) (upd fx' v (nI a)) sc vs us
    unfold ou_1 at q
    rw [if_neg e] at q
    exact q
theorem ou_totalWith (ok : rl_ok n P E S) {v a : Nat} (hv : v < n) (ha : a ≤ 1) {post : Int64 → SX → Prop} (hp : ∀ ff gg fx sc vs us, post (lN (ou_1 n P E S v a)) (nI n, ff, gg, rl_a P, rl_a E, rl_a S, fx, sc, vs, us)) : wpX_totalWith post (nI n, ff, gg, rl_a P, rl_a E, rl_a S, fx, sc, vs, us) (nI v) (nI a) := by
  have hn := ok.2.1
  unfold wpX_totalWith
  dsimp only
  refine xw_good (n := n) (by omega) (fun h => ?_) (fun _ _ _ => ?_)
  · rcases h with h | h
    · exact absurd h (nI_pos (by omega))
    · exact absurd h (nI_ge hv (by omega))
  · refine br_f (by decide) ?_
    have q := ou_tw25 (ff := ff) (gg := gg) (fx := fx) (sc := sc) (vs := vs) (us := us) ok hv ha hp
    rcases (show a = 0 ∨ a = 1 by omega) with e | e
    · subst e
      exact br_t rfl q
    · subst e
      exact br_f (by decide) (br_t rfl q)
theorem ou_pairSum (ok : rl_ok n P E S) {u a v b : Nat} (hu : u < n) (ha : a ≤ 1) (hv : v < n) (hb : b ≤ 1) {post : Int64 → SX → Prop} (hp : ∀ ff gg fx sc vs us, post (lN (ou_2 n P E S u a v b)) (nI n, ff, gg, rl_a P, rl_a E, rl_a S, fx, sc, vs, us)) : wpX_pairSum post (nI n, ff, gg, rl_a P, rl_a E, rl_a S, fx, sc, vs, us) (nI u) (nI a) (nI v) (nI b) := by
  have hn := ok.2.1
  refine xw_takeSeen ok fun fx' h => ?_
  have hf : ∀ i, i < n → fx' i = nI (S i) ∧ S i ≤ 2 := fun i hi => ⟨h i hi, ok.2.2.2.2 i⟩
  refine xw_fix (by omega) ha (h u hu) (ok.2.2.2.2 u) (fun e => ?_) (fun e => ?_)
  · refine br_t rfl ?_
    have q := hp ff gg fx' sc vs us
    unfold ou_2 at q
    rw [if_pos e] at q
    exact br_t rfl q
  · have hf2 := ou_fx hf (v := u) ha
    refine br_f (by decide) ?_
    refine xw_fix (by omega) hb (hf2 v hv).1 (hf2 v hv).2 (fun e2 => ?_) (fun e2 => ?_)
    · refine br_t rfl ?_
      have q := hp ff gg (upd fx' u (nI a)) sc vs us
      unfold ou_2 ou_1 at q
      rw [if_neg e, if_pos e2] at q
      exact br_t rfl q
    · refine br_f (by decide) (br_f (by decide) ?_)
      refine xw_solve (g := false) ok (ou_fx hf2 hb) fun ff sc vs us => ?_
      have q := hp ff (rl_b false) (upd (upd fx' u (nI a)) v (nI b)) sc vs us
      unfold ou_2 ou_1 at q
      rw [if_neg e, if_neg e2] at q
      exact q
theorem ou_bw22 (ok : rl_ok n P E S) {v a : Nat} (hv : v < n) (ha : a ≤ 1) {post : Int32 → SX → Prop} (h0 : S v = 1 - a → ∀ ff gg fx sc vs us, post (-3) (nI n, ff, gg, rl_a P, rl_a E, rl_a S, fx, sc, vs, us)) (h1 : S v ≠ 1 - a → ∀ ff gg fx sc vs us, post (nI (xw_Z true n P E (rl_u S v a))) (nI n, ff, gg, rl_a P, rl_a E, rl_a S, fx, sc, vs, us)) : wX_bestWith_22 post (nI v) (nI a) (nI n) ff gg (rl_a P) (rl_a E) (rl_a S) fx sc vs us := by
  have hn := ok.2.1
  refine xw_takeSeen ok fun fx' h => ?_
  have hf : ∀ i, i < n → fx' i = nI (S i) ∧ S i ≤ 2 := fun i hi => ⟨h i hi, ok.2.2.2.2 i⟩
  refine xw_fix (by omega) ha (h v hv) (ok.2.2.2.2 v) (fun e => ?_) (fun e => ?_)
  · exact br_t rfl (h0 e _ _ _ _ _ _)
  · refine br_f (by decide) ?_
    refine xw_solve (g := true) ok (ou_fx hf ha) fun ff sc vs us => ?_
    show post (lN (xw_Z true n P E (rl_u S v a))).toInt32 _
    rw [lN_i]
    exact h1 e _ _ _ _ _ _
/-- independent, in lockstep -/
theorem ou_ind (ok : rl_ok n P E S) {u v : Nat} (hu : u < n) (hv : v < n) (al : Int64) : ∀ d k, k + d = 4 → ∃ r : Int32, (∀ (post : Int32 → SX → Prop) ff gg fx sc vs us, (∀ ff gg fx sc vs us, post r (nI n, ff, gg, rl_a P, rl_a E, rl_a S, fx, sc, vs, us)) → wX_independent_26 post (nI u) (nI v) al (d + 1) (nI k) (nI n) ff gg (rl_a P) (rl_a E) (rl_a S) fx sc vs us) ∧ (∀ post : Int32 → Prop, post r → wY_independent_39 post (nI u) (nI v) al (nI n) (rl_a P) (rl_a E) (rl_a S) ln (d + 1) (nI k)) := by
  intro d
  induction d with
  | zero =>
    intro k hk
    obtain rfl : k = 4 := by omega
    exact ⟨1, fun post ff gg fx sc vs us hp => br_t (Int32.le_refl _) (hp _ _ _ _ _ _), fun post hp => br_t (Int32.le_refl _) hp⟩
  | succ d ih =>
    intro k hk
    have g4 : ¬ (4 : Int32) ≤ nI k := nI_ge (b := 4) (by omega) (by decide)
    have e1 : nI k >>> ((1 : Int32) &&& 31) = nI (k / 2) := bi_shr (k := 1) (by omega) (by omega)
    have e2 : nI k &&& 1 = nI (k % 2) := (nx_and k 1).trans (congrArg nI (Nat.and_one_is_mod k))
    have e3 : nI k / 2 = nI (k / 2) := pk_div (d := 2) (by omega) (by omega) (by omega)
    have e4 : nI k - nI k / 2 * 2 = nI (k % 2) := pk_rem (d := 2) (by omega) (by omega) (by omega)
    have ha : k / 2 ≤ 1 := by omega
    have hb : k % 2 ≤ 1 := by omega
    by_cases c : al * lN (ou_2 n P E S u (k / 2) v (k % 2)) = lN (ou_1 n P E S u (k / 2)) * lN (ou_1 n P E S v (k % 2))
    · obtain ⟨r, hX, hY⟩ := ih (k + 1) (by omega)
      refine ⟨r, fun post ff gg fx sc vs us hp => br_f g4 ?_, fun post hp => br_f g4 (And.intro (by decide) ?_)⟩
      · rw [e1, e2]
        intro a ea b eb
        subst ea eb
        refine ou_pairSum ok hu ha hv hb fun ff gg fx sc vs us => ?_
        refine ou_totalWith ok hu ha fun ff gg fx sc vs us => ?_
        refine ou_totalWith ok hv hb fun ff gg fx sc vs us => ?_
        refine br_t c ?_
        intro z ez
        rw [nI_1] at ez
        subst ez
        exact hX post _ _ _ _ _ _ hp
      · rw [e4, e3]
        intro a ea
        refine And.intro (by decide) ?_
        intro b eb
        subst ea eb
        refine ou_ySum1 ok hu ha ?_
        refine ou_ySum1 ok hv hb ?_
        refine ou_ySum2 ok hu ha hv hb ?_
        refine br_t c ?_
        intro z ez
        rw [nI_1] at ez
        subst ez
        exact hY post hp
    · refine ⟨0, fun post ff gg fx sc vs us hp => br_f g4 ?_, fun post hp => br_f g4 (And.intro (by decide) ?_)⟩
      · rw [e1, e2]
        intro a ea b eb
        subst ea eb
        refine ou_pairSum ok hu ha hv hb fun ff gg fx sc vs us => ?_
        refine ou_totalWith ok hu ha fun ff gg fx sc vs us => ?_
        refine ou_totalWith ok hv hb fun ff gg fx sc vs us => ?_
        exact br_f c (hp _ _ _ _ _ _)
      · rw [e4, e3]
        intro a ea
        refine And.intro (by decide) ?_
        intro b eb
        subst ea eb
        refine ou_ySum1 ok hu ha ?_
        refine ou_ySum1 ok hv hb ?_
        refine ou_ySum2 ok hu ha hv hb ?_
        exact br_f c hp
end
end
section
/-! bestNumber: the least number of the greatest weight -/
theorem bn_lt {x y k : Nat} (h1 : x.testBit k = true) (h2 : y.testBit k = false) (h : ∀ i, k < i → y.testBit i = x.testBit i) : y < x := by
  have e : y / 2 ^ (k + 1) = x / 2 ^ (k + 1) := Nat.eq_of_testBit_eq fun i => by
    rw [Nat.testBit_div_two_pow, Nat.testBit_div_two_pow]
    exact h _ (by omega)
  have m1 : x % 2 ^ (k + 1) = x % 2 ^ k + 2 ^ k * (x.testBit k).toNat := by rw [Nat.mod_pow_succ, Nat.toNat_testBit]
  have m2 : y % 2 ^ (k + 1) = y % 2 ^ k + 2 ^ k * (y.testBit k).toNat := by rw [Nat.mod_pow_succ, Nat.toNat_testBit]
  rw [h1] at m1
  rw [h2] at m2
  have m1 : x % 2 ^ (k + 1) = x % 2 ^ k + 2 ^ k * 1 := m1
  have m2 : y % 2 ^ (k + 1) = y % 2 ^ k + 2 ^ k * 0 := m2
  have d1 := Nat.div_add_mod x (2 ^ (k + 1))
  have d2 := Nat.div_add_mod y (2 ^ (k + 1))
  have l2 := Nat.mod_lt y (Nat.two_pow_pos k)
  rw [e] at d2
  omega
section
variable {n : Nat} {P E S : Nat → Nat} {ff gg : Int32} {fx sc us : Nat → Int32} {vs : Nat → Int64} {ln : Nat → Int32}
/-- x is the least agreeing number of the greatest weight -/
def bn_is (n : Nat) (P E S : Nat → Nat) (x : Nat) : Prop := x < 2 ^ n ∧ ag_a S x n = true ∧ rl_w P E x n = xw_Z true n P E S ∧ ∀ y, y < x → ag_a S y n = true → rl_w P E y n ≠ xw_Z true n P E S
theorem bn_ex (ok : rl_ok n P E S) : ∃ x, bn_is n P E S x := by
  have hS : ∀ i, i < n → S i ≤ 2 := fun i _ => ok.2.2.2.2 i
  have h0 : ag_a S (el_s S n) n = true := (ag_a_iff n).mpr fun i hi => by
    rw [el_s_bit n hS, decide_eq_true hi, Bool.true_and]
    have h2 := hS i hi
    by_cases h1 : S i = 1
    · rw [h1]; exact Or.inr rfl
    · rw [decide_eq_false h1]
      show 2 ≤ S i ∨ 0 = S i
      omega
  obtain ⟨z, z1, z2, z3⟩ := ag_max_at (c := fun x => ag_a S x n) (w := fun x => rl_w P E x n) (2 ^ n) ⟨_, el_s_lt hS, h0⟩
  obtain ⟨x, ⟨x1, x2, x3⟩, hx⟩ := pk_least (fun x => x < 2 ^ n ∧ ag_a S x n = true ∧ rl_w P E x n = xw_Z true n P E S) ⟨z, z1, z2, z3⟩
  exact ⟨x, x1, x2, x3, fun y hy h2 h3 => hx y hy ⟨by omega, h2, h3⟩⟩
theorem bn_key (ok : rl_ok n P E S) {x k : Nat} (B : bn_is n P E S x) (hk : k < n) {X : Nat → Nat} (hlo : ∀ i, i < k → X i = S i) (hhi : ∀ i, k < i → i < n → X i = (x.testBit i).toNat) (hS : S k = 2) : xw_Z true n P E (rl_u X k 0) = xw_Z true n P E S ↔ x.testBit k = false := by
  obtain ⟨b1, b2, b3, b4⟩ := B
  have a2 := (ag_a_iff n).mp b2
  have u0 : rl_u X k 0 k = 0 := if_pos rfl
  have un : ∀ i, i ≠ k → rl_u X k 0 i = X i := fun i hi => if_neg hi
  have hsub : ∀ y, ag_a (rl_u X k 0) y n = true → ag_a S y n = true := fun y hy => (ag_a_iff n).mpr fun i hi => by
    have q := (ag_a_iff n).mp hy i hi
    rcases Nat.lt_trichotomy i k with h | h | h
    · rw [un i (by omega), hlo i h] at q
      exact q
    · rw [h, hS]; exact Or.inl (Nat.le_refl _)
    · rw [un i (by omega), hhi i h hi] at q
      have t := rl_t1 (x.testBit i)
      have p := a2 i hi
      omega
  have hag : ∀ y, y.testBit k = false → (∀ i, i ≠ k → y.testBit i = x.testBit i) → ag_a (rl_u X k 0) y n = true := fun y h1 h2 => (ag_a_iff n).mpr fun i hi => by
    rcases Nat.lt_trichotomy i k with h | h | h
    · rw [un i (by omega), hlo i h, h2 i (by omega)]
      exact a2 i hi
    · rw [h, u0, h1]; exact Or.inr rfl
    · rw [un i (by omega), hhi i h hi, h2 i (by omega)]
      exact Or.inr rfl
  constructor
  · intro e
    cases hx : x.testBit k
    · rfl
    · have x7 := rl_128 b1 ok.2.1
      have d : ∀ i, (bi_d x (2 ^ k)).testBit i = (x.testBit i && !decide (k = i)) := fun i => by rw [bi_dt x7, bi_2]
      have g := hag (bi_d x (2 ^ k)) (by rw [d]; simp) (fun i hi => by rw [d, decide_eq_false (fun z => hi z.symm)]; simp)
      obtain ⟨y, y1, y2, y3⟩ := ag_max_at (c := fun x => ag_a (rl_u X k 0) x n) (w := fun x => rl_w P E x n) (2 ^ n) ⟨_, bi_d_lt b1 x7, g⟩
      have yk := (ag_a_iff n).mp y2
      have y4 : y < x := bn_lt hx (by
        have q := yk k hk
        rw [u0] at q
        cases z : y.testBit k
        · rfl
        · rw [z] at q
          have q : 2 ≤ 0 ∨ 1 = 0 := q
          omega) (fun i hi => by
        rcases Nat.lt_or_ge i n with h | h
        · have q := yk i h
          rw [un i (by omega), hhi i hi h] at q
          have t := rl_t1 (x.testBit i)
          rcases q with q | q
          · omega
          · cases e1 : y.testBit i <;> cases e2 : x.testBit i <;> rw [e1, e2] at q <;> first | rfl | exact absurd q (by decide)
        · rw [bi_hi y1 h, bi_hi b1 h])
      exact absurd (y3.trans e) (b4 y y4 (hsub y y2))
  · intro hx
    have g := hag x hx (fun _ _ => rfl)
    have l1 := ag_max_le (c := fun x => ag_a (rl_u X k 0) x n) (w := fun x => rl_w P E x n) (2 ^ n) x b1 g
    obtain ⟨y, y1, y2, y3⟩ := ag_max_at (c := fun x => ag_a (rl_u X k 0) x n) (w := fun x => rl_w P E x n) (2 ^ n) ⟨x, b1, g⟩
    have l2 := ag_max_le (c := fun x => ag_a S x n) (w := fun x => rl_w P E x n) (2 ^ n) y y1 (hsub y y2)
    have l1 : rl_w P E x n ≤ xw_Z true n P E (rl_u X k 0) := l1
    have l2 : rl_w P E y n ≤ xw_Z true n P E S := l2
    have y3 : rl_w P E y n = xw_Z true n P E (rl_u X k 0) := y3
    omega
theorem bn_70 {post : Int32 → SX → Prop} {x1 : Int64} {k acc b : Nat} (hk : k < 7) (hb : b ≤ 1) (hf : fx k = nI b) {J : Int32 → Int32 → Int32 → Int32 → Int32 → (Nat → Int32) → (Nat → Int32) → (Nat → Int32) → (Nat → Int32) → (Nat → Int32) → (Nat → Int64) → (Nat → Int32) → Prop} (h : J (nI (acc + b * 2 ^ k)) (nI k + (-1)) (nI n) ff gg (rl_a P) (rl_a E) (rl_a S) fx sc vs us) : wX_bestNumber_70 post J x1 (nI acc) (nI k) (nI n) ff gg (rl_a P) (rl_a E) (rl_a S) fx sc vs us := by
  have p1 : 2 ^ k ≤ 2 ^ 7 := Nat.pow_le_pow_right (by decide) (by omega)
  have p2 : b * 2 ^ k ≤ 1 * 2 ^ k := Nat.mul_le_mul_right _ hb
  refine And.intro (vp_in_nI hk (by decide)) ?_
  rw [nI_clamp (by omega), hf, bi_sl (by omega) (by omega), nI_add]
  intro a ea c ec
  subst ea ec
  exact h
theorem bn_x (ok : rl_ok n P E S) {x : Nat} (B : bn_is n P E S x) {post : Int32 → SX → Prop} (hp : ∀ ff gg fx sc vs us, post (nI x) (nI n, ff, gg, rl_a P, rl_a E, rl_a S, fx, sc, vs, us)) : ∀ (k acc : Nat) (X : Nat → Nat) ff gg (fx : Nat → Int32) sc vs us x4, k ≤ n → (∀ i, i < n → fx i = nI (X i) ∧ X i ≤ 2) → (∀ i, i < k → X i = S i) → (∀ i, k ≤ i → i < n → X i = (x.testBit i).toNat) → acc + x % 2 ^ k = x → x4 = nI k + (-1) → wX_bestNumber_20 post (lN (xw_Z true n P E S)) (k + 1) (nI acc) x4 (nI n) ff gg (rl_a P) (rl_a E) (rl_a S) fx sc vs us := by
  have hn := ok.2.1
  intro k
  induction k with
  | zero =>
    intro acc X ff gg fx sc vs us x4 hk hf hlo hhi ha e4
    rw [Nat.pow_zero, Nat.mod_one, Nat.add_zero] at ha
    subst ha e4
    exact br_t (by decide) (hp _ _ _ _ _ _)
  | succ k ih =>
    intro acc X ff gg fx sc vs us x4 hk hf hlo hhi ha e4
    rw [pk_m1] at e4
    subst e4
    have hi : vp_in (nI k) 7 := vp_in_nI (by omega) (by decide)
    have t1 := rl_t1 (x.testBit k)
    have c : (nI k).toNatClampNeg = k := nI_clamp (by omega)
    have hS2 := ok.2.2.2.2 k
    have hm : acc + (x.testBit k).toNat * 2 ^ k + x % 2 ^ k = x := by
      rw [Nat.mod_pow_succ, ← Nat.toNat_testBit, Nat.mul_comm] at ha
      omega
    have hX : X k = S k := hlo k (by omega)
    obtain ⟨f1, f2⟩ := hf k (by omega)
    -- what follows once the value at k is x's bit
    have go : ∀ (b : Nat) ff gg (fx' : Nat → Int32) sc vs us, b = (x.testBit k).toNat → (∀ i, i < n → fx' i = nI (rl_u X k b i) ∧ rl_u X k b i ≤ 2) → wX_bestNumber_70 post (wX_bestNumber_20 post (lN (xw_Z true n P E S)) (k + 1)) (lN (xw_Z true n P E S)) (nI acc) (nI k) (nI n) ff gg (rl_a P) (rl_a E) (rl_a S) fx' sc vs us := by
      intro b ff gg fx' sc vs us eb hf'
      subst eb
      have fk : fx' k = nI (x.testBit k).toNat := (hf' k (by omega)).1.trans (congrArg nI (if_pos rfl))
      refine bn_70 (by omega) t1 fk ?_
      refine ih _ (rl_u X k (x.testBit k).toNat) ff gg fx' sc vs us _ (by omega) hf' (fun i hi => ?_) (fun i h1 h2 => ?_) hm rfl
      · unfold rl_u
        rw [if_neg (by omega)]
        exact hlo i (by omega)
      · unfold rl_u
        by_cases e : i = k
        · rw [if_pos e, e]
        · rw [if_neg e]
          exact hhi i (by omega) h2
    refine br_f (nI_pos (by omega)) (And.intro hi ?_)
    rw [c, f1]
    refine pk_eq (X k) 2 (fun e => And.intro hi ?_) (fun e => ?_)
    · intro a ea
      subst ea
      have key := bn_key ok B (show k < n by omega) (X := X) (fun i hi => hlo i (by omega)) (fun i h1 h2 => hhi i (by omega) h2) (by omega)
      have g0 := ou_fx (n := n) (fx := fx) hf (v := k) (a := 0) (by decide)
      have z1 := xw_Z_lt ok true (rl_u X k 0)
      have z2 := xw_Z_lt ok true S
      refine xw_solve (g := true) ok g0 fun ff sc vs us => ?_
      have gu : ∀ b, b ≤ 1 → ∀ i, i < n → upd (upd fx k 0) k (nI b) i = nI (rl_u X k b i) ∧ rl_u X k b i ≤ 2 := fun b hb i hi => by
        have q := ou_fx g0 (v := k) (a := b) hb i hi
        have r : rl_u (rl_u X k 0) k b i = rl_u X k b i := by
          unfold rl_u
          split <;> rfl
        rw [r] at q
        exact q
      refine br_c (fun h => And.intro hi ?_) (fun h => And.intro hi ?_)
      · intro q eq
        rw [c] at eq
        subst eq
        have h := (pk_lEQ (by omega) (by omega)).mp h
        have hb := key.mp h
        exact go 0 _ _ _ _ _ _ (by rw [hb]; rfl) (gu 0 (by decide))
      · intro q eq
        rw [c] at eq
        subst eq
        have hb : x.testBit k = true := by
          cases z : x.testBit k
          · exact absurd (congrArg lN (key.mpr z)) h
          · rfl
        exact go 1 _ _ _ _ _ _ (by rw [hb]; rfl) (gu 1 (by decide))
    · have q := (ag_a_iff n).mp B.2.1 k (by omega)
      refine go (X k) ff gg fx sc vs us (by omega) (fun i hi => ?_)
      have r : rl_u X k (X k) i = X i := by
        unfold rl_u
        by_cases e : i = k
        · rw [if_pos e, e]
        · rw [if_neg e]
      rw [r]
      exact hf i hi
theorem bn_xb (ok : rl_ok n P E S) {x : Nat} (B : bn_is n P E S x) {post : Int32 → SX → Prop} (hp : ∀ ff gg fx sc vs us, post (nI x) (nI n, ff, gg, rl_a P, rl_a E, rl_a S, fx, sc, vs, us)) : wpX_bestNumber post (nI n, ff, gg, rl_a P, rl_a E, rl_a S, fx, sc, vs, us) := by
  refine xw_takeSeen ok fun fx' h => ?_
  have hf : ∀ i, i < n → fx' i = nI (S i) ∧ S i ≤ 2 := fun i hi => ⟨h i hi, ok.2.2.2.2 i⟩
  refine xw_solve (g := true) ok hf fun ff sc vs us => ?_
  intro x4 e4
  refine ⟨n + 1, ?_⟩
  refine bn_x ok B hp n 0 S _ _ _ _ _ _ x4 (Nat.le_refl _) hf (fun _ _ => rfl) (fun i h1 h2 => absurd h1 (by omega)) ?_ ?_
  · rw [Nat.mod_eq_of_lt B.1, Nat.zero_add]
  · rw [e4, Int32.sub_eq_add_neg]
theorem bn_y_l (ok : rl_ok n P E S) {x : Nat} (B : bn_is n P E S x) {post : Int32 → Prop} (hp : post (nI x)) : ∀ d k, k + d = x → wY_bestNumber_7 post (nI (xw_Z true n P E S)) (nI n) (rl_a P) (rl_a E) (rl_a S) ln (d + 1) (nI k) := by
  have hn := ok.2.1
  obtain ⟨h128, e2⟩ := yw_2n ok
  obtain ⟨b1, b2, b3, b4⟩ := B
  have z2 := xw_Z_lt ok true S
  intro d
  induction d with
  | zero =>
    intro k hk
    obtain rfl : k = x := by omega
    refine br_f (by rw [e2]; exact nI_ge (by omega) (by omega)) ?_
    refine yw_agrees ok (by omega) (rl_bbr (fun h => absurd (b2.symm.trans h) (by decide)) (fun _ => ?_))
    refine yw_worth ok (by omega) ?_
    exact br_t (congrArg nI b3) hp
  | succ d ih =>
    intro k hk
    have q := ih (k + 1) (by omega)
    have hw := xw_w_lt ok k hn
    refine br_f (by rw [e2]; exact nI_ge (by omega) (by omega)) ?_
    refine yw_agrees ok (by omega) (rl_bbr (fun h => ?_) (fun h => ?_))
    · intro z ez
      rw [nI_1] at ez
      subst ez
      exact q
    · refine yw_worth ok (by omega) ?_
      refine br_f (fun e => b4 k (by omega) h ((nI_eq (by omega) (by omega)).mp e)) ?_
      intro z ez
      rw [nI_1] at ez
      subst ez
      exact q
theorem bn_yb (ok : rl_ok n P E S) {x : Nat} (B : bn_is n P E S x) {post : Int32 → Prop} (hp : post (nI x)) : wpY_bestNumber post (nI n, rl_a P, rl_a E, rl_a S, ln) := by
  refine yw_greatest ok ?_
  exact ⟨x + 1, bn_y_l ok B hp x 0 (Nat.zero_add x)⟩
end
end
section
/-! separation: the ball (X) and the moral graph of the ancestors (Y) -/
theorem ds_tf {b : Bool} (h : ¬ b = true) : b = false := by cases b; rfl; exact absurd rfl h
/-- a growing sequence whose measure is at most K stands still from K on -/
theorem ds_fix {σ : Type} (f : σ → σ) (q : Nat → σ) (hq : ∀ r, q (r + 1) = f (q r)) (μ : σ → Nat) (K : Nat) (h0 : 1 ≤ μ (q 0)) (hs : ∀ r, f (q r) = q r ∨ μ (q r) < μ (f (q r))) (hK : ∀ r, μ (q r) ≤ K) : f (q K) = q K := by
  have h : ∀ r, f (q r) = q r ∨ r + 1 ≤ μ (q r) := by
    intro r
    induction r with
    | zero => exact Or.inr h0
    | succ r ih =>
      rcases ih with ih | ih
      · left
        rw [hq, ih, ih]
      · rcases hs r with g | g
        · left
          rw [hq, g, g]
        · right
          rw [hq]
          omega
  rcases h K with g | g
  · exact g
  · have := hK K
    omega
/-- children of v -/
def ds_c (P : Nat → Nat) (v : Nat) : Nat → Nat
  | 0 => 0
  | w + 1 => if (P w).testBit v then ds_c P v w ||| 2 ^ w else ds_c P v w
theorem ds_c_bit (P : Nat → Nat) (v : Nat) : ∀ k w, (ds_c P v k).testBit w = (decide (w < k) && (P w).testBit v) := by
  intro k
  induction k with
  | zero => intro w; show (0 : Nat).testBit w = _; simp
  | succ k ih =>
    intro w
    show (if (P k).testBit v = true then ds_c P v k ||| 2 ^ k else ds_c P v k).testBit w = _
    by_cases h : (P k).testBit v = true
    · rw [if_pos h, Nat.testBit_or, ih, bi_2]
      by_cases e : w = k
      · subst e; simp [h]
      · rw [decide_eq_false (show ¬ k = w from fun z => e z.symm), Bool.or_false, show decide (w < k) = decide (w < k + 1) from decide_eq_decide.mpr (by omega)]
    · rw [if_neg h, ih]
      by_cases e : w = k
      · subst e; simp [h]
      · rw [show decide (w < k) = decide (w < k + 1) from decide_eq_decide.mpr (by omega)]
theorem ds_c_lt (P : Nat → Nat) (v k : Nat) : ds_c P v k < 2 ^ k := Nat.lt_pow_two_of_testBit _ fun i hi => by rw [ds_c_bit, decide_eq_false (by omega), Bool.false_and]
/-- X's step at v, its round, its rounds -/
def ds_x (P : Nat → Nat) (Z n v : Nat) (p : Nat × Nat) : Nat × Nat := (if (p.1.testBit v && !Z.testBit v) || (p.2.testBit v && Z.testBit v) then p.1 ||| P v else p.1, if (p.1.testBit v || p.2.testBit v) && !Z.testBit v then p.2 ||| ds_c P v n else p.2)
def ds_i (P : Nat → Nat) (Z n : Nat) : Nat → Nat × Nat → Nat × Nat
  | 0, p => p
  | v + 1, p => ds_x P Z n v (ds_i P Z n v p)
def ds_r (P : Nat → Nat) (Z n u : Nat) : Nat → Nat × Nat
  | 0 => (2 ^ u, 0)
  | r + 1 => ds_i P Z n n (ds_r P Z n u r)
def ds_le (p q : Nat × Nat) : Prop := (∀ i, p.1.testBit i = true → q.1.testBit i = true) ∧ (∀ i, p.2.testBit i = true → q.2.testBit i = true)
theorem ds_le_rf (p : Nat × Nat) : ds_le p p := ⟨fun _ h => h, fun _ h => h⟩
theorem ds_le_tr {p q r : Nat × Nat} (h : ds_le p q) (k : ds_le q r) : ds_le p r := ⟨fun i a => k.1 i (h.1 i a), fun i a => k.2 i (h.2 i a)⟩
theorem ds_b_eq {a b : Nat} (h : ∀ i, a.testBit i = true → b.testBit i = true) (k : ∀ i, b.testBit i = true → a.testBit i = true) : a = b := Nat.eq_of_testBit_eq fun i => Bool.eq_iff_iff.mpr ⟨h i, k i⟩
theorem ds_le_as {p q : Nat × Nat} (h : ds_le p q) (k : ds_le q p) : p = q := Prod.ext (ds_b_eq h.1 k.1) (ds_b_eq h.2 k.2)
theorem ds_or {a b : Nat} {c : Prop} [Decidable c] (i : Nat) (h : a.testBit i = true) : (if c then a ||| b else a).testBit i = true := by
  split
  · rw [Nat.testBit_or, h, Bool.true_or]
  · exact h
theorem ds_or_lt {a b : Nat} {c : Prop} [Decidable c] (ha : a < 128) (hb : b < 128) : (if c then a ||| b else a) < 128 := by
  split
  · exact Nat.or_lt_two_pow (n := 7) ha hb
  · exact ha
section
variable {P : Nat → Nat} {Z n : Nat}
theorem ds_x_le (v : Nat) (p : Nat × Nat) : ds_le p (ds_x P Z n v p) := ⟨fun i h => ds_or i h, fun i h => ds_or i h⟩
theorem ds_i_le (p : Nat × Nat) : ∀ v, ds_le p (ds_i P Z n v p) := by
  intro v
  induction v with
  | zero => exact ds_le_rf p
  | succ v ih => exact ds_le_tr ih (ds_x_le v _)
theorem ds_i_mono (p : Nat × Nat) {v : Nat} : ∀ w, v ≤ w → ds_le (ds_i P Z n v p) (ds_i P Z n w p) := by
  intro w
  induction w with
  | zero => intro h; rw [Nat.le_zero.mp h]; exact ds_le_rf _
  | succ w ih =>
    intro h
    rcases Nat.lt_or_ge v (w + 1) with g | g
    · exact ds_le_tr (ih (by omega)) (ds_x_le w _)
    · rw [show v = w + 1 by omega]; exact ds_le_rf _
theorem ds_x_lt (hP : ∀ i, P i < 2 ^ i) (hn : n ≤ 7) {v : Nat} (hv : v < n) {p : Nat × Nat} (h : p.1 < 128 ∧ p.2 < 128) : (ds_x P Z n v p).1 < 128 ∧ (ds_x P Z n v p).2 < 128 := ⟨ds_or_lt h.1 (rl_128 (hP v) (by omega)), ds_or_lt h.2 (rl_128 (ds_c_lt P v n) hn)⟩
theorem ds_i_lt (hP : ∀ i, P i < 2 ^ i) (hn : n ≤ 7) {p : Nat × Nat} (h : p.1 < 128 ∧ p.2 < 128) : ∀ v, v ≤ n → (ds_i P Z n v p).1 < 128 ∧ (ds_i P Z n v p).2 < 128 := by
  intro v
  induction v with
  | zero => intro _; exact h
  | succ v ih => intro hv; exact ds_x_lt hP hn hv (ih (by omega))
theorem ds_r_lt (hP : ∀ i, P i < 2 ^ i) (hn : n ≤ 7) {u : Nat} (hu : u < n) : ∀ r, (ds_r P Z n u r).1 < 128 ∧ (ds_r P Z n u r).2 < 128 := by
  intro r
  induction r with
  | zero => exact ⟨bi_2lt (n := 7) (by omega), (by decide : 0 < 128)⟩
  | succ r ih => exact ds_i_lt hP hn ih n (Nat.le_refl _)
theorem ds_r_u {u : Nat} : ∀ r, (ds_r P Z n u r).1.testBit u = true := by
  intro r
  induction r with
  | zero => exact bi_2s u
  | succ r ih => exact (ds_i_le _ n).1 u ih
theorem pa_c_1 {s k : Nat} : ∀ K, k < K → s.testBit k = true → 1 ≤ pa_c s K := by
  intro K
  induction K with
  | zero => intro h; omega
  | succ K ih =>
    intro h hs
    rcases Nat.lt_or_ge k K with g | g
    · have := ih g hs
      have e : pa_c s (K + 1) = pa_c s K + (s.testBit K).toNat := rfl
      omega
    · obtain rfl : k = K := by omega
      rw [pa_c_t hs]; omega
theorem ds_r_fix (hP : ∀ i, P i < 2 ^ i) (hn : n ≤ 7) {u : Nat} (hu : u < n) : ds_i P Z n n (ds_r P Z n u 14) = ds_r P Z n u 14 := by
  refine ds_fix (ds_i P Z n n) (ds_r P Z n u) (fun _ => rfl) (fun p => pa_c p.1 7 + pa_c p.2 7) 14 ?_ (fun r => ?_) (fun r => ?_)
  · have := pa_c_1 (s := 2 ^ u) (k := u) 7 (by omega) (bi_2s u)
    show 1 ≤ pa_c (2 ^ u) 7 + pa_c 0 7
    omega
  · have L := ds_i_le (P := P) (Z := Z) (n := n) (ds_r P Z n u r) n
    have b1 := ds_r_lt (Z := Z) hP hn hu r
    have b2 := ds_r_lt (Z := Z) hP hn hu (r + 1)
    have b2 : (ds_i P Z n n (ds_r P Z n u r)).1 < 128 ∧ (ds_i P Z n n (ds_r P Z n u r)).2 < 128 := b2
    obtain ⟨c1, d1⟩ := pa_c_sub 7 (fun i _ h => L.1 i h)
    obtain ⟨c2, d2⟩ := pa_c_sub 7 (fun i _ h => L.2 i h)
    by_cases e : pa_c (ds_r P Z n u r).1 7 + pa_c (ds_r P Z n u r).2 7 < pa_c (ds_i P Z n n (ds_r P Z n u r)).1 7 + pa_c (ds_i P Z n n (ds_r P Z n u r)).2 7
    · exact Or.inr e
    · refine Or.inl (Prod.ext ?_ ?_)
      · exact (bi_ext (n := 7) b1.1 b2.1 (d1 (by omega))).symm
      · exact (bi_ext (n := 7) b1.2 b2.2 (d2 (by omega))).symm
  · have h1 := pa_c_le (ds_r P Z n u r).1 7
    have h2 := pa_c_le (ds_r P Z n u r).2 7
    omega
/-- a pair that a round leaves alone is closed -/
theorem ds_clos {p : Nat × Nat} (h : ds_i P Z n n p = p) {v : Nat} (hv : v < n) : ds_x P Z n v p = p := by
  have e1 : ds_i P Z n v p = p := ds_le_as (by have q := ds_i_mono (P := P) (Z := Z) (n := n) p n (show v ≤ n by omega); rw [h] at q; exact q) (ds_i_le p v)
  have e2 : ds_i P Z n (v + 1) p = p := ds_le_as (by have q := ds_i_mono (P := P) (Z := Z) (n := n) p n (show v + 1 ≤ n by omega); rw [h] at q; exact q) (ds_i_le p (v + 1))
  have e3 : ds_i P Z n (v + 1) p = ds_x P Z n v (ds_i P Z n v p) := rfl
  rw [e1] at e3
  exact e3.symm.trans e2
theorem ds_cl1 {p : Nat × Nat} (h : ds_i P Z n n p = p) {v : Nat} (hv : v < n) (c : ((p.1.testBit v && !Z.testBit v) || (p.2.testBit v && Z.testBit v)) = true) : ∀ i, (P v).testBit i = true → p.1.testBit i = true := by
  intro i hi
  have e : (if ((p.1.testBit v && !Z.testBit v) || (p.2.testBit v && Z.testBit v)) = true then p.1 ||| P v else p.1) = p.1 := congrArg Prod.fst (ds_clos h hv)
  rw [if_pos c] at e
  rw [← e, Nat.testBit_or, hi, Bool.or_true]
theorem ds_cl2 {p : Nat × Nat} (h : ds_i P Z n n p = p) {v : Nat} (hv : v < n) (c : ((p.1.testBit v || p.2.testBit v) && !Z.testBit v) = true) : ∀ w, w < n → (P w).testBit v = true → p.2.testBit w = true := by
  intro w hw hi
  have e : (if ((p.1.testBit v || p.2.testBit v) && !Z.testBit v) = true then p.2 ||| ds_c P v n else p.2) = p.2 := congrArg Prod.snd (ds_clos h hv)
  rw [if_pos c] at e
  rw [← e, Nat.testBit_or, ds_c_bit, decide_eq_true hw, hi, Bool.true_and, Bool.or_true]
/-- what is closed under the ball's rules holds of all that it reaches -/
theorem ds_snd (QB QA : Nat → Prop) (r1 : ∀ x, x < n → QB x → Z.testBit x = false → ∀ i, (P x).testBit i = true → QB i) (r2 : ∀ x, x < n → QA x → Z.testBit x = true → ∀ i, (P x).testBit i = true → QB i) (r3 : ∀ x, x < n → QB x ∨ QA x → Z.testBit x = false → ∀ c, c < n → (P c).testBit x = true → QA c) {u : Nat} (hu : QB u) : ∀ r, (∀ i, (ds_r P Z n u r).1.testBit i = true → QB i) ∧ (∀ i, (ds_r P Z n u r).2.testBit i = true → QA i) := by
  have step : ∀ v, v < n → ∀ p : Nat × Nat, ((∀ i, p.1.testBit i = true → QB i) ∧ (∀ i, p.2.testBit i = true → QA i)) → ((∀ i, (ds_x P Z n v p).1.testBit i = true → QB i) ∧ (∀ i, (ds_x P Z n v p).2.testBit i = true → QA i)) := by
    intro v hv p ⟨h1, h2⟩
    refine ⟨fun i hi => ?_, fun i hi => ?_⟩
    · have hi : (if ((p.1.testBit v && !Z.testBit v) || (p.2.testBit v && Z.testBit v)) = true then p.1 ||| P v else p.1).testBit i = true := hi
      by_cases c : ((p.1.testBit v && !Z.testBit v) || (p.2.testBit v && Z.testBit v)) = true
      · rw [if_pos c, Nat.testBit_or, Bool.or_eq_true] at hi
        rcases hi with hi | hi
        · exact h1 i hi
        · rw [Bool.or_eq_true, Bool.and_eq_true, Bool.and_eq_true] at c
          rcases c with ⟨c1, c2⟩ | ⟨c1, c2⟩
          · exact r1 v hv (h1 v c1) (by simpa using c2) i hi
          · exact r2 v hv (h2 v c1) c2 i hi
      · rw [if_neg c] at hi
        exact h1 i hi
    · have hi : (if ((p.1.testBit v || p.2.testBit v) && !Z.testBit v) = true then p.2 ||| ds_c P v n else p.2).testBit i = true := hi
      by_cases c : ((p.1.testBit v || p.2.testBit v) && !Z.testBit v) = true
      · rw [if_pos c, Nat.testBit_or, Bool.or_eq_true] at hi
        rcases hi with hi | hi
        · exact h2 i hi
        · rw [Bool.and_eq_true, Bool.or_eq_true] at c
          rw [ds_c_bit, Bool.and_eq_true, decide_eq_true_eq] at hi
          refine r3 v hv ?_ (by simpa using c.2) i hi.1 hi.2
          rcases c.1 with c1 | c1
          · exact Or.inl (h1 v c1)
          · exact Or.inr (h2 v c1)
      · rw [if_neg c] at hi
        exact h2 i hi
  have round : ∀ v, v ≤ n → ∀ p : Nat × Nat, ((∀ i, p.1.testBit i = true → QB i) ∧ (∀ i, p.2.testBit i = true → QA i)) → ((∀ i, (ds_i P Z n v p).1.testBit i = true → QB i) ∧ (∀ i, (ds_i P Z n v p).2.testBit i = true → QA i)) := by
    intro v
    induction v with
    | zero => intro _ p h; exact h
    | succ v ih => intro hv p h; exact step v (by omega) _ (ih (by omega) p h)
  intro r
  induction r with
  | zero =>
    refine ⟨fun i hi => ?_, fun i hi => ?_⟩
    · have hi : (2 ^ u).testBit i = true := hi
      rw [bi_2, decide_eq_true_eq] at hi
      rw [← hi]; exact hu
    · exact absurd (show (0 : Nat).testBit i = true from hi) (by simp)
  | succ r ih => exact round n (Nat.le_refl _) _ ih
/-- Y: the set with all its ancestors -/
def ds_m (P : Nat → Nat) : Nat → Nat → Nat
  | 0, a => a
  | k + 1, a => ds_m P k (if a.testBit k then a ||| P k else a)
theorem ds_m_sub {i : Nat} : ∀ k a, a.testBit i = true → (ds_m P k a).testBit i = true := by
  intro k
  induction k with
  | zero => intro a h; exact h
  | succ k ih => intro a h; exact ih _ (ds_or i h)
theorem ds_m_lt (hP : ∀ i, P i < 2 ^ i) : ∀ k a, k ≤ 7 → a < 128 → ds_m P k a < 128 := by
  intro k
  induction k with
  | zero => intro a _ h; exact h
  | succ k ih => intro a hk h; exact ih _ (by omega) (ds_or_lt h (rl_128 (hP k) (by omega)))
theorem ds_m_clos (hP : ∀ i, P i < 2 ^ i) : ∀ k a, (∀ v, k ≤ v → a.testBit v = true → ∀ i, (P v).testBit i = true → a.testBit i = true) → ∀ v, (ds_m P k a).testBit v = true → ∀ i, (P v).testBit i = true → (ds_m P k a).testBit i = true := by
  intro k
  induction k with
  | zero => intro a h v; exact h v (Nat.zero_le _)
  | succ k ih =>
    intro a h
    refine ih _ fun v hv h1 i hi => ?_
    have ha : a.testBit v = true := by
      by_cases c : a.testBit k = true
      · rw [if_pos c, Nat.testBit_or, bi_hi (hP k) hv, Bool.or_false] at h1
        exact h1
      · rw [if_neg c] at h1
        exact h1
    by_cases e : v = k
    · subst e
      rw [if_pos ha, Nat.testBit_or, hi, Bool.or_true]
    · exact ds_or i (h v (by omega) ha i hi)
theorem ds_m_min (K : Nat → Prop) (hK : ∀ v, v < 7 → K v → ∀ i, (P v).testBit i = true → K i) : ∀ k a, k ≤ 7 → (∀ i, a.testBit i = true → K i) → ∀ i, (ds_m P k a).testBit i = true → K i := by
  intro k
  induction k with
  | zero => intro a _ h; exact h
  | succ k ih =>
    intro a hk h
    refine ih _ (by omega) fun i hi => ?_
    by_cases c : a.testBit k = true
    · rw [if_pos c, Nat.testBit_or, Bool.or_eq_true] at hi
      rcases hi with hi | hi
      · exact h i hi
      · exact hK k (by omega) (h k c) i hi
    · rw [if_neg c] at hi
      exact h i hi
/-- Y's lines -/
def ds_l (P : Nat → Nat) (M w : Nat) : Nat → Nat
  | 0 => 0
  | c + 1 => if M.testBit c && (P c ||| 2 ^ c).testBit w then ds_l P M w c ||| (P c ||| 2 ^ c) else ds_l P M w c
theorem ds_l_lt (hP : ∀ i, P i < 2 ^ i) {M w : Nat} : ∀ k, k ≤ 7 → ds_l P M w k < 128 := by
  intro k
  induction k with
  | zero => intro _; show 0 < 128; omega
  | succ k ih => intro hk; exact ds_or_lt (ih (by omega)) (Nat.or_lt_two_pow (n := 7) (rl_128 (hP k) (by omega)) (bi_2lt (by omega)))
theorem ds_l_in {M w j c : Nat} (h1 : M.testBit c = true) (h2 : (P c ||| 2 ^ c).testBit w = true) (h3 : (P c ||| 2 ^ c).testBit j = true) : ∀ k, c < k → (ds_l P M w k).testBit j = true := by
  intro k
  induction k with
  | zero => intro h; omega
  | succ k ih =>
    intro h
    show (if (M.testBit k && (P k ||| 2 ^ k).testBit w) = true then ds_l P M w k ||| (P k ||| 2 ^ k) else ds_l P M w k).testBit j = true
    rcases Nat.lt_or_ge c k with g | g
    · exact ds_or j (ih g)
    · obtain rfl : c = k := by omega
      rw [if_pos (by rw [h1, h2]; rfl), Nat.testBit_or (ds_l P M w c), h3, Bool.or_true]
theorem ds_l_of {M w j : Nat} : ∀ k, (ds_l P M w k).testBit j = true → ∃ c, c < k ∧ M.testBit c = true ∧ (P c ||| 2 ^ c).testBit w = true ∧ (P c ||| 2 ^ c).testBit j = true := by
  intro k
  induction k with
  | zero => intro h; exact absurd (show (0 : Nat).testBit j = true from h) (by simp)
  | succ k ih =>
    intro h
    have h : (if (M.testBit k && (P k ||| 2 ^ k).testBit w) = true then ds_l P M w k ||| (P k ||| 2 ^ k) else ds_l P M w k).testBit j = true := h
    by_cases c : (M.testBit k && (P k ||| 2 ^ k).testBit w) = true
    · rw [if_pos c, Nat.testBit_or (ds_l P M w k), Bool.or_eq_true] at h
      rcases h with h | h
      · obtain ⟨q, q1, q2⟩ := ih h
        exact ⟨q, by omega, q2⟩
      · rw [Bool.and_eq_true] at c
        exact ⟨k, by omega, c.1, c.2, h⟩
    · rw [if_neg c] at h
      obtain ⟨q, q1, q2⟩ := ih h
      exact ⟨q, by omega, q2⟩
/-- Y's round, its rounds -/
def ds_y (L : Nat → Nat) (Z : Nat) : Nat → Nat → Nat
  | 0, R => R
  | w + 1, R => if (ds_y L Z w R).testBit w then ds_y L Z w R ||| bi_d (L w) Z else ds_y L Z w R
def ds_q (L : Nat → Nat) (Z u : Nat) : Nat → Nat
  | 0 => 2 ^ u
  | r + 1 => ds_y L Z 7 (ds_q L Z u r)
variable {L : Nat → Nat}
theorem ds_y_mono (R i : Nat) {w : Nat} : ∀ k, w ≤ k → (ds_y L Z w R).testBit i = true → (ds_y L Z k R).testBit i = true := by
  intro k
  induction k with
  | zero => intro h; rw [Nat.le_zero.mp h]; exact fun h => h
  | succ k ih =>
    intro h hi
    rcases Nat.lt_or_ge w (k + 1) with g | g
    · exact ds_or i (ih (by omega) hi)
    · rw [show k + 1 = w by omega]; exact hi
theorem ds_y_lt (hL : ∀ w, w < 7 → L w < 128) {R : Nat} (h : R < 128) : ∀ k, k ≤ 7 → ds_y L Z k R < 128 := by
  intro k
  induction k with
  | zero => intro _; exact h
  | succ k ih => intro hk; exact ds_or_lt (ih (by omega)) (bi_dlt (hL k (by omega)))
theorem ds_q_lt (hL : ∀ w, w < 7 → L w < 128) {u : Nat} (hu : u < 7) : ∀ r, ds_q L Z u r < 128 := by
  intro r
  induction r with
  | zero => exact bi_2lt (n := 7) hu
  | succ r ih => exact ds_y_lt hL ih 7 (Nat.le_refl _)
theorem ds_q_u {u : Nat} : ∀ r, (ds_q L Z u r).testBit u = true := by
  intro r
  induction r with
  | zero => exact bi_2s u
  | succ r ih => exact ds_y_mono (w := 0) _ u 7 (Nat.zero_le _) ih
theorem ds_q_fix (hL : ∀ w, w < 7 → L w < 128) {u : Nat} (hu : u < 7) : ds_y L Z 7 (ds_q L Z u 7) = ds_q L Z u 7 := by
  refine ds_fix (ds_y L Z 7) (ds_q L Z u) (fun _ => rfl) (fun p => pa_c p 7) 7 (pa_c_1 7 hu (bi_2s u)) (fun r => ?_) (fun r => pa_c_le _ 7)
  obtain ⟨c1, d1⟩ := pa_c_sub (s := ds_q L Z u r) (t := ds_y L Z 7 (ds_q L Z u r)) 7 (fun i _ h => ds_y_mono (w := 0) _ i 7 (Nat.zero_le _) h)
  by_cases e : pa_c (ds_q L Z u r) 7 < pa_c (ds_y L Z 7 (ds_q L Z u r)) 7
  · exact Or.inr e
  · exact Or.inl (bi_ext (n := 7) (ds_q_lt hL hu r) (ds_q_lt hL hu (r + 1)) (d1 (by omega))).symm
theorem ds_q_clos {R : Nat} (h : ds_y L Z 7 R = R) {w : Nat} (hw : w < 7) (hR : R.testBit w = true) : ∀ i, (bi_d (L w) Z).testBit i = true → R.testBit i = true := by
  intro i hi
  have e1 : (ds_y L Z w R).testBit w = true := ds_y_mono (w := 0) R w w (Nat.zero_le _) hR
  have e2 : (ds_y L Z (w + 1) R).testBit i = true := by
    show (if (ds_y L Z w R).testBit w = true then ds_y L Z w R ||| bi_d (L w) Z else ds_y L Z w R).testBit i = true
    rw [if_pos e1, Nat.testBit_or, hi, Bool.or_true]
  have e3 := ds_y_mono (L := L) (Z := Z) R i 7 (show w + 1 ≤ 7 by omega) e2
  rw [h] at e3
  exact e3
theorem ds_q_snd (Q : Nat → Prop) (hQ : ∀ w, w < 7 → Q w → ∀ i, (bi_d (L w) Z).testBit i = true → Q i) {u : Nat} (hu : Q u) : ∀ r i, (ds_q L Z u r).testBit i = true → Q i := by
  have round : ∀ k, k ≤ 7 → ∀ R, (∀ i, R.testBit i = true → Q i) → ∀ i, (ds_y L Z k R).testBit i = true → Q i := by
    intro k
    induction k with
    | zero => intro _ R h; exact h
    | succ k ih =>
      intro hk R h i hi
      have hi : (if (ds_y L Z k R).testBit k = true then ds_y L Z k R ||| bi_d (L k) Z else ds_y L Z k R).testBit i = true := hi
      have g := ih (by omega) R h
      by_cases c : (ds_y L Z k R).testBit k = true
      · rw [if_pos c, Nat.testBit_or, Bool.or_eq_true] at hi
        rcases hi with hi | hi
        · exact g i hi
        · exact hQ k (by omega) (g k c) i hi
      · rw [if_neg c] at hi
        exact g i hi
  intro r
  induction r with
  | zero =>
    intro i hi
    have hi : (2 ^ u).testBit i = true := hi
    rw [bi_2, decide_eq_true_eq] at hi
    rw [← hi]; exact hu
  | succ r ih => exact round 7 (Nat.le_refl _) _ ih
end
end
section
/-! the ball and the lines answer alike -/
theorem ds_main {P : Nat → Nat} {Z n u v : Nat} (hP : ∀ i, P i < 2 ^ i) (hn : n ≤ 7) (hu : u < n) (hv : v < n) (hZ : Z < 2 ^ n) (zu : Z.testBit u = false) (zv : Z.testBit v = false) : ((ds_r P Z n u 14).1 ||| (ds_r P Z n u 14).2).testBit v = (ds_q (fun w => ds_l P (ds_m P 7 ((2 ^ u ||| 2 ^ v) ||| Z)) w 7) Z u 7).testBit v := by
  have hC := ds_r_fix (Z := Z) hP hn hu
  have hBu := ds_r_u (P := P) (Z := Z) (n := n) (u := u) 14
  generalize eM : ds_m P 7 ((2 ^ u ||| 2 ^ v) ||| Z) = M
  have hML : ∀ w, w < 7 → (fun w => ds_l P M w 7) w < 128 := fun w _ => ds_l_lt hP 7 (Nat.le_refl _)
  have hR := ds_q_fix (Z := Z) hML (show u < 7 by omega)
  have hRu := ds_q_u (L := fun w => ds_l P M w 7) (Z := Z) (u := u) 7
  have hMu : M.testBit u = true := by rw [← eM]; exact ds_m_sub 7 _ (by rw [Nat.testBit_or, Nat.testBit_or, bi_2s]; simp)
  have hMv : M.testBit v = true := by rw [← eM]; exact ds_m_sub 7 _ (by rw [Nat.testBit_or, Nat.testBit_or, bi_2s]; simp)
  have hMZ : ∀ i, Z.testBit i = true → M.testBit i = true := fun i hi => by rw [← eM]; exact ds_m_sub 7 _ (by rw [Nat.testBit_or, hi]; simp)
  have hMc : ∀ x, M.testBit x = true → ∀ i, (P x).testBit i = true → M.testBit i = true := by
    rw [← eM]
    refine ds_m_clos hP 7 _ fun x hx h => ?_
    exfalso
    have b : ((2 ^ u ||| 2 ^ v) ||| Z) < 2 ^ 7 := Nat.or_lt_two_pow (Nat.or_lt_two_pow (bi_2lt (by omega)) (bi_2lt (by omega))) (rl_128 hZ hn)
    rw [bi_hi b hx] at h
    exact Bool.false_ne_true h
  have fam : ∀ c i, (P c ||| 2 ^ c).testBit i = true ↔ (P c).testBit i = true ∨ i = c := fun c i => by
    rw [Nat.testBit_or, Bool.or_eq_true, bi_2, decide_eq_true_eq]
    exact ⟨fun h => h.imp id Eq.symm, fun h => h.imp id Eq.symm⟩
  rw [Bool.eq_iff_iff, Nat.testBit_or, Bool.or_eq_true]
  constructor
  · -- what the ball reaches among the ancestors, the lines reach
    intro hv2
    have line : ∀ c x y, M.testBit c = true → c < 7 → (P c ||| 2 ^ c).testBit x = true → (P c ||| 2 ^ c).testBit y = true → x < 7 → (ds_q (fun w => ds_l P M w 7) Z u 7).testBit x = true → Z.testBit y = true ∨ (ds_q (fun w => ds_l P M w 7) Z u 7).testBit y = true := by
      intro c x y h1 h2 h3 h4 h5 h6
      cases hz : Z.testBit y
      · right
        refine ds_q_clos hR h5 h6 y ?_
        rw [bi_dt (hML x h5), hz, ds_l_in h1 h3 h4 7 h2]
        rfl
      · exact Or.inl rfl
    obtain ⟨s1, s2⟩ := ds_snd (P := P) (Z := Z) (n := n) (fun x => M.testBit x = true ∧ (Z.testBit x = true ∨ (ds_q (fun w => ds_l P M w 7) Z u 7).testBit x = true)) (fun x => M.testBit x = true → (Z.testBit x = true → ∀ i, (P x).testBit i = true → Z.testBit i = true ∨ (ds_q (fun w => ds_l P M w 7) Z u 7).testBit i = true) ∧ (Z.testBit x = false → (ds_q (fun w => ds_l P M w 7) Z u 7).testBit x = true)) (fun x hx ⟨q1, q2⟩ hz i hi => by
        refine ⟨hMc x q1 i hi, ?_⟩
        rcases q2 with q2 | q2
        · rw [hz] at q2; exact absurd q2 Bool.false_ne_true
        · exact line x x i q1 (by omega) ((fam x x).mpr (Or.inr rfl)) ((fam x i).mpr (Or.inl hi)) (by omega) q2) (fun x hx q hz i hi => ⟨hMc x (hMZ x hz) i hi, (q (hMZ x hz)).1 hz i hi⟩) (fun x hx q hz c hc hp hm => by
        have hxR : (ds_q (fun w => ds_l P M w 7) Z u 7).testBit x = true := by
          rcases q with ⟨_, q⟩ | q
          · rcases q with q | q
            · rw [hz] at q; exact absurd q Bool.false_ne_true
            · exact q
          · exact (q (hMc c hm x hp)).2 hz
        refine ⟨fun hzc i hi => line c x i hm (by omega) ((fam c x).mpr (Or.inl hp)) ((fam c i).mpr (Or.inl hi)) (by omega) hxR, fun hzc => ?_⟩
        rcases line c x c hm (by omega) ((fam c x).mpr (Or.inl hp)) ((fam c c).mpr (Or.inr rfl)) (by omega) hxR with z | z
        · rw [hzc] at z; exact absurd z Bool.false_ne_true
        · exact z) (u := u) ⟨hMu, Or.inr hRu⟩ 14
    rcases hv2 with h | h
    · rcases (s1 v h).2 with z | z
      · rw [zv] at z; exact absurd z Bool.false_ne_true
      · exact z
    · exact (s2 v h hMv).2 zv
  · -- what the lines reach, the ball reaches
    intro hv2
    by_cases vr : (ds_r P Z n u 14).1.testBit v = true ∨ (ds_r P Z n u 14).2.testBit v = true
    · exact vr
    have c1 : ∀ x, x < n → (ds_r P Z n u 14).1.testBit x = true → Z.testBit x = false → ∀ i, (P x).testBit i = true → (ds_r P Z n u 14).1.testBit i = true := fun x hx h hz => ds_cl1 hC hx (by rw [h, hz]; rfl)
    have c2 : ∀ x, x < n → (ds_r P Z n u 14).2.testBit x = true → Z.testBit x = true → ∀ i, (P x).testBit i = true → (ds_r P Z n u 14).1.testBit i = true := fun x hx h hz => ds_cl1 hC hx (by rw [h, hz]; simp)
    have c3 : ∀ x, x < n → ((ds_r P Z n u 14).1.testBit x = true ∨ (ds_r P Z n u 14).2.testBit x = true) → Z.testBit x = false → ∀ w, w < n → (P w).testBit x = true → (ds_r P Z n u 14).2.testBit w = true := fun x hx h hz => ds_cl2 hC hx (by
      rcases h with h | h
      · rw [h, hz]; rfl
      · rw [h, hz]; simp)
    have hK : ∀ c, M.testBit c = true → c < n ∧ ((ds_r P Z n u 14).2.testBit c = true → Z.testBit c = true ∨ (ds_r P Z n u 14).1.testBit c = true) := by
      rw [← eM]
      refine ds_m_min (fun c => c < n ∧ ((ds_r P Z n u 14).2.testBit c = true → Z.testBit c = true ∨ (ds_r P Z n u 14).1.testBit c = true)) ?_ 7 _ (Nat.le_refl _) ?_
      · intro x hx ⟨k1, k2⟩ i hi
        have li : i < x := bi_lt (hP x) hi
        refine ⟨by omega, fun ha => ?_⟩
        cases hz : Z.testBit i
        · right
          have ax := c3 i (by omega) (Or.inr ha) hz x k1 hi
          cases hzx : Z.testBit x
          · rcases k2 ax with q | q
            · rw [hzx] at q; exact absurd q Bool.false_ne_true
            · exact c1 x k1 q hzx i hi
          · exact c2 x k1 ax hzx i hi
        · exact Or.inl rfl
      · intro i hi
        rw [Nat.testBit_or, Nat.testBit_or, bi_2, bi_2, Bool.or_eq_true, Bool.or_eq_true, decide_eq_true_eq, decide_eq_true_eq] at hi
        rcases hi with (hi | hi) | hi
        · subst hi
          exact ⟨hu, fun _ => Or.inr hBu⟩
        · subst hi
          exact ⟨hv, fun h => absurd (Or.inr h) vr⟩
        · exact ⟨bi_lt hZ hi, fun _ => Or.inl hi⟩
    have s := ds_q_snd (L := fun w => ds_l P M w 7) (Z := Z) (fun x => Z.testBit x = false ∧ (ds_r P Z n u 14).1.testBit x = true) (fun x hx ⟨q1, q2⟩ y hy => by
      rw [bi_dt (hML x hx), Bool.and_eq_true] at hy
      obtain ⟨hy1, hy2⟩ := hy
      have zy : Z.testBit y = false := by simpa using hy2
      refine ⟨zy, ?_⟩
      obtain ⟨c, _, m1, m2, m3⟩ := ds_l_of 7 hy1
      obtain ⟨cn, k2⟩ := hK c m1
      rcases (fam c x).mp m2 with a | a
      · have ac := c3 x (by have := bi_lt (hP c) a; omega) (Or.inl q2) q1 c cn a
        rcases (fam c y).mp m3 with b | b
        · cases hzc : Z.testBit c
          · rcases k2 ac with q | q
            · rw [hzc] at q; exact absurd q Bool.false_ne_true
            · exact c1 c cn q hzc y b
          · exact c2 c cn ac hzc y b
        · rw [b]
          rcases k2 ac with q | q
          · rw [b] at zy; rw [zy] at q; exact absurd q Bool.false_ne_true
          · exact q
      · rw [a] at q1 q2
        rcases (fam c y).mp m3 with b | b
        · exact c1 c cn q2 q1 y b
        · rw [b]; exact q2) (u := u) ⟨zu, hBu⟩ 7 v hv2
    exact Or.inl s.2
/-- the observed variables -/
def ds_z (S : Nat → Nat) : Nat → Nat
  | 0 => 0
  | k + 1 => if 2 ≤ S k then ds_z S k else ds_z S k ||| 2 ^ k
theorem ds_z_bit (S : Nat → Nat) : ∀ k i, (ds_z S k).testBit i = (decide (i < k) && !decide (2 ≤ S i)) := by
  intro k
  induction k with
  | zero => intro i; show (0 : Nat).testBit i = _; simp
  | succ k ih =>
    intro i
    show (if 2 ≤ S k then ds_z S k else ds_z S k ||| 2 ^ k).testBit i = _
    by_cases h : 2 ≤ S k
    · rw [if_pos h, ih]
      by_cases e : i = k
      · subst e; simp [h]
      · rw [show decide (i < k) = decide (i < k + 1) from decide_eq_decide.mpr (by omega)]
    · rw [if_neg h, Nat.testBit_or, ih, bi_2]
      by_cases e : i = k
      · subst e; simp [h]
      · rw [decide_eq_false (show ¬ k = i from fun z => e z.symm), Bool.or_false, show decide (i < k) = decide (i < k + 1) from decide_eq_decide.mpr (by omega)]
theorem ds_z_lt (S : Nat → Nat) (k : Nat) : ds_z S k < 2 ^ k := Nat.lt_pow_two_of_testBit _ fun i hi => by rw [ds_z_bit, decide_eq_false (by omega), Bool.false_and]
end
section
/-! the walks of the ball and of the lines -/
section
variable {n : Nat} {P E S : Nat → Nat} {ff gg : Int32} {fx sc us : Nat → Int32} {vs : Nat → Int64} {ln : Nat → Int32}
theorem xb_ch_l (ok : rl_ok n P E S) {v : Nat} (hv : v < 7) {post : Int32 → Prop} (hp : post (nI (ds_c P v n))) : ∀ d k, k + d = n → wX_childrenOf_4 post (nI v) (nI n) ff gg (rl_a P) (rl_a E) (rl_a S) fx sc vs us (d + 1) (nI (ds_c P v k)) (nI k) := by
  have hn := ok.2.1
  intro d
  induction d with
  | zero =>
    intro k hk
    obtain rfl : k = n := by omega
    exact br_t (Int32.le_refl _) hp
  | succ d ih =>
    intro k hk
    have h3 := rl_128 (ok.2.2.1 k).1 (by omega)
    have q := ih (k + 1) (by omega)
    refine br_f (nI_ge (by omega) (by omega)) (And.intro (vp_in_nI (by omega) (by decide)) ?_)
    rw [rl_at (by omega)]
    refine bi_br (by omega) (by omega) (fun e => ?_) (fun e => ?_)
    · intro a ea z ez
      rw [bi_1 (by omega), bi_or] at ea
      rw [nI_1] at ez
      subst ea ez
      rw [show ds_c P v (k + 1) = ds_c P v k ||| 2 ^ k from if_pos e] at q
      exact q
    · intro z ez
      rw [nI_1] at ez
      subst ez
      rw [show ds_c P v (k + 1) = ds_c P v k from if_neg (pa_nt e)] at q
      exact q
theorem xb_ch (ok : rl_ok n P E S) {v : Nat} (hv : v < 7) {post : Int32 → Prop} (hp : post (nI (ds_c P v n))) : wpX_childrenOf post (nI n, ff, gg, rl_a P, rl_a E, rl_a S, fx, sc, vs, us) (nI v) := ⟨n + 1, xb_ch_l ok hv hp n 0 (Nat.zero_add n)⟩
section
variable {post : Int32 → Prop} {J9 J19 : Int32 → Int32 → Int32 → Prop} {x4 : Int32}
theorem xb_120 (ok : rl_ok n P E S) {v A : Nat} {b : Int32} {z : Bool} (hv : v < 7) (h : J19 b (nI (if (!z) = true then A ||| ds_c P v n else A)) (nI (v + 1))) : wX_bounce_120 post J9 J19 b (nI A) x4 (nI v) (rl_b z) (nI n) ff gg (rl_a P) (rl_a E) (rl_a S) fx sc vs us := by
  refine rl_bbr (fun e => ?_) (fun e => ?_)
  · refine xb_ch ok hv ?_
    intro a ea c ec
    rw [bi_or] at ea
    rw [nI_1] at ec
    subst ea ec
    rw [e] at h
    exact h
  · intro c ec
    rw [nI_1] at ec
    subst ec
    rw [e] at h
    exact h
theorem xb_110 (ok : rl_ok n P E S) {v A : Nat} {b : Int32} {z fb fa : Bool} (hv : v < 7) (h : J19 b (nI (if ((fb || fa) && !z) = true then A ||| ds_c P v n else A)) (nI (v + 1))) : wX_bounce_110 post J9 J19 b (nI A) x4 (nI v) (rl_b z) (rl_b fb) (rl_b fa) (nI n) ff gg (rl_a P) (rl_a E) (rl_a S) fx sc vs us := by
  refine rl_bbr (fun e => rl_bbr (fun e2 => ?_) (fun e2 => ?_)) (fun e => ?_)
  · intro c ec
    rw [nI_1] at ec
    subst ec
    rw [e, e2] at h
    exact h
  · refine xb_120 ok hv ?_
    rw [e2, Bool.or_true, Bool.true_and] at h
    exact h
  · refine xb_120 ok hv ?_
    rw [e, Bool.true_or, Bool.true_and] at h
    exact h
theorem xb_100 (ok : rl_ok n P E S) {v A B : Nat} {z fb fa : Bool} (hv : v < 7) (h : J19 (nI (B ||| P v)) (nI (if ((fb || fa) && !z) = true then A ||| ds_c P v n else A)) (nI (v + 1))) : wX_bounce_100 post J9 J19 (nI B) (nI A) x4 (nI v) (rl_b z) (rl_b fb) (rl_b fa) (nI n) ff gg (rl_a P) (rl_a E) (rl_a S) fx sc vs us := by
  refine And.intro (vp_in_nI hv (by decide)) ?_
  rw [rl_at (by omega), bi_or]
  intro a ea
  subst ea
  exact xb_110 ok hv h
theorem xb_78 (ok : rl_ok n P E S) {v A B : Nat} {z fb fa : Bool} (hv : v < 7) (h : J19 (nI (if ((fb && !z) || (fa && z)) = true then B ||| P v else B)) (nI (if ((fb || fa) && !z) = true then A ||| ds_c P v n else A)) (nI (v + 1))) : wX_bounce_78 post J9 J19 (nI B) (nI A) x4 (nI v) (rl_b z) (rl_b fb) (rl_b fa) (nI n) ff gg (rl_a P) (rl_a E) (rl_a S) fx sc vs us := by
  have h1 : ((fb && !z) || (fa && z)) = true → wX_bounce_100 post J9 J19 (nI B) (nI A) x4 (nI v) (rl_b z) (rl_b fb) (rl_b fa) (nI n) ff gg (rl_a P) (rl_a E) (rl_a S) fx sc vs us := fun e => xb_100 ok hv (by rw [if_pos e] at h; exact h)
  have h2 : ((fb && !z) || (fa && z)) = false → wX_bounce_110 post J9 J19 (nI B) (nI A) x4 (nI v) (rl_b z) (rl_b fb) (rl_b fa) (nI n) ff gg (rl_a P) (rl_a E) (rl_a S) fx sc vs us := fun e => xb_110 ok hv (by rw [if_neg (pa_nt e)] at h; exact h)
  have h90 : (fb && !z) = false → wX_bounce_90 post J9 J19 (nI B) (nI A) x4 (nI v) (rl_b z) (rl_b fb) (rl_b fa) (nI n) ff gg (rl_a P) (rl_a E) (rl_a S) fx sc vs us := fun e => rl_bbr (fun e2 => h2 (by rw [e, e2]; rfl)) (fun e2 => rl_bbr (fun e3 => h2 (by rw [e, e3, Bool.and_false]; rfl)) (fun e3 => h1 (by rw [e2, e3]; simp)))
  exact rl_bbr (fun e => h90 (by rw [e]; rfl)) (fun e => rl_bbr (fun e2 => h1 (by rw [e, e2]; rfl)) (fun e2 => h90 (by rw [e, e2]; rfl)))
theorem xb_44 (ok : rl_ok n P E S) {v A B : Nat} {z : Bool} (hv : v < 7) (hA : A < 128) (hB : B < 128) (h : J19 (nI (if ((B.testBit v && !z) || (A.testBit v && z)) = true then B ||| P v else B)) (nI (if ((B.testBit v || A.testBit v) && !z) = true then A ||| ds_c P v n else A)) (nI (v + 1))) : wX_bounce_44 post J9 J19 (nI B) (nI A) x4 (nI v) (rl_b z) (nI n) ff gg (rl_a P) (rl_a E) (rl_a S) fx sc vs us := by
  have K := xb_78 (post := post) (J9 := J9) (x4 := x4) (ff := ff) (gg := gg) (fx := fx) (sc := sc) (vs := vs) (us := us) ok hv h
  refine bi_br (by omega) (by omega) (fun e => bi_br (by omega) (by omega) (fun e2 => ?_) (fun e2 => ?_)) (fun e => bi_br (by omega) (by omega) (fun e2 => ?_) (fun e2 => ?_))
  · rw [e, e2] at K
    exact K
  · rw [e, e2] at K
    exact K
  · rw [e, e2] at K
    exact K
  · rw [e, e2] at K
    exact K
end
theorem xb_19 (ok : rl_ok n P E S) {post : Int32 → Prop} {J9 : Int32 → Int32 → Int32 → Prop} {r : Nat} {p : Nat × Nat} (hp : p.1 < 128 ∧ p.2 < 128) (hJ : J9 (nI (ds_i P (ds_z S n) n n p).1) (nI (ds_i P (ds_z S n) n n p).2) (nI (r + 1))) : ∀ d k, k + d = n → wX_bounce_19 post J9 (nI r) (nI n) ff gg (rl_a P) (rl_a E) (rl_a S) fx sc vs us (d + 1) (nI (ds_i P (ds_z S n) n k p).1) (nI (ds_i P (ds_z S n) n k p).2) (nI k) := by
  have hn := ok.2.1
  have hP : ∀ i, P i < 2 ^ i := fun i => (ok.2.2.1 i).1
  intro d
  induction d with
  | zero =>
    intro k hk
    obtain rfl : k = n := by omega
    refine br_t (Int32.le_refl _) ?_
    intro a ea
    rw [nI_1] at ea
    subst ea
    exact hJ
  | succ d ih =>
    intro k hk
    have hS := ok.2.2.2.2 k
    have q := ih (k + 1) (by omega)
    have b := ds_i_lt (Z := ds_z S n) hP hn hp k (by omega)
    have zb : (ds_z S n).testBit k = !decide (2 ≤ S k) := by rw [ds_z_bit, decide_eq_true (show k < n by omega), Bool.true_and]
    refine br_f (nI_ge (by omega) (by omega)) (And.intro (vp_in_nI (by omega) (by decide)) ?_)
    rw [rl_at (by omega)]
    have K := xb_44 (post := post) (J9 := J9) (J19 := wX_bounce_19 post J9 (nI r) (nI n) ff gg (rl_a P) (rl_a E) (rl_a S) fx sc vs us (d + 1)) (x4 := nI r) (ff := ff) (gg := gg) (fx := fx) (sc := sc) (vs := vs) (us := us) ok (z := (ds_z S n).testBit k) (show k < 7 by omega) b.2 b.1 q
    refine pk_eq (S k) 2 (fun e => ?_) (fun e => ?_)
    · have zf : (ds_z S n).testBit k = false := by rw [zb, decide_eq_true (by omega)]; rfl
      rw [zf] at K
      exact K
    · have zf : (ds_z S n).testBit k = true := by rw [zb, decide_eq_false (by omega)]; rfl
      rw [zf] at K
      exact K
theorem xb_9 (ok : rl_ok n P E S) {u : Nat} (hu : u < n) {post : Int32 → Prop} (hp : post (nI ((ds_r P (ds_z S n) n u 14).1 ||| (ds_r P (ds_z S n) n u 14).2))) : ∀ d k, k + d = 14 → wX_bounce_9 post (nI n) ff gg (rl_a P) (rl_a E) (rl_a S) fx sc vs us (d + 1) (nI (ds_r P (ds_z S n) n u k).1) (nI (ds_r P (ds_z S n) n u k).2) (nI k) := by
  have hn := ok.2.1
  have hP : ∀ i, P i < 2 ^ i := fun i => (ok.2.2.1 i).1
  intro d
  induction d with
  | zero =>
    intro k hk
    obtain rfl : k = 14 := by omega
    refine br_t (Int32.le_refl _) ?_
    rw [bi_or]
    exact hp
  | succ d ih =>
    intro k hk
    refine br_f (nI_ge (b := 14) (by omega) (by decide)) ⟨n + 1, ?_⟩
    exact xb_19 ok (ds_r_lt (Z := ds_z S n) hP hn hu k) (ih (k + 1) (by omega)) n 0 (Nat.zero_add n)
theorem xb_bounce (ok : rl_ok n P E S) {u : Nat} (hu : u < n) {post : Int32 → Prop} (hp : post (nI ((ds_r P (ds_z S n) n u 14).1 ||| (ds_r P (ds_z S n) n u 14).2))) : wpX_bounce post (nI n, ff, gg, rl_a P, rl_a E, rl_a S, fx, sc, vs, us) (nI u) := by
  have hn := ok.2.1
  intro a ea
  rw [bi_1 (by omega)] at ea
  subst ea
  exact ⟨15, xb_9 ok hu hp 14 0 rfl⟩
theorem yb_closed_l (ok : rl_ok n P E S) {post : Int32 → Prop} : ∀ k a x3, k ≤ 7 → a < 128 → x3 = nI k + (-1) → post (nI (ds_m P k a)) → wY_closed_5 post (nI n) (rl_a P) (rl_a E) (rl_a S) ln (k + 1) (nI a) x3 := by
  intro k
  induction k with
  | zero =>
    intro a x3 _ _ e3 hp
    subst e3
    exact br_t (by decide) hp
  | succ k ih =>
    intro a x3 hk ha e3 hp
    rw [pk_m1] at e3
    subst e3
    have h3 := rl_128 (ok.2.2.1 k).1 (by omega)
    have hp : post (nI (ds_m P k (if a.testBit k = true then a ||| P k else a))) := hp
    refine br_f (nI_pos (by omega)) (bi_br (by omega) (by omega) (fun e => And.intro (vp_in_nI (by omega) (by decide)) ?_) (fun e => ?_))
    · rw [rl_at (by omega), bi_or]
      intro b eb c ec
      subst eb
      rw [if_pos e] at hp
      exact ih _ c (by omega) (Nat.or_lt_two_pow (n := 7) ha h3) ec hp
    · intro c ec
      rw [if_neg (pa_nt e)] at hp
      exact ih _ c (by omega) ha ec hp
theorem yb_closed (ok : rl_ok n P E S) {a : Nat} (ha : a < 128) {post : Int32 → Prop} (hp : post (nI (ds_m P 7 a))) : wpY_closed post (nI n, rl_a P, rl_a E, rl_a S, ln) (nI a) := ⟨8, yb_closed_l ok 7 a _ (Nat.le_refl _) ha (by decide) hp⟩
theorem yb_52 (ok : rl_ok n P E S) {M c : Nat} (hc : c < 7) (hM : M.testBit c = true) {post : SY → Prop} {J : Int32 → (Nat → Int32) → (Nat → Int32) → (Nat → Int32) → (Nat → Int32) → Prop} {x1 : Int32} (hJ : ∀ ln, (∀ w, w < 7 → ln w = nI (ds_l P M w (c + 1))) → J (nI (c + 1)) (rl_a P) (rl_a E) (rl_a S) ln) : ∀ d k ln, k + d = 7 → (∀ w, w < k → ln w = nI (ds_l P M w (c + 1))) → (∀ w, k ≤ w → w < 7 → ln w = nI (ds_l P M w c)) → wY_draw_52 post J x1 (nI c) (nI (P c ||| 2 ^ c)) (nI n) (d + 1) (nI k) (rl_a P) (rl_a E) (rl_a S) ln := by
  have hf : P c ||| 2 ^ c < 128 := Nat.or_lt_two_pow (n := 7) (rl_128 (ok.2.2.1 c).1 (by omega)) (bi_2lt hc)
  intro d
  induction d with
  | zero =>
    intro k ln hk h1 h2
    obtain rfl : k = 7 := by omega
    refine br_t (Int32.le_refl _) ?_
    intro a ea
    rw [nI_1] at ea
    subst ea
    exact hJ ln h1
  | succ d ih =>
    intro k ln hk h1 h2
    have hi : vp_in (nI k) 7 := vp_in_nI (by omega) (by decide)
    have hc : (nI k).toNatClampNeg = k := nI_clamp (by omega)
    have el : ds_l P M k (c + 1) = if (M.testBit c && (P c ||| 2 ^ c).testBit k) = true then ds_l P M k c ||| (P c ||| 2 ^ c) else ds_l P M k c := rfl
    refine br_f (nI_ge (b := 7) (by omega) (by decide)) (bi_br (by omega) (by omega) (fun e => And.intro hi (And.intro hi ?_)) (fun e => ?_))
    · rw [hc, h2 k (Nat.le_refl _) (by omega), bi_or]
      intro a ea z ez
      rw [nI_1] at ez
      subst ea ez
      refine ih (k + 1) _ (by omega) (fun w hw => ?_) (fun w hw hw2 => ?_)
      · rcases Nat.lt_or_ge w k with g | g
        · rw [pk_un (by omega)]; exact h1 w g
        · obtain rfl : w = k := by omega
          rw [pk_us, el, if_pos (by rw [hM, e]; rfl)]
      · rw [pk_un (by omega)]; exact h2 w (by omega) hw2
    · intro z ez
      rw [nI_1] at ez
      subst ez
      refine ih (k + 1) _ (by omega) (fun w hw => ?_) (fun w hw hw2 => h2 w (by omega) hw2)
      rcases Nat.lt_or_ge w k with g | g
      · exact h1 w g
      · obtain rfl : w = k := by omega
        rw [h2 w (Nat.le_refl _) (by omega), el, if_neg (by rw [e]; simp)]
theorem yb_23 (ok : rl_ok n P E S) {M : Nat} (hM : M < 128) {post : SY → Prop} (hp : ∀ ln, (∀ w, w < 7 → ln w = nI (ds_l P M w 7)) → post (nI n, rl_a P, rl_a E, rl_a S, ln)) : ∀ d k ln, k + d = 7 → (∀ w, w < 7 → ln w = nI (ds_l P M w k)) → wY_draw_23 post (nI M) (nI n) (d + 1) (nI k) (rl_a P) (rl_a E) (rl_a S) ln := by
  intro d
  induction d with
  | zero =>
    intro k ln hk h
    obtain rfl : k = 7 := by omega
    exact br_t (Int32.le_refl _) (hp ln h)
  | succ d ih =>
    intro k ln hk h
    refine br_f (nI_ge (b := 7) (by omega) (by decide)) (bi_br (by omega) (by omega) (fun e => And.intro (vp_in_nI (by omega) (by decide)) ?_) (fun e => ?_))
    · rw [rl_at (by omega), bi_1 (by omega), bi_or]
      intro a ea
      subst ea
      exact ⟨8, yb_52 ok (by omega) e (fun ln h => ih (k + 1) ln (by omega) h) 7 0 ln rfl (fun w hw => absurd hw (by omega)) (fun w _ hw => h w hw)⟩
    · intro z ez
      rw [nI_1] at ez
      subst ez
      refine ih (k + 1) ln (by omega) fun w hw => ?_
      rw [h w hw, show ds_l P M w (k + 1) = ds_l P M w k from if_neg (by rw [e]; simp)]
theorem yb_2 (ok : rl_ok n P E S) {M : Nat} (hM : M < 128) {post : SY → Prop} (hp : ∀ ln, (∀ w, w < 7 → ln w = nI (ds_l P M w 7)) → post (nI n, rl_a P, rl_a E, rl_a S, ln)) : ∀ d k ln, k + d = 7 → (∀ w, w < k → ln w = nI 0) → wY_draw_2 post (nI M) (nI n) (d + 1) (nI k) (rl_a P) (rl_a E) (rl_a S) ln := by
  intro d
  induction d with
  | zero =>
    intro k ln hk h
    obtain rfl : k = 7 := by omega
    exact br_t (Int32.le_refl _) ⟨8, yb_23 ok hM hp 7 0 ln rfl h⟩
  | succ d ih =>
    intro k ln hk h
    refine br_f (nI_ge (b := 7) (by omega) (by decide)) (And.intro (vp_in_nI (by omega) (by decide)) ?_)
    rw [nI_clamp (by omega)]
    intro a ea z ez
    rw [nI_1] at ez
    subst ea ez
    refine ih (k + 1) _ (by omega) fun w hw => ?_
    rcases Nat.lt_or_ge w k with g | g
    · rw [pk_un (by omega)]; exact h w g
    · obtain rfl : w = k := by omega
      exact pk_us
theorem yb_draw (ok : rl_ok n P E S) {M : Nat} (hM : M < 128) {post : SY → Prop} (hp : ∀ ln, (∀ w, w < 7 → ln w = nI (ds_l P M w 7)) → post (nI n, rl_a P, rl_a E, rl_a S, ln)) : wpY_draw post (nI n, rl_a P, rl_a E, rl_a S, ln) (nI M) := ⟨8, yb_2 ok hM hp 7 0 ln rfl fun w hw => absurd hw (by omega)⟩
theorem yb_133 {L : Nat → Nat} {Z r : Nat} (hl : ∀ w, w < 7 → ln w = nI (L w) ∧ L w < 128) {post : Int32 → SY → Prop} {J : Int32 → Int32 → Prop} {x2 : Int32} {R : Nat} (hR : R < 128) (hJ : J (nI (ds_y L Z 7 R)) (nI (r + 1))) : ∀ d k, k + d = 7 → wY_separated_133 post J x2 (nI Z) (nI r) (nI n) (rl_a P) (rl_a E) (rl_a S) ln (d + 1) (nI (ds_y L Z k R)) (nI k) := by
  intro d
  induction d with
  | zero =>
    intro k hk
    obtain rfl : k = 7 := by omega
    refine br_t (Int32.le_refl _) ?_
    intro a ea
    rw [nI_1] at ea
    subst ea
    exact hJ
  | succ d ih =>
    intro k hk
    have q := ih (k + 1) (by omega)
    have b := ds_y_lt (Z := Z) (fun w hw => (hl w hw).2) hR k (by omega)
    obtain ⟨l1, l2⟩ := hl k (by omega)
    refine br_f (nI_ge (b := 7) (by omega) (by decide)) (bi_br (by omega) (by omega) (fun e => And.intro (vp_in_nI (by omega) (by decide)) ?_) (fun e => ?_))
    · rw [nI_clamp (by omega), l1, bi_not l2, bi_or]
      intro a ea z ez
      rw [nI_1] at ez
      subst ea ez
      rw [show ds_y L Z (k + 1) R = ds_y L Z k R ||| bi_d (L k) Z from if_pos e] at q
      exact q
    · intro z ez
      rw [nI_1] at ez
      subst ez
      rw [show ds_y L Z (k + 1) R = ds_y L Z k R from if_neg (pa_nt e)] at q
      exact q
theorem yb_123 {L : Nat → Nat} {Z u v : Nat} (hu : u < 7) (hv : v < 7) (hl : ∀ w, w < 7 → ln w = nI (L w) ∧ L w < 128) {post : Int32 → SY → Prop} (h1 : (ds_q L Z u 7).testBit v = true → post 0 (nI n, rl_a P, rl_a E, rl_a S, ln)) (h0 : (ds_q L Z u 7).testBit v = false → post 1 (nI n, rl_a P, rl_a E, rl_a S, ln)) : ∀ d k, k + d = 7 → wY_separated_123 post (nI v) (nI Z) (nI n) (rl_a P) (rl_a E) (rl_a S) ln (d + 1) (nI (ds_q L Z u k)) (nI k) := by
  intro d
  induction d with
  | zero =>
    intro k hk
    have b := ds_q_lt (Z := Z) (fun w hw => (hl w hw).2) hu k
    obtain rfl : k = 7 := by omega
    exact br_t (Int32.le_refl _) (bi_br (by omega) (by omega) h1 h0)
  | succ d ih =>
    intro k hk
    have b := ds_q_lt (Z := Z) (fun w hw => (hl w hw).2) hu k
    refine br_f (nI_ge (b := 7) (by omega) (by decide)) ⟨8, ?_⟩
    exact yb_133 hl b (ih (k + 1) (by omega)) 7 0 rfl
/-- the lines' answer -/
def yb_R (n : Nat) (P S : Nat → Nat) (u v : Nat) : Nat := ds_q (fun w => ds_l P (ds_m P 7 ((2 ^ u ||| 2 ^ v) ||| ds_z S n)) w 7) (ds_z S n) u 7
theorem yb_94 (ok : rl_ok n P E S) {u v : Nat} (hu : u < n) (hv : v < n) {post : Int32 → SY → Prop} (h1 : (yb_R n P S u v).testBit v = true → ∀ ln, post 0 (nI n, rl_a P, rl_a E, rl_a S, ln)) (h0 : (yb_R n P S u v).testBit v = false → ∀ ln, post 1 (nI n, rl_a P, rl_a E, rl_a S, ln)) : wY_separated_94 post (nI u) (nI v) (nI (ds_z S n)) (nI n) (rl_a P) (rl_a E) (rl_a S) ln := by
  have hn := ok.2.1
  have hP : ∀ i, P i < 2 ^ i := fun i => (ok.2.2.1 i).1
  have b : ((2 ^ u ||| 2 ^ v) ||| ds_z S n) < 128 := Nat.or_lt_two_pow (n := 7) (Nat.or_lt_two_pow (bi_2lt (by omega)) (bi_2lt (by omega))) (rl_128 (ds_z_lt S n) hn)
  unfold wY_separated_94
  rw [bi_1 (by omega), bi_1 (by omega), bi_or, bi_or]
  refine yb_closed ok b ?_
  refine yb_draw ok (ds_m_lt hP 7 _ (Nat.le_refl _) b) fun ln hl => ?_
  intro a ea
  subst ea
  exact ⟨8, yb_123 (by omega) (by omega) (fun w hw => ⟨hl w hw, ds_l_lt hP 7 (Nat.le_refl _)⟩) (fun e => h1 e ln) (fun e => h0 e ln) 7 0 rfl⟩
theorem yb_54 (ok : rl_ok n P E S) {u v : Nat} {post : Int32 → SY → Prop} (h : wY_separated_94 post (nI u) (nI v) (nI (ds_z S n)) (nI n) (rl_a P) (rl_a E) (rl_a S) ln) : ∀ d k, k + d = n → wY_separated_54 post (nI u) (nI v) (nI n) (rl_a P) (rl_a E) (rl_a S) ln (d + 1) (nI (ds_z S k)) (nI k) := by
  have hn := ok.2.1
  intro d
  induction d with
  | zero =>
    intro k hk
    obtain rfl : k = n := by omega
    exact br_t (Int32.le_refl _) h
  | succ d ih =>
    intro k hk
    have q := ih (k + 1) (by omega)
    have hS := ok.2.2.2.2 k
    refine br_f (nI_ge (by omega) (by omega)) (br_f (nI_ge (b := 7) (by omega) (by decide)) (And.intro (vp_in_nI (by omega) (by decide)) ?_))
    rw [rl_at (by omega)]
    refine pk_le 2 (S k) (fun e => ?_) (fun e => ?_)
    · intro z ez
      rw [nI_1] at ez
      subst ez
      rw [show ds_z S (k + 1) = ds_z S k from if_pos e] at q
      exact q
    · intro a ea z ez
      rw [bi_1 (by omega), bi_or] at ea
      rw [nI_1] at ez
      subst ea ez
      rw [show ds_z S (k + 1) = ds_z S k ||| 2 ^ k from if_neg (by omega)] at q
      exact q
end
end
section
/-! the methods that store, the constructors, blanket -/
def in_f (c k : Nat) : Nat → Nat := fun i => if i < k then c else 0
theorem in_0 (c : Nat) : (fun _ => 0 : Nat → Int32) = rl_a (in_f c 0) := by
  funext i
  show 0 = nI (if i < 0 then c else 0)
  rw [if_neg (by omega)]
  rfl
theorem in_s {c k : Nat} (hk : k < 2 ^ 31) : upd (rl_a (in_f c k)) (nI k).toNatClampNeg (nI c) = rl_a (in_f c (k + 1)) := by
  rw [rl_updI hk]
  congr 1
  funext i
  unfold rl_u in_f
  by_cases e : i = k
  · rw [if_pos e, if_pos (by omega)]
  · rw [if_neg e]
    by_cases h : i < k
    · rw [if_pos h, if_pos (by omega)]
    · rw [if_neg h, if_neg (by omega)]
theorem in_le {c k B : Nat} (h : c ≤ B) (i : Nat) : in_f c k i ≤ B := by
  unfold in_f
  split <;> omega
theorem in_x113 {post : SX → Prop} {a b c : Int32} {ps ss fx sc us : Nat → Int32} {vs : Nat → Int64} (hp : post (a, b, c, ps, rl_a (in_f 1 112), ss, fx, sc, vs, us)) : ∀ d k es, k + d = 112 → es = rl_a (in_f 1 k) → wX_init_113 post a b c (d + 1) (nI k) ps es ss fx sc vs us := by
  intro d
  induction d with
  | zero =>
    intro k es hk he
    obtain rfl : k = 112 := by omega
    subst he
    exact br_t (Int32.le_refl _) hp
  | succ d ih =>
    intro k es hk he
    refine br_f (nI_ge (b := 112) (by omega) (by decide)) (And.intro (vp_in_nI (by omega) (by decide)) ?_)
    intro q eq z ez
    rw [nI_1] at ez
    subst ez
    rw [he] at eq
    exact ih (k + 1) q (by omega) (eq.trans (in_s (c := 1) (by omega)))
theorem in_x92 {post : SX → Prop} {a b c : Int32} {ps fx sc us : Nat → Int32} {vs : Nat → Int64} (hp : post (a, b, c, ps, rl_a (in_f 1 112), rl_a (in_f 2 7), fx, sc, vs, us)) : ∀ d k ss, k + d = 7 → ss = rl_a (in_f 2 k) → wX_init_92 post a b c (d + 1) (nI k) ps (fun _ => 0) ss fx sc vs us := by
  intro d
  induction d with
  | zero =>
    intro k ss hk he
    obtain rfl : k = 7 := by omega
    subst he
    exact br_t (Int32.le_refl _) ⟨113, in_x113 hp 112 0 _ rfl (in_0 1)⟩
  | succ d ih =>
    intro k ss hk he
    refine br_f (nI_ge (b := 7) (by omega) (by decide)) (And.intro (vp_in_nI (by omega) (by decide)) ?_)
    intro q eq z ez
    rw [nI_1] at ez
    subst ez
    rw [he] at eq
    exact ih (k + 1) q (by omega) (eq.trans (in_s (c := 2) (by omega)))
theorem in_y84 {post : SY → Prop} {a : Int32} {ps es ln : Nat → Int32} (hp : post (a, ps, es, rl_a (in_f 2 7), ln)) : ∀ d k ss, k + d = 7 → ss = rl_a (in_f 2 k) → wY_init_84 post a (d + 1) (nI k) ps es ss ln := by
  intro d
  induction d with
  | zero =>
    intro k ss hk he
    obtain rfl : k = 7 := by omega
    subst he
    exact br_t (Int32.le_refl _) hp
  | succ d ih =>
    intro k ss hk he
    refine br_f (nI_ge (b := 7) (by omega) (by decide)) (And.intro (vp_in_nI (by omega) (by decide)) ?_)
    intro q eq z ez
    rw [nI_1] at ez
    subst ez
    rw [he] at eq
    exact ih (k + 1) q (by omega) (eq.trans (in_s (c := 2) (by omega)))
theorem in_y63 {post : SY → Prop} {a : Int32} {ps ln : Nat → Int32} (hp : post (a, ps, rl_a (in_f 1 112), rl_a (in_f 2 7), ln)) : ∀ d k es, k + d = 112 → es = rl_a (in_f 1 k) → wY_init_63 post a (d + 1) (nI k) ps es (fun _ => 0) ln := by
  intro d
  induction d with
  | zero =>
    intro k es hk he
    obtain rfl : k = 112 := by omega
    subst he
    exact br_t (Int32.le_refl _) ⟨8, in_y84 hp 7 0 _ rfl (in_0 2)⟩
  | succ d ih =>
    intro k es hk he
    refine br_f (nI_ge (b := 112) (by omega) (by decide)) (And.intro (vp_in_nI (by omega) (by decide)) ?_)
    intro q eq z ez
    rw [nI_1] at ez
    subst ez
    rw [he] at eq
    exact ih (k + 1) q (by omega) (eq.trans (in_s (c := 1) (by omega)))
theorem in_ok {n : Nat} (h2 : 2 ≤ n) (h7 : n ≤ 7) : rl_ok n (fun _ => 0) (in_f 1 112) (in_f 2 7) := ⟨h2, h7, fun i => ⟨Nat.two_pow_pos i, (by decide : pa_c 0 7 ≤ 3)⟩, fun i => in_le (by decide) i, fun i => in_le (by decide) i⟩
/-- a row of entries written one behind another -/
def st_E (E : Nat → Nat) (v : Nat) (f : Nat → Nat) : Nat → Nat → Nat
  | 0 => E
  | k + 1 => rl_u (st_E E v f k) (16 * v + k) (f k)
theorem st_E_le {E : Nat → Nat} {v : Nat} {f : Nat → Nat} (hE : ∀ i, E i ≤ 9) (hf : ∀ k, f k ≤ 9) : ∀ k i, st_E E v f k i ≤ 9 := by
  intro k
  induction k with
  | zero => exact hE
  | succ k ih =>
    intro i
    show (if i = 16 * v + k then f k else st_E E v f k i) ≤ 9
    split
    · exact hf k
    · exact ih i
theorem st_ix (v k : Nat) : 16 * nI v + nI k = nI (16 * v + k) := by
  show nI 16 * nI v + nI k = _
  rw [pk_mul, nI_add]
/-- sow's value at k -/
def st_v (z k : Nat) : Nat := (z + 3 * (k / 2) + 5 * (k % 2) + k / 2 * (k % 2)) % 10
theorem st_v9 (z k : Nat) : st_v z k ≤ 9 := by
  have := Nat.mod_lt (z + 3 * (k / 2) + 5 * (k % 2) + k / 2 * (k % 2)) (show 0 < 10 by decide)
  unfold st_v
  omega
theorem st_vI {z r b : Nat} (hz : z ≤ 9) (hr : r ≤ 8) (hb : b ≤ 1) : nI z + 3 * nI r + 5 * nI b + nI r * nI b - (nI z + 3 * nI r + 5 * nI b + nI r * nI b) / 10 * 10 = nI ((z + 3 * r + 5 * b + r * b) % 10) := by
  have e : nI z + 3 * nI r + 5 * nI b + nI r * nI b = nI (z + 3 * r + 5 * b + r * b) := by
    show nI z + nI 3 * nI r + nI 5 * nI b + nI r * nI b = _
    rw [pk_mul, pk_mul, pk_mul, nI_add, nI_add, nI_add]
  have h : r * b ≤ 8 * 1 := Nat.mul_le_mul hr hb
  rw [e]
  exact pk_rem (d := 10) (by omega) (by omega) (by omega)
section
variable {n : Nat} {P E S : Nat → Nat} {ff gg : Int32} {fx sc us : Nat → Int32} {vs : Nat → Int64} {ln : Nat → Int32}
theorem xw_goodT {post : Int32 → Prop} {v : Nat} (hn : n ≤ 7) (hv : v < n) (h : post 1) : wpX_isGood post (nI n, ff, gg, rl_a P, rl_a E, rl_a S, fx, sc, vs, us) (nI v) := xw_good (by omega) (fun q => by
  rcases q with q | q
  · exact absurd q (nI_pos (by omega))
  · exact absurd q (nI_ge hv (by omega))) (fun _ _ _ => h)
theorem xw_goodF {post : Int32 → Prop} {p : Int32} (hn : n ≤ 7) (hb : p < 0 ∨ nI n ≤ p) (h : post 0) : wpX_isGood post (nI n, ff, gg, rl_a P, rl_a E, rl_a S, fx, sc, vs, us) p := xw_good (by omega) (fun _ => h) (fun v hv e => by
  subst e
  rcases hb with q | q
  · exact absurd q (nI_pos (by omega))
  · exact absurd q (nI_ge hv (by omega)))
theorem yw_badF {post : Int32 → Prop} {v : Nat} (ok : rl_ok n P E S) (hv : v < n) (h : post 0) : wpY_bad post (nI n, rl_a P, rl_a E, rl_a S, ln) (nI v) := yw_bad ok (fun q => by
  have hn := ok.2.1
  rcases q with q | q
  · exact absurd q (nI_pos (by omega))
  · exact absurd q (nI_ge hv (by omega))) (fun _ _ _ => h)
theorem yw_badT {post : Int32 → Prop} {p : Int32} (ok : rl_ok n P E S) (hb : p < 0 ∨ nI n ≤ p) (h : post 1) : wpY_bad post (nI n, rl_a P, rl_a E, rl_a S, ln) p := yw_bad ok (fun _ => h) (fun v hv e => by
  have hn := ok.2.1
  subst e
  rcases hb with q | q
  · exact absurd q (nI_pos (by omega))
  · exact absurd q (nI_ge hv (by omega)))
theorem st_ix3 (p : Int32) {n : Nat} (hn : n < 2 ^ 31) : (p < 0 ∨ nI n ≤ p) ∨ ∃ v, v < n ∧ p = nI v := by
  rcases pk_ix p hn with h | h | h
  · exact Or.inl (Or.inl h)
  · exact Or.inl (Or.inr h)
  · exact Or.inr h
theorem st_x49 {v : Nat} (hv : v < 7) {x3 : Int32} {post : Int32 → SX → Prop} (hp : post x3 (nI n, ff, gg, rl_a P, rl_a (st_E E v (fun _ => 1) 16), rl_a S, fx, sc, vs, us)) : ∀ d k, k + d = 16 → wX_parents_49 post (nI v) x3 (nI n) ff gg (d + 1) (nI k) (rl_a P) (rl_a (st_E E v (fun _ => 1) k)) (rl_a S) fx sc vs us := by
  intro d
  induction d with
  | zero =>
    intro k hk
    obtain rfl : k = 16 := by omega
    exact br_t (Int32.le_refl _) hp
  | succ d ih =>
    intro k hk
    refine br_f (nI_ge (b := 16) (by omega) (by decide)) ?_
    rw [st_ix]
    refine And.intro (vp_in_nI (by omega) (by decide)) ?_
    intro q eq z ez
    rw [nI_1] at ez
    have eq := eq.trans (rl_updI (x := 1) (by omega))
    subst eq ez
    exact ih (k + 1) (by omega)
theorem st_y50 {v : Nat} (hv : v < 7) {x3 : Int32} {post : Int32 → SY → Prop} (hp : post x3 (nI n, rl_a P, rl_a (st_E E v (fun _ => 1) 16), rl_a S, ln)) : ∀ d k, k + d = 16 → wY_parents_50 post (nI v) x3 (nI n) (d + 1) (nI k) (rl_a P) (rl_a (st_E E v (fun _ => 1) k)) (rl_a S) ln := by
  intro d
  induction d with
  | zero =>
    intro k hk
    obtain rfl : k = 16 := by omega
    exact br_t (Int32.le_refl _) hp
  | succ d ih =>
    intro k hk
    refine br_f (nI_ge (b := 16) (by omega) (by decide)) ?_
    rw [st_ix]
    refine And.intro (vp_in_nI (by omega) (by decide)) ?_
    intro q eq z ez
    rw [nI_1] at ez
    have eq := eq.trans (rl_updI (x := 1) (by omega))
    subst eq ez
    exact ih (k + 1) (by omega)
theorem st_x38 {v z R : Nat} (hv : v < 7) (hz : z ≤ 9) (hR : R ≤ 8) {post : Int32 → SX → Prop} (hp : post (2 * nI R) (nI n, ff, gg, rl_a P, rl_a (st_E E v (st_v z) (2 * R)), rl_a S, fx, sc, vs, us)) : ∀ d k, k + d = 2 * R → wX_sow_38 post (nI v) (nI z) (nI R) (nI n) ff gg (d + 1) (nI k) (rl_a P) (rl_a (st_E E v (st_v z) k)) (rl_a S) fx sc vs us := by
  have e2 : (2 : Int32) * nI R = nI (2 * R) := pk_mul 2 R
  intro d
  induction d with
  | zero =>
    intro k hk
    obtain rfl : k = 2 * R := by omega
    exact br_t (by rw [e2]; exact Int32.le_refl _) hp
  | succ d ih =>
    intro k hk
    refine br_f (by rw [e2]; exact nI_ge (by omega) (by omega)) ?_
    rw [show nI k >>> ((1 : Int32) &&& 31) = nI (k / 2) from bi_shr (k := 1) (by omega) (by omega), show nI k &&& 1 = nI (k % 2) from (nx_and k 1).trans (congrArg nI (Nat.and_one_is_mod k))]
    intro a ea b eb
    subst ea eb
    rw [st_ix, st_vI hz (by omega) (by omega)]
    refine And.intro (by decide) (And.intro (vp_in_nI (by omega) (by decide)) ?_)
    intro q eq z ez
    rw [nI_1] at ez
    rw [rl_updI (by omega)] at eq
    subst eq ez
    exact ih (k + 1) (by omega)
theorem st_y41 {v z r : Nat} (hv : v < 7) (hz : z ≤ 9) (hr : r < 8) {x3 : Int32} {post : Int32 → SY → Prop} {J : Int32 → (Nat → Int32) → (Nat → Int32) → (Nat → Int32) → (Nat → Int32) → Prop} (hJ : J (nI (r + 1)) (rl_a P) (rl_a (st_E E v (st_v z) (2 * (r + 1)))) (rl_a S) ln) : ∀ d b, b + d = 2 → wY_sow_41 post J (nI v) (nI z) x3 (nI r) (nI n) (d + 1) (nI b) (rl_a P) (rl_a (st_E E v (st_v z) (2 * r + b))) (rl_a S) ln := by
  intro d
  induction d with
  | zero =>
    intro b hb
    obtain rfl : b = 2 := by omega
    refine br_t (Int32.le_refl _) ?_
    intro a ea
    rw [nI_1] at ea
    subst ea
    exact hJ
  | succ d ih =>
    intro b hb
    refine br_f (nI_ge (b := 2) (by omega) (by decide)) ?_
    rw [rl_ix, st_vI hz (by omega) (by omega)]
    refine And.intro (by decide) (And.intro (vp_in_nI (by omega) (by decide)) ?_)
    intro q eq y ey
    rw [nI_1] at ey
    rw [rl_updI (by omega)] at eq
    have ev : st_v z (2 * r + b) = (z + 3 * r + 5 * b + r * b) % 10 := by
      unfold st_v
      rw [show (2 * r + b) / 2 = r by omega, show (2 * r + b) % 2 = b by omega]
    have w := ih (b + 1) (by omega)
    have es : st_E E v (st_v z) (2 * r + (b + 1)) = rl_u (st_E E v (st_v z) (2 * r + b)) (16 * v + 2 * r + b) ((z + 3 * r + 5 * b + r * b) % 10) := by
      rw [← ev, Nat.add_assoc]
      rfl
    rw [es] at w
    subst eq ey
    exact w
theorem st_y32 {v z R : Nat} (hv : v < 7) (hz : z ≤ 9) (hR : R ≤ 8) {post : Int32 → SY → Prop} (hp : post (2 * nI R) (nI n, rl_a P, rl_a (st_E E v (st_v z) (2 * R)), rl_a S, ln)) : ∀ d r, r + d = R → wY_sow_32 post (nI v) (nI z) (nI R) (nI n) (d + 1) (nI r) (rl_a P) (rl_a (st_E E v (st_v z) (2 * r))) (rl_a S) ln := by
  intro d
  induction d with
  | zero =>
    intro r hr
    obtain rfl : r = R := by omega
    exact br_t (Int32.le_refl _) hp
  | succ d ih =>
    intro r hr
    refine br_f (nI_ge (by omega) (by omega)) ⟨3, ?_⟩
    exact st_y41 hv hz (by omega) (ih (r + 1) (by omega)) 2 0 rfl
/-- blanket's set -/
def bl_f (P : Nat → Nat) (v : Nat) : Nat → Nat
  | 0 => P v
  | k + 1 => if (P k).testBit v then (bl_f P v k ||| 2 ^ k) ||| P k else bl_f P v k
theorem bl_x (ok : rl_ok n P E S) {v : Nat} (hv : v < 7) {post : Int32 → Prop} (hp : post (nI (bl_f P v n) &&& (((1 : Int32) <<< (nI v &&& 31)) ^^^ (-1)))) : ∀ d k, k + d = n → wX_blanket_19 post (nI v) (nI n) ff gg (rl_a P) (rl_a E) (rl_a S) fx sc vs us (d + 1) (nI (bl_f P v k)) (nI k) := by
  have hn := ok.2.1
  intro d
  induction d with
  | zero =>
    intro k hk
    obtain rfl : k = n := by omega
    exact br_t (Int32.le_refl _) hp
  | succ d ih =>
    intro k hk
    have h3 := rl_128 (ok.2.2.1 k).1 (by omega)
    have q := ih (k + 1) (by omega)
    have hi : vp_in (nI k) 7 := vp_in_nI (by omega) (by decide)
    refine br_f (nI_ge (by omega) (by omega)) (And.intro hi ?_)
    rw [rl_at (by omega)]
    refine bi_br (by omega) (by omega) (fun e => And.intro hi ?_) (fun e => ?_)
    · intro a ea z ez
      rw [bi_1 (by omega), bi_or, bi_or] at ea
      rw [nI_1] at ez
      subst ea ez
      rw [show bl_f P v (k + 1) = (bl_f P v k ||| 2 ^ k) ||| P k from if_pos e] at q
      exact q
    · intro z ez
      rw [nI_1] at ez
      subst ez
      rw [show bl_f P v (k + 1) = bl_f P v k from if_neg (pa_nt e)] at q
      exact q
theorem bl_y (ok : rl_ok n P E S) {v : Nat} (hv : v < 7) {post : Int32 → Prop} (hp : post (nI (bl_f P v n) &&& (((1 : Int32) <<< (nI v &&& 31)) ^^^ (-1)))) : ∀ d k, k + d = n → wY_blanket_19 post (nI v) (nI n) (rl_a P) (rl_a E) (rl_a S) ln (d + 1) (nI (bl_f P v k)) (nI k) := by
  have hn := ok.2.1
  intro d
  induction d with
  | zero =>
    intro k hk
    obtain rfl : k = n := by omega
    exact br_t (Int32.le_refl _) hp
  | succ d ih =>
    intro k hk
    have h3 := rl_128 (ok.2.2.1 k).1 (by omega)
    have q := ih (k + 1) (by omega)
    have hi : vp_in (nI k) 7 := vp_in_nI (by omega) (by decide)
    refine br_f (nI_ge (by omega) (by omega)) (br_f (nI_ge (b := 7) (by omega) (by decide)) (And.intro hi ?_))
    rw [rl_at (by omega)]
    refine bi_br (by omega) (by omega) (fun e => And.intro hi ?_) (fun e => ?_)
    · intro a ea z ez
      rw [bi_1 (by omega), bi_or, bi_or, ← Nat.or_assoc] at ea
      rw [nI_1] at ez
      subst ea ez
      rw [show bl_f P v (k + 1) = (bl_f P v k ||| 2 ^ k) ||| P k from if_pos e] at q
      exact q
    · intro z ez
      rw [nI_1] at ez
      subst ez
      rw [show bl_f P v (k + 1) = bl_f P v k from if_neg (pa_nt e)] at q
      exact q
end
end
section
/-! what is owed -/
/-- both sides hold the same n, parents, entries and observations; X's work arrays and Y's lines are free -/
def i_Rel (_ : Nat) (u : SX) (v : SY) : Prop := ∃ (n : Nat) (P E S : Nat → Nat) (ff gg : Int32) (fx sc : Nat → Int32) (vs : Nat → Int64) (us ln : Nat → Int32), u = (nI n, ff, gg, rl_a P, rl_a E, rl_a S, fx, sc, vs, us) ∧ v = (nI n, rl_a P, rl_a E, rl_a S, ln) ∧ rl_ok n P E S
theorem i_up {k : Nat} {u : SX} {v : SY} (h : i_Rel k u v) : i_Rel (k + 5) u v := h
theorem rl_rel {k n : Nat} {P E S : Nat → Nat} (ok : rl_ok n P E S) {ff gg : Int32} {fx sc us ln : Nat → Int32} {vs : Nat → Int64} : i_Rel k (nI n, ff, gg, rl_a P, rl_a E, rl_a S, fx, sc, vs, us) (nI n, rl_a P, rl_a E, rl_a S, ln) := ⟨n, P, E, S, ff, gg, fx, sc, vs, us, ln, rfl, rfl, ok⟩
theorem i_vc0 (k0 : Int32) : wpX_init (fun u => wpY_init (fun v => i_Rel 1 u v) k0) k0 := by
  have X : ∀ n, 2 ≤ n → n ≤ 7 → wpY_init (fun v => i_Rel 1 (nI n, 0, 0, rl_a (fun _ => 0), rl_a (in_f 1 112), rl_a (in_f 2 7), (fun _ => 0), (fun _ => 0), (fun _ => 0), (fun _ => 0)) v) k0 → ∃ q, wX_init_92 (fun u => wpY_init (fun v => i_Rel 1 u v) k0) (nI n) 0 0 q 0 (fun _ => 0) (fun _ => 0) (fun _ => 0) (fun _ => 0) (fun _ => 0) (fun _ => 0) (fun _ => 0) := fun n h2 h7 h => ⟨8, in_x92 h 7 0 _ rfl (in_0 2)⟩
  have Y : ∀ n, 2 ≤ n → n ≤ 7 → ∃ q, wY_init_63 (fun v => i_Rel 1 (nI n, 0, 0, rl_a (fun _ => 0), rl_a (in_f 1 112), rl_a (in_f 2 7), (fun _ => 0), (fun _ => 0), (fun _ => 0), (fun _ => 0)) v) (nI n) q 0 (fun _ => 0) (fun _ => 0) (fun _ => 0) (fun _ => 0) := fun n h2 h7 => ⟨113, in_y63 (ps := rl_a (fun _ => 0)) (rl_rel (in_ok h2 h7)) 112 0 _ rfl (in_0 1)⟩
  by_cases h2 : 2 ≤ k0
  · by_cases h7 : k0 ≤ 7
    · obtain ⟨n, hn, rfl⟩ := nI_of2 (M := 7) (n := 7) (by decide) (fun z => absurd (Int32.lt_of_le_of_lt h2 z) (by decide)) h7
      have h2' : 2 ≤ n := (nI_leI (a := 2) (by decide) (by omega)).mp h2
      exact br_t h2 (br_t h7 (X n h2' hn (br_t h2 (br_t h7 (Y n h2' hn)))))
    · exact br_t h2 (br_f h7 (X 7 (by decide) (by decide) (br_t h2 (br_f h7 (Y 7 (by decide) (by decide))))))
  · exact br_f h2 (br_t (by decide) (X 2 (by decide) (by decide) (br_f h2 (Y 2 (by decide) (by decide)))))
theorem i_vc_variables {k : Nat} {u : SX} {v : SY} (I : i_Rel k u v) (hk : k + 5 ≤ 2561) : wpX_variables (fun r => wpY_variables (fun r' => r' = r ∧ i_Rel (k + 5) u v) v) u := by
  have I' := I
  obtain ⟨n, P, E, S, ff, gg, fx, sc, vs, us, ln, rfl, rfl, ok⟩ := I
  exact ⟨rfl, I'⟩
theorem i_vc_parents {k : Nat} {u : SX} {v : SY} (I : i_Rel k u v) (hk : k + 5 ≤ 2561) (v1 : Int32) (v2 : Int32) : wpX_parents (fun r u' => wpY_parents (fun r' v' => r' = r ∧ i_Rel (k + 5) u' v') v v1 v2) u v1 v2 := by
  obtain ⟨n, P, E, S, ff, gg, fx, sc, vs, us, ln, rfl, rfl, ok⟩ := I
  have hn := ok.2.1
  unfold wpX_parents
  dsimp only
  rcases st_ix3 v1 (n := n) (by omega) with hb | ⟨v, hv, rfl⟩
  · refine xw_goodF hn hb (br_t rfl ?_)
    unfold wpY_parents
    dsimp only
    exact yw_badT ok hb (br_f (by decide) ⟨rfl, rl_rel ok⟩)
  refine xw_goodT hn hv (br_f (by decide) ?_)
  have Y : ∀ post : Int32 → SY → Prop, ((v2 < 0 → (post (-2) (nI n, rl_a P, rl_a E, rl_a S, ln))) ∧ (¬ v2 < 0 → (((((1 : Int32) <<< (nI v &&& 31)) ≤ v2 → (post (-2) (nI n, rl_a P, rl_a E, rl_a S, ln))) ∧ (¬ ((1 : Int32) <<< (nI v &&& 31)) ≤ v2 → (wpY_size (fun r => ((r ≤ 3 → vp_in (nI v) 7 ∧ (∀ x, x = rl_a P (nI v).toNatClampNeg → (vp_in (nI v) 7 ∧ (∀ a, a = upd (rl_a P) (nI v).toNatClampNeg v2 → ∃ q, wY_parents_50 post (nI v) x (nI n) q 0 a (rl_a E) (rl_a S) ln)))) ∧ (¬ r ≤ 3 → post (-2) (nI n, rl_a P, rl_a E, rl_a S, ln)))) (nI n, rl_a P, rl_a E, rl_a S, ln) v2)))))) → wpY_parents post (nI n, rl_a P, rl_a E, rl_a S, ln) (nI v) v2 := by
    intro post h
    unfold wpY_parents
    dsimp only
    exact yw_badF ok hv (br_t rfl h)
  by_cases h0 : v2 < 0
  · exact br_t h0 (Y _ (br_t h0 ⟨rfl, rl_rel ok⟩))
  obtain ⟨s, hs, rfl⟩ := nI_of h0
  by_cases h1 : (1 : Int32) <<< (nI v &&& 31) ≤ nI s
  · exact br_f h0 (br_t h1 (Y _ (br_f h0 (br_t h1 ⟨rfl, rl_rel ok⟩))))
  have h2 : s < 2 ^ v := by
    have p : 2 ^ v ≤ 2 ^ 7 := Nat.pow_le_pow_right (by decide) (by omega)
    have g := h1
    rw [bi_1 (by omega), nI_leI (by omega) hs] at g
    omega
  refine br_f h0 (br_f h1 ?_)
  refine xw_ones hs ?_
  have c7 := pa_c_le s 7
  have hi : vp_in (nI v) 7 := vp_in_nI (by omega) (by decide)
  refine pk_le (pa_c s 7) 3 (fun h3 => And.intro hi ?_) (fun h3 => Y _ (br_f h0 (br_f h1 (yw_size hs (br_f (nI_ge (a := 3) h3 (by omega)) ⟨rfl, rl_rel ok⟩)))))
  intro x ex
  refine And.intro hi ?_
  intro a ea
  have ea := ea.trans (rl_updI (by omega))
  subst ea
  have ok2 : rl_ok n (rl_u P v s) (st_E E v (fun _ => 1) 16) S := ⟨ok.1, hn, fun i => by
    unfold rl_u
    by_cases e : i = v
    · rw [if_pos e, e]; exact ⟨h2, h3⟩
    · rw [if_neg e]; exact ok.2.2.1 i, st_E_le ok.2.2.2.1 (fun _ => by decide) 16, ok.2.2.2.2⟩
  refine ⟨17, st_x49 (E := E) (by omega) ?_ 16 0 rfl⟩
  refine Y _ (br_f h0 (br_f h1 (yw_size hs (br_t (nI_le (b := 3) h3 (by decide)) (And.intro hi ?_)))))
  intro x' ex'
  refine And.intro hi ?_
  intro a ea
  have ea := ea.trans (rl_updI (by omega))
  subst ea
  exact ⟨17, st_y50 (E := E) (by omega) ⟨ex'.trans ex.symm, rl_rel ok2⟩ 16 0 rfl⟩
theorem i_vc_enter {k : Nat} {u : SX} {v : SY} (I : i_Rel k u v) (hk : k + 5 ≤ 2561) (v1 : Int32) (v2 : Int32) (v3 : Int32) (v4 : Int32) : wpX_enter (fun r u' => wpY_enter (fun r' v' => r' = r ∧ i_Rel (k + 5) u' v') v v1 v2 v3 v4) u v1 v2 v3 v4 := by
  obtain ⟨n, P, E, S, ff, gg, fx, sc, vs, us, ln, rfl, rfl, ok⟩ := I
  have hn := ok.2.1
  unfold wpX_enter
  dsimp only
  rcases st_ix3 v1 (n := n) (by omega) with hb | ⟨v, hv, rfl⟩
  · refine xw_goodF hn hb (br_t rfl ?_)
    unfold wpY_enter
    dsimp only
    exact yw_badT ok hb (br_f (by decide) ⟨rfl, rl_rel ok⟩)
  have hi : vp_in (nI v) 7 := vp_in_nI (by omega) (by decide)
  obtain ⟨hP1, hP2⟩ := ok.2.2.1 v
  have hP := rl_128 hP1 (by omega)
  have h8 : 2 ^ pa_c (P v) 7 ≤ 2 ^ 3 := Nat.pow_le_pow_right (by decide) hP2
  refine xw_goodT hn hv (br_f (by decide) (And.intro hi ?_))
  rw [rl_at (by omega)]
  refine xw_ones (by omega) ?_
  rw [bi_1 (by omega)]
  intro R eR
  subst eR
  unfold wpY_enter
  dsimp only
  by_cases h0 : v2 < 0
  · exact br_t h0 (yw_badF ok hv (br_t rfl (br_t h0 ⟨rfl, rl_rel ok⟩)))
  by_cases h1 : v2 < nI (2 ^ pa_c (P v) 7)
  rotate_left
  · exact br_f h0 (br_f h1 (yw_badF ok hv (br_t rfl (br_f h0 (yw_rows ok (by omega) (br_f h1 ⟨rfl, rl_rel ok⟩))))))
  obtain ⟨r, hr, rfl⟩ := nI_of h0
  have hr8 : r < 8 := by
    have g := h1
    rw [nI_ltI hr (by omega)] at g
    omega
  refine br_f h0 (br_t h1 ?_)
  rcases st_ix3 v3 (n := 2) (by decide) with hb | ⟨b, hb, rfl⟩
  · have n0 : ¬ v3 = 0 := fun e => by
      subst e
      exact absurd hb (by decide)
    have n1 : ¬ v3 = 1 := fun e => by
      subst e
      exact absurd hb (by decide)
    refine br_f n0 (br_f n1 (yw_badF ok hv (br_t rfl (br_f h0 (yw_rows ok (by omega) (br_t h1 ?_))))))
    rcases hb with hb | hb
    · exact br_t hb ⟨rfl, rl_rel ok⟩
    · refine br_f (fun z => absurd (Int32.lt_of_le_of_lt hb z) (by decide)) (br_f (fun z => absurd (Int32.le_trans hb z) (by decide)) ⟨rfl, rl_rel ok⟩)
  have Y : ∀ post : Int32 → SY → Prop, ((v4 < 0 → (post (-4) (nI n, rl_a P, rl_a E, rl_a S, ln))) ∧ (¬ v4 < 0 → (((v4 ≤ 9 → (vp_in (((16 * nI v) + (2 * nI r)) + nI b) 112 ∧ (∀ x, x = rl_a E (((16 * nI v) + (2 * nI r)) + nI b).toNatClampNeg → (vp_in (((16 * nI v) + (2 * nI r)) + nI b) 112 ∧ (∀ a, a = upd (rl_a E) (((16 * nI v) + (2 * nI r)) + nI b).toNatClampNeg v4 → (post x (nI n, rl_a P, a, rl_a S, ln))))))) ∧ (¬ v4 ≤ 9 → (post (-4) (nI n, rl_a P, rl_a E, rl_a S, ln))))))) → wpY_enter post (nI n, rl_a P, rl_a E, rl_a S, ln) (nI v) (nI r) (nI b) v4 := by
    intro post h
    unfold wpY_enter
    dsimp only
    exact yw_badF ok hv (br_t rfl (br_f h0 (yw_rows ok (by omega) (br_t h1 (br_f (nI_pos (by omega)) (br_t (nI_le (b := 1) (by omega) (by decide)) h))))))
  have X : wX_enter_48 (fun r' u' => wpY_enter (fun r'' v' => r'' = r' ∧ i_Rel (k + 5) u' v') (nI n, rl_a P, rl_a E, rl_a S, ln) (nI v) (nI r) (nI b) v4) (nI v) (nI r) (nI b) v4 (nI n) ff gg (rl_a P) (rl_a E) (rl_a S) fx sc vs us := by
    rcases st_ix3 v4 (n := 10) (by decide) with hb | ⟨e, he, rfl⟩
    · rcases hb with hb | hb
      · exact br_t hb (Y _ (br_t hb ⟨rfl, rl_rel ok⟩))
      · have q0 : ¬ v4 < 0 := fun z => absurd (Int32.lt_of_le_of_lt hb z) (by decide)
        have q9 : ¬ v4 ≤ 9 := fun z => absurd (Int32.le_trans hb z) (by decide)
        exact br_f q0 (br_f q9 (Y _ (br_f q0 (br_f q9 ⟨rfl, rl_rel ok⟩))))
    · have q0 : ¬ nI e < 0 := nI_pos (by omega)
      have q9 : nI e ≤ 9 := nI_le (b := 9) (by omega) (by decide)
      have ei := rl_ix v r b
      have ii : vp_in (16 * nI v + 2 * nI r + nI b) 112 := by rw [ei]; exact vp_in_nI (by omega) (by decide)
      have ec : (16 * nI v + 2 * nI r + nI b).toNatClampNeg = 16 * v + 2 * r + b := by rw [ei]; exact nI_clamp (by omega)
      have ok2 : rl_ok n P (rl_u E (16 * v + 2 * r + b) e) S := ⟨ok.1, hn, ok.2.2.1, fun i => by
        unfold rl_u
        split
        · omega
        · exact ok.2.2.2.1 i, ok.2.2.2.2⟩
      refine br_f q0 (br_t q9 (And.intro ii ?_))
      intro x ex
      refine And.intro ii ?_
      intro a ea
      rw [ec, rl_upd] at ea
      subst ea
      refine Y _ (br_f q0 (br_t q9 (And.intro ii ?_)))
      intro x' ex'
      refine And.intro ii ?_
      intro a ea
      rw [ec, rl_upd] at ea
      subst ea
      exact ⟨ex'.trans ex.symm, rl_rel ok2⟩
  rcases (show b = 0 ∨ b = 1 by omega) with e | e
  · subst e
    exact br_t rfl X
  · subst e
    exact br_f (by decide) (br_t rfl X)
end
section
/-! what is owed, the rest -/
theorem i_vc_sow {k : Nat} {u : SX} {v : SY} (I : i_Rel k u v) (hk : k + 5 ≤ 2561) (v1 : Int32) (v2 : Int32) : wpX_sow (fun r u' => wpY_sow (fun r' v' => r' = r ∧ i_Rel (k + 5) u' v') v v1 v2) u v1 v2 := by
  obtain ⟨n, P, E, S, ff, gg, fx, sc, vs, us, ln, rfl, rfl, ok⟩ := I
  have hn := ok.2.1
  unfold wpX_sow wpY_sow
  dsimp only
  rcases st_ix3 v1 (n := n) (by omega) with hb | ⟨v, hv, rfl⟩
  · exact xw_goodF hn hb (br_t rfl (yw_badT ok hb (br_f (by decide) ⟨rfl, rl_rel ok⟩)))
  refine xw_goodT hn hv (br_f (by decide) ?_)
  rcases st_ix3 v2 (n := 10) (by decide) with hb | ⟨z, hz, rfl⟩
  · rcases hb with hb | hb
    · exact br_t hb (yw_badF ok hv (br_t rfl (br_t hb ⟨rfl, rl_rel ok⟩)))
    · have q0 : ¬ v2 < 0 := fun z => absurd (Int32.lt_of_le_of_lt hb z) (by decide)
      have q9 : ¬ v2 ≤ 9 := fun z => absurd (Int32.le_trans hb z) (by decide)
      exact br_f q0 (br_f q9 (yw_badF ok hv (br_t rfl (br_f q0 (br_f q9 ⟨rfl, rl_rel ok⟩)))))
  have q0 : ¬ nI z < 0 := nI_pos (by omega)
  have q9 : nI z ≤ 9 := nI_le (b := 9) (by omega) (by decide)
  obtain ⟨hP1, hP2⟩ := ok.2.2.1 v
  have hP := rl_128 hP1 (by omega)
  have h8 : 2 ^ pa_c (P v) 7 ≤ 2 ^ 3 := Nat.pow_le_pow_right (by decide) hP2
  have ok2 : rl_ok n P (st_E E v (st_v z) (2 * 2 ^ pa_c (P v) 7)) S := ⟨ok.1, hn, ok.2.2.1, st_E_le ok.2.2.2.1 (st_v9 z) _, ok.2.2.2.2⟩
  refine br_f q0 (br_t q9 (And.intro (vp_in_nI (by omega) (by decide)) ?_))
  rw [rl_at (by omega)]
  refine xw_ones (by omega) ?_
  rw [bi_1 (by omega)]
  intro R eR
  subst eR
  refine ⟨_, st_x38 (E := E) (by omega) (by omega) (by omega) ?_ (2 * 2 ^ pa_c (P v) 7) 0 (Nat.zero_add _)⟩
  refine yw_badF ok hv (br_t rfl (br_f q0 (br_t q9 (yw_rows ok (by omega) ?_))))
  exact ⟨_, st_y32 (E := E) (by omega) (by omega) (by omega) ⟨rfl, rl_rel ok2⟩ (2 ^ pa_c (P v) 7) 0 (Nat.zero_add _)⟩
theorem i_vc_observe {k : Nat} {u : SX} {v : SY} (I : i_Rel k u v) (hk : k + 5 ≤ 2561) (v1 : Int32) (v2 : Int32) : wpX_observe (fun r u' => wpY_observe (fun r' v' => r' = r ∧ i_Rel (k + 5) u' v') v v1 v2) u v1 v2 := by
  obtain ⟨n, P, E, S, ff, gg, fx, sc, vs, us, ln, rfl, rfl, ok⟩ := I
  have hn := ok.2.1
  unfold wpX_observe wpY_observe
  dsimp only
  rcases st_ix3 v1 (n := n) (by omega) with hb | ⟨v, hv, rfl⟩
  · exact xw_goodF hn hb (br_t rfl (yw_badT ok hb (br_f (by decide) ⟨rfl, rl_rel ok⟩)))
  refine xw_goodT hn hv (br_f (by decide) ?_)
  rcases st_ix3 v2 (n := 3) (by decide) with hb | ⟨z, hz, rfl⟩
  · rcases hb with hb | hb
    · exact br_t hb (yw_badF ok hv (br_t rfl (br_t hb ⟨rfl, rl_rel ok⟩)))
    · have q0 : ¬ v2 < 0 := fun z => absurd (Int32.lt_of_le_of_lt hb z) (by decide)
      have q9 : ¬ v2 ≤ 2 := fun z => absurd (Int32.le_trans hb z) (by decide)
      exact br_f q0 (br_f q9 (yw_badF ok hv (br_t rfl (br_f q0 (br_f q9 ⟨rfl, rl_rel ok⟩)))))
  have q0 : ¬ nI z < 0 := nI_pos (by omega)
  have q9 : nI z ≤ 2 := nI_le (b := 2) (by omega) (by decide)
  have hi : vp_in (nI v) 7 := vp_in_nI (by omega) (by decide)
  have ok2 : rl_ok n P E (rl_u S v z) := ⟨ok.1, hn, ok.2.2.1, ok.2.2.2.1, fun i => by
    unfold rl_u
    split
    · omega
    · exact ok.2.2.2.2 i⟩
  refine br_f q0 (br_t q9 (And.intro hi ?_))
  intro x ex
  refine And.intro hi ?_
  intro a ea
  have ea := ea.trans (rl_updI (by omega))
  subst ea
  refine yw_badF ok hv (br_t rfl (br_f q0 (br_t q9 (And.intro hi ?_))))
  intro x' ex'
  refine And.intro hi ?_
  intro a ea
  have ea := ea.trans (rl_updI (by omega))
  subst ea
  exact ⟨ex'.trans ex.symm, rl_rel ok2⟩
theorem i_vc_parentsOf {k : Nat} {u : SX} {v : SY} (I : i_Rel k u v) (hk : k + 5 ≤ 2561) (v1 : Int32) : wpX_parentsOf (fun r => wpY_parentsOf (fun r' => r' = r ∧ i_Rel (k + 5) u v) v v1) u v1 := by
  obtain ⟨n, P, E, S, ff, gg, fx, sc, vs, us, ln, rfl, rfl, ok⟩ := I
  have hn := ok.2.1
  unfold wpX_parentsOf wpY_parentsOf
  dsimp only
  rcases st_ix3 v1 (n := n) (by omega) with hb | ⟨v, hv, rfl⟩
  · exact xw_goodF hn hb (br_t rfl (yw_badT ok hb (br_f (by decide) ⟨rfl, rl_rel ok⟩)))
  have hi : vp_in (nI v) 7 := vp_in_nI (by omega) (by decide)
  exact xw_goodT hn hv (br_f (by decide) (And.intro hi (yw_badF ok hv (br_t rfl (And.intro hi ⟨rfl, rl_rel ok⟩)))))
theorem i_vc_weight {k : Nat} {u : SX} {v : SY} (I : i_Rel k u v) (hk : k + 5 ≤ 2561) (v1 : Int32) : wpX_weight (fun r => wpY_weight (fun r' => r' = r ∧ i_Rel (k + 5) u v) v v1) u v1 := by
  obtain ⟨n, P, E, S, ff, gg, fx, sc, vs, us, ln, rfl, rfl, ok⟩ := I
  have hn := ok.2.1
  obtain ⟨h128, e2⟩ := yw_2n ok
  by_cases h0 : v1 < 0
  · exact br_t h0 (br_t h0 ⟨rfl, rl_rel ok⟩)
  obtain ⟨x, hx, rfl⟩ := nI_of h0
  by_cases h1 : nI x < (1 : Int32) <<< (nI n &&& 31)
  · exact br_f h0 (br_t h1 (xw_weightOf ok hx (br_f h0 (br_t h1 (yw_worth ok hx ⟨rfl, rl_rel ok⟩)))))
  · exact br_f h0 (br_f h1 (br_f h0 (br_f h1 ⟨rfl, rl_rel ok⟩)))
theorem i_vc_total {k : Nat} {u : SX} {v : SY} (I : i_Rel k u v) (hk : k + 5 ≤ 2561) : wpX_total (fun r u' => wpY_total (fun r' => r' = r ∧ i_Rel (k + 5) u' v) v) u := by
  obtain ⟨n, P, E, S, ff, gg, fx, sc, vs, us, ln, rfl, rfl, ok⟩ := I
  exact ou_total ok fun ff gg fx sc vs us => yw_total ok ⟨rfl, rl_rel ok⟩
theorem ow_val {v2 : Int32} (h : v2 < 0 ∨ nI 2 ≤ v2) : (¬ v2 = 0) ∧ (¬ v2 = 1) ∧ ((v2 < 0) ∨ (¬ v2 < 0 ∧ ¬ v2 ≤ 1)) := by
  refine ⟨fun e => ?_, fun e => ?_, ?_⟩
  · subst e
    exact absurd h (by decide)
  · subst e
    exact absurd h (by decide)
  · rcases h with h | h
    · exact Or.inl h
    · exact Or.inr ⟨fun z => absurd (Int32.lt_of_le_of_lt h z) (by decide), fun z => absurd (Int32.le_trans h z) (by decide)⟩
theorem ow_bvT {n : Nat} {P E S : Nat → Nat} {ln : Nat → Int32} {post : Int32 → Prop} {v2 : Int32} (h : v2 < 0 ∨ nI 2 ≤ v2) (hp : post 1) : wpY_badValue post (nI n, rl_a P, rl_a E, rl_a S, ln) v2 := by
  rcases (ow_val h).2.2 with q | ⟨q, q2⟩
  · exact br_t q hp
  · exact br_f q (br_f q2 hp)
theorem ow_bvF {n : Nat} {P E S : Nat → Nat} {ln : Nat → Int32} {post : Int32 → Prop} {a : Nat} (h : a < 2) (hp : post 0) : wpY_badValue post (nI n, rl_a P, rl_a E, rl_a S, ln) (nI a) := br_f (nI_pos (by omega)) (br_t (nI_le (b := 1) (by omega) (by decide)) hp)
theorem i_vc_totalWith {k : Nat} {u : SX} {v : SY} (I : i_Rel k u v) (hk : k + 5 ≤ 2561) (v1 : Int32) (v2 : Int32) : wpX_totalWith (fun r u' => wpY_totalWith (fun r' => r' = r ∧ i_Rel (k + 5) u' v) v v1 v2) u v1 v2 := by
  obtain ⟨n, P, E, S, ff, gg, fx, sc, vs, us, ln, rfl, rfl, ok⟩ := I
  have hn := ok.2.1
  rcases st_ix3 v1 (n := n) (by omega) with hb | ⟨v, hv, rfl⟩
  · unfold wpX_totalWith wpY_totalWith
    dsimp only
    exact xw_goodF hn hb (br_t rfl (yw_badT ok hb (br_f (by decide) ⟨rfl, rl_rel ok⟩)))
  rcases st_ix3 v2 (n := 2) (by decide) with hb | ⟨a, ha, rfl⟩
  · unfold wpX_totalWith wpY_totalWith
    dsimp only
    exact xw_goodT hn hv (br_f (by decide) (br_f (ow_val hb).1 (br_f (ow_val hb).2.1 (yw_badF ok hv (br_t rfl (ow_bvT hb (br_f (by decide) ⟨rfl, rl_rel ok⟩)))))))
  refine ou_totalWith ok hv (by omega) fun ff gg fx sc vs us => ?_
  unfold wpY_totalWith
  dsimp only
  exact yw_badF ok hv (br_t rfl (ow_bvF ha (br_t rfl (ou_ySum1 ok hv (by omega) ⟨rfl, rl_rel ok⟩))))
theorem i_vc_totalPair {k : Nat} {u : SX} {v : SY} (I : i_Rel k u v) (hk : k + 5 ≤ 2561) (v1 : Int32) (v2 : Int32) (v3 : Int32) (v4 : Int32) : wpX_totalPair (fun r u' => wpY_totalPair (fun r' => r' = r ∧ i_Rel (k + 5) u' v) v v1 v2 v3 v4) u v1 v2 v3 v4 := by
  obtain ⟨n, P, E, S, ff, gg, fx, sc, vs, us, ln, rfl, rfl, ok⟩ := I
  have hn := ok.2.1
  unfold wpX_totalPair wpY_totalPair
  dsimp only
  rcases st_ix3 v1 (n := n) (by omega) with hb | ⟨u, hu, rfl⟩
  · exact xw_goodF hn hb (br_t rfl (yw_badT ok hb (br_f (by decide) ⟨rfl, rl_rel ok⟩)))
  refine xw_goodT hn hu (br_f (by decide) ?_)
  rcases st_ix3 v3 (n := n) (by omega) with hb | ⟨v, hv, rfl⟩
  · exact xw_goodF hn hb (br_t rfl (yw_badF ok hu (br_t rfl (yw_badT ok hb (br_f (by decide) ⟨rfl, rl_rel ok⟩)))))
  refine xw_goodT hn hv (br_f (by decide) ?_)
  rcases st_ix3 v2 (n := 2) (by decide) with hb | ⟨a, ha, rfl⟩
  · rcases (ow_val hb).2.2 with q | ⟨q, q2⟩
    · exact br_t q (yw_badF ok hu (br_t rfl (yw_badF ok hv (br_t rfl (ow_bvT hb (br_f (by decide) ⟨rfl, rl_rel ok⟩))))))
    · exact br_f q (br_t (Int32.not_le.mp q2) (yw_badF ok hu (br_t rfl (yw_badF ok hv (br_t rfl (ow_bvT hb (br_f (by decide) ⟨rfl, rl_rel ok⟩)))))))
  have a0 : ¬ nI a < 0 := nI_pos (by omega)
  have a1 : ¬ (1 : Int32) < nI a := nI_nlt (a := 1) (by omega) (by decide)
  refine br_f a0 (br_f a1 ?_)
  rcases st_ix3 v4 (n := 2) (by decide) with hb | ⟨b, hb, rfl⟩
  · rcases (ow_val hb).2.2 with q | ⟨q, q2⟩
    · exact br_t q (yw_badF ok hu (br_t rfl (yw_badF ok hv (br_t rfl (ow_bvF ha (br_t rfl (ow_bvT hb (br_f (by decide) ⟨rfl, rl_rel ok⟩))))))))
    · exact br_f q (br_f q2 (yw_badF ok hu (br_t rfl (yw_badF ok hv (br_t rfl (ow_bvF ha (br_t rfl (ow_bvT hb (br_f (by decide) ⟨rfl, rl_rel ok⟩)))))))))
  refine br_f (nI_pos (by omega)) (br_t (nI_le (b := 1) (by omega) (by decide)) ?_)
  refine ou_pairSum ok hu (by omega) hv (by omega) fun ff gg fx sc vs us => ?_
  exact yw_badF ok hu (br_t rfl (yw_badF ok hv (br_t rfl (ow_bvF ha (br_t rfl (ow_bvF hb (br_t rfl (ou_ySum2 ok hu (by omega) hv (by omega) ⟨rfl, rl_rel ok⟩))))))))
theorem i_vc_best {k : Nat} {u : SX} {v : SY} (I : i_Rel k u v) (hk : k + 5 ≤ 2561) : wpX_best (fun r u' => wpY_best (fun r' => r' = r ∧ i_Rel (k + 5) u' v) v) u := by
  obtain ⟨n, P, E, S, ff, gg, fx, sc, vs, us, ln, rfl, rfl, ok⟩ := I
  refine ou_best ok fun ff gg fx sc vs us => ?_
  unfold wpY_best
  dsimp only
  exact yw_greatest ok ⟨rfl, rl_rel ok⟩
theorem i_vc_bestNumber {k : Nat} {u : SX} {v : SY} (I : i_Rel k u v) (hk : k + 5 ≤ 2561) : wpX_bestNumber (fun r u' => wpY_bestNumber (fun r' => r' = r ∧ i_Rel (k + 5) u' v) v) u := by
  obtain ⟨n, P, E, S, ff, gg, fx, sc, vs, us, ln, rfl, rfl, ok⟩ := I
  obtain ⟨x, B⟩ := bn_ex ok
  exact bn_xb ok B fun ff gg fx sc vs us => bn_yb ok B ⟨rfl, rl_rel ok⟩
theorem i_vc_bestWith {k : Nat} {u : SX} {v : SY} (I : i_Rel k u v) (hk : k + 5 ≤ 2561) (v1 : Int32) (v2 : Int32) : wpX_bestWith (fun r u' => wpY_bestWith (fun r' => r' = r ∧ i_Rel (k + 5) u' v) v v1 v2) u v1 v2 := by
  obtain ⟨n, P, E, S, ff, gg, fx, sc, vs, us, ln, rfl, rfl, ok⟩ := I
  have hn := ok.2.1
  unfold wpX_bestWith wpY_bestWith
  dsimp only
  rcases st_ix3 v1 (n := n) (by omega) with hb | ⟨v, hv, rfl⟩
  · exact xw_goodF hn hb (br_t rfl (yw_badT ok hb (br_f (by decide) ⟨rfl, rl_rel ok⟩)))
  refine xw_goodT hn hv (br_f (by decide) ?_)
  rcases st_ix3 v2 (n := 2) (by decide) with hb | ⟨a, ha, rfl⟩
  · exact br_f (ow_val hb).1 (br_f (ow_val hb).2.1 (yw_badF ok hv (br_t rfl (ow_bvT hb (br_f (by decide) ⟨rfl, rl_rel ok⟩)))))
  have hi : vp_in (nI v) 7 := vp_in_nI (by omega) (by decide)
  have hS := ok.2.2.2.2 v
  have es : rl_a S (nI v).toNatClampNeg = nI (S v) := rl_at (by omega)
  have X := ou_bw22 (ff := ff) (gg := gg) (fx := fx) (sc := sc) (vs := vs) (us := us) ok hv (show a ≤ 1 by omega) (post := fun r u' => wpY_bestWith (fun r' => r' = r ∧ i_Rel (k + 5) u' (nI n, rl_a P, rl_a E, rl_a S, ln)) (nI n, rl_a P, rl_a E, rl_a S, ln) (nI v) (nI a)) (fun e ff gg fx sc vs us => by
    unfold wpY_bestWith
    dsimp only
    refine yw_badF ok hv (br_t rfl (ow_bvF ha (br_t rfl (And.intro hi ?_))))
    rw [es]
    exact br_f (nI_ge (b := 2) (by omega) (by decide)) (And.intro hi (br_f (fun z => by
      rw [nI_eq (by omega) (by omega)] at z
      omega) ⟨rfl, rl_rel ok⟩))) (fun e ff gg fx sc vs us => by
    unfold wpY_bestWith
    dsimp only
    refine yw_badF ok hv (br_t rfl (ow_bvF ha (br_t rfl (And.intro hi ?_))))
    rw [es]
    have M : wpY_most (fun r => r = nI (xw_Z true n P E (rl_u S v a)) ∧ i_Rel (k + 5) (nI n, ff, gg, rl_a P, rl_a E, rl_a S, fx, sc, vs, us) (nI n, rl_a P, rl_a E, rl_a S, ln)) (nI n, rl_a P, rl_a E, rl_a S, ln) (nI v) (nI a) := ou_yMost ok hv (by omega) e ⟨rfl, rl_rel ok⟩
    exact pk_le 2 (S v) (fun _ => M) (fun h => And.intro hi (br_t (by rw [show S v = a by omega]) M)))
  unfold wpY_bestWith at X
  dsimp only at X
  rcases (show a = 0 ∨ a = 1 by omega) with e | e
  · subst e
    exact br_t rfl X
  · subst e
    exact br_f (by decide) (br_t rfl X)
theorem i_vc_separated {k : Nat} {u : SX} {v : SY} (I : i_Rel k u v) (hk : k + 5 ≤ 2561) (v1 : Int32) (v2 : Int32) : wpX_separated (fun r => wpY_separated (fun r' v' => r' = r ∧ i_Rel (k + 5) u v') v v1 v2) u v1 v2 := by
  obtain ⟨n, P, E, S, ff, gg, fx, sc, vs, us, ln, rfl, rfl, ok⟩ := I
  have hn := ok.2.1
  unfold wpX_separated wpY_separated
  dsimp only
  rcases st_ix3 v1 (n := n) (by omega) with hb | ⟨u, hu, rfl⟩
  · exact xw_goodF hn hb (br_t rfl (yw_badT ok hb (br_f (by decide) ⟨rfl, rl_rel ok⟩)))
  refine xw_goodT hn hu (br_f (by decide) ?_)
  rcases st_ix3 v2 (n := n) (by omega) with hb | ⟨v, hv, rfl⟩
  · exact xw_goodF hn hb (br_t rfl (yw_badF ok hu (br_t rfl (yw_badT ok hb (br_f (by decide) ⟨rfl, rl_rel ok⟩)))))
  refine xw_goodT hn hv (br_f (by decide) ?_)
  have iu : vp_in (nI u) 7 := vp_in_nI (by omega) (by decide)
  have iv : vp_in (nI v) 7 := vp_in_nI (by omega) (by decide)
  have su := ok.2.2.2.2 u
  have sv := ok.2.2.2.2 v
  rw [show rl_a S (nI u).toNatClampNeg = nI (S u) from rl_at (by omega), show rl_a S (nI v).toNatClampNeg = nI (S v) from rl_at (by omega)]
  by_cases e : nI u = nI v
  · exact br_t e (yw_badF ok hu (br_t rfl (yw_badF ok hv (br_t rfl (br_t e ⟨rfl, rl_rel ok⟩)))))
  refine br_f e (And.intro iu (pk_eq (S u) 2 (fun eu => And.intro iv (pk_eq (S v) 2 (fun ev => ?_) (fun ev => ?_))) (fun eu => ?_)))
  rotate_left
  · exact yw_badF ok hu (br_t rfl (yw_badF ok hv (br_t rfl (br_f e (And.intro iu (br_f (nI_nlt (b := 2) (by omega) (by omega)) (And.intro iv (br_f (nI_ge (b := 2) (by omega) (by decide)) ⟨rfl, rl_rel ok⟩))))))))
  · exact yw_badF ok hu (br_t rfl (yw_badF ok hv (br_t rfl (br_f e (And.intro iu (br_t (nI_lt (b := 2) (by omega) (by decide)) ⟨rfl, rl_rel ok⟩))))))
  refine xb_bounce ok hu ?_
  have hP : ∀ i, P i < 2 ^ i := fun i => (ok.2.2.1 i).1
  have b := ds_r_lt (Z := ds_z S n) hP hn hu 14
  have b2 := Nat.or_lt_two_pow (n := 7) b.1 b.2
  have zu : (ds_z S n).testBit u = false := by rw [ds_z_bit, eu]; simp
  have zv : (ds_z S n).testBit v = false := by rw [ds_z_bit, ev]; simp
  have M := ds_main hP hn hu hv (ds_z_lt S n) zu zv
  have Y : ∀ post : Int32 → SY → Prop, ((yb_R n P S u v).testBit v = true → ∀ ln, post 0 (nI n, rl_a P, rl_a E, rl_a S, ln)) → ((yb_R n P S u v).testBit v = false → ∀ ln, post 1 (nI n, rl_a P, rl_a E, rl_a S, ln)) → ∃ q, wY_separated_54 post (nI u) (nI v) (nI n) (rl_a P) (rl_a E) (rl_a S) ln q 0 0 := fun post h1 h0 => ⟨n + 1, yb_54 ok (yb_94 ok hu hv h1 h0) n 0 (Nat.zero_add n)⟩
  refine bi_br (by omega) (by omega) (fun h => ?_) (fun h => ?_)
  · rw [M] at h
    refine yw_badF ok hu (br_t rfl (yw_badF ok hv (br_t rfl (br_f e (And.intro iu (br_f (nI_nlt (b := 2) (by omega) (by omega)) (And.intro iv (br_t (nI_le (a := 2) (by omega) (by omega)) ?_))))))))
    exact Y _ (fun _ ln => ⟨rfl, rl_rel ok⟩) (fun h0 => absurd (h.symm.trans h0) (by decide))
  · rw [M] at h
    refine yw_badF ok hu (br_t rfl (yw_badF ok hv (br_t rfl (br_f e (And.intro iu (br_f (nI_nlt (b := 2) (by omega) (by omega)) (And.intro iv (br_t (nI_le (a := 2) (by omega) (by omega)) ?_))))))))
    exact Y _ (fun h0 => absurd (h.symm.trans h0) (by decide)) (fun _ ln => ⟨rfl, rl_rel ok⟩)
theorem i_vc_independent {k : Nat} {u : SX} {v : SY} (I : i_Rel k u v) (hk : k + 5 ≤ 2561) (v1 : Int32) (v2 : Int32) : wpX_independent (fun r u' => wpY_independent (fun r' => r' = r ∧ i_Rel (k + 5) u' v) v v1 v2) u v1 v2 := by
  obtain ⟨n, P, E, S, ff, gg, fx, sc, vs, us, ln, rfl, rfl, ok⟩ := I
  have hn := ok.2.1
  unfold wpX_independent wpY_independent
  dsimp only
  rcases st_ix3 v1 (n := n) (by omega) with hb | ⟨u, hu, rfl⟩
  · exact xw_goodF hn hb (br_t rfl (yw_badT ok hb (br_f (by decide) ⟨rfl, rl_rel ok⟩)))
  refine xw_goodT hn hu (br_f (by decide) ?_)
  rcases st_ix3 v2 (n := n) (by omega) with hb | ⟨v, hv, rfl⟩
  · exact xw_goodF hn hb (br_t rfl (yw_badF ok hu (br_t rfl (yw_badT ok hb (br_f (by decide) ⟨rfl, rl_rel ok⟩)))))
  refine xw_goodT hn hv (br_f (by decide) ?_)
  obtain ⟨r, hX, hY⟩ := ou_ind (ln := ln) ok hu hv (lN (xw_Z false n P E S)) 4 0 rfl
  refine ou_total ok fun ff gg fx sc vs us => ?_
  refine ⟨5, hX _ ff gg fx sc vs us fun ff gg fx sc vs us => ?_⟩
  refine yw_badF ok hu (br_t rfl (yw_badF ok hv (br_t rfl ?_)))
  refine yw_sum ok (u := 0) (a := 0) (v := 0) (b := 0) (by decide) (by decide) (by decide) (by decide) ?_
  refine yw_sum ok (u := 0) (a := 1) (v := 0) (b := 1) (by decide) (by decide) (by decide) (by decide) ?_
  have e := ag_halves (g := false) (c := fun x => ag_a S x n) (w := fun x => rl_w P E x n) 0 (2 ^ n)
  rw [ag_o_f] at e
  have d : ∀ b, yw_C n S 0 b 0 b = fun x => decide ((x.testBit 0).toNat = b) && ag_a S x n := fun b => funext fun x => yw_dup _ _
  intro al eal
  rw [lN_add, d, d, e] at eal
  subst eal
  exact ⟨5, hY _ ⟨rfl, rl_rel ok⟩⟩
theorem i_vc_blanket {k : Nat} {u : SX} {v : SY} (I : i_Rel k u v) (hk : k + 5 ≤ 2561) (v1 : Int32) : wpX_blanket (fun r => wpY_blanket (fun r' => r' = r ∧ i_Rel (k + 5) u v) v v1) u v1 := by
  obtain ⟨n, P, E, S, ff, gg, fx, sc, vs, us, ln, rfl, rfl, ok⟩ := I
  have hn := ok.2.1
  unfold wpX_blanket wpY_blanket
  dsimp only
  rcases st_ix3 v1 (n := n) (by omega) with hb | ⟨v, hv, rfl⟩
  · exact xw_goodF hn hb (br_t rfl (yw_badT ok hb (br_f (by decide) ⟨rfl, rl_rel ok⟩)))
  have hi : vp_in (nI v) 7 := vp_in_nI (by omega) (by decide)
  refine xw_goodT hn hv (br_f (by decide) (And.intro hi ?_))
  rw [rl_at (by omega)]
  intro a ea
  subst ea
  refine ⟨n + 1, bl_x ok (by omega) ?_ n 0 (Nat.zero_add n)⟩
  refine yw_badF ok hv (br_t rfl (And.intro hi ?_))
  intro a ea
  subst ea
  exact ⟨n + 1, bl_y ok (by omega) ⟨rfl, rl_rel ok⟩ n 0 (Nat.zero_add n)⟩
end

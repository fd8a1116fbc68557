section
theorem pk_us {f : Nat → Int32} {k : Nat} {x : Int32} : upd f k x k = x := if_pos rfl
theorem pk_un {f : Nat → Int32} {k j : Nat} {x : Int32} (h : j ≠ k) : upd f k x j = f j := if_neg h
theorem pk_sub {a b : Nat} (h : b ≤ a) : nI a - nI b = nI (a - b) := by
  obtain ⟨c, rfl⟩ : ∃ c, a = c + b := ⟨a - b, by omega⟩
  rw [← nI_add, Int32.add_sub_cancel, Nat.add_sub_cancel]
theorem pk_m1 (n : Nat) : nI (n + 1) + (-1) = nI n := by
  rw [← nI_1, Int32.add_assoc, show (1 : Int32) + (-1) = 0 from rfl, Int32.add_zero]
theorem pk_mul (a b : Nat) : nI a * nI b = nI (a * b) := (Int32.ofNat_mul a b).symm
theorem pk_div {a d : Nat} (ha : a < 2 ^ 31) (h0 : 0 < d) (hd : d < 2 ^ 31) : nI a / nI d = nI (a / d) := by
  apply Int32.toInt_inj.mp
  rw [lg_idiv_nonneg (by rw [nI_toInt ha]; omega) (by rw [nI_toInt hd]; omega), nI_toInt ha, nI_toInt hd, nI_toInt (Nat.lt_of_le_of_lt (Nat.div_le_self a d) ha)]
  first | rfl | exact (Int.natCast_ediv _ _).symm
theorem pk_rem {a d : Nat} (ha : a < 2 ^ 31) (h0 : 0 < d) (hd : d < 2 ^ 31) : nI a - nI a / nI d * nI d = nI (a % d) := by
  rw [pk_div ha h0 hd, pk_mul, pk_sub (Nat.div_mul_le_self a d)]
  exact congrArg nI (by have := Nat.div_add_mod' a d; omega)
theorem pk_sub_toInt {a b : Nat} (ha : a < 2 ^ 30) (hb : b < 2 ^ 30) : (nI a - nI b).toInt = (a : Int) - b := by
  rw [Int32.toInt_sub, nI_toInt (by omega), nI_toInt (by omega)]
  exact Int.bmod_eq_of_le (by omega) (by omega)
theorem pk_sneg {a b : Nat} (hb : b < 2 ^ 30) (h : a < b) : nI a - nI b < 0 := by
  rw [Int32.lt_iff_toInt_lt, pk_sub_toInt (by omega) hb, show (0 : Int32).toInt = 0 from by decide]
  omega
theorem pk_ix (x : Int32) {n : Nat} (hn : n < 2 ^ 31) : x < 0 ∨ nI n ≤ x ∨ ∃ j : Nat, j < n ∧ x = nI j := by
  by_cases h : x < 0
  · exact Or.inl h
  · obtain ⟨j, hj, rfl⟩ := nI_of h
    by_cases h2 : j < n
    · exact Or.inr (Or.inr ⟨j, h2, rfl⟩)
    · exact Or.inr (Or.inl (nI_le (by omega) hj))
theorem pk_le {x y : Int32} {A B : Prop} (a b : Nat) (f : a ≤ b → A) (g : b < a → B) (hx : x = nI a := by rfl) (hy : y = nI b := by rfl) (ha : a < 2 ^ 31 := by omega) (hb : b < 2 ^ 31 := by omega) : (x ≤ y → A) ∧ (¬ x ≤ y → B) := by
  subst hx hy
  rw [nI_leI ha hb]
  exact ⟨f, fun z => g (by omega)⟩
theorem pk_lt {x y : Int32} {A B : Prop} (a b : Nat) (f : a < b → A) (g : b ≤ a → B) (hx : x = nI a := by rfl) (hy : y = nI b := by rfl) (ha : a < 2 ^ 31 := by omega) (hb : b < 2 ^ 31 := by omega) : (x < y → A) ∧ (¬ x < y → B) := by
  subst hx hy
  rw [nI_ltI ha hb]
  exact ⟨f, fun z => g (by omega)⟩
theorem pk_eq {x y : Int32} {A B : Prop} (a b : Nat) (f : a = b → A) (g : a ≠ b → B) (hx : x = nI a := by rfl) (hy : y = nI b := by rfl) (ha : a < 2 ^ 31 := by omega) (hb : b < 2 ^ 31 := by omega) : (x = y → A) ∧ (¬ x = y → B) := by
  subst hx hy
  rw [nI_eq ha hb]
  exact ⟨f, g⟩
theorem pk_in {x : Int32} (n N : Nat) (h : n < N) (hx : x = nI n := by rfl) (hN : N < 2 ^ 31 := by omega) : vp_in x N := by
  subst hx
  exact vp_in_nI h hN
theorem pk_cl {x : Int32} (n : Nat) (hx : x = nI n := by rfl) (h : n < 2 ^ 31 := by omega) : x.toNatClampNeg = n := by
  subst hx
  exact nI_clamp h
theorem pk_tn {n : Nat} (h : n < 2 ^ 32) : (nI n).toBitVec.toNat = n := Nat.mod_eq_of_lt h
theorem pk_and (x : Int32) {m : Int32} (k : Nat) (hm : m.toBitVec.toNat = 2 ^ k - 1) : x &&& m = nI (x.toBitVec.toNat % 2 ^ k) := by
  apply Int32.toBitVec_inj.mp
  apply BitVec.eq_of_toNat_eq
  rw [Int32.toBitVec_and, BitVec.toNat_and, hm, Nat.and_two_pow_sub_one_eq_mod]
  show _ = (BitVec.ofNat 32 _).toNat
  rw [BitVec.toNat_ofNat]
  exact (Nat.mod_eq_of_lt (Nat.lt_of_le_of_lt (Nat.mod_le _ _) x.toBitVec.isLt)).symm
theorem pk_andN {n : Nat} (h : n < 2 ^ 32) {m : Int32} (k : Nat) (hm : m.toBitVec.toNat = 2 ^ k - 1) : nI n &&& m = nI (n % 2 ^ k) := by
  rw [pk_and _ k hm, pk_tn h]
theorem pk_andE (x : Int32) {m : Int32} (k : Nat) (hm : m.toBitVec.toNat = 2 ^ k - 1) : ∃ j : Nat, j < 2 ^ k ∧ x &&& m = nI j := ⟨_, Nat.mod_lt _ (Nat.two_pow_pos k), pk_and x k hm⟩
theorem pk_andIn (x : Int32) {m : Int32} (k : Nat) (hm : m.toBitVec.toNat = 2 ^ k - 1) (hk : k ≤ 30) : vp_in (x &&& m) (2 ^ k) := by
  obtain ⟨j, hj, e⟩ := pk_andE x k hm
  rw [e]
  exact vp_in_nI hj (Nat.lt_of_le_of_lt (Nat.pow_le_pow_right (by decide) hk) (by decide))
theorem pk_shl (a s : Int32) (k : Nat) (hs : (s.toBitVec.smod 32).toNat = k) : (a <<< s).toBitVec.toNat = a.toBitVec.toNat * 2 ^ k % 2 ^ 32 := by
  show (a.toBitVec <<< (s.toBitVec.smod 32).toNat).toNat = _
  rw [hs, BitVec.toNat_shiftLeft, Nat.shiftLeft_eq]
theorem pk_shlN {n : Nat} (s : Int32) (k : Nat) (hs : (s.toBitVec.smod 32).toNat = k) (h : n * 2 ^ k < 2 ^ 32) : nI n <<< s = nI (n * 2 ^ k) := by
  apply Int32.toBitVec_inj.mp
  apply BitVec.eq_of_toNat_eq
  have hn : n < 2 ^ 32 := Nat.lt_of_le_of_lt (Nat.le_mul_of_pos_right n (Nat.two_pow_pos k)) h
  rw [pk_shl _ _ k hs, pk_tn hn, pk_tn h, Nat.mod_eq_of_lt h]
theorem pk_shr (a s : Int32) (k : Nat) (hs : (s.toBitVec.smod 32).toNat = k) : (a >>> s).toInt = a.toInt >>> k := by
  show (a.toBitVec.sshiftRight (s.toBitVec.smod 32).toNat).toInt = _
  rw [hs, BitVec.toInt_sshiftRight]
  rfl
theorem pk_shrN {n : Nat} (h : n < 2 ^ 31) (s : Int32) (k : Nat) (hs : (s.toBitVec.smod 32).toNat = k) : nI n >>> s = nI (n / 2 ^ k) := by
  apply Int32.toInt_inj.mp
  have h2 : n / 2 ^ k ≤ n := Nat.div_le_self _ _
  rw [pk_shr _ _ k hs, nI_toInt h, nI_toInt (by omega), Int.shiftRight_eq_div_pow]
  rfl
theorem pk_ushr (x s : Int32) (k : Nat) (hs : ((s.toUInt32 &&& Int32.toUInt32 31).toBitVec % 32).toNat = k) : (x.toUInt32 >>> (s.toUInt32 &&& Int32.toUInt32 31)).toInt32.toBitVec.toNat = x.toBitVec.toNat / 2 ^ k := by
  have e : (x.toUInt32 >>> (s.toUInt32 &&& Int32.toUInt32 31)).toInt32.toBitVec = x.toBitVec >>> k := by
    rw [← hs]
    exact UInt32.toBitVec_shiftRight _ _
  rw [e, BitVec.toNat_ushiftRight, Nat.shiftRight_eq_div_pow]
theorem pk_ushrN {n : Nat} (hn : n < 2 ^ 32) (s : Int32) (k : Nat) (hs : ((s.toUInt32 &&& Int32.toUInt32 31).toBitVec % 32).toNat = k) : ((nI n).toUInt32 >>> (s.toUInt32 &&& Int32.toUInt32 31)).toInt32 = nI (n / 2 ^ k) := by
  apply Int32.toBitVec_inj.mp
  apply BitVec.eq_of_toNat_eq
  rw [pk_ushr _ s k hs, pk_tn hn, pk_tn (Nat.lt_of_le_of_lt (Nat.div_le_self _ _) hn)]
def bt (x : Int32) (i : Nat) : Bool := x.toBitVec.getLsbD i
theorem b_ext {x y : Int32} (h : ∀ i, i < 32 → bt x i = bt y i) : x = y := Int32.toBitVec_inj.mp (BitVec.eq_of_getLsbD_eq (fun i hi => h i hi))
theorem b_or (x y : Int32) (i : Nat) : bt (x ||| y) i = (bt x i || bt y i) := by unfold bt; rw [Int32.toBitVec_or, BitVec.getLsbD_or]
theorem b_and (x y : Int32) (i : Nat) : bt (x &&& y) i = (bt x i && bt y i) := by unfold bt; rw [Int32.toBitVec_and, BitVec.getLsbD_and]
theorem b_xor (x y : Int32) (i : Nat) : bt (x ^^^ y) i = (bt x i ^^ bt y i) := by unfold bt; rw [Int32.toBitVec_xor, BitVec.getLsbD_xor]
theorem b_big {x : Int32} {i : Nat} (h : 32 ≤ i) : bt x i = false := BitVec.getLsbD_of_ge _ _ h
theorem b_m1 : ∀ i, i < 32 → bt (-1) i = true := by decide +kernel
theorem b_0 (i : Nat) : bt 0 i = false := BitVec.getLsbD_zero
theorem s_l : ∀ n, n < 32 → ((nI n &&& 31).toBitVec.smod 32).toNat = n := by decide +kernel
theorem s_u : ∀ n, n < 32 → (((nI n).toUInt32 &&& Int32.toUInt32 31).toBitVec % 32).toNat = n := by decide +kernel
theorem b_shl (n : Nat) (hn : n < 32) (x : Int32) {i : Nat} (hi : i < 32) : bt (x <<< (nI n &&& 31)) i = (decide (n ≤ i) && bt x (i - n)) := by
  unfold bt
  rw [Int32.toBitVec_shiftLeft]
  show (x.toBitVec <<< ((nI n &&& 31).toBitVec.smod 32).toNat).getLsbD i = _
  rw [s_l n hn, BitVec.getLsbD_shiftLeft]
  rcases Nat.lt_or_ge i n with h | h
  · simp [h, Nat.not_le.mpr h]
  · simp [hi, h, Nat.not_lt.mpr h]
theorem b_ushr (n : Nat) (hn : n < 32) (x : Int32) (i : Nat) : bt ((x.toUInt32 >>> ((nI n).toUInt32 &&& Int32.toUInt32 31)).toInt32) i = bt x (n + i) := by
  show (x.toUInt32 >>> ((nI n).toUInt32 &&& Int32.toUInt32 31)).toBitVec.getLsbD i = x.toUInt32.toBitVec.getLsbD (n + i)
  rw [UInt32.toBitVec_shiftRight]
  show (x.toUInt32.toBitVec >>> (((nI n).toUInt32 &&& Int32.toUInt32 31).toBitVec % 32).toNat).getLsbD i = _
  rw [s_u n hn, BitVec.getLsbD_ushiftRight]
theorem b_sshr (n : Nat) (hn : n < 32) (x : Int32) {i : Nat} (hi : i < 32) : bt (x >>> (nI n &&& 31)) i = if n + i < 32 then bt x (n + i) else bt x 31 := by
  unfold bt
  rw [Int32.toBitVec_shiftRight]
  show (x.toBitVec.sshiftRight ((nI n &&& 31).toBitVec.smod 32).toNat).getLsbD i = _
  rw [s_l n hn, BitVec.getLsbD_sshiftRight, BitVec.msb_eq_getLsbD_last]
  simp [hi]
theorem nx_and (a b : Nat) : nI a &&& nI b = nI (a &&& b) := by
  apply Int32.toBitVec_inj.1
  show BitVec.ofNat 32 a &&& BitVec.ofNat 32 b = BitVec.ofNat 32 (a &&& b)
  apply BitVec.eq_of_getLsbD_eq
  intro i hi
  simp [hi]
theorem ts_nf {x : Bool} (h : ¬ x = false) : x = true := by cases x <;> first | rfl | exact absurd rfl h
theorem ts_nt {x : Bool} (h : ¬ x = true) : x = false := by cases x <;> first | rfl | exact absurd rfl h
end
section
/-! bits of masks: the printed tests by bt -/
theorem zb_tf {b : Bool} (h : ¬ b = true) : b = false := by cases b <;> first | rfl | exact absurd rfl h
theorem zb_ft {b : Bool} (h : ¬ b = false) : b = true := by cases b <;> first | rfl | exact absurd rfl h
theorem zb_lt {x : Int32} {i : Nat} (h : bt x i = true) : i < 32 := by
  rcases Nat.lt_or_ge i 32 with z | z
  · exact z
  · rw [b_big z] at h; cases h
theorem zb_bit {k : Nat} (hk : k < 32) (i : Nat) : bt ((1 : Int32) <<< (nI k &&& 31)) i = decide (i = k) := by
  rcases Nat.lt_or_ge i 32 with z | z
  · exact (by decide +kernel : ∀ k, k < 32 → ∀ i, i < 32 → bt ((1 : Int32) <<< (nI k &&& 31)) i = decide (i = k)) k hk i z
  · rw [b_big z, decide_eq_false (by omega)]
theorem zb_eq0 {x : Int32} : x = 0 ↔ ∀ i, bt x i = false :=
  ⟨fun h i => by rw [h, b_0], fun h => b_ext (fun i _ => by rw [h i, b_0])⟩
theorem zb_ne0 {x : Int32} : ¬ x = 0 ↔ ∃ i, bt x i = true := by
  constructor
  · intro h
    apply Classical.byContradiction
    intro hn
    exact h (zb_eq0.mpr fun i => zb_tf fun z => hn ⟨i, z⟩)
  · intro ⟨i, hi⟩ h
    rw [h, b_0] at hi
    cases hi
theorem zb_not (x : Int32) {i : Nat} (hi : i < 32) : bt (x ^^^ (-1)) i = !bt x i := by
  rw [b_xor, b_m1 i hi]; cases bt x i <;> rfl
theorem zb_clr (x y : Int32) (i : Nat) : bt (x &&& (y ^^^ (-1))) i = (bt x i && !bt y i) := by
  rw [b_and]
  rcases Nat.lt_or_ge i 32 with z | z
  · rw [zb_not y z]
  · rw [b_big (x := x) z, Bool.false_and, Bool.false_and]
theorem zb_and0 {x y : Int32} : x &&& y = 0 ↔ ∀ i, bt x i = true → bt y i = true → False := by
  rw [zb_eq0]
  constructor
  · intro h i h1 h2
    have := h i
    rw [b_and, h1, h2] at this
    cases this
  · intro h i
    rw [b_and]
    cases h1 : bt x i
    · rfl
    · cases h2 : bt y i
      · rfl
      · exact (h i h1 h2).elim
theorem zb_and0n {x y : Int32} : ¬ x &&& y = 0 ↔ ∃ i, bt x i = true ∧ bt y i = true := by
  rw [zb_ne0]
  constructor
  · intro ⟨i, hi⟩
    rw [b_and, Bool.and_eq_true] at hi
    exact ⟨i, hi⟩
  · intro ⟨i, h1, h2⟩
    exact ⟨i, by rw [b_and, h1, h2]; rfl⟩
theorem zb_and1 {x : Int32} {k : Nat} (hk : k < 32) : x &&& ((1 : Int32) <<< (nI k &&& 31)) = 0 ↔ bt x k = false := by
  rw [zb_and0]
  constructor
  · intro h
    exact zb_tf fun z => h k z (by rw [zb_bit hk, decide_eq_true rfl])
  · intro h i h1 h2
    rw [zb_bit hk, decide_eq_true_eq] at h2
    rw [h2, h] at h1
    cases h1
theorem zb_shrv {x : Int32} {k : Nat} (hk : k < 32) : (x >>> (nI k &&& 31)) &&& 1 = if bt x k = true then 1 else 0 := by
  apply b_ext
  intro i hi
  rw [b_and, b_sshr k hk x hi]
  by_cases h0 : i = 0
  · subst h0
    rw [if_pos (by omega)]
    simp only [Nat.add_zero]
    cases bt x k <;> decide +kernel
  · have h1 : bt 1 i = false := (by decide +kernel : ∀ i, i < 32 → i ≠ 0 → bt 1 i = false) i hi h0
    rw [h1, Bool.and_false]
    cases bt x k
    · rw [if_neg (by decide), b_0]
    · rw [if_pos rfl, h1]
theorem zb_shr1 {x : Int32} {k : Nat} (hk : k < 32) : (x >>> (nI k &&& 31)) &&& 1 = 0 ↔ bt x k = false := by
  rw [zb_shrv hk]
  cases bt x k <;> decide
theorem zb_ushrv {x : Int32} {k : Nat} (hk : k < 32) : (x.toUInt32 >>> ((nI k).toUInt32 &&& Int32.toUInt32 31)).toInt32 &&& 1 = if bt x k = true then 1 else 0 := by
  apply b_ext
  intro i hi
  rw [b_and, b_ushr k hk x i]
  by_cases h0 : i = 0
  · subst h0
    simp only [Nat.add_zero]
    cases bt x k <;> decide +kernel
  · have h1 : bt 1 i = false := (by decide +kernel : ∀ i, i < 32 → i ≠ 0 → bt 1 i = false) i hi h0
    rw [h1, Bool.and_false]
    cases bt x k
    · rw [if_neg (by decide), b_0]
    · rw [if_pos rfl, h1]
theorem zb_mask {n : Nat} (h : n ≤ 24) (i : Nat) : bt (((1 : Int32) <<< (nI n &&& 31)) - 1) i = decide (i < n) := by
  rcases Nat.lt_or_ge i 32 with z | z
  · exact (by decide +kernel : ∀ n, n < 25 → ∀ i, i < 32 → bt (((1 : Int32) <<< (nI n &&& 31)) - 1) i = decide (i < n)) n (by omega) i z
  · rw [b_big z, decide_eq_false (by omega)]
theorem zb_sub {x y : Int32} : x &&& (y ^^^ (-1)) = 0 ↔ ∀ i, bt x i = true → bt y i = true := by
  rw [zb_eq0]
  constructor
  · intro h i hi
    have := h i
    rw [zb_clr, hi, Bool.true_and] at this
    cases hy : bt y i
    · rw [hy] at this; cases this
    · rfl
  · intro h i
    rw [zb_clr]
    cases hx : bt x i
    · rfl
    · rw [h i hx]; rfl
theorem zb_1023 (i : Nat) : bt 1023 i = decide (i < 10) := by
  rcases Nat.lt_or_ge i 32 with z | z
  · exact (by decide +kernel : ∀ i, i < 32 → bt 1023 i = decide (i < 10)) i z
  · rw [b_big z, decide_eq_false (by omega)]
theorem zb_g24 (i : Nat) : bt 16777216 i = decide (i = 24) := by
  rcases Nat.lt_or_ge i 32 with z | z
  · exact (by decide +kernel : ∀ i, i < 32 → bt 16777216 i = decide (i = 24)) i z
  · rw [b_big z, decide_eq_false (by omega)]
/-! masks over ten bits -/
theorem zb_small {x : Int32} (h : ∀ i, bt x i = true → i < 10) : ∃ a, a < 1024 ∧ x = nI a := by
  refine ⟨x.toBitVec.toNat, ?_, Int32.toBitVec_inj.mp (by show _ = BitVec.ofNat 32 _; simp)⟩
  exact Nat.lt_pow_two_of_testBit (n := 10) _ (fun i hi => zb_tf fun z => by
    have := h i z
    omega)
theorem zb_nI {a : Nat} (h : a < 2 ^ 31) (i : Nat) : bt (nI a) i = a.testBit i := by
  show (BitVec.ofNat 32 a).toNat.testBit i = _
  rw [BitVec.toNat_ofNat, Nat.mod_eq_of_lt (by omega)]
theorem zb_t1 : ∀ a, a < 1024 → ((a &&& (a - 1) = 0) ↔ ∀ i, i < 10 → ∀ j, j < 10 → a.testBit i = true → a.testBit j = true → i = j) := by decide +kernel
theorem zb_one {x : Int32} (h : ∀ i, bt x i = true → i < 10) : x &&& (x - 1) = 0 ↔ ∀ i j, bt x i = true → bt x j = true → i = j := by
  obtain ⟨a, ha, rfl⟩ := zb_small h
  have key : nI a &&& (nI a - 1) = 0 ↔ a &&& (a - 1) = 0 := by
    cases a with
    | zero => decide
    | succ b =>
      have hl : (b + 1) &&& b ≤ b := Nat.and_le_right
      rw [nI_pred, nx_and, ← nI_0, nI_eq (by omega) (by omega)]
      rfl
  rw [key, zb_t1 a ha]
  constructor
  · intro H i j hi hj
    have h1 := h i hi
    have h2 := h j hj
    rw [zb_nI (by omega)] at hi hj
    exact H i h1 j h2 hi hj
  · intro H i _ j _ hi hj
    exact H i j (by rw [zb_nI (by omega)]; exact hi) (by rw [zb_nI (by omega)]; exact hj)
theorem zb_low {x : Int32} (h : ∀ i, bt x i = true → i < 10) (h0 : ¬ x = 0) : ∃ i, i < 10 ∧ bt x i = true ∧ x &&& (-x) = (1 : Int32) <<< (nI i &&& 31) := by
  obtain ⟨a, ha, rfl⟩ := zb_small h
  have ha0 : a ≠ 0 := by intro z; subst z; exact h0 nI_0
  exact (by decide +kernel : ∀ a, a < 1024 → a ≠ 0 → ∃ i, i < 10 ∧ bt (nI a) i = true ∧ nI a &&& (-(nI a)) = (1 : Int32) <<< (nI i &&& 31)) a ha ha0
/-- the least bit -/
theorem zb_least {x : Int32} (h0 : ¬ x = 0) : ∃ i, bt x i = true ∧ ∀ j, j < i → bt x j = false := by
  obtain ⟨i, hi⟩ := zb_ne0.mp h0
  have key : ∀ n i, i < n → bt x i = true → ∃ i, bt x i = true ∧ ∀ j, j < i → bt x j = false := by
    intro n
    induction n with
    | zero => intro i h; omega
    | succ n ih =>
      intro i hn hi
      rcases Classical.em (∃ j, j < i ∧ bt x j = true) with ⟨j, hj, hb⟩ | hno
      · exact ih j (by omega) hb
      · exact ⟨i, hi, fun j hj => zb_tf fun z => hno ⟨j, hj, z⟩⟩
  exact key (i + 1) i (by omega) hi
/-! ints of any sign -/
theorem zi_le {x y : Int32} : x ≤ y ↔ x.toInt ≤ y.toInt := Int32.le_iff_toInt_le
theorem zi_lt {x y : Int32} : x < y ↔ x.toInt < y.toInt := Int32.lt_iff_toInt_lt
theorem zi_0 : (0 : Int32).toInt = 0 := by decide
theorem zi_m1 : (-1 : Int32).toInt = -1 := by decide
theorem zi_add {x y : Int32} (h1 : -2147483648 ≤ x.toInt + y.toInt) (h2 : x.toInt + y.toInt < 2147483648) : (x + y).toInt = x.toInt + y.toInt := Jvm.Kit.i32_add (by omega) (by omega)
theorem zi_sub {x y : Int32} (h1 : -2147483648 ≤ x.toInt - y.toInt) (h2 : x.toInt - y.toInt < 2147483648) : (x - y).toInt = x.toInt - y.toInt := Jvm.Kit.i32_sub (by omega) (by omega)
theorem zi_neg {x : Int32} (h : -2147483648 < x.toInt) : (-x).toInt = -x.toInt := Jvm.Kit.i32_neg (by omega)
theorem zi_nI {n : Nat} (h : n < 2147483648) : (nI n).toInt = (n : Int) := nI_toInt (by omega)
theorem zi_in {x : Int32} {n : Nat} (h : vp_in x n) : x.toNatClampNeg < n ∧ x = nI x.toNatClampNeg ∧ x.toInt = (x.toNatClampNeg : Int) := by
  have hx := Int32.toInt_lt x
  obtain ⟨h1, h2⟩ := vp_in_iff.mp h
  have hc : x.toNatClampNeg = x.toInt.toNat := rfl
  refine ⟨by omega, ?_, by omega⟩
  apply Int32.toInt_inj.mp
  rw [nI_toInt (by omega)]
  omega
end
section
/-! pigeonhole -/
theorem zc_php : ∀ (N : Nat) (f : Nat → Nat) (c : Nat), (∀ i, i < c → f i < N) → (∀ i j, i < c → j < c → f i = f j → i = j) → c ≤ N
  | 0, f, c, h, _ => by
    rcases Nat.eq_zero_or_pos c with z | z
    · omega
    · have := h 0 z; omega
  | N + 1, f, c, h, hi => by
    rcases Classical.em (∃ p, p < c ∧ f p = N) with ⟨p, hp, hf⟩ | hno
    · have a : ∀ i, i < c - 1 → (if i = p then f (c - 1) else f i) < N := by
        intro i hic
        by_cases e : i = p
        · rw [if_pos e]
          have h1 := h (c - 1) (by omega)
          have h2 : f (c - 1) ≠ N := by
            intro z
            have := hi (c - 1) p (by omega) hp (by rw [z, hf])
            omega
          omega
        · rw [if_neg e]
          have h1 := h i (by omega)
          have h2 : f i ≠ N := by
            intro z
            exact e (hi i p (by omega) hp (by rw [z, hf]))
          omega
      have b : ∀ i j, i < c - 1 → j < c - 1 → (if i = p then f (c - 1) else f i) = (if j = p then f (c - 1) else f j) → i = j := by
        intro i j hic hjc
        by_cases e : i = p
        · by_cases e' : j = p
          · omega
          · rw [if_pos e, if_neg e']
            intro z
            have := hi (c - 1) j (by omega) (by omega) z
            omega
        · by_cases e' : j = p
          · rw [if_neg e, if_pos e']
            intro z
            have := hi i (c - 1) (by omega) (by omega) z
            omega
          · rw [if_neg e, if_neg e']
            exact hi i j (by omega) (by omega)
      have := zc_php N _ (c - 1) a b
      omega
    · have := zc_php N f c (fun i hc => by
        have h1 := h i hc
        have h2 : f i ≠ N := fun z => hno ⟨i, hc, z⟩
        omega) hi
      omega
theorem zc_all {N : Nat} {f : Nat → Nat} (h : ∀ i, i < N → f i < N) (hi : ∀ i j, i < N → j < N → f i = f j → i = j) : ∀ j, j < N → ∃ i, i < N ∧ f i = j := by
  intro j hj
  apply Classical.byContradiction
  intro hno
  have hn : ∀ i, i < N → f i ≠ j := fun i hi z => hno ⟨i, hi, z⟩
  have := zc_php N (fun i => if i = N then j else f i) (N + 1) (fun i hic => by
      by_cases e : i = N
      · simp only [if_pos e]; exact hj
      · simp only [if_neg e]; exact h i (by omega)) (fun a b ha hb => by
      by_cases e : a = N
      · by_cases e' : b = N
        · omega
        · simp only [if_pos e, if_neg e']
          intro z
          exact (hn b (by omega) z.symm).elim
      · by_cases e' : b = N
        · simp only [if_neg e, if_pos e']
          intro z
          exact (hn a (by omega) z).elim
        · simp only [if_neg e, if_neg e']
          exact hi a b (by omega) (by omega))
  omega
/-! difference systems: E a b w says s b ≤ s a + w -/
def gs_Sol (E : Nat → Nat → Int → Prop) (s : Nat → Int) : Prop := ∀ a b w, E a b w → s b ≤ s a + w
def gs_Gr (E : Nat → Nat → Int → Prop) (s : Nat → Int) : Prop := gs_Sol E s ∧ (∀ v, s v ≤ 0) ∧ ∀ t, gs_Sol E t → (∀ v, t v ≤ 0) → ∀ v, t v ≤ s v
/-- a set of ints with a least natural distance below 0 has a greatest member -/
theorem gs_max {P : Int → Prop} (h : ∃ x, P x) (hb : ∀ x, P x → x ≤ 0) : ∃ x, P x ∧ ∀ y, P y → y ≤ x := by
  obtain ⟨x0, h0⟩ := h
  have key : ∀ n : Nat, ∀ x, P x → (-x).toNat < n → ∃ x, P x ∧ ∀ y, P y → y ≤ x := by
    intro n
    induction n with
    | zero => intro x _ h; omega
    | succ n ih =>
      intro x hx hn
      rcases Classical.em (∃ y, P y ∧ x < y) with ⟨y, hy, hxy⟩ | hno
      · have := hb y hy
        exact ih y hy (by omega)
      · exact ⟨x, hx, fun y hy => by
          rcases Int.lt_or_le x y with z | z
          · exact (hno ⟨y, hy, z⟩).elim
          · exact z⟩
  exact key _ x0 h0 (Nat.lt_succ_self _)
theorem gs_bnd (s : Nat → Int) : ∀ N : Nat, ∃ M : Int, ∀ v, v < N → s v ≤ M
  | 0 => ⟨0, fun v h => by omega⟩
  | N + 1 => by
    obtain ⟨M, hM⟩ := gs_bnd s N
    rcases Int.lt_or_le M (s N) with z | z
    · exact ⟨s N, fun v hv => by
        rcases Nat.lt_or_ge v N with y | y
        · have := hM v y; omega
        · have : v = N := by omega
          rw [this]; exact Int.le_refl _⟩
    · exact ⟨M, fun v hv => by
        rcases Nat.lt_or_ge v N with y | y
        · exact hM v y
        · have : v = N := by omega
          rw [this]; exact z⟩
theorem gs_ex {E : Nat → Nat → Int → Prop} (hE : ∀ a b w, E a b w → a < 8 ∧ b < 8) (h : ∃ s, gs_Sol E s) : ∃ s, gs_Gr E s := by
  obtain ⟨s0, h0⟩ := h
  obtain ⟨M, hM⟩ := gs_bnd s0 8
  have h1 : gs_Sol E (fun v => if v < 8 then s0 v - M else 0) := by
    intro a b w e
    obtain ⟨ha, hb⟩ := hE a b w e
    have := h0 a b w e
    simp only [if_pos ha, if_pos hb]
    omega
  have h2 : ∀ v, (fun v => if v < 8 then s0 v - M else 0 : Nat → Int) v ≤ 0 := by
    intro v
    by_cases hv : v < 8
    · have := hM v hv
      simp only [if_pos hv]
      omega
    · simp only [if_neg hv]; exact Int.le_refl _
  have key : ∀ v, ∃ x, (∃ t, gs_Sol E t ∧ (∀ u, t u ≤ 0) ∧ t v = x) ∧ ∀ y, (∃ t, gs_Sol E t ∧ (∀ u, t u ≤ 0) ∧ t v = y) → y ≤ x :=
    fun v => gs_max ⟨_, _, h1, h2, rfl⟩ (fun x ⟨t, _, ht, e⟩ => by rw [← e]; exact ht v)
  refine ⟨fun v => Classical.choose (key v), ?_, ?_, ?_⟩
  · intro a b w e
    obtain ⟨⟨t, ht, ht0, hb⟩, _⟩ := Classical.choose_spec (key b)
    have h3 := (Classical.choose_spec (key a)).2 (t a) ⟨t, ht, ht0, rfl⟩
    have h4 := ht a b w e
    show Classical.choose (key b) ≤ Classical.choose (key a) + w
    rw [← hb]
    omega
  · intro v
    obtain ⟨⟨t, ht, ht0, hb⟩, _⟩ := Classical.choose_spec (key v)
    show Classical.choose (key v) ≤ 0
    rw [← hb]
    exact ht0 v
  · intro t ht ht0 v
    exact (Classical.choose_spec (key v)).2 (t v) ⟨t, ht, ht0, rfl⟩
theorem gs_uniq {E : Nat → Nat → Int → Prop} {s t : Nat → Int} (h : gs_Gr E s) (h' : gs_Gr E t) (v : Nat) : s v = t v := by
  have a := h.2.2 t h'.1 h'.2.1 v
  have b := h'.2.2 s h.1 h.2.1 v
  omega
/-- no set of vertices can be raised -/
theorem gs_raise {E : Nat → Nat → Int → Prop} {s : Nat → Int} (h : gs_Gr E s) (S : Nat → Prop) (hn : ∀ v, S v → s v < 0) (he : ∀ a b w, E a b w → ¬ S a → S b → s b < s a + w) : ∀ v, ¬ S v := by
  intro v hv
  have key := h.2.2 (fun v => @ite Int (S v) (Classical.propDecidable _) (s v + 1) (s v)) (by
    intro a b w e
    have h1 := h.1 a b w e
    show @ite Int (S b) (Classical.propDecidable _) (s b + 1) (s b) ≤ @ite Int (S a) (Classical.propDecidable _) (s a + 1) (s a) + w
    rcases Classical.em (S a) with ha | ha
    · rw [if_pos ha]
      rcases Classical.em (S b) with hb | hb
      · rw [if_pos hb]; omega
      · rw [if_neg hb]; omega
    · rw [if_neg ha]
      rcases Classical.em (S b) with hb | hb
      · rw [if_pos hb]
        have := he a b w e ha hb
        omega
      · rw [if_neg hb]; exact h1) (by
    intro u
    show @ite Int (S u) (Classical.propDecidable _) (s u + 1) (s u) ≤ 0
    rcases Classical.em (S u) with hu | hu
    · rw [if_pos hu]; have := hn u hu; omega
    · rw [if_neg hu]; exact h.2.1 u) v
  have key' : @ite Int (S v) (Classical.propDecidable _) (s v + 1) (s v) ≤ s v := key
  rw [if_pos hv] at key'
  omega
/-- the greatest solution lies above -707 -/
theorem gs_low {E : Nat → Nat → Int → Prop} {s : Nat → Int} (h : gs_Gr E s) (hE : ∀ a b w, E a b w → a < 8 ∧ b < 8 ∧ -101 ≤ w) (v : Nat) : -707 ≤ s v := by
  apply Classical.byContradiction
  intro hv
  have hgap : ∀ j : Nat, j < 7 → ∃ u, u < 8 ∧ -(101 * ((j : Int) + 1)) ≤ s u ∧ s u < -(101 * (j : Int)) := by
    intro j hj
    apply Classical.byContradiction
    intro hno
    have hn : ∀ u, u < 8 → s u < -(101 * (j : Int)) → s u < -(101 * ((j : Int) + 1)) := by
      intro u hu hlt
      rcases Int.lt_or_le (s u) (-(101 * ((j : Int) + 1))) with z | z
      · exact z
      · exact (hno ⟨u, hu, z, hlt⟩).elim
    refine gs_raise h (fun u => s u < -(101 * (j : Int))) (fun u hu => by omega) (fun a b w e ha hb => ?_) v (by omega)
    obtain ⟨h1, h2, h3⟩ := hE a b w e
    have := hn b h2 hb
    omega
  have h0 : ∃ u, u < 8 ∧ s u = 0 := by
    apply Classical.byContradiction
    intro hno
    refine gs_raise h (fun u => s u < 0) (fun u hu => hu) (fun a b w e ha hb => ?_) v (by omega)
    obtain ⟨h1, h2, h3⟩ := hE a b w e
    have h4 := h.2.1 a
    exact (hno ⟨a, h1, by omega⟩).elim
  have hv8 : v < 8 := by
    apply Classical.byContradiction
    intro hv8
    refine gs_raise h (fun u => u = v) (fun u hu => by rw [hu]; omega) (fun a b w e ha hb => ?_) v rfl
    obtain ⟨h1, h2, h3⟩ := hE a b w e
    omega
  obtain ⟨u0, hu0, hs0⟩ := h0
  have hc : ∀ j : Nat, ∃ u, u < 8 ∧ (j < 7 → -(101 * ((j : Int) + 1)) ≤ s u ∧ s u < -(101 * (j : Int))) := by
    intro j
    rcases Nat.lt_or_ge j 7 with z | z
    · obtain ⟨u, h1, h2⟩ := hgap j z
      exact ⟨u, h1, fun _ => h2⟩
    · exact ⟨0, by omega, fun y => by omega⟩
  have hf : ∀ j, Classical.choose (hc j) < 8 := fun j => (Classical.choose_spec (hc j)).1
  have hg : ∀ j : Nat, j < 7 → -(101 * ((j : Int) + 1)) ≤ s (Classical.choose (hc j)) ∧ s (Classical.choose (hc j)) < -(101 * (j : Int)) := fun j => (Classical.choose_spec (hc j)).2
  have := zc_php 8 (fun j => if j < 7 then Classical.choose (hc j) else if j = 7 then u0 else v) 9 (fun i _ => by
      by_cases e : i < 7
      · simp only [if_pos e]; exact hf i
      · by_cases e' : i = 7
        · simp only [if_neg e, if_pos e']; exact hu0
        · simp only [if_neg e, if_neg e']; exact hv8) (fun i j hi hj => by
      by_cases e : i < 7
      · by_cases e2 : j < 7
        · simp only [if_pos e, if_pos e2]
          intro z
          have h1 := hg i e
          have h2 := hg j e2
          rw [z] at h1
          omega
        · by_cases e3 : j = 7
          · simp only [if_pos e, if_neg e2, if_pos e3]
            intro z
            have h1 := hg i e
            rw [z, hs0] at h1
            omega
          · simp only [if_pos e, if_neg e2, if_neg e3]
            intro z
            have h1 := hg i e
            rw [z] at h1
            omega
      · by_cases e1 : i = 7
        · by_cases e2 : j < 7
          · simp only [if_neg e, if_pos e1, if_pos e2]
            intro z
            have h1 := hg j e2
            rw [← z, hs0] at h1
            omega
          · by_cases e3 : j = 7
            · omega
            · simp only [if_neg e, if_pos e1, if_neg e2, if_neg e3]
              intro z
              rw [z] at hs0
              omega
        · by_cases e2 : j < 7
          · simp only [if_neg e, if_neg e1, if_pos e2]
            intro z
            have h1 := hg j e2
            rw [← z] at h1
            omega
          · by_cases e3 : j = 7
            · simp only [if_neg e, if_neg e1, if_neg e2, if_pos e3]
              intro z
              rw [← z] at hs0
              omega
            · omega)
  omega
end
section
/-! sup of x - y over the solutions -/
def gs_Sup (E : Nat → Nat → Int → Prop) (x y : Nat) (c : Int) : Prop := (∀ s, gs_Sol E s → s x - s y ≤ c) ∧ ∃ s, gs_Sol E s ∧ s x - s y = c
def gs_Unb (E : Nat → Nat → Int → Prop) (x y : Nat) : Prop := ∀ c : Int, ∃ s, gs_Sol E s ∧ c < s x - s y
theorem gs_supU {E : Nat → Nat → Int → Prop} {x y : Nat} {c d : Int} (h : gs_Sup E x y c) (h' : gs_Sup E x y d) : c = d := by
  obtain ⟨h1, s, h2, h3⟩ := h
  obtain ⟨g1, t, g2, g3⟩ := h'
  have := h1 t g2
  have := g1 s h2
  omega
theorem gs_supN {E : Nat → Nat → Int → Prop} {x y : Nat} {c : Int} (h : gs_Sup E x y c) (h' : gs_Unb E x y) : False := by
  obtain ⟨s, h2, h3⟩ := h' c
  have := h.1 s h2
  omega
/-- one source y, its reached set R with exact distances D -/
theorem gs_src {E : Nat → Nat → Int → Prop} {s0 : Nat → Int} {R : Nat → Prop} {D : Nat → Int} {x y : Nat}
    (hE : ∀ a b w, E a b w → a < 8 ∧ b < 8 ∧ -101 ≤ w) (h0 : gs_Sol E s0) (hy : R y) (hD : D y = 0)
    (hc : ∀ a b w, E a b w → R a → R b ∧ D b ≤ D a + w) (hx : x < 8) (hs : ∀ s, gs_Sol E s → R x → s x - s y ≤ D x) :
    (R x → gs_Sup E x y (D x)) ∧ (¬ R x → gs_Unb E x y) := by
  obtain ⟨M1, hM1⟩ := gs_bnd D 8
  obtain ⟨M2, hM2⟩ := gs_bnd (fun v => - s0 v) 8
  have key : ∀ K : Int, M1 + M2 + 101 ≤ K → gs_Sol E (fun v => @ite Int (R v) (Classical.propDecidable _) (D v) (K + s0 v)) := by
    intro K hK a b w e
    obtain ⟨h1, h2, h3⟩ := hE a b w e
    show @ite Int (R b) (Classical.propDecidable _) (D b) (K + s0 b) ≤ @ite Int (R a) (Classical.propDecidable _) (D a) (K + s0 a) + w
    have h4 := h0 a b w e
    rcases Classical.em (R a) with ha | ha
    · obtain ⟨h5, h6⟩ := hc a b w e ha
      rw [if_pos ha, if_pos h5]
      exact h6
    · rw [if_neg ha]
      rcases Classical.em (R b) with hb | hb
      · rw [if_pos hb]
        have h5 := hM1 b h2
        have h6 : - s0 a ≤ M2 := hM2 a h1
        omega
      · rw [if_neg hb]; omega
  constructor
  · intro hR
    refine ⟨fun s h => hs s h hR, _, key _ (Int.le_refl _), ?_⟩
    show @ite Int (R x) (Classical.propDecidable _) (D x) _ - @ite Int (R y) (Classical.propDecidable _) (D y) _ = D x
    rw [if_pos hR, if_pos hy, hD]
    omega
  · intro hR c
    have h6 : - s0 x ≤ M2 := hM2 x hx
    rcases Int.lt_or_le (c + 1 + M2) (M1 + M2 + 101) with z | z
    · refine ⟨_, key _ (Int.le_refl _), ?_⟩
      show c < @ite Int (R x) (Classical.propDecidable _) (D x) _ - @ite Int (R y) (Classical.propDecidable _) (D y) _
      rw [if_neg hR, if_pos hy, hD]
      omega
    · refine ⟨_, key _ z, ?_⟩
      show c < @ite Int (R x) (Classical.propDecidable _) (D x) _ - @ite Int (R y) (Classical.propDecidable _) (D y) _
      rw [if_neg hR, if_pos hy, hD]
      omega
/-! a closed table: 100000000 stands for no bound -/
def fw_mn (f : Nat → Int) : Nat → Int
  | 0 => 0
  | u + 1 => if f u < fw_mn f u then f u else fw_mn f u
theorem fw_mn_le (f : Nat → Int) : ∀ N, fw_mn f N ≤ 0 ∧ ∀ u, u < N → fw_mn f N ≤ f u
  | 0 => ⟨Int.le_refl _, fun u h => by omega⟩
  | N + 1 => by
    obtain ⟨h1, h2⟩ := fw_mn_le f N
    by_cases e : f N < fw_mn f N
    · simp only [fw_mn, if_pos e]
      refine ⟨by omega, fun u hu => ?_⟩
      rcases Nat.lt_or_ge u N with y | y
      · have := h2 u y; omega
      · have : u = N := by omega
        rw [this]; exact Int.le_refl _
    · simp only [fw_mn, if_neg e]
      refine ⟨h1, fun u hu => ?_⟩
      rcases Nat.lt_or_ge u N with y | y
      · exact h2 u y
      · have : u = N := by omega
        rw [this]; omega
theorem fw_mn_at (f : Nat → Int) : ∀ N, fw_mn f N = 0 ∨ ∃ u, u < N ∧ fw_mn f N = f u
  | 0 => Or.inl rfl
  | N + 1 => by
    by_cases e : f N < fw_mn f N
    · simp only [fw_mn, if_pos e]
      exact Or.inr ⟨N, by omega, rfl⟩
    · simp only [fw_mn, if_neg e]
      rcases fw_mn_at f N with h | ⟨u, hu, h⟩
      · exact Or.inl h
      · exact Or.inr ⟨u, by omega, h⟩
def fw_Cl (V : Nat) (E : Nat → Nat → Int → Prop) (b : Nat → Nat → Int) : Prop :=
  (∀ x, x < V → b x x = 0) ∧
  (∀ x y z, x < V → y < V → z < V → b x z < 100000000 → b z y < 100000000 → b x y < 100000000 ∧ b x y ≤ b x z + b z y) ∧
  (∀ a c w, E a c w → a < V ∧ c < V ∧ b c a < 100000000 ∧ b c a ≤ w) ∧ (∀ x y, x < V → y < V → b x y ≤ 100000000)
def fw_Sn (V : Nat) (E : Nat → Nat → Int → Prop) (b : Nat → Nat → Int) : Prop :=
  ∀ s, gs_Sol E s → ∀ x y, x < V → y < V → b x y < 100000000 → s x - s y ≤ b x y
theorem fw_sol {V : Nat} {E : Nat → Nat → Int → Prop} {b : Nat → Nat → Int} (h : fw_Cl V E b) : gs_Sol E (fun v => if v < V then fw_mn (b v) V else 0) := by
  intro a c w e
  obtain ⟨ha, hc, h1, h2⟩ := h.2.2.1 a c w e
  simp only [if_pos ha, if_pos hc]
  have hm := (fw_mn_le (b c) V).2
  rcases fw_mn_at (b a) V with z | ⟨u, hu, z⟩
  · have := hm a ha
    omega
  · have h3 := (fw_mn_le (b a) V).1
    obtain ⟨h4, h5⟩ := h.2.1 c u a hc hu ha h1 (by omega)
    have := hm u hu
    omega
theorem fw_gr {V : Nat} {E : Nat → Nat → Int → Prop} {b : Nat → Nat → Int} (h : fw_Cl V E b) (hs : fw_Sn V E b) : gs_Gr E (fun v => if v < V then fw_mn (b v) V else 0) := by
  refine ⟨fw_sol h, fun v => ?_, fun t ht ht0 v => ?_⟩
  · by_cases hv : v < V
    · simp only [if_pos hv]; exact (fw_mn_le (b v) V).1
    · simp only [if_neg hv]; exact Int.le_refl _
  · by_cases hv : v < V
    · simp only [if_pos hv]
      rcases fw_mn_at (b v) V with z | ⟨u, hu, z⟩
      · rw [z]; exact ht0 v
      · have h3 := (fw_mn_le (b v) V).1
        have h4 := hs t ht v u hv hu (by omega)
        have := ht0 u
        omega
    · simp only [if_neg hv]; exact ht0 v
theorem fw_sup {V : Nat} {E : Nat → Nat → Int → Prop} {b : Nat → Nat → Int} (h : fw_Cl V E b) (hs : fw_Sn V E b) (hV : V ≤ 8)
    (hE : ∀ a b w, E a b w → a < 8 ∧ b < 8 ∧ -101 ≤ w) {x y : Nat} (hx : x < V) (hy : y < V) :
    (b x y < 100000000 → gs_Sup E x y (b x y)) ∧ (¬ b x y < 100000000 → gs_Unb E x y) := by
  have key := gs_src (E := E) (R := fun v => v < V ∧ b v y < 100000000) (D := fun v => b v y) (x := x) (y := y) hE (fw_sol h)
    ⟨hy, by rw [h.1 y hy]; decide⟩ (h.1 y hy) (fun a c w e ⟨ha, hb⟩ => by
      obtain ⟨ha, hc, h1, h2⟩ := h.2.2.1 a c w e
      obtain ⟨h3, h4⟩ := h.2.1 c y a hc hy ha h1 hb
      exact ⟨⟨hc, h3⟩, by omega⟩) (by omega) (fun s h5 h6 => hs s h5 x y hx hy h6.2)
  exact ⟨fun z => key.1 ⟨hx, z⟩, fun z => key.2 (fun q => z q.2)⟩
/-! the problem: atoms, clauses, goal -/
def ds_E (n : Nat) (kd lf rt bd : Nat → Int32) (τ : Nat → Bool) (a b : Nat) (w : Int) : Prop :=
  ∃ k, k < n ∧ kd k = 1 ∧ ((τ k = true ∧ a = (rt k).toNatClampNeg ∧ b = (lf k).toNatClampNeg ∧ w = (bd k).toInt) ∨ (τ k = false ∧ a = (lf k).toNatClampNeg ∧ b = (rt k).toNatClampNeg ∧ w = -(bd k).toInt - 1))
def ds_At (V n : Nat) (kd lf rt bd : Nat → Int32) : Prop :=
  ∀ k, k < n → (kd k = 0 ∨ kd k = 1) ∧ (kd k = 1 → (∃ x, x < V ∧ lf k = nI x) ∧ (∃ y, y < V ∧ rt k = nI y) ∧ lf k ≠ rt k ∧ -100 ≤ (bd k).toInt ∧ (bd k).toInt ≤ 100)
def ds_Cl (p q : Int32) (τ : Nat → Bool) : Prop := ∃ k, (bt p k = true ∧ τ k = true) ∨ (bt q k = true ∧ τ k = false)
def ds_M (n m : Nat) (kd lf rt bd cp cn : Nat → Int32) (G : (Nat → Int) → Prop) (R : Int32) (τ : Nat → Bool) : Prop :=
  ∃ s, gs_Sol (ds_E n kd lf rt bd τ) s ∧ (∀ i, i < m → bt R i = true → ds_Cl (cp i) (cn i) τ) ∧ (bt R 24 = true → G s)
theorem ds_Eb {V n : Nat} {kd lf rt bd : Nat → Int32} (h : ds_At V n kd lf rt bd) (hV : V ≤ 8) {τ : Nat → Bool} : ∀ a b w, ds_E n kd lf rt bd τ a b w → a < V ∧ b < V ∧ a < 8 ∧ b < 8 ∧ -101 ≤ w ∧ w ≤ 100 := by
  intro a b w ⟨k, hk, h1, h2⟩
  obtain ⟨⟨x, hx, ex⟩, ⟨y, hy, ey⟩, _, b1, b2⟩ := (h k hk).2 h1
  have e1 : (lf k).toNatClampNeg = x := by rw [ex]; exact nI_clamp (by omega)
  have e2 : (rt k).toNatClampNeg = y := by rw [ey]; exact nI_clamp (by omega)
  rw [e1, e2] at h2
  omega
theorem ds_E8 {V n : Nat} {kd lf rt bd : Nat → Int32} (h : ds_At V n kd lf rt bd) (hV : V ≤ 8) {τ : Nat → Bool} : ∀ a b w, ds_E n kd lf rt bd τ a b w → a < 8 ∧ b < 8 ∧ -101 ≤ w := by
  intro a b w e
  have := ds_Eb h hV a b w e
  exact ⟨this.2.2.1, this.2.2.2.1, this.2.2.2.2.1⟩
/-- only the atoms below n matter -/
theorem ds_Econg {n : Nat} {kd lf rt bd : Nat → Int32} {τ τ' : Nat → Bool} (h : ∀ k, k < n → τ k = τ' k) {a b : Nat} {w : Int} (e : ds_E n kd lf rt bd τ a b w) : ds_E n kd lf rt bd τ' a b w := by
  obtain ⟨k, hk, h1, h2⟩ := e
  rw [h k hk] at h2
  exact ⟨k, hk, h1, h2⟩
theorem ds_Ecg {n : Nat} {kd lf rt bd : Nat → Int32} {τ τ' : Nat → Bool} (h : ∀ k, k < n → τ k = τ' k) : ds_E n kd lf rt bd τ = ds_E n kd lf rt bd τ' := by
  funext a b w
  exact propext ⟨ds_Econg h, ds_Econg (fun k hk => (h k hk).symm)⟩
def cd_Mono (M : Int32 → (Nat → Bool) → Prop) : Prop := ∀ R R' τ, (∀ i, bt R i = true → bt R' i = true) → M R' τ → M R τ
theorem ds_mono {n m : Nat} {kd lf rt bd cp cn : Nat → Int32} {G : (Nat → Int) → Prop} : cd_Mono (ds_M n m kd lf rt bd cp cn G) := by
  intro R R' τ h ⟨s, h1, h2, h3⟩
  exact ⟨s, h1, fun i hi hb => h2 i hi (h i hb), fun hb => h3 (h 24 hb)⟩
end
section
/-! the trail: tr i = nI k; lv i the level of a place; ra k = -1 marks a decision -/
def cd_TR (n : Nat) (tm fm : Int32) (tr : Nat → Int32) (ts : Nat) : Prop :=
  (∀ i, i < ts → ∃ k, k < n ∧ tr i = nI k) ∧ (∀ i j, i < ts → j < ts → tr i = tr j → i = j) ∧
  (∀ k, (bt tm k = true ∨ bt fm k = true) ↔ (k < n ∧ ∃ i, i < ts ∧ tr i = nI k)) ∧ (∀ k, bt tm k = true → bt fm k = true → False)
def cd_LV (ts L : Nat) (tr ls la ra : Nat → Int32) (lv : Nat → Nat) : Prop :=
  (∀ i i', i ≤ i' → i' < ts → lv i ≤ lv i') ∧ (∀ i, i < ts → lv i ≤ L) ∧
  (∀ j, 1 ≤ j → j ≤ L → ∃ p, ls j = nI p ∧ p < ts ∧ lv p = j ∧ ∀ i, i < p → lv i < j) ∧
  (∀ i k, i < ts → k < 10 → tr i = nI k → (ra k = -1 ↔ (1 ≤ lv i ∧ ∀ i', i' < i → lv i' < lv i))) ∧
  (∀ j k, j ≤ L → (bt (la j) k = true ↔ (k < 10 ∧ ∃ i, i < ts ∧ tr i = nI k ∧ lv i = j))) ∧
  (∀ j, L < j → j < 12 → la j = 0)
def cd_RS (M : Int32 → (Nat → Bool) → Prop) (tm ar : Int32) (ts : Nat) (tr ra rr : Nat → Int32) : Prop :=
  ∀ i k, i < ts → k < 10 → tr i = nI k → ra k ≠ -1 →
    (∀ q, bt (ra k) q = true → q < 10 ∧ ∃ i', i' < i ∧ tr i' = nI q) ∧ (∀ q, bt (rr k) q = true → bt ar q = true) ∧
    (∀ τ, M (rr k) τ → (∀ q, bt (ra k) q = true → τ q = bt tm q) → τ k = bt tm k)
def cd_DC (n : Nat) (mt mf tm : Int32) (ts : Nat) (tr ra : Nat → Int32) : Prop :=
  ∀ i k, i < ts → k < 10 → tr i = nI k → ra k = -1 →
    ((bt mt k = true ∨ bt mf k = true) ∧ bt tm k = bt mt k) ∨
    (bt mt k = false ∧ bt mf k = false ∧ bt tm k = false ∧
      (∀ q, q < n → (q < k ∨ bt mt q = true ∨ bt mf q = true) → ∃ i', i' < i ∧ tr i' = nI q) ∧
      (∀ q, bt mt q = true → bt tm q = true) ∧ (∀ q, bt mf q = true → bt tm q = false))
def cd_ph (tr ra : Nat → Int32) : Nat → Nat
  | 0 => 0
  | p + 1 => cd_ph tr ra p + (if ra (tr p).toNatClampNeg = -1 then 1 else 2 ^ (10 - p))
/-- all of it: s counts the steps done -/
def cd_SI (M : Int32 → (Nat → Bool) → Prop) (n : Nat) (mt mf ar : Int32) (s ts L : Nat) (tm fm : Int32) (tr ls la ra rr : Nat → Int32) (lv : Nat → Nat) : Prop :=
  n ≤ 10 ∧ cd_TR n tm fm tr ts ∧ cd_LV ts L tr ls la ra lv ∧ cd_RS M tm ar ts tr ra rr ∧ cd_DC n mt mf tm ts tr ra ∧ s ≤ cd_ph tr ra ts
theorem cd_10 {k j : Nat} (h : k < 10) (h' : j < 10) (e : nI k = nI j) : k = j := (nI_eq (by omega) (by omega)).mp e
theorem cd_room {n : Nat} {tm fm : Int32} {tr : Nat → Int32} {ts : Nat} (h : cd_TR n tm fm tr ts) (hn : n ≤ 10) : ts ≤ n := by
  obtain ⟨h1, h2, _⟩ := h
  refine zc_php n (fun i => (tr i).toNatClampNeg) ts (fun i hi => ?_) (fun i j hi hj e => ?_)
  · obtain ⟨k, hk, e⟩ := h1 i hi
    show (tr i).toNatClampNeg < n
    rw [e, nI_clamp (by omega)]
    exact hk
  · obtain ⟨k, hk, e1⟩ := h1 i hi
    obtain ⟨k', hk', e2⟩ := h1 j hj
    have e' : (tr i).toNatClampNeg = (tr j).toNatClampNeg := e
    rw [e1, e2, nI_clamp (by omega), nI_clamp (by omega)] at e'
    exact h2 i j hi hj (by rw [e1, e2, e'])
theorem cd_open {n : Nat} {tm fm : Int32} {tr : Nat → Int32} {ts k : Nat} (h : cd_TR n tm fm tr ts) (hn : n ≤ 10) (hk : k < n) (ho : bt tm k = false) (ho' : bt fm k = false) : ts < n := by
  obtain ⟨h1, h2, h3, _⟩ := h
  have hno : ∀ i, i < ts → tr i ≠ nI k := by
    intro i hi e
    rcases (h3 k).mpr ⟨hk, i, hi, e⟩ with z | z
    · rw [ho] at z; cases z
    · rw [ho'] at z; cases z
  have := zc_php n (fun i => if i = ts then k else (tr i).toNatClampNeg) (ts + 1) (fun i hi => ?_) (fun i j hi hj => ?_)
  · omega
  · by_cases e : i = ts
    · simp only [if_pos e]; exact hk
    · simp only [if_neg e]
      obtain ⟨q, hq, e'⟩ := h1 i (by omega)
      rw [e', nI_clamp (by omega)]
      exact hq
  · by_cases e : i = ts
    · by_cases e2 : j = ts
      · omega
      · simp only [if_pos e, if_neg e2]
        obtain ⟨q, hq, e'⟩ := h1 j (by omega)
        rw [e', nI_clamp (by omega)]
        intro z
        exact (hno j (by omega) (by rw [e', z])).elim
    · by_cases e2 : j = ts
      · simp only [if_neg e, if_pos e2]
        obtain ⟨q, hq, e'⟩ := h1 i (by omega)
        rw [e', nI_clamp (by omega)]
        intro z
        exact (hno i (by omega) (by rw [e', z])).elim
      · simp only [if_neg e, if_neg e2]
        obtain ⟨q, hq, e'⟩ := h1 i (by omega)
        obtain ⟨q', hq', e''⟩ := h1 j (by omega)
        rw [e', e'', nI_clamp (by omega), nI_clamp (by omega)]
        intro z
        exact h2 i j (by omega) (by omega) (by rw [e', e'', z])
/-- levels are not more than places -/
theorem cd_lvl {ts L : Nat} {tr ls la ra : Nat → Int32} {lv : Nat → Nat} (h : cd_LV ts L tr ls la ra lv) : ∀ j p, 1 ≤ j → j ≤ L → ls j = nI p → p < ts → lv p = j → j ≤ p + 1 := by
  obtain ⟨h1, h2, h3, _⟩ := h
  have key : ∀ j, 1 ≤ j → j ≤ L → ∀ p, p < ts → lv p = j → j ≤ p + 1 := by
    intro j
    induction j with
    | zero => intro h; omega
    | succ j ih =>
      intro _ hj p hp hl
      rcases Nat.eq_zero_or_pos j with z | z
      · omega
      · obtain ⟨p', _, hp', hl', _⟩ := h3 j z (by omega)
        have := ih z (by omega) p' hp' hl'
        rcases Nat.lt_or_ge p' p with y | y
        · omega
        · have := h1 p p' y hp'
          omega
  intro j p a b _ c d
  exact key j a b p c d
theorem cd_L {ts L : Nat} {tr ls la ra : Nat → Int32} {lv : Nat → Nat} (h : cd_LV ts L tr ls la ra lv) : L ≤ ts := by
  rcases Nat.eq_zero_or_pos L with z | z
  · omega
  · obtain ⟨p, h1, h2, h3, _⟩ := h.2.2.1 L z (Nat.le_refl _)
    have := cd_lvl h L p z (Nat.le_refl _) h1 h2 h3
    omega
theorem cd_ph_cong {tr ra tr' ra' : Nat → Int32} : ∀ {ts : Nat}, (∀ i, i < ts → tr' i = tr i ∧ ra' (tr i).toNatClampNeg = ra (tr i).toNatClampNeg) → cd_ph tr' ra' ts = cd_ph tr ra ts
  | 0, _ => rfl
  | ts + 1, h => by
    obtain ⟨h1, h2⟩ := h ts (by omega)
    simp only [cd_ph]
    rw [h1, h2, cd_ph_cong (fun i hi => h i (by omega))]
theorem cd_ph_le {tr ra : Nat → Int32} {k : Nat} : ∀ {ts : Nat}, k ≤ ts → ts ≤ 10 → cd_ph tr ra ts + 2 ^ (11 - ts) ≤ cd_ph tr ra k + 2 ^ (11 - k)
  | 0, h, _ => by
    have : k = 0 := by omega
    rw [this]; exact Nat.le_refl _
  | ts + 1, h, h10 => by
    rcases Nat.lt_or_ge ts k with z | z
    · have : k = ts + 1 := by omega
      rw [this]; exact Nat.le_refl _
    · have ih := cd_ph_le (tr := tr) (ra := ra) z (by omega)
      have e : 2 ^ (11 - ts) = 2 * 2 ^ (10 - ts) := by
        rw [show 11 - ts = (10 - ts) + 1 by omega, Nat.pow_succ]; omega
      have e2 : 11 - (ts + 1) = 10 - ts := by omega
      have e3 : (if ra (tr ts).toNatClampNeg = -1 then 1 else 2 ^ (10 - ts)) ≤ 2 ^ (10 - ts) := by
        by_cases q : ra (tr ts).toNatClampNeg = -1
        · rw [if_pos q]; exact Nat.one_le_two_pow
        · rw [if_neg q]; exact Nat.le_refl _
      simp only [cd_ph]
      rw [e2]
      omega
theorem cd_ph_max {tr ra : Nat → Int32} {ts : Nat} (h : ts ≤ 10) : cd_ph tr ra ts ≤ 2047 := by
  have h1 := cd_ph_le (tr := tr) (ra := ra) (Nat.zero_le ts) h
  have h2 : 1 ≤ 2 ^ (11 - ts) := Nat.one_le_two_pow
  have h3 : cd_ph tr ra 0 + 2 ^ (11 - 0) = 2048 := rfl
  omega
/-- a jump: the place of a decision becomes a place without one -/
theorem cd_ph_jump {tr ra : Nat → Int32} {k ts : Nat} (h : k < ts) (h10 : ts ≤ 10) (hd : ra (tr k).toNatClampNeg = -1) : cd_ph tr ra ts + 1 ≤ cd_ph tr ra k + 2 ^ (10 - k) := by
  have h1 := cd_ph_le (tr := tr) (ra := ra) (k := k + 1) h h10
  have h2 : 2 ≤ 2 ^ (11 - ts) := by
    rw [show 11 - ts = (10 - ts) + 1 by omega, Nat.pow_succ]
    have : 1 ≤ 2 ^ (10 - ts) := Nat.one_le_two_pow
    omega
  have h3 : cd_ph tr ra (k + 1) = cd_ph tr ra k + 1 := by
    simp only [cd_ph]; rw [if_pos hd]
  rw [h3, show 11 - (k + 1) = 10 - k by omega] at h1
  omega
/-- a new place at the end -/
theorem cd_TR_add {n : Nat} {tm fm tm' fm' : Int32} {tr : Nat → Int32} {ts k : Nat} {v : Bool} (h : cd_TR n tm fm tr ts) (hn : n ≤ 10) (hk : k < n) (ho : bt tm k = false) (ho' : bt fm k = false)
    (ht : ∀ q, bt tm' q = (bt tm q || (v && decide (q = k)))) (hf : ∀ q, bt fm' q = (bt fm q || (!v && decide (q = k)))) : cd_TR n tm' fm' (upd tr ts (nI k)) (ts + 1) := by
  obtain ⟨h1, h2, h3, h4⟩ := h
  have hno : ∀ i, i < ts → tr i ≠ nI k := by
    intro i hi e
    rcases (h3 k).mpr ⟨hk, i, hi, e⟩ with z | z
    · rw [ho] at z; cases z
    · rw [ho'] at z; cases z
  refine ⟨fun i hi => ?_, fun i j hi hj e => ?_, fun q => ?_, fun q => ?_⟩
  · by_cases e : i = ts
    · rw [e, pk_us]; exact ⟨k, hk, rfl⟩
    · rw [pk_un e]; exact h1 i (by omega)
  · by_cases e1 : i = ts
    · by_cases e2 : j = ts
      · omega
      · rw [e1, pk_us, pk_un e2] at e
        exact (hno j (by omega) e.symm).elim
    · by_cases e2 : j = ts
      · rw [e2, pk_us, pk_un e1] at e
        exact (hno i (by omega) e).elim
      · rw [pk_un e1, pk_un e2] at e
        exact h2 i j (by omega) (by omega) e
  · by_cases e : q = k
    · subst e
      constructor
      · intro _; exact ⟨hk, ts, by omega, pk_us⟩
      · intro _
        rw [ht, hf, ho, ho', decide_eq_true rfl]
        cases v
        · exact Or.inr rfl
        · exact Or.inl rfl
    · rw [ht, hf, decide_eq_false e, Bool.and_false, Bool.or_false, Bool.and_false, Bool.or_false, h3 q]
      constructor
      · intro ⟨a, i, hi, e'⟩
        exact ⟨a, i, by omega, by rw [pk_un (by omega)]; exact e'⟩
      · intro ⟨a, i, hi, e'⟩
        by_cases e2 : i = ts
        · rw [e2, pk_us] at e'
          exact (e (cd_10 (by omega) (by omega) e').symm).elim
        · rw [pk_un e2] at e'
          exact ⟨a, i, by omega, e'⟩
  · rw [ht, hf]
    by_cases e : q = k
    · subst e
      rw [ho, ho']
      cases v <;> simp
    · rw [decide_eq_false e, Bool.and_false, Bool.or_false, Bool.and_false, Bool.or_false]
      exact h4 q
theorem cd_TR_not {n : Nat} {tm fm : Int32} {tr : Nat → Int32} {ts k : Nat} (h : cd_TR n tm fm tr ts) (hk : k < n) (ho : bt tm k = false) (ho' : bt fm k = false) : ∀ i, i < ts → tr i ≠ nI k := by
  intro i hi e
  rcases (h.2.2.1 k).mpr ⟨hk, i, hi, e⟩ with z | z
  · rw [ho] at z; cases z
  · rw [ho'] at z; cases z
/-- an implied atom -/
theorem cd_imply {M : Int32 → (Nat → Bool) → Prop} {n : Nat} {mt mf ar : Int32} {s ts L : Nat} {tm fm tm' fm' : Int32} {tr ls la ra rr : Nat → Int32} {lv : Nat → Nat} {k : Nat} {v : Bool} {r w : Int32} {lb : Int32}
    (h : cd_SI M n mt mf ar s ts L tm fm tr ls la ra rr lv) (hk : k < n) (ho : bt tm k = false) (ho' : bt fm k = false)
    (ht : ∀ q, bt tm' q = (bt tm q || (v && decide (q = k)))) (hf : ∀ q, bt fm' q = (bt fm q || (!v && decide (q = k))))
    (hl : ∀ q, bt lb q = (bt (la L) q || decide (q = k)))
    (hr : r ≠ -1) (hre : ∀ q, bt r q = true → bt tm q = true ∨ bt fm q = true) (hw : ∀ q, bt w q = true → bt ar q = true)
    (hs : ∀ τ, M w τ → (∀ q, bt r q = true → τ q = bt tm q) → τ k = v) :
    cd_SI M n mt mf ar s (ts + 1) L tm' fm' (upd tr ts (nI k)) ls (upd la L lb) (upd ra k r) (upd rr k w) (fun i => if i = ts then L else lv i) ∧
    cd_ph (upd tr ts (nI k)) (upd ra k r) (ts + 1) = cd_ph tr ra ts + 2 ^ (10 - ts) := by
  obtain ⟨hn, hTR, hLV, hRS, hDC, hph⟩ := h
  have hno := cd_TR_not hTR hk ho ho'
  have hroom := cd_room hTR hn
  have htr := cd_open hTR hn hk ho ho'
  have hold : ∀ i q, i < ts → q < 10 → tr i = nI q → q ≠ k := by
    intro i q hi hq e z
    exact hno i hi (by rw [e, z])
  have htm : ∀ q, q ≠ k → bt tm' q = bt tm q := by
    intro q hq
    rw [ht, decide_eq_false hq, Bool.and_false, Bool.or_false]
  have htk : bt tm' k = v := by
    rw [ht, ho, decide_eq_true rfl, Bool.false_or, Bool.and_true]
  have hnewph : cd_ph (upd tr ts (nI k)) (upd ra k r) (ts + 1) = cd_ph tr ra ts + 2 ^ (10 - ts) := by
    simp only [cd_ph]
    rw [pk_us, nI_clamp (by omega), pk_us, if_neg hr, cd_ph_cong (tr := tr) (ra := ra)]
    intro i hi
    obtain ⟨q, hq, e⟩ := hTR.1 i hi
    refine ⟨pk_un (by omega), ?_⟩
    rw [e, nI_clamp (by omega), pk_un (hold i q hi (by omega) e)]
  have h1 : 1 ≤ 2 ^ (10 - ts) := Nat.one_le_two_pow
  refine ⟨⟨hn, cd_TR_add hTR hn hk ho ho' ht hf, ⟨?_, ?_, ?_, ?_, ?_, ?_⟩, ?_, ?_, by omega⟩, hnewph⟩
  all_goals (try dsimp only)
  · intro i i' h1 h2
    by_cases e : i' = ts
    · rw [if_pos e]
      by_cases e2 : i = ts
      · rw [if_pos e2]; exact Nat.le_refl _
      · rw [if_neg e2]; exact hLV.2.1 i (by omega)
    · rw [if_neg e, if_neg (by omega)]
      exact hLV.1 i i' h1 (by omega)
  · intro i hi
    by_cases e : i = ts
    · rw [if_pos e]; exact Nat.le_refl _
    · rw [if_neg e]; exact hLV.2.1 i (by omega)
  · intro j h1 h2
    obtain ⟨p, a, b, c, d⟩ := hLV.2.2.1 j h1 h2
    refine ⟨p, a, by omega, ?_, fun i hi => ?_⟩
    · rw [if_neg (by omega)]; exact c
    · rw [if_neg (by omega)]; exact d i hi
  · intro i q hi hq e
    by_cases e1 : i = ts
    · rw [e1, pk_us] at e
      have : q = k := (cd_10 (by omega) hq e).symm
      subst this
      rw [pk_us, if_pos e1]
      constructor
      · intro z; exact (hr z).elim
      · intro ⟨z1, z2⟩
        obtain ⟨p, a, b, c, d⟩ := hLV.2.2.1 L z1 (Nat.le_refl _)
        have := z2 p (by omega)
        rw [if_neg (by omega)] at this
        omega
    · rw [pk_un e1] at e
      rw [pk_un (hold i q (by omega) hq e), if_neg e1, hLV.2.2.2.1 i q (by omega) hq e]
      constructor
      · intro ⟨z1, z2⟩
        exact ⟨z1, fun i' hi' => by rw [if_neg (by omega)]; exact z2 i' hi'⟩
      · intro ⟨z1, z2⟩
        exact ⟨z1, fun i' hi' => by have := z2 i' hi'; rw [if_neg (by omega)] at this; exact this⟩
  · intro j q hj
    by_cases e : j = L
    · subst e
      rw [pk_us, hl]
      by_cases e2 : q = k
      · subst e2
        rw [decide_eq_true rfl, Bool.or_true]
        exact ⟨fun _ => ⟨by omega, ts, by omega, pk_us, if_pos rfl⟩, fun _ => rfl⟩
      · rw [decide_eq_false e2, Bool.or_false, hLV.2.2.2.2.1 j q hj]
        constructor
        · intro ⟨a, i, hi, b, c⟩
          exact ⟨a, i, by omega, by rw [pk_un (by omega)]; exact b, by rw [if_neg (by omega)]; exact c⟩
        · intro ⟨a, i, hi, b, c⟩
          by_cases e3 : i = ts
          · rw [e3, pk_us] at b
            exact (e2 (cd_10 (by omega) a b).symm).elim
          · rw [pk_un e3] at b
            rw [if_neg e3] at c
            exact ⟨a, i, by omega, b, c⟩
    · rw [pk_un e, hLV.2.2.2.2.1 j q hj]
      constructor
      · intro ⟨a, i, hi, b, c⟩
        exact ⟨a, i, by omega, by rw [pk_un (by omega)]; exact b, by rw [if_neg (by omega)]; exact c⟩
      · intro ⟨a, i, hi, b, c⟩
        by_cases e3 : i = ts
        · rw [if_pos e3] at c
          omega
        · rw [pk_un e3] at b
          rw [if_neg e3] at c
          exact ⟨a, i, by omega, b, c⟩
  · intro j h1 h2
    rw [pk_un (by omega)]
    exact hLV.2.2.2.2.2 j h1 h2
  · intro i q hi hq e hne
    by_cases e1 : i = ts
    · subst e1
      rw [pk_us] at e
      have : q = k := (cd_10 (by omega) hq e).symm
      subst this
      rw [pk_us, pk_us]
      refine ⟨fun z hz => ?_, hw, fun τ hM hag => ?_⟩
      · obtain ⟨a, i, hi, b⟩ := (hTR.2.2.1 z).mp (hre z hz)
        exact ⟨by omega, i, hi, by rw [pk_un (by omega)]; exact b⟩
      · rw [htk]
        refine hs τ hM (fun z hz => ?_)
        rw [hag z hz]
        refine htm z (fun e => ?_)
        subst e
        rcases hre z hz with y | y
        · rw [ho] at y; cases y
        · rw [ho'] at y; cases y
    · rw [pk_un e1] at e
      have hqk := hold i q (by omega) hq e
      rw [pk_un hqk] at hne
      obtain ⟨a, b, c⟩ := hRS i q (by omega) hq e hne
      rw [pk_un hqk, pk_un hqk, htm q hqk]
      refine ⟨fun z hz => ?_, b, fun τ hM hag => c τ hM (fun z hz => ?_)⟩
      · obtain ⟨y1, i', y2, y3⟩ := a z hz
        exact ⟨y1, i', y2, by rw [pk_un (by omega)]; exact y3⟩
      · rw [hag z hz]
        obtain ⟨y1, i', y2, y3⟩ := a z hz
        exact htm z (hold i' z (by omega) y1 y3)
  · intro i q hi hq e hd
    by_cases e1 : i = ts
    · subst e1
      rw [pk_us] at e
      have : q = k := (cd_10 (by omega) hq e).symm
      subst this
      rw [pk_us] at hd
      exact (hr hd).elim
    · rw [pk_un e1] at e
      have hqk := hold i q (by omega) hq e
      rw [pk_un hqk] at hd
      rw [htm q hqk]
      rcases hDC i q (by omega) hq e hd with z | ⟨a, b, c, d, f, g⟩
      · exact Or.inl z
      · refine Or.inr ⟨a, b, c, fun z hz hc => ?_, fun z hz => ?_, fun z hz => ?_⟩
        · obtain ⟨i', h1, h2⟩ := d z hz hc
          exact ⟨i', h1, by rw [pk_un (by omega)]; exact h2⟩
        · rw [ht, f z hz]; rfl
        · have h2 := g z hz
          refine (htm z (fun e => ?_)).trans h2
          subst e
          obtain ⟨i', h3, h4⟩ := d z hk (Or.inr (Or.inr hz))
          exact hno i' (by omega) h4
end
section
/-- a decision -/
theorem cd_decide {M : Int32 → (Nat → Bool) → Prop} {n : Nat} {mt mf ar : Int32} {s ts L : Nat} {tm fm tm' fm' : Int32} {tr ls la ra rr : Nat → Int32} {lv : Nat → Nat} {k : Nat} {v : Bool} {w : Int32} {lb : Int32}
    (h : cd_SI M n mt mf ar s ts L tm fm tr ls la ra rr lv) (hk : k < n) (ho : bt tm k = false) (ho' : bt fm k = false)
    (ht : ∀ q, bt tm' q = (bt tm q || (v && decide (q = k)))) (hf : ∀ q, bt fm' q = (bt fm q || (!v && decide (q = k))))
    (hl : ∀ q, bt lb q = decide (q = k)) (hL : L ≤ 10)
    (hd : ((bt mt k = true ∨ bt mf k = true) ∧ v = bt mt k) ∨ (bt mt k = false ∧ bt mf k = false ∧ v = false ∧
      (∀ q, q < n → (q < k ∨ bt mt q = true ∨ bt mf q = true) → bt tm q = true ∨ bt fm q = true) ∧ (∀ q, bt mt q = true → bt tm q = true) ∧ (∀ q, bt mf q = true → bt tm q = false))) :
    cd_SI M n mt mf ar (s + 1) (ts + 1) (L + 1) tm' fm' (upd tr ts (nI k)) (upd ls (L + 1) (nI ts)) (upd la (L + 1) lb) (upd ra k (-1)) (upd rr k w) (fun i => if i = ts then L + 1 else lv i) := by
  obtain ⟨hn, hTR, hLV, hRS, hDC, hph⟩ := h
  have hno := cd_TR_not hTR hk ho ho'
  have htr := cd_open hTR hn hk ho ho'
  have hold : ∀ i q, i < ts → q < 10 → tr i = nI q → q ≠ k := by
    intro i q hi hq e z
    exact hno i hi (by rw [e, z])
  have htm : ∀ q, q ≠ k → bt tm' q = bt tm q := by
    intro q hq
    rw [ht, decide_eq_false hq, Bool.and_false, Bool.or_false]
  have htk : bt tm' k = v := by
    rw [ht, ho, decide_eq_true rfl, Bool.false_or, Bool.and_true]
  have hnewph : cd_ph (upd tr ts (nI k)) (upd ra k (-1)) (ts + 1) = cd_ph tr ra ts + 1 := by
    simp only [cd_ph]
    rw [pk_us, nI_clamp (by omega), pk_us, if_pos rfl, cd_ph_cong (tr := tr) (ra := ra)]
    intro i hi
    obtain ⟨q, hq, e⟩ := hTR.1 i hi
    refine ⟨pk_un (by omega), ?_⟩
    rw [e, nI_clamp (by omega), pk_un (hold i q hi (by omega) e)]
  refine ⟨hn, cd_TR_add hTR hn hk ho ho' ht hf, ⟨?_, ?_, ?_, ?_, ?_, ?_⟩, ?_, ?_, by omega⟩
  all_goals (try dsimp only)
  · intro i i' h1 h2
    by_cases e : i' = ts
    · rw [if_pos e]
      by_cases e2 : i = ts
      · rw [if_pos e2]; exact Nat.le_refl _
      · rw [if_neg e2]; have := hLV.2.1 i (by omega); omega
    · rw [if_neg e, if_neg (by omega)]
      exact hLV.1 i i' h1 (by omega)
  · intro i hi
    by_cases e : i = ts
    · rw [if_pos e]; exact Nat.le_refl _
    · rw [if_neg e]; have := hLV.2.1 i (by omega); omega
  · intro j h1 h2
    by_cases e : j = L + 1
    · subst e
      refine ⟨ts, pk_us, by omega, if_pos rfl, fun i hi => ?_⟩
      rw [if_neg (by omega)]; have := hLV.2.1 i (by omega); omega
    · obtain ⟨p, a, b, c, d⟩ := hLV.2.2.1 j h1 (by omega)
      refine ⟨p, by rw [pk_un e]; exact a, by omega, ?_, fun i hi => ?_⟩
      · rw [if_neg (by omega)]; exact c
      · rw [if_neg (by omega)]; exact d i hi
  · intro i q hi hq e
    by_cases e1 : i = ts
    · rw [e1, pk_us] at e
      have : q = k := (cd_10 (by omega) hq e).symm
      subst this
      rw [pk_us, if_pos e1]
      refine ⟨fun _ => ⟨by omega, fun i' hi' => ?_⟩, fun _ => rfl⟩
      rw [if_neg (by omega)]; have := hLV.2.1 i' (by omega); omega
    · rw [pk_un e1] at e
      rw [pk_un (hold i q (by omega) hq e), if_neg e1, hLV.2.2.2.1 i q (by omega) hq e]
      constructor
      · intro ⟨z1, z2⟩
        exact ⟨z1, fun i' hi' => by rw [if_neg (by omega)]; exact z2 i' hi'⟩
      · intro ⟨z1, z2⟩
        exact ⟨z1, fun i' hi' => by have := z2 i' hi'; rw [if_neg (by omega)] at this; exact this⟩
  · intro j q hj
    by_cases e : j = L + 1
    · subst e
      rw [pk_us, hl]
      by_cases e2 : q = k
      · subst e2
        rw [decide_eq_true rfl]
        exact ⟨fun _ => ⟨by omega, ts, by omega, pk_us, if_pos rfl⟩, fun _ => rfl⟩
      · rw [decide_eq_false e2]
        refine ⟨fun z => (by cases z), fun ⟨a, i, hi, b, c⟩ => ?_⟩
        by_cases e3 : i = ts
        · rw [e3, pk_us] at b
          exact (e2 (cd_10 (by omega) a b).symm).elim
        · rw [if_neg e3] at c
          have := hLV.2.1 i (by omega)
          omega
    · rw [pk_un e, hLV.2.2.2.2.1 j q (by omega)]
      constructor
      · intro ⟨a, i, hi, b, c⟩
        exact ⟨a, i, by omega, by rw [pk_un (by omega)]; exact b, by rw [if_neg (by omega)]; exact c⟩
      · intro ⟨a, i, hi, b, c⟩
        by_cases e3 : i = ts
        · rw [if_pos e3] at c
          omega
        · rw [pk_un e3] at b
          rw [if_neg e3] at c
          exact ⟨a, i, by omega, b, c⟩
  · intro j h1 h2
    rw [pk_un (by omega)]
    exact hLV.2.2.2.2.2 j (by omega) h2
  · intro i q hi hq e hne
    by_cases e1 : i = ts
    · subst e1
      rw [pk_us] at e
      have : q = k := (cd_10 (by omega) hq e).symm
      subst this
      rw [pk_us] at hne
      exact (hne rfl).elim
    · rw [pk_un e1] at e
      have hqk := hold i q (by omega) hq e
      rw [pk_un hqk] at hne
      obtain ⟨a, b, c⟩ := hRS i q (by omega) hq e hne
      rw [pk_un hqk, pk_un hqk, htm q hqk]
      refine ⟨fun z hz => ?_, b, fun τ hM hag => c τ hM (fun z hz => ?_)⟩
      · obtain ⟨y1, i', y2, y3⟩ := a z hz
        exact ⟨y1, i', y2, by rw [pk_un (by omega)]; exact y3⟩
      · rw [hag z hz]
        obtain ⟨y1, i', y2, y3⟩ := a z hz
        exact htm z (hold i' z (by omega) y1 y3)
  · intro i q hi hq e hdd
    by_cases e1 : i = ts
    · subst e1
      rw [pk_us] at e
      have : q = k := (cd_10 (by omega) hq e).symm
      subst this
      rw [htk]
      rcases hd with z | ⟨a, b, c, d, f, g⟩
      · exact Or.inl z
      · refine Or.inr ⟨a, b, c, fun z hz hc => ?_, fun z hz => ?_, fun z hz => ?_⟩
        · obtain ⟨_, i', y2, y3⟩ := (hTR.2.2.1 z).mp (d z hz hc)
          exact ⟨i', y2, by rw [pk_un (by omega)]; exact y3⟩
        · rw [ht, f z hz]; rfl
        · refine (htm z (fun e => ?_)).trans (g z hz)
          rw [e, b] at hz
          cases hz
    · rw [pk_un e1] at e
      have hqk := hold i q (by omega) hq e
      rw [pk_un hqk] at hdd
      rw [htm q hqk]
      rcases hDC i q (by omega) hq e hdd with z | ⟨a, b, c, d, f, g⟩
      · exact Or.inl z
      · refine Or.inr ⟨a, b, c, fun z hz hc => ?_, fun z hz => ?_, fun z hz => ?_⟩
        · obtain ⟨i', h1, h2⟩ := d z hz hc
          exact ⟨i', h1, by rw [pk_un (by omega)]; exact h2⟩
        · rw [ht, f z hz]; rfl
        · have h2 := g z hz
          refine (htm z (fun e => ?_)).trans h2
          subst e
          obtain ⟨i', h3, h4⟩ := d z hk (Or.inr (Or.inr hz))
          exact hno i' (by omega) h4
/-- back to level t: p the first place of level t + 1 -/
theorem cd_back {M : Int32 → (Nat → Bool) → Prop} {n : Nat} {mt mf ar : Int32} {s ts L t p : Nat} {tm fm tm' fm' : Int32} {tr ls la la' ra rr : Nat → Int32} {lv : Nat → Nat}
    (h : cd_SI M n mt mf ar s ts L tm fm tr ls la ra rr lv) (htL : t < L) (hp : p < ts) (hlp : lv p = t + 1) (hpl : ∀ i, i < p → lv i < t + 1)
    (ht : ∀ q, bt tm' q = true ↔ (bt tm q = true ∧ ∃ i, i < p ∧ tr i = nI q)) (hf : ∀ q, bt fm' q = true ↔ (bt fm q = true ∧ ∃ i, i < p ∧ tr i = nI q))
    (hla : ∀ j, j < 12 → la' j = if t < j ∧ j ≤ L then 0 else la j) :
    cd_SI M n mt mf ar 0 p t tm' fm' tr ls la' ra rr lv ∧ s + 1 ≤ cd_ph tr ra p + 2 ^ (10 - p) ∧ (∀ i q, i < p → tr i = nI q → bt tm' q = bt tm q) ∧ (∀ i, i < ts → (i < p ↔ lv i ≤ t)) := by
  obtain ⟨hn, hTR, hLV, hRS, hDC, hph⟩ := h
  have hroom := cd_room hTR hn
  have hL := cd_L hLV
  have hpos : ∀ i, i < ts → (i < p ↔ lv i ≤ t) := by
    intro i hi
    constructor
    · intro z; have := hpl i z; omega
    · intro z
      rcases Nat.lt_or_ge i p with y | y
      · exact y
      · have := hLV.1 p i y hi; omega
  have htm : ∀ i q, i < p → tr i = nI q → bt tm' q = bt tm q := by
    intro i q hi e
    cases hb : bt tm q
    · apply zb_tf
      intro z
      rw [((ht q).mp z).1] at hb
      cases hb
    · exact (ht q).mpr ⟨hb, i, hi, e⟩
  obtain ⟨kp, hkp, ep⟩ := hTR.1 p hp
  have hdp : ra kp = -1 := (hLV.2.2.2.1 p kp hp (by omega) ep).mpr ⟨by omega, fun i' hi' => by have := hpl i' hi'; omega⟩
  have hj := cd_ph_jump (tr := tr) (ra := ra) hp (by omega) (by rw [ep, nI_clamp (by omega)]; exact hdp)
  refine ⟨⟨hn, ⟨fun i hi => hTR.1 i (by omega), fun i j hi hj => hTR.2.1 i j (by omega) (by omega), fun q => ?_, fun q h1 h2 => ?_⟩, ⟨?_, ?_, ?_, ?_, ?_, ?_⟩, ?_, ?_, Nat.zero_le _⟩, by omega, htm, hpos⟩
  · constructor
    · rintro (z | z)
      · obtain ⟨a, i, hi, e⟩ := (ht q).mp z
        exact ⟨((hTR.2.2.1 q).mp (Or.inl a)).1, i, hi, e⟩
      · obtain ⟨a, i, hi, e⟩ := (hf q).mp z
        exact ⟨((hTR.2.2.1 q).mp (Or.inr a)).1, i, hi, e⟩
    · intro ⟨hq, i, hi, e⟩
      rcases (hTR.2.2.1 q).mpr ⟨hq, i, by omega, e⟩ with z | z
      · exact Or.inl ((ht q).mpr ⟨z, i, hi, e⟩)
      · exact Or.inr ((hf q).mpr ⟨z, i, hi, e⟩)
  · exact hTR.2.2.2 q ((ht q).mp h1).1 ((hf q).mp h2).1
  · intro i i' h1 h2; exact hLV.1 i i' h1 (by omega)
  · intro i hi; have := hpl i hi; omega
  · intro j h1 h2
    obtain ⟨p', a, b, c, d⟩ := hLV.2.2.1 j h1 (by omega)
    exact ⟨p', a, (hpos p' b).mpr (by omega), c, d⟩
  · intro i k hi hk e; exact hLV.2.2.2.1 i k (by omega) hk e
  · intro j k hj
    rw [hla j (by omega), if_neg (by omega), hLV.2.2.2.2.1 j k (by omega)]
    constructor
    · intro ⟨a, i, hi, b, c⟩
      exact ⟨a, i, (hpos i hi).mpr (by omega), b, c⟩
    · intro ⟨a, i, hi, b, c⟩
      exact ⟨a, i, by omega, b, c⟩
  · intro j h1 h2
    rw [hla j h2]
    by_cases e : t < j ∧ j ≤ L
    · rw [if_pos e]
    · rw [if_neg e]; exact hLV.2.2.2.2.2 j (by omega) h2
  · intro i k hi hk e hne
    obtain ⟨a, b, c⟩ := hRS i k (by omega) hk e hne
    refine ⟨a, b, fun τ hM hag => ?_⟩
    rw [htm i k hi e]
    refine c τ hM (fun q hq => ?_)
    obtain ⟨_, i', h2, h3⟩ := a q hq
    rw [hag q hq, htm i' q (by omega) h3]
  · intro i k hi hk e hd
    rw [htm i k hi e]
    rcases hDC i k (by omega) hk e hd with z | ⟨a, b, c, d, f, g⟩
    · exact Or.inl z
    · refine Or.inr ⟨a, b, c, d, fun q hq => ?_, fun q hq => ?_⟩
      · have h1 := f q hq
        obtain ⟨h2, _⟩ := (hTR.2.2.1 q).mp (Or.inl h1)
        obtain ⟨i', h3, h4⟩ := d q h2 (Or.inr (Or.inl hq))
        rw [htm i' q (by omega) h4]
        exact h1
      · apply zb_tf
        intro z
        have := g q hq
        rw [((ht q).mp z).1] at this
        cases this
/-- the trail is the least of all that fit -/
theorem cd_least {M : Int32 → (Nat → Bool) → Prop} {n : Nat} {mt mf ar : Int32} {s ts L : Nat} {tm fm : Int32} {tr ls la ra rr : Nat → Int32} {lv : Nat → Nat}
    (hM : cd_Mono M) (h : cd_SI M n mt mf ar s ts L tm fm tr ls la ra rr lv) (hall : ∀ q, q < n → bt tm q = true ∨ bt fm q = true)
    {τ : Nat → Bool} (hτ : M ar τ) (h1 : ∀ q, bt mt q = true → τ q = true) (h2 : ∀ q, bt mf q = true → τ q = false) {p : Nat} (hp : p < n)
    (heq : ∀ q, q < p → τ q = bt tm q) (hne : τ p ≠ bt tm p) : τ p = true ∧ bt tm p = false := by
  obtain ⟨hn, hTR, hLV, hRS, hDC, hph⟩ := h
  obtain ⟨_, ip, hip, ep⟩ := (hTR.2.2.1 p).mp (hall p hp)
  cases hb : bt tm p
  · refine ⟨?_, rfl⟩
    cases hc : τ p
    · rw [hb, hc] at hne; exact (hne rfl).elim
    · rfl
  · exfalso
    have key : ∀ m i, i < m → i ≤ ip → ∀ k, k < 10 → tr i = nI k → τ k = bt tm k := by
      intro m
      induction m with
      | zero => intro i h; omega
      | succ m ih =>
        intro i him hii k hk e
        by_cases hd : ra k = -1
        · rcases hDC i k (by omega) hk e hd with ⟨a, b⟩ | ⟨a, b, c, d, _, _⟩
          · rw [b]
            rcases a with z | z
            · rw [z]; exact h1 k z
            · have z2 := h2 k z
              cases y : bt mt k
              · exact z2
              · rw [h1 k y] at z2; cases z2
          · rcases Nat.lt_trichotomy k p with z | z | z
            · exact heq k z
            · rw [z, hb] at c; cases c
            · obtain ⟨i', h3, h4⟩ := d p hp (Or.inl z)
              have := hTR.2.1 i' ip (by omega) hip (by rw [h4, ep])
              omega
        · obtain ⟨a, b, c⟩ := hRS i k (by omega) hk e hd
          refine c τ (hM _ _ _ b hτ) (fun q hq => ?_)
          obtain ⟨h3, i', h4, h5⟩ := a q hq
          exact ih i' (by omega) (by omega) q h3 h5
    exact hne (key (ip + 1) ip (by omega) (Nat.le_refl _) p (by omega) ep)
end
section
/-! insertEdge: lowering, pure -/
def ie_LN (ae st : Int32) (ef et ew pt mv : Nat → Int32) (s i : Nat) (gm0 vi0 gm vi : Nat → Int32) : Prop :=
  (∀ v, (gm v).toInt ≤ (gm0 v).toInt) ∧
  (∀ e, e < i → bt ae e = true → (ef e).toNatClampNeg = s → bt st (et e).toNatClampNeg = false → (gm (et e).toNatClampNeg).toInt ≤ (mv s).toInt + (ew e).toInt - (pt (et e).toNatClampNeg).toInt) ∧
  (∀ v, (gm v = gm0 v ∧ vi v = vi0 v) ∨ (bt st v = false ∧ ∃ e, e < 11 ∧ bt ae e = true ∧ (ef e).toNatClampNeg = s ∧ (et e).toNatClampNeg = v ∧ vi v = nI e ∧ (gm v).toInt = (mv s).toInt + (ew e).toInt - (pt v).toInt))
def ie_I (ae : Int32) (ef et ew pt : Nat → Int32) (e : Nat) (lo : Int) (st : Int32) (r : Nat) (ord : Nat → Nat) (mv gm vi : Nat → Int32) : Prop :=
  (∀ v, bt st v = true ↔ ∃ i, i < r ∧ ord i = v) ∧
  (∀ i, i < r → ord i < 8) ∧
  (∀ i j, i < r → j < r → ord i = ord j → i = j) ∧
  (∀ v, v < 8 → (gm v).toInt ≤ 0) ∧
  (∀ v, v < 8 → bt st v = true → (gm v).toInt = 0 ∧ (mv v).toInt < (pt v).toInt) ∧
  (∀ v, v < 8 → bt st v = false → mv v = pt v) ∧
  bt st (ef e).toNatClampNeg = false ∧
  (∀ u v, u < 8 → v < 8 → bt st u = true → bt st v = false → (gm v).toInt < 0 → (mv u).toInt - (pt u).toInt ≤ (gm v).toInt) ∧
  (∀ e', e' < 11 → bt ae e' = true → bt st (ef e').toNatClampNeg = true → (mv (et e').toNatClampNeg).toInt + (gm (et e').toNatClampNeg).toInt ≤ (mv (ef e').toNatClampNeg).toInt + (ew e').toInt) ∧
  ((mv (et e).toNatClampNeg).toInt + (gm (et e).toNatClampNeg).toInt ≤ (pt (ef e).toNatClampNeg).toInt + (ew e).toInt ∧ ((mv (et e).toNatClampNeg).toInt + (gm (et e).toNatClampNeg).toInt < (pt (et e).toNatClampNeg).toInt → (mv (et e).toNatClampNeg).toInt + (gm (et e).toNatClampNeg).toInt = (pt (ef e).toNatClampNeg).toInt + (ew e).toInt)) ∧
  (∀ v, v < 8 → (mv v).toInt + (gm v).toInt < (pt v).toInt → (v = (et e).toNatClampNeg) ∨
      (∃ e' i, e' < 11 ∧ bt ae e' = true ∧ i < r ∧ vi v = nI e' ∧ (et e').toNatClampNeg = v ∧ (ef e').toNatClampNeg = ord i ∧ (mv v).toInt + (gm v).toInt = (mv (ord i)).toInt + (ew e').toInt ∧ ∀ j, j < r → ord j = v → i < j)) ∧
  (∀ v, v < 8 → lo - 708 * ((r : Int) + 1) ≤ (mv v).toInt + (gm v).toInt) ∧
  ((r = 0 → ∀ v, v < 8 → (gm v).toInt < 0 → v = (et e).toNatClampNeg) ∧ (1 ≤ r → bt st (et e).toNatClampNeg = true))
/-- edges in use are well formed -/
def ie_Ok (ae : Int32) (ef et ew : Nat → Int32) : Prop := ∀ e, e < 11 → bt ae e = true → vp_in (ef e) 8 ∧ vp_in (et e) 8 ∧ -708 ≤ (ew e).toInt ∧ (ew e).toInt ≤ 708
def ie_Fe (ae : Int32) (ef et ew pt : Nat → Int32) : Prop := ∀ e, e < 11 → bt ae e = true → (pt (et e).toNatClampNeg).toInt ≤ (pt (ef e).toNatClampNeg).toInt + (ew e).toInt
theorem ie_step {ae : Int32} {ef et ew pt : Nat → Int32} {e : Nat} {lo : Int} {st st' : Int32} {r : Nat} {ord : Nat → Nat} {mv mv' gm gm1 vi gm' vi' : Nat → Int32} {s : Nat}
    (h : ie_I ae ef et ew pt e lo st r ord mv gm vi) (hok : ie_Ok ae ef et ew) (hfe : ie_Fe ae ef et ew pt) (hs : s < 8) (hneg : (gm s).toInt < 0) (hmin : ∀ v, v < 8 → (gm s).toInt ≤ (gm v).toInt)
    (hsrc : 0 ≤ (gm (ef e).toNatClampNeg).toInt) (hst : ∀ v, bt st' v = (bt st v || decide (v = s)))
    (hmv : (mv' s).toInt = (pt s).toInt + (gm s).toInt) (hmv' : ∀ v, v ≠ s → mv' v = mv v) (hg1 : gm1 s = 0) (hg1' : ∀ v, v ≠ s → gm1 v = gm v)
    (hln : ie_LN ae st' ef et ew pt mv' s 11 gm1 vi gm' vi') :
    ie_I ae ef et ew pt e lo st' (r + 1) (fun i => if i = r then s else ord i) mv' gm' vi' := by
  obtain ⟨i1, i2, i3, i4, i5, i6, i7, i8, i9, i10, i11, i12, i13⟩ := h
  obtain ⟨l1, l2, l3⟩ := hln
  have hsu : bt st s = false := zb_tf fun z => by have := (i5 s hs z).1; omega
  have hst1 : bt st' s = true := by rw [hst, decide_eq_true rfl, Bool.or_true]
  have hst2 : ∀ v, v ≠ s → bt st' v = bt st v := fun v hv => by rw [hst, decide_eq_false hv, Bool.or_false]
  have hg0 : (gm1 s).toInt = 0 := by rw [hg1, zi_0]
  have hms : mv s = pt s := i6 s hs hsu
  have hls : ∀ v, bt st' v = true → gm' v = gm1 v ∧ vi' v = vi v := by
    intro v hv
    rcases l3 v with z | ⟨z, _⟩
    · exact z
    · rw [hv] at z; cases z
  -- value of s
  have hvs : (mv' s).toInt + (gm' s).toInt = (mv s).toInt + (gm s).toInt := by
    rw [(hls s hst1).1, hg0, hmv, hms]; omega
  have hval : ∀ v, (mv' v).toInt + (gm' v).toInt ≤ (mv v).toInt + (gm v).toInt := by
    intro v
    by_cases e1 : v = s
    · rw [e1]; omega
    · have := l1 v
      rw [hg1' v e1] at this
      rw [hmv' v e1]; omega
  have hdel : ∀ u, u < 8 → bt st' u = true → (mv' u).toInt - (pt u).toInt ≤ (gm s).toInt := by
    intro u hu hb
    by_cases e1 : u = s
    · rw [e1]; omega
    · rw [hst2 u e1] at hb
      rw [hmv' u e1]
      exact i8 u s hu hs hb hsu hneg
  have hdst : bt st' (et e).toNatClampNeg = true := by
    rcases Nat.eq_zero_or_pos r with z | z
    · rw [← i13.1 z s hs hneg]; exact hst1
    · rw [hst, i13.2 z]; rfl
  have hvd : (mv' (et e).toNatClampNeg).toInt + (gm' (et e).toNatClampNeg).toInt = (mv (et e).toNatClampNeg).toInt + (gm (et e).toNatClampNeg).toInt := by
    by_cases e1 : (et e).toNatClampNeg = s
    · rw [e1]; exact hvs
    · rw [(hls _ hdst).1, hg1' _ e1, hmv' _ e1]
  refine ⟨fun v => ?_, fun i hi => ?_, fun i j hi hj => ?_, fun v hv => ?_, fun v hv hb => ?_, fun v hv hb => ?_, ?_, fun u v hu hv hb hb' hn => ?_, fun e' he' ha hb => ?_, ?_, fun v hv hlt => ?_, fun v hv => ?_, fun z => by omega, fun _ => hdst⟩
  all_goals (try dsimp only)
  · by_cases e1 : v = s
    · subst e1
      exact ⟨fun _ => ⟨r, by omega, if_pos rfl⟩, fun _ => hst1⟩
    · rw [hst2 v e1, i1 v]
      constructor
      · intro ⟨i, hi, e2⟩
        exact ⟨i, by omega, by rw [if_neg (by omega)]; exact e2⟩
      · intro ⟨i, hi, e2⟩
        by_cases e3 : i = r
        · rw [if_pos e3] at e2; exact (e1 e2.symm).elim
        · rw [if_neg e3] at e2; exact ⟨i, by omega, e2⟩
  · by_cases e3 : i = r
    · rw [if_pos e3]; exact hs
    · rw [if_neg e3]; exact i2 i (by omega)
  · have hne : ∀ i, i < r → ord i ≠ s := by
      intro i hi z
      rw [(i1 s).mpr ⟨i, hi, z⟩] at hsu
      cases hsu
    by_cases e3 : i = r
    · by_cases e4 : j = r
      · omega
      · rw [if_pos e3, if_neg e4]
        intro z; exact (hne j (by omega) z.symm).elim
    · by_cases e4 : j = r
      · rw [if_neg e3, if_pos e4]
        intro z; exact (hne i (by omega) z).elim
      · rw [if_neg e3, if_neg e4]
        exact i3 i j (by omega) (by omega)
  · have h1 := l1 v
    by_cases e1 : v = s
    · rw [e1, hg0] at h1; rw [e1]; exact h1
    · rw [hg1' v e1] at h1
      have := i4 v hv
      omega
  · rw [(hls v hb).1]
    by_cases e1 : v = s
    · rw [e1, hg0, hmv]; omega
    · rw [hst2 v e1] at hb
      rw [hg1' v e1, hmv' v e1]
      exact i5 v hv hb
  · have e1 : v ≠ s := fun z => by rw [z, hst1] at hb; cases hb
    rw [hst2 v e1] at hb
    rw [hmv' v e1]
    exact i6 v hv hb
  · have e1 : (ef e).toNatClampNeg ≠ s := fun z => by rw [z] at hsrc; omega
    rw [hst2 _ e1]
    exact i7
  · have h1 := hdel u hu hb
    have e1 : v ≠ s := fun z => by rw [z, hst1] at hb'; cases hb'
    rcases l3 v with ⟨z, _⟩ | ⟨_, e', he', ha, hF, hT, _, hg⟩
    · rw [z, hg1' v e1]
      have := hmin v hv
      omega
    · have h2 := hfe e' he' ha
      rw [hF, hT] at h2
      omega
  · obtain ⟨o1, o2, o3, o4⟩ := hok e' he' ha
    have hF8 := (zi_in o1).1
    have hT8 := (zi_in o2).1
    have h2 := hfe e' he' ha
    by_cases e1 : (ef e').toNatClampNeg = s
    · rw [e1]
      rw [e1] at h2
      cases hb' : bt st' (et e').toNatClampNeg
      · have h3 := l2 e' he' ha e1 hb'
        have e2 : (et e').toNatClampNeg ≠ s := fun z => by rw [z, hst1] at hb'; cases hb'
        have h4 : mv' (et e').toNatClampNeg = pt (et e').toNatClampNeg := by
          rw [hmv' _ e2]
          rw [hst2 _ e2] at hb'
          exact i6 _ hT8 hb'
        rw [h4]
        omega
      · have h3 := hdel _ hT8 hb'
        have h4 : (gm' (et e').toNatClampNeg).toInt = 0 := by
          rw [(hls _ hb').1]
          by_cases e2 : (et e').toNatClampNeg = s
          · rw [e2, hg0]
          · rw [hg1' _ e2]
            rw [hst2 _ e2] at hb'
            exact (i5 _ hT8 hb').1
        omega
    · rw [hst2 _ e1] at hb
      have h3 := i9 e' he' ha hb
      have h4 := hval (et e').toNatClampNeg
      rw [hmv' _ e1]
      omega
  · rw [hvd]; exact i10
  · have hold : ∀ i, i < r → mv' (ord i) = mv (ord i) := by
      intro i hi
      refine hmv' _ (fun z => ?_)
      rw [(i1 s).mpr ⟨i, hi, z⟩] at hsu
      cases hsu
    have carry : (mv' v).toInt + (gm' v).toInt = (mv v).toInt + (gm v).toInt → vi' v = vi v → (v = (et e).toNatClampNeg) ∨
        (∃ e' i, e' < 11 ∧ bt ae e' = true ∧ i < r + 1 ∧ vi' v = nI e' ∧ (et e').toNatClampNeg = v ∧ (ef e').toNatClampNeg = (if i = r then s else ord i) ∧ (mv' v).toInt + (gm' v).toInt = (mv' (if i = r then s else ord i)).toInt + (ew e').toInt ∧ ∀ j, j < r + 1 → (if j = r then s else ord j) = v → i < j) := by
      intro q1 q2
      rcases i11 v hv (by omega) with z1 | ⟨e', i, a1, a2, a3, a4, a5, a6, a7, a8⟩
      · exact Or.inl z1
      · refine Or.inr ⟨e', i, a1, a2, by omega, by rw [q2]; exact a4, a5, by rw [if_neg (by omega)]; exact a6, by rw [if_neg (by omega), hold i a3]; omega, fun j hj hv' => ?_⟩
        by_cases e3 : j = r
        · omega
        · rw [if_neg e3] at hv'
          exact a8 j (by omega) hv'
    by_cases e1 : v = s
    · subst e1
      exact carry hvs (hls v hst1).2
    · rcases l3 v with ⟨z, z2⟩ | ⟨z, e', he', ha, hF, hT, hvi, hg⟩
      · exact carry (by rw [z, hg1' v e1, hmv' v e1]) z2
      · have h4 : mv' v = pt v := by
          rw [hst2 _ e1] at z
          rw [hmv' _ e1]
          exact i6 _ hv z
        refine Or.inr ⟨e', r, he', ha, by omega, hvi, hT, by rw [if_pos rfl]; exact hF, by rw [if_pos rfl, h4]; omega, fun j hj hv' => ?_⟩
        by_cases e3 : j = r
        · rw [if_pos e3] at hv'; exact (e1 hv'.symm).elim
        · rw [if_neg e3] at hv'
          rw [hst2 _ e1] at z
          rw [(i1 v).mpr ⟨j, by omega, hv'⟩] at z
          cases z
  · have h1 := i12 v hv
    by_cases e1 : v = s
    · rw [e1] at h1; rw [e1, hvs]; omega
    · rcases l3 v with ⟨z, z2⟩ | ⟨z, e', he', ha, hF, hT, hvi, hg⟩
      · rw [z, hg1' v e1, hmv' v e1]; omega
      · have h4 : mv' v = pt v := by
          rw [hst2 _ e1] at z
          rw [hmv' _ e1]
          exact i6 _ hv z
        have h5 := i12 s hs
        have h6 := (hok e' he' ha).2.2.1
        rw [h4, hg, hmv]
        rw [hms] at h5
        omega
/-- the end: nothing is left to sink -/
theorem ie_end {ae : Int32} {ef et ew pt : Nat → Int32} {e : Nat} {lo : Int} {st : Int32} {r : Nat} {ord : Nat → Nat} {mv gm vi : Nat → Int32}
    (h : ie_I ae ef et ew pt e lo st r ord mv gm vi) (hok : ie_Ok ae ef et ew) (hfe : ie_Fe ae ef et ew pt) (he1 : (ef e).toNatClampNeg < 8) (he2 : (et e).toNatClampNeg < 8) (hr : r ≤ 8) (hup : ∀ v, v < 8 → (pt v).toInt ≤ 0)
    (h0 : ∀ v, v < 8 → 0 ≤ (gm v).toInt) :
    (∀ e', e' < 11 → bt ae e' = true ∨ e' = e → (mv (et e').toNatClampNeg).toInt ≤ (mv (ef e').toNatClampNeg).toInt + (ew e').toInt) ∧ (∀ v, v < 8 → lo - 8000 ≤ (mv v).toInt ∧ (mv v).toInt ≤ 0) := by
  obtain ⟨i1, i2, i3, i4, i5, i6, i7, i8, i9, i10, i11, i12, i13⟩ := h
  have hz : ∀ v, v < 8 → (gm v).toInt = 0 := fun v hv => by have := h0 v hv; have := i4 v hv; omega
  have hle : ∀ v, v < 8 → (mv v).toInt ≤ (pt v).toInt := by
    intro v hv
    cases hb : bt st v
    · rw [i6 v hv hb]; exact Int.le_refl _
    · exact Int.le_of_lt (i5 v hv hb).2
  refine ⟨fun e' he' hor => ?_, fun v hv => ?_⟩
  · rcases hor with ha | rfl
    · obtain ⟨o1, o2, o3, o4⟩ := hok e' he' ha
      have hF8 := (zi_in o1).1
      have hT8 := (zi_in o2).1
      cases hb : bt st (ef e').toNatClampNeg
      · rw [i6 _ hF8 hb]
        have := hle _ hT8
        have := hfe e' he' ha
        omega
      · have := i9 e' he' ha hb
        have := hz _ hT8
        omega
    · have := hz _ he2
      have := i10.1
      rw [i6 _ he1 i7]
      omega
  · have h1 := i12 v hv
    have h2 := hz v hv
    have h3 := hle v hv
    have h4 := hup v hv
    omega
/-- eight settled would hold the source too -/
theorem ie_full {ae : Int32} {ef et ew pt : Nat → Int32} {e : Nat} {lo : Int} {st : Int32} {ord : Nat → Nat} {mv gm vi : Nat → Int32}
    (h : ie_I ae ef et ew pt e lo st 8 ord mv gm vi) (he1 : (ef e).toNatClampNeg < 8) : False := by
  obtain ⟨i1, i2, i3, i4, i5, i6, i7, _⟩ := h
  obtain ⟨i, hi, e1⟩ := zc_all i2 i3 (ef e).toNatClampNeg he1
  rw [(i1 _).mpr ⟨i, hi, e1⟩] at i7
  cases i7
end
section
section
variable {f_goalEdge f_goalRest f_atomBits f_decided f_maxVariables f_maxAtoms f_maxClauses f_maxDepth f_atomCount f_clauseCount f_depthNow f_assumedTrue f_assumedFalse f_status f_presentTrue f_coreKnown f_coreClauses f_coreAtoms f_witnessClauses f_witnessAtoms f_learnedCount f_learnedNext f_activeRests f_trueMask f_falseMask f_trailSize f_theoryHead f_level f_conflictAtoms f_conflictRests f_failedAtoms f_failedRests f_activeEdges f_goalOn : Int32} {a_kinds a_lefts a_rights a_bounds a_atomDepths a_literals a_literalCounts a_clausePos a_clauseNeg a_clauseDepths a_values a_learnedPos a_learnedNeg a_learnedRests a_trail a_levelStart a_levelAtoms a_reasonAtoms a_reasonRests a_edgeFrom a_edgeTo a_edgeWeight a_potential a_moved a_gamma a_via a_dist a_link : Nat → Int32}
theorem xw_slack {post : Int32 → Prop} {e : Nat} (he : e < 11) (hf : vp_in (a_edgeFrom e) 8) (ht : vp_in (a_edgeTo e) 8)
    (K : post (a_potential (a_edgeFrom e).toNatClampNeg + a_edgeWeight e - a_potential (a_edgeTo e).toNatClampNeg)) : wpX_slack post (f_goalEdge, f_goalRest, f_atomBits, f_decided, f_maxVariables, f_maxAtoms, f_maxClauses, f_maxDepth, f_atomCount, f_clauseCount, f_depthNow, f_assumedTrue, f_assumedFalse, f_status, f_presentTrue, f_coreKnown, f_coreClauses, f_coreAtoms, f_witnessClauses, f_witnessAtoms, f_learnedCount, f_learnedNext, f_activeRests, f_trueMask, f_falseMask, f_trailSize, f_theoryHead, f_level, f_conflictAtoms, f_conflictRests, f_failedAtoms, f_failedRests, f_activeEdges, f_goalOn, a_kinds, a_lefts, a_rights, a_bounds, a_atomDepths, a_literals, a_literalCounts, a_clausePos, a_clauseNeg, a_clauseDepths, a_values, a_learnedPos, a_learnedNeg, a_learnedRests, a_trail, a_levelStart, a_levelAtoms, a_reasonAtoms, a_reasonRests, a_edgeFrom, a_edgeTo, a_edgeWeight, a_potential, a_moved, a_gamma, a_via, a_dist, a_link) (nI e) := by
  have c : (nI e).toNatClampNeg = e := nI_clamp (by omega)
  have i : vp_in (nI e) 11 := vp_in_nI he (by omega)
  refine And.intro i (And.intro ?_ (And.intro i (And.intro i (And.intro ?_ ?_))))
  · rw [c]; exact hf
  · rw [c]; exact ht
  · rw [c]; exact K
theorem xw_mn {post : Int32 → Prop} (hneg : ∀ s, s < 8 → (a_gamma s).toInt < 0 → (∀ v, v < 8 → (a_gamma s).toInt ≤ (a_gamma v).toInt) → post (nI s)) (hno : (∀ v, v < 8 → 0 ≤ (a_gamma v).toInt) → post (-1)) : wpX_mostNegative post (f_goalEdge, f_goalRest, f_atomBits, f_decided, f_maxVariables, f_maxAtoms, f_maxClauses, f_maxDepth, f_atomCount, f_clauseCount, f_depthNow, f_assumedTrue, f_assumedFalse, f_status, f_presentTrue, f_coreKnown, f_coreClauses, f_coreAtoms, f_witnessClauses, f_witnessAtoms, f_learnedCount, f_learnedNext, f_activeRests, f_trueMask, f_falseMask, f_trailSize, f_theoryHead, f_level, f_conflictAtoms, f_conflictRests, f_failedAtoms, f_failedRests, f_activeEdges, f_goalOn, a_kinds, a_lefts, a_rights, a_bounds, a_atomDepths, a_literals, a_literalCounts, a_clausePos, a_clauseNeg, a_clauseDepths, a_values, a_learnedPos, a_learnedNeg, a_learnedRests, a_trail, a_levelStart, a_levelAtoms, a_reasonAtoms, a_reasonRests, a_edgeFrom, a_edgeTo, a_edgeWeight, a_potential, a_moved, a_gamma, a_via, a_dist, a_link) := by
  have key : ∀ n i x1 x2, i ≤ 8 → 8 < n + i → x2.toInt ≤ 0 → (∀ v, v < i → x2.toInt ≤ (a_gamma v).toInt) → ((x1 = -1 ∧ x2 = 0) ∨ ∃ s, s < 8 ∧ x1 = nI s ∧ x2 = a_gamma s ∧ (a_gamma s).toInt < 0) → wX_mostNegative_6 post f_goalEdge f_goalRest f_atomBits f_decided f_maxVariables f_maxAtoms f_maxClauses f_maxDepth f_atomCount f_clauseCount f_depthNow f_assumedTrue f_assumedFalse f_status f_presentTrue f_coreKnown f_coreClauses f_coreAtoms f_witnessClauses f_witnessAtoms f_learnedCount f_learnedNext f_activeRests f_trueMask f_falseMask f_trailSize f_theoryHead f_level f_conflictAtoms f_conflictRests f_failedAtoms f_failedRests f_activeEdges f_goalOn a_kinds a_lefts a_rights a_bounds a_atomDepths a_literals a_literalCounts a_clausePos a_clauseNeg a_clauseDepths a_values a_learnedPos a_learnedNeg a_learnedRests a_trail a_levelStart a_levelAtoms a_reasonAtoms a_reasonRests a_edgeFrom a_edgeTo a_edgeWeight a_potential a_moved a_gamma a_via a_dist a_link n x1 x2 (nI i) := by
    intro n
    induction n with
    | zero => intro i _ _ h1 h2; omega
    | succ n ih =>
      intro i x1 x2 hi hn h0 hv hs
      have c : (nI i).toNatClampNeg = i := nI_clamp (by omega)
      refine pk_le 8 i (fun h => ?_) (fun h => And.intro (pk_in i 8 h) ?_)
      · have : i = 8 := by omega
        subst this
        rcases hs with ⟨rfl, rfl⟩ | ⟨s, hs, rfl, rfl, hlt⟩
        · exact hno (fun v hv' => by have := hv v hv'; rw [zi_0] at this; exact this)
        · exact hneg s hs hlt hv
      · rw [c]
        refine br_c (fun h2 => nm_r (nI_1 i) (ih (i + 1) x1 x2 (by omega) (by omega) h0 (fun v hv' => ?_) hs)) (fun h2 => And.intro (pk_in i 8 h) (nm_e (nm_r (nI_1 i) (ih (i + 1) (nI i) (a_gamma i) (by omega) (by omega) ?_ (fun v hv' => ?_) ?_))))
        · rw [zi_le] at h2
          rcases Nat.lt_or_ge v i with z | z
          · exact hv v z
          · have : v = i := by omega
            rw [this]; exact h2
        · rw [zi_le] at h2; omega
        · rw [zi_le] at h2
          rcases Nat.lt_or_ge v i with z | z
          · have := hv v z; omega
          · have : v = i := by omega
            rw [this]; exact Int.le_refl _
        · rw [zi_le] at h2
          exact Or.inr ⟨i, h, rfl, rfl, by omega⟩
  exact Exists.intro 9 (key 9 0 (-1) 0 (by omega) (by omega) (by rw [zi_0]; exact Int.le_refl _) (fun v hv => by omega) (Or.inl ⟨rfl, rfl⟩))
theorem xw_ln {post : SX → Prop} {s : Nat} {st : Int32} (hs : s < 8) (hok : ie_Ok f_activeEdges a_edgeFrom a_edgeTo a_edgeWeight)
    (hm : -400000000 ≤ (a_moved s).toInt ∧ (a_moved s).toInt ≤ 0) (hp : ∀ v, v < 8 → -400000000 ≤ (a_potential v).toInt ∧ (a_potential v).toInt ≤ 0)
    (K : ∀ gm vi, ie_LN f_activeEdges st a_edgeFrom a_edgeTo a_edgeWeight a_potential a_moved s 11 a_gamma a_via gm vi → post (f_goalEdge, f_goalRest, f_atomBits, f_decided, f_maxVariables, f_maxAtoms, f_maxClauses, f_maxDepth, f_atomCount, f_clauseCount, f_depthNow, f_assumedTrue, f_assumedFalse, f_status, f_presentTrue, f_coreKnown, f_coreClauses, f_coreAtoms, f_witnessClauses, f_witnessAtoms, f_learnedCount, f_learnedNext, f_activeRests, f_trueMask, f_falseMask, f_trailSize, f_theoryHead, f_level, f_conflictAtoms, f_conflictRests, f_failedAtoms, f_failedRests, f_activeEdges, f_goalOn, a_kinds, a_lefts, a_rights, a_bounds, a_atomDepths, a_literals, a_literalCounts, a_clausePos, a_clauseNeg, a_clauseDepths, a_values, a_learnedPos, a_learnedNeg, a_learnedRests, a_trail, a_levelStart, a_levelAtoms, a_reasonAtoms, a_reasonRests, a_edgeFrom, a_edgeTo, a_edgeWeight, a_potential, a_moved, gm, vi, a_dist, a_link)) : wpX_lowerNeighbours post (f_goalEdge, f_goalRest, f_atomBits, f_decided, f_maxVariables, f_maxAtoms, f_maxClauses, f_maxDepth, f_atomCount, f_clauseCount, f_depthNow, f_assumedTrue, f_assumedFalse, f_status, f_presentTrue, f_coreKnown, f_coreClauses, f_coreAtoms, f_witnessClauses, f_witnessAtoms, f_learnedCount, f_learnedNext, f_activeRests, f_trueMask, f_falseMask, f_trailSize, f_theoryHead, f_level, f_conflictAtoms, f_conflictRests, f_failedAtoms, f_failedRests, f_activeEdges, f_goalOn, a_kinds, a_lefts, a_rights, a_bounds, a_atomDepths, a_literals, a_literalCounts, a_clausePos, a_clauseNeg, a_clauseDepths, a_values, a_learnedPos, a_learnedNeg, a_learnedRests, a_trail, a_levelStart, a_levelAtoms, a_reasonAtoms, a_reasonRests, a_edgeFrom, a_edgeTo, a_edgeWeight, a_potential, a_moved, a_gamma, a_via, a_dist, a_link) (nI s) st := by
  have cs : (nI s).toNatClampNeg = s := nI_clamp (by omega)
  have key : ∀ n i gm vi, i ≤ 11 → 11 < n + i → ie_LN f_activeEdges st a_edgeFrom a_edgeTo a_edgeWeight a_potential a_moved s i a_gamma a_via gm vi → wX_lowerNeighbours_2 post (nI s) st f_goalEdge f_goalRest f_atomBits f_decided f_maxVariables f_maxAtoms f_maxClauses f_maxDepth f_atomCount f_clauseCount f_depthNow f_assumedTrue f_assumedFalse f_status f_presentTrue f_coreKnown f_coreClauses f_coreAtoms f_witnessClauses f_witnessAtoms f_learnedCount f_learnedNext f_activeRests f_trueMask f_falseMask f_trailSize f_theoryHead f_level f_conflictAtoms f_conflictRests f_failedAtoms f_failedRests f_activeEdges f_goalOn n (nI i) a_kinds a_lefts a_rights a_bounds a_atomDepths a_literals a_literalCounts a_clausePos a_clauseNeg a_clauseDepths a_values a_learnedPos a_learnedNeg a_learnedRests a_trail a_levelStart a_levelAtoms a_reasonAtoms a_reasonRests a_edgeFrom a_edgeTo a_edgeWeight a_potential a_moved gm vi a_dist a_link := by
    intro n
    induction n with
    | zero => intro i gm vi h1 h2; omega
    | succ n ih =>
      intro i gm vi hi hn hI
      have c : (nI i).toNatClampNeg = i := nI_clamp (by omega)
      refine pk_le 11 i (fun h => ?_) (fun h => ?_)
      · have : i = 11 := by omega
        subst this
        exact K gm vi hI
      · obtain ⟨l1, l2, l3⟩ := hI
        have next : ∀ (hskip : bt f_activeEdges i = true → (a_edgeFrom i).toNatClampNeg = s → bt st (a_edgeTo i).toNatClampNeg = false → (gm (a_edgeTo i).toNatClampNeg).toInt ≤ (a_moved s).toInt + (a_edgeWeight i).toInt - (a_potential (a_edgeTo i).toNatClampNeg).toInt), ie_LN f_activeEdges st a_edgeFrom a_edgeTo a_edgeWeight a_potential a_moved s (i + 1) a_gamma a_via gm vi := by
          intro hskip
          refine ⟨l1, fun e he => ?_, l3⟩
          rcases Nat.lt_or_ge e i with z | z
          · exact l2 e z
          · have : e = i := by omega
            subst this
            exact hskip
        refine br_c (fun h2 => nm_r (nI_1 i) (ih (i + 1) gm vi (by omega) (by omega) (next ?_))) (fun h2 => And.intro (pk_in i 11 h) ?_)
        · intro z
          rw [zb_shr1 (by omega)] at h2
          rw [h2] at z; cases z
        · have ha : bt f_activeEdges i = true := zb_ft (fun z => h2 ((zb_shr1 (by omega)).mpr z))
          obtain ⟨o1, o2, o3, o4⟩ := hok i (by omega) ha
          obtain ⟨p1, p2, p3⟩ := zi_in o1
          obtain ⟨q1, q2, q3⟩ := zi_in o2
          rw [c]
          refine br_c (fun h3 => And.intro (pk_in i 11 h) (nm_e (And.intro (pk_in s 8 hs) (And.intro (pk_in i 11 h) (And.intro o2 ?_))))) (fun h3 => nm_r (nI_1 i) (ih (i + 1) gm vi (by omega) (by omega) (next ?_)))
          · have hF : (a_edgeFrom i).toNatClampNeg = s := by rw [h3, cs]
            rw [cs]
            refine nm_e ?_
            have hP := hp (a_edgeTo i).toNatClampNeg q1
            have hv : (a_moved s + a_edgeWeight i - a_potential (a_edgeTo i).toNatClampNeg).toInt = (a_moved s).toInt + (a_edgeWeight i).toInt - (a_potential (a_edgeTo i).toNatClampNeg).toInt := by
              have e1 : (a_moved s + a_edgeWeight i).toInt = (a_moved s).toInt + (a_edgeWeight i).toInt := zi_add (by omega) (by omega)
              rw [zi_sub (by rw [e1]; omega) (by rw [e1]; omega), e1]
            refine br_c (fun h4 => And.intro o2 (br_c (fun h5 => nm_r (nI_1 i) (ih (i + 1) gm vi (by omega) (by omega) (next ?_))) (fun h5 => And.intro o2 (nm_e (And.intro o2 (nm_e (nm_r (nI_1 i) (ih (i + 1) _ _ (by omega) (by omega) ?_)))))))) (fun h4 => nm_r (nI_1 i) (ih (i + 1) gm vi (by omega) (by omega) (next ?_)))
            · intro _ _ _
              rw [zi_le, hv] at h5
              exact h5
            · rw [zi_le, hv] at h5
              have h4' : bt st (a_edgeTo i).toNatClampNeg = false := by
                rw [q2] at h4
                exact (zb_shr1 (by omega)).mp h4
              refine ⟨fun v => ?_, fun e he ha' hF' hst => ?_, fun v => ?_⟩
              · by_cases e1 : v = (a_edgeTo i).toNatClampNeg
                · rw [e1, pk_us, hv]
                  have := l1 (a_edgeTo i).toNatClampNeg
                  omega
                · rw [pk_un e1]; exact l1 v
              · by_cases e1 : (a_edgeTo e).toNatClampNeg = (a_edgeTo i).toNatClampNeg
                · rw [e1, pk_us, hv]
                  rcases Nat.lt_or_ge e i with z | z
                  · have h6 := l2 e z ha' hF' hst
                    rw [e1] at h6
                    omega
                  · have : e = i := by omega
                    subst this
                    exact Int.le_refl _
                · rw [pk_un e1]
                  rcases Nat.lt_or_ge e i with z | z
                  · exact l2 e z ha' hF' hst
                  · have : e = i := by omega
                    rw [this] at e1
                    exact (e1 rfl).elim
              · by_cases e1 : v = (a_edgeTo i).toNatClampNeg
                · rw [e1, pk_us, pk_us]
                  exact Or.inr ⟨h4', i, by omega, ha, hF, rfl, rfl, hv⟩
                · rw [pk_un e1, pk_un e1]
                  exact l3 v
            · intro _ _ z
              rw [q2] at h4
              exact (h4 ((zb_shr1 (by omega)).mpr z)).elim
          · intro _ z
            exact (h3 (by rw [p2, z])).elim
  exact Exists.intro 12 (key 12 0 a_gamma a_via (by omega) (by omega) ⟨fun v => Int.le_refl _, fun e he => by omega, fun v => Or.inl ⟨rfl, rfl⟩⟩)
theorem xw_ro {post : Int32 → Prop} {es : Int32} (K : post (if bt es 10 = true then 16777216 else 0)) : wpX_restsOfEdges post (f_goalEdge, f_goalRest, f_atomBits, f_decided, f_maxVariables, f_maxAtoms, f_maxClauses, f_maxDepth, f_atomCount, f_clauseCount, f_depthNow, f_assumedTrue, f_assumedFalse, f_status, f_presentTrue, f_coreKnown, f_coreClauses, f_coreAtoms, f_witnessClauses, f_witnessAtoms, f_learnedCount, f_learnedNext, f_activeRests, f_trueMask, f_falseMask, f_trailSize, f_theoryHead, f_level, f_conflictAtoms, f_conflictRests, f_failedAtoms, f_failedRests, f_activeEdges, f_goalOn, a_kinds, a_lefts, a_rights, a_bounds, a_atomDepths, a_literals, a_literalCounts, a_clausePos, a_clauseNeg, a_clauseDepths, a_values, a_learnedPos, a_learnedNeg, a_learnedRests, a_trail, a_levelStart, a_levelAtoms, a_reasonAtoms, a_reasonRests, a_edgeFrom, a_edgeTo, a_edgeWeight, a_potential, a_moved, a_gamma, a_via, a_dist, a_link) es := by
  refine br_c (fun h => ?_) (fun h => ?_)
  · have h' : bt es 10 = false := (zb_shr1 (x := es) (k := 10) (by omega)).mp h
    rw [h'] at K
    exact K
  · have h' : bt es 10 = true := zb_ft (fun z => h ((zb_shr1 (x := es) (k := 10) (by omega)).mpr z))
    rw [h'] at K
    exact K
end
end
section
section
variable {f_goalEdge f_goalRest f_atomBits f_decided f_maxVariables f_maxAtoms f_maxClauses f_maxDepth f_atomCount f_clauseCount f_depthNow f_assumedTrue f_assumedFalse f_status f_presentTrue f_coreKnown f_coreClauses f_coreAtoms f_witnessClauses f_witnessAtoms f_learnedCount f_learnedNext f_activeRests f_trueMask f_falseMask f_trailSize f_theoryHead f_level f_conflictAtoms f_conflictRests f_failedAtoms f_failedRests f_activeEdges f_goalOn : Int32} {a_kinds a_lefts a_rights a_bounds a_atomDepths a_literals a_literalCounts a_clausePos a_clauseNeg a_clauseDepths a_values a_learnedPos a_learnedNeg a_learnedRests a_trail a_levelStart a_levelAtoms a_reasonAtoms a_reasonRests a_edgeFrom a_edgeTo a_edgeWeight a_potential a_moved a_gamma a_via a_dist a_link : Nat → Int32}
/-- a closed way of edges that no values meet -/
def ie_Cf (ae : Int32) (ef et ew : Nat → Int32) (e : Nat) (es : Int32) : Prop :=
  (∀ q, bt es q = true → q < 11 ∧ (bt ae q = true ∨ q = e)) ∧ bt es e = true ∧ ∀ s : Nat → Int, (∀ q, bt es q = true → s (et q).toNatClampNeg ≤ s (ef q).toNatClampNeg + (ew q).toInt) → False
theorem xw_ec {post : SX → Prop} {e r : Nat} {ord : Nat → Nat} {st : Int32} {lo : Int} (h : ie_I f_activeEdges a_edgeFrom a_edgeTo a_edgeWeight a_potential e lo st r ord a_moved a_gamma a_via) (hr : r ≤ 8) (he : e < 11)
    (hok : ie_Ok f_activeEdges a_edgeFrom a_edgeTo a_edgeWeight) (hef : vp_in (a_edgeFrom e) 8) (het : vp_in (a_edgeTo e) 8) (hneg : (a_gamma (a_edgeFrom e).toNatClampNeg).toInt < 0) (hne : (a_edgeFrom e).toNatClampNeg ≠ (a_edgeTo e).toNatClampNeg)
    (K : ∀ es, ie_Cf f_activeEdges a_edgeFrom a_edgeTo a_edgeWeight e es → post (f_goalEdge, f_goalRest, f_atomBits, f_decided, f_maxVariables, f_maxAtoms, f_maxClauses, f_maxDepth, f_atomCount, f_clauseCount, f_depthNow, f_assumedTrue, f_assumedFalse, f_status, f_presentTrue, f_coreKnown, f_coreClauses, f_coreAtoms, f_witnessClauses, f_witnessAtoms, f_learnedCount, f_learnedNext, f_activeRests, f_trueMask, f_falseMask, f_trailSize, f_theoryHead, f_level, es &&& 1023, (if bt es 10 = true then 16777216 else 0), f_failedAtoms, f_failedRests, f_activeEdges, f_goalOn, a_kinds, a_lefts, a_rights, a_bounds, a_atomDepths, a_literals, a_literalCounts, a_clausePos, a_clauseNeg, a_clauseDepths, a_values, a_learnedPos, a_learnedNeg, a_learnedRests, a_trail, a_levelStart, a_levelAtoms, a_reasonAtoms, a_reasonRests, a_edgeFrom, a_edgeTo, a_edgeWeight, a_potential, a_moved, a_gamma, a_via, a_dist, a_link)) : wpX_explainCycle post (f_goalEdge, f_goalRest, f_atomBits, f_decided, f_maxVariables, f_maxAtoms, f_maxClauses, f_maxDepth, f_atomCount, f_clauseCount, f_depthNow, f_assumedTrue, f_assumedFalse, f_status, f_presentTrue, f_coreKnown, f_coreClauses, f_coreAtoms, f_witnessClauses, f_witnessAtoms, f_learnedCount, f_learnedNext, f_activeRests, f_trueMask, f_falseMask, f_trailSize, f_theoryHead, f_level, f_conflictAtoms, f_conflictRests, f_failedAtoms, f_failedRests, f_activeEdges, f_goalOn, a_kinds, a_lefts, a_rights, a_bounds, a_atomDepths, a_literals, a_literalCounts, a_clausePos, a_clauseNeg, a_clauseDepths, a_values, a_learnedPos, a_learnedNeg, a_learnedRests, a_trail, a_levelStart, a_levelAtoms, a_reasonAtoms, a_reasonRests, a_edgeFrom, a_edgeTo, a_edgeWeight, a_potential, a_moved, a_gamma, a_via, a_dist, a_link) (nI e) := by
  have ce : (nI e).toNatClampNeg = e := nI_clamp (by omega)
  obtain ⟨f1, f2, f3⟩ := zi_in hef
  obtain ⟨t1, t2, t3⟩ := zi_in het
  obtain ⟨i1, i2, i3, i4, i5, i6, i7, i8, i9, i10, i11, i12, i13⟩ := h
  have hms := i6 _ f1 i7
  have fin : ∀ es, (∀ q, bt es q = true → q < 11 ∧ (bt f_activeEdges q = true ∨ q = e)) → bt es e = true → (a_moved (a_edgeTo e).toNatClampNeg).toInt + (a_gamma (a_edgeTo e).toNatClampNeg).toInt < (a_potential (a_edgeTo e).toNatClampNeg).toInt →
      (∀ s : Nat → Int, (∀ q, bt es q = true → s (a_edgeTo q).toNatClampNeg ≤ s (a_edgeFrom q).toNatClampNeg + (a_edgeWeight q).toInt) → s (a_edgeFrom e).toNatClampNeg ≤ s (a_edgeTo e).toNatClampNeg + ((a_moved (a_edgeFrom e).toNatClampNeg).toInt + (a_gamma (a_edgeFrom e).toNatClampNeg).toInt - ((a_moved (a_edgeTo e).toNatClampNeg).toInt + (a_gamma (a_edgeTo e).toNatClampNeg).toInt))) →
      wX_explainCycle_64 post es f_goalEdge f_goalRest f_atomBits f_decided f_maxVariables f_maxAtoms f_maxClauses f_maxDepth f_atomCount f_clauseCount f_depthNow f_assumedTrue f_assumedFalse f_status f_presentTrue f_coreKnown f_coreClauses f_coreAtoms f_witnessClauses f_witnessAtoms f_learnedCount f_learnedNext f_activeRests f_trueMask f_falseMask f_trailSize f_theoryHead f_level f_conflictAtoms f_conflictRests f_failedAtoms f_failedRests f_activeEdges f_goalOn a_kinds a_lefts a_rights a_bounds a_atomDepths a_literals a_literalCounts a_clausePos a_clauseNeg a_clauseDepths a_values a_learnedPos a_learnedNeg a_learnedRests a_trail a_levelStart a_levelAtoms a_reasonAtoms a_reasonRests a_edgeFrom a_edgeTo a_edgeWeight a_potential a_moved a_gamma a_via a_dist a_link := by
    intro es h1 h2 h4 h3
    refine nm_e (xw_ro ?_)
    refine K es ⟨h1, h2, fun s hs => ?_⟩
    have h5 := h3 s hs
    have h6 := hs e h2
    have h7 := i10.2 h4
    rw [hms] at h5
    omega
  have key : ∀ n step v k es, step ≤ 8 → 8 < n + step → step + k ≤ 8 → v < 8 → (a_moved v).toInt + (a_gamma v).toInt < (a_potential v).toInt → (v = (a_edgeTo e).toNatClampNeg ∨ ∃ e' i, e' < 11 ∧ bt f_activeEdges e' = true ∧ i < r ∧ a_via v = nI e' ∧ (a_edgeTo e').toNatClampNeg = v ∧ (a_edgeFrom e').toNatClampNeg = ord i ∧ (a_moved v).toInt + (a_gamma v).toInt = (a_moved (ord i)).toInt + (a_edgeWeight e').toInt ∧ i < k) →
      (∀ q, bt es q = true → q < 11 ∧ (bt f_activeEdges q = true ∨ q = e)) → bt es e = true →
      (∀ s : Nat → Int, (∀ q, bt es q = true → s (a_edgeTo q).toNatClampNeg ≤ s (a_edgeFrom q).toNatClampNeg + (a_edgeWeight q).toInt) → s (a_edgeFrom e).toNatClampNeg ≤ s v + ((a_moved (a_edgeFrom e).toNatClampNeg).toInt + (a_gamma (a_edgeFrom e).toNatClampNeg).toInt - ((a_moved v).toInt + (a_gamma v).toInt))) →
      wX_explainCycle_22 post (a_edgeTo e) f_goalEdge f_goalRest f_atomBits f_decided f_maxVariables f_maxAtoms f_maxClauses f_maxDepth f_atomCount f_clauseCount f_depthNow f_assumedTrue f_assumedFalse f_status f_presentTrue f_coreKnown f_coreClauses f_coreAtoms f_witnessClauses f_witnessAtoms f_learnedCount f_learnedNext f_activeRests f_trueMask f_falseMask f_trailSize f_theoryHead f_level f_conflictAtoms f_conflictRests f_failedAtoms f_failedRests f_activeEdges f_goalOn a_kinds a_lefts a_rights a_bounds a_atomDepths a_literals a_literalCounts a_clausePos a_clauseNeg a_clauseDepths a_values a_learnedPos a_learnedNeg a_learnedRests a_trail a_levelStart a_levelAtoms a_reasonAtoms a_reasonRests a_edgeFrom a_edgeTo a_edgeWeight a_potential a_moved a_gamma a_via a_dist a_link n es (nI v) (nI step) := by
    intro n
    induction n with
    | zero => intro step _ _ _ h1 h2; omega
    | succ n ih =>
      intro step v k es hst hn hk hv htou htree h1 h2 h3
      have cv : (nI v).toNatClampNeg = v := nI_clamp (by omega)
      refine pk_le 8 step (fun h => ?_) (fun h => ?_)
      · rcases htree with z | ⟨_, i, _, _, _, _, _, _, _, z⟩
        · subst z
          exact fin es h1 h2 htou h3
        · omega
      · refine br_c (fun h4 => ?_) (fun h4 => And.intro (pk_in v 8 hv) ?_)
        · have z : v = (a_edgeTo e).toNatClampNeg := by rw [← h4, cv]
          subst z
          exact fin es h1 h2 htou h3
        · rcases htree with z | ⟨e', i, a1, a2, a3, a4, a5, a6, a7, a8⟩
          · exact (h4 (by rw [t2, z])).elim
          · obtain ⟨o1, o2, o3, o4⟩ := hok e' a1 a2
            obtain ⟨p1, p2, p3⟩ := zi_in o1
            have cm : (nI e').toNatClampNeg = e' := nI_clamp (by omega)
            rw [cv]
            refine nm_r a4 (nm_e (And.intro (pk_in e' 11 a1) (nm_r (e' := nI (ord i)) ?_ (nm_r (nI_1 step) ?_))))
            · rw [cm, p2, a6]
            · have hsi : bt st (ord i) = true := (i1 _).mpr ⟨i, a3, rfl⟩
              obtain ⟨s1, s2⟩ := i5 (ord i) (i2 i a3) hsi
              have hb : ∀ q, bt (es ||| (1 : Int32) <<< (nI e' &&& 31)) q = (bt es q || decide (q = e')) := fun q => by rw [b_or, zb_bit (by omega)]
              refine ih (step + 1) (ord i) i _ (by omega) (by omega) (by omega) (i2 i a3) (by omega) ?_ (fun q hq => ?_) ?_ (fun s hs => ?_)
              · rcases i11 (ord i) (i2 i a3) (by omega) with z | ⟨e2, i', b1, b2, b3, b4, b5, b6, b7, b8⟩
                · exact Or.inl z
                · exact Or.inr ⟨e2, i', b1, b2, b3, b4, b5, b6, b7, b8 i a3 rfl⟩
              · rw [hb, Bool.or_eq_true, decide_eq_true_eq] at hq
                rcases hq with z | z
                · exact h1 q z
                · rw [z]; exact ⟨a1, Or.inl a2⟩
              · rw [hb, h2]; rfl
              · have h5 := h3 s (fun q hq => hs q (by rw [hb, hq]; rfl))
                have h6 := hs e' (by rw [hb, decide_eq_true rfl, Bool.or_true])
                rw [a5, a6] at h6
                omega
  refine nm_e (And.intro (pk_in e 11 he) (nm_r (e' := nI (a_edgeFrom e).toNatClampNeg) ?_ (And.intro (pk_in e 11 he) (nm_r (e' := a_edgeTo e) ?_ (Exists.intro 9 ?_)))))
  · rw [ce]; exact f2
  · rw [ce]
  · refine key 9 0 (a_edgeFrom e).toNatClampNeg r ((1 : Int32) <<< (nI e &&& 31)) (by omega) (by omega) (by omega) f1 (by rw [hms]; omega) ?_ (fun q hq => ?_) ?_ (fun s hs => by omega)
    · rcases i11 _ f1 (by rw [hms]; omega) with z | ⟨e', i, a1, a2, a3, a4, a5, a6, a7, a8⟩
      · exact Or.inl z
      · exact Or.inr ⟨e', i, a1, a2, a3, a4, a5, a6, a7, a3⟩
    · rw [zb_bit (by omega), decide_eq_true_eq] at hq
      rw [hq]; exact ⟨he, Or.inr rfl⟩
    · rw [zb_bit (by omega), decide_eq_true rfl]
theorem xw_insert {post : Int32 → SX → Prop} {e : Nat} {lo : Int} (he : e < 11)
    (hok : ie_Ok f_activeEdges a_edgeFrom a_edgeTo a_edgeWeight) (hef : vp_in (a_edgeFrom e) 8) (het : vp_in (a_edgeTo e) 8) (hw : -708 ≤ (a_edgeWeight e).toInt ∧ (a_edgeWeight e).toInt ≤ 708) (hne : (a_edgeFrom e).toNatClampNeg ≠ (a_edgeTo e).toNatClampNeg)
    (hfe : ie_Fe f_activeEdges a_edgeFrom a_edgeTo a_edgeWeight a_potential) (hlo : -200000000 ≤ lo) (hp : ∀ v, v < 8 → lo ≤ (a_potential v).toInt ∧ (a_potential v).toInt ≤ 0)
    (K1 : ∀ pt mv gm vi, (∀ e', e' < 11 → bt f_activeEdges e' = true ∨ e' = e → (pt (a_edgeTo e').toNatClampNeg).toInt ≤ (pt (a_edgeFrom e').toNatClampNeg).toInt + (a_edgeWeight e').toInt) → (∀ v, v < 8 → lo - 8000 ≤ (pt v).toInt ∧ (pt v).toInt ≤ 0) →
      post 1 (f_goalEdge, f_goalRest, f_atomBits, f_decided, f_maxVariables, f_maxAtoms, f_maxClauses, f_maxDepth, f_atomCount, f_clauseCount, f_depthNow, f_assumedTrue, f_assumedFalse, f_status, f_presentTrue, f_coreKnown, f_coreClauses, f_coreAtoms, f_witnessClauses, f_witnessAtoms, f_learnedCount, f_learnedNext, f_activeRests, f_trueMask, f_falseMask, f_trailSize, f_theoryHead, f_level, f_conflictAtoms, f_conflictRests, f_failedAtoms, f_failedRests, f_activeEdges ||| (1 : Int32) <<< (nI e &&& 31), f_goalOn, a_kinds, a_lefts, a_rights, a_bounds, a_atomDepths, a_literals, a_literalCounts, a_clausePos, a_clauseNeg, a_clauseDepths, a_values, a_learnedPos, a_learnedNeg, a_learnedRests, a_trail, a_levelStart, a_levelAtoms, a_reasonAtoms, a_reasonRests, a_edgeFrom, a_edgeTo, a_edgeWeight, pt, mv, gm, vi, a_dist, a_link))
    (K0 : ∀ es mv gm vi, ie_Cf f_activeEdges a_edgeFrom a_edgeTo a_edgeWeight e es → post 0 (f_goalEdge, f_goalRest, f_atomBits, f_decided, f_maxVariables, f_maxAtoms, f_maxClauses, f_maxDepth, f_atomCount, f_clauseCount, f_depthNow, f_assumedTrue, f_assumedFalse, f_status, f_presentTrue, f_coreKnown, f_coreClauses, f_coreAtoms, f_witnessClauses, f_witnessAtoms, f_learnedCount, f_learnedNext, f_activeRests, f_trueMask, f_falseMask, f_trailSize, f_theoryHead, f_level, es &&& 1023, (if bt es 10 = true then 16777216 else 0), f_failedAtoms, f_failedRests, f_activeEdges, f_goalOn, a_kinds, a_lefts, a_rights, a_bounds, a_atomDepths, a_literals, a_literalCounts, a_clausePos, a_clauseNeg, a_clauseDepths, a_values, a_learnedPos, a_learnedNeg, a_learnedRests, a_trail, a_levelStart, a_levelAtoms, a_reasonAtoms, a_reasonRests, a_edgeFrom, a_edgeTo, a_edgeWeight, a_potential, mv, gm, vi, a_dist, a_link)) :
    wpX_insertEdge post (f_goalEdge, f_goalRest, f_atomBits, f_decided, f_maxVariables, f_maxAtoms, f_maxClauses, f_maxDepth, f_atomCount, f_clauseCount, f_depthNow, f_assumedTrue, f_assumedFalse, f_status, f_presentTrue, f_coreKnown, f_coreClauses, f_coreAtoms, f_witnessClauses, f_witnessAtoms, f_learnedCount, f_learnedNext, f_activeRests, f_trueMask, f_falseMask, f_trailSize, f_theoryHead, f_level, f_conflictAtoms, f_conflictRests, f_failedAtoms, f_failedRests, f_activeEdges, f_goalOn, a_kinds, a_lefts, a_rights, a_bounds, a_atomDepths, a_literals, a_literalCounts, a_clausePos, a_clauseNeg, a_clauseDepths, a_values, a_learnedPos, a_learnedNeg, a_learnedRests, a_trail, a_levelStart, a_levelAtoms, a_reasonAtoms, a_reasonRests, a_edgeFrom, a_edgeTo, a_edgeWeight, a_potential, a_moved, a_gamma, a_via, a_dist, a_link) (nI e) := by
  have ce : (nI e).toNatClampNeg = e := nI_clamp (by omega)
  obtain ⟨f1, f2, f3⟩ := zi_in hef
  obtain ⟨t1, t2, t3⟩ := zi_in het
  -- the copy at the end
  have copy : ∀ mv gm vi, (∀ e', e' < 11 → bt f_activeEdges e' = true ∨ e' = e → (mv (a_edgeTo e').toNatClampNeg).toInt ≤ (mv (a_edgeFrom e').toNatClampNeg).toInt + (a_edgeWeight e').toInt) → (∀ v, v < 8 → lo - 8000 ≤ (mv v).toInt ∧ (mv v).toInt ≤ 0) →
      ∀ n i pt, i ≤ 8 → 8 < n + i → (∀ v, v < i → pt v = mv v) → wX_insertEdge_173 post (nI e) f_goalEdge f_goalRest f_atomBits f_decided f_maxVariables f_maxAtoms f_maxClauses f_maxDepth f_atomCount f_clauseCount f_depthNow f_assumedTrue f_assumedFalse f_status f_presentTrue f_coreKnown f_coreClauses f_coreAtoms f_witnessClauses f_witnessAtoms f_learnedCount f_learnedNext f_activeRests f_trueMask f_falseMask f_trailSize f_theoryHead f_level f_conflictAtoms f_conflictRests f_failedAtoms f_failedRests f_activeEdges f_goalOn n (nI i) a_kinds a_lefts a_rights a_bounds a_atomDepths a_literals a_literalCounts a_clausePos a_clauseNeg a_clauseDepths a_values a_learnedPos a_learnedNeg a_learnedRests a_trail a_levelStart a_levelAtoms a_reasonAtoms a_reasonRests a_edgeFrom a_edgeTo a_edgeWeight pt mv gm vi a_dist a_link := by
    intro mv gm vi h1 h2 n
    induction n with
    | zero => intro i pt h3 h4; omega
    | succ n ih =>
      intro i pt hi hn hpt
      have c : (nI i).toNatClampNeg = i := nI_clamp (by omega)
      refine pk_le 8 i (fun h => nm_e ?_) (fun h => And.intro (pk_in i 8 h) (And.intro (pk_in i 8 h) (nm_e (nm_r (nI_1 i) ?_))))
      · refine K1 pt mv gm vi (fun e' he' hor => ?_) (fun v hv => ?_)
        · have hF : (a_edgeFrom e').toNatClampNeg < 8 := by
            rcases hor with z | z
            · exact (zi_in (hok e' he' z).1).1
            · rw [z]; exact f1
          have hT : (a_edgeTo e').toNatClampNeg < 8 := by
            rcases hor with z | z
            · exact (zi_in (hok e' he' z).2.1).1
            · rw [z]; exact t1
          rw [hpt _ (by omega), hpt _ (by omega)]
          exact h1 e' he' hor
        · rw [hpt _ (by omega)]; exact h2 v hv
      · rw [c]
        refine ih (i + 1) _ (by omega) (by omega) (fun v hv => ?_)
        by_cases e1 : v = i
        · rw [e1, pk_us]
        · rw [pk_un e1]; exact hpt v (by omega)
  -- the rounds
  have rounds : ∀ n r st ord mv gm vi, r ≤ 8 → 8 < n + r → ie_I f_activeEdges a_edgeFrom a_edgeTo a_edgeWeight a_potential e lo st r ord mv gm vi → 0 ≤ (gm (a_edgeFrom e).toNatClampNeg).toInt →
      wX_insertEdge_80 post (nI e) (a_edgeFrom e) n st (nI r) f_goalEdge f_goalRest f_atomBits f_decided f_maxVariables f_maxAtoms f_maxClauses f_maxDepth f_atomCount f_clauseCount f_depthNow f_assumedTrue f_assumedFalse f_status f_presentTrue f_coreKnown f_coreClauses f_coreAtoms f_witnessClauses f_witnessAtoms f_learnedCount f_learnedNext f_activeRests f_trueMask f_falseMask f_trailSize f_theoryHead f_level f_conflictAtoms f_conflictRests f_failedAtoms f_failedRests f_activeEdges f_goalOn a_kinds a_lefts a_rights a_bounds a_atomDepths a_literals a_literalCounts a_clausePos a_clauseNeg a_clauseDepths a_values a_learnedPos a_learnedNeg a_learnedRests a_trail a_levelStart a_levelAtoms a_reasonAtoms a_reasonRests a_edgeFrom a_edgeTo a_edgeWeight a_potential mv gm vi a_dist a_link := by
    intro n
    induction n with
    | zero => intro r _ _ _ _ _ h1 h2; omega
    | succ n ih =>
      intro r st ord mv gm vi hr hn hI hsrc
      refine pk_le 8 r (fun h => ?_) (fun h => ?_)
      · have : r = 8 := by omega
        subst this
        exact (ie_full hI f1).elim
      · refine xw_mn (fun s hs hneg hmin => ?_) (fun h0 => ?_)
        · have cs : (nI s).toNatClampNeg = s := nI_clamp (by omega)
          have is : vp_in (nI s) 8 := pk_in s 8 hs
          have hPs := hp s hs
          have hgs := hI.2.2.2.2.2.2.2.2.2.2.2.1 s hs
          have hss : bt st s = false := zb_tf fun z => by have := (hI.2.2.2.2.1 s hs z).1; omega
          have hms := hI.2.2.2.2.2.1 s hs hss
          have hx : (a_potential s + gm s).toInt = (a_potential s).toInt + (gm s).toInt := by
            rw [hms] at hgs
            exact zi_add (by omega) (by omega)
          refine br_t (nI_pos' (by omega)) (And.intro is (And.intro is (And.intro is (nm_e (And.intro is (nm_e (nm_e ?_)))))))
          rw [cs]
          refine xw_ln hs hok ?_ ?_ (fun gm' vi' hln => ?_)
          · rw [pk_us, hx]
            rw [hms] at hgs
            omega
          · intro v hv
            have := hp v hv
            omega
          · have hstep := ie_step (st' := st ||| (1 : Int32) <<< (nI s &&& 31)) hI hok hfe hs hneg hmin hsrc (fun v => by rw [b_or, zb_bit (by omega)]) (by rw [pk_us, hx]) (fun v hv => pk_un hv) pk_us (fun v hv => pk_un hv) hln
            refine And.intro hef (br_c (fun h5 => nm_r (nI_1 r) (ih (r + 1) _ _ _ _ _ (by omega) (by omega) hstep ?_)) (fun h5 => ?_))
            · rw [zi_le, zi_0] at h5
              exact h5
            · rw [zi_le, zi_0] at h5
              exact xw_ec hstep (by omega) he hok hef het (by omega) hne (fun es hes => K0 es _ _ _ hes)
        · obtain ⟨h1, h2⟩ := ie_end hI hok hfe f1 t1 hr (fun v hv => (hp v hv).2) h0
          exact br_f (by decide) (Exists.intro 9 (copy mv gm vi h1 h2 9 0 a_potential (by omega) (by omega) (fun v hv => by omega)))
  -- the start
  have start : ∀ n i mv gm, i ≤ 8 → 8 < n + i → (∀ v, v < i → gm v = 0 ∧ mv v = a_potential v) → wX_insertEdge_9 post (nI e) (a_edgeFrom e) f_goalEdge f_goalRest f_atomBits f_decided f_maxVariables f_maxAtoms f_maxClauses f_maxDepth f_atomCount f_clauseCount f_depthNow f_assumedTrue f_assumedFalse f_status f_presentTrue f_coreKnown f_coreClauses f_coreAtoms f_witnessClauses f_witnessAtoms f_learnedCount f_learnedNext f_activeRests f_trueMask f_falseMask f_trailSize f_theoryHead f_level f_conflictAtoms f_conflictRests f_failedAtoms f_failedRests f_activeEdges f_goalOn n (nI i) a_kinds a_lefts a_rights a_bounds a_atomDepths a_literals a_literalCounts a_clausePos a_clauseNeg a_clauseDepths a_values a_learnedPos a_learnedNeg a_learnedRests a_trail a_levelStart a_levelAtoms a_reasonAtoms a_reasonRests a_edgeFrom a_edgeTo a_edgeWeight a_potential mv gm a_via a_dist a_link := by
    intro n
    induction n with
    | zero => intro i _ _ h1 h2; omega
    | succ n ih =>
      intro i mv gm hi hn hI
      have c : (nI i).toNatClampNeg = i := nI_clamp (by omega)
      refine pk_le 8 i (fun h => ?_) (fun h => And.intro (pk_in i 8 h) (nm_e (And.intro (pk_in i 8 h) (And.intro (pk_in i 8 h) (nm_e (nm_r (nI_1 i) ?_))))))
      · have hI8 : ∀ v, v < 8 → gm v = 0 ∧ mv v = a_potential v := fun v hv => hI v (by omega)
        have hPf := hp _ f1
        have hPt := hp _ t1
        have e1 : (a_potential (a_edgeFrom e).toNatClampNeg + a_edgeWeight e).toInt = (a_potential (a_edgeFrom e).toNatClampNeg).toInt + (a_edgeWeight e).toInt := zi_add (by omega) (by omega)
        have hx : (a_potential (a_edgeFrom e).toNatClampNeg + a_edgeWeight e - a_potential (a_edgeTo e).toNatClampNeg).toInt = (a_potential (a_edgeFrom e).toNatClampNeg).toInt + (a_edgeWeight e).toInt - (a_potential (a_edgeTo e).toNatClampNeg).toInt := by
          rw [zi_sub (by rw [e1]; omega) (by rw [e1]; omega), e1]
        refine xw_slack he hef het (br_c (fun h2 => Exists.intro 9 (rounds 9 0 0 (fun _ => 0) _ _ _ (by omega) (by omega) ?_ ?_)) (fun h2 => And.intro (pk_in e 11 he) (And.intro ?_ (nm_e (And.intro (pk_in e 11 he) (And.intro ?_ (nm_e (Exists.intro 9 ?_))))))))
        · rw [zi_le, zi_0, hx] at h2
          refine ⟨fun v => ?_, fun i hi => by omega, fun i j hi => by omega, fun v hv => ?_, fun v hv hb => ?_, fun v hv _ => (hI8 v hv).2, b_0 _, fun u v _ _ hb => ?_, fun e' _ _ hb => ?_, ?_, fun v hv hlt => ?_, fun v hv => ?_, fun _ v hv hlt => ?_, fun z => by omega⟩
          · rw [b_0]; exact ⟨fun z => (by cases z), fun ⟨i, hi, _⟩ => by omega⟩
          · rw [(hI8 v hv).1, zi_0]; exact Int.le_refl _
          · rw [b_0] at hb; cases hb
          · rw [b_0] at hb; cases hb
          · rw [b_0] at hb; cases hb
          · rw [(hI8 _ t1).1, (hI8 _ t1).2, zi_0]
            exact ⟨by omega, fun z => by omega⟩
          · rw [(hI8 v hv).1, (hI8 v hv).2, zi_0] at hlt; omega
          · rw [(hI8 v hv).1, (hI8 v hv).2, zi_0]
            have := hp v hv
            omega
          · rw [(hI8 v hv).1, zi_0] at hlt; omega
        · rw [(hI8 _ f1).1, zi_0]; exact Int.le_refl _
        · rw [ce]; exact het
        · rw [ce]; exact het
        · rw [zi_le, zi_0, hx] at h2
          rw [ce]
          have hgd : ∀ v, v ≠ (a_edgeTo e).toNatClampNeg → upd gm (a_edgeTo e).toNatClampNeg (a_potential (a_edgeFrom e).toNatClampNeg + a_edgeWeight e - a_potential (a_edgeTo e).toNatClampNeg) v = gm v := fun v hv => pk_un hv
          refine rounds 9 0 0 (fun _ => 0) _ _ _ (by omega) (by omega) ?_ ?_
          · refine ⟨fun v => ?_, fun i hi => by omega, fun i j hi => by omega, fun v hv => ?_, fun v hv hb => ?_, fun v hv _ => (hI8 v hv).2, b_0 _, fun u v _ _ hb => ?_, fun e' _ _ hb => ?_, ?_, fun v hv hlt => ?_, fun v hv => ?_, fun _ v hv hlt => ?_, fun z => by omega⟩
            · rw [b_0]; exact ⟨fun z => (by cases z), fun ⟨i, hi, _⟩ => by omega⟩
            · by_cases e2 : v = (a_edgeTo e).toNatClampNeg
              · rw [e2, pk_us, hx]; omega
              · rw [hgd v e2, (hI8 v hv).1, zi_0]; exact Int.le_refl _
            · rw [b_0] at hb; cases hb
            · rw [b_0] at hb; cases hb
            · rw [b_0] at hb; cases hb
            · rw [pk_us, hx, (hI8 _ t1).2]
              exact ⟨by omega, fun z => by omega⟩
            · by_cases e2 : v = (a_edgeTo e).toNatClampNeg
              · exact Or.inl e2
              · rw [hgd v e2, (hI8 v hv).1, (hI8 v hv).2, zi_0] at hlt; omega
            · by_cases e2 : v = (a_edgeTo e).toNatClampNeg
              · rw [e2, pk_us, hx, (hI8 _ t1).2]; omega
              · rw [hgd v e2, (hI8 v hv).1, (hI8 v hv).2, zi_0]
                have := hp v hv
                omega
            · by_cases e2 : v = (a_edgeTo e).toNatClampNeg
              · exact e2
              · rw [hgd v e2, (hI8 v hv).1, zi_0] at hlt; omega
          · rw [hgd _ hne, (hI8 _ f1).1, zi_0]; exact Int.le_refl _
      · rw [c]
        refine ih (i + 1) _ _ (by omega) (by omega) (fun v hv => ?_)
        by_cases e1 : v = i
        · rw [e1, pk_us, pk_us]; exact ⟨rfl, rfl⟩
        · rw [pk_un e1, pk_un e1]; exact hI v (by omega)
  refine And.intro (pk_in e 11 he) (nm_r (e' := a_edgeFrom e) (by rw [ce]) (Exists.intro 9 (start 9 0 a_moved a_gamma (by omega) (by omega) (fun v hv => by omega))))
end
end
section
/-! spread, pure: d v = ds (bs + v); nr, fr: the near and the far ends -/
def sp_sl (ef et ew pt : Nat → Int32) (e : Nat) : Int := (pt (ef e).toNatClampNeg).toInt + (ew e).toInt - (pt (et e).toNatClampNeg).toInt
def sp_RX (ae st : Int32) (ef et ew pt nr fr : Nat → Int32) (bs s i : Nat) (ds0 lk0 ds lk : Nat → Int32) : Prop :=
  (∀ v, v < 8 → 0 ≤ (ds0 (bs + v)).toInt → 0 ≤ (ds (bs + v)).toInt ∧ (ds (bs + v)).toInt ≤ (ds0 (bs + v)).toInt) ∧
  (∀ e, e < i → bt ae e = true → (nr e).toNatClampNeg = s → bt st (fr e).toNatClampNeg = false → 0 ≤ (ds (bs + (fr e).toNatClampNeg)).toInt ∧ (ds (bs + (fr e).toNatClampNeg)).toInt ≤ (ds0 (bs + s)).toInt + sp_sl ef et ew pt e) ∧
  (∀ v, v < 8 → (ds (bs + v) = ds0 (bs + v) ∧ lk (bs + v) = lk0 (bs + v)) ∨ (bt st v = false ∧ ∃ e, e < 11 ∧ bt ae e = true ∧ (nr e).toNatClampNeg = s ∧ (fr e).toNatClampNeg = v ∧ lk (bs + v) = nI e ∧ (ds (bs + v)).toInt = (ds0 (bs + s)).toInt + sp_sl ef et ew pt e)) ∧
  (∀ k, (k < bs ∨ bs + 8 ≤ k) → ds k = ds0 k ∧ lk k = lk0 k)
def sp_I (ae : Int32) (ef et ew pt nr fr : Nat → Int32) (Q : Nat → Int) (bs sr : Nat) (U : Int) (st : Int32) (r : Nat) (ord : Nat → Nat) (ds lk : Nat → Int32) : Prop :=
  (∀ v, bt st v = true ↔ ∃ i, i < r ∧ ord i = v) ∧
  (∀ i, i < r → ord i < 8) ∧
  (∀ i j, i < r → j < r → ord i = ord j → i = j) ∧
  (∀ v, v < 8 → -1 ≤ (ds (bs + v)).toInt) ∧
  (∀ v, v < 8 → bt st v = true → 0 ≤ (ds (bs + v)).toInt) ∧
  (ds (bs + sr)).toInt = 0 ∧
  ((r = 0 → ∀ v, v < 8 → 0 ≤ (ds (bs + v)).toInt → v = sr) ∧ (1 ≤ r → ord 0 = sr)) ∧
  (∀ u v, u < 8 → v < 8 → bt st u = true → bt st v = false → 0 ≤ (ds (bs + v)).toInt → (ds (bs + u)).toInt ≤ (ds (bs + v)).toInt) ∧
  (∀ e, e < 11 → bt ae e = true → bt st (nr e).toNatClampNeg = true → 0 ≤ (ds (bs + (fr e).toNatClampNeg)).toInt ∧ (ds (bs + (fr e).toNatClampNeg)).toInt ≤ (ds (bs + (nr e).toNatClampNeg)).toInt + sp_sl ef et ew pt e) ∧
  (∀ v, v < 8 → 0 ≤ (ds (bs + v)).toInt → v = sr ∨ ∃ e i, e < 11 ∧ bt ae e = true ∧ i < r ∧ lk (bs + v) = nI e ∧ (fr e).toNatClampNeg = v ∧ (nr e).toNatClampNeg = ord i ∧ (ds (bs + v)).toInt = (ds (bs + ord i)).toInt + sp_sl ef et ew pt e ∧ ∀ j, j < r → ord j = v → i < j) ∧
  (∀ j, j < r → (ds (bs + ord j)).toInt - Q (ord j) ≤ U * (j : Int)) ∧
  (∀ v, v < 8 → bt st v = false → 0 ≤ (ds (bs + v)).toInt → (ds (bs + v)).toInt - Q v ≤ U * (r : Int)) ∧
  (∀ v, v < 8 → 0 ≤ (ds (bs + v)).toInt → -(708 * (r : Int)) ≤ (ds (bs + v)).toInt - Q v)
theorem sp_step {ae : Int32} {ef et ew pt nr fr : Nat → Int32} {Q : Nat → Int} {bs sr : Nat} {U : Int} {st st' : Int32} {r : Nat} {ord : Nat → Nat} {ds lk ds' lk' : Nat → Int32} {s : Nat}
    (h : sp_I ae ef et ew pt nr fr Q bs sr U st r ord ds lk) (hnr : ∀ e, e < 11 → bt ae e = true → (nr e).toNatClampNeg < 8 ∧ (fr e).toNatClampNeg < 8 ∧ 0 ≤ sp_sl ef et ew pt e ∧ sp_sl ef et ew pt e = (ew e).toInt + Q (fr e).toNatClampNeg - Q (nr e).toNatClampNeg ∧ -708 ≤ (ew e).toInt)
    (hU : ∀ e, e < 11 → bt ae e = true → (fr e).toNatClampNeg ≠ sr → (ew e).toInt ≤ U) (hU0 : 0 ≤ U) (hsr : sr < 8)
    (hs : s < 8) (hre : 0 ≤ (ds (bs + s)).toInt) (hun : bt st s = false) (hmin : ∀ v, v < 8 → bt st v = false → 0 ≤ (ds (bs + v)).toInt → (ds (bs + s)).toInt ≤ (ds (bs + v)).toInt)
    (hst : ∀ v, bt st' v = (bt st v || decide (v = s))) (hrx : sp_RX ae st' ef et ew pt nr fr bs s 11 ds lk ds' lk') :
    sp_I ae ef et ew pt nr fr Q bs sr U st' (r + 1) (fun i => if i = r then s else ord i) ds' lk' := by
  obtain ⟨i1, i2, i3, i4, i5, i6, i7, i8, i9, i10, i11, i12, i13⟩ := h
  obtain ⟨l1, l2, l3, l4⟩ := hrx
  have hst1 : bt st' s = true := by rw [hst, decide_eq_true rfl, Bool.or_true]
  have hst2 : ∀ v, v ≠ s → bt st' v = bt st v := fun v hv => by rw [hst, decide_eq_false hv, Bool.or_false]
  have hls : ∀ v, v < 8 → bt st' v = true → ds' (bs + v) = ds (bs + v) ∧ lk' (bs + v) = lk (bs + v) := by
    intro v hv hb
    rcases l3 v hv with z | ⟨z, _⟩
    · exact z
    · rw [hb] at z; cases z
  have hdel : ∀ u, u < 8 → bt st' u = true → (ds (bs + u)).toInt ≤ (ds (bs + s)).toInt := by
    intro u hu hb
    by_cases e1 : u = s
    · rw [e1]; exact Int.le_refl _
    · rw [hst2 u e1] at hb
      exact i8 u s hu hs hb hun hre
  have hsr' : bt st' sr = true := by
    rcases Nat.eq_zero_or_pos r with z | z
    · rw [← i7.1 z s hs hre]; exact hst1
    · rw [hst, (i1 sr).mpr ⟨0, z, i7.2 z⟩]; rfl
  have hne : ∀ i, i < r → ord i ≠ s := by
    intro i hi z
    rw [(i1 s).mpr ⟨i, hi, z⟩] at hun
    cases hun
  have hUr : U * ((r + 1 : Nat) : Int) = U * (r : Int) + U := by
    rw [Int.natCast_add, Int.mul_add]; simp
  refine ⟨fun v => ?_, fun i hi => ?_, fun i j hi hj => ?_, fun v hv => ?_, fun v hv hb => ?_, ?_, ⟨fun z => by omega, fun _ => ?_⟩, fun u v hu hv hb hb' hn => ?_, fun e he ha hb => ?_, fun v hv hlt => ?_, fun j hj => ?_, fun v hv hb hn => ?_, fun v hv hn => ?_⟩
  all_goals (try dsimp only)
  · by_cases e1 : v = s
    · subst e1
      exact ⟨fun _ => ⟨r, by omega, if_pos rfl⟩, fun _ => hst1⟩
    · rw [hst2 v e1, i1 v]
      constructor
      · intro ⟨i, hi, e2⟩
        exact ⟨i, by omega, by rw [if_neg (by omega)]; exact e2⟩
      · intro ⟨i, hi, e2⟩
        by_cases e3 : i = r
        · rw [if_pos e3] at e2; exact (e1 e2.symm).elim
        · rw [if_neg e3] at e2; exact ⟨i, by omega, e2⟩
  · by_cases e3 : i = r
    · rw [if_pos e3]; exact hs
    · rw [if_neg e3]; exact i2 i (by omega)
  · by_cases e3 : i = r
    · by_cases e4 : j = r
      · omega
      · rw [if_pos e3, if_neg e4]
        intro z; exact (hne j (by omega) z.symm).elim
    · by_cases e4 : j = r
      · rw [if_neg e3, if_pos e4]
        intro z; exact (hne i (by omega) z).elim
      · rw [if_neg e3, if_neg e4]
        exact i3 i j (by omega) (by omega)
  · rcases l3 v hv with ⟨z, _⟩ | ⟨_, e, he, ha, hN, hF, _, hg⟩
    · rw [z]; exact i4 v hv
    · have := (hnr e he ha).2.2.1
      omega
  · rw [(hls v hv hb).1]
    by_cases e1 : v = s
    · rw [e1]; exact hre
    · rw [hst2 v e1] at hb
      exact i5 v hv hb
  · rw [(hls sr hsr hsr').1]; exact i6
  · by_cases e3 : 0 = r
    · rw [if_pos e3]; exact i7.1 e3.symm s hs hre
    · rw [if_neg e3]; exact i7.2 (by omega)
  · rw [(hls u hu hb).1]
    have h1 := hdel u hu hb
    have e1 : v ≠ s := fun z => by rw [z, hst1] at hb'; cases hb'
    rcases l3 v hv with ⟨z, _⟩ | ⟨_, e, he, ha, hN, hF, _, hg⟩
    · rw [z]
      rw [z] at hn
      rw [hst2 v e1] at hb'
      have := hmin v hv hb' hn
      omega
    · have := (hnr e he ha).2.2.1
      omega
  · obtain ⟨o1, o2, o3, o4, o5⟩ := hnr e he ha
    rw [(hls _ o1 hb).1]
    by_cases e1 : (nr e).toNatClampNeg = s
    · rw [e1]
      cases hb' : bt st' (fr e).toNatClampNeg
      · exact l2 e he ha e1 hb'
      · have h1 := hdel _ o2 hb'
        rw [(hls _ o2 hb').1]
        refine ⟨?_, by omega⟩
        by_cases e2 : (fr e).toNatClampNeg = s
        · rw [e2]; exact hre
        · rw [hst2 _ e2] at hb'
          exact i5 _ o2 hb'
    · rw [hst2 _ e1] at hb
      obtain ⟨h1, h2⟩ := i9 e he ha hb
      obtain ⟨h3, h4⟩ := l1 _ o2 h1
      exact ⟨h3, by omega⟩
  · have carry : ds' (bs + v) = ds (bs + v) → lk' (bs + v) = lk (bs + v) → v = sr ∨ ∃ e i, e < 11 ∧ bt ae e = true ∧ i < r + 1 ∧ lk' (bs + v) = nI e ∧ (fr e).toNatClampNeg = v ∧ (nr e).toNatClampNeg = (if i = r then s else ord i) ∧ (ds' (bs + v)).toInt = (ds' (bs + (if i = r then s else ord i))).toInt + sp_sl ef et ew pt e ∧ ∀ j, j < r + 1 → (if j = r then s else ord j) = v → i < j := by
      intro q1 q2
      rw [q1] at hlt
      rcases i10 v hv hlt with z1 | ⟨e, i, a1, a2, a3, a4, a5, a6, a7, a8⟩
      · exact Or.inl z1
      · have hoi : bt st' (ord i) = true := by rw [hst2 _ (hne i a3)]; exact (i1 _).mpr ⟨i, a3, rfl⟩
        refine Or.inr ⟨e, i, a1, a2, by omega, by rw [q2]; exact a4, a5, by rw [if_neg (by omega)]; exact a6, by rw [if_neg (by omega), q1, (hls _ (i2 i a3) hoi).1]; exact a7, fun j hj hv' => ?_⟩
        by_cases e3 : j = r
        · omega
        · rw [if_neg e3] at hv'
          exact a8 j (by omega) hv'
    by_cases e1 : v = s
    · subst e1
      exact carry (hls v hv hst1).1 (hls v hv hst1).2
    · rcases l3 v hv with ⟨z, z2⟩ | ⟨z, e, he, ha, hN, hF, hlk, hg⟩
      · exact carry z z2
      · refine Or.inr ⟨e, r, he, ha, by omega, hlk, hF, by rw [if_pos rfl]; exact hN, by rw [if_pos rfl, (hls s hs hst1).1]; exact hg, fun j hj hv' => ?_⟩
        by_cases e3 : j = r
        · rw [if_pos e3] at hv'; exact (e1 hv'.symm).elim
        · rw [if_neg e3] at hv'
          rw [hst2 _ e1] at z
          rw [(i1 v).mpr ⟨j, by omega, hv'⟩] at z
          cases z
  · by_cases e3 : j = r
    · rw [if_pos e3, (hls s hs hst1).1, e3]
      exact i12 s hs hun hre
    · have hoi : bt st' (ord j) = true := by rw [hst2 _ (hne j (by omega))]; exact (i1 _).mpr ⟨j, by omega, rfl⟩
      rw [if_neg e3, (hls _ (i2 j (by omega)) hoi).1]
      exact i11 j (by omega)
  · rw [hUr]
    have e1 : v ≠ s := fun z => by rw [z, hst1] at hb; cases hb
    rcases l3 v hv with ⟨z, _⟩ | ⟨_, e, he, ha, hN, hF, _, hg⟩
    · rw [z]
      rw [z] at hn
      rw [hst2 v e1] at hb
      have := i12 v hv hb hn
      omega
    · have h1 := i12 s hs hun hre
      obtain ⟨o1, o2, o3, o4, o5⟩ := hnr e he ha
      have h2 := hU e he ha (fun z => by rw [hF] at z; rw [z, hsr'] at hb; cases hb)
      rw [hF, hN] at o4
      omega
  · have hr2 : -(708 * ((r + 1 : Nat) : Int)) = -(708 * (r : Int)) - 708 := by omega
    rw [hr2]
    rcases l3 v hv with ⟨z, _⟩ | ⟨_, e, he, ha, hN, hF, _, hg⟩
    · rw [z]
      rw [z] at hn
      have := i13 v hv hn
      omega
    · have h1 := i13 s hs hre
      obtain ⟨o1, o2, o3, o4, o5⟩ := hnr e he ha
      rw [hF, hN] at o4
      omega
/-- what spread leaves -/
def sp_F (ae : Int32) (ef et ew pt nr fr : Nat → Int32) (Q : Nat → Int) (bs sr : Nat) (U : Int) (ds lk : Nat → Int32) : Prop :=
  ∃ st r ord, r ≤ 8 ∧ sp_I ae ef et ew pt nr fr Q bs sr U st r ord ds lk ∧ ∀ v, v < 8 → 0 ≤ (ds (bs + v)).toInt → bt st v = true
theorem sp_full {ae : Int32} {ef et ew pt nr fr : Nat → Int32} {Q : Nat → Int} {bs sr : Nat} {U : Int} {st : Int32} {ord : Nat → Nat} {ds lk : Nat → Int32}
    (h : sp_I ae ef et ew pt nr fr Q bs sr U st 8 ord ds lk) : sp_F ae ef et ew pt nr fr Q bs sr U ds lk := by
  refine ⟨st, 8, ord, Nat.le_refl _, h, fun v hv _ => ?_⟩
  obtain ⟨i1, i2, i3, _⟩ := h
  obtain ⟨i, hi, e1⟩ := zc_all i2 i3 v hv
  exact (i1 v).mpr ⟨i, hi, e1⟩
end
section
section
variable {f_goalEdge f_goalRest f_atomBits f_decided f_maxVariables f_maxAtoms f_maxClauses f_maxDepth f_atomCount f_clauseCount f_depthNow f_assumedTrue f_assumedFalse f_status f_presentTrue f_coreKnown f_coreClauses f_coreAtoms f_witnessClauses f_witnessAtoms f_learnedCount f_learnedNext f_activeRests f_trueMask f_falseMask f_trailSize f_theoryHead f_level f_conflictAtoms f_conflictRests f_failedAtoms f_failedRests f_activeEdges f_goalOn : Int32} {a_kinds a_lefts a_rights a_bounds a_atomDepths a_literals a_literalCounts a_clausePos a_clauseNeg a_clauseDepths a_values a_learnedPos a_learnedNeg a_learnedRests a_trail a_levelStart a_levelAtoms a_reasonAtoms a_reasonRests a_edgeFrom a_edgeTo a_edgeWeight a_potential a_moved a_gamma a_via a_dist a_link : Nat → Int32}
theorem xw_near {post : Int32 → Prop} {bs : Nat} {st : Int32} (hb : bs ≤ 8)
    (hs : ∀ s, s < 8 → 0 ≤ (a_dist (bs + s)).toInt → bt st s = false → (∀ v, v < 8 → bt st v = false → 0 ≤ (a_dist (bs + v)).toInt → (a_dist (bs + s)).toInt ≤ (a_dist (bs + v)).toInt) → post (nI s))
    (hno : (∀ v, v < 8 → 0 ≤ (a_dist (bs + v)).toInt → bt st v = true) → post (-1)) : wpX_nearest post (f_goalEdge, f_goalRest, f_atomBits, f_decided, f_maxVariables, f_maxAtoms, f_maxClauses, f_maxDepth, f_atomCount, f_clauseCount, f_depthNow, f_assumedTrue, f_assumedFalse, f_status, f_presentTrue, f_coreKnown, f_coreClauses, f_coreAtoms, f_witnessClauses, f_witnessAtoms, f_learnedCount, f_learnedNext, f_activeRests, f_trueMask, f_falseMask, f_trailSize, f_theoryHead, f_level, f_conflictAtoms, f_conflictRests, f_failedAtoms, f_failedRests, f_activeEdges, f_goalOn, a_kinds, a_lefts, a_rights, a_bounds, a_atomDepths, a_literals, a_literalCounts, a_clausePos, a_clauseNeg, a_clauseDepths, a_values, a_learnedPos, a_learnedNeg, a_learnedRests, a_trail, a_levelStart, a_levelAtoms, a_reasonAtoms, a_reasonRests, a_edgeFrom, a_edgeTo, a_edgeWeight, a_potential, a_moved, a_gamma, a_via, a_dist, a_link) (nI bs) st := by
  have key : ∀ n i x3, i ≤ 8 → 8 < n + i → ((x3 = -1 ∧ ∀ v, v < i → 0 ≤ (a_dist (bs + v)).toInt → bt st v = true) ∨ ∃ s, s < 8 ∧ x3 = nI s ∧ 0 ≤ (a_dist (bs + s)).toInt ∧ bt st s = false ∧ ∀ v, v < i → bt st v = false → 0 ≤ (a_dist (bs + v)).toInt → (a_dist (bs + s)).toInt ≤ (a_dist (bs + v)).toInt) →
      wX_nearest_5 post (nI bs) st f_goalEdge f_goalRest f_atomBits f_decided f_maxVariables f_maxAtoms f_maxClauses f_maxDepth f_atomCount f_clauseCount f_depthNow f_assumedTrue f_assumedFalse f_status f_presentTrue f_coreKnown f_coreClauses f_coreAtoms f_witnessClauses f_witnessAtoms f_learnedCount f_learnedNext f_activeRests f_trueMask f_falseMask f_trailSize f_theoryHead f_level f_conflictAtoms f_conflictRests f_failedAtoms f_failedRests f_activeEdges f_goalOn a_kinds a_lefts a_rights a_bounds a_atomDepths a_literals a_literalCounts a_clausePos a_clauseNeg a_clauseDepths a_values a_learnedPos a_learnedNeg a_learnedRests a_trail a_levelStart a_levelAtoms a_reasonAtoms a_reasonRests a_edgeFrom a_edgeTo a_edgeWeight a_potential a_moved a_gamma a_via a_dist a_link n x3 (nI i) := by
    intro n
    induction n with
    | zero => intro i _ h1 h2; omega
    | succ n ih =>
      intro i x3 hi hn hI
      refine pk_le 8 i (fun h => ?_) (fun h => And.intro (pk_in (bs + i) 16 (by omega) (nI_add bs i)) ?_)
      · have : i = 8 := by omega
        subst this
        rcases hI with ⟨rfl, h1⟩ | ⟨s, h1, rfl, h2, h3, h4⟩
        · exact hno h1
        · exact hs s h1 h2 h3 h4
      · have c : (nI bs + nI i).toNatClampNeg = bs + i := by rw [nI_add, nI_clamp (by omega)]
        rw [c]
        refine nm_e (br_c (fun h1 => nm_r (nI_1 i) (ih (i + 1) x3 (by omega) (by omega) ?_)) (fun h1 => br_c (fun h2 => ?_) (fun h2 => nm_r (nI_1 i) (ih (i + 1) x3 (by omega) (by omega) ?_))))
        · rw [zi_lt, zi_0] at h1
          rcases hI with ⟨rfl, h3⟩ | ⟨s, h3, rfl, h4, h5, h6⟩
          · refine Or.inl ⟨rfl, fun v hv hd => ?_⟩
            rcases Nat.lt_or_ge v i with z | z
            · exact h3 v z hd
            · have : v = i := by omega
              subst this; omega
          · refine Or.inr ⟨s, h3, rfl, h4, h5, fun v hv hu hd => ?_⟩
            rcases Nat.lt_or_ge v i with z | z
            · exact h6 v z hu hd
            · have : v = i := by omega
              subst this; omega
        · rw [zi_lt, zi_0] at h1
          have hu : bt st i = false := (zb_shr1 (by omega)).mp h2
          rcases hI with ⟨rfl, h3⟩ | ⟨s, h3, rfl, h4, h5, h6⟩
          · refine br_t (by decide) (nm_r (nI_1 i) (ih (i + 1) (nI i) (by omega) (by omega) (Or.inr ⟨i, h, rfl, by omega, hu, fun v hv hu' hd => ?_⟩)))
            rcases Nat.lt_or_ge v i with z | z
            · rw [h3 v z hd] at hu'; cases hu'
            · have : v = i := by omega
              subst this; exact Int.le_refl _
          · have c2 : (nI bs + nI s).toNatClampNeg = bs + s := by rw [nI_add, nI_clamp (by omega)]
            refine br_f (nI_pos (by omega)) (And.intro (pk_in (bs + s) 16 (by omega) (nI_add bs s)) ?_)
            rw [c2]
            refine br_c (fun h7 => nm_r (nI_1 i) (ih (i + 1) (nI s) (by omega) (by omega) (Or.inr ⟨s, h3, rfl, h4, h5, fun v hv hu' hd => ?_⟩))) (fun h7 => nm_r (nI_1 i) (ih (i + 1) (nI i) (by omega) (by omega) (Or.inr ⟨i, h, rfl, by omega, hu, fun v hv hu' hd => ?_⟩)))
            · rw [zi_le] at h7
              rcases Nat.lt_or_ge v i with z | z
              · exact h6 v z hu' hd
              · have : v = i := by omega
                subst this; exact h7
            · rw [zi_le] at h7
              rcases Nat.lt_or_ge v i with z | z
              · have := h6 v z hu' hd; omega
              · have : v = i := by omega
                subst this; exact Int.le_refl _
        · have hu : bt st i = true := zb_ft (fun z => h2 ((zb_shr1 (by omega)).mpr z))
          rcases hI with ⟨rfl, h3⟩ | ⟨s, h3, rfl, h4, h5, h6⟩
          · refine Or.inl ⟨rfl, fun v hv hd => ?_⟩
            rcases Nat.lt_or_ge v i with z | z
            · exact h3 v z hd
            · have : v = i := by omega
              subst this; exact hu
          · refine Or.inr ⟨s, h3, rfl, h4, h5, fun v hv hu' hd => ?_⟩
            rcases Nat.lt_or_ge v i with z | z
            · exact h6 v z hu' hd
            · have : v = i := by omega
              subst this; rw [hu] at hu'; cases hu'
  exact Exists.intro 9 (key 9 0 (-1) (by omega) (by omega) (Or.inl ⟨rfl, fun v hv => by omega⟩))
/-- one edge -/
theorem xw_sp151 {post : SX → Prop} {J52 : Int32 → Int32 → (Nat → Int32) → (Nat → Int32) → (Nat → Int32) → (Nat → Int32) → (Nat → Int32) → (Nat → Int32) → (Nat → Int32) → (Nat → Int32) → (Nat → Int32) → (Nat → Int32) → (Nat → Int32) → (Nat → Int32) → (Nat → Int32) → (Nat → Int32) → (Nat → Int32) → (Nat → Int32) → (Nat → Int32) → (Nat → Int32) → (Nat → Int32) → (Nat → Int32) → (Nat → Int32) → (Nat → Int32) → (Nat → Int32) → (Nat → Int32) → (Nat → Int32) → (Nat → Int32) → (Nat → Int32) → (Nat → Int32) → Prop} {J88 : Int32 → (Nat → Int32) → (Nat → Int32) → (Nat → Int32) → (Nat → Int32) → (Nat → Int32) → (Nat → Int32) → (Nat → Int32) → (Nat → Int32) → (Nat → Int32) → (Nat → Int32) → (Nat → Int32) → (Nat → Int32) → (Nat → Int32) → (Nat → Int32) → (Nat → Int32) → (Nat → Int32) → (Nat → Int32) → (Nat → Int32) → (Nat → Int32) → (Nat → Int32) → (Nat → Int32) → (Nat → Int32) → (Nat → Int32) → (Nat → Int32) → (Nat → Int32) → (Nat → Int32) → (Nat → Int32) → (Nat → Int32) → Prop} {fw st xr : Int32} {bs s i : Nat} {nr fr ds0 lk0 ds lk : Nat → Int32}
    (hb : bs ≤ 8) (hs : s < 8) (hi : i < 11) (hss : bt st s = true)
    (hok : ie_Ok f_activeEdges a_edgeFrom a_edgeTo a_edgeWeight) (ha : bt f_activeEdges i = true)
    (hnf : (nr i = a_edgeFrom i ∧ fr i = a_edgeTo i) ∨ (nr i = a_edgeTo i ∧ fr i = a_edgeFrom i))
    (hsl : 0 ≤ sp_sl a_edgeFrom a_edgeTo a_edgeWeight a_potential i)
    (hp : ∀ v, v < 8 → -400000000 ≤ (a_potential v).toInt ∧ (a_potential v).toInt ≤ 0) (hd0 : 0 ≤ (ds0 (bs + s)).toInt ∧ (ds0 (bs + s)).toInt ≤ 600000000)
    (hI : sp_RX f_activeEdges st a_edgeFrom a_edgeTo a_edgeWeight a_potential nr fr bs s i ds0 lk0 ds lk)
    (K : ∀ ds' lk', sp_RX f_activeEdges st a_edgeFrom a_edgeTo a_edgeWeight a_potential nr fr bs s (i + 1) ds0 lk0 ds' lk' → J88 (nI (i + 1)) a_kinds a_lefts a_rights a_bounds a_atomDepths a_literals a_literalCounts a_clausePos a_clauseNeg a_clauseDepths a_values a_learnedPos a_learnedNeg a_learnedRests a_trail a_levelStart a_levelAtoms a_reasonAtoms a_reasonRests a_edgeFrom a_edgeTo a_edgeWeight a_potential a_moved a_gamma a_via ds' lk') :
    wX_spread_151 post J52 J88 fw (nI bs) st xr (nI s) (nI i) (nr i) (fr i) f_goalEdge f_goalRest f_atomBits f_decided f_maxVariables f_maxAtoms f_maxClauses f_maxDepth f_atomCount f_clauseCount f_depthNow f_assumedTrue f_assumedFalse f_status f_presentTrue f_coreKnown f_coreClauses f_coreAtoms f_witnessClauses f_witnessAtoms f_learnedCount f_learnedNext f_activeRests f_trueMask f_falseMask f_trailSize f_theoryHead f_level f_conflictAtoms f_conflictRests f_failedAtoms f_failedRests f_activeEdges f_goalOn a_kinds a_lefts a_rights a_bounds a_atomDepths a_literals a_literalCounts a_clausePos a_clauseNeg a_clauseDepths a_values a_learnedPos a_learnedNeg a_learnedRests a_trail a_levelStart a_levelAtoms a_reasonAtoms a_reasonRests a_edgeFrom a_edgeTo a_edgeWeight a_potential a_moved a_gamma a_via ds lk := by
  obtain ⟨o1, o2, o3, o4⟩ := hok i hi ha
  have hn8 : vp_in (nr i) 8 := by rcases hnf with ⟨z, _⟩ | ⟨z, _⟩ <;> rw [z] <;> assumption
  have hf8 : vp_in (fr i) 8 := by rcases hnf with ⟨_, z⟩ | ⟨_, z⟩ <;> rw [z] <;> assumption
  obtain ⟨p1, p2, p3⟩ := zi_in hn8
  obtain ⟨q1, q2, q3⟩ := zi_in hf8
  obtain ⟨l1, l2, l3, l4⟩ := hI
  have hds : ds (bs + s) = ds0 (bs + s) := by
    rcases l3 s hs with ⟨z, _⟩ | ⟨z, _⟩
    · exact z
    · rw [hss] at z; cases z
  have next : (((nr i).toNatClampNeg = s → bt st (fr i).toNatClampNeg = false → 0 ≤ (ds (bs + (fr i).toNatClampNeg)).toInt ∧ (ds (bs + (fr i).toNatClampNeg)).toInt ≤ (ds0 (bs + s)).toInt + sp_sl a_edgeFrom a_edgeTo a_edgeWeight a_potential i)) → sp_RX f_activeEdges st a_edgeFrom a_edgeTo a_edgeWeight a_potential nr fr bs s (i + 1) ds0 lk0 ds lk := by
    intro hskip
    refine ⟨l1, fun e he => ?_, l3, l4⟩
    rcases Nat.lt_or_ge e i with z | z
    · exact l2 e z
    · have : e = i := by omega
      subst this
      exact fun _ => hskip
  have c1 : (nI bs + nI s).toNatClampNeg = bs + s := by rw [nI_add, nI_clamp (by omega)]
  have c2 : (nI bs + fr i).toNatClampNeg = bs + (fr i).toNatClampNeg := by
    have : nI bs + fr i = nI (bs + (fr i).toNatClampNeg) := by rw [← nI_add, ← q2]
    rw [this, nI_clamp (by omega)]
  have in2 : vp_in (nI bs + fr i) 16 := by
    have : nI bs + fr i = nI (bs + (fr i).toNatClampNeg) := by rw [← nI_add, ← q2]
    rw [this]; exact vp_in_nI (by omega) (by omega)
  refine br_c (fun h1 => br_c (fun h2 => And.intro (pk_in (bs + s) 16 (by omega) (nI_add bs s)) (xw_slack hi o1 o2 ?_)) (fun h2 => nm_r (nI_1 i) (K ds lk (next ?_)))) (fun h1 => nm_r (nI_1 i) (K ds lk (next ?_)))
  · have hN : (nr i).toNatClampNeg = s := by rw [h1, nI_clamp (by omega)]
    have hu : bt st (fr i).toNatClampNeg = false := by
      rw [q2] at h2
      exact (zb_shr1 (by omega)).mp h2
    have hPF := hp _ (zi_in o1).1
    have hPT := hp _ (zi_in o2).1
    have hx : (ds (bs + s) + (a_potential (a_edgeFrom i).toNatClampNeg + a_edgeWeight i - a_potential (a_edgeTo i).toNatClampNeg)).toInt = (ds0 (bs + s)).toInt + sp_sl a_edgeFrom a_edgeTo a_edgeWeight a_potential i := by
      have e1 : (a_potential (a_edgeFrom i).toNatClampNeg + a_edgeWeight i).toInt = (a_potential (a_edgeFrom i).toNatClampNeg).toInt + (a_edgeWeight i).toInt := zi_add (by omega) (by omega)
      have e2 : (a_potential (a_edgeFrom i).toNatClampNeg + a_edgeWeight i - a_potential (a_edgeTo i).toNatClampNeg).toInt = sp_sl a_edgeFrom a_edgeTo a_edgeWeight a_potential i := by
        unfold sp_sl
        rw [zi_sub (by rw [e1]; omega) (by rw [e1]; omega), e1]
      have e3 : sp_sl a_edgeFrom a_edgeTo a_edgeWeight a_potential i ≤ 400000708 := by unfold sp_sl; omega
      rw [hds, zi_add (by rw [e2]; omega) (by rw [e2]; omega), e2]
    rw [c1]
    refine nm_e (And.intro in2 ?_)
    rw [c2]
    have put : wX_spread_214 post J52 J88 fw (nI bs) st xr (nI s) (nI i) (fr i) (ds (bs + s) + (a_potential (a_edgeFrom i).toNatClampNeg + a_edgeWeight i - a_potential (a_edgeTo i).toNatClampNeg)) f_goalEdge f_goalRest f_atomBits f_decided f_maxVariables f_maxAtoms f_maxClauses f_maxDepth f_atomCount f_clauseCount f_depthNow f_assumedTrue f_assumedFalse f_status f_presentTrue f_coreKnown f_coreClauses f_coreAtoms f_witnessClauses f_witnessAtoms f_learnedCount f_learnedNext f_activeRests f_trueMask f_falseMask f_trailSize f_theoryHead f_level f_conflictAtoms f_conflictRests f_failedAtoms f_failedRests f_activeEdges f_goalOn a_kinds a_lefts a_rights a_bounds a_atomDepths a_literals a_literalCounts a_clausePos a_clauseNeg a_clauseDepths a_values a_learnedPos a_learnedNeg a_learnedRests a_trail a_levelStart a_levelAtoms a_reasonAtoms a_reasonRests a_edgeFrom a_edgeTo a_edgeWeight a_potential a_moved a_gamma a_via ds lk ∨ ¬ (0 ≤ (ds (bs + (fr i).toNatClampNeg)).toInt → (ds0 (bs + s)).toInt + sp_sl a_edgeFrom a_edgeTo a_edgeWeight a_potential i < (ds (bs + (fr i).toNatClampNeg)).toInt) := by
      rcases Classical.em (0 ≤ (ds (bs + (fr i).toNatClampNeg)).toInt → (ds0 (bs + s)).toInt + sp_sl a_edgeFrom a_edgeTo a_edgeWeight a_potential i < (ds (bs + (fr i).toNatClampNeg)).toInt) with hlow | hlow
      · refine Or.inl (And.intro in2 (nm_e (And.intro in2 (nm_e (nm_r (nI_1 i) ?_)))))
        rw [c2]
        refine K _ _ ⟨fun v hv hge => ?_, fun e he ha' hN' hst => ?_, fun v hv => ?_, fun k hk => ?_⟩
        · by_cases e1 : bs + v = bs + (fr i).toNatClampNeg
          · have hvf : v = (fr i).toNatClampNeg := by omega
            rw [hvf, pk_us, hx]
            rw [hvf] at hge
            obtain ⟨h5, h6⟩ := l1 _ q1 hge
            have := hlow h5
            omega
          · rw [pk_un e1]; exact l1 v hv hge
        · by_cases e1 : bs + (fr e).toNatClampNeg = bs + (fr i).toNatClampNeg
          · rw [e1, pk_us, hx]
            refine ⟨by omega, ?_⟩
            rcases Nat.lt_or_ge e i with z | z
            · obtain ⟨h5, h6⟩ := l2 e z ha' hN' hst
              rw [e1] at h5 h6
              have := hlow h5
              omega
            · have : e = i := by omega
              subst this
              exact Int.le_refl _
          · rw [pk_un e1]
            rcases Nat.lt_or_ge e i with z | z
            · exact l2 e z ha' hN' hst
            · have : e = i := by omega
              rw [this] at e1
              exact (e1 rfl).elim
        · by_cases e1 : bs + v = bs + (fr i).toNatClampNeg
          · have hvf : v = (fr i).toNatClampNeg := by omega
            rw [hvf, pk_us, pk_us]
            exact Or.inr ⟨hu, i, hi, ha, hN, rfl, rfl, hx⟩
          · rw [pk_un e1, pk_un e1]
            exact l3 v hv
        · rw [pk_un (by omega), pk_un (by omega)]
          exact l4 k hk
      · exact Or.inr hlow
    refine br_c (fun h3 => ?_) (fun h3 => And.intro in2 (br_c (fun h4 => nm_r (nI_1 i) (K ds lk (next ?_))) (fun h4 => ?_)))
    · rw [zi_lt, zi_0] at h3
      rcases put with z | z
      · exact z
      · exact (z (fun y => by omega)).elim
    · rw [zi_lt, zi_0] at h3
      rw [zi_le, hx] at h4
      exact fun _ _ => ⟨by omega, h4⟩
    · rw [zi_le, hx] at h4
      rcases put with z | z
      · exact z
      · exact (z (fun y => by omega)).elim
  · intro _ z
    rw [q2] at h2
    exact (h2 ((zb_shr1 (by omega)).mpr z)).elim
  · intro z
    exact (h1 (by rw [p2, z])).elim
end
end
section
theorem sp_ub {U : Int} {r : Nat} (h0 : 0 ≤ U) (h1 : U ≤ 708) (hr : r ≤ 8) : U * (r : Int) ≤ 5664 := by
  have h : U * (r : Int) ≤ 708 * 8 := Int.mul_le_mul h1 (by omega) (by omega) (by omega)
  omega
section
variable {f_goalEdge f_goalRest f_atomBits f_decided f_maxVariables f_maxAtoms f_maxClauses f_maxDepth f_atomCount f_clauseCount f_depthNow f_assumedTrue f_assumedFalse f_status f_presentTrue f_coreKnown f_coreClauses f_coreAtoms f_witnessClauses f_witnessAtoms f_learnedCount f_learnedNext f_activeRests f_trueMask f_falseMask f_trailSize f_theoryHead f_level f_conflictAtoms f_conflictRests f_failedAtoms f_failedRests f_activeEdges f_goalOn : Int32} {a_kinds a_lefts a_rights a_bounds a_atomDepths a_literals a_literalCounts a_clausePos a_clauseNeg a_clauseDepths a_values a_learnedPos a_learnedNeg a_learnedRests a_trail a_levelStart a_levelAtoms a_reasonAtoms a_reasonRests a_edgeFrom a_edgeTo a_edgeWeight a_potential a_moved a_gamma a_via a_dist a_link : Nat → Int32}
theorem xw_sp88 {post : SX → Prop} {J52 : Int32 → Int32 → (Nat → Int32) → (Nat → Int32) → (Nat → Int32) → (Nat → Int32) → (Nat → Int32) → (Nat → Int32) → (Nat → Int32) → (Nat → Int32) → (Nat → Int32) → (Nat → Int32) → (Nat → Int32) → (Nat → Int32) → (Nat → Int32) → (Nat → Int32) → (Nat → Int32) → (Nat → Int32) → (Nat → Int32) → (Nat → Int32) → (Nat → Int32) → (Nat → Int32) → (Nat → Int32) → (Nat → Int32) → (Nat → Int32) → (Nat → Int32) → (Nat → Int32) → (Nat → Int32) → (Nat → Int32) → (Nat → Int32) → Prop} {fw st : Int32} {bs s r : Nat} {nr fr ds0 lk0 : Nat → Int32}
    (hfw : (fw = 0 ∧ nr = a_edgeTo ∧ fr = a_edgeFrom) ∨ (¬ fw = 0 ∧ nr = a_edgeFrom ∧ fr = a_edgeTo))
    (hb : bs ≤ 8) (hs : s < 8) (hss : bt st s = true)
    (hok : ie_Ok f_activeEdges a_edgeFrom a_edgeTo a_edgeWeight) (hfe : ie_Fe f_activeEdges a_edgeFrom a_edgeTo a_edgeWeight a_potential)
    (hp : ∀ v, v < 8 → -400000000 ≤ (a_potential v).toInt ∧ (a_potential v).toInt ≤ 0) (hd0 : 0 ≤ (ds0 (bs + s)).toInt ∧ (ds0 (bs + s)).toInt ≤ 600000000)
    (K : ∀ ds lk, sp_RX f_activeEdges st a_edgeFrom a_edgeTo a_edgeWeight a_potential nr fr bs s 11 ds0 lk0 ds lk → J52 st (nI (r + 1)) a_kinds a_lefts a_rights a_bounds a_atomDepths a_literals a_literalCounts a_clausePos a_clauseNeg a_clauseDepths a_values a_learnedPos a_learnedNeg a_learnedRests a_trail a_levelStart a_levelAtoms a_reasonAtoms a_reasonRests a_edgeFrom a_edgeTo a_edgeWeight a_potential a_moved a_gamma a_via ds lk) :
    ∀ n i ds lk, i ≤ 11 → 11 < n + i → sp_RX f_activeEdges st a_edgeFrom a_edgeTo a_edgeWeight a_potential nr fr bs s i ds0 lk0 ds lk →
      wX_spread_88 post J52 fw (nI bs) st (nI r) (nI s) f_goalEdge f_goalRest f_atomBits f_decided f_maxVariables f_maxAtoms f_maxClauses f_maxDepth f_atomCount f_clauseCount f_depthNow f_assumedTrue f_assumedFalse f_status f_presentTrue f_coreKnown f_coreClauses f_coreAtoms f_witnessClauses f_witnessAtoms f_learnedCount f_learnedNext f_activeRests f_trueMask f_falseMask f_trailSize f_theoryHead f_level f_conflictAtoms f_conflictRests f_failedAtoms f_failedRests f_activeEdges f_goalOn n (nI i) a_kinds a_lefts a_rights a_bounds a_atomDepths a_literals a_literalCounts a_clausePos a_clauseNeg a_clauseDepths a_values a_learnedPos a_learnedNeg a_learnedRests a_trail a_levelStart a_levelAtoms a_reasonAtoms a_reasonRests a_edgeFrom a_edgeTo a_edgeWeight a_potential a_moved a_gamma a_via ds lk := by
  intro n
  induction n with
  | zero => intro i _ _ h1 h2; omega
  | succ n ih =>
    intro i ds lk hi hn hI
    have c : (nI i).toNatClampNeg = i := nI_clamp (by omega)
    refine pk_le 11 i (fun h => nm_r (nI_1 r) ?_) (fun h => ?_)
    · have : i = 11 := by omega
      subst this
      exact K ds lk hI
    · refine br_c (fun h2 => nm_r (nI_1 i) (ih (i + 1) ds lk (by omega) (by omega) ?_)) (fun h2 => ?_)
      · have hz : bt f_activeEdges i = false := (zb_shr1 (by omega)).mp h2
        obtain ⟨l1, l2, l3, l4⟩ := hI
        refine ⟨l1, fun e he ha => ?_, l3, l4⟩
        rcases Nat.lt_or_ge e i with z | z
        · exact l2 e z ha
        · have : e = i := by omega
          subst this
          rw [hz] at ha; cases ha
      · have ha : bt f_activeEdges i = true := zb_ft (fun z => h2 ((zb_shr1 (by omega)).mpr z))
        have hsl : 0 ≤ sp_sl a_edgeFrom a_edgeTo a_edgeWeight a_potential i := by
          have := hfe i h ha
          unfold sp_sl; omega
        rw [c]
        rcases hfw with ⟨z, e1, e2⟩ | ⟨z, e1, e2⟩
        · subst e1 e2
          refine br_t z (And.intro (pk_in i 11 h) (br_t z (And.intro (pk_in i 11 h) ?_)))
          rw [c]
          exact xw_sp151 hb hs h hss hok ha (Or.inr ⟨rfl, rfl⟩) hsl hp hd0 hI (fun ds' lk' h5 => ih (i + 1) ds' lk' (by omega) (by omega) h5)
        · subst e1 e2
          refine br_f z (And.intro (pk_in i 11 h) (br_f z (And.intro (pk_in i 11 h) ?_)))
          rw [c]
          exact xw_sp151 hb hs h hss hok ha (Or.inl ⟨rfl, rfl⟩) hsl hp hd0 hI (fun ds' lk' h5 => ih (i + 1) ds' lk' (by omega) (by omega) h5)
theorem xw_sp52 {post : SX → Prop} {fw : Int32} {bs sr : Nat} {nr fr ds0 lk0 : Nat → Int32} {Q : Nat → Int} {U : Int}
    (hfw : (fw = 0 ∧ nr = a_edgeTo ∧ fr = a_edgeFrom) ∨ (¬ fw = 0 ∧ nr = a_edgeFrom ∧ fr = a_edgeTo))
    (hb : bs ≤ 8) (hsr : sr < 8)
    (hok : ie_Ok f_activeEdges a_edgeFrom a_edgeTo a_edgeWeight) (hfe : ie_Fe f_activeEdges a_edgeFrom a_edgeTo a_edgeWeight a_potential)
    (hp : ∀ v, v < 8 → -400000000 ≤ (a_potential v).toInt ∧ (a_potential v).toInt ≤ 0) (hQ : ∀ v, v < 8 → Q v ≤ 400000000)
    (hnr : ∀ e, e < 11 → bt f_activeEdges e = true → (nr e).toNatClampNeg < 8 ∧ (fr e).toNatClampNeg < 8 ∧ 0 ≤ sp_sl a_edgeFrom a_edgeTo a_edgeWeight a_potential e ∧ sp_sl a_edgeFrom a_edgeTo a_edgeWeight a_potential e = (a_edgeWeight e).toInt + Q (fr e).toNatClampNeg - Q (nr e).toNatClampNeg ∧ -708 ≤ (a_edgeWeight e).toInt)
    (hU : ∀ e, e < 11 → bt f_activeEdges e = true → (fr e).toNatClampNeg ≠ sr → (a_edgeWeight e).toInt ≤ U) (hU0 : 0 ≤ U) (hU1 : U ≤ 708)
    (K : ∀ ds lk, sp_F f_activeEdges a_edgeFrom a_edgeTo a_edgeWeight a_potential nr fr Q bs sr U ds lk → (∀ k, (k < bs ∨ bs + 8 ≤ k) → ds k = ds0 k ∧ lk k = lk0 k) → post (f_goalEdge, f_goalRest, f_atomBits, f_decided, f_maxVariables, f_maxAtoms, f_maxClauses, f_maxDepth, f_atomCount, f_clauseCount, f_depthNow, f_assumedTrue, f_assumedFalse, f_status, f_presentTrue, f_coreKnown, f_coreClauses, f_coreAtoms, f_witnessClauses, f_witnessAtoms, f_learnedCount, f_learnedNext, f_activeRests, f_trueMask, f_falseMask, f_trailSize, f_theoryHead, f_level, f_conflictAtoms, f_conflictRests, f_failedAtoms, f_failedRests, f_activeEdges, f_goalOn, a_kinds, a_lefts, a_rights, a_bounds, a_atomDepths, a_literals, a_literalCounts, a_clausePos, a_clauseNeg, a_clauseDepths, a_values, a_learnedPos, a_learnedNeg, a_learnedRests, a_trail, a_levelStart, a_levelAtoms, a_reasonAtoms, a_reasonRests, a_edgeFrom, a_edgeTo, a_edgeWeight, a_potential, a_moved, a_gamma, a_via, ds, lk)) :
    ∀ n r st ord ds lk, r ≤ 8 → 8 < n + r → sp_I f_activeEdges a_edgeFrom a_edgeTo a_edgeWeight a_potential nr fr Q bs sr U st r ord ds lk → (∀ k, (k < bs ∨ bs + 8 ≤ k) → ds k = ds0 k ∧ lk k = lk0 k) →
      wX_spread_52 post fw (nI bs) f_goalEdge f_goalRest f_atomBits f_decided f_maxVariables f_maxAtoms f_maxClauses f_maxDepth f_atomCount f_clauseCount f_depthNow f_assumedTrue f_assumedFalse f_status f_presentTrue f_coreKnown f_coreClauses f_coreAtoms f_witnessClauses f_witnessAtoms f_learnedCount f_learnedNext f_activeRests f_trueMask f_falseMask f_trailSize f_theoryHead f_level f_conflictAtoms f_conflictRests f_failedAtoms f_failedRests f_activeEdges f_goalOn n st (nI r) a_kinds a_lefts a_rights a_bounds a_atomDepths a_literals a_literalCounts a_clausePos a_clauseNeg a_clauseDepths a_values a_learnedPos a_learnedNeg a_learnedRests a_trail a_levelStart a_levelAtoms a_reasonAtoms a_reasonRests a_edgeFrom a_edgeTo a_edgeWeight a_potential a_moved a_gamma a_via ds lk := by
  intro n
  induction n with
  | zero => intro r _ _ _ _ h1 h2; omega
  | succ n ih =>
    intro r st ord ds lk hr hn hI hout
    refine pk_le 8 r (fun h => ?_) (fun h => ?_)
    · have : r = 8 := by omega
      subst this
      exact K ds lk (sp_full hI) hout
    · refine xw_near hb (fun s hs hre hun hmin => ?_) (fun hall => ?_)
      · have hst : ∀ v, bt (st ||| (1 : Int32) <<< (nI s &&& 31)) v = (bt st v || decide (v = s)) := fun v => by rw [b_or, zb_bit (by omega)]
        have hd0 : (ds (bs + s)).toInt ≤ 600000000 := by
          have h1 := hI.2.2.2.2.2.2.2.2.2.2.2.1 s hs hun hre
          have h2 := sp_ub hU0 hU1 hr
          have h3 := hQ s hs
          omega
        refine br_t (nI_pos' (by omega)) (nm_e (Exists.intro 12 ?_))
        refine xw_sp88 hfw hb hs (by rw [hst, decide_eq_true rfl, Bool.or_true]) hok hfe hp ⟨hre, hd0⟩ (fun ds' lk' hrx => ?_) 12 0 ds lk (by omega) (by omega) ⟨fun v _ z => ⟨z, Int.le_refl _⟩, fun e he => by omega, fun v _ => Or.inl ⟨rfl, rfl⟩, fun k _ => ⟨rfl, rfl⟩⟩
        refine ih (r + 1) _ _ ds' lk' (by omega) (by omega) (sp_step hI hnr hU hU0 hsr hs hre hun hmin hst hrx) (fun k hk => ?_)
        obtain ⟨a1, a2⟩ := hrx.2.2.2 k hk
        obtain ⟨b1, b2⟩ := hout k hk
        exact ⟨a1.trans b1, a2.trans b2⟩
      · exact br_f (by decide) (K ds lk ⟨st, r, ord, hr, hI, hall⟩ hout)
theorem xw_sp14 {post : SX → Prop} {fw : Int32} {bs sr : Nat} {nr fr : Nat → Int32} {Q : Nat → Int} {U : Int}
    (hfw : (fw = 0 ∧ nr = a_edgeTo ∧ fr = a_edgeFrom) ∨ (¬ fw = 0 ∧ nr = a_edgeFrom ∧ fr = a_edgeTo))
    (hb : bs ≤ 8) (hsr : sr < 8)
    (hok : ie_Ok f_activeEdges a_edgeFrom a_edgeTo a_edgeWeight) (hfe : ie_Fe f_activeEdges a_edgeFrom a_edgeTo a_edgeWeight a_potential)
    (hp : ∀ v, v < 8 → -400000000 ≤ (a_potential v).toInt ∧ (a_potential v).toInt ≤ 0) (hQ : ∀ v, v < 8 → Q v ≤ 400000000) (hQs : Q sr = 0)
    (hnr : ∀ e, e < 11 → bt f_activeEdges e = true → (nr e).toNatClampNeg < 8 ∧ (fr e).toNatClampNeg < 8 ∧ 0 ≤ sp_sl a_edgeFrom a_edgeTo a_edgeWeight a_potential e ∧ sp_sl a_edgeFrom a_edgeTo a_edgeWeight a_potential e = (a_edgeWeight e).toInt + Q (fr e).toNatClampNeg - Q (nr e).toNatClampNeg ∧ -708 ≤ (a_edgeWeight e).toInt)
    (hU : ∀ e, e < 11 → bt f_activeEdges e = true → (fr e).toNatClampNeg ≠ sr → (a_edgeWeight e).toInt ≤ U) (hU0 : 0 ≤ U) (hU1 : U ≤ 708)
    (K : ∀ ds lk, sp_F f_activeEdges a_edgeFrom a_edgeTo a_edgeWeight a_potential nr fr Q bs sr U ds lk → (∀ k, (k < bs ∨ bs + 8 ≤ k) → ds k = a_dist k ∧ lk k = a_link k) → post (f_goalEdge, f_goalRest, f_atomBits, f_decided, f_maxVariables, f_maxAtoms, f_maxClauses, f_maxDepth, f_atomCount, f_clauseCount, f_depthNow, f_assumedTrue, f_assumedFalse, f_status, f_presentTrue, f_coreKnown, f_coreClauses, f_coreAtoms, f_witnessClauses, f_witnessAtoms, f_learnedCount, f_learnedNext, f_activeRests, f_trueMask, f_falseMask, f_trailSize, f_theoryHead, f_level, f_conflictAtoms, f_conflictRests, f_failedAtoms, f_failedRests, f_activeEdges, f_goalOn, a_kinds, a_lefts, a_rights, a_bounds, a_atomDepths, a_literals, a_literalCounts, a_clausePos, a_clauseNeg, a_clauseDepths, a_values, a_learnedPos, a_learnedNeg, a_learnedRests, a_trail, a_levelStart, a_levelAtoms, a_reasonAtoms, a_reasonRests, a_edgeFrom, a_edgeTo, a_edgeWeight, a_potential, a_moved, a_gamma, a_via, ds, lk)) :
    ∀ n i ds, i ≤ 8 → 8 < n + i → (∀ v, v < i → ds (bs + v) = -1) → (∀ k, (k < bs ∨ bs + 8 ≤ k) → ds k = a_dist k) →
      wX_spread_14 post (nI sr) fw (nI bs) f_goalEdge f_goalRest f_atomBits f_decided f_maxVariables f_maxAtoms f_maxClauses f_maxDepth f_atomCount f_clauseCount f_depthNow f_assumedTrue f_assumedFalse f_status f_presentTrue f_coreKnown f_coreClauses f_coreAtoms f_witnessClauses f_witnessAtoms f_learnedCount f_learnedNext f_activeRests f_trueMask f_falseMask f_trailSize f_theoryHead f_level f_conflictAtoms f_conflictRests f_failedAtoms f_failedRests f_activeEdges f_goalOn n (nI i) a_kinds a_lefts a_rights a_bounds a_atomDepths a_literals a_literalCounts a_clausePos a_clauseNeg a_clauseDepths a_values a_learnedPos a_learnedNeg a_learnedRests a_trail a_levelStart a_levelAtoms a_reasonAtoms a_reasonRests a_edgeFrom a_edgeTo a_edgeWeight a_potential a_moved a_gamma a_via ds a_link := by
  intro n
  induction n with
  | zero => intro i _ h1 h2; omega
  | succ n ih =>
    intro i ds hi hn hI hout
    have c1 : (nI bs + nI i).toNatClampNeg = bs + i := by rw [nI_add, nI_clamp (by omega)]
    have c2 : (nI bs + nI sr).toNatClampNeg = bs + sr := by rw [nI_add, nI_clamp (by omega)]
    refine pk_le 8 i (fun h => And.intro (pk_in (bs + sr) 16 (by omega) (nI_add bs sr)) (nm_e (Exists.intro 9 ?_))) (fun h => And.intro (pk_in (bs + i) 16 (by omega) (nI_add bs i)) (nm_e (nm_r (nI_1 i) ?_)))
    · rw [c2]
      have hd : ∀ v, v < 8 → v ≠ sr → upd ds (bs + sr) 0 (bs + v) = -1 := fun v hv hne => by rw [pk_un (by omega)]; exact hI v (by omega)
      have hsr0 : (upd ds (bs + sr) 0 (bs + sr)).toInt = 0 := by rw [pk_us, zi_0]
      refine xw_sp52 (ds0 := a_dist) (lk0 := a_link) hfw hb hsr hok hfe hp hQ hnr hU hU0 hU1 K 9 0 0 (fun _ => 0) _ _ (by omega) (by omega) ?_ (fun k hk => ⟨by rw [pk_un (by omega)]; exact hout k hk, rfl⟩)
      refine ⟨fun v => ?_, fun i hi => by omega, fun i j hi => by omega, fun v hv => ?_, fun v hv hb => ?_, hsr0, ⟨fun _ v hv hge => ?_, fun z => by omega⟩, fun u v _ _ hb => ?_, fun e _ _ hb => ?_, fun v hv hge => ?_, fun j hj => by omega, fun v hv _ hge => ?_, fun v hv hge => ?_⟩
      · rw [b_0]; exact ⟨fun z => (by cases z), fun ⟨i, hi, _⟩ => by omega⟩
      · by_cases e1 : v = sr
        · rw [e1, hsr0]; omega
        · rw [hd v hv e1, zi_m1]; exact Int.le_refl _
      · rw [b_0] at hb; cases hb
      · by_cases e1 : v = sr
        · exact e1
        · rw [hd v hv e1, zi_m1] at hge; omega
      · rw [b_0] at hb; cases hb
      · rw [b_0] at hb; cases hb
      · by_cases e1 : v = sr
        · exact Or.inl e1
        · rw [hd v hv e1, zi_m1] at hge; omega
      · by_cases e1 : v = sr
        · rw [e1, hsr0, hQs]; omega
        · rw [hd v hv e1, zi_m1] at hge; omega
      · by_cases e1 : v = sr
        · rw [e1, hsr0, hQs]; omega
        · rw [hd v hv e1, zi_m1] at hge; omega
    · rw [c1]
      refine ih (i + 1) _ (by omega) (by omega) (fun v hv => ?_) (fun k hk => ?_)
      · by_cases e1 : v = i
        · rw [e1, pk_us]
        · rw [pk_un (by omega)]; exact hI v (by omega)
      · rw [pk_un (by omega)]; exact hout k hk
theorem xw_spreadF {post : SX → Prop} {sr : Nat} {U : Int} (hsr : sr < 8)
    (hok : ie_Ok f_activeEdges a_edgeFrom a_edgeTo a_edgeWeight) (hfe : ie_Fe f_activeEdges a_edgeFrom a_edgeTo a_edgeWeight a_potential)
    (hp : ∀ v, v < 8 → -400000000 ≤ (a_potential v).toInt ∧ (a_potential v).toInt ≤ 0)
    (hU : ∀ e, e < 11 → bt f_activeEdges e = true → (a_edgeTo e).toNatClampNeg ≠ sr → (a_edgeWeight e).toInt ≤ U) (hU0 : 0 ≤ U) (hU1 : U ≤ 708)
    (K : ∀ ds lk, sp_F f_activeEdges a_edgeFrom a_edgeTo a_edgeWeight a_potential a_edgeFrom a_edgeTo (fun v => (a_potential sr).toInt - (a_potential v).toInt) 0 sr U ds lk → (∀ k, 8 ≤ k → ds k = a_dist k ∧ lk k = a_link k) → post (f_goalEdge, f_goalRest, f_atomBits, f_decided, f_maxVariables, f_maxAtoms, f_maxClauses, f_maxDepth, f_atomCount, f_clauseCount, f_depthNow, f_assumedTrue, f_assumedFalse, f_status, f_presentTrue, f_coreKnown, f_coreClauses, f_coreAtoms, f_witnessClauses, f_witnessAtoms, f_learnedCount, f_learnedNext, f_activeRests, f_trueMask, f_falseMask, f_trailSize, f_theoryHead, f_level, f_conflictAtoms, f_conflictRests, f_failedAtoms, f_failedRests, f_activeEdges, f_goalOn, a_kinds, a_lefts, a_rights, a_bounds, a_atomDepths, a_literals, a_literalCounts, a_clausePos, a_clauseNeg, a_clauseDepths, a_values, a_learnedPos, a_learnedNeg, a_learnedRests, a_trail, a_levelStart, a_levelAtoms, a_reasonAtoms, a_reasonRests, a_edgeFrom, a_edgeTo, a_edgeWeight, a_potential, a_moved, a_gamma, a_via, ds, lk)) :
    wpX_spread post (f_goalEdge, f_goalRest, f_atomBits, f_decided, f_maxVariables, f_maxAtoms, f_maxClauses, f_maxDepth, f_atomCount, f_clauseCount, f_depthNow, f_assumedTrue, f_assumedFalse, f_status, f_presentTrue, f_coreKnown, f_coreClauses, f_coreAtoms, f_witnessClauses, f_witnessAtoms, f_learnedCount, f_learnedNext, f_activeRests, f_trueMask, f_falseMask, f_trailSize, f_theoryHead, f_level, f_conflictAtoms, f_conflictRests, f_failedAtoms, f_failedRests, f_activeEdges, f_goalOn, a_kinds, a_lefts, a_rights, a_bounds, a_atomDepths, a_literals, a_literalCounts, a_clausePos, a_clauseNeg, a_clauseDepths, a_values, a_learnedPos, a_learnedNeg, a_learnedRests, a_trail, a_levelStart, a_levelAtoms, a_reasonAtoms, a_reasonRests, a_edgeFrom, a_edgeTo, a_edgeWeight, a_potential, a_moved, a_gamma, a_via, a_dist, a_link) (nI sr) 1 := by
  refine br_f (by decide) (Exists.intro 9 ?_)
  refine xw_sp14 (nr := a_edgeFrom) (fr := a_edgeTo) (Q := fun v => (a_potential sr).toInt - (a_potential v).toInt) (U := U) (bs := 0) (Or.inr ⟨by decide, rfl, rfl⟩) (by omega) hsr hok hfe hp (fun v hv => ?_) (by omega) (fun e he ha => ?_) hU hU0 hU1 (fun ds lk h1 h2 => K ds lk h1 (fun k hk => h2 k (Or.inr (by omega)))) 9 0 a_dist (by omega) (by omega) (fun v hv => by omega) (fun k hk => rfl)
  · have := hp v hv
    have := hp sr hsr
    show (a_potential sr).toInt - (a_potential v).toInt ≤ 400000000
    omega
  · obtain ⟨o1, o2, o3, o4⟩ := hok e he ha
    have h1 := hfe e he ha
    refine ⟨(zi_in o1).1, (zi_in o2).1, ?_, ?_, o3⟩
    · unfold sp_sl; omega
    · show sp_sl a_edgeFrom a_edgeTo a_edgeWeight a_potential e = (a_edgeWeight e).toInt + ((a_potential sr).toInt - (a_potential (a_edgeTo e).toNatClampNeg).toInt) - ((a_potential sr).toInt - (a_potential (a_edgeFrom e).toNatClampNeg).toInt)
      unfold sp_sl; omega
theorem xw_spreadB {post : SX → Prop} {sr : Nat} {U : Int} (hsr : sr < 8)
    (hok : ie_Ok f_activeEdges a_edgeFrom a_edgeTo a_edgeWeight) (hfe : ie_Fe f_activeEdges a_edgeFrom a_edgeTo a_edgeWeight a_potential)
    (hp : ∀ v, v < 8 → -400000000 ≤ (a_potential v).toInt ∧ (a_potential v).toInt ≤ 0)
    (hU : ∀ e, e < 11 → bt f_activeEdges e = true → (a_edgeFrom e).toNatClampNeg ≠ sr → (a_edgeWeight e).toInt ≤ U) (hU0 : 0 ≤ U) (hU1 : U ≤ 708)
    (K : ∀ ds lk, sp_F f_activeEdges a_edgeFrom a_edgeTo a_edgeWeight a_potential a_edgeTo a_edgeFrom (fun v => (a_potential v).toInt - (a_potential sr).toInt) 8 sr U ds lk → (∀ k, k < 8 → ds k = a_dist k ∧ lk k = a_link k) → post (f_goalEdge, f_goalRest, f_atomBits, f_decided, f_maxVariables, f_maxAtoms, f_maxClauses, f_maxDepth, f_atomCount, f_clauseCount, f_depthNow, f_assumedTrue, f_assumedFalse, f_status, f_presentTrue, f_coreKnown, f_coreClauses, f_coreAtoms, f_witnessClauses, f_witnessAtoms, f_learnedCount, f_learnedNext, f_activeRests, f_trueMask, f_falseMask, f_trailSize, f_theoryHead, f_level, f_conflictAtoms, f_conflictRests, f_failedAtoms, f_failedRests, f_activeEdges, f_goalOn, a_kinds, a_lefts, a_rights, a_bounds, a_atomDepths, a_literals, a_literalCounts, a_clausePos, a_clauseNeg, a_clauseDepths, a_values, a_learnedPos, a_learnedNeg, a_learnedRests, a_trail, a_levelStart, a_levelAtoms, a_reasonAtoms, a_reasonRests, a_edgeFrom, a_edgeTo, a_edgeWeight, a_potential, a_moved, a_gamma, a_via, ds, lk)) :
    wpX_spread post (f_goalEdge, f_goalRest, f_atomBits, f_decided, f_maxVariables, f_maxAtoms, f_maxClauses, f_maxDepth, f_atomCount, f_clauseCount, f_depthNow, f_assumedTrue, f_assumedFalse, f_status, f_presentTrue, f_coreKnown, f_coreClauses, f_coreAtoms, f_witnessClauses, f_witnessAtoms, f_learnedCount, f_learnedNext, f_activeRests, f_trueMask, f_falseMask, f_trailSize, f_theoryHead, f_level, f_conflictAtoms, f_conflictRests, f_failedAtoms, f_failedRests, f_activeEdges, f_goalOn, a_kinds, a_lefts, a_rights, a_bounds, a_atomDepths, a_literals, a_literalCounts, a_clausePos, a_clauseNeg, a_clauseDepths, a_values, a_learnedPos, a_learnedNeg, a_learnedRests, a_trail, a_levelStart, a_levelAtoms, a_reasonAtoms, a_reasonRests, a_edgeFrom, a_edgeTo, a_edgeWeight, a_potential, a_moved, a_gamma, a_via, a_dist, a_link) (nI sr) 0 := by
  refine br_t rfl (Exists.intro 9 ?_)
  refine xw_sp14 (nr := a_edgeTo) (fr := a_edgeFrom) (Q := fun v => (a_potential v).toInt - (a_potential sr).toInt) (U := U) (bs := 8) (Or.inl ⟨rfl, rfl, rfl⟩) (by omega) hsr hok hfe hp (fun v hv => ?_) (by omega) (fun e he ha => ?_) hU hU0 hU1 (fun ds lk h1 h2 => K ds lk h1 (fun k hk => h2 k (Or.inl (by omega)))) 9 0 a_dist (by omega) (by omega) (fun v hv => by omega) (fun k hk => rfl)
  · have := hp v hv
    have := hp sr hsr
    show (a_potential v).toInt - (a_potential sr).toInt ≤ 400000000
    omega
  · obtain ⟨o1, o2, o3, o4⟩ := hok e he ha
    have h1 := hfe e he ha
    refine ⟨(zi_in o2).1, (zi_in o1).1, ?_, ?_, o3⟩
    · unfold sp_sl; omega
    · show sp_sl a_edgeFrom a_edgeTo a_edgeWeight a_potential e = (a_edgeWeight e).toInt + ((a_potential (a_edgeFrom e).toNatClampNeg).toInt - (a_potential sr).toInt) - ((a_potential (a_edgeTo e).toNatClampNeg).toInt - (a_potential sr).toInt)
      unfold sp_sl; omega
end
end
section
section
variable {f_goalEdge f_goalRest f_atomBits f_decided f_maxVariables f_maxAtoms f_maxClauses f_maxDepth f_atomCount f_clauseCount f_depthNow f_assumedTrue f_assumedFalse f_status f_presentTrue f_coreKnown f_coreClauses f_coreAtoms f_witnessClauses f_witnessAtoms f_learnedCount f_learnedNext f_activeRests f_trueMask f_falseMask f_trailSize f_theoryHead f_level f_conflictAtoms f_conflictRests f_failedAtoms f_failedRests f_activeEdges f_goalOn : Int32} {a_kinds a_lefts a_rights a_bounds a_atomDepths a_literals a_literalCounts a_clausePos a_clauseNeg a_clauseDepths a_values a_learnedPos a_learnedNeg a_learnedRests a_trail a_levelStart a_levelAtoms a_reasonAtoms a_reasonRests a_edgeFrom a_edgeTo a_edgeWeight a_potential a_moved a_gamma a_via a_dist a_link : Nat → Int32}
theorem xw_path {post : Int32 → Prop} {bs sr v0 : Nat} {nr fr : Nat → Int32} {Q : Nat → Int} {U : Int}
    (hdir : (bs = 0 ∧ nr = a_edgeFrom) ∨ (bs = 8 ∧ nr = a_edgeTo)) (hok : ∀ e, e < 11 → bt f_activeEdges e = true → vp_in (nr e) 8)
    (hq : ∀ e, e < 11 → bt f_activeEdges e = true → sp_sl a_edgeFrom a_edgeTo a_edgeWeight a_potential e = (a_edgeWeight e).toInt + Q (fr e).toNatClampNeg - Q (nr e).toNatClampNeg) (hQs : Q sr = 0)
    (h : sp_F f_activeEdges a_edgeFrom a_edgeTo a_edgeWeight a_potential nr fr Q bs sr U a_dist a_link) (hsr : sr < 8) (hv0 : v0 < 8) (hre : 0 ≤ (a_dist (bs + v0)).toInt)
    (K : ∀ es, (∀ q, bt es q = true → q < 11 ∧ bt f_activeEdges q = true) → (∀ g : Nat → Int, (∀ q, bt es q = true → g (fr q).toNatClampNeg ≤ g (nr q).toNatClampNeg + (a_edgeWeight q).toInt) → g v0 ≤ g sr + ((a_dist (bs + v0)).toInt - Q v0)) → post es) :
    wpX_pathEdges post (f_goalEdge, f_goalRest, f_atomBits, f_decided, f_maxVariables, f_maxAtoms, f_maxClauses, f_maxDepth, f_atomCount, f_clauseCount, f_depthNow, f_assumedTrue, f_assumedFalse, f_status, f_presentTrue, f_coreKnown, f_coreClauses, f_coreAtoms, f_witnessClauses, f_witnessAtoms, f_learnedCount, f_learnedNext, f_activeRests, f_trueMask, f_falseMask, f_trailSize, f_theoryHead, f_level, f_conflictAtoms, f_conflictRests, f_failedAtoms, f_failedRests, f_activeEdges, f_goalOn, a_kinds, a_lefts, a_rights, a_bounds, a_atomDepths, a_literals, a_literalCounts, a_clausePos, a_clauseNeg, a_clauseDepths, a_values, a_learnedPos, a_learnedNeg, a_learnedRests, a_trail, a_levelStart, a_levelAtoms, a_reasonAtoms, a_reasonRests, a_edgeFrom, a_edgeTo, a_edgeWeight, a_potential, a_moved, a_gamma, a_via, a_dist, a_link) (nI bs) (nI sr) (nI v0) := by
  obtain ⟨st, r, ord, hr, ⟨i1, i2, i3, i4, i5, i6, i7, i8, i9, i10, i11, i12, i13⟩, hall⟩ := h
  have hbs : bs ≤ 8 := by omega
  have key : ∀ n step v k es, step ≤ 8 → 8 < n + step → step + k ≤ 8 → v < 8 → 0 ≤ (a_dist (bs + v)).toInt → (v = sr ∨ ∃ e i, e < 11 ∧ bt f_activeEdges e = true ∧ i < r ∧ a_link (bs + v) = nI e ∧ (fr e).toNatClampNeg = v ∧ (nr e).toNatClampNeg = ord i ∧ (a_dist (bs + v)).toInt = (a_dist (bs + ord i)).toInt + sp_sl a_edgeFrom a_edgeTo a_edgeWeight a_potential e ∧ i < k) →
      (∀ q, bt es q = true → q < 11 ∧ bt f_activeEdges q = true) →
      (∀ g : Nat → Int, (∀ q, bt es q = true → g (fr q).toNatClampNeg ≤ g (nr q).toNatClampNeg + (a_edgeWeight q).toInt) → g v0 ≤ g v + ((a_dist (bs + v0)).toInt - Q v0) - ((a_dist (bs + v)).toInt - Q v)) →
      wX_pathEdges_9 post (nI bs) (nI sr) f_goalEdge f_goalRest f_atomBits f_decided f_maxVariables f_maxAtoms f_maxClauses f_maxDepth f_atomCount f_clauseCount f_depthNow f_assumedTrue f_assumedFalse f_status f_presentTrue f_coreKnown f_coreClauses f_coreAtoms f_witnessClauses f_witnessAtoms f_learnedCount f_learnedNext f_activeRests f_trueMask f_falseMask f_trailSize f_theoryHead f_level f_conflictAtoms f_conflictRests f_failedAtoms f_failedRests f_activeEdges f_goalOn a_kinds a_lefts a_rights a_bounds a_atomDepths a_literals a_literalCounts a_clausePos a_clauseNeg a_clauseDepths a_values a_learnedPos a_learnedNeg a_learnedRests a_trail a_levelStart a_levelAtoms a_reasonAtoms a_reasonRests a_edgeFrom a_edgeTo a_edgeWeight a_potential a_moved a_gamma a_via a_dist a_link n es (nI v) (nI step) := by
    intro n
    induction n with
    | zero => intro step _ _ _ h1 h2; omega
    | succ n ih =>
      intro step v k es hst hn hk hv hrv htree h1 h3
      have fin : v = sr → post es := by
        intro z
        subst z
        refine K es h1 (fun g hg => ?_)
        have h5 := h3 g hg
        omega
      refine pk_le 8 step (fun h => ?_) (fun h => ?_)
      · rcases htree with z | ⟨_, i, _, _, _, _, _, _, _, z⟩
        · exact fin z
        · omega
      · refine br_c (fun h4 => fin ((nI_eq (by omega) (by omega)).mp h4)) (fun h4 => And.intro (pk_in (bs + v) 16 (by omega) (nI_add bs v)) ?_)
        have c : (nI bs + nI v).toNatClampNeg = bs + v := by rw [nI_add, nI_clamp (by omega)]
        rw [c]
        rcases htree with z | ⟨e, i, a1, a2, a3, a4, a5, a6, a7, a8⟩
        · exact (h4 (by rw [z])).elim
        · have ce : (nI e).toNatClampNeg = e := nI_clamp (by omega)
          obtain ⟨p1, p2, p3⟩ := zi_in (hok e a1 a2)
          have hb : ∀ q, bt (es ||| (1 : Int32) <<< (nI e &&& 31)) q = (bt es q || decide (q = e)) := fun q => by rw [b_or, zb_bit (by omega)]
          have hsi : bt st (ord i) = true := (i1 _).mpr ⟨i, a3, rfl⟩
          have hri := i5 (ord i) (i2 i a3) hsi
          have goon : wX_pathEdges_9 post (nI bs) (nI sr) f_goalEdge f_goalRest f_atomBits f_decided f_maxVariables f_maxAtoms f_maxClauses f_maxDepth f_atomCount f_clauseCount f_depthNow f_assumedTrue f_assumedFalse f_status f_presentTrue f_coreKnown f_coreClauses f_coreAtoms f_witnessClauses f_witnessAtoms f_learnedCount f_learnedNext f_activeRests f_trueMask f_falseMask f_trailSize f_theoryHead f_level f_conflictAtoms f_conflictRests f_failedAtoms f_failedRests f_activeEdges f_goalOn a_kinds a_lefts a_rights a_bounds a_atomDepths a_literals a_literalCounts a_clausePos a_clauseNeg a_clauseDepths a_values a_learnedPos a_learnedNeg a_learnedRests a_trail a_levelStart a_levelAtoms a_reasonAtoms a_reasonRests a_edgeFrom a_edgeTo a_edgeWeight a_potential a_moved a_gamma a_via a_dist a_link n (es ||| (1 : Int32) <<< (nI e &&& 31)) (nI (ord i)) (nI (step + 1)) := by
            refine ih (step + 1) (ord i) i _ (by omega) (by omega) (by omega) (i2 i a3) hri ?_ (fun q hq' => ?_) (fun g hg => ?_)
            · rcases i10 (ord i) (i2 i a3) hri with z | ⟨e2, i', b1, b2, b3, b4, b5, b6, b7, b8⟩
              · exact Or.inl z
              · exact Or.inr ⟨e2, i', b1, b2, b3, b4, b5, b6, b7, b8 i a3 rfl⟩
            · rw [hb, Bool.or_eq_true, decide_eq_true_eq] at hq'
              rcases hq' with z | z
              · exact h1 q z
              · rw [z]; exact ⟨a1, a2⟩
            · have h5 := h3 g (fun q hq' => hg q (by rw [hb, hq']; rfl))
              have h6 := hg e (by rw [hb, decide_eq_true rfl, Bool.or_true])
              have h7 := hq e a1 a2
              rw [a5, a6] at h6 h7
              omega
          rw [a4]
          refine nm_e (nm_e ?_)
          rcases hdir with ⟨e1, e2⟩ | ⟨e1, e2⟩
          · refine br_t (by rw [e1]; rfl) (And.intro (pk_in e 11 a1) (nm_r (e' := nI (ord i)) ?_ (nm_r (nI_1 step) goon)))
            rw [ce, ← e2, p2, a6]
          · refine br_f (by rw [e1]; decide) (And.intro (pk_in e 11 a1) (nm_r (e' := nI (ord i)) ?_ (nm_r (nI_1 step) goon)))
            rw [ce, ← e2, p2, a6]
  refine Exists.intro 9 ?_
  obtain ⟨j, hj, ej⟩ := (i1 v0).mp (hall v0 hv0 hre)
  refine key 9 0 v0 j 0 (by omega) (by omega) (by omega) hv0 hre ?_ (fun q hq' => ?_) (fun g _ => by omega)
  · rcases i10 v0 hv0 hre with z | ⟨e2, i', b1, b2, b3, b4, b5, b6, b7, b8⟩
    · exact Or.inl z
    · exact Or.inr ⟨e2, i', b1, b2, b3, b4, b5, b6, b7, b8 j hj ej⟩
  · rw [b_0] at hq'; cases hq'
theorem xw_entails {post : Int32 → Prop} {e a b : Nat} {w : Int32} (he : e < 11) (hef : vp_in (a_edgeFrom e) 8) (het : vp_in (a_edgeTo e) 8) (hw : -708 ≤ (a_edgeWeight e).toInt ∧ (a_edgeWeight e).toInt ≤ 708) (ha : a < 8) (hb : b < 8)
    (hp : ∀ v, v < 8 → -400000000 ≤ (a_potential v).toInt ∧ (a_potential v).toInt ≤ 0) (hw' : -708 ≤ w.toInt ∧ w.toInt ≤ 708)
    (hd1 : (a_dist (8 + a)).toInt ≤ 500000000) (hd2 : (a_dist b).toInt ≤ 500000000)
    (K1 : 0 ≤ (a_dist (8 + a)).toInt → 0 ≤ (a_dist b).toInt → (a_dist (8 + a)).toInt + (a_dist b).toInt + sp_sl a_edgeFrom a_edgeTo a_edgeWeight a_potential e ≤ (a_potential a).toInt + w.toInt - (a_potential b).toInt → post 1) (K0 : post 0) :
    wpX_entails post (f_goalEdge, f_goalRest, f_atomBits, f_decided, f_maxVariables, f_maxAtoms, f_maxClauses, f_maxDepth, f_atomCount, f_clauseCount, f_depthNow, f_assumedTrue, f_assumedFalse, f_status, f_presentTrue, f_coreKnown, f_coreClauses, f_coreAtoms, f_witnessClauses, f_witnessAtoms, f_learnedCount, f_learnedNext, f_activeRests, f_trueMask, f_falseMask, f_trailSize, f_theoryHead, f_level, f_conflictAtoms, f_conflictRests, f_failedAtoms, f_failedRests, f_activeEdges, f_goalOn, a_kinds, a_lefts, a_rights, a_bounds, a_atomDepths, a_literals, a_literalCounts, a_clausePos, a_clauseNeg, a_clauseDepths, a_values, a_learnedPos, a_learnedNeg, a_learnedRests, a_trail, a_levelStart, a_levelAtoms, a_reasonAtoms, a_reasonRests, a_edgeFrom, a_edgeTo, a_edgeWeight, a_potential, a_moved, a_gamma, a_via, a_dist, a_link) (nI e) (nI a) (nI b) w := by
  have c1 : (8 + nI a).toNatClampNeg = 8 + a := by
    have : (8 : Int32) + nI a = nI (8 + a) := nI_add 8 a
    rw [this, nI_clamp (by omega)]
  have i1 : vp_in (8 + nI a) 16 := pk_in (8 + a) 16 (by omega) (nI_add 8 a)
  have c2 : (nI b).toNatClampNeg = b := nI_clamp (by omega)
  have c3 : (nI a).toNatClampNeg = a := nI_clamp (by omega)
  have i2 : vp_in (nI b) 16 := pk_in b 16 (by omega)
  have hPF := hp _ (zi_in hef).1
  have hPT := hp _ (zi_in het).1
  have hPa := hp a ha
  have hPb := hp b hb
  refine And.intro i1 ?_
  rw [c1]
  refine br_c (fun _ => K0) (fun h1 => And.intro i2 ?_)
  rw [zi_lt, zi_0] at h1
  rw [c2]
  refine br_c (fun h2 => And.intro i1 (And.intro i2 (xw_slack he hef het ?_))) (fun _ => K0)
  rw [zi_le, zi_0] at h2
  have e1 : (a_potential (a_edgeFrom e).toNatClampNeg + a_edgeWeight e).toInt = (a_potential (a_edgeFrom e).toNatClampNeg).toInt + (a_edgeWeight e).toInt := zi_add (by omega) (by omega)
  have e2 : (a_potential (a_edgeFrom e).toNatClampNeg + a_edgeWeight e - a_potential (a_edgeTo e).toNatClampNeg).toInt = sp_sl a_edgeFrom a_edgeTo a_edgeWeight a_potential e := by
    unfold sp_sl
    rw [zi_sub (by rw [e1]; omega) (by rw [e1]; omega), e1]
  have e3 : sp_sl a_edgeFrom a_edgeTo a_edgeWeight a_potential e ≤ 400000708 ∧ -400000708 ≤ sp_sl a_edgeFrom a_edgeTo a_edgeWeight a_potential e := by unfold sp_sl; omega
  have e4 : (a_dist (8 + a) + a_dist b).toInt = (a_dist (8 + a)).toInt + (a_dist b).toInt := zi_add (by omega) (by omega)
  have e5 : (a_dist (8 + a) + a_dist b + (a_potential (a_edgeFrom e).toNatClampNeg + a_edgeWeight e - a_potential (a_edgeTo e).toNatClampNeg)).toInt = (a_dist (8 + a)).toInt + (a_dist b).toInt + sp_sl a_edgeFrom a_edgeTo a_edgeWeight a_potential e := by
    rw [zi_add (by rw [e4, e2]; omega) (by rw [e4, e2]; omega), e4, e2]
  have e6 : (a_potential a + w).toInt = (a_potential a).toInt + w.toInt := zi_add (by omega) (by omega)
  have e7 : (a_potential a + w - a_potential b).toInt = (a_potential a).toInt + w.toInt - (a_potential b).toInt := by
    rw [zi_sub (by rw [e6]; omega) (by rw [e6]; omega), e6]
  refine nm_e (And.intro (pk_in a 8 ha) (And.intro (pk_in b 8 hb) ?_))
  rw [c3]
  refine br_c (fun _ => K0) (fun h3 => K1 (by omega) h2 ?_)
  rw [zi_lt, e5, e7] at h3
  omega
end
end
section
/-! the graph of the trail -/
def cd_GO (G : (Nat → Int) → Prop) (g : Bool) (ef et ew : Nat → Int32) : Prop :=
  g = true → vp_in (ef 10) 8 ∧ vp_in (et 10) 8 ∧ (ef 10).toNatClampNeg ≠ (et 10).toNatClampNeg ∧ -708 ≤ (ew 10).toInt ∧ (ew 10).toInt ≤ 708 ∧ ∀ s, G s ↔ s (et 10).toNatClampNeg ≤ s (ef 10).toNatClampNeg + (ew 10).toInt
/-- the edge of an assigned difference atom -/
def cd_EM (lf rt bd : Nat → Int32) (v : Bool) (ef et ew : Nat → Int32) (k : Nat) : Prop :=
  (v = true → ef k = rt k ∧ et k = lf k ∧ ew k = bd k) ∧ (v = false → ef k = lf k ∧ et k = rt k ∧ ew k = -(bd k) - 1)
def cd_GI (G : (Nat → Int) → Prop) (n : Nat) (kd lf rt bd : Nat → Int32) (g : Bool) (s ts th : Nat) (tm ae : Int32) (tr ef et ew pt : Nat → Int32) : Prop :=
  th ≤ ts ∧ cd_GO G g ef et ew ∧
  (∀ i k, i < ts → k < n → tr i = nI k → kd k = 1 → cd_EM lf rt bd (bt tm k) ef et ew k) ∧
  (∀ e, bt ae e = true ↔ (e < n ∧ kd e = 1 ∧ ∃ i, i < th ∧ tr i = nI e) ∨ (e = 10 ∧ g = true)) ∧
  ie_Fe ae ef et ew pt ∧
  (∀ v, v < 8 → -(8000 * (11 * (s : Int) + (th : Int) + 1)) ≤ (pt v).toInt ∧ (pt v).toInt ≤ 0)
def cd_ST (M : Int32 → (Nat → Bool) → Prop) (G : (Nat → Int) → Prop) (n : Nat) (kd lf rt bd : Nat → Int32) (mt mf ar : Int32) (g : Bool) (s ts th L : Nat) (tm fm ae : Int32) (tr ls la ra rr ef et ew pt : Nat → Int32) (lv : Nat → Nat) : Prop :=
  cd_SI M n mt mf ar s ts L tm fm tr ls la ra rr lv ∧ cd_GI G n kd lf rt bd g s ts th tm ae tr ef et ew pt ∧ (∀ i, i < ts → lv i < L → i < th)
def cd_EX (ts : Nat) (tm fm : Int32) (ts' : Nat) (tm' fm' : Int32) : Prop := ts ≤ ts' ∧ (ts' = ts → tm' = tm ∧ fm' = fm)
theorem cd_EX_rf {ts : Nat} {tm fm : Int32} : cd_EX ts tm fm ts tm fm := ⟨Nat.le_refl _, fun _ => ⟨rfl, rfl⟩⟩
theorem cd_EX_tr {ts ts' ts'' : Nat} {tm fm tm' fm' tm'' fm'' : Int32} (h : cd_EX ts tm fm ts' tm' fm') (h' : cd_EX ts' tm' fm' ts'' tm'' fm'') : cd_EX ts tm fm ts'' tm'' fm'' := by
  obtain ⟨h1, h2⟩ := h
  obtain ⟨h3, h4⟩ := h'
  refine ⟨by omega, fun z => ?_⟩
  obtain ⟨a, b⟩ := h4 (by omega)
  obtain ⟨c, d⟩ := h2 (by omega)
  exact ⟨a.trans c, b.trans d⟩
theorem cd_EM_ok {V : Nat} {n : Nat} {kd lf rt bd ef et ew : Nat → Int32} {v : Bool} {k : Nat} (hAt : ds_At V n kd lf rt bd) (hV : V ≤ 8) (hk : k < n) (h1 : kd k = 1) (h : cd_EM lf rt bd v ef et ew k) :
    vp_in (ef k) 8 ∧ vp_in (et k) 8 ∧ (ef k).toNatClampNeg ≠ (et k).toNatClampNeg ∧ -101 ≤ (ew k).toInt ∧ (ew k).toInt ≤ 100 ∧
    (ew k).toInt = (if v = true then (bd k).toInt else -(bd k).toInt - 1) := by
  obtain ⟨⟨x, hx, ex⟩, ⟨y, hy, ey⟩, hne, b1, b2⟩ := (hAt k hk).2 h1
  have hxy : x ≠ y := fun z => hne (by rw [ex, ey, z])
  have vx : vp_in (lf k) 8 := by rw [ex]; exact vp_in_nI (by omega) (by omega)
  have vy : vp_in (rt k) 8 := by rw [ey]; exact vp_in_nI (by omega) (by omega)
  have cx : (lf k).toNatClampNeg = x := by rw [ex]; exact nI_clamp (by omega)
  have cy : (rt k).toNatClampNeg = y := by rw [ey]; exact nI_clamp (by omega)
  cases v
  · obtain ⟨e1, e2, e3⟩ := h.2 rfl
    have e4 : (-(bd k)).toInt = -(bd k).toInt := zi_neg (by omega)
    have e5 : (1 : Int32).toInt = 1 := by decide
    have e6 : (-(bd k) - 1).toInt = -(bd k).toInt - 1 := by rw [zi_sub (by rw [e4, e5]; omega) (by rw [e4, e5]; omega), e4, e5]
    rw [e1, e2, e3, e6, cx, cy]
    exact ⟨vx, vy, hxy, by omega, by omega, by simp⟩
  · obtain ⟨e1, e2, e3⟩ := h.1 rfl
    rw [e1, e2, e3, cx, cy]
    exact ⟨vy, vx, fun z => hxy z.symm, by omega, by omega, by simp⟩
/-- the edge of an atom speaks of every solution that takes the atom so -/
theorem cd_EM_sol {V : Nat} {n : Nat} {kd lf rt bd ef et ew : Nat → Int32} {τ : Nat → Bool} {k : Nat} (hAt : ds_At V n kd lf rt bd) (hV : V ≤ 8) (hk : k < n) (h1 : kd k = 1) (h : cd_EM lf rt bd (τ k) ef et ew k) {s : Nat → Int} (hs : gs_Sol (ds_E n kd lf rt bd τ) s) :
    s (et k).toNatClampNeg ≤ s (ef k).toNatClampNeg + (ew k).toInt := by
  have hw := (cd_EM_ok hAt hV hk h1 h).2.2.2.2.2
  cases hv : τ k
  · rw [hv] at h hw
    obtain ⟨e1, e2, e3⟩ := h.2 rfl
    simp only [Bool.false_eq_true, if_false] at hw
    rw [e1, e2, hw]
    exact hs _ _ _ ⟨k, hk, h1, Or.inr ⟨hv, rfl, rfl, rfl⟩⟩
  · rw [hv] at h hw
    obtain ⟨e1, e2, e3⟩ := h.1 rfl
    simp only [if_true] at hw
    rw [e1, e2, hw]
    exact hs _ _ _ ⟨k, hk, h1, Or.inl ⟨hv, rfl, rfl, rfl⟩⟩
theorem gi_ok {V : Nat} {G : (Nat → Int) → Prop} {n : Nat} {kd lf rt bd : Nat → Int32} {g : Bool} {s ts th : Nat} {tm ae : Int32} {tr ef et ew pt : Nat → Int32}
    (h : cd_GI G n kd lf rt bd g s ts th tm ae tr ef et ew pt) (hAt : ds_At V n kd lf rt bd) (hV : V ≤ 8) : ie_Ok ae ef et ew := by
  obtain ⟨h1, h2, h3, h4, _⟩ := h
  intro e he ha
  rcases (h4 e).mp ha with ⟨a, b, i, hi, c⟩ | ⟨rfl, b⟩
  · obtain ⟨o1, o2, _, o3, o4, _⟩ := cd_EM_ok hAt hV a b (h3 i e (by omega) a c b)
    exact ⟨o1, o2, by omega, by omega⟩
  · obtain ⟨o1, o2, _, o3, o4, _⟩ := h2 b
    exact ⟨o1, o2, o3, o4⟩
/-- a set of edges of the trail, and the models that take its atoms so -/
theorem gi_sat {V : Nat} {G : (Nat → Int) → Prop} {n m : Nat} {kd lf rt bd cp cn : Nat → Int32} {g : Bool} {s ts th : Nat} {tm ae : Int32} {tr ef et ew pt : Nat → Int32} {es R : Int32} {τ : Nat → Bool}
    (h : cd_GI G n kd lf rt bd g s ts th tm ae tr ef et ew pt) (hAt : ds_At V n kd lf rt bd) (hV : V ≤ 8) (hn : n ≤ 10)
    (hes : ∀ q, bt es q = true → (q < n ∧ kd q = 1 ∧ ∃ i, i < ts ∧ tr i = nI q) ∨ (q = 10 ∧ g = true))
    (hM : ds_M n m kd lf rt bd cp cn G R τ) (hR : bt es 10 = true → bt R 24 = true) (hag : ∀ q, bt es q = true → q < 10 → τ q = bt tm q) :
    ∃ σ, gs_Sol (ds_E n kd lf rt bd τ) σ ∧ ∀ q, bt es q = true → σ (et q).toNatClampNeg ≤ σ (ef q).toNatClampNeg + (ew q).toInt := by
  obtain ⟨h1, h2, h3, h4, _⟩ := h
  obtain ⟨σ, m1, m2, m3⟩ := hM
  refine ⟨σ, m1, fun q hq => ?_⟩
  rcases hes q hq with ⟨a, b, i, hi, c⟩ | ⟨rfl, b⟩
  · have h5 := h3 i q hi a c b
    rw [← hag q hq (by omega)] at h5
    exact cd_EM_sol hAt hV a b h5 m1
  · exact ((h2 b).2.2.2.2.2 σ).mp (m3 (hR hq))
theorem gi_ae {G : (Nat → Int) → Prop} {n : Nat} {kd lf rt bd : Nat → Int32} {g : Bool} {s ts th : Nat} {tm ae : Int32} {tr ef et ew pt : Nat → Int32}
    (h : cd_GI G n kd lf rt bd g s ts th tm ae tr ef et ew pt) : ∀ q, bt ae q = true → (q < n ∧ kd q = 1 ∧ ∃ i, i < ts ∧ tr i = nI q) ∨ (q = 10 ∧ g = true) := by
  obtain ⟨h1, h2, h3, h4, _⟩ := h
  intro q hq
  rcases (h4 q).mp hq with ⟨a, b, i, hi, c⟩ | z
  · exact Or.inl ⟨a, b, i, by omega, c⟩
  · exact Or.inr z
/-- a new place at the end -/
theorem gi_add {G : (Nat → Int) → Prop} {n : Nat} {kd lf rt bd : Nat → Int32} {g : Bool} {s ts th k : Nat} {tm fm tm' ae : Int32} {tr ef et ew ef' et' ew' pt : Nat → Int32} {v : Bool}
    (h : cd_GI G n kd lf rt bd g s ts th tm ae tr ef et ew pt) (hTR : cd_TR n tm fm tr ts) (hn : n ≤ 10) (hk : k < n) (ho : bt tm k = false) (ho' : bt fm k = false)
    (ht : ∀ q, bt tm' q = (bt tm q || (v && decide (q = k))))
    (he : ∀ q, q ≠ k → ef' q = ef q ∧ et' q = et q ∧ ew' q = ew q) (hek : kd k = 1 → cd_EM lf rt bd v ef' et' ew' k) :
    cd_GI G n kd lf rt bd g s (ts + 1) th tm' ae (upd tr ts (nI k)) ef' et' ew' pt := by
  obtain ⟨h1, h2, h3, h4, h5, h6⟩ := h
  have hno := cd_TR_not hTR hk ho ho'
  have htm : ∀ q, q ≠ k → bt tm' q = bt tm q := by
    intro q hq
    rw [ht, decide_eq_false hq, Bool.and_false, Bool.or_false]
  have htk : bt tm' k = v := by
    rw [ht, ho, decide_eq_true rfl, Bool.false_or, Bool.and_true]
  have hae : ∀ e, bt ae e = true → e ≠ k := by
    intro e hb z
    rcases (h4 e).mp hb with ⟨a, b, i, hi, c⟩ | ⟨rfl, b⟩
    · rw [z] at c
      exact hno i (by omega) c
    · omega
  refine ⟨by omega, fun hg => ?_, fun i q hi hq e hd => ?_, fun e => ?_, fun e he' hb => ?_, h6⟩
  · obtain ⟨a, b, c⟩ := he 10 (by omega)
    rw [a, b, c]; exact h2 hg
  · by_cases e1 : q = k
    · subst e1
      rw [htk]
      exact hek hd
    · have hits : i ≠ ts := fun z => by
        rw [z, pk_us] at e
        exact e1 (cd_10 (by omega) (by omega) e).symm
      rw [pk_un hits] at e
      obtain ⟨a, b, c⟩ := he q e1
      rw [htm q e1]
      unfold cd_EM
      rw [a, b, c]
      exact h3 i q (by omega) hq e hd
  · rw [h4 e]
    constructor
    · rintro (⟨a, b, i, hi, c⟩ | z)
      · exact Or.inl ⟨a, b, i, hi, by rw [pk_un (by omega)]; exact c⟩
      · exact Or.inr z
    · rintro (⟨a, b, i, hi, c⟩ | z)
      · exact Or.inl ⟨a, b, i, hi, by rw [pk_un (by omega)] at c; exact c⟩
      · exact Or.inr z
  · obtain ⟨a, b, c⟩ := he e (hae e hb)
    rw [a, b, c]
    exact h5 e he' hb
theorem gi_lo {s th : Nat} (h1 : s ≤ 2047) (h2 : th ≤ 10) : -200000000 ≤ -(8000 * (11 * (s : Int) + (th : Int) + 1)) := by omega
/-- an implied atom, all of it -/
theorem st_imply {M : Int32 → (Nat → Bool) → Prop} {G : (Nat → Int) → Prop} {n : Nat} {kd lf rt bd : Nat → Int32} {mt mf ar : Int32} {g : Bool} {s ts th L : Nat} {tm fm ae tm' fm' : Int32} {tr ls la ra rr ef et ew ef' et' ew' pt : Nat → Int32} {lv : Nat → Nat} {k : Nat} {v : Bool} {r w lb : Int32}
    (h : cd_ST M G n kd lf rt bd mt mf ar g s ts th L tm fm ae tr ls la ra rr ef et ew pt lv) (hk : k < n) (ho : bt tm k = false) (ho' : bt fm k = false)
    (ht : ∀ q, bt tm' q = (bt tm q || (v && decide (q = k)))) (hf : ∀ q, bt fm' q = (bt fm q || (!v && decide (q = k))))
    (hl : ∀ q, bt lb q = (bt (la L) q || decide (q = k)))
    (he : ∀ q, q ≠ k → ef' q = ef q ∧ et' q = et q ∧ ew' q = ew q) (hek : kd k = 1 → cd_EM lf rt bd v ef' et' ew' k)
    (hr : r ≠ -1) (hre : ∀ q, bt r q = true → bt tm q = true ∨ bt fm q = true) (hw : ∀ q, bt w q = true → bt ar q = true)
    (hs : ∀ τ, M w τ → (∀ q, bt r q = true → τ q = bt tm q) → τ k = v) :
    cd_ST M G n kd lf rt bd mt mf ar g s (ts + 1) th L tm' fm' ae (upd tr ts (nI k)) ls (upd la L lb) (upd ra k r) (upd rr k w) ef' et' ew' pt (fun i => if i = ts then L else lv i) := by
  obtain ⟨h1, h2, h3⟩ := h
  refine ⟨(cd_imply h1 hk ho ho' ht hf hl hr hre hw hs).1, gi_add h2 h1.2.1 h1.1 hk ho ho' ht he hek, fun i hi hlt => ?_⟩
  dsimp only at hlt
  by_cases e : i = ts
  · rw [if_pos e] at hlt; omega
  · rw [if_neg e] at hlt
    exact h3 i (by omega) hlt
end
section
section
variable {f_goalEdge f_goalRest f_atomBits f_decided f_maxVariables f_maxAtoms f_maxClauses f_maxDepth f_atomCount f_clauseCount f_depthNow f_assumedTrue f_assumedFalse f_status f_presentTrue f_coreKnown f_coreClauses f_coreAtoms f_witnessClauses f_witnessAtoms f_learnedCount f_learnedNext f_activeRests f_trueMask f_falseMask f_trailSize f_theoryHead f_level f_conflictAtoms f_conflictRests f_failedAtoms f_failedRests f_activeEdges f_goalOn : Int32} {a_kinds a_lefts a_rights a_bounds a_atomDepths a_literals a_literalCounts a_clausePos a_clauseNeg a_clauseDepths a_values a_learnedPos a_learnedNeg a_learnedRests a_trail a_levelStart a_levelAtoms a_reasonAtoms a_reasonRests a_edgeFrom a_edgeTo a_edgeWeight a_potential a_moved a_gamma a_via a_dist a_link : Nat → Int32}
theorem xw_assign {post : SX → Prop} {k ts L : Nat} {t r w : Int32} {v : Bool} (hk : k < 10) (hts : ts < 10) (hL : L < 12) (hv : (v = true ∧ ¬ t = 0) ∨ (v = false ∧ t = 0))
    (K : ∀ tm fm lb ef et ew, (∀ q, bt tm q = (bt f_trueMask q || (v && decide (q = k)))) → (∀ q, bt fm q = (bt f_falseMask q || (!v && decide (q = k)))) → (∀ q, bt lb q = (bt (a_levelAtoms L) q || decide (q = k))) →
      (∀ q, q ≠ k → ef q = a_edgeFrom q ∧ et q = a_edgeTo q ∧ ew q = a_edgeWeight q) → (a_kinds k = 1 → cd_EM a_lefts a_rights a_bounds v ef et ew k) →
      post (f_goalEdge, f_goalRest, f_atomBits, f_decided, f_maxVariables, f_maxAtoms, f_maxClauses, f_maxDepth, f_atomCount, f_clauseCount, f_depthNow, f_assumedTrue, f_assumedFalse, f_status, f_presentTrue, f_coreKnown, f_coreClauses, f_coreAtoms, f_witnessClauses, f_witnessAtoms, f_learnedCount, f_learnedNext, f_activeRests, tm, fm, nI (ts + 1), f_theoryHead, nI L, f_conflictAtoms, f_conflictRests, f_failedAtoms, f_failedRests, f_activeEdges, f_goalOn, a_kinds, a_lefts, a_rights, a_bounds, a_atomDepths, a_literals, a_literalCounts, a_clausePos, a_clauseNeg, a_clauseDepths, a_values, a_learnedPos, a_learnedNeg, a_learnedRests, upd a_trail ts (nI k), a_levelStart, upd a_levelAtoms L lb, upd a_reasonAtoms k r, upd a_reasonRests k w, ef, et, ew, a_potential, a_moved, a_gamma, a_via, a_dist, a_link)) :
    wpX_assign post (f_goalEdge, f_goalRest, f_atomBits, f_decided, f_maxVariables, f_maxAtoms, f_maxClauses, f_maxDepth, f_atomCount, f_clauseCount, f_depthNow, f_assumedTrue, f_assumedFalse, f_status, f_presentTrue, f_coreKnown, f_coreClauses, f_coreAtoms, f_witnessClauses, f_witnessAtoms, f_learnedCount, f_learnedNext, f_activeRests, f_trueMask, f_falseMask, nI ts, f_theoryHead, nI L, f_conflictAtoms, f_conflictRests, f_failedAtoms, f_failedRests, f_activeEdges, f_goalOn, a_kinds, a_lefts, a_rights, a_bounds, a_atomDepths, a_literals, a_literalCounts, a_clausePos, a_clauseNeg, a_clauseDepths, a_values, a_learnedPos, a_learnedNeg, a_learnedRests, a_trail, a_levelStart, a_levelAtoms, a_reasonAtoms, a_reasonRests, a_edgeFrom, a_edgeTo, a_edgeWeight, a_potential, a_moved, a_gamma, a_via, a_dist, a_link) (nI k) t r w := by
  have ck : (nI k).toNatClampNeg = k := nI_clamp (by omega)
  have cL : (nI L).toNatClampNeg = L := nI_clamp (by omega)
  have cts : (nI ts).toNatClampNeg = ts := nI_clamp (by omega)
  have ik : vp_in (nI k) 10 := pk_in k 10 hk
  have ik' : vp_in (nI k) 11 := pk_in k 11 (by omega)
  have iL : vp_in (nI L) 12 := pk_in L 12 hL
  have hlb : ∀ q, bt (a_levelAtoms L ||| (1 : Int32) <<< (nI k &&& 31)) q = (bt (a_levelAtoms L) q || decide (q = k)) := fun q => by rw [b_or, zb_bit (by omega)]
  have core : ∀ tm fm, (∀ q, bt tm q = (bt f_trueMask q || (v && decide (q = k)))) → (∀ q, bt fm q = (bt f_falseMask q || (!v && decide (q = k)))) →
      wX_assign_34 post (nI k) t r w ((1 : Int32) <<< (nI k &&& 31)) f_goalEdge f_goalRest f_atomBits f_decided f_maxVariables f_maxAtoms f_maxClauses f_maxDepth f_atomCount f_clauseCount f_depthNow f_assumedTrue f_assumedFalse f_status f_presentTrue f_coreKnown f_coreClauses f_coreAtoms f_witnessClauses f_witnessAtoms f_learnedCount f_learnedNext f_activeRests tm fm (nI ts) f_theoryHead (nI L) f_conflictAtoms f_conflictRests f_failedAtoms f_failedRests f_activeEdges f_goalOn a_kinds a_lefts a_rights a_bounds a_atomDepths a_literals a_literalCounts a_clausePos a_clauseNeg a_clauseDepths a_values a_learnedPos a_learnedNeg a_learnedRests a_trail a_levelStart a_levelAtoms a_reasonAtoms a_reasonRests a_edgeFrom a_edgeTo a_edgeWeight a_potential a_moved a_gamma a_via a_dist a_link := by
    intro tm fm ht hf
    refine And.intro iL (And.intro iL (nm_e (And.intro ik (nm_e (And.intro ik (nm_e (And.intro (pk_in ts 10 hts) (nm_e (nm_r (nI_1 ts) (And.intro ik ?_))))))))))
    rw [ck, cL, cts]
    refine br_c (fun hkd => ?_) (fun hkd => K tm fm _ _ _ _ ht hf hlb (fun q _ => ⟨rfl, rfl, rfl⟩) (fun z => (hkd z).elim))
    rcases hv with ⟨hv, hz⟩ | ⟨hv, hz⟩
    · refine br_f hz (And.intro ik (And.intro ik' (nm_e (br_f hz (And.intro ik (And.intro ik' (nm_e (br_f hz (And.intro ik (And.intro ik' (nm_e ?_)))))))))))
      rw [ck]
      refine K tm fm _ _ _ _ ht hf hlb (fun q hq => ⟨pk_un hq, pk_un hq, pk_un hq⟩) (fun _ => ⟨fun _ => ⟨pk_us, pk_us, pk_us⟩, fun z => ?_⟩)
      rw [hv] at z; cases z
    · refine br_t hz (And.intro ik (And.intro ik' (nm_e (br_t hz (And.intro ik (And.intro ik' (nm_e (br_t hz (And.intro ik (And.intro ik' (nm_e ?_)))))))))))
      rw [ck]
      refine K tm fm _ _ _ _ ht hf hlb (fun q hq => ⟨pk_un hq, pk_un hq, pk_un hq⟩) (fun _ => ⟨fun z => ?_, fun _ => ⟨pk_us, pk_us, pk_us⟩⟩)
      rw [hv] at z; cases z
  refine nm_e (br_c (fun h => nm_e (core _ _ (fun q => ?_) (fun q => ?_))) (fun h => nm_e (core _ _ (fun q => ?_) (fun q => ?_))))
  · rcases hv with ⟨_, hz⟩ | ⟨hv, _⟩
    · exact (hz h).elim
    · rw [hv, Bool.false_and, Bool.or_false]
  · rcases hv with ⟨_, hz⟩ | ⟨hv, _⟩
    · exact (hz h).elim
    · rw [hv, b_or, zb_bit (by omega), Bool.not_false, Bool.true_and]
  · rcases hv with ⟨hv, _⟩ | ⟨_, hz⟩
    · rw [hv, b_or, zb_bit (by omega), Bool.true_and]
    · exact (h hz).elim
  · rcases hv with ⟨hv, _⟩ | ⟨_, hz⟩
    · rw [hv, Bool.not_true, Bool.false_and, Bool.or_false]
    · exact (h hz).elim
theorem xw_asg {post : SX → Prop} {M : Int32 → (Nat → Bool) → Prop} {G : (Nat → Int) → Prop} {n : Nat} {mt mf : Int32} {g : Bool} {s ts th L : Nat} {lv : Nat → Nat} {k : Nat} {t r w : Int32} {v : Bool}
    (h : cd_ST M G n a_kinds a_lefts a_rights a_bounds mt mf f_activeRests g s ts th L f_trueMask f_falseMask f_activeEdges a_trail a_levelStart a_levelAtoms a_reasonAtoms a_reasonRests a_edgeFrom a_edgeTo a_edgeWeight a_potential lv) (hk : k < n) (ho : bt f_trueMask k = false) (ho' : bt f_falseMask k = false) (hv : (v = true ∧ ¬ t = 0) ∨ (v = false ∧ t = 0))
    (hr : r ≠ -1) (hre : ∀ q, bt r q = true → bt f_trueMask q = true ∨ bt f_falseMask q = true) (hw : ∀ q, bt w q = true → bt f_activeRests q = true)
    (hs : ∀ τ, M w τ → (∀ q, bt r q = true → τ q = bt f_trueMask q) → τ k = v)
    (K : ∀ (f_trueMask' f_falseMask' : Int32) (a_trail' a_levelAtoms' a_reasonAtoms' a_reasonRests' a_edgeFrom' a_edgeTo' a_edgeWeight' : Nat → Int32) (lv' : Nat → Nat), cd_ST M G n a_kinds a_lefts a_rights a_bounds mt mf f_activeRests g s (ts + 1) th L f_trueMask' f_falseMask' f_activeEdges a_trail' a_levelStart a_levelAtoms' a_reasonAtoms' a_reasonRests' a_edgeFrom' a_edgeTo' a_edgeWeight' a_potential lv' → (∀ q, q ≠ k → a_edgeFrom' q = a_edgeFrom q ∧ a_edgeTo' q = a_edgeTo q ∧ a_edgeWeight' q = a_edgeWeight q) → post (f_goalEdge, f_goalRest, f_atomBits, f_decided, f_maxVariables, f_maxAtoms, f_maxClauses, f_maxDepth, f_atomCount, f_clauseCount, f_depthNow, f_assumedTrue, f_assumedFalse, f_status, f_presentTrue, f_coreKnown, f_coreClauses, f_coreAtoms, f_witnessClauses, f_witnessAtoms, f_learnedCount, f_learnedNext, f_activeRests, f_trueMask', f_falseMask', nI (ts + 1), f_theoryHead, nI L, f_conflictAtoms, f_conflictRests, f_failedAtoms, f_failedRests, f_activeEdges, f_goalOn, a_kinds, a_lefts, a_rights, a_bounds, a_atomDepths, a_literals, a_literalCounts, a_clausePos, a_clauseNeg, a_clauseDepths, a_values, a_learnedPos, a_learnedNeg, a_learnedRests, a_trail', a_levelStart, a_levelAtoms', a_reasonAtoms', a_reasonRests', a_edgeFrom', a_edgeTo', a_edgeWeight', a_potential, a_moved, a_gamma, a_via, a_dist, a_link)) :
    wpX_assign post (f_goalEdge, f_goalRest, f_atomBits, f_decided, f_maxVariables, f_maxAtoms, f_maxClauses, f_maxDepth, f_atomCount, f_clauseCount, f_depthNow, f_assumedTrue, f_assumedFalse, f_status, f_presentTrue, f_coreKnown, f_coreClauses, f_coreAtoms, f_witnessClauses, f_witnessAtoms, f_learnedCount, f_learnedNext, f_activeRests, f_trueMask, f_falseMask, nI ts, f_theoryHead, nI L, f_conflictAtoms, f_conflictRests, f_failedAtoms, f_failedRests, f_activeEdges, f_goalOn, a_kinds, a_lefts, a_rights, a_bounds, a_atomDepths, a_literals, a_literalCounts, a_clausePos, a_clauseNeg, a_clauseDepths, a_values, a_learnedPos, a_learnedNeg, a_learnedRests, a_trail, a_levelStart, a_levelAtoms, a_reasonAtoms, a_reasonRests, a_edgeFrom, a_edgeTo, a_edgeWeight, a_potential, a_moved, a_gamma, a_via, a_dist, a_link) (nI k) t r w := by
  have hTR := h.1.2.1
  have hn := h.1.1
  have hts := cd_open hTR hn hk ho ho'
  have hL := cd_L h.1.2.2.1
  refine xw_assign (v := v) (by omega) (by omega) (by omega) hv (fun tm fm lb ef et ew h1 h2 h3 h4 h5 => ?_)
  exact K tm fm _ _ _ _ ef et ew _ (st_imply h hk ho ho' h1 h2 h3 h4 h5 hr hre hw hs) h4
theorem xw_low {post : Int32 → Prop} {x : Int32} (K : ∀ i, i < 10 → bt x i = true → (∀ j, j < i → bt x j = false) → post (nI i)) (h : ∃ i, i < 10 ∧ bt x i = true) : wpX_lowestAtom post (f_goalEdge, f_goalRest, f_atomBits, f_decided, f_maxVariables, f_maxAtoms, f_maxClauses, f_maxDepth, f_atomCount, f_clauseCount, f_depthNow, f_assumedTrue, f_assumedFalse, f_status, f_presentTrue, f_coreKnown, f_coreClauses, f_coreAtoms, f_witnessClauses, f_witnessAtoms, f_learnedCount, f_learnedNext, f_activeRests, f_trueMask, f_falseMask, f_trailSize, f_theoryHead, f_level, f_conflictAtoms, f_conflictRests, f_failedAtoms, f_failedRests, f_activeEdges, f_goalOn, a_kinds, a_lefts, a_rights, a_bounds, a_atomDepths, a_literals, a_literalCounts, a_clausePos, a_clauseNeg, a_clauseDepths, a_values, a_learnedPos, a_learnedNeg, a_learnedRests, a_trail, a_levelStart, a_levelAtoms, a_reasonAtoms, a_reasonRests, a_edgeFrom, a_edgeTo, a_edgeWeight, a_potential, a_moved, a_gamma, a_via, a_dist, a_link) x := by
  have key : ∀ f i, i ≤ 10 → 10 < f + i → (∀ j, j < i → bt x j = false) → wX_lowestAtom_2 post x f_goalEdge f_goalRest f_atomBits f_decided f_maxVariables f_maxAtoms f_maxClauses f_maxDepth f_atomCount f_clauseCount f_depthNow f_assumedTrue f_assumedFalse f_status f_presentTrue f_coreKnown f_coreClauses f_coreAtoms f_witnessClauses f_witnessAtoms f_learnedCount f_learnedNext f_activeRests f_trueMask f_falseMask f_trailSize f_theoryHead f_level f_conflictAtoms f_conflictRests f_failedAtoms f_failedRests f_activeEdges f_goalOn a_kinds a_lefts a_rights a_bounds a_atomDepths a_literals a_literalCounts a_clausePos a_clauseNeg a_clauseDepths a_values a_learnedPos a_learnedNeg a_learnedRests a_trail a_levelStart a_levelAtoms a_reasonAtoms a_reasonRests a_edgeFrom a_edgeTo a_edgeWeight a_potential a_moved a_gamma a_via a_dist a_link f (nI i) := by
    intro f
    induction f with
    | zero => intro i h1 h2; omega
    | succ f ih =>
      intro i hi hn hI
      refine pk_le 10 i (fun hle => ?_) (fun hlt => br_c (fun h2 => nm_r (nI_1 i) (ih (i + 1) (by omega) (by omega) (fun j hj => ?_))) (fun h2 => K i hlt ?_ hI))
      · obtain ⟨j, hj, hb⟩ := h
        rw [hI j (by omega)] at hb; cases hb
      · rcases Nat.lt_or_ge j i with z | z
        · exact hI j z
        · have : j = i := by omega
          subst this
          exact (zb_shr1 (by omega)).mp h2
      · exact zb_ft (fun z => h2 ((zb_shr1 (by omega)).mpr z))
  exact Exists.intro 11 (key 11 0 (by omega) (by omega) (fun j hj => by omega))
end
theorem sp_cong {ae : Int32} {ef et ew pt ef' et' ew' : Nat → Int32} {nr fr nr' fr' : Nat → Int32} {Q : Nat → Int} {bs sr : Nat} {U : Int} {ds lk : Nat → Int32}
    (he : ∀ e, e < 11 → bt ae e = true → ef' e = ef e ∧ et' e = et e ∧ ew' e = ew e ∧ nr' e = nr e ∧ fr' e = fr e) (h : sp_F ae ef et ew pt nr fr Q bs sr U ds lk) : sp_F ae ef' et' ew' pt nr' fr' Q bs sr U ds lk := by
  obtain ⟨st, r, ord, hr, ⟨i1, i2, i3, i4, i5, i6, i7, i8, i9, i10, i11, i12, i13⟩, hall⟩ := h
  have hsl : ∀ e, e < 11 → bt ae e = true → sp_sl ef' et' ew' pt e = sp_sl ef et ew pt e := by
    intro e h1 h2
    obtain ⟨a, b, c, _⟩ := he e h1 h2
    unfold sp_sl
    rw [a, b, c]
  refine ⟨st, r, ord, hr, ⟨i1, i2, i3, i4, i5, i6, i7, i8, fun e h1 h2 h3 => ?_, fun v hv hge => ?_, i11, i12, i13⟩, hall⟩
  · obtain ⟨a, b, c, d, f⟩ := he e h1 h2
    rw [d] at h3
    rw [d, f, hsl e h1 h2]
    exact i9 e h1 h2 h3
  · rcases i10 v hv hge with z | ⟨e, i, a1, a2, a3, a4, a5, a6, a7, a8⟩
    · exact Or.inl z
    · obtain ⟨a, b, c, d, f⟩ := he e a1 a2
      exact Or.inr ⟨e, i, a1, a2, a3, a4, by rw [f]; exact a5, by rw [d]; exact a6, by rw [hsl e a1 a2]; exact a7, a8⟩
/-- distances are bounded -/
theorem sp_bd {ae : Int32} {ef et ew pt nr fr : Nat → Int32} {Q : Nat → Int} {bs sr : Nat} {U : Int} {ds lk : Nat → Int32} (h : sp_F ae ef et ew pt nr fr Q bs sr U ds lk) (h0 : 0 ≤ U) (h1 : U ≤ 708) {v : Nat} (hv : v < 8) (hQ : Q v ≤ 400000000) :
    (ds (bs + v)).toInt ≤ 500000000 := by
  obtain ⟨st, r, ord, hr, ⟨i1, i2, i3, i4, i5, i6, i7, i8, i9, i10, i11, i12, i13⟩, hall⟩ := h
  rcases Int.lt_or_le (ds (bs + v)).toInt 0 with z | z
  · omega
  · obtain ⟨j, hj, ej⟩ := (i1 v).mp (hall v hv z)
    have h3 := i11 j hj
    have h4 := sp_ub (r := j) h0 h1 (by omega)
    rw [ej] at h3
    omega
end
section
section
variable {f_goalEdge f_goalRest f_atomBits f_decided f_maxVariables f_maxAtoms f_maxClauses f_maxDepth f_atomCount f_clauseCount f_depthNow f_assumedTrue f_assumedFalse f_status f_presentTrue f_coreKnown f_coreClauses f_coreAtoms f_witnessClauses f_witnessAtoms f_learnedCount f_learnedNext f_activeRests f_trueMask f_falseMask f_trailSize f_theoryHead f_level f_conflictAtoms f_conflictRests f_failedAtoms f_failedRests f_activeEdges f_goalOn : Int32} {a_kinds a_lefts a_rights a_bounds a_atomDepths a_literals a_literalCounts a_clausePos a_clauseNeg a_clauseDepths a_values a_learnedPos a_learnedNeg a_learnedRests a_trail a_levelStart a_levelAtoms a_reasonAtoms a_reasonRests a_edgeFrom a_edgeTo a_edgeWeight a_potential a_moved a_gamma a_via a_dist a_link : Nat → Int32}
variable {post : SX → Prop} {G : (Nat → Int) → Prop} {n m V : Nat} {mt mf : Int32} {g : Bool} {s ts th L : Nat} {lv : Nat → Nat}
theorem xw_imply {k e a b : Nat} {t : Int32} {v : Bool} {w U1 U2 : Int}
    (h : cd_ST (ds_M n m a_kinds a_lefts a_rights a_bounds a_clausePos a_clauseNeg G) G n a_kinds a_lefts a_rights a_bounds mt mf f_activeRests g s ts th L f_trueMask f_falseMask f_activeEdges a_trail a_levelStart a_levelAtoms a_reasonAtoms a_reasonRests a_edgeFrom a_edgeTo a_edgeWeight a_potential lv) (hAt : ds_At V n a_kinds a_lefts a_rights a_bounds) (hV : V ≤ 8) (hg : g = true → bt f_activeRests 24 = true)
    (hk : k < n) (ho : bt f_trueMask k = false) (ho' : bt f_falseMask k = false) (hv : (v = true ∧ ¬ t = 0) ∨ (v = false ∧ t = 0)) (he : e < 11) (hae : bt f_activeEdges e = true)
    (hF : sp_F f_activeEdges a_edgeFrom a_edgeTo a_edgeWeight a_potential a_edgeFrom a_edgeTo (fun v => (a_potential (a_edgeTo e).toNatClampNeg).toInt - (a_potential v).toInt) 0 (a_edgeTo e).toNatClampNeg U1 a_dist a_link)
    (hB : sp_F f_activeEdges a_edgeFrom a_edgeTo a_edgeWeight a_potential a_edgeTo a_edgeFrom (fun v => (a_potential v).toInt - (a_potential (a_edgeFrom e).toNatClampNeg).toInt) 8 (a_edgeFrom e).toNatClampNeg U2 a_dist a_link)
    (ha : a < 8) (hb : b < 8) (hra : 0 ≤ (a_dist (8 + a)).toInt) (hrb : 0 ≤ (a_dist b).toInt)
    (hent : (a_dist (8 + a)).toInt + (a_dist b).toInt + sp_sl a_edgeFrom a_edgeTo a_edgeWeight a_potential e ≤ (a_potential a).toInt + w - (a_potential b).toInt)
    (hdec : ∀ τ σ, gs_Sol (ds_E n a_kinds a_lefts a_rights a_bounds τ) σ → σ b ≤ σ a + w → τ k = v)
    (K : ∀ (ts' : Nat) (f_trueMask' f_falseMask' : Int32) (a_trail' a_levelAtoms' a_reasonAtoms' a_reasonRests' a_edgeFrom' a_edgeTo' a_edgeWeight' : Nat → Int32) (lv' : Nat → Nat), cd_ST (ds_M n m a_kinds a_lefts a_rights a_bounds a_clausePos a_clauseNeg G) G n a_kinds a_lefts a_rights a_bounds mt mf f_activeRests g s ts' th L f_trueMask' f_falseMask' f_activeEdges a_trail' a_levelStart a_levelAtoms' a_reasonAtoms' a_reasonRests' a_edgeFrom' a_edgeTo' a_edgeWeight' a_potential lv' → cd_EX ts f_trueMask f_falseMask ts' f_trueMask' f_falseMask' → (∀ q, q ≠ k → a_edgeFrom' q = a_edgeFrom q ∧ a_edgeTo' q = a_edgeTo q ∧ a_edgeWeight' q = a_edgeWeight q) → post (f_goalEdge, f_goalRest, f_atomBits, f_decided, f_maxVariables, f_maxAtoms, f_maxClauses, f_maxDepth, f_atomCount, f_clauseCount, f_depthNow, f_assumedTrue, f_assumedFalse, f_status, f_presentTrue, f_coreKnown, f_coreClauses, f_coreAtoms, f_witnessClauses, f_witnessAtoms, f_learnedCount, f_learnedNext, f_activeRests, f_trueMask', f_falseMask', nI ts', f_theoryHead, nI L, f_conflictAtoms, f_conflictRests, f_failedAtoms, f_failedRests, f_activeEdges, f_goalOn, a_kinds, a_lefts, a_rights, a_bounds, a_atomDepths, a_literals, a_literalCounts, a_clausePos, a_clauseNeg, a_clauseDepths, a_values, a_learnedPos, a_learnedNeg, a_learnedRests, a_trail', a_levelStart, a_levelAtoms', a_reasonAtoms', a_reasonRests', a_edgeFrom', a_edgeTo', a_edgeWeight', a_potential, a_moved, a_gamma, a_via, a_dist, a_link)) :
    wpX_imply post (f_goalEdge, f_goalRest, f_atomBits, f_decided, f_maxVariables, f_maxAtoms, f_maxClauses, f_maxDepth, f_atomCount, f_clauseCount, f_depthNow, f_assumedTrue, f_assumedFalse, f_status, f_presentTrue, f_coreKnown, f_coreClauses, f_coreAtoms, f_witnessClauses, f_witnessAtoms, f_learnedCount, f_learnedNext, f_activeRests, f_trueMask, f_falseMask, nI ts, f_theoryHead, nI L, f_conflictAtoms, f_conflictRests, f_failedAtoms, f_failedRests, f_activeEdges, f_goalOn, a_kinds, a_lefts, a_rights, a_bounds, a_atomDepths, a_literals, a_literalCounts, a_clausePos, a_clauseNeg, a_clauseDepths, a_values, a_learnedPos, a_learnedNeg, a_learnedRests, a_trail, a_levelStart, a_levelAtoms, a_reasonAtoms, a_reasonRests, a_edgeFrom, a_edgeTo, a_edgeWeight, a_potential, a_moved, a_gamma, a_via, a_dist, a_link) (nI k) t (nI e) (nI a) (nI b) := by
  have hok := gi_ok h.2.1 hAt hV
  obtain ⟨o1, o2, o3, o4⟩ := hok e he hae
  obtain ⟨p1, p2, p3⟩ := zi_in o1
  obtain ⟨q1, q2, q3⟩ := zi_in o2
  have ce : (nI e).toNatClampNeg = e := nI_clamp (by omega)
  have hie : vp_in (nI e) 11 := pk_in e 11 he
  refine nm_e (And.intro hie ?_)
  rw [ce, p2]
  refine xw_path (nr := a_edgeTo) (fr := a_edgeFrom) (Q := fun v => (a_potential v).toInt - (a_potential (a_edgeFrom e).toNatClampNeg).toInt) (U := U2) (Or.inr ⟨rfl, rfl⟩) (fun e h1 h2 => (hok e h1 h2).2.1) (fun e h1 h2 => ?_) (by omega) hB p1 ha hra (fun es1 s1 s2 => nm_e (And.intro hie ?_))
  · show sp_sl a_edgeFrom a_edgeTo a_edgeWeight a_potential e = (a_edgeWeight e).toInt + ((a_potential (a_edgeFrom e).toNatClampNeg).toInt - _) - ((a_potential (a_edgeTo e).toNatClampNeg).toInt - _)
    unfold sp_sl; omega
  rw [q2]
  refine xw_path (bs := 0) (nr := a_edgeFrom) (fr := a_edgeTo) (Q := fun v => (a_potential (a_edgeTo e).toNatClampNeg).toInt - (a_potential v).toInt) (U := U1) (Or.inl ⟨rfl, rfl⟩) (fun e h1 h2 => (hok e h1 h2).1) (fun e h1 h2 => ?_) (by omega) hF q1 hb (by rw [Nat.zero_add]; exact hrb) (fun es2 s3 s4 => nm_e (xw_ro ?_))
  · show sp_sl a_edgeFrom a_edgeTo a_edgeWeight a_potential e = (a_edgeWeight e).toInt + (_ - (a_potential (a_edgeTo e).toNatClampNeg).toInt) - (_ - (a_potential (a_edgeFrom e).toNatClampNeg).toInt)
    unfold sp_sl; omega
  have hes : ∀ q, bt (((1 : Int32) <<< (nI e &&& 31) ||| es1) ||| es2) q = (decide (q = e) || bt es1 q || bt es2 q) := fun q => by rw [b_or, b_or, zb_bit (by omega)]
  generalize ((1 : Int32) <<< (nI e &&& 31) ||| es1) ||| es2 = es at hes ⊢
  have hact : ∀ q, bt es q = true → bt f_activeEdges q = true := by
    intro q hq
    rw [hes, Bool.or_eq_true, Bool.or_eq_true, decide_eq_true_eq] at hq
    rcases hq with (z | z) | z
    · rw [z]; exact hae
    · exact (s1 q z).2
    · exact (s3 q z).2
  have hgi := gi_ae h.2.1
  refine xw_asg h hk ho ho' hv (fun z => ?_) (fun q hq => ?_) (fun q hq => ?_) (fun τ hM hag => ?_) (fun f_trueMask' f_falseMask' a_trail' a_levelAtoms' a_reasonAtoms' a_reasonRests' a_edgeFrom' a_edgeTo' a_edgeWeight' lv' g1 g3 => K (ts + 1) f_trueMask' f_falseMask' a_trail' a_levelAtoms' a_reasonAtoms' a_reasonRests' a_edgeFrom' a_edgeTo' a_edgeWeight' lv' g1 ⟨by omega, fun z => by omega⟩ g3)
  · have h1 := congrArg (fun x => bt x 31) z
    simp only [b_and, zb_1023, b_m1 31 (by omega)] at h1
    simp at h1
  · rw [b_and, Bool.and_eq_true, zb_1023, decide_eq_true_eq] at hq
    rcases hgi q (hact q hq.1) with ⟨z1, z2, i, z3, z4⟩ | ⟨z, _⟩
    · exact (h.1.2.1.2.2.1 q).mpr ⟨z1, i, z3, z4⟩
    · omega
  · cases h10 : bt es 10
    · rw [h10] at hq
      simp only [Bool.false_eq_true, if_false] at hq
      rw [b_0] at hq; cases hq
    · rw [h10] at hq
      simp only [if_true] at hq
      rw [zb_g24, decide_eq_true_eq] at hq
      rcases hgi 10 (hact 10 h10) with ⟨z1, _⟩ | ⟨_, z⟩
      · have := h.1.1; omega
      · rw [hq]; exact hg z
  · obtain ⟨σ, m1, m2⟩ := gi_sat h.2.1 hAt hV h.1.1 (fun q hq => hgi q (hact q hq)) hM (fun h10 => by rw [h10]; simp only [if_true]; rw [zb_g24, decide_eq_true rfl]) (fun q hq h10 => hag q (by rw [b_and, hq, zb_1023, decide_eq_true h10]; rfl))
    refine hdec τ σ m1 ?_
    have g1 : - σ a ≤ - σ (a_edgeFrom e).toNatClampNeg + ((a_dist (8 + a)).toInt - ((a_potential a).toInt - (a_potential (a_edgeFrom e).toNatClampNeg).toInt)) := s2 (fun v => - σ v) (fun q hq => by
      have := m2 q (by rw [hes, hq, Bool.or_true, Bool.true_or])
      show - σ (a_edgeFrom q).toNatClampNeg ≤ - σ (a_edgeTo q).toNatClampNeg + _
      omega)
    have g2 : σ b ≤ σ (a_edgeTo e).toNatClampNeg + ((a_dist (0 + b)).toInt - ((a_potential (a_edgeTo e).toNatClampNeg).toInt - (a_potential b).toInt)) := s4 σ (fun q hq => m2 q (by rw [hes, hq, Bool.or_true]))
    have g3 := m2 e (by rw [hes, decide_eq_true rfl, Bool.true_or, Bool.true_or])
    rw [Nat.zero_add] at g2
    unfold sp_sl at hent
    omega
/-- the atoms one by one -/
theorem xw_pt29 {e : Nat} {U1 U2 : Int} (hU : 0 ≤ U1 ∧ U1 ≤ 708 ∧ 0 ≤ U2 ∧ U2 ≤ 708)
    (hAt : ds_At V n a_kinds a_lefts a_rights a_bounds) (hV : V ≤ 8) (hg : g = true → bt f_activeRests 24 = true) (he : e < 11) (hae : bt f_activeEdges e = true) (hs : s ≤ 2047)
    (hF : sp_F f_activeEdges a_edgeFrom a_edgeTo a_edgeWeight a_potential a_edgeFrom a_edgeTo (fun v => (a_potential (a_edgeTo e).toNatClampNeg).toInt - (a_potential v).toInt) 0 (a_edgeTo e).toNatClampNeg U1 a_dist a_link)
    (hB : sp_F f_activeEdges a_edgeFrom a_edgeTo a_edgeWeight a_potential a_edgeTo a_edgeFrom (fun v => (a_potential v).toInt - (a_potential (a_edgeFrom e).toNatClampNeg).toInt) 8 (a_edgeFrom e).toNatClampNeg U2 a_dist a_link)
    (K : ∀ (ts' : Nat) (f_trueMask' f_falseMask' : Int32) (a_trail' a_levelAtoms' a_reasonAtoms' a_reasonRests' a_edgeFrom' a_edgeTo' a_edgeWeight' : Nat → Int32) (lv' : Nat → Nat), cd_ST (ds_M n m a_kinds a_lefts a_rights a_bounds a_clausePos a_clauseNeg G) G n a_kinds a_lefts a_rights a_bounds mt mf f_activeRests g s ts' th L f_trueMask' f_falseMask' f_activeEdges a_trail' a_levelStart a_levelAtoms' a_reasonAtoms' a_reasonRests' a_edgeFrom' a_edgeTo' a_edgeWeight' a_potential lv' → cd_EX ts f_trueMask f_falseMask ts' f_trueMask' f_falseMask' → post (f_goalEdge, f_goalRest, f_atomBits, f_decided, f_maxVariables, f_maxAtoms, f_maxClauses, f_maxDepth, nI n, f_clauseCount, f_depthNow, f_assumedTrue, f_assumedFalse, f_status, f_presentTrue, f_coreKnown, f_coreClauses, f_coreAtoms, f_witnessClauses, f_witnessAtoms, f_learnedCount, f_learnedNext, f_activeRests, f_trueMask', f_falseMask', nI ts', f_theoryHead, nI L, f_conflictAtoms, f_conflictRests, f_failedAtoms, f_failedRests, f_activeEdges, f_goalOn, a_kinds, a_lefts, a_rights, a_bounds, a_atomDepths, a_literals, a_literalCounts, a_clausePos, a_clauseNeg, a_clauseDepths, a_values, a_learnedPos, a_learnedNeg, a_learnedRests, a_trail', a_levelStart, a_levelAtoms', a_reasonAtoms', a_reasonRests', a_edgeFrom', a_edgeTo', a_edgeWeight', a_potential, a_moved, a_gamma, a_via, a_dist, a_link)) :
    ∀ f i (ts' : Nat) (f_trueMask' f_falseMask' : Int32) (a_trail' a_levelAtoms' a_reasonAtoms' a_reasonRests' a_edgeFrom' a_edgeTo' a_edgeWeight' : Nat → Int32) (lv' : Nat → Nat), i ≤ n → n < f + i → cd_ST (ds_M n m a_kinds a_lefts a_rights a_bounds a_clausePos a_clauseNeg G) G n a_kinds a_lefts a_rights a_bounds mt mf f_activeRests g s ts' th L f_trueMask' f_falseMask' f_activeEdges a_trail' a_levelStart a_levelAtoms' a_reasonAtoms' a_reasonRests' a_edgeFrom' a_edgeTo' a_edgeWeight' a_potential lv' → cd_EX ts f_trueMask f_falseMask ts' f_trueMask' f_falseMask' →
      (∀ q, bt f_activeEdges q = true → a_edgeFrom' q = a_edgeFrom q ∧ a_edgeTo' q = a_edgeTo q ∧ a_edgeWeight' q = a_edgeWeight q) →
      wX_propagateThrough_29 post (nI e) f (nI i) f_goalEdge f_goalRest f_atomBits f_decided f_maxVariables f_maxAtoms f_maxClauses f_maxDepth (nI n) f_clauseCount f_depthNow f_assumedTrue f_assumedFalse f_status f_presentTrue f_coreKnown f_coreClauses f_coreAtoms f_witnessClauses f_witnessAtoms f_learnedCount f_learnedNext f_activeRests f_trueMask' f_falseMask' (nI ts') f_theoryHead (nI L) f_conflictAtoms f_conflictRests f_failedAtoms f_failedRests f_activeEdges f_goalOn a_kinds a_lefts a_rights a_bounds a_atomDepths a_literals a_literalCounts a_clausePos a_clauseNeg a_clauseDepths a_values a_learnedPos a_learnedNeg a_learnedRests a_trail' a_levelStart a_levelAtoms' a_reasonAtoms' a_reasonRests' a_edgeFrom' a_edgeTo' a_edgeWeight' a_potential a_moved a_gamma a_via a_dist a_link := by
  intro f
  induction f with
  | zero => intro i _ _ _ _ _ _ _ _ _ _ _ h1 h2; omega
  | succ f ih =>
    intro i ts' f_trueMask' f_falseMask' a_trail' a_levelAtoms' a_reasonAtoms' a_reasonRests' a_edgeFrom' a_edgeTo' a_edgeWeight' lv' hi hn hST hEX hed
    have hn10 := hST.1.1
    refine pk_le n i (fun _ => K ts' f_trueMask' f_falseMask' a_trail' a_levelAtoms' a_reasonAtoms' a_reasonRests' a_edgeFrom' a_edgeTo' a_edgeWeight' lv' hST hEX) (fun hlt => ?_)
    have ii : vp_in (nI i) 10 := pk_in i 10 (by omega)
    have ci : (nI i).toNatClampNeg = i := nI_clamp (by omega)
    refine br_c (fun ho => ?_) (fun ho => br_t rfl (nm_r (nI_1 i) (ih (i + 1) ts' f_trueMask' f_falseMask' a_trail' a_levelAtoms' a_reasonAtoms' a_reasonRests' a_edgeFrom' a_edgeTo' a_edgeWeight' lv' (by omega) (by omega) hST hEX hed)))
    have hopen : bt (f_trueMask' ||| f_falseMask') i = false := (zb_shr1 (by omega)).mp ho
    rw [b_or, Bool.or_eq_false_iff] at hopen
    refine br_f (by decide) (And.intro ii ?_)
    rw [ci]
    refine br_c (fun hkd => And.intro ii ?_) (fun hkd => nm_r (nI_1 i) (ih (i + 1) ts' f_trueMask' f_falseMask' a_trail' a_levelAtoms' a_reasonAtoms' a_reasonRests' a_edgeFrom' a_edgeTo' a_edgeWeight' lv' (by omega) (by omega) hST hEX hed))
    obtain ⟨⟨x, hx, ex⟩, ⟨y, hy, ey⟩, hne, b1, b2⟩ := (hAt i hlt).2 hkd
    have hlo := gi_lo (s := s) (th := th) hs (by have := hST.2.1.1; have := cd_room hST.1.2.1 hn10; omega)
    have hp : ∀ v, v < 8 → -400000000 ≤ (a_potential v).toInt ∧ (a_potential v).toInt ≤ 0 := fun v hv => by
      have := hST.2.1.2.2.2.2.2 v hv
      omega
    have hok := gi_ok hST.2.1 hAt hV
    obtain ⟨e1, e2, e3⟩ := hed e hae
    obtain ⟨o1, o2, o3, o4⟩ := hok e he hae
    have hF' : sp_F f_activeEdges a_edgeFrom' a_edgeTo' a_edgeWeight' a_potential a_edgeFrom' a_edgeTo' (fun v => (a_potential (a_edgeTo' e).toNatClampNeg).toInt - (a_potential v).toInt) 0 (a_edgeTo' e).toNatClampNeg U1 a_dist a_link := by
      rw [e2]
      exact sp_cong (fun q _ hq => ⟨(hed q hq).1, (hed q hq).2.1, (hed q hq).2.2, (hed q hq).1, (hed q hq).2.1⟩) hF
    have hB' : sp_F f_activeEdges a_edgeFrom' a_edgeTo' a_edgeWeight' a_potential a_edgeTo' a_edgeFrom' (fun v => (a_potential v).toInt - (a_potential (a_edgeFrom' e).toNatClampNeg).toInt) 8 (a_edgeFrom' e).toNatClampNeg U2 a_dist a_link := by
      rw [e1]
      exact sp_cong (fun q _ hq => ⟨(hed q hq).1, (hed q hq).2.1, (hed q hq).2.2, (hed q hq).2.1, (hed q hq).1⟩) hB
    have hdF : ∀ v, v < 8 → (a_dist v).toInt ≤ 500000000 := fun v hv => by
      have := sp_bd hF' hU.1 hU.2.1 hv (by have := hp v hv; have := hp _ (zi_in o2).1; show (a_potential (a_edgeTo' e).toNatClampNeg).toInt - (a_potential v).toInt ≤ 400000000; omega)
      rw [Nat.zero_add] at this
      exact this
    have hdB : ∀ v, v < 8 → (a_dist (8 + v)).toInt ≤ 500000000 := fun v hv =>
      sp_bd hB' hU.2.2.1 hU.2.2.2 hv (by have := hp v hv; have := hp _ (zi_in o1).1; show (a_potential v).toInt - (a_potential (a_edgeFrom' e).toNatClampNeg).toInt ≤ 400000000; omega)
    have cx : (a_lefts i).toNatClampNeg = x := by rw [ex]; exact nI_clamp (by omega)
    have cy : (a_rights i).toNatClampNeg = y := by rw [ey]; exact nI_clamp (by omega)
    have hneg : (-(a_bounds i) - 1).toInt = -(a_bounds i).toInt - 1 := by
      have e4 : (-(a_bounds i)).toInt = -(a_bounds i).toInt := zi_neg (by omega)
      have e5 : (1 : Int32).toInt = 1 := by decide
      rw [zi_sub (by rw [e4, e5]; omega) (by rw [e4, e5]; omega), e4, e5]
    have hinact : ∀ q, bt f_activeEdges q = true → q ≠ i := by
      intro q hq z
      rcases gi_ae hST.2.1 q hq with ⟨z1, _, j, z3, z4⟩ | ⟨z1, _⟩
      · rw [z] at z4
        exact cd_TR_not hST.1.2.1 hlt hopen.1 hopen.2 j z3 z4
      · omega
    have goon : ∀ (ts'' : Nat) (f_trueMask'' f_falseMask'' : Int32) (a_trail'' a_levelAtoms'' a_reasonAtoms'' a_reasonRests'' a_edgeFrom'' a_edgeTo'' a_edgeWeight'' : Nat → Int32) (lv'' : Nat → Nat), cd_ST (ds_M n m a_kinds a_lefts a_rights a_bounds a_clausePos a_clauseNeg G) G n a_kinds a_lefts a_rights a_bounds mt mf f_activeRests g s ts'' th L f_trueMask'' f_falseMask'' f_activeEdges a_trail'' a_levelStart a_levelAtoms'' a_reasonAtoms'' a_reasonRests'' a_edgeFrom'' a_edgeTo'' a_edgeWeight'' a_potential lv'' → cd_EX ts' f_trueMask' f_falseMask' ts'' f_trueMask'' f_falseMask'' → (∀ q, q ≠ i → a_edgeFrom'' q = a_edgeFrom' q ∧ a_edgeTo'' q = a_edgeTo' q ∧ a_edgeWeight'' q = a_edgeWeight' q) →
        wX_propagateThrough_29 post (nI e) f (nI (i + 1)) f_goalEdge f_goalRest f_atomBits f_decided f_maxVariables f_maxAtoms f_maxClauses f_maxDepth (nI n) f_clauseCount f_depthNow f_assumedTrue f_assumedFalse f_status f_presentTrue f_coreKnown f_coreClauses f_coreAtoms f_witnessClauses f_witnessAtoms f_learnedCount f_learnedNext f_activeRests f_trueMask'' f_falseMask'' (nI ts'') f_theoryHead (nI L) f_conflictAtoms f_conflictRests f_failedAtoms f_failedRests f_activeEdges f_goalOn a_kinds a_lefts a_rights a_bounds a_atomDepths a_literals a_literalCounts a_clausePos a_clauseNeg a_clauseDepths a_values a_learnedPos a_learnedNeg a_learnedRests a_trail'' a_levelStart a_levelAtoms'' a_reasonAtoms'' a_reasonRests'' a_edgeFrom'' a_edgeTo'' a_edgeWeight'' a_potential a_moved a_gamma a_via a_dist a_link := by
      intro ts'' f_trueMask'' f_falseMask'' a_trail'' a_levelAtoms'' a_reasonAtoms'' a_reasonRests'' a_edgeFrom'' a_edgeTo'' a_edgeWeight'' lv'' g1 g2 g3
      refine ih (i + 1) ts'' f_trueMask'' f_falseMask'' a_trail'' a_levelAtoms'' a_reasonAtoms'' a_reasonRests'' a_edgeFrom'' a_edgeTo'' a_edgeWeight'' lv'' (by omega) (by omega) g1 (cd_EX_tr hEX g2) (fun q hq => ?_)
      obtain ⟨z1, z2, z3⟩ := g3 q (hinact q hq)
      obtain ⟨y1, y2, y3⟩ := hed q hq
      exact ⟨z1.trans y1, z2.trans y2, z3.trans y3⟩
    refine nm_r ex (And.intro ii (nm_r (e' := nI y) ey (And.intro ii (nm_e ?_))))
    refine xw_entails he o1 o2 ⟨o3, o4⟩ (by omega) (by omega) hp (by omega) (hdB y (by omega)) (hdF x (by omega)) (fun g1 g2 g3 => br_f (by decide) ?_) (br_t rfl ?_)
    · refine xw_imply hST hAt hV hg hlt hopen.1 hopen.2 (Or.inl ⟨rfl, by decide⟩) he hae hF' hB' (by omega) (by omega) g1 g2 g3 (fun τ σ h1 h2 => ?_) (fun ts'' f_trueMask'' f_falseMask'' a_trail'' a_levelAtoms'' a_reasonAtoms'' a_reasonRests'' a_edgeFrom'' a_edgeTo'' a_edgeWeight'' lv'' g1 g2 g3 => nm_r (nI_1 i) (goon ts'' f_trueMask'' f_falseMask'' a_trail'' a_levelAtoms'' a_reasonAtoms'' a_reasonRests'' a_edgeFrom'' a_edgeTo'' a_edgeWeight'' lv'' g1 g2 g3))
      cases hτ : τ i
      · have := h1 _ _ _ ⟨i, hlt, hkd, Or.inr ⟨hτ, rfl, rfl, rfl⟩⟩
        rw [cx, cy] at this
        omega
      · rfl
    · refine xw_entails he o1 o2 ⟨o3, o4⟩ (by omega) (by omega) hp (by rw [hneg]; omega) (hdB x (by omega)) (hdF y (by omega)) (fun g1 g2 g3 => br_f (by decide) ?_) (br_t rfl (nm_r (nI_1 i) (ih (i + 1) ts' f_trueMask' f_falseMask' a_trail' a_levelAtoms' a_reasonAtoms' a_reasonRests' a_edgeFrom' a_edgeTo' a_edgeWeight' lv' (by omega) (by omega) hST hEX hed)))
      rw [hneg] at g3
      refine xw_imply hST hAt hV hg hlt hopen.1 hopen.2 (Or.inr ⟨rfl, rfl⟩) he hae hF' hB' (by omega) (by omega) g1 g2 g3 (fun τ σ h1 h2 => ?_) (fun ts'' f_trueMask'' f_falseMask'' a_trail'' a_levelAtoms'' a_reasonAtoms'' a_reasonRests'' a_edgeFrom'' a_edgeTo'' a_edgeWeight'' lv'' g1 g2 g3 => nm_r (nI_1 i) (goon ts'' f_trueMask'' f_falseMask'' a_trail'' a_levelAtoms'' a_reasonAtoms'' a_reasonRests'' a_edgeFrom'' a_edgeTo'' a_edgeWeight'' lv'' g1 g2 g3))
      cases hτ : τ i
      · rfl
      · have := h1 _ _ _ ⟨i, hlt, hkd, Or.inl ⟨hτ, rfl, rfl, rfl⟩⟩
        rw [cx, cy] at this
        omega
theorem xw_through {e : Nat}
    (hAt : ds_At V n a_kinds a_lefts a_rights a_bounds) (hV : V ≤ 8) (hg : g = true → bt f_activeRests 24 = true) (he : e < 11) (hae : bt f_activeEdges e = true) (hs : s ≤ 2047)
    (hST : cd_ST (ds_M n m a_kinds a_lefts a_rights a_bounds a_clausePos a_clauseNeg G) G n a_kinds a_lefts a_rights a_bounds mt mf f_activeRests g s ts th L f_trueMask f_falseMask f_activeEdges a_trail a_levelStart a_levelAtoms a_reasonAtoms a_reasonRests a_edgeFrom a_edgeTo a_edgeWeight a_potential lv)
    (K : ∀ (ts' : Nat) (f_trueMask' f_falseMask' : Int32) (a_trail' a_levelAtoms' a_reasonAtoms' a_reasonRests' a_edgeFrom' a_edgeTo' a_edgeWeight' : Nat → Int32) (a_dist' a_link' : Nat → Int32) (lv' : Nat → Nat), cd_ST (ds_M n m a_kinds a_lefts a_rights a_bounds a_clausePos a_clauseNeg G) G n a_kinds a_lefts a_rights a_bounds mt mf f_activeRests g s ts' th L f_trueMask' f_falseMask' f_activeEdges a_trail' a_levelStart a_levelAtoms' a_reasonAtoms' a_reasonRests' a_edgeFrom' a_edgeTo' a_edgeWeight' a_potential lv' → cd_EX ts f_trueMask f_falseMask ts' f_trueMask' f_falseMask' → post (f_goalEdge, f_goalRest, f_atomBits, f_decided, f_maxVariables, f_maxAtoms, f_maxClauses, f_maxDepth, nI n, f_clauseCount, f_depthNow, f_assumedTrue, f_assumedFalse, f_status, f_presentTrue, f_coreKnown, f_coreClauses, f_coreAtoms, f_witnessClauses, f_witnessAtoms, f_learnedCount, f_learnedNext, f_activeRests, f_trueMask', f_falseMask', nI ts', f_theoryHead, nI L, f_conflictAtoms, f_conflictRests, f_failedAtoms, f_failedRests, f_activeEdges, f_goalOn, a_kinds, a_lefts, a_rights, a_bounds, a_atomDepths, a_literals, a_literalCounts, a_clausePos, a_clauseNeg, a_clauseDepths, a_values, a_learnedPos, a_learnedNeg, a_learnedRests, a_trail', a_levelStart, a_levelAtoms', a_reasonAtoms', a_reasonRests', a_edgeFrom', a_edgeTo', a_edgeWeight', a_potential, a_moved, a_gamma, a_via, a_dist', a_link')) :
    wpX_propagateThrough post (f_goalEdge, f_goalRest, f_atomBits, f_decided, f_maxVariables, f_maxAtoms, f_maxClauses, f_maxDepth, nI n, f_clauseCount, f_depthNow, f_assumedTrue, f_assumedFalse, f_status, f_presentTrue, f_coreKnown, f_coreClauses, f_coreAtoms, f_witnessClauses, f_witnessAtoms, f_learnedCount, f_learnedNext, f_activeRests, f_trueMask, f_falseMask, nI ts, f_theoryHead, nI L, f_conflictAtoms, f_conflictRests, f_failedAtoms, f_failedRests, f_activeEdges, f_goalOn, a_kinds, a_lefts, a_rights, a_bounds, a_atomDepths, a_literals, a_literalCounts, a_clausePos, a_clauseNeg, a_clauseDepths, a_values, a_learnedPos, a_learnedNeg, a_learnedRests, a_trail, a_levelStart, a_levelAtoms, a_reasonAtoms, a_reasonRests, a_edgeFrom, a_edgeTo, a_edgeWeight, a_potential, a_moved, a_gamma, a_via, a_dist, a_link) (nI e) := by
  have hn10 := hST.1.1
  have hlo := gi_lo (s := s) (th := th) hs (by have := hST.2.1.1; have := cd_room hST.1.2.1 hn10; omega)
  have hp : ∀ v, v < 8 → -400000000 ≤ (a_potential v).toInt ∧ (a_potential v).toInt ≤ 0 := fun v hv => by
    have := hST.2.1.2.2.2.2.2 v hv
    omega
  have hok := gi_ok hST.2.1 hAt hV
  have hfe := hST.2.1.2.2.2.2.1
  obtain ⟨o1, o2, o3, o4⟩ := hok e he hae
  obtain ⟨p1, p2, p3⟩ := zi_in o1
  obtain ⟨q1, q2, q3⟩ := zi_in o2
  have ce : (nI e).toNatClampNeg = e := nI_clamp (by omega)
  refine And.intro (pk_in e 11 he) (nm_r (e' := nI (a_edgeFrom e).toNatClampNeg) (by rw [ce]; exact p2) (And.intro (pk_in e 11 he) (nm_r (e' := nI (a_edgeTo e).toNatClampNeg) (by rw [ce]; exact q2) ?_)))
  refine xw_spreadF (U := 708) q1 hok hfe hp (fun e h1 h2 _ => (hok e h1 h2).2.2.2) (by omega) (by omega) (fun ds lk hF hdl => ?_)
  refine xw_spreadB (U := 708) p1 hok hfe hp (fun e h1 h2 _ => (hok e h1 h2).2.2.2) (by omega) (by omega) (fun ds' lk' hB hdl' => Exists.intro (n + 1) ?_)
  have hF' : sp_F f_activeEdges a_edgeFrom a_edgeTo a_edgeWeight a_potential a_edgeFrom a_edgeTo (fun v => (a_potential (a_edgeTo e).toNatClampNeg).toInt - (a_potential v).toInt) 0 (a_edgeTo e).toNatClampNeg 708 ds' lk' := by
    obtain ⟨st, r, ord, hr, hI, hall⟩ := hF
    have hx : ∀ v, v < 8 → ds' (0 + v) = ds (0 + v) ∧ lk' (0 + v) = lk (0 + v) := fun v hv => hdl' (0 + v) (by omega)
    obtain ⟨i1, i2, i3, i4, i5, i6, i7, i8, i9, i10, i11, i12, i13⟩ := hI
    refine ⟨st, r, ord, hr, ⟨i1, i2, i3, fun v hv => ?_, fun v hv => ?_, ?_, ⟨fun z v hv => ?_, i7.2⟩, fun u v hu hv => ?_, fun e h1 h2 => ?_, fun v hv => ?_, fun j hj => ?_, fun v hv => ?_, fun v hv => ?_⟩, fun v hv => ?_⟩
    · rw [(hx v hv).1]; exact i4 v hv
    · rw [(hx v hv).1]; exact i5 v hv
    · rw [(hx _ q1).1]; exact i6
    · rw [(hx v hv).1]; exact i7.1 z v hv
    · rw [(hx v hv).1, (hx u hu).1]; exact i8 u v hu hv
    · rw [(hx _ (zi_in (hok e h1 h2).2.1).1).1, (hx _ (zi_in (hok e h1 h2).1).1).1]; exact i9 e h1 h2
    · rw [(hx v hv).1, (hx v hv).2]
      intro z
      rcases i10 v hv z with z | ⟨e2, i, a1, a2, a3, a4, a5, a6, a7, a8⟩
      · exact Or.inl z
      · exact Or.inr ⟨e2, i, a1, a2, a3, a4, a5, a6, by rw [(hx _ (i2 i a3)).1]; exact a7, a8⟩
    · rw [(hx _ (i2 j hj)).1]; exact i11 j hj
    · rw [(hx v hv).1]; exact i12 v hv
    · rw [(hx v hv).1]; exact i13 v hv
    · rw [(hx v hv).1]; exact hall v hv
  exact xw_pt29 (U1 := 708) (U2 := 708) (by omega) hAt hV hg he hae hs hF' hB (fun ts' f_trueMask' f_falseMask' a_trail' a_levelAtoms' a_reasonAtoms' a_reasonRests' a_edgeFrom' a_edgeTo' a_edgeWeight' lv' g1 g2 => K ts' f_trueMask' f_falseMask' a_trail' a_levelAtoms' a_reasonAtoms' a_reasonRests' a_edgeFrom' a_edgeTo' a_edgeWeight' ds' lk' lv' g1 g2) (n + 1) 0 ts f_trueMask f_falseMask a_trail a_levelAtoms a_reasonAtoms a_reasonRests a_edgeFrom a_edgeTo a_edgeWeight lv (by omega) (by omega) hST cd_EX_rf (fun q _ => ⟨rfl, rfl, rfl⟩)
end
end
section
/-- a clause is not broken: it holds, or has an open atom -/
def cd_OK (p q tm fm : Int32) : Prop := ds_Cl p q (fun k => bt tm k) ∨ ∃ k, (bt p k = true ∨ bt q k = true) ∧ bt tm k = false ∧ bt fm k = false
/-- a conflict of the trail -/
def cd_CF (M : Int32 → (Nat → Bool) → Prop) (ar tm fm ca cr : Int32) : Prop :=
  (∀ q, bt ca q = true → bt tm q = true ∨ bt fm q = true) ∧ (∀ q, bt cr q = true → bt ar q = true) ∧ ∀ τ, M cr τ → (∀ q, bt ca q = true → τ q = bt tm q) → False
def cd_CS (M : Int32 → (Nat → Bool) → Prop) (n : Nat) (p q r : Int32) : Prop := (∀ k, bt p k = true ∨ bt q k = true → k < n) ∧ ∀ τ, M r τ → ds_Cl p q τ
def cd_LC (M : Int32 → (Nat → Bool) → Prop) (n m : Nat) (g : Bool) (lc : Nat) (lp ln lr : Nat → Int32) : Prop := ∀ i, i < lc → cd_CS M n (lp i) (ln i) (lr i) ∧ ∀ q, bt (lr i) q = true → q < m ∨ (q = 24 ∧ g = true)
section
variable {f_goalEdge f_goalRest f_atomBits f_decided f_maxVariables f_maxAtoms f_maxClauses f_maxDepth f_atomCount f_clauseCount f_depthNow f_assumedTrue f_assumedFalse f_status f_presentTrue f_coreKnown f_coreClauses f_coreAtoms f_witnessClauses f_witnessAtoms f_learnedCount f_learnedNext f_activeRests f_trueMask f_falseMask f_trailSize f_theoryHead f_level f_conflictAtoms f_conflictRests f_failedAtoms f_failedRests f_activeEdges f_goalOn : Int32} {a_kinds a_lefts a_rights a_bounds a_atomDepths a_literals a_literalCounts a_clausePos a_clauseNeg a_clauseDepths a_values a_learnedPos a_learnedNeg a_learnedRests a_trail a_levelStart a_levelAtoms a_reasonAtoms a_reasonRests a_edgeFrom a_edgeTo a_edgeWeight a_potential a_moved a_gamma a_via a_dist a_link : Nat → Int32}
variable {M : Int32 → (Nat → Bool) → Prop} {G : (Nat → Int) → Prop} {n : Nat} {mt mf : Int32} {g : Bool} {s ts th L : Nat} {lv : Nat → Nat}
theorem xw_examine {post : Int32 → SX → Prop} {p q r : Int32} (h : cd_ST M G n a_kinds a_lefts a_rights a_bounds mt mf f_activeRests g s ts th L f_trueMask f_falseMask f_activeEdges a_trail a_levelStart a_levelAtoms a_reasonAtoms a_reasonRests a_edgeFrom a_edgeTo a_edgeWeight a_potential lv) (hc : cd_CS M n p q r) (hr : ∀ k, bt r k = true → bt f_activeRests k = true)
    (K1 : ∀ (ts' : Nat) (f_trueMask' f_falseMask' : Int32) (a_trail' a_levelAtoms' a_reasonAtoms' a_reasonRests' a_edgeFrom' a_edgeTo' a_edgeWeight' : Nat → Int32) (lv' : Nat → Nat), cd_ST M G n a_kinds a_lefts a_rights a_bounds mt mf f_activeRests g s ts' th L f_trueMask' f_falseMask' f_activeEdges a_trail' a_levelStart a_levelAtoms' a_reasonAtoms' a_reasonRests' a_edgeFrom' a_edgeTo' a_edgeWeight' a_potential lv' → cd_EX ts f_trueMask f_falseMask ts' f_trueMask' f_falseMask' → (ts' = ts → cd_OK p q f_trueMask f_falseMask) → post 1 (f_goalEdge, f_goalRest, f_atomBits, f_decided, f_maxVariables, f_maxAtoms, f_maxClauses, f_maxDepth, f_atomCount, f_clauseCount, f_depthNow, f_assumedTrue, f_assumedFalse, f_status, f_presentTrue, f_coreKnown, f_coreClauses, f_coreAtoms, f_witnessClauses, f_witnessAtoms, f_learnedCount, f_learnedNext, f_activeRests, f_trueMask', f_falseMask', nI ts', f_theoryHead, nI L, f_conflictAtoms, f_conflictRests, f_failedAtoms, f_failedRests, f_activeEdges, f_goalOn, a_kinds, a_lefts, a_rights, a_bounds, a_atomDepths, a_literals, a_literalCounts, a_clausePos, a_clauseNeg, a_clauseDepths, a_values, a_learnedPos, a_learnedNeg, a_learnedRests, a_trail', a_levelStart, a_levelAtoms', a_reasonAtoms', a_reasonRests', a_edgeFrom', a_edgeTo', a_edgeWeight', a_potential, a_moved, a_gamma, a_via, a_dist, a_link))
    (K0 : cd_CF M f_activeRests f_trueMask f_falseMask (p ||| q) r → post 0 (f_goalEdge, f_goalRest, f_atomBits, f_decided, f_maxVariables, f_maxAtoms, f_maxClauses, f_maxDepth, f_atomCount, f_clauseCount, f_depthNow, f_assumedTrue, f_assumedFalse, f_status, f_presentTrue, f_coreKnown, f_coreClauses, f_coreAtoms, f_witnessClauses, f_witnessAtoms, f_learnedCount, f_learnedNext, f_activeRests, f_trueMask, f_falseMask, nI ts, f_theoryHead, nI L, p ||| q, r, f_failedAtoms, f_failedRests, f_activeEdges, f_goalOn, a_kinds, a_lefts, a_rights, a_bounds, a_atomDepths, a_literals, a_literalCounts, a_clausePos, a_clauseNeg, a_clauseDepths, a_values, a_learnedPos, a_learnedNeg, a_learnedRests, a_trail, a_levelStart, a_levelAtoms, a_reasonAtoms, a_reasonRests, a_edgeFrom, a_edgeTo, a_edgeWeight, a_potential, a_moved, a_gamma, a_via, a_dist, a_link)) :
    wpX_examine post (f_goalEdge, f_goalRest, f_atomBits, f_decided, f_maxVariables, f_maxAtoms, f_maxClauses, f_maxDepth, f_atomCount, f_clauseCount, f_depthNow, f_assumedTrue, f_assumedFalse, f_status, f_presentTrue, f_coreKnown, f_coreClauses, f_coreAtoms, f_witnessClauses, f_witnessAtoms, f_learnedCount, f_learnedNext, f_activeRests, f_trueMask, f_falseMask, nI ts, f_theoryHead, nI L, f_conflictAtoms, f_conflictRests, f_failedAtoms, f_failedRests, f_activeEdges, f_goalOn, a_kinds, a_lefts, a_rights, a_bounds, a_atomDepths, a_literals, a_literalCounts, a_clausePos, a_clauseNeg, a_clauseDepths, a_values, a_learnedPos, a_learnedNeg, a_learnedRests, a_trail, a_levelStart, a_levelAtoms, a_reasonAtoms, a_reasonRests, a_edgeFrom, a_edgeTo, a_edgeWeight, a_potential, a_moved, a_gamma, a_via, a_dist, a_link) p q r := by
  have hTR := h.1.2.1
  have hn := h.1.1
  have same : cd_OK p q f_trueMask f_falseMask → post 1 (f_goalEdge, f_goalRest, f_atomBits, f_decided, f_maxVariables, f_maxAtoms, f_maxClauses, f_maxDepth, f_atomCount, f_clauseCount, f_depthNow, f_assumedTrue, f_assumedFalse, f_status, f_presentTrue, f_coreKnown, f_coreClauses, f_coreAtoms, f_witnessClauses, f_witnessAtoms, f_learnedCount, f_learnedNext, f_activeRests, f_trueMask, f_falseMask, nI ts, f_theoryHead, nI L, f_conflictAtoms, f_conflictRests, f_failedAtoms, f_failedRests, f_activeEdges, f_goalOn, a_kinds, a_lefts, a_rights, a_bounds, a_atomDepths, a_literals, a_literalCounts, a_clausePos, a_clauseNeg, a_clauseDepths, a_values, a_learnedPos, a_learnedNeg, a_learnedRests, a_trail, a_levelStart, a_levelAtoms, a_reasonAtoms, a_reasonRests, a_edgeFrom, a_edgeTo, a_edgeWeight, a_potential, a_moved, a_gamma, a_via, a_dist, a_link) := fun hok => K1 ts f_trueMask f_falseMask a_trail a_levelAtoms a_reasonAtoms a_reasonRests a_edgeFrom a_edgeTo a_edgeWeight lv h cd_EX_rf (fun _ => hok)
  refine br_c (fun h1 => br_c (fun h2 => br_c (fun h3 => nm_e (nm_e (br_c (fun h4 => K0 ?_) (fun h4 => br_c (fun h5 => ?_) (fun h5 => same ?_))))) (fun h3 => same ?_)) (fun h2 => same ?_)) (fun h1 => same ?_)
  · refine ⟨fun k hk => ?_, hr, fun τ hM hag => ?_⟩
    · have h5 := zb_sub.mp h4 k hk
      rw [b_or, Bool.or_eq_true] at h5
      exact h5
    · obtain ⟨k, ⟨ha, hb⟩ | ⟨ha, hb⟩⟩ := hc.2 τ hM
      · have h5 := hag k (by rw [b_or, ha]; rfl)
        rw [hb] at h5
        exact zb_and0.mp h1 k ha h5.symm
      · have h5 := hag k (by rw [b_or, ha, Bool.or_true])
        rw [hb] at h5
        have h6 := zb_sub.mp h4 k (by rw [b_or, ha, Bool.or_true])
        rw [b_or, Bool.or_eq_true] at h6
        rcases h6 with z | z
        · rw [z] at h5; cases h5
        · exact zb_and0.mp h2 k ha z
  · have hbits : ∀ k, bt ((p ||| q) &&& ((f_trueMask ||| f_falseMask) ^^^ (-1))) k = ((bt p k || bt q k) && !(bt f_trueMask k || bt f_falseMask k)) := fun k => by rw [zb_clr, b_or, b_or]
    have hlt : ∀ k, bt ((p ||| q) &&& ((f_trueMask ||| f_falseMask) ^^^ (-1))) k = true → k < n ∧ bt f_trueMask k = false ∧ bt f_falseMask k = false := by
      intro k hk
      rw [hbits, Bool.and_eq_true, Bool.not_eq_true', Bool.or_eq_false_iff, Bool.or_eq_true] at hk
      exact ⟨hc.1 k hk.1, hk.2⟩
    have hone := (zb_one (fun k hk => by have := (hlt k hk).1; omega)).mp h5
    generalize ho : (p ||| q) &&& ((f_trueMask ||| f_falseMask) ^^^ (-1)) = op at *
    obtain ⟨k0, hk0⟩ := zb_ne0.mp h4
    refine xw_low (fun k hk hb _ => ?_) ⟨k0, by have := (hlt k0 hk0).1; omega, hk0⟩
    obtain ⟨l1, l2, l3⟩ := hlt k hb
    have hrest : ∀ z, bt ((p ||| q) &&& (op ^^^ (-1))) z = true → (bt p z = true ∨ bt q z = true) ∧ z ≠ k ∧ (bt f_trueMask z = true ∨ bt f_falseMask z = true) := by
      intro z hz
      rw [zb_clr, Bool.and_eq_true, Bool.not_eq_true', b_or, Bool.or_eq_true] at hz
      refine ⟨hz.1, fun e => ?_, ?_⟩
      · rw [e, hb] at hz; cases hz.2
      · have h6 := hz.2
        rw [hbits, Bool.and_eq_false_iff] at h6
        rcases h6 with y | y
        · rw [Bool.or_eq_false_iff] at y
          rcases hz.1 with x | x
          · rw [y.1] at x; cases x
          · rw [y.2] at x; cases x
        · rw [Bool.not_eq_false', Bool.or_eq_true] at y
          exact y
    have hne : (p ||| q) &&& (op ^^^ (-1)) ≠ -1 := by
      intro z
      have h6 := (hrest 31 (by rw [z]; exact b_m1 31 (by omega))).1
      have := hc.1 31 h6
      omega
    -- the value
    have hval : ∀ (v : Bool), (v = true → bt p k = true) → (v = false → bt p k = false) → ∀ τ, M r τ → (∀ z, bt ((p ||| q) &&& (op ^^^ (-1))) z = true → τ z = bt f_trueMask z) → τ k = v := by
      intro v v1 v2 τ hM hag
      obtain ⟨z, hz⟩ := hc.2 τ hM
      by_cases e : z = k
      · rw [e] at hz
        rcases hz with ⟨a, b⟩ | ⟨a, b⟩
        · cases v
          · rw [v2 rfl] at a; cases a
          · exact b
        · cases v
          · exact b
          · exact (zb_and0.mp h3 k (v1 rfl) a).elim
      · exfalso
        have hin : bt ((p ||| q) &&& (op ^^^ (-1))) z = true := by
          have hop : bt op z = false := zb_tf fun y => e (hone z k y hb)
          rw [zb_clr, hop, b_or]
          rcases hz with ⟨a, _⟩ | ⟨a, _⟩
          · rw [a]; rfl
          · rw [a, Bool.or_true]; rfl
        have h6 := hag z hin
        have h7 := (hrest z hin).2.2
        rcases hz with ⟨a, b⟩ | ⟨a, b⟩
        · rw [b] at h6
          exact zb_and0.mp h1 z a h6.symm
        · rw [b] at h6
          rcases h7 with y | y
          · rw [y] at h6; cases h6
          · exact zb_and0.mp h2 z a y
    have hpk : p &&& op = 0 ↔ bt p k = false := by
      constructor
      · intro z; exact zb_tf fun y => zb_and0.mp z k y hb
      · intro z
        refine zb_and0.mpr (fun i h6 h7 => ?_)
        rw [hone i k h7 hb, z] at h6
        cases h6
    refine br_c (fun h6 => ?_) (fun h6 => ?_)
    · have z := hpk.mp h6
      exact xw_asg (v := false) h l1 l2 l3 (Or.inr ⟨rfl, rfl⟩) hne (fun z hz => (hrest z hz).2.2) hr (hval false (fun y => by cases y) (fun _ => z)) (fun f_trueMask' f_falseMask' a_trail' a_levelAtoms' a_reasonAtoms' a_reasonRests' a_edgeFrom' a_edgeTo' a_edgeWeight' lv' g1 g3 => K1 (ts + 1) f_trueMask' f_falseMask' a_trail' a_levelAtoms' a_reasonAtoms' a_reasonRests' a_edgeFrom' a_edgeTo' a_edgeWeight' lv' g1 ⟨by omega, fun y => by omega⟩ (fun y => by omega))
    · have z : bt p k = true := zb_ft fun y => h6 (hpk.mpr y)
      exact xw_asg (v := true) h l1 l2 l3 (Or.inl ⟨rfl, by decide⟩) hne (fun z hz => (hrest z hz).2.2) hr (hval true (fun _ => z) (fun y => by cases y)) (fun f_trueMask' f_falseMask' a_trail' a_levelAtoms' a_reasonAtoms' a_reasonRests' a_edgeFrom' a_edgeTo' a_edgeWeight' lv' g1 g3 => K1 (ts + 1) f_trueMask' f_falseMask' a_trail' a_levelAtoms' a_reasonAtoms' a_reasonRests' a_edgeFrom' a_edgeTo' a_edgeWeight' lv' g1 ⟨by omega, fun y => by omega⟩ (fun y => by omega))
  · obtain ⟨k, hk⟩ := zb_ne0.mp h4
    rw [zb_clr, Bool.and_eq_true, Bool.not_eq_true', b_or, b_or, Bool.or_eq_false_iff, Bool.or_eq_true] at hk
    exact Or.inr ⟨k, hk.1, hk.2.1, hk.2.2⟩
  · obtain ⟨k, a, b⟩ := zb_and0n.mp h3
    cases hk : bt f_trueMask k
    · exact Or.inl ⟨k, Or.inr ⟨b, hk⟩⟩
    · exact Or.inl ⟨k, Or.inl ⟨a, hk⟩⟩
  · obtain ⟨k, a, b⟩ := zb_and0n.mp h2
    exact Or.inl ⟨k, Or.inr ⟨a, zb_tf fun z => hTR.2.2.2 k z b⟩⟩
  · obtain ⟨k, a, b⟩ := zb_and0n.mp h1
    exact Or.inl ⟨k, Or.inl ⟨a, b⟩⟩
end
end
section
section
variable {f_goalEdge f_goalRest f_atomBits f_decided f_maxVariables f_maxAtoms f_maxClauses f_maxDepth f_atomCount f_clauseCount f_depthNow f_assumedTrue f_assumedFalse f_status f_presentTrue f_coreKnown f_coreClauses f_coreAtoms f_witnessClauses f_witnessAtoms f_learnedCount f_learnedNext f_activeRests f_trueMask f_falseMask f_trailSize f_theoryHead f_level f_conflictAtoms f_conflictRests f_failedAtoms f_failedRests f_activeEdges f_goalOn : Int32} {a_kinds a_lefts a_rights a_bounds a_atomDepths a_literals a_literalCounts a_clausePos a_clauseNeg a_clauseDepths a_values a_learnedPos a_learnedNeg a_learnedRests a_trail a_levelStart a_levelAtoms a_reasonAtoms a_reasonRests a_edgeFrom a_edgeTo a_edgeWeight a_potential a_moved a_gamma a_via a_dist a_link : Nat → Int32}
variable {M : Int32 → (Nat → Bool) → Prop} {G : (Nat → Int) → Prop} {n m lc : Nat} {mt mf : Int32} {g : Bool} {s ts th L : Nat} {lv : Nat → Nat} {post : Int32 → SX → Prop}
/-- the learned clauses, from i on -/
theorem xw_pc69 {J2 : Int32 → Int32 → Int32 → Int32 → Int32 → Int32 → Int32 → Int32 → Int32 → Int32 → Int32 → Int32 → Int32 → Int32 → Int32 → Int32 → Int32 → Int32 → Int32 → Int32 → Int32 → Int32 → Int32 → Int32 → Int32 → Int32 → Int32 → Int32 → Int32 → Int32 → Int32 → Int32 → Int32 → Int32 → Int32 → (Nat → Int32) → (Nat → Int32) → (Nat → Int32) → (Nat → Int32) → (Nat → Int32) → (Nat → Int32) → (Nat → Int32) → (Nat → Int32) → (Nat → Int32) → (Nat → Int32) → (Nat → Int32) → (Nat → Int32) → (Nat → Int32) → (Nat → Int32) → (Nat → Int32) → (Nat → Int32) → (Nat → Int32) → (Nat → Int32) → (Nat → Int32) → (Nat → Int32) → (Nat → Int32) → (Nat → Int32) → (Nat → Int32) → (Nat → Int32) → (Nat → Int32) → (Nat → Int32) → (Nat → Int32) → (Nat → Int32) → Prop} {p : Nat} {tm0 fm0 : Int32} (hlc : lc ≤ 128) (hLC : cd_LC M n m g lc a_learnedPos a_learnedNeg a_learnedRests)
    (K0 : ∀ (ts' : Nat) (f_trueMask' f_falseMask' f_conflictAtoms' f_conflictRests' : Int32) (a_trail' a_levelAtoms' a_reasonAtoms' a_reasonRests' a_edgeFrom' a_edgeTo' a_edgeWeight' : Nat → Int32) (lv' : Nat → Nat), cd_ST M G n a_kinds a_lefts a_rights a_bounds mt mf f_activeRests g s ts' th L f_trueMask' f_falseMask' f_activeEdges a_trail' a_levelStart a_levelAtoms' a_reasonAtoms' a_reasonRests' a_edgeFrom' a_edgeTo' a_edgeWeight' a_potential lv' → cd_EX ts tm0 fm0 ts' f_trueMask' f_falseMask' → cd_CF M f_activeRests f_trueMask' f_falseMask' f_conflictAtoms' f_conflictRests' → post 0 (f_goalEdge, f_goalRest, f_atomBits, f_decided, f_maxVariables, f_maxAtoms, f_maxClauses, f_maxDepth, f_atomCount, nI m, f_depthNow, f_assumedTrue, f_assumedFalse, f_status, f_presentTrue, f_coreKnown, f_coreClauses, f_coreAtoms, f_witnessClauses, f_witnessAtoms, nI lc, f_learnedNext, f_activeRests, f_trueMask', f_falseMask', nI ts', f_theoryHead, nI L, f_conflictAtoms', f_conflictRests', f_failedAtoms, f_failedRests, f_activeEdges, f_goalOn, a_kinds, a_lefts, a_rights, a_bounds, a_atomDepths, a_literals, a_literalCounts, a_clausePos, a_clauseNeg, a_clauseDepths, a_values, a_learnedPos, a_learnedNeg, a_learnedRests, a_trail', a_levelStart, a_levelAtoms', a_reasonAtoms', a_reasonRests', a_edgeFrom', a_edgeTo', a_edgeWeight', a_potential, a_moved, a_gamma, a_via, a_dist, a_link))
    (KE : ∀ (ts' : Nat) (f_trueMask' f_falseMask' : Int32) (a_trail' a_levelAtoms' a_reasonAtoms' a_reasonRests' a_edgeFrom' a_edgeTo' a_edgeWeight' : Nat → Int32) (lv' : Nat → Nat), cd_ST M G n a_kinds a_lefts a_rights a_bounds mt mf f_activeRests g s ts' th L f_trueMask' f_falseMask' f_activeEdges a_trail' a_levelStart a_levelAtoms' a_reasonAtoms' a_reasonRests' a_edgeFrom' a_edgeTo' a_edgeWeight' a_potential lv' → cd_EX ts tm0 fm0 ts' f_trueMask' f_falseMask' → (ts' = ts → ∀ j, j < m → bt f_activeRests j = true → cd_OK (a_clausePos j) (a_clauseNeg j) tm0 fm0) →
      (nI ts' = nI ts → post 1 (f_goalEdge, f_goalRest, f_atomBits, f_decided, f_maxVariables, f_maxAtoms, f_maxClauses, f_maxDepth, f_atomCount, nI m, f_depthNow, f_assumedTrue, f_assumedFalse, f_status, f_presentTrue, f_coreKnown, f_coreClauses, f_coreAtoms, f_witnessClauses, f_witnessAtoms, nI lc, f_learnedNext, f_activeRests, f_trueMask', f_falseMask', nI ts', f_theoryHead, nI L, f_conflictAtoms, f_conflictRests, f_failedAtoms, f_failedRests, f_activeEdges, f_goalOn, a_kinds, a_lefts, a_rights, a_bounds, a_atomDepths, a_literals, a_literalCounts, a_clausePos, a_clauseNeg, a_clauseDepths, a_values, a_learnedPos, a_learnedNeg, a_learnedRests, a_trail', a_levelStart, a_levelAtoms', a_reasonAtoms', a_reasonRests', a_edgeFrom', a_edgeTo', a_edgeWeight', a_potential, a_moved, a_gamma, a_via, a_dist, a_link)) ∧ (¬ nI ts' = nI ts → ∀ x, x = nI p + 1 → J2 x f_goalEdge f_goalRest f_atomBits f_decided f_maxVariables f_maxAtoms f_maxClauses f_maxDepth f_atomCount (nI m) f_depthNow f_assumedTrue f_assumedFalse f_status f_presentTrue f_coreKnown f_coreClauses f_coreAtoms f_witnessClauses f_witnessAtoms (nI lc) f_learnedNext f_activeRests f_trueMask' f_falseMask' (nI ts') f_theoryHead (nI L) f_conflictAtoms f_conflictRests f_failedAtoms f_failedRests f_activeEdges f_goalOn a_kinds a_lefts a_rights a_bounds a_atomDepths a_literals a_literalCounts a_clausePos a_clauseNeg a_clauseDepths a_values a_learnedPos a_learnedNeg a_learnedRests a_trail' a_levelStart a_levelAtoms' a_reasonAtoms' a_reasonRests' a_edgeFrom' a_edgeTo' a_edgeWeight' a_potential a_moved a_gamma a_via a_dist a_link)) :
    ∀ f i (ts' : Nat) (f_trueMask' f_falseMask' : Int32) (a_trail' a_levelAtoms' a_reasonAtoms' a_reasonRests' a_edgeFrom' a_edgeTo' a_edgeWeight' : Nat → Int32) (lv' : Nat → Nat), i ≤ lc → lc < f + i → cd_ST M G n a_kinds a_lefts a_rights a_bounds mt mf f_activeRests g s ts' th L f_trueMask' f_falseMask' f_activeEdges a_trail' a_levelStart a_levelAtoms' a_reasonAtoms' a_reasonRests' a_edgeFrom' a_edgeTo' a_edgeWeight' a_potential lv' → cd_EX ts tm0 fm0 ts' f_trueMask' f_falseMask' → (ts' = ts → ∀ j, j < m → bt f_activeRests j = true → cd_OK (a_clausePos j) (a_clauseNeg j) tm0 fm0) →
      wX_propagateClauses_69 post J2 (nI p) (nI ts) f (nI i) f_goalEdge f_goalRest f_atomBits f_decided f_maxVariables f_maxAtoms f_maxClauses f_maxDepth f_atomCount (nI m) f_depthNow f_assumedTrue f_assumedFalse f_status f_presentTrue f_coreKnown f_coreClauses f_coreAtoms f_witnessClauses f_witnessAtoms (nI lc) f_learnedNext f_activeRests f_trueMask' f_falseMask' (nI ts') f_theoryHead (nI L) f_conflictAtoms f_conflictRests f_failedAtoms f_failedRests f_activeEdges f_goalOn a_kinds a_lefts a_rights a_bounds a_atomDepths a_literals a_literalCounts a_clausePos a_clauseNeg a_clauseDepths a_values a_learnedPos a_learnedNeg a_learnedRests a_trail' a_levelStart a_levelAtoms' a_reasonAtoms' a_reasonRests' a_edgeFrom' a_edgeTo' a_edgeWeight' a_potential a_moved a_gamma a_via a_dist a_link := by
  intro f
  induction f with
  | zero => intro i _ _ _ _ _ _ _ _ _ _ _ h1 h2; omega
  | succ f ih =>
    intro i ts' f_trueMask' f_falseMask' a_trail' a_levelAtoms' a_reasonAtoms' a_reasonRests' a_edgeFrom' a_edgeTo' a_edgeWeight' lv' hi hn hST hEX hacc
    have ci : (nI i).toNatClampNeg = i := nI_clamp (by omega)
    refine pk_le lc i (fun _ => KE ts' f_trueMask' f_falseMask' a_trail' a_levelAtoms' a_reasonAtoms' a_reasonRests' a_edgeFrom' a_edgeTo' a_edgeWeight' lv' hST hEX hacc) (fun hlt => ?_)
    have ii : vp_in (nI i) 128 := pk_in i 128 (by omega)
    refine And.intro ii (nm_r (e' := a_learnedRests i) (by rw [ci]) (br_c (fun h1 => And.intro ii (And.intro ii ?_)) (fun h1 => nm_r (nI_1 i) (ih (i + 1) ts' f_trueMask' f_falseMask' a_trail' a_levelAtoms' a_reasonAtoms' a_reasonRests' a_edgeFrom' a_edgeTo' a_edgeWeight' lv' (by omega) (by omega) hST hEX hacc))))
    rw [ci]
    refine xw_examine hST (hLC i hlt).1 (zb_sub.mp h1) (fun ts'' f_trueMask'' f_falseMask'' a_trail'' a_levelAtoms'' a_reasonAtoms'' a_reasonRests'' a_edgeFrom'' a_edgeTo'' a_edgeWeight'' lv'' g1 g2 g3 => br_f (by decide) (nm_r (nI_1 i) (ih (i + 1) ts'' f_trueMask'' f_falseMask'' a_trail'' a_levelAtoms'' a_reasonAtoms'' a_reasonRests'' a_edgeFrom'' a_edgeTo'' a_edgeWeight'' lv'' (by omega) (by omega) g1 (cd_EX_tr hEX g2) (fun z => hacc (by have := hEX.1; have := g2.1; omega))))) (fun hc => br_t rfl ?_)
    exact K0 ts' f_trueMask' f_falseMask' _ _ a_trail' a_levelAtoms' a_reasonAtoms' a_reasonRests' a_edgeFrom' a_edgeTo' a_edgeWeight' lv' hST hEX hc
/-- the entered clauses, from i on -/
theorem xw_pc15 {J2 : Int32 → Int32 → Int32 → Int32 → Int32 → Int32 → Int32 → Int32 → Int32 → Int32 → Int32 → Int32 → Int32 → Int32 → Int32 → Int32 → Int32 → Int32 → Int32 → Int32 → Int32 → Int32 → Int32 → Int32 → Int32 → Int32 → Int32 → Int32 → Int32 → Int32 → Int32 → Int32 → Int32 → Int32 → Int32 → (Nat → Int32) → (Nat → Int32) → (Nat → Int32) → (Nat → Int32) → (Nat → Int32) → (Nat → Int32) → (Nat → Int32) → (Nat → Int32) → (Nat → Int32) → (Nat → Int32) → (Nat → Int32) → (Nat → Int32) → (Nat → Int32) → (Nat → Int32) → (Nat → Int32) → (Nat → Int32) → (Nat → Int32) → (Nat → Int32) → (Nat → Int32) → (Nat → Int32) → (Nat → Int32) → (Nat → Int32) → (Nat → Int32) → (Nat → Int32) → (Nat → Int32) → (Nat → Int32) → (Nat → Int32) → (Nat → Int32) → Prop} {p : Nat} {tm0 fm0 : Int32} (hm : m ≤ 24) (hC : ∀ i, i < m → cd_CS M n (a_clausePos i) (a_clauseNeg i) ((1 : Int32) <<< (nI i &&& 31))) (hlc : lc ≤ 128) (hLC : cd_LC M n m g lc a_learnedPos a_learnedNeg a_learnedRests)
    (K0 : ∀ (ts' : Nat) (f_trueMask' f_falseMask' f_conflictAtoms' f_conflictRests' : Int32) (a_trail' a_levelAtoms' a_reasonAtoms' a_reasonRests' a_edgeFrom' a_edgeTo' a_edgeWeight' : Nat → Int32) (lv' : Nat → Nat), cd_ST M G n a_kinds a_lefts a_rights a_bounds mt mf f_activeRests g s ts' th L f_trueMask' f_falseMask' f_activeEdges a_trail' a_levelStart a_levelAtoms' a_reasonAtoms' a_reasonRests' a_edgeFrom' a_edgeTo' a_edgeWeight' a_potential lv' → cd_EX ts tm0 fm0 ts' f_trueMask' f_falseMask' → cd_CF M f_activeRests f_trueMask' f_falseMask' f_conflictAtoms' f_conflictRests' → post 0 (f_goalEdge, f_goalRest, f_atomBits, f_decided, f_maxVariables, f_maxAtoms, f_maxClauses, f_maxDepth, f_atomCount, nI m, f_depthNow, f_assumedTrue, f_assumedFalse, f_status, f_presentTrue, f_coreKnown, f_coreClauses, f_coreAtoms, f_witnessClauses, f_witnessAtoms, nI lc, f_learnedNext, f_activeRests, f_trueMask', f_falseMask', nI ts', f_theoryHead, nI L, f_conflictAtoms', f_conflictRests', f_failedAtoms, f_failedRests, f_activeEdges, f_goalOn, a_kinds, a_lefts, a_rights, a_bounds, a_atomDepths, a_literals, a_literalCounts, a_clausePos, a_clauseNeg, a_clauseDepths, a_values, a_learnedPos, a_learnedNeg, a_learnedRests, a_trail', a_levelStart, a_levelAtoms', a_reasonAtoms', a_reasonRests', a_edgeFrom', a_edgeTo', a_edgeWeight', a_potential, a_moved, a_gamma, a_via, a_dist, a_link))
    (KE : ∀ (ts' : Nat) (f_trueMask' f_falseMask' : Int32) (a_trail' a_levelAtoms' a_reasonAtoms' a_reasonRests' a_edgeFrom' a_edgeTo' a_edgeWeight' : Nat → Int32) (lv' : Nat → Nat), cd_ST M G n a_kinds a_lefts a_rights a_bounds mt mf f_activeRests g s ts' th L f_trueMask' f_falseMask' f_activeEdges a_trail' a_levelStart a_levelAtoms' a_reasonAtoms' a_reasonRests' a_edgeFrom' a_edgeTo' a_edgeWeight' a_potential lv' → cd_EX ts tm0 fm0 ts' f_trueMask' f_falseMask' → (ts' = ts → ∀ j, j < m → bt f_activeRests j = true → cd_OK (a_clausePos j) (a_clauseNeg j) tm0 fm0) →
      (nI ts' = nI ts → post 1 (f_goalEdge, f_goalRest, f_atomBits, f_decided, f_maxVariables, f_maxAtoms, f_maxClauses, f_maxDepth, f_atomCount, nI m, f_depthNow, f_assumedTrue, f_assumedFalse, f_status, f_presentTrue, f_coreKnown, f_coreClauses, f_coreAtoms, f_witnessClauses, f_witnessAtoms, nI lc, f_learnedNext, f_activeRests, f_trueMask', f_falseMask', nI ts', f_theoryHead, nI L, f_conflictAtoms, f_conflictRests, f_failedAtoms, f_failedRests, f_activeEdges, f_goalOn, a_kinds, a_lefts, a_rights, a_bounds, a_atomDepths, a_literals, a_literalCounts, a_clausePos, a_clauseNeg, a_clauseDepths, a_values, a_learnedPos, a_learnedNeg, a_learnedRests, a_trail', a_levelStart, a_levelAtoms', a_reasonAtoms', a_reasonRests', a_edgeFrom', a_edgeTo', a_edgeWeight', a_potential, a_moved, a_gamma, a_via, a_dist, a_link)) ∧ (¬ nI ts' = nI ts → ∀ x, x = nI p + 1 → J2 x f_goalEdge f_goalRest f_atomBits f_decided f_maxVariables f_maxAtoms f_maxClauses f_maxDepth f_atomCount (nI m) f_depthNow f_assumedTrue f_assumedFalse f_status f_presentTrue f_coreKnown f_coreClauses f_coreAtoms f_witnessClauses f_witnessAtoms (nI lc) f_learnedNext f_activeRests f_trueMask' f_falseMask' (nI ts') f_theoryHead (nI L) f_conflictAtoms f_conflictRests f_failedAtoms f_failedRests f_activeEdges f_goalOn a_kinds a_lefts a_rights a_bounds a_atomDepths a_literals a_literalCounts a_clausePos a_clauseNeg a_clauseDepths a_values a_learnedPos a_learnedNeg a_learnedRests a_trail' a_levelStart a_levelAtoms' a_reasonAtoms' a_reasonRests' a_edgeFrom' a_edgeTo' a_edgeWeight' a_potential a_moved a_gamma a_via a_dist a_link)) :
    ∀ f i (ts' : Nat) (f_trueMask' f_falseMask' : Int32) (a_trail' a_levelAtoms' a_reasonAtoms' a_reasonRests' a_edgeFrom' a_edgeTo' a_edgeWeight' : Nat → Int32) (lv' : Nat → Nat), i ≤ m → m < f + i → cd_ST M G n a_kinds a_lefts a_rights a_bounds mt mf f_activeRests g s ts' th L f_trueMask' f_falseMask' f_activeEdges a_trail' a_levelStart a_levelAtoms' a_reasonAtoms' a_reasonRests' a_edgeFrom' a_edgeTo' a_edgeWeight' a_potential lv' → cd_EX ts tm0 fm0 ts' f_trueMask' f_falseMask' → (ts' = ts → ∀ j, j < i → bt f_activeRests j = true → cd_OK (a_clausePos j) (a_clauseNeg j) tm0 fm0) →
      wX_propagateClauses_15 post J2 (nI p) (nI ts) f (nI i) f_goalEdge f_goalRest f_atomBits f_decided f_maxVariables f_maxAtoms f_maxClauses f_maxDepth f_atomCount (nI m) f_depthNow f_assumedTrue f_assumedFalse f_status f_presentTrue f_coreKnown f_coreClauses f_coreAtoms f_witnessClauses f_witnessAtoms (nI lc) f_learnedNext f_activeRests f_trueMask' f_falseMask' (nI ts') f_theoryHead (nI L) f_conflictAtoms f_conflictRests f_failedAtoms f_failedRests f_activeEdges f_goalOn a_kinds a_lefts a_rights a_bounds a_atomDepths a_literals a_literalCounts a_clausePos a_clauseNeg a_clauseDepths a_values a_learnedPos a_learnedNeg a_learnedRests a_trail' a_levelStart a_levelAtoms' a_reasonAtoms' a_reasonRests' a_edgeFrom' a_edgeTo' a_edgeWeight' a_potential a_moved a_gamma a_via a_dist a_link := by
  intro f
  induction f with
  | zero => intro i _ _ _ _ _ _ _ _ _ _ _ h1 h2; omega
  | succ f ih =>
    intro i ts' f_trueMask' f_falseMask' a_trail' a_levelAtoms' a_reasonAtoms' a_reasonRests' a_edgeFrom' a_edgeTo' a_edgeWeight' lv' hi hn hST hEX hacc
    have ci : (nI i).toNatClampNeg = i := nI_clamp (by omega)
    refine pk_le m i (fun _ => Exists.intro (lc + 1) (xw_pc69 hlc hLC K0 KE (lc + 1) 0 ts' f_trueMask' f_falseMask' a_trail' a_levelAtoms' a_reasonAtoms' a_reasonRests' a_edgeFrom' a_edgeTo' a_edgeWeight' lv' (by omega) (by omega) hST hEX (fun z j hj => hacc z j (by omega)))) (fun hlt => nm_e ?_)
    have ii : vp_in (nI i) 24 := pk_in i 24 (by omega)
    refine br_c (fun h1 => nm_r (nI_1 i) (ih (i + 1) ts' f_trueMask' f_falseMask' a_trail' a_levelAtoms' a_reasonAtoms' a_reasonRests' a_edgeFrom' a_edgeTo' a_edgeWeight' lv' (by omega) (by omega) hST hEX (fun z j hj ha => ?_))) (fun h1 => And.intro ii (And.intro ii ?_))
    · rcases Nat.lt_or_ge j i with y | y
      · exact hacc z j y ha
      · have : j = i := by omega
        subst this
        rw [(zb_and1 (by omega)).mp h1] at ha; cases ha
    · have hact : bt f_activeRests i = true := zb_ft fun z => h1 ((zb_and1 (by omega)).mpr z)
      rw [ci]
      refine xw_examine hST (hC i hlt) (fun k hk => ?_) (fun ts'' f_trueMask'' f_falseMask'' a_trail'' a_levelAtoms'' a_reasonAtoms'' a_reasonRests'' a_edgeFrom'' a_edgeTo'' a_edgeWeight'' lv'' g1 g2 g3 => br_f (by decide) (nm_r (nI_1 i) (ih (i + 1) ts'' f_trueMask'' f_falseMask'' a_trail'' a_levelAtoms'' a_reasonAtoms'' a_reasonRests'' a_edgeFrom'' a_edgeTo'' a_edgeWeight'' lv'' (by omega) (by omega) g1 (cd_EX_tr hEX g2) (fun z j hj ha => ?_)))) (fun hc => br_t rfl ?_)
      · rw [zb_bit (by omega), decide_eq_true_eq] at hk
        rw [hk]; exact hact
      · have e1 : ts' = ts := by have := hEX.1; have := g2.1; omega
        rcases Nat.lt_or_ge j i with y | y
        · exact hacc e1 j y ha
        · have : j = i := by omega
          subst this
          obtain ⟨e2, e3⟩ := hEX.2 e1
          rw [← e2, ← e3]
          exact g3 (by omega)
      · exact K0 ts' f_trueMask' f_falseMask' _ _ a_trail' a_levelAtoms' a_reasonAtoms' a_reasonRests' a_edgeFrom' a_edgeTo' a_edgeWeight' lv' hST hEX hc
/-- the passes -/
theorem xw_pclauses (hm : m ≤ 24) (hC : ∀ i, i < m → cd_CS M n (a_clausePos i) (a_clauseNeg i) ((1 : Int32) <<< (nI i &&& 31))) (hlc : lc ≤ 128) (hLC : cd_LC M n m g lc a_learnedPos a_learnedNeg a_learnedRests)
    (hST : cd_ST M G n a_kinds a_lefts a_rights a_bounds mt mf f_activeRests g s ts th L f_trueMask f_falseMask f_activeEdges a_trail a_levelStart a_levelAtoms a_reasonAtoms a_reasonRests a_edgeFrom a_edgeTo a_edgeWeight a_potential lv)
    (K0 : ∀ (ts' : Nat) (f_trueMask' f_falseMask' f_conflictAtoms' f_conflictRests' : Int32) (a_trail' a_levelAtoms' a_reasonAtoms' a_reasonRests' a_edgeFrom' a_edgeTo' a_edgeWeight' : Nat → Int32) (lv' : Nat → Nat), cd_ST M G n a_kinds a_lefts a_rights a_bounds mt mf f_activeRests g s ts' th L f_trueMask' f_falseMask' f_activeEdges a_trail' a_levelStart a_levelAtoms' a_reasonAtoms' a_reasonRests' a_edgeFrom' a_edgeTo' a_edgeWeight' a_potential lv' → ts ≤ ts' → cd_CF M f_activeRests f_trueMask' f_falseMask' f_conflictAtoms' f_conflictRests' → post 0 (f_goalEdge, f_goalRest, f_atomBits, f_decided, f_maxVariables, f_maxAtoms, f_maxClauses, f_maxDepth, f_atomCount, nI m, f_depthNow, f_assumedTrue, f_assumedFalse, f_status, f_presentTrue, f_coreKnown, f_coreClauses, f_coreAtoms, f_witnessClauses, f_witnessAtoms, nI lc, f_learnedNext, f_activeRests, f_trueMask', f_falseMask', nI ts', f_theoryHead, nI L, f_conflictAtoms', f_conflictRests', f_failedAtoms, f_failedRests, f_activeEdges, f_goalOn, a_kinds, a_lefts, a_rights, a_bounds, a_atomDepths, a_literals, a_literalCounts, a_clausePos, a_clauseNeg, a_clauseDepths, a_values, a_learnedPos, a_learnedNeg, a_learnedRests, a_trail', a_levelStart, a_levelAtoms', a_reasonAtoms', a_reasonRests', a_edgeFrom', a_edgeTo', a_edgeWeight', a_potential, a_moved, a_gamma, a_via, a_dist, a_link))
    (K1 : ∀ (ts' : Nat) (f_trueMask' f_falseMask' : Int32) (a_trail' a_levelAtoms' a_reasonAtoms' a_reasonRests' a_edgeFrom' a_edgeTo' a_edgeWeight' : Nat → Int32) (lv' : Nat → Nat), cd_ST M G n a_kinds a_lefts a_rights a_bounds mt mf f_activeRests g s ts' th L f_trueMask' f_falseMask' f_activeEdges a_trail' a_levelStart a_levelAtoms' a_reasonAtoms' a_reasonRests' a_edgeFrom' a_edgeTo' a_edgeWeight' a_potential lv' → ts ≤ ts' → (∀ j, j < m → bt f_activeRests j = true → cd_OK (a_clausePos j) (a_clauseNeg j) f_trueMask' f_falseMask') → post 1 (f_goalEdge, f_goalRest, f_atomBits, f_decided, f_maxVariables, f_maxAtoms, f_maxClauses, f_maxDepth, f_atomCount, nI m, f_depthNow, f_assumedTrue, f_assumedFalse, f_status, f_presentTrue, f_coreKnown, f_coreClauses, f_coreAtoms, f_witnessClauses, f_witnessAtoms, nI lc, f_learnedNext, f_activeRests, f_trueMask', f_falseMask', nI ts', f_theoryHead, nI L, f_conflictAtoms, f_conflictRests, f_failedAtoms, f_failedRests, f_activeEdges, f_goalOn, a_kinds, a_lefts, a_rights, a_bounds, a_atomDepths, a_literals, a_literalCounts, a_clausePos, a_clauseNeg, a_clauseDepths, a_values, a_learnedPos, a_learnedNeg, a_learnedRests, a_trail', a_levelStart, a_levelAtoms', a_reasonAtoms', a_reasonRests', a_edgeFrom', a_edgeTo', a_edgeWeight', a_potential, a_moved, a_gamma, a_via, a_dist, a_link)) :
    wpX_propagateClauses post (f_goalEdge, f_goalRest, f_atomBits, f_decided, f_maxVariables, f_maxAtoms, f_maxClauses, f_maxDepth, f_atomCount, nI m, f_depthNow, f_assumedTrue, f_assumedFalse, f_status, f_presentTrue, f_coreKnown, f_coreClauses, f_coreAtoms, f_witnessClauses, f_witnessAtoms, nI lc, f_learnedNext, f_activeRests, f_trueMask, f_falseMask, nI ts, f_theoryHead, nI L, f_conflictAtoms, f_conflictRests, f_failedAtoms, f_failedRests, f_activeEdges, f_goalOn, a_kinds, a_lefts, a_rights, a_bounds, a_atomDepths, a_literals, a_literalCounts, a_clausePos, a_clauseNeg, a_clauseDepths, a_values, a_learnedPos, a_learnedNeg, a_learnedRests, a_trail, a_levelStart, a_levelAtoms, a_reasonAtoms, a_reasonRests, a_edgeFrom, a_edgeTo, a_edgeWeight, a_potential, a_moved, a_gamma, a_via, a_dist, a_link) := by
  have key : ∀ f p (ts' : Nat) (f_trueMask' f_falseMask' : Int32) (a_trail' a_levelAtoms' a_reasonAtoms' a_reasonRests' a_edgeFrom' a_edgeTo' a_edgeWeight' : Nat → Int32) (lv' : Nat → Nat), p ≤ ts' → ts ≤ ts' → 11 < f + p → cd_ST M G n a_kinds a_lefts a_rights a_bounds mt mf f_activeRests g s ts' th L f_trueMask' f_falseMask' f_activeEdges a_trail' a_levelStart a_levelAtoms' a_reasonAtoms' a_reasonRests' a_edgeFrom' a_edgeTo' a_edgeWeight' a_potential lv' →
      wX_propagateClauses_2 post f (nI p) f_goalEdge f_goalRest f_atomBits f_decided f_maxVariables f_maxAtoms f_maxClauses f_maxDepth f_atomCount (nI m) f_depthNow f_assumedTrue f_assumedFalse f_status f_presentTrue f_coreKnown f_coreClauses f_coreAtoms f_witnessClauses f_witnessAtoms (nI lc) f_learnedNext f_activeRests f_trueMask' f_falseMask' (nI ts') f_theoryHead (nI L) f_conflictAtoms f_conflictRests f_failedAtoms f_failedRests f_activeEdges f_goalOn a_kinds a_lefts a_rights a_bounds a_atomDepths a_literals a_literalCounts a_clausePos a_clauseNeg a_clauseDepths a_values a_learnedPos a_learnedNeg a_learnedRests a_trail' a_levelStart a_levelAtoms' a_reasonAtoms' a_reasonRests' a_edgeFrom' a_edgeTo' a_edgeWeight' a_potential a_moved a_gamma a_via a_dist a_link := by
    intro f
    induction f with
    | zero =>
      intro p ts' f_trueMask' f_falseMask' a_trail' a_levelAtoms' a_reasonAtoms' a_reasonRests' a_edgeFrom' a_edgeTo' a_edgeWeight' lv' hp hts hf hS
      have := cd_room hS.1.2.1 hS.1.1
      have := hS.1.1
      omega
    | succ f ih =>
      intro p ts' f_trueMask' f_falseMask' a_trail' a_levelAtoms' a_reasonAtoms' a_reasonRests' a_edgeFrom' a_edgeTo' a_edgeWeight' lv' hp hts hf hS
      have h10 : ts' ≤ 10 := by
        have := cd_room hS.1.2.1 hS.1.1
        have := hS.1.1
        omega
      refine pk_lt 10 p (fun h => by omega) (fun h => Exists.intro (m + 1) ?_)
      refine xw_pc15 (ts := ts') (tm0 := f_trueMask') (fm0 := f_falseMask') hm hC hlc hLC (fun ts'' f_trueMask'' f_falseMask'' f_conflictAtoms'' f_conflictRests'' a_trail'' a_levelAtoms'' a_reasonAtoms'' a_reasonRests'' a_edgeFrom'' a_edgeTo'' a_edgeWeight'' lv'' g1 g2 g3 => K0 ts'' f_trueMask'' f_falseMask'' f_conflictAtoms'' f_conflictRests'' a_trail'' a_levelAtoms'' a_reasonAtoms'' a_reasonRests'' a_edgeFrom'' a_edgeTo'' a_edgeWeight'' lv'' g1 (by have := g2.1; omega) g3) (fun ts'' f_trueMask'' f_falseMask'' a_trail'' a_levelAtoms'' a_reasonAtoms'' a_reasonRests'' a_edgeFrom'' a_edgeTo'' a_edgeWeight'' lv'' g1 g2 g3 => ?_) (m + 1) 0 ts' f_trueMask' f_falseMask' a_trail' a_levelAtoms' a_reasonAtoms' a_reasonRests' a_edgeFrom' a_edgeTo' a_edgeWeight' lv' (by omega) (by omega) hS cd_EX_rf (fun _ j hj => by omega)
      have h10'' : ts'' ≤ 10 := by
        have := cd_room g1.1.2.1 g1.1.1
        have := g1.1.1
        omega
      refine br_c (fun h3 => ?_) (fun h3 => nm_r (nI_1 p) (ih (p + 1) ts'' f_trueMask'' f_falseMask'' a_trail'' a_levelAtoms'' a_reasonAtoms'' a_reasonRests'' a_edgeFrom'' a_edgeTo'' a_edgeWeight'' lv'' ?_ (by have := g2.1; omega) (by omega) g1))
      · have e1 : ts'' = ts' := (nI_eq (by omega) (by omega)).mp h3
        obtain ⟨e2, e3⟩ := g2.2 e1
        refine K1 ts'' f_trueMask'' f_falseMask'' a_trail'' a_levelAtoms'' a_reasonAtoms'' a_reasonRests'' a_edgeFrom'' a_edgeTo'' a_edgeWeight'' lv'' g1 (by omega) (fun j hj ha => ?_)
        rw [e2, e3]
        exact g3 e1 j hj ha
      · have e1 : ts'' ≠ ts' := fun z => h3 (by rw [z])
        have := g2.1
        omega
  exact Exists.intro 12 (key 12 0 ts f_trueMask f_falseMask a_trail a_levelAtoms a_reasonAtoms a_reasonRests a_edgeFrom a_edgeTo a_edgeWeight lv (by omega) (by omega) (by omega) hST)
end
end
section
/-- the next place goes into the graph: a plain atom -/
theorem st_skip {M : Int32 → (Nat → Bool) → Prop} {G : (Nat → Int) → Prop} {n : Nat} {kd lf rt bd : Nat → Int32} {mt mf ar : Int32} {g : Bool} {s ts th L : Nat} {tm fm ae : Int32} {tr ls la ra rr ef et ew pt : Nat → Int32} {lv : Nat → Nat} {k : Nat}
    (h : cd_ST M G n kd lf rt bd mt mf ar g s ts th L tm fm ae tr ls la ra rr ef et ew pt lv) (hth : th < ts) (hk : k < n) (ek : tr th = nI k) (hkd : ¬ kd k = 1) :
    cd_ST M G n kd lf rt bd mt mf ar g s ts (th + 1) L tm fm ae tr ls la ra rr ef et ew pt lv := by
  obtain ⟨h1, ⟨g1, g2, g3, g4, g5, g6⟩, h3⟩ := h
  have hn := h1.1
  refine ⟨h1, ⟨by omega, g2, g3, fun e => ?_, g5, fun v hv => ?_⟩, fun i hi hl => by have := h3 i hi hl; omega⟩
  · rw [g4 e]
    constructor
    · rintro (⟨a, b, i, hi, c⟩ | z)
      · exact Or.inl ⟨a, b, i, by omega, c⟩
      · exact Or.inr z
    · rintro (⟨a, b, i, hi, c⟩ | z)
      · refine Or.inl ⟨a, b, i, ?_, c⟩
        rcases Nat.lt_or_ge i th with y | y
        · exact y
        · have : i = th := by omega
          rw [this, ek] at c
          have := cd_10 (by omega) (by omega) c
          rw [this] at hkd
          exact (hkd b).elim
      · exact Or.inr z
  · have := g6 v hv
    omega
/-- .. a difference atom -/
theorem st_insert {M : Int32 → (Nat → Bool) → Prop} {G : (Nat → Int) → Prop} {n : Nat} {kd lf rt bd : Nat → Int32} {mt mf ar : Int32} {g : Bool} {s ts th L : Nat} {tm fm ae ae' : Int32} {tr ls la ra rr ef et ew pt pt' : Nat → Int32} {lv : Nat → Nat} {k : Nat}
    (h : cd_ST M G n kd lf rt bd mt mf ar g s ts th L tm fm ae tr ls la ra rr ef et ew pt lv) (hth : th < ts) (hk : k < n) (ek : tr th = nI k) (hkd : kd k = 1)
    (hae : ∀ e, bt ae' e = (bt ae e || decide (e = k))) (hfe : ∀ e', e' < 11 → bt ae e' = true ∨ e' = k → (pt' (et e').toNatClampNeg).toInt ≤ (pt' (ef e').toNatClampNeg).toInt + (ew e').toInt)
    (hlo : ∀ v, v < 8 → -(8000 * (11 * (s : Int) + (th : Int) + 1)) - 8000 ≤ (pt' v).toInt ∧ (pt' v).toInt ≤ 0) :
    cd_ST M G n kd lf rt bd mt mf ar g s ts (th + 1) L tm fm ae' tr ls la ra rr ef et ew pt' lv := by
  obtain ⟨h1, ⟨g1, g2, g3, g4, g5, g6⟩, h3⟩ := h
  have hn := h1.1
  refine ⟨h1, ⟨by omega, g2, g3, fun e => ?_, fun e he hb => hfe e he ?_, fun v hv => ?_⟩, fun i hi hl => by have := h3 i hi hl; omega⟩
  · rw [hae, Bool.or_eq_true, decide_eq_true_eq, g4 e]
    constructor
    · rintro ((⟨a, b, i, hi, c⟩ | z) | z)
      · exact Or.inl ⟨a, b, i, by omega, c⟩
      · exact Or.inr z
      · rw [z]; exact Or.inl ⟨hk, hkd, th, by omega, ek⟩
    · rintro (⟨a, b, i, hi, c⟩ | z)
      · rcases Nat.lt_or_ge i th with y | y
        · exact Or.inl (Or.inl ⟨a, b, i, y, c⟩)
        · have : i = th := by omega
          rw [this, ek] at c
          exact Or.inr (cd_10 (by omega) (by omega) c).symm
      · exact Or.inl (Or.inr z)
  · rw [hae, Bool.or_eq_true, decide_eq_true_eq] at hb
    exact hb
  · have := hlo v hv
    omega
section
variable {f_goalEdge f_goalRest f_atomBits f_decided f_maxVariables f_maxAtoms f_maxClauses f_maxDepth f_atomCount f_clauseCount f_depthNow f_assumedTrue f_assumedFalse f_status f_presentTrue f_coreKnown f_coreClauses f_coreAtoms f_witnessClauses f_witnessAtoms f_learnedCount f_learnedNext f_activeRests f_trueMask f_falseMask f_trailSize f_theoryHead f_level f_conflictAtoms f_conflictRests f_failedAtoms f_failedRests f_activeEdges f_goalOn : Int32} {a_kinds a_lefts a_rights a_bounds a_atomDepths a_literals a_literalCounts a_clausePos a_clauseNeg a_clauseDepths a_values a_learnedPos a_learnedNeg a_learnedRests a_trail a_levelStart a_levelAtoms a_reasonAtoms a_reasonRests a_edgeFrom a_edgeTo a_edgeWeight a_potential a_moved a_gamma a_via a_dist a_link : Nat → Int32}
variable {G : (Nat → Int) → Prop} {n m V lc : Nat} {mt mf : Int32} {g : Bool} {s ts th L : Nat} {lv : Nat → Nat} {post : Int32 → SX → Prop}
theorem xw_ptheory (hAt : ds_At V n a_kinds a_lefts a_rights a_bounds) (hV : V ≤ 8) (hg : g = true → bt f_activeRests 24 = true) (hs : s ≤ 2047)
    (hST : cd_ST (ds_M n m a_kinds a_lefts a_rights a_bounds a_clausePos a_clauseNeg G) G n a_kinds a_lefts a_rights a_bounds mt mf f_activeRests g s ts th L f_trueMask f_falseMask f_activeEdges a_trail a_levelStart a_levelAtoms a_reasonAtoms a_reasonRests a_edgeFrom a_edgeTo a_edgeWeight a_potential lv)
    (K0 : ∀ (ts' th' : Nat) (f_trueMask' f_falseMask' f_conflictAtoms' f_conflictRests' f_activeEdges' : Int32) (a_trail' a_levelAtoms' a_reasonAtoms' a_reasonRests' a_edgeFrom' a_edgeTo' a_edgeWeight' a_potential' a_moved' a_gamma' a_via' a_dist' a_link' : Nat → Int32) (lv' : Nat → Nat), cd_ST (ds_M n m a_kinds a_lefts a_rights a_bounds a_clausePos a_clauseNeg G) G n a_kinds a_lefts a_rights a_bounds mt mf f_activeRests g s ts' th' L f_trueMask' f_falseMask' f_activeEdges' a_trail' a_levelStart a_levelAtoms' a_reasonAtoms' a_reasonRests' a_edgeFrom' a_edgeTo' a_edgeWeight' a_potential' lv' → ts ≤ ts' → th' + 1 ≤ ts' → cd_CF (ds_M n m a_kinds a_lefts a_rights a_bounds a_clausePos a_clauseNeg G) f_activeRests f_trueMask' f_falseMask' f_conflictAtoms' f_conflictRests' → post 0 (f_goalEdge, f_goalRest, f_atomBits, f_decided, f_maxVariables, f_maxAtoms, f_maxClauses, f_maxDepth, nI n, f_clauseCount, f_depthNow, f_assumedTrue, f_assumedFalse, f_status, f_presentTrue, f_coreKnown, f_coreClauses, f_coreAtoms, f_witnessClauses, f_witnessAtoms, f_learnedCount, f_learnedNext, f_activeRests, f_trueMask', f_falseMask', nI ts', nI (th' + 1), nI L, f_conflictAtoms', f_conflictRests', f_failedAtoms, f_failedRests, f_activeEdges', f_goalOn, a_kinds, a_lefts, a_rights, a_bounds, a_atomDepths, a_literals, a_literalCounts, a_clausePos, a_clauseNeg, a_clauseDepths, a_values, a_learnedPos, a_learnedNeg, a_learnedRests, a_trail', a_levelStart, a_levelAtoms', a_reasonAtoms', a_reasonRests', a_edgeFrom', a_edgeTo', a_edgeWeight', a_potential', a_moved', a_gamma', a_via', a_dist', a_link'))
    (K1 : ∀ (ts' : Nat) (f_trueMask' f_falseMask' f_activeEdges' : Int32) (a_trail' a_levelAtoms' a_reasonAtoms' a_reasonRests' a_edgeFrom' a_edgeTo' a_edgeWeight' a_potential' a_moved' a_gamma' a_via' a_dist' a_link' : Nat → Int32) (lv' : Nat → Nat), cd_ST (ds_M n m a_kinds a_lefts a_rights a_bounds a_clausePos a_clauseNeg G) G n a_kinds a_lefts a_rights a_bounds mt mf f_activeRests g s ts' ts' L f_trueMask' f_falseMask' f_activeEdges' a_trail' a_levelStart a_levelAtoms' a_reasonAtoms' a_reasonRests' a_edgeFrom' a_edgeTo' a_edgeWeight' a_potential' lv' → cd_EX ts f_trueMask f_falseMask ts' f_trueMask' f_falseMask' → post 1 (f_goalEdge, f_goalRest, f_atomBits, f_decided, f_maxVariables, f_maxAtoms, f_maxClauses, f_maxDepth, nI n, f_clauseCount, f_depthNow, f_assumedTrue, f_assumedFalse, f_status, f_presentTrue, f_coreKnown, f_coreClauses, f_coreAtoms, f_witnessClauses, f_witnessAtoms, f_learnedCount, f_learnedNext, f_activeRests, f_trueMask', f_falseMask', nI ts', nI ts', nI L, f_conflictAtoms, f_conflictRests, f_failedAtoms, f_failedRests, f_activeEdges', f_goalOn, a_kinds, a_lefts, a_rights, a_bounds, a_atomDepths, a_literals, a_literalCounts, a_clausePos, a_clauseNeg, a_clauseDepths, a_values, a_learnedPos, a_learnedNeg, a_learnedRests, a_trail', a_levelStart, a_levelAtoms', a_reasonAtoms', a_reasonRests', a_edgeFrom', a_edgeTo', a_edgeWeight', a_potential', a_moved', a_gamma', a_via', a_dist', a_link')) :
    wpX_propagateTheory post (f_goalEdge, f_goalRest, f_atomBits, f_decided, f_maxVariables, f_maxAtoms, f_maxClauses, f_maxDepth, nI n, f_clauseCount, f_depthNow, f_assumedTrue, f_assumedFalse, f_status, f_presentTrue, f_coreKnown, f_coreClauses, f_coreAtoms, f_witnessClauses, f_witnessAtoms, f_learnedCount, f_learnedNext, f_activeRests, f_trueMask, f_falseMask, nI ts, nI th, nI L, f_conflictAtoms, f_conflictRests, f_failedAtoms, f_failedRests, f_activeEdges, f_goalOn, a_kinds, a_lefts, a_rights, a_bounds, a_atomDepths, a_literals, a_literalCounts, a_clausePos, a_clauseNeg, a_clauseDepths, a_values, a_learnedPos, a_learnedNeg, a_learnedRests, a_trail, a_levelStart, a_levelAtoms, a_reasonAtoms, a_reasonRests, a_edgeFrom, a_edgeTo, a_edgeWeight, a_potential, a_moved, a_gamma, a_via, a_dist, a_link) := by
  have key : ∀ f step (ts' th' : Nat) (f_trueMask' f_falseMask' f_activeEdges' : Int32) (a_trail' a_levelAtoms' a_reasonAtoms' a_reasonRests' a_edgeFrom' a_edgeTo' a_edgeWeight' a_potential' a_moved' a_gamma' a_via' a_dist' a_link' : Nat → Int32) (lv' : Nat → Nat), step ≤ th' → 10 < f + step → step ≤ 10 → cd_EX ts f_trueMask f_falseMask ts' f_trueMask' f_falseMask' → cd_ST (ds_M n m a_kinds a_lefts a_rights a_bounds a_clausePos a_clauseNeg G) G n a_kinds a_lefts a_rights a_bounds mt mf f_activeRests g s ts' th' L f_trueMask' f_falseMask' f_activeEdges' a_trail' a_levelStart a_levelAtoms' a_reasonAtoms' a_reasonRests' a_edgeFrom' a_edgeTo' a_edgeWeight' a_potential' lv' →
      wX_propagateTheory_2 post f (nI step) f_goalEdge f_goalRest f_atomBits f_decided f_maxVariables f_maxAtoms f_maxClauses f_maxDepth (nI n) f_clauseCount f_depthNow f_assumedTrue f_assumedFalse f_status f_presentTrue f_coreKnown f_coreClauses f_coreAtoms f_witnessClauses f_witnessAtoms f_learnedCount f_learnedNext f_activeRests f_trueMask' f_falseMask' (nI ts') (nI th') (nI L) f_conflictAtoms f_conflictRests f_failedAtoms f_failedRests f_activeEdges' f_goalOn a_kinds a_lefts a_rights a_bounds a_atomDepths a_literals a_literalCounts a_clausePos a_clauseNeg a_clauseDepths a_values a_learnedPos a_learnedNeg a_learnedRests a_trail' a_levelStart a_levelAtoms' a_reasonAtoms' a_reasonRests' a_edgeFrom' a_edgeTo' a_edgeWeight' a_potential' a_moved' a_gamma' a_via' a_dist' a_link' := by
    intro f
    induction f with
    | zero => intro step _ _ _ _ _ _ _ _ _ _ _ _ _ _ _ _ _ _ _ h1 h2 h3; omega
    | succ f ih =>
      intro step ts' th' f_trueMask' f_falseMask' f_activeEdges' a_trail' a_levelAtoms' a_reasonAtoms' a_reasonRests' a_edgeFrom' a_edgeTo' a_edgeWeight' a_potential' a_moved' a_gamma' a_via' a_dist' a_link' lv' hst hf hst' hEX hS
      have hn10 := hS.1.1
      have hroom := cd_room hS.1.2.1 hn10
      have hthts := hS.2.1.1
      have fin : th' = ts' → post 1 (f_goalEdge, f_goalRest, f_atomBits, f_decided, f_maxVariables, f_maxAtoms, f_maxClauses, f_maxDepth, nI n, f_clauseCount, f_depthNow, f_assumedTrue, f_assumedFalse, f_status, f_presentTrue, f_coreKnown, f_coreClauses, f_coreAtoms, f_witnessClauses, f_witnessAtoms, f_learnedCount, f_learnedNext, f_activeRests, f_trueMask', f_falseMask', nI ts', nI th', nI L, f_conflictAtoms, f_conflictRests, f_failedAtoms, f_failedRests, f_activeEdges', f_goalOn, a_kinds, a_lefts, a_rights, a_bounds, a_atomDepths, a_literals, a_literalCounts, a_clausePos, a_clauseNeg, a_clauseDepths, a_values, a_learnedPos, a_learnedNeg, a_learnedRests, a_trail', a_levelStart, a_levelAtoms', a_reasonAtoms', a_reasonRests', a_edgeFrom', a_edgeTo', a_edgeWeight', a_potential', a_moved', a_gamma', a_via', a_dist', a_link') := by
        intro z
        subst z
        exact K1 th' f_trueMask' f_falseMask' f_activeEdges' a_trail' a_levelAtoms' a_reasonAtoms' a_reasonRests' a_edgeFrom' a_edgeTo' a_edgeWeight' a_potential' a_moved' a_gamma' a_via' a_dist' a_link' lv' hS hEX
      refine pk_le 10 step (fun h => fin (by omega)) (fun h => pk_le ts' th' (fun h2 => fin (by omega)) (fun h2 => ?_))
      obtain ⟨k, hk, ek⟩ := hS.1.2.1.1 th' h2
      have cth : (nI th').toNatClampNeg = th' := nI_clamp (by omega)
      have ck : (nI k).toNatClampNeg = k := nI_clamp (by omega)
      refine And.intro (pk_in th' 10 (by omega)) (nm_r (e' := nI k) (by rw [cth]; exact ek) (nm_r (nI_1 th') (And.intro (pk_in k 10 (by omega)) ?_)))
      rw [ck]
      refine br_c (fun hkd => ?_) (fun hkd => nm_r (nI_1 step) (ih (step + 1) ts' (th' + 1) f_trueMask' f_falseMask' f_activeEdges' a_trail' a_levelAtoms' a_reasonAtoms' a_reasonRests' a_edgeFrom' a_edgeTo' a_edgeWeight' a_potential' a_moved' a_gamma' a_via' a_dist' a_link' lv' (by omega) (by omega) (by omega) hEX (st_skip hS h2 hk ek hkd)))
      obtain ⟨o1, o2, o3, o4, o5, _⟩ := cd_EM_ok hAt hV hk hkd (hS.2.1.2.2.1 th' k h2 hk ek hkd)
      refine xw_insert (e := k) (lo := -(8000 * (11 * (s : Int) + (th' : Int) + 1))) (by omega) (gi_ok hS.2.1 hAt hV) o1 o2 (by omega) o3 hS.2.1.2.2.2.2.1 (gi_lo hs (by omega)) hS.2.1.2.2.2.2.2 (fun pt mv gm vi q1 q2 => br_f (by decide) ?_) (fun es mv gm vi hcf => br_t rfl ?_)
      · refine xw_through hAt hV hg (by omega) ?_ hs (st_insert (ae' := f_activeEdges' ||| (1 : Int32) <<< (nI k &&& 31)) hS h2 hk ek hkd (fun e => by rw [b_or, zb_bit (by omega)]) q1 q2) (fun ts'' f_trueMask'' f_falseMask'' a_trail'' a_levelAtoms'' a_reasonAtoms'' a_reasonRests'' a_edgeFrom'' a_edgeTo'' a_edgeWeight'' ds lk lv'' g1 g2 => nm_r (nI_1 step) (ih (step + 1) ts'' (th' + 1) _ _ _ _ _ _ _ _ _ _ _ _ _ _ _ _ lv'' (by omega) (by omega) (by omega) (cd_EX_tr hEX g2) g1))
        rw [b_or, zb_bit (by omega), decide_eq_true rfl, Bool.or_true]
      · have hgi := gi_ae hS.2.1
        have hes : ∀ q, bt es q = true → (q < n ∧ a_kinds q = 1 ∧ ∃ i, i < ts' ∧ a_trail' i = nI q) ∨ (q = 10 ∧ g = true) := by
          intro q hq
          rcases (hcf.1 q hq).2 with z | z
          · exact hgi q z
          · rw [z]; exact Or.inl ⟨hk, hkd, th', h2, ek⟩
        refine K0 ts' th' _ _ _ _ _ _ _ _ _ _ _ _ _ _ _ _ _ _ lv' hS hEX.1 (by omega) ⟨fun q hq => ?_, fun q hq => ?_, fun τ hM hag => ?_⟩
        · rw [b_and, Bool.and_eq_true, zb_1023, decide_eq_true_eq] at hq
          rcases hes q hq.1 with ⟨z1, z2, i, z3, z4⟩ | ⟨z, _⟩
          · exact (hS.1.2.1.2.2.1 q).mpr ⟨z1, i, z3, z4⟩
          · omega
        · cases h10 : bt es 10
          · rw [h10] at hq
            simp only [Bool.false_eq_true, if_false] at hq
            rw [b_0] at hq; cases hq
          · rw [h10] at hq
            simp only [if_true] at hq
            rw [zb_g24, decide_eq_true_eq] at hq
            rcases hes 10 h10 with ⟨z1, _⟩ | ⟨_, z⟩
            · omega
            · rw [hq]; exact hg z
        · obtain ⟨σ, m1, m2⟩ := gi_sat hS.2.1 hAt hV hn10 hes hM (fun h10 => by rw [h10]; simp only [if_true]; rw [zb_g24, decide_eq_true rfl]) (fun q hq h10 => hag q (by rw [b_and, hq, zb_1023, decide_eq_true h10]; rfl))
          exact hcf.2.2 σ m2
  exact Exists.intro 11 (key 11 0 ts th f_trueMask f_falseMask f_activeEdges a_trail a_levelAtoms a_reasonAtoms a_reasonRests a_edgeFrom a_edgeTo a_edgeWeight a_potential a_moved a_gamma a_via a_dist a_link lv (by omega) (by omega) (by omega) cd_EX_rf hST)
/-- rounds of clauses and theory -/
theorem xw_propagate (hAt : ds_At V n a_kinds a_lefts a_rights a_bounds) (hV : V ≤ 8) (hg : g = true → bt f_activeRests 24 = true) (hs : s ≤ 2047)
    (hm : m ≤ 24) (hC : ∀ i, i < m → ∀ k, bt (a_clausePos i) k = true ∨ bt (a_clauseNeg i) k = true → k < n) (hlc : lc ≤ 128) (hLC : cd_LC (ds_M n m a_kinds a_lefts a_rights a_bounds a_clausePos a_clauseNeg G) n m g lc a_learnedPos a_learnedNeg a_learnedRests)
    (hST : cd_ST (ds_M n m a_kinds a_lefts a_rights a_bounds a_clausePos a_clauseNeg G) G n a_kinds a_lefts a_rights a_bounds mt mf f_activeRests g s ts th L f_trueMask f_falseMask f_activeEdges a_trail a_levelStart a_levelAtoms a_reasonAtoms a_reasonRests a_edgeFrom a_edgeTo a_edgeWeight a_potential lv)
    (K0 : ∀ (ts' th' thx : Nat) (f_trueMask' f_falseMask' f_conflictAtoms' f_conflictRests' f_activeEdges' : Int32) (a_trail' a_levelAtoms' a_reasonAtoms' a_reasonRests' a_edgeFrom' a_edgeTo' a_edgeWeight' a_potential' a_moved' a_gamma' a_via' a_dist' a_link' : Nat → Int32) (lv' : Nat → Nat), cd_ST (ds_M n m a_kinds a_lefts a_rights a_bounds a_clausePos a_clauseNeg G) G n a_kinds a_lefts a_rights a_bounds mt mf f_activeRests g s ts' th' L f_trueMask' f_falseMask' f_activeEdges' a_trail' a_levelStart a_levelAtoms' a_reasonAtoms' a_reasonRests' a_edgeFrom' a_edgeTo' a_edgeWeight' a_potential' lv' → th' ≤ thx → thx ≤ ts' → cd_CF (ds_M n m a_kinds a_lefts a_rights a_bounds a_clausePos a_clauseNeg G) f_activeRests f_trueMask' f_falseMask' f_conflictAtoms' f_conflictRests' → post 0 (f_goalEdge, f_goalRest, f_atomBits, f_decided, f_maxVariables, f_maxAtoms, f_maxClauses, f_maxDepth, nI n, nI m, f_depthNow, f_assumedTrue, f_assumedFalse, f_status, f_presentTrue, f_coreKnown, f_coreClauses, f_coreAtoms, f_witnessClauses, f_witnessAtoms, nI lc, f_learnedNext, f_activeRests, f_trueMask', f_falseMask', nI ts', nI thx, nI L, f_conflictAtoms', f_conflictRests', f_failedAtoms, f_failedRests, f_activeEdges', f_goalOn, a_kinds, a_lefts, a_rights, a_bounds, a_atomDepths, a_literals, a_literalCounts, a_clausePos, a_clauseNeg, a_clauseDepths, a_values, a_learnedPos, a_learnedNeg, a_learnedRests, a_trail', a_levelStart, a_levelAtoms', a_reasonAtoms', a_reasonRests', a_edgeFrom', a_edgeTo', a_edgeWeight', a_potential', a_moved', a_gamma', a_via', a_dist', a_link'))
    (K1 : ∀ (ts' : Nat) (f_trueMask' f_falseMask' f_activeEdges' : Int32) (a_trail' a_levelAtoms' a_reasonAtoms' a_reasonRests' a_edgeFrom' a_edgeTo' a_edgeWeight' a_potential' a_moved' a_gamma' a_via' a_dist' a_link' : Nat → Int32) (lv' : Nat → Nat), cd_ST (ds_M n m a_kinds a_lefts a_rights a_bounds a_clausePos a_clauseNeg G) G n a_kinds a_lefts a_rights a_bounds mt mf f_activeRests g s ts' ts' L f_trueMask' f_falseMask' f_activeEdges' a_trail' a_levelStart a_levelAtoms' a_reasonAtoms' a_reasonRests' a_edgeFrom' a_edgeTo' a_edgeWeight' a_potential' lv' → (∀ j, j < m → bt f_activeRests j = true → cd_OK (a_clausePos j) (a_clauseNeg j) f_trueMask' f_falseMask') → post 1 (f_goalEdge, f_goalRest, f_atomBits, f_decided, f_maxVariables, f_maxAtoms, f_maxClauses, f_maxDepth, nI n, nI m, f_depthNow, f_assumedTrue, f_assumedFalse, f_status, f_presentTrue, f_coreKnown, f_coreClauses, f_coreAtoms, f_witnessClauses, f_witnessAtoms, nI lc, f_learnedNext, f_activeRests, f_trueMask', f_falseMask', nI ts', nI ts', nI L, f_conflictAtoms, f_conflictRests, f_failedAtoms, f_failedRests, f_activeEdges', f_goalOn, a_kinds, a_lefts, a_rights, a_bounds, a_atomDepths, a_literals, a_literalCounts, a_clausePos, a_clauseNeg, a_clauseDepths, a_values, a_learnedPos, a_learnedNeg, a_learnedRests, a_trail', a_levelStart, a_levelAtoms', a_reasonAtoms', a_reasonRests', a_edgeFrom', a_edgeTo', a_edgeWeight', a_potential', a_moved', a_gamma', a_via', a_dist', a_link')) :
    wpX_propagate post (f_goalEdge, f_goalRest, f_atomBits, f_decided, f_maxVariables, f_maxAtoms, f_maxClauses, f_maxDepth, nI n, nI m, f_depthNow, f_assumedTrue, f_assumedFalse, f_status, f_presentTrue, f_coreKnown, f_coreClauses, f_coreAtoms, f_witnessClauses, f_witnessAtoms, nI lc, f_learnedNext, f_activeRests, f_trueMask, f_falseMask, nI ts, nI th, nI L, f_conflictAtoms, f_conflictRests, f_failedAtoms, f_failedRests, f_activeEdges, f_goalOn, a_kinds, a_lefts, a_rights, a_bounds, a_atomDepths, a_literals, a_literalCounts, a_clausePos, a_clauseNeg, a_clauseDepths, a_values, a_learnedPos, a_learnedNeg, a_learnedRests, a_trail, a_levelStart, a_levelAtoms, a_reasonAtoms, a_reasonRests, a_edgeFrom, a_edgeTo, a_edgeWeight, a_potential, a_moved, a_gamma, a_via, a_dist, a_link) := by
  have hC' : ∀ i, i < m → cd_CS (ds_M n m a_kinds a_lefts a_rights a_bounds a_clausePos a_clauseNeg G) n (a_clausePos i) (a_clauseNeg i) ((1 : Int32) <<< (nI i &&& 31)) := by
    intro i hi
    refine ⟨hC i hi, fun τ ⟨σ, m1, m2, m3⟩ => m2 i hi ?_⟩
    rw [zb_bit (by omega), decide_eq_true rfl]
  have key : ∀ f p (ts' th' : Nat) (f_trueMask' f_falseMask' f_activeEdges' : Int32) (a_trail' a_levelAtoms' a_reasonAtoms' a_reasonRests' a_edgeFrom' a_edgeTo' a_edgeWeight' a_potential' a_moved' a_gamma' a_via' a_dist' a_link' : Nat → Int32) (lv' : Nat → Nat), p ≤ ts' → 11 < f + p → cd_ST (ds_M n m a_kinds a_lefts a_rights a_bounds a_clausePos a_clauseNeg G) G n a_kinds a_lefts a_rights a_bounds mt mf f_activeRests g s ts' th' L f_trueMask' f_falseMask' f_activeEdges' a_trail' a_levelStart a_levelAtoms' a_reasonAtoms' a_reasonRests' a_edgeFrom' a_edgeTo' a_edgeWeight' a_potential' lv' →
      wX_propagate_2 post f (nI p) f_goalEdge f_goalRest f_atomBits f_decided f_maxVariables f_maxAtoms f_maxClauses f_maxDepth (nI n) (nI m) f_depthNow f_assumedTrue f_assumedFalse f_status f_presentTrue f_coreKnown f_coreClauses f_coreAtoms f_witnessClauses f_witnessAtoms (nI lc) f_learnedNext f_activeRests f_trueMask' f_falseMask' (nI ts') (nI th') (nI L) f_conflictAtoms f_conflictRests f_failedAtoms f_failedRests f_activeEdges' f_goalOn a_kinds a_lefts a_rights a_bounds a_atomDepths a_literals a_literalCounts a_clausePos a_clauseNeg a_clauseDepths a_values a_learnedPos a_learnedNeg a_learnedRests a_trail' a_levelStart a_levelAtoms' a_reasonAtoms' a_reasonRests' a_edgeFrom' a_edgeTo' a_edgeWeight' a_potential' a_moved' a_gamma' a_via' a_dist' a_link' := by
    intro f
    induction f with
    | zero =>
      intro p ts' th' f_trueMask' f_falseMask' f_activeEdges' a_trail' a_levelAtoms' a_reasonAtoms' a_reasonRests' a_edgeFrom' a_edgeTo' a_edgeWeight' a_potential' a_moved' a_gamma' a_via' a_dist' a_link' lv' hp hf hS
      have := cd_room hS.1.2.1 hS.1.1
      have := hS.1.1
      omega
    | succ f ih =>
      intro p ts' th' f_trueMask' f_falseMask' f_activeEdges' a_trail' a_levelAtoms' a_reasonAtoms' a_reasonRests' a_edgeFrom' a_edgeTo' a_edgeWeight' a_potential' a_moved' a_gamma' a_via' a_dist' a_link' lv' hp hf hS
      have h10 : ts' ≤ 10 := by
        have := cd_room hS.1.2.1 hS.1.1
        have := hS.1.1
        omega
      refine pk_lt 10 p (fun h => by omega) (fun h => ?_)
      refine xw_pclauses hm hC' hlc hLC hS (fun ts'' f_trueMask'' f_falseMask'' f_conflictAtoms'' f_conflictRests'' a_trail'' a_levelAtoms'' a_reasonAtoms'' a_reasonRests'' a_edgeFrom'' a_edgeTo'' a_edgeWeight'' lv'' g1 g2 g3 => br_t rfl ?_) (fun ts'' f_trueMask'' f_falseMask'' a_trail'' a_levelAtoms'' a_reasonAtoms'' a_reasonRests'' a_edgeFrom'' a_edgeTo'' a_edgeWeight'' lv'' g1 g2 g3 => br_f (by decide) ?_)
      · exact K0 ts'' th' th' _ _ _ _ _ _ _ _ _ _ _ _ _ _ _ _ _ _ lv'' g1 (Nat.le_refl _) g1.2.1.1 g3
      · refine xw_ptheory hAt hV hg hs g1 (fun ts3 th3 f_trueMask''' f_falseMask''' f_conflictAtoms''' f_conflictRests''' f_activeEdges''' a_trail''' a_levelAtoms''' a_reasonAtoms''' a_reasonRests''' a_edgeFrom''' a_edgeTo''' a_edgeWeight''' a_potential''' a_moved''' a_gamma''' a_via''' a_dist''' a_link''' lv3 q1 q2 q3 q4 => br_t rfl ?_) (fun ts3 f_trueMask''' f_falseMask''' f_activeEdges''' a_trail''' a_levelAtoms''' a_reasonAtoms''' a_reasonRests''' a_edgeFrom''' a_edgeTo''' a_edgeWeight''' a_potential''' a_moved''' a_gamma''' a_via''' a_dist''' a_link''' lv3 q1 q2 => br_f (by decide) (br_c (fun h5 => ?_) (fun h5 => nm_r (nI_1 p) (ih (p + 1) ts3 ts3 f_trueMask''' f_falseMask''' f_activeEdges''' a_trail''' a_levelAtoms''' a_reasonAtoms''' a_reasonRests''' a_edgeFrom''' a_edgeTo''' a_edgeWeight''' a_potential''' a_moved''' a_gamma''' a_via''' a_dist''' a_link''' lv3 ?_ (by omega) q1))))
        · exact K0 ts3 th3 (th3 + 1) _ _ _ _ _ _ _ _ _ _ _ _ _ _ _ _ _ _ lv3 q1 (by omega) q3 q4
        · have h11 : ts3 ≤ 10 := by
            have := cd_room q1.1.2.1 q1.1.1
            have := q1.1.1
            omega
          have h12 : ts'' ≤ 10 := by
            have := cd_room g1.1.2.1 g1.1.1
            have := g1.1.1
            omega
          have e1 : ts3 = ts'' := (nI_eq (by omega) (by omega)).mp h5
          obtain ⟨e2, e3⟩ := q2.2 e1
          refine K1 ts3 f_trueMask''' f_falseMask''' f_activeEdges''' a_trail''' a_levelAtoms''' a_reasonAtoms''' a_reasonRests''' a_edgeFrom''' a_edgeTo''' a_edgeWeight''' a_potential''' a_moved''' a_gamma''' a_via''' a_dist''' a_link''' lv3 q1 (fun j hj ha => ?_)
          rw [e2, e3]
          exact g3 j hj ha
        · have e1 : ts3 ≠ ts'' := fun z => h5 (by rw [z])
          have := q2.1
          omega
  exact Exists.intro 12 (key 12 0 ts th f_trueMask f_falseMask f_activeEdges a_trail a_levelAtoms a_reasonAtoms a_reasonRests a_edgeFrom a_edgeTo a_edgeWeight a_potential a_moved a_gamma a_via a_dist a_link lv (by omega) (by omega) hST)
end
end
section
theorem zi_pm (c : Nat) : nI c + (-1) = nI c - 1 := (Int32.sub_eq_add_neg (nI c) 1).symm
section
variable {f_goalEdge f_goalRest f_atomBits f_decided f_maxVariables f_maxAtoms f_maxClauses f_maxDepth f_atomCount f_clauseCount f_depthNow f_assumedTrue f_assumedFalse f_status f_presentTrue f_coreKnown f_coreClauses f_coreAtoms f_witnessClauses f_witnessAtoms f_learnedCount f_learnedNext f_activeRests f_trueMask f_falseMask f_trailSize f_theoryHead f_level f_conflictAtoms f_conflictRests f_failedAtoms f_failedRests f_activeEdges f_goalOn : Int32} {a_kinds a_lefts a_rights a_bounds a_atomDepths a_literals a_literalCounts a_clausePos a_clauseNeg a_clauseDepths a_values a_learnedPos a_learnedNeg a_learnedRests a_trail a_levelStart a_levelAtoms a_reasonAtoms a_reasonRests a_edgeFrom a_edgeTo a_edgeWeight a_potential a_moved a_gamma a_via a_dist a_link : Nat → Int32}
variable {M : Int32 → (Nat → Bool) → Prop} {G : (Nat → Int) → Prop} {n m lc : Nat} {mt mf : Int32} {g : Bool} {s ts th L : Nat} {lv : Nat → Nat}
theorem xw_explain {post : SX → Prop} {p r u : Int32} {b0 : Nat} {Bad : (Nat → Bool) → Prop} (hmono : cd_Mono M)
    (hSI : cd_SI M n mt mf f_activeRests s ts L f_trueMask f_falseMask a_trail a_levelStart a_levelAtoms a_reasonAtoms a_reasonRests lv)
    (hp : ∀ q, bt p q = true → bt f_trueMask q = true ∨ bt f_falseMask q = true) (hpl : ∀ q i, bt p q = true → i < ts → a_trail i = nI q → lv i ≤ b0) (hr : ∀ q, bt r q = true → bt f_activeRests q = true)
    (hbad : ∀ τ, M r τ → (∀ q, bt p q = true → τ q = bt f_trueMask q) → Bad τ)
    (K : ∀ fx fr, (∀ q, bt fx q = true → bt u q = true ∨ (a_reasonAtoms q = -1 ∧ q < 10 ∧ ∃ i, i < ts ∧ a_trail i = nI q ∧ lv i ≤ b0)) → (∀ q, bt u q = true → bt fx q = true) → (∀ q, bt fr q = true → bt f_activeRests q = true) →
      (∀ τ, M fr τ → (∀ q i, bt fx q = true → q < 10 → i < ts → a_trail i = nI q → a_reasonAtoms q = -1 → τ q = bt f_trueMask q) → Bad τ) → post (f_goalEdge, f_goalRest, f_atomBits, f_decided, f_maxVariables, f_maxAtoms, f_maxClauses, f_maxDepth, f_atomCount, f_clauseCount, f_depthNow, f_assumedTrue, f_assumedFalse, f_status, f_presentTrue, f_coreKnown, f_coreClauses, f_coreAtoms, f_witnessClauses, f_witnessAtoms, f_learnedCount, f_learnedNext, f_activeRests, f_trueMask, f_falseMask, nI ts, f_theoryHead, f_level, f_conflictAtoms, f_conflictRests, fx, fr, f_activeEdges, f_goalOn, a_kinds, a_lefts, a_rights, a_bounds, a_atomDepths, a_literals, a_literalCounts, a_clausePos, a_clauseNeg, a_clauseDepths, a_values, a_learnedPos, a_learnedNeg, a_learnedRests, a_trail, a_levelStart, a_levelAtoms, a_reasonAtoms, a_reasonRests, a_edgeFrom, a_edgeTo, a_edgeWeight, a_potential, a_moved, a_gamma, a_via, a_dist, a_link)) :
    wpX_explainFailure post (f_goalEdge, f_goalRest, f_atomBits, f_decided, f_maxVariables, f_maxAtoms, f_maxClauses, f_maxDepth, f_atomCount, f_clauseCount, f_depthNow, f_assumedTrue, f_assumedFalse, f_status, f_presentTrue, f_coreKnown, f_coreClauses, f_coreAtoms, f_witnessClauses, f_witnessAtoms, f_learnedCount, f_learnedNext, f_activeRests, f_trueMask, f_falseMask, nI ts, f_theoryHead, f_level, f_conflictAtoms, f_conflictRests, f_failedAtoms, f_failedRests, f_activeEdges, f_goalOn, a_kinds, a_lefts, a_rights, a_bounds, a_atomDepths, a_literals, a_literalCounts, a_clausePos, a_clauseNeg, a_clauseDepths, a_values, a_learnedPos, a_learnedNeg, a_learnedRests, a_trail, a_levelStart, a_levelAtoms, a_reasonAtoms, a_reasonRests, a_edgeFrom, a_edgeTo, a_edgeWeight, a_potential, a_moved, a_gamma, a_via, a_dist, a_link) p r u := by
  obtain ⟨hn, hTR, hLV, hRS, hDC, hph⟩ := hSI
  have hroom := cd_room hTR hn
  have key : ∀ c f x4 x5 x6, c < f → c ≤ ts → (∀ q, bt x4 q = true → bt f_trueMask q = true ∨ bt f_falseMask q = true) → (∀ q i, bt x4 q = true → i < ts → a_trail i = nI q → lv i ≤ b0) → (∀ q, bt x5 q = true → bt f_activeRests q = true) →
      (∀ q, bt x6 q = true → bt u q = true ∨ (a_reasonAtoms q = -1 ∧ q < 10 ∧ ∃ i, i < ts ∧ a_trail i = nI q ∧ lv i ≤ b0)) → (∀ q, bt u q = true → bt x6 q = true) →
      (∀ τ, M x5 τ → (∀ q i, bt x6 q = true → q < 10 → i < ts → a_trail i = nI q → a_reasonAtoms q = -1 → τ q = bt f_trueMask q) → (∀ q i, bt x4 q = true → q < 10 → i < c → a_trail i = nI q → τ q = bt f_trueMask q) → Bad τ) →
      wX_explainFailure_17 post f_goalEdge f_goalRest f_atomBits f_decided f_maxVariables f_maxAtoms f_maxClauses f_maxDepth f_atomCount f_clauseCount f_depthNow f_assumedTrue f_assumedFalse f_status f_presentTrue f_coreKnown f_coreClauses f_coreAtoms f_witnessClauses f_witnessAtoms f_learnedCount f_learnedNext f_activeRests f_trueMask f_falseMask (nI ts) f_theoryHead f_level f_conflictAtoms f_conflictRests f_failedAtoms f_failedRests f_activeEdges f_goalOn a_kinds a_lefts a_rights a_bounds a_atomDepths a_literals a_literalCounts a_clausePos a_clauseNeg a_clauseDepths a_values a_learnedPos a_learnedNeg a_learnedRests a_trail a_levelStart a_levelAtoms a_reasonAtoms a_reasonRests a_edgeFrom a_edgeTo a_edgeWeight a_potential a_moved a_gamma a_via a_dist a_link f x4 x5 x6 (nI c - 1) := by
    intro c
    induction c with
    | zero =>
      intro f x4 x5 x6 hf hc h1 hlb h2 h3 h4 h5
      cases f with
      | zero => omega
      | succ f => exact br_t (by decide) (K x6 x5 h3 h4 h2 (fun τ a b => h5 τ a b (fun q i _ _ hi => by omega)))
    | succ c ih =>
      intro f x4 x5 x6 hf hc h1 hlb h2 h3 h4 h5
      cases f with
      | zero => omega
      | succ f =>
        obtain ⟨k, hk, ek⟩ := hTR.1 c (by omega)
        have cc : (nI c).toNatClampNeg = c := nI_clamp (by omega)
        have ck : (nI k).toNatClampNeg = k := nI_clamp (by omega)
        have ik : vp_in (nI k) 10 := pk_in k 10 (by omega)
        rw [nI_pred]
        refine br_f (nI_pos (by omega)) (And.intro (pk_in c 10 (by omega)) (nm_r (e' := nI k) (by rw [cc]; exact ek) (nm_e (br_c (fun hb => nm_r (zi_pm c) (ih f x4 x5 x6 (by omega) (by omega) h1 hlb h2 h3 h4 ?_)) (fun hb => And.intro ik ?_)))))
        · have hb' : bt x4 k = false := (zb_and1 (by omega)).mp hb
          intro τ a b d
          refine h5 τ a b (fun q i hq hq10 hi e => ?_)
          rcases Nat.lt_or_ge i c with y | y
          · exact d q i hq hq10 y e
          · have : i = c := by omega
            rw [this, ek] at e
            rw [← cd_10 (by omega) hq10 e, hb'] at hq
            cases hq
        · have hb' : bt x4 k = true := zb_ft fun z => hb ((zb_and1 (by omega)).mpr z)
          rw [ck]
          refine br_c (fun hd => nm_e (nm_r (zi_pm c) (ih f _ _ _ (by omega) (by omega) h1 hlb h2 (fun q hq => ?_) (fun q hq => ?_) ?_))) (fun hd => And.intro ik (nm_e (And.intro ik (nm_e (nm_r (zi_pm c) ?_)))))
          · rw [b_or, Bool.or_eq_true, zb_bit (by omega), decide_eq_true_eq] at hq
            rcases hq with z | z
            · exact h3 q z
            · rw [z]; exact Or.inr ⟨hd, by omega, c, by omega, ek, hlb k c hb' (by omega) ek⟩
          · rw [b_or, h4 q hq]; rfl
          · intro τ a b d
            refine h5 τ a (fun q i hq => b q i (by rw [b_or, hq]; rfl)) (fun q i hq hq10 hi e => ?_)
            rcases Nat.lt_or_ge i c with y | y
            · exact d q i hq hq10 y e
            · have : i = c := by omega
              rw [this, ek] at e
              rw [← cd_10 (by omega) hq10 e]
              exact b k c (by rw [b_or, zb_bit (by omega), decide_eq_true rfl, Bool.or_true]) (by omega) (by omega) ek hd
          · obtain ⟨r1, r2, r3⟩ := hRS c k (by omega) (by omega) ek hd
            refine ih f _ _ _ (by omega) (by omega) (fun q hq => ?_) (fun q i hq hi e => ?_) (fun q hq => ?_) h3 h4 ?_
            · rw [b_or, Bool.or_eq_true] at hq
              rcases hq with z | z
              · exact h1 q z
              · obtain ⟨y1, i, y2, y3⟩ := r1 q z
                obtain ⟨k', hk', ek'⟩ := hTR.1 i (by omega)
                have : k' = q := cd_10 (by omega) y1 (by rw [← ek', y3])
                exact (hTR.2.2.1 q).mpr ⟨by omega, i, by omega, y3⟩
            · rw [b_or, Bool.or_eq_true] at hq
              rcases hq with z | z
              · exact hlb q i z hi e
              · obtain ⟨y1, i', y2, y3⟩ := r1 q z
                have : i = i' := hTR.2.1 i i' hi (by omega) (by rw [e, y3])
                have h6 := hLV.1 i' c (by omega) (by omega)
                have h7 := hlb k c hb' (by omega) ek
                rw [this]
                omega
            · rw [b_or, Bool.or_eq_true] at hq
              rcases hq with z | z
              · exact h2 q z
              · exact r2 q z
            · intro τ a b d
              have a1 : M x5 τ := hmono _ _ _ (fun i hi => by rw [b_or, hi]; rfl) a
              have a2 : M (a_reasonRests k) τ := hmono _ _ _ (fun i hi => by rw [b_or, hi, Bool.or_true]) a
              refine h5 τ a1 b (fun q i hq hq10 hi e => ?_)
              rcases Nat.lt_or_ge i c with y | y
              · exact d q i (by rw [b_or, hq]; rfl) hq10 y e
              · have : i = c := by omega
                rw [this, ek] at e
                rw [← cd_10 (by omega) hq10 e]
                refine r3 τ a2 (fun z hz => ?_)
                obtain ⟨y1, i', y2, y3⟩ := r1 z hz
                exact d z i' (by rw [b_or, hz, Bool.or_true]) y1 y2 y3
  refine nm_e (Exists.intro (ts + 1) (key ts (ts + 1) p r u (by omega) (Nat.le_refl _) hp hpl hr (fun q hq => Or.inl hq) (fun q hq => hq) (fun τ a b d => hbad τ a (fun q hq => ?_))))
  obtain ⟨y1, i, y2, y3⟩ := (hTR.2.2.1 q).mp (hp q hq)
  exact d q i hq (by omega) y2 y3
theorem xw_store {post : SX → Prop} {p q r : Int32} (hlc : lc ≤ 128) (hLC : cd_LC M n m g lc a_learnedPos a_learnedNeg a_learnedRests) (hc : cd_CS M n p q r) (hr : ∀ k, bt r k = true → k < m ∨ (k = 24 ∧ g = true))
    (K : ∀ (lc' : Nat) (nx : Int32) (a_learnedPos' a_learnedNeg' a_learnedRests' : Nat → Int32), lc' ≤ 128 → cd_LC M n m g lc' a_learnedPos' a_learnedNeg' a_learnedRests' → post (f_goalEdge, f_goalRest, f_atomBits, f_decided, f_maxVariables, f_maxAtoms, f_maxClauses, f_maxDepth, f_atomCount, f_clauseCount, f_depthNow, f_assumedTrue, f_assumedFalse, f_status, f_presentTrue, f_coreKnown, f_coreClauses, f_coreAtoms, f_witnessClauses, f_witnessAtoms, nI lc', nx, f_activeRests, f_trueMask, f_falseMask, f_trailSize, f_theoryHead, f_level, f_conflictAtoms, f_conflictRests, f_failedAtoms, f_failedRests, f_activeEdges, f_goalOn, a_kinds, a_lefts, a_rights, a_bounds, a_atomDepths, a_literals, a_literalCounts, a_clausePos, a_clauseNeg, a_clauseDepths, a_values, a_learnedPos', a_learnedNeg', a_learnedRests', a_trail, a_levelStart, a_levelAtoms, a_reasonAtoms, a_reasonRests, a_edgeFrom, a_edgeTo, a_edgeWeight, a_potential, a_moved, a_gamma, a_via, a_dist, a_link)) :
    wpX_store post (f_goalEdge, f_goalRest, f_atomBits, f_decided, f_maxVariables, f_maxAtoms, f_maxClauses, f_maxDepth, f_atomCount, f_clauseCount, f_depthNow, f_assumedTrue, f_assumedFalse, f_status, f_presentTrue, f_coreKnown, f_coreClauses, f_coreAtoms, f_witnessClauses, f_witnessAtoms, nI lc, f_learnedNext, f_activeRests, f_trueMask, f_falseMask, f_trailSize, f_theoryHead, f_level, f_conflictAtoms, f_conflictRests, f_failedAtoms, f_failedRests, f_activeEdges, f_goalOn, a_kinds, a_lefts, a_rights, a_bounds, a_atomDepths, a_literals, a_literalCounts, a_clausePos, a_clauseNeg, a_clauseDepths, a_values, a_learnedPos, a_learnedNeg, a_learnedRests, a_trail, a_levelStart, a_levelAtoms, a_reasonAtoms, a_reasonRests, a_edgeFrom, a_edgeTo, a_edgeWeight, a_potential, a_moved, a_gamma, a_via, a_dist, a_link) p q r := by
  have put : ∀ (pl lc' : Nat) (nx : Int32), pl < 128 → lc' ≤ 128 → (∀ i, i < lc' → i = pl ∨ i < lc) → wX_store_110 post p q r (nI pl) f_goalEdge f_goalRest f_atomBits f_decided f_maxVariables f_maxAtoms f_maxClauses f_maxDepth f_atomCount f_clauseCount f_depthNow f_assumedTrue f_assumedFalse f_status f_presentTrue f_coreKnown f_coreClauses f_coreAtoms f_witnessClauses f_witnessAtoms (nI lc') nx f_activeRests f_trueMask f_falseMask f_trailSize f_theoryHead f_level f_conflictAtoms f_conflictRests f_failedAtoms f_failedRests f_activeEdges f_goalOn a_kinds a_lefts a_rights a_bounds a_atomDepths a_literals a_literalCounts a_clausePos a_clauseNeg a_clauseDepths a_values a_learnedPos a_learnedNeg a_learnedRests a_trail a_levelStart a_levelAtoms a_reasonAtoms a_reasonRests a_edgeFrom a_edgeTo a_edgeWeight a_potential a_moved a_gamma a_via a_dist a_link := by
    intro pl lc' nx hpl hlc' hsub
    have cp : (nI pl).toNatClampNeg = pl := nI_clamp (by omega)
    have ip : vp_in (nI pl) 128 := pk_in pl 128 hpl
    refine And.intro ip (nm_e (And.intro ip (nm_e (And.intro ip (nm_e ?_)))))
    rw [cp]
    refine K lc' nx _ _ _ hlc' (fun i hi => ?_)
    by_cases e : i = pl
    · rw [e, pk_us, pk_us, pk_us]; exact ⟨hc, hr⟩
    · rw [pk_un e, pk_un e, pk_un e]
      rcases hsub i hi with z | z
      · exact (e z).elim
      · exact hLC i z
  have key : ∀ f i, i ≤ lc → lc < f + i → wX_store_3 post p q r f_goalEdge f_goalRest f_atomBits f_decided f_maxVariables f_maxAtoms f_maxClauses f_maxDepth f_atomCount f_clauseCount f_depthNow f_assumedTrue f_assumedFalse f_status f_presentTrue f_coreKnown f_coreClauses f_coreAtoms f_witnessClauses f_witnessAtoms (nI lc) f_learnedNext f_activeRests f_trueMask f_falseMask f_trailSize f_theoryHead f_level f_conflictAtoms f_conflictRests f_failedAtoms f_failedRests f_activeEdges f_goalOn a_kinds a_lefts a_rights a_bounds a_atomDepths a_literals a_literalCounts a_clausePos a_clauseNeg a_clauseDepths a_values a_learnedPos a_learnedNeg a_learnedRests a_trail a_levelStart a_levelAtoms a_reasonAtoms a_reasonRests a_edgeFrom a_edgeTo a_edgeWeight a_potential a_moved a_gamma a_via a_dist a_link f (nI i) := by
    intro f
    induction f with
    | zero => intro i h1 h2; omega
    | succ f ih =>
      intro i hi hf
      refine pk_le lc i (fun h => pk_le 128 lc (fun h2 => ?_) (fun h2 => nm_r (nI_1 lc) (put lc (lc + 1) f_learnedNext (by omega) (by omega) (fun i hi => by omega)))) (fun h => ?_)
      · obtain ⟨j, hj, ej⟩ := pk_andE f_learnedNext (m := 127) 7 (by decide)
        refine nm_r ej (nm_e (put j lc _ hj hlc (fun i hi => Or.inr hi)))
      · have ii : vp_in (nI i) 128 := pk_in i 128 (by omega)
        exact And.intro ii (And.intro ii (And.intro ii (nm_e (br_c (fun _ => K lc f_learnedNext a_learnedPos a_learnedNeg a_learnedRests hlc hLC) (fun _ => nm_r (nI_1 i) (ih (i + 1) (by omega) (by omega)))))))
  exact Exists.intro (lc + 1) (key (lc + 1) 0 (by omega) (by omega))
theorem xw_high {post : Int32 → Prop} {x : Int32} (hL : L ≤ 10) (K : ∀ j, j ≤ L → (j = 0 ∨ ∃ q, bt (a_levelAtoms j) q = true ∧ bt x q = true) → (∀ j', j < j' → j' ≤ L → ∀ q, bt (a_levelAtoms j') q = true → bt x q = true → False) → post (nI j)) :
    wpX_highestLevel post (f_goalEdge, f_goalRest, f_atomBits, f_decided, f_maxVariables, f_maxAtoms, f_maxClauses, f_maxDepth, f_atomCount, f_clauseCount, f_depthNow, f_assumedTrue, f_assumedFalse, f_status, f_presentTrue, f_coreKnown, f_coreClauses, f_coreAtoms, f_witnessClauses, f_witnessAtoms, f_learnedCount, f_learnedNext, f_activeRests, f_trueMask, f_falseMask, f_trailSize, f_theoryHead, nI L, f_conflictAtoms, f_conflictRests, f_failedAtoms, f_failedRests, f_activeEdges, f_goalOn, a_kinds, a_lefts, a_rights, a_bounds, a_atomDepths, a_literals, a_literalCounts, a_clausePos, a_clauseNeg, a_clauseDepths, a_values, a_learnedPos, a_learnedNeg, a_learnedRests, a_trail, a_levelStart, a_levelAtoms, a_reasonAtoms, a_reasonRests, a_edgeFrom, a_edgeTo, a_edgeWeight, a_potential, a_moved, a_gamma, a_via, a_dist, a_link) x := by
  have key : ∀ f j, j < f → j ≤ L → (∀ j', j < j' → j' ≤ L → ∀ q, bt (a_levelAtoms j') q = true → bt x q = true → False) → wX_highestLevel_5 post x f_goalEdge f_goalRest f_atomBits f_decided f_maxVariables f_maxAtoms f_maxClauses f_maxDepth f_atomCount f_clauseCount f_depthNow f_assumedTrue f_assumedFalse f_status f_presentTrue f_coreKnown f_coreClauses f_coreAtoms f_witnessClauses f_witnessAtoms f_learnedCount f_learnedNext f_activeRests f_trueMask f_falseMask f_trailSize f_theoryHead (nI L) f_conflictAtoms f_conflictRests f_failedAtoms f_failedRests f_activeEdges f_goalOn a_kinds a_lefts a_rights a_bounds a_atomDepths a_literals a_literalCounts a_clausePos a_clauseNeg a_clauseDepths a_values a_learnedPos a_learnedNeg a_learnedRests a_trail a_levelStart a_levelAtoms a_reasonAtoms a_reasonRests a_edgeFrom a_edgeTo a_edgeWeight a_potential a_moved a_gamma a_via a_dist a_link f (nI j) := by
    intro f
    induction f with
    | zero => intro j h1; omega
    | succ f ih =>
      intro j hf hj hI
      refine pk_le j 0 (fun h => ?_) (fun h => And.intro (pk_in j 12 (by omega)) ?_)
      · have : j = 0 := by omega
        subst this
        exact K 0 hj (Or.inl rfl) hI
      · have cj : (nI j).toNatClampNeg = j := nI_clamp (by omega)
        rw [cj]
        refine br_c (fun h2 => nm_r (e' := nI (j - 1)) ?_ (ih (j - 1) (by omega) (by omega) (fun j' h3 h4 q h5 h6 => ?_))) (fun h2 => K j hj (Or.inr (zb_and0n.mp h2)) hI)
        · have := pk_m1 (j - 1)
          rw [show j - 1 + 1 = j by omega] at this
          exact this
        · rcases Nat.lt_or_ge j j' with y | y
          · exact hI j' y h4 q h5 h6
          · have : j' = j := by omega
            rw [this] at h5
            exact zb_and0.mp h2 q h5 h6
  exact Exists.intro (L + 1) (key (L + 1) L (by omega) (Nat.le_refl _) (fun j' h1 h2 => by omega))
end
end
section
theorem gi_s {G : (Nat → Int) → Prop} {n : Nat} {kd lf rt bd : Nat → Int32} {g : Bool} {s ts th : Nat} {tm ae : Int32} {tr ef et ew pt : Nat → Int32}
    (h : cd_GI G n kd lf rt bd g s ts th tm ae tr ef et ew pt) : cd_GI G n kd lf rt bd g (s + 1) ts th tm ae tr ef et ew pt := by
  obtain ⟨h1, h2, h3, h4, h5, h6⟩ := h
  exact ⟨h1, h2, h3, h4, h5, fun v hv => by have := h6 v hv; omega⟩
theorem gi_back {G : (Nat → Int) → Prop} {n : Nat} {kd lf rt bd : Nat → Int32} {g : Bool} {s ts th p : Nat} {tm fm tm' ae ae' : Int32} {tr ef et ew pt : Nat → Int32}
    (h : cd_GI G n kd lf rt bd g s ts th tm ae tr ef et ew pt) (hTR : cd_TR n tm fm tr ts) (hn : n ≤ 10) (hp : p ≤ th) (htm : ∀ i q, i < p → tr i = nI q → bt tm' q = bt tm q)
    (hae : ∀ q, bt ae' q = true ↔ (bt ae q = true ∧ ¬ ∃ i, p ≤ i ∧ i < ts ∧ q < 10 ∧ tr i = nI q)) : cd_GI G n kd lf rt bd g (s + 1) p p tm' ae' tr ef et ew pt := by
  obtain ⟨h1, h2, h3, h4, h5, h6⟩ := h
  have hroom := cd_room hTR hn
  refine ⟨Nat.le_refl _, h2, fun i k hi hk e hd => ?_, fun e => ?_, fun e he hb => h5 e he ((hae e).mp hb).1, fun v hv => ?_⟩
  · rw [htm i k hi e]
    exact h3 i k (by omega) hk e hd
  · rw [hae, h4]
    constructor
    · rintro ⟨⟨a, b, i, hi, c⟩ | z, hno⟩
      · refine Or.inl ⟨a, b, i, ?_, c⟩
        rcases Nat.lt_or_ge i p with y | y
        · exact y
        · exact (hno ⟨i, y, by omega, by omega, c⟩).elim
      · exact Or.inr z
    · rintro (⟨a, b, i, hi, c⟩ | ⟨z1, z2⟩)
      · refine ⟨Or.inl ⟨a, b, i, by omega, c⟩, fun ⟨j, y1, y2, y3, y4⟩ => ?_⟩
        have := hTR.2.1 i j (by omega) y2 (by rw [c, y4])
        omega
      · exact ⟨Or.inr ⟨z1, z2⟩, fun ⟨j, y1, y2, y3, y4⟩ => by omega⟩
  · have := h6 v hv
    omega
section
variable {f_goalEdge f_goalRest f_atomBits f_decided f_maxVariables f_maxAtoms f_maxClauses f_maxDepth f_atomCount f_clauseCount f_depthNow f_assumedTrue f_assumedFalse f_status f_presentTrue f_coreKnown f_coreClauses f_coreAtoms f_witnessClauses f_witnessAtoms f_learnedCount f_learnedNext f_activeRests f_trueMask f_falseMask f_trailSize f_theoryHead f_level f_conflictAtoms f_conflictRests f_failedAtoms f_failedRests f_activeEdges f_goalOn : Int32} {a_kinds a_lefts a_rights a_bounds a_atomDepths a_literals a_literalCounts a_clausePos a_clauseNeg a_clauseDepths a_values a_learnedPos a_learnedNeg a_learnedRests a_trail a_levelStart a_levelAtoms a_reasonAtoms a_reasonRests a_edgeFrom a_edgeTo a_edgeWeight a_potential a_moved a_gamma a_via a_dist a_link : Nat → Int32}
variable {M : Int32 → (Nat → Bool) → Prop} {G : (Nat → Int) → Prop} {n m lc : Nat} {mt mf : Int32} {g : Bool} {s ts th L : Nat} {lv : Nat → Nat} {post : SX → Prop}
theorem xw_decide {op : Int32} (hST : cd_ST M G n a_kinds a_lefts a_rights a_bounds mt mf f_activeRests g s ts ts L f_trueMask f_falseMask f_activeEdges a_trail a_levelStart a_levelAtoms a_reasonAtoms a_reasonRests a_edgeFrom a_edgeTo a_edgeWeight a_potential lv) (hop : ∀ q, bt op q = true ↔ (q < n ∧ bt f_trueMask q = false ∧ bt f_falseMask q = false)) (hne : ¬ op = 0)
    (hmt : ∀ q, bt mt q = true → q < n) (hmf : ∀ q, bt mf q = true → q < n) (hb1 : ∀ q, bt f_trueMask q = true → bt mf q = true → False) (hb2 : ∀ q, bt f_falseMask q = true → bt mt q = true → False) (hdis : ∀ q, bt mt q = true → bt mf q = true → False)
    (K : ∀ (f_trueMask' f_falseMask' : Int32) (a_trail' a_levelAtoms' a_reasonAtoms' a_reasonRests' a_edgeFrom' a_edgeTo' a_edgeWeight' : Nat → Int32) (a_levelStart' : Nat → Int32) (lv' : Nat → Nat), cd_ST M G n a_kinds a_lefts a_rights a_bounds mt mf f_activeRests g (s + 1) (ts + 1) ts (L + 1) f_trueMask' f_falseMask' f_activeEdges a_trail' a_levelStart' a_levelAtoms' a_reasonAtoms' a_reasonRests' a_edgeFrom' a_edgeTo' a_edgeWeight' a_potential lv' → post (f_goalEdge, f_goalRest, f_atomBits, f_decided, f_maxVariables, f_maxAtoms, f_maxClauses, f_maxDepth, f_atomCount, f_clauseCount, f_depthNow, f_assumedTrue, f_assumedFalse, f_status, f_presentTrue, f_coreKnown, f_coreClauses, f_coreAtoms, f_witnessClauses, f_witnessAtoms, f_learnedCount, f_learnedNext, f_activeRests, f_trueMask', f_falseMask', nI (ts + 1), f_theoryHead, nI (L + 1), f_conflictAtoms, f_conflictRests, f_failedAtoms, f_failedRests, f_activeEdges, f_goalOn, a_kinds, a_lefts, a_rights, a_bounds, a_atomDepths, a_literals, a_literalCounts, a_clausePos, a_clauseNeg, a_clauseDepths, a_values, a_learnedPos, a_learnedNeg, a_learnedRests, a_trail', a_levelStart', a_levelAtoms', a_reasonAtoms', a_reasonRests', a_edgeFrom', a_edgeTo', a_edgeWeight', a_potential, a_moved, a_gamma, a_via, a_dist, a_link)) :
    wpX_decide post (f_goalEdge, f_goalRest, f_atomBits, f_decided, f_maxVariables, f_maxAtoms, f_maxClauses, f_maxDepth, f_atomCount, f_clauseCount, f_depthNow, f_assumedTrue, f_assumedFalse, f_status, f_presentTrue, f_coreKnown, f_coreClauses, f_coreAtoms, f_witnessClauses, f_witnessAtoms, f_learnedCount, f_learnedNext, f_activeRests, f_trueMask, f_falseMask, nI ts, f_theoryHead, nI L, f_conflictAtoms, f_conflictRests, f_failedAtoms, f_failedRests, f_activeEdges, f_goalOn, a_kinds, a_lefts, a_rights, a_bounds, a_atomDepths, a_literals, a_literalCounts, a_clausePos, a_clauseNeg, a_clauseDepths, a_values, a_learnedPos, a_learnedNeg, a_learnedRests, a_trail, a_levelStart, a_levelAtoms, a_reasonAtoms, a_reasonRests, a_edgeFrom, a_edgeTo, a_edgeWeight, a_potential, a_moved, a_gamma, a_via, a_dist, a_link) op mt mf := by
  have hn := hST.1.1
  have hTR := hST.1.2.1
  have hL := cd_L hST.1.2.2.1
  have core : ∀ ch, (∃ i, bt ch i = true) → (∀ k, bt ch k = true → bt op k = true) → (∀ k, bt ch k = true → (∀ j, j < k → bt ch j = false) → (bt mt k = true ∨ bt mf k = true) ∨
      (bt mt k = false ∧ bt mf k = false ∧ ∀ q, q < n → (q < k ∨ bt mt q = true ∨ bt mf q = true) → bt f_trueMask q = true ∨ bt f_falseMask q = true)) →
      wX_decide_18 post mt ch f_goalEdge f_goalRest f_atomBits f_decided f_maxVariables f_maxAtoms f_maxClauses f_maxDepth f_atomCount f_clauseCount f_depthNow f_assumedTrue f_assumedFalse f_status f_presentTrue f_coreKnown f_coreClauses f_coreAtoms f_witnessClauses f_witnessAtoms f_learnedCount f_learnedNext f_activeRests f_trueMask f_falseMask (nI ts) f_theoryHead (nI L) f_conflictAtoms f_conflictRests f_failedAtoms f_failedRests f_activeEdges f_goalOn a_kinds a_lefts a_rights a_bounds a_atomDepths a_literals a_literalCounts a_clausePos a_clauseNeg a_clauseDepths a_values a_learnedPos a_learnedNeg a_learnedRests a_trail a_levelStart a_levelAtoms a_reasonAtoms a_reasonRests a_edgeFrom a_edgeTo a_edgeWeight a_potential a_moved a_gamma a_via a_dist a_link := by
    intro ch ⟨i0, hi0⟩ hsub hcase
    refine xw_low (fun k hk hb hlow => ?_) ⟨i0, by have := ((hop i0).mp (hsub i0 hi0)).1; omega, hi0⟩
    obtain ⟨o1, o2, o3⟩ := (hop k).mp (hsub k hb)
    have hts := cd_open hTR hn o1 o2 o3
    have cL : (nI (L + 1)).toNatClampNeg = L + 1 := nI_clamp (by omega)
    have hla : a_levelAtoms (L + 1) = 0 := hST.1.2.2.1.2.2.2.2.2 (L + 1) (by omega) (by omega)
    have goon : ∀ (v : Bool) (t : Int32), ((v = true ∧ ¬ t = 0) ∨ (v = false ∧ t = 0)) → v = bt mt k → wX_decide_65 post (nI k) t f_goalEdge f_goalRest f_atomBits f_decided f_maxVariables f_maxAtoms f_maxClauses f_maxDepth f_atomCount f_clauseCount f_depthNow f_assumedTrue f_assumedFalse f_status f_presentTrue f_coreKnown f_coreClauses f_coreAtoms f_witnessClauses f_witnessAtoms f_learnedCount f_learnedNext f_activeRests f_trueMask f_falseMask (nI ts) f_theoryHead (nI (L + 1)) f_conflictAtoms f_conflictRests f_failedAtoms f_failedRests f_activeEdges f_goalOn a_kinds a_lefts a_rights a_bounds a_atomDepths a_literals a_literalCounts a_clausePos a_clauseNeg a_clauseDepths a_values a_learnedPos a_learnedNeg a_learnedRests a_trail (upd a_levelStart (L + 1) (nI ts)) a_levelAtoms a_reasonAtoms a_reasonRests a_edgeFrom a_edgeTo a_edgeWeight a_potential a_moved a_gamma a_via a_dist a_link := by
      intro v t hv hvm
      refine xw_assign (v := v) (by omega) (by omega) (by omega) hv (fun tm fm lb ef et ew h1 h2 h3 h4 h5 => ?_)
      have hl : ∀ q, bt lb q = decide (q = k) := fun q => by rw [h3, hla, b_0, Bool.false_or]
      refine K tm fm _ _ _ _ ef et ew _ _ ⟨cd_decide hST.1 o1 o2 o3 h1 h2 hl (by omega) ?_, gi_s (gi_add hST.2.1 hTR hn o1 o2 o3 h1 h4 h5), fun i hi hlt => ?_⟩
      · rcases hcase k hb hlow with z | ⟨z1, z2, z3⟩
        · exact Or.inl ⟨z, hvm⟩
        · refine Or.inr ⟨z1, z2, by rw [hvm, z1], z3, fun q hq => ?_, fun q hq => ?_⟩
          · rcases z3 q (hmt q hq) (Or.inr (Or.inl hq)) with y | y
            · exact y
            · exact (hb2 q y hq).elim
          · exact zb_tf fun y => hb1 q y hq
      · by_cases e : i = ts
        · rw [if_pos e] at hlt; omega
        · omega
    refine nm_r (nI_1 L) (And.intro (pk_in (L + 1) 12 (by omega)) (nm_r (e' := upd a_levelStart (L + 1) (nI ts)) (by rw [cL]) (br_c (fun h => ?_) (fun h => ?_))))
    · exact goon false 0 (Or.inr ⟨rfl, rfl⟩) ((zb_shr1 (by omega)).mp h).symm
    · exact goon true 1 (Or.inl ⟨rfl, by decide⟩) (zb_ft fun z => h ((zb_shr1 (by omega)).mpr z)).symm
  refine nm_e (br_c (fun h => ?_) (fun h => ?_))
  · refine core op (zb_ne0.mp hne) (fun k hk => hk) (fun k hk hlow => Or.inr ?_)
    have hno : ∀ q, bt op q = true → bt mt q = false ∧ bt mf q = false := by
      intro q hq
      constructor
      · exact zb_tf fun z => zb_and0.mp h q hq (by rw [b_or, z]; rfl)
      · exact zb_tf fun z => zb_and0.mp h q hq (by rw [b_or, z, Bool.or_true])
    refine ⟨(hno k hk).1, (hno k hk).2, fun q hq hc => ?_⟩
    apply Classical.byContradiction
    intro hx
    have hq' : bt op q = true := (hop q).mpr ⟨hq, zb_tf fun z => hx (Or.inl z), zb_tf fun z => hx (Or.inr z)⟩
    rcases hc with z | z | z
    · rw [hlow q z] at hq'; cases hq'
    · rw [(hno q hq').1] at z; cases z
    · rw [(hno q hq').2] at z; cases z
  · refine core _ (zb_ne0.mp h) (fun k hk => ?_) (fun k hk _ => Or.inl ?_)
    · rw [b_and, Bool.and_eq_true] at hk; exact hk.1
    · rw [b_and, Bool.and_eq_true, b_or, Bool.or_eq_true] at hk; exact hk.2
/-- back to level t -/
theorem xw_back {t p thx : Nat} (hST : cd_ST M G n a_kinds a_lefts a_rights a_bounds mt mf f_activeRests g s ts th L f_trueMask f_falseMask f_activeEdges a_trail a_levelStart a_levelAtoms a_reasonAtoms a_reasonRests a_edgeFrom a_edgeTo a_edgeWeight a_potential lv) (ht : t < L) (hp : a_levelStart (t + 1) = nI p) (hpts : p < ts) (hlp : lv p = t + 1) (hpl : ∀ i, i < p → lv i < t + 1) (hthx : th ≤ thx) (hthx' : thx ≤ ts)
    (K : ∀ (f_trueMask' f_falseMask' f_activeEdges' : Int32) (a_levelAtoms' : Nat → Int32), cd_SI M n mt mf f_activeRests 0 p t f_trueMask' f_falseMask' a_trail a_levelStart a_levelAtoms' a_reasonAtoms a_reasonRests lv → s + 1 ≤ cd_ph a_trail a_reasonAtoms p + 2 ^ (10 - p) →
      cd_GI G n a_kinds a_lefts a_rights a_bounds g (s + 1) p p f_trueMask' f_activeEdges' a_trail a_edgeFrom a_edgeTo a_edgeWeight a_potential → (∀ i q, i < p → a_trail i = nI q → bt f_trueMask' q = bt f_trueMask q) → (∀ i, i < ts → (i < p ↔ lv i ≤ t)) →
      post (f_goalEdge, f_goalRest, f_atomBits, f_decided, f_maxVariables, f_maxAtoms, f_maxClauses, f_maxDepth, f_atomCount, f_clauseCount, f_depthNow, f_assumedTrue, f_assumedFalse, f_status, f_presentTrue, f_coreKnown, f_coreClauses, f_coreAtoms, f_witnessClauses, f_witnessAtoms, f_learnedCount, f_learnedNext, f_activeRests, f_trueMask', f_falseMask', nI p, nI p, nI t, f_conflictAtoms, f_conflictRests, f_failedAtoms, f_failedRests, f_activeEdges', f_goalOn, a_kinds, a_lefts, a_rights, a_bounds, a_atomDepths, a_literals, a_literalCounts, a_clausePos, a_clauseNeg, a_clauseDepths, a_values, a_learnedPos, a_learnedNeg, a_learnedRests, a_trail, a_levelStart, a_levelAtoms', a_reasonAtoms, a_reasonRests, a_edgeFrom, a_edgeTo, a_edgeWeight, a_potential, a_moved, a_gamma, a_via, a_dist, a_link)) :
    wpX_backtrack post (f_goalEdge, f_goalRest, f_atomBits, f_decided, f_maxVariables, f_maxAtoms, f_maxClauses, f_maxDepth, f_atomCount, f_clauseCount, f_depthNow, f_assumedTrue, f_assumedFalse, f_status, f_presentTrue, f_coreKnown, f_coreClauses, f_coreAtoms, f_witnessClauses, f_witnessAtoms, f_learnedCount, f_learnedNext, f_activeRests, f_trueMask, f_falseMask, nI ts, nI thx, nI L, f_conflictAtoms, f_conflictRests, f_failedAtoms, f_failedRests, f_activeEdges, f_goalOn, a_kinds, a_lefts, a_rights, a_bounds, a_atomDepths, a_literals, a_literalCounts, a_clausePos, a_clauseNeg, a_clauseDepths, a_values, a_learnedPos, a_learnedNeg, a_learnedRests, a_trail, a_levelStart, a_levelAtoms, a_reasonAtoms, a_reasonRests, a_edgeFrom, a_edgeTo, a_edgeWeight, a_potential, a_moved, a_gamma, a_via, a_dist, a_link) (nI t) := by
  have hn := hST.1.1
  have hTR := hST.1.2.1
  have hL := cd_L hST.1.2.2.1
  have hroom := cd_room hTR hn
  have hpth : p ≤ th := by
    rcases Nat.eq_zero_or_pos p with z | z
    · omega
    · have := hST.2.2 (p - 1) (by omega) (by have := hpl (p - 1) (by omega); omega)
      omega
  -- the levels' atoms
  have lev : ∀ tm fm ae, (∀ q, bt tm q = true ↔ (bt f_trueMask q = true ∧ ¬ ∃ i, p ≤ i ∧ i < ts ∧ q < 10 ∧ a_trail i = nI q)) → (∀ q, bt fm q = true ↔ (bt f_falseMask q = true ∧ ¬ ∃ i, p ≤ i ∧ i < ts ∧ q < 10 ∧ a_trail i = nI q)) → (∀ q, bt ae q = true ↔ (bt f_activeEdges q = true ∧ ¬ ∃ i, p ≤ i ∧ i < ts ∧ q < 10 ∧ a_trail i = nI q)) →
      ∀ f j la, t < j → j ≤ L + 1 → L + 1 < f + j → (∀ i, i < 12 → la i = if t < i ∧ i < j then 0 else a_levelAtoms i) → wX_backtrack_89 post (nI t) (nI p) f_goalEdge f_goalRest f_atomBits f_decided f_maxVariables f_maxAtoms f_maxClauses f_maxDepth f_atomCount f_clauseCount f_depthNow f_assumedTrue f_assumedFalse f_status f_presentTrue f_coreKnown f_coreClauses f_coreAtoms f_witnessClauses f_witnessAtoms f_learnedCount f_learnedNext f_activeRests tm fm (nI ts) (nI thx) (nI L) f_conflictAtoms f_conflictRests f_failedAtoms f_failedRests ae f_goalOn f (nI j) a_kinds a_lefts a_rights a_bounds a_atomDepths a_literals a_literalCounts a_clausePos a_clauseNeg a_clauseDepths a_values a_learnedPos a_learnedNeg a_learnedRests a_trail a_levelStart la a_reasonAtoms a_reasonRests a_edgeFrom a_edgeTo a_edgeWeight a_potential a_moved a_gamma a_via a_dist a_link := by
    intro tm fm ae b1 b2 b3 f
    have hpos : ∀ q, bt f_trueMask q = true ∨ bt f_falseMask q = true → ((¬ ∃ i, p ≤ i ∧ i < ts ∧ q < 10 ∧ a_trail i = nI q) ↔ ∃ i, i < p ∧ a_trail i = nI q) := by
      intro q hq
      obtain ⟨hq', i, hi, e⟩ := (hTR.2.2.1 q).mp hq
      constructor
      · intro hno
        rcases Nat.lt_or_ge i p with y | y
        · exact ⟨i, y, e⟩
        · exact (hno ⟨i, y, hi, by omega, e⟩).elim
      · intro ⟨j, hj, e'⟩ ⟨i', z1, z2, z3, z4⟩
        have := hTR.2.1 i' j z2 (by omega) (by rw [z4, e'])
        omega
    induction f with
    | zero => intro j la h1 h2 h3; omega
    | succ f ih =>
      intro j la h1 h2 h3 hla
      have cj : (nI j).toNatClampNeg = j := nI_clamp (by omega)
      refine pk_lt L j (fun h => ?_) (fun h => And.intro (pk_in j 12 (by omega)) (nm_e (nm_r (nI_1 j) ?_)))
      · have hj : j = L + 1 := by omega
        obtain ⟨c1, c2, c3, c4⟩ := cd_back (tm' := tm) (fm' := fm) (la' := la) hST.1 ht hpts hlp hpl (fun q => by
            rw [b1 q]
            exact ⟨fun ⟨x, y⟩ => ⟨x, (hpos q (Or.inl x)).mp y⟩, fun ⟨x, y⟩ => ⟨x, (hpos q (Or.inl x)).mpr y⟩⟩) (fun q => by
            rw [b2 q]
            exact ⟨fun ⟨x, y⟩ => ⟨x, (hpos q (Or.inr x)).mp y⟩, fun ⟨x, y⟩ => ⟨x, (hpos q (Or.inr x)).mpr y⟩⟩) (fun i hi => by
            rw [hla i hi]
            by_cases e : t < i ∧ i < j
            · rw [if_pos e, if_pos (by omega)]
            · rw [if_neg e, if_neg (by omega)])
        have hgi := gi_back hST.2.1 hTR hn hpth c3 b3
        refine pk_le thx p (fun h4 => ?_) (fun h4 => K tm fm ae la c1 c2 hgi c3 c4)
        have : thx = p := by omega
        subst this
        exact K tm fm ae la c1 c2 hgi c3 c4
      · rw [cj]
        refine ih (j + 1) _ (by omega) (by omega) (by omega) (fun i hi => ?_)
        by_cases e : i = j
        · rw [e, pk_us, if_pos (by omega)]
        · rw [pk_un e, hla i hi]
          by_cases e2 : t < i ∧ i < j
          · rw [if_pos e2, if_pos (by omega)]
          · rw [if_neg e2, if_neg (by omega)]
  -- the bits
  have bits : ∀ c f tm fm ae, c < f → p + c ≤ ts → (∀ q, bt tm q = true ↔ (bt f_trueMask q = true ∧ ¬ ∃ i, p + c ≤ i ∧ i < ts ∧ q < 10 ∧ a_trail i = nI q)) → (∀ q, bt fm q = true ↔ (bt f_falseMask q = true ∧ ¬ ∃ i, p + c ≤ i ∧ i < ts ∧ q < 10 ∧ a_trail i = nI q)) → (∀ q, bt ae q = true ↔ (bt f_activeEdges q = true ∧ ¬ ∃ i, p + c ≤ i ∧ i < ts ∧ q < 10 ∧ a_trail i = nI q)) →
      wX_backtrack_25 post (nI t) (nI p) f_goalEdge f_goalRest f_atomBits f_decided f_maxVariables f_maxAtoms f_maxClauses f_maxDepth f_atomCount f_clauseCount f_depthNow f_assumedTrue f_assumedFalse f_status f_presentTrue f_coreKnown f_coreClauses f_coreAtoms f_witnessClauses f_witnessAtoms f_learnedCount f_learnedNext f_activeRests (nI ts) (nI thx) (nI L) f_conflictAtoms f_conflictRests f_failedAtoms f_failedRests f_goalOn a_kinds a_lefts a_rights a_bounds a_atomDepths a_literals a_literalCounts a_clausePos a_clauseNeg a_clauseDepths a_values a_learnedPos a_learnedNeg a_learnedRests a_trail a_levelStart a_levelAtoms a_reasonAtoms a_reasonRests a_edgeFrom a_edgeTo a_edgeWeight a_potential a_moved a_gamma a_via a_dist a_link f (nI (p + c) - 1) tm fm ae := by
    intro c
    induction c with
    | zero =>
      intro f tm fm ae hf hc b1 b2 b3
      cases f with
      | zero => omega
      | succ f =>
        refine br_t ?_ (nm_r (nI_1 t) (Exists.intro (L + 2) (lev tm fm ae b1 b2 b3 (L + 2) (t + 1) a_levelAtoms (by omega) (by omega) (by omega) (fun i hi => by rw [if_neg (by omega)]))))
        rw [Nat.add_zero]
        cases p with
        | zero => decide
        | succ p' => rw [nI_pred]; exact nI_lt (by omega) (by omega)
    | succ c ih =>
      intro f tm fm ae hf hc b1 b2 b3
      cases f with
      | zero => omega
      | succ f =>
        obtain ⟨k, hk, ek⟩ := hTR.1 (p + c) (by omega)
        have cc : (nI (p + c)).toNatClampNeg = p + c := nI_clamp (by omega)
        rw [show p + (c + 1) = (p + c) + 1 by omega, nI_pred]
        refine br_f (nI_nlt (by omega) (by omega)) (And.intro (pk_in (p + c) 10 (by omega)) (nm_r (e' := (1 : Int32) <<< (nI k &&& 31)) (by rw [cc, ek]) (nm_e (nm_e (nm_e (nm_r (zi_pm (p + c)) (ih f _ _ _ (by omega) (by omega) (fun q => ?_) (fun q => ?_) (fun q => ?_))))))))
        all_goals
          rw [zb_clr, zb_bit (by omega), Bool.and_eq_true, Bool.not_eq_true', decide_eq_false_iff_not]
          first | rw [b1 q] | rw [b2 q] | rw [b3 q]
          constructor
          · rintro ⟨⟨x, hno⟩, hqk⟩
            refine ⟨x, fun ⟨i, y1, y2, y3, y4⟩ => ?_⟩
            rcases Nat.lt_or_ge (p + c) i with z | z
            · exact hno ⟨i, by omega, y2, y3, y4⟩
            · have : i = p + c := by omega
              rw [this, ek] at y4
              exact hqk (cd_10 (by omega) y3 y4).symm
          · rintro ⟨x, hno⟩
            refine ⟨⟨x, fun ⟨i, y1, y2, y3, y4⟩ => hno ⟨i, by omega, y2, y3, y4⟩⟩, fun e => hno ⟨p + c, by omega, by omega, by omega, by rw [e]; exact ek⟩⟩
  have ct : (nI (t + 1)).toNatClampNeg = t + 1 := nI_clamp (by omega)
  have et : nI t + 1 = nI (t + 1) := nI_1 t
  refine pk_lt t L (fun _ => And.intro (by rw [et]; exact pk_in (t + 1) 12 (by omega)) (nm_r (e' := nI p) (by rw [et, ct]; exact hp) (nm_e (Exists.intro (ts - p + 1) ?_)))) (fun h => by omega)
  have hb := bits (ts - p) (ts - p + 1) f_trueMask f_falseMask f_activeEdges (by omega) (by omega) (fun q => ⟨fun x => ⟨x, fun ⟨i, y1, y2, _⟩ => by omega⟩, fun x => x.1⟩) (fun q => ⟨fun x => ⟨x, fun ⟨i, y1, y2, _⟩ => by omega⟩, fun x => x.1⟩) (fun q => ⟨fun x => ⟨x, fun ⟨i, y1, y2, _⟩ => by omega⟩, fun x => x.1⟩)
  rw [show p + (ts - p) = ts by omega] at hb
  exact hb
end
end
section
section
variable {f_goalEdge f_goalRest f_atomBits f_decided f_maxVariables f_maxAtoms f_maxClauses f_maxDepth f_atomCount f_clauseCount f_depthNow f_assumedTrue f_assumedFalse f_status f_presentTrue f_coreKnown f_coreClauses f_coreAtoms f_witnessClauses f_witnessAtoms f_learnedCount f_learnedNext f_activeRests f_trueMask f_falseMask f_trailSize f_theoryHead f_level f_conflictAtoms f_conflictRests f_failedAtoms f_failedRests f_activeEdges f_goalOn : Int32} {a_kinds a_lefts a_rights a_bounds a_atomDepths a_literals a_literalCounts a_clausePos a_clauseNeg a_clauseDepths a_values a_learnedPos a_learnedNeg a_learnedRests a_trail a_levelStart a_levelAtoms a_reasonAtoms a_reasonRests a_edgeFrom a_edgeTo a_edgeWeight a_potential a_moved a_gamma a_via a_dist a_link : Nat → Int32}
variable {M : Int32 → (Nat → Bool) → Prop} {G : (Nat → Int) → Prop} {n m lc : Nat} {mt mf : Int32} {g : Bool} {s ts th L : Nat} {lv : Nat → Nat} {post : SX → Prop}
/-- the learned clause is kept, the levels above go, its last atom turns -/
theorem xw_lj138 {top thx k : Nat} {x2 x3 x5 t0 : Int32} {v : Bool} (hST : cd_ST M G n a_kinds a_lefts a_rights a_bounds mt mf f_activeRests g s ts th L f_trueMask f_falseMask f_activeEdges a_trail a_levelStart a_levelAtoms a_reasonAtoms a_reasonRests a_edgeFrom a_edgeTo a_edgeWeight a_potential lv) (hthx : th ≤ thx) (hthx' : thx ≤ ts) (hlc : lc ≤ 128) (hLC : cd_LC M n m g lc a_learnedPos a_learnedNeg a_learnedRests)
    (har : ∀ q, bt f_activeRests q = true → q < m ∨ (q = 24 ∧ g = true)) (htop : top ≤ L)
    (hpos : ∀ q, bt x2 q = true → ∃ i, i < ts ∧ q < n ∧ a_trail i = nI q ∧ (lv i < top ∨ q = k)) (hk : bt x2 k = true) (hkl : ∀ i, i < ts → a_trail i = nI k → lv i = top)
    (hx3 : ∀ q, bt x3 q = true → bt f_activeRests q = true) (hsem : ∀ τ, M x3 τ → (∀ q, bt x2 q = true → τ q = bt f_trueMask q) → False)
    (hx5 : ∀ q, bt x5 q = (bt x2 q && !decide (q = k))) (hv : v = !bt f_trueMask k) (hvt : (v = true ∧ ¬ t0 = 0) ∨ (v = false ∧ t0 = 0)) (htop1 : 1 ≤ top)
    (K : ∀ (p t lc' : Nat) (nx : Int32) (f_trueMask' f_falseMask' f_activeEdges' : Int32) (a_learnedPos' a_learnedNeg' a_learnedRests' a_trail' a_levelAtoms' a_reasonAtoms' a_reasonRests' a_edgeFrom' a_edgeTo' a_edgeWeight' : Nat → Int32) (lv' : Nat → Nat), cd_ST M G n a_kinds a_lefts a_rights a_bounds mt mf f_activeRests g (s + 1) (p + 1) p t f_trueMask' f_falseMask' f_activeEdges' a_trail' a_levelStart a_levelAtoms' a_reasonAtoms' a_reasonRests' a_edgeFrom' a_edgeTo' a_edgeWeight' a_potential lv' → lc' ≤ 128 → cd_LC M n m g lc' a_learnedPos' a_learnedNeg' a_learnedRests' →
      post (f_goalEdge, f_goalRest, f_atomBits, f_decided, f_maxVariables, f_maxAtoms, f_maxClauses, f_maxDepth, f_atomCount, f_clauseCount, f_depthNow, f_assumedTrue, f_assumedFalse, f_status, f_presentTrue, f_coreKnown, f_coreClauses, f_coreAtoms, f_witnessClauses, f_witnessAtoms, nI lc', nx, f_activeRests, f_trueMask', f_falseMask', nI (p + 1), nI p, nI t, f_conflictAtoms, f_conflictRests, f_failedAtoms, f_failedRests, f_activeEdges', f_goalOn, a_kinds, a_lefts, a_rights, a_bounds, a_atomDepths, a_literals, a_literalCounts, a_clausePos, a_clauseNeg, a_clauseDepths, a_values, a_learnedPos', a_learnedNeg', a_learnedRests', a_trail', a_levelStart, a_levelAtoms', a_reasonAtoms', a_reasonRests', a_edgeFrom', a_edgeTo', a_edgeWeight', a_potential, a_moved, a_gamma, a_via, a_dist, a_link)) :
    wX_learnAndJump_138 post x2 x3 x5 (nI k) t0 f_goalEdge f_goalRest f_atomBits f_decided f_maxVariables f_maxAtoms f_maxClauses f_maxDepth f_atomCount f_clauseCount f_depthNow f_assumedTrue f_assumedFalse f_status f_presentTrue f_coreKnown f_coreClauses f_coreAtoms f_witnessClauses f_witnessAtoms (nI lc) f_learnedNext f_activeRests f_trueMask f_falseMask (nI ts) (nI thx) (nI L) f_conflictAtoms f_conflictRests f_failedAtoms f_failedRests f_activeEdges f_goalOn a_kinds a_lefts a_rights a_bounds a_atomDepths a_literals a_literalCounts a_clausePos a_clauseNeg a_clauseDepths a_values a_learnedPos a_learnedNeg a_learnedRests a_trail a_levelStart a_levelAtoms a_reasonAtoms a_reasonRests a_edgeFrom a_edgeTo a_edgeWeight a_potential a_moved a_gamma a_via a_dist a_link := by
  have hn := hST.1.1
  have hTR := hST.1.2.1
  have hLV := hST.1.2.2.1
  have hL := cd_L hLV
  have hroom := cd_room hTR hn
  have hasg : ∀ q, bt x2 q = true → bt f_trueMask q = true ∨ bt f_falseMask q = true := by
    intro q hq
    obtain ⟨i, h1, h2, h3, _⟩ := hpos q hq
    exact (hTR.2.2.1 q).mpr ⟨h2, i, h1, h3⟩
  refine xw_store hlc hLC ⟨fun q hq => ?_, fun τ hM => ?_⟩ (fun q hq => har q (hx3 q hq)) (fun lc' nx lp ln lr hlc' hLC' => ?_)
  · rw [b_and, b_and, Bool.and_eq_true, Bool.and_eq_true] at hq
    rcases hq with z | z
    · exact (hpos q z.1).elim (fun i h => h.2.1)
    · exact (hpos q z.1).elim (fun i h => h.2.1)
  · apply Classical.byContradiction
    intro hno
    refine hsem τ hM (fun q hq => ?_)
    cases hτ : τ q
    · apply Eq.symm
      apply zb_tf
      intro z
      exact hno ⟨q, Or.inr ⟨by rw [b_and, hq, z]; rfl, hτ⟩⟩
    · rcases hasg q hq with z | z
      · exact z.symm
      · exact (hno ⟨q, Or.inl ⟨by rw [b_and, hq, z]; rfl, hτ⟩⟩).elim
  refine xw_high (by omega) (fun t ht hhit hhi => ?_)
  have hoth : ∀ q, bt x5 q = true → bt x2 q = true ∧ q ≠ k := by
    intro q hq
    rw [hx5, Bool.and_eq_true, Bool.not_eq_true', decide_eq_false_iff_not] at hq
    exact hq
  have htt : t < top := by
    rcases hhit with z | ⟨q, z1, z2⟩
    · omega
    · obtain ⟨a, i, hi, b, c⟩ := (hLV.2.2.2.2.1 t q ht).mp z1
      obtain ⟨y1, y2⟩ := hoth q z2
      obtain ⟨i', h1, h2, h3, h4⟩ := hpos q y1
      have : i = i' := hTR.2.1 i i' hi h1 (by rw [b, h3])
      rw [this] at c
      rcases h4 with w | w
      · omega
      · exact (y2 w).elim
  obtain ⟨p, e1, e2, e3, e4⟩ := hLV.2.2.1 (t + 1) (by omega) (by omega)
  refine xw_back hST (by omega) e1 e2 e3 e4 hthx hthx' (fun tm fm ae la c1 c2 c3 c4 c5 => ?_)
  have hothp : ∀ q, bt x5 q = true → ∃ i, i < p ∧ q < n ∧ a_trail i = nI q := by
    intro q hq
    obtain ⟨y1, y2⟩ := hoth q hq
    obtain ⟨i, h1, h2, h3, h4⟩ := hpos q y1
    refine ⟨i, (c5 i h1).mpr ?_, h2, h3⟩
    apply Classical.byContradiction
    intro hgt
    have hle := hLV.2.1 i h1
    exact hhi (lv i) (by omega) hle q ((hLV.2.2.2.2.1 (lv i) q hle).mpr ⟨by omega, i, h1, h3, rfl⟩) hq
  obtain ⟨ik, k1, k2, k3, _⟩ := hpos k hk
  have hkp : ¬ ik < p := fun z => by
    have := (c5 ik k1).mp z
    rw [hkl ik k1 k3] at this
    omega
  have hnot : ∀ i, i < p → a_trail i ≠ nI k := by
    intro i hi e
    have := hTR.2.1 i ik (by omega) k1 (by rw [e, k3])
    omega
  have ho : bt tm k = false := zb_tf fun z => by
    obtain ⟨_, i, hi, e⟩ := (c1.2.1.2.2.1 k).mp (Or.inl z)
    exact hnot i hi e
  have ho' : bt fm k = false := zb_tf fun z => by
    obtain ⟨_, i, hi, e⟩ := (c1.2.1.2.2.1 k).mp (Or.inr z)
    exact hnot i hi e
  have hag : ∀ q, bt x5 q = true → bt tm q = bt f_trueMask q := by
    intro q hq
    obtain ⟨i, h1, h2, h3⟩ := hothp q hq
    exact c4 i q h1 h3
  refine xw_assign (v := v) (by omega) (by omega) (by omega) hvt (fun tm' fm' lb ef et ew h1 h2 h3 h4 h5 => ?_)
  obtain ⟨⟨s1, s2, s3, s4, s5, s6⟩, hph⟩ := cd_imply c1 k2 ho ho' h1 h2 h3 (r := x5) (w := x3) (fun z => by
      have h6 := hoth 31 (by rw [z]; exact b_m1 31 (by omega))
      obtain ⟨i, _, h7, _⟩ := hpos 31 h6.1
      omega) (fun q hq => by
      obtain ⟨i, y1, y2, y3⟩ := hothp q hq
      exact (c1.2.1.2.2.1 q).mpr ⟨y2, i, y1, y3⟩) hx3 (fun τ hM hagr => by
      have hne : τ k ≠ bt f_trueMask k := by
        intro z
        refine hsem τ hM (fun q hq => ?_)
        by_cases e : q = k
        · rw [e]; exact z
        · have h6 : bt x5 q = true := by rw [hx5, hq, decide_eq_false e]; rfl
          rw [hagr q h6, hag q h6]
      rw [hv]
      cases hτ : τ k <;> cases hb : bt f_trueMask k
      · rw [hτ, hb] at hne; exact (hne rfl).elim
      · rfl
      · rfl
      · rw [hτ, hb] at hne; exact (hne rfl).elim)
  refine K p t lc' nx tm' fm' ae lp ln lr _ _ _ _ ef et ew _ ⟨⟨s1, s2, s3, s4, s5, by rw [hph]; exact c2⟩, gi_add c3 c1.2.1 hn k2 ho ho' h1 h4 h5, fun i hi hlt => ?_⟩ hlc' hLC'
  by_cases e : i = p
  · rw [if_pos e] at hlt; omega
  · omega
theorem xw_learn {top thx : Nat} (hmono : cd_Mono M) (hST : cd_ST M G n a_kinds a_lefts a_rights a_bounds mt mf f_activeRests g s ts th L f_trueMask f_falseMask f_activeEdges a_trail a_levelStart a_levelAtoms a_reasonAtoms a_reasonRests a_edgeFrom a_edgeTo a_edgeWeight a_potential lv) (hthx : th ≤ thx) (hthx' : thx ≤ ts) (hlc : lc ≤ 128) (hLC : cd_LC M n m g lc a_learnedPos a_learnedNeg a_learnedRests)
    (har : ∀ q, bt f_activeRests q = true → q < m ∨ (q = 24 ∧ g = true)) (htop1 : 1 ≤ top) (htop : top ≤ L)
    (hCF : cd_CF M f_activeRests f_trueMask f_falseMask f_conflictAtoms f_conflictRests) (hhit : ∃ q, bt (a_levelAtoms top) q = true ∧ bt f_conflictAtoms q = true)
    (hhi : ∀ j', top < j' → j' ≤ L → ∀ q, bt (a_levelAtoms j') q = true → bt f_conflictAtoms q = true → False)
    (K : ∀ (p t lc' : Nat) (nx : Int32) (f_trueMask' f_falseMask' f_activeEdges' : Int32) (a_learnedPos' a_learnedNeg' a_learnedRests' a_trail' a_levelAtoms' a_reasonAtoms' a_reasonRests' a_edgeFrom' a_edgeTo' a_edgeWeight' : Nat → Int32) (lv' : Nat → Nat), cd_ST M G n a_kinds a_lefts a_rights a_bounds mt mf f_activeRests g (s + 1) (p + 1) p t f_trueMask' f_falseMask' f_activeEdges' a_trail' a_levelStart a_levelAtoms' a_reasonAtoms' a_reasonRests' a_edgeFrom' a_edgeTo' a_edgeWeight' a_potential lv' → lc' ≤ 128 → cd_LC M n m g lc' a_learnedPos' a_learnedNeg' a_learnedRests' →
      post (f_goalEdge, f_goalRest, f_atomBits, f_decided, f_maxVariables, f_maxAtoms, f_maxClauses, f_maxDepth, f_atomCount, f_clauseCount, f_depthNow, f_assumedTrue, f_assumedFalse, f_status, f_presentTrue, f_coreKnown, f_coreClauses, f_coreAtoms, f_witnessClauses, f_witnessAtoms, nI lc', nx, f_activeRests, f_trueMask', f_falseMask', nI (p + 1), nI p, nI t, f_conflictAtoms, f_conflictRests, f_failedAtoms, f_failedRests, f_activeEdges', f_goalOn, a_kinds, a_lefts, a_rights, a_bounds, a_atomDepths, a_literals, a_literalCounts, a_clausePos, a_clauseNeg, a_clauseDepths, a_values, a_learnedPos', a_learnedNeg', a_learnedRests', a_trail', a_levelStart, a_levelAtoms', a_reasonAtoms', a_reasonRests', a_edgeFrom', a_edgeTo', a_edgeWeight', a_potential, a_moved, a_gamma, a_via, a_dist, a_link)) :
    wpX_learnAndJump post (f_goalEdge, f_goalRest, f_atomBits, f_decided, f_maxVariables, f_maxAtoms, f_maxClauses, f_maxDepth, f_atomCount, f_clauseCount, f_depthNow, f_assumedTrue, f_assumedFalse, f_status, f_presentTrue, f_coreKnown, f_coreClauses, f_coreAtoms, f_witnessClauses, f_witnessAtoms, nI lc, f_learnedNext, f_activeRests, f_trueMask, f_falseMask, nI ts, nI thx, nI L, f_conflictAtoms, f_conflictRests, f_failedAtoms, f_failedRests, f_activeEdges, f_goalOn, a_kinds, a_lefts, a_rights, a_bounds, a_atomDepths, a_literals, a_literalCounts, a_clausePos, a_clauseNeg, a_clauseDepths, a_values, a_learnedPos, a_learnedNeg, a_learnedRests, a_trail, a_levelStart, a_levelAtoms, a_reasonAtoms, a_reasonRests, a_edgeFrom, a_edgeTo, a_edgeWeight, a_potential, a_moved, a_gamma, a_via, a_dist, a_link) (nI top) := by
  have hn := hST.1.1
  have hTR := hST.1.2.1
  have hLV := hST.1.2.2.1
  have hL := cd_L hLV
  have hroom := cd_room hTR hn
  have hRS := hST.1.2.2.2.1
  have ctop : (nI top).toNatClampNeg = top := nI_clamp (by omega)
  have itop : vp_in (nI top) 12 := pk_in top 12 (by omega)
  have hasgp : ∀ q, bt f_trueMask q = true ∨ bt f_falseMask q = true → ∃ i, i < ts ∧ q < n ∧ a_trail i = nI q := by
    intro q hq
    obtain ⟨a, i, b, c⟩ := (hTR.2.2.1 q).mp hq
    exact ⟨i, b, a, c⟩
  have key : ∀ c f x2 x3 x4, c < f → c ≤ ts → (∀ q, bt x2 q = true → ∃ i, i < ts ∧ q < n ∧ a_trail i = nI q ∧ lv i ≤ top) → (∀ q, bt x3 q = true → bt f_activeRests q = true) →
      (∀ τ, M x3 τ → (∀ q, bt x2 q = true → τ q = bt f_trueMask q) → False) → x4 = x2 &&& a_levelAtoms top → (∃ q, bt x4 q = true) → (∀ q i, bt x4 q = true → i < ts → a_trail i = nI q → i < c) →
      wX_learnAndJump_28 post (nI top) f_goalEdge f_goalRest f_atomBits f_decided f_maxVariables f_maxAtoms f_maxClauses f_maxDepth f_atomCount f_clauseCount f_depthNow f_assumedTrue f_assumedFalse f_status f_presentTrue f_coreKnown f_coreClauses f_coreAtoms f_witnessClauses f_witnessAtoms (nI lc) f_learnedNext f_activeRests f_trueMask f_falseMask (nI ts) (nI thx) (nI L) f_conflictAtoms f_conflictRests f_failedAtoms f_failedRests f_activeEdges f_goalOn a_kinds a_lefts a_rights a_bounds a_atomDepths a_literals a_literalCounts a_clausePos a_clauseNeg a_clauseDepths a_values a_learnedPos a_learnedNeg a_learnedRests a_trail a_levelStart a_levelAtoms a_reasonAtoms a_reasonRests a_edgeFrom a_edgeTo a_edgeWeight a_potential a_moved a_gamma a_via a_dist a_link f x2 x3 x4 (nI c - 1) := by
    intro c
    induction c with
    | zero =>
      intro f x2 x3 x4 hf hc h1 h2 h3 h4 ⟨q, hq⟩ h6
      exfalso
      rw [h4, b_and, Bool.and_eq_true] at hq
      obtain ⟨i, a, b, c, d⟩ := h1 q hq.1
      have := h6 q i (by rw [h4, b_and, hq.1, hq.2]; rfl) a c
      omega
    | succ c ih =>
      intro f x2 x3 x4 hf hc h1 h2 h3 h4 h5 h6
      cases f with
      | zero => omega
      | succ f =>
        have h4b : ∀ q, bt x4 q = (bt x2 q && bt (a_levelAtoms top) q) := fun q => by rw [h4, b_and]
        have h4l : ∀ q i, bt x4 q = true → i < ts → a_trail i = nI q → lv i = top := by
          intro q i hq hi e
          rw [h4b, Bool.and_eq_true] at hq
          obtain ⟨_, i', a, b, d⟩ := (hLV.2.2.2.2.1 top q htop).mp hq.2
          have : i = i' := hTR.2.1 i i' hi a (by rw [e, b])
          rw [this]; exact d
        have h10 : ∀ q, bt x4 q = true → q < 10 := by
          intro q hq
          rw [h4b, Bool.and_eq_true] at hq
          obtain ⟨i, a, b, _⟩ := h1 q hq.1
          omega
        rw [nI_pred]
        refine br_f (nI_pos (by omega)) (br_c (fun hone => ?_) (fun hmany => ?_))
        · have hone' := (zb_one h10).mp hone
          obtain ⟨k, hk⟩ := h5
          refine nm_e (xw_low (fun k' hk10 hk' _ => ?_) ⟨k, h10 k hk, hk⟩)
          have hx2k : bt x2 k' = true := by rw [h4b, Bool.and_eq_true] at hk'; exact hk'.1
          have hin : ∀ q, bt x4 q = decide (q = k') := by
            intro q
            by_cases e : q = k'
            · rw [e, hk', decide_eq_true rfl]
            · rw [decide_eq_false e]; exact zb_tf fun z => e (hone' q k' z hk')
          have hpos : ∀ q, bt x2 q = true → ∃ i, i < ts ∧ q < n ∧ a_trail i = nI q ∧ (lv i < top ∨ q = k') := by
            intro q hq
            obtain ⟨i, a, b, d, e⟩ := h1 q hq
            refine ⟨i, a, b, d, ?_⟩
            by_cases e2 : q = k'
            · exact Or.inr e2
            · refine Or.inl ?_
              have h7 : bt x4 q = false := by rw [hin, decide_eq_false e2]
              have h8 : lv i ≠ top := by
                intro z
                have h9 : bt (a_levelAtoms top) q = true := (hLV.2.2.2.2.1 top q htop).mpr ⟨by omega, i, a, d, z⟩
                rw [h4b, hq, h9] at h7
                cases h7
              omega
          obtain ⟨ik, a1, a2, a3, a4⟩ := hpos k' hx2k
          have hasgk := (hTR.2.2.1 k').mpr ⟨a2, ik, a1, a3⟩
          have hkl : ∀ i, i < ts → a_trail i = nI k' → lv i = top := fun i hi e => h4l k' i hk' hi e
          have hx5 : ∀ q, bt (x2 &&& (x4 ^^^ (-1))) q = (bt x2 q && !decide (q = k')) := fun q => by rw [zb_clr, hin]
          refine br_c (fun h7 => ?_) (fun h7 => ?_)
          · have hf : bt f_falseMask k' = false := zb_tf fun z => zb_and0.mp h7 k' z hk'
            have ht : bt f_trueMask k' = true := by
              rcases hasgk with z | z
              · exact z
              · rw [hf] at z; cases z
            exact xw_lj138 (v := false) hST hthx hthx' hlc hLC har htop hpos hx2k hkl h2 h3 hx5 (by rw [ht]; rfl) (Or.inr ⟨rfl, rfl⟩) htop1 K
          · obtain ⟨q, z1, z2⟩ := zb_and0n.mp h7
            have : q = k' := hone' q k' z2 hk'
            rw [this] at z1
            have ht : bt f_trueMask k' = false := zb_tf fun z => hTR.2.2.2 k' z z1
            exact xw_lj138 (v := true) hST hthx hthx' hlc hLC har htop hpos hx2k hkl h2 h3 hx5 (by rw [ht]; rfl) (Or.inl ⟨rfl, by decide⟩) htop1 K
        · obtain ⟨k, hk, ek⟩ := hTR.1 c (by omega)
          have cc : (nI c).toNatClampNeg = c := nI_clamp (by omega)
          have ck : (nI k).toNatClampNeg = k := nI_clamp (by omega)
          have ik : vp_in (nI k) 10 := pk_in k 10 (by omega)
          refine And.intro (pk_in c 10 (by omega)) (nm_r (e' := nI k) (by rw [cc]; exact ek) (nm_e (br_c (fun hb => nm_r (zi_pm c) (ih f x2 x3 x4 (by omega) (by omega) h1 h2 h3 h4 h5 ?_)) (fun hb => And.intro ik ?_))))
          · have hb' : bt x4 k = false := (zb_and1 (by omega)).mp hb
            intro q i hq hi e
            have h7 := h6 q i hq hi e
            rcases Nat.lt_or_ge i c with y | y
            · exact y
            · have : i = c := by omega
              rw [this, ek] at e
              rw [← cd_10 (by omega) (h10 q hq) e, hb'] at hq
              cases hq
          · have hb' : bt x4 k = true := zb_ft fun z => hb ((zb_and1 (by omega)).mpr z)
            have hbx : bt x2 k = true ∧ bt (a_levelAtoms top) k = true := by rw [h4b, Bool.and_eq_true] at hb'; exact hb'
            -- another one of the level
            have hother : ∃ q, q ≠ k ∧ bt x4 q = true := by
              apply Classical.byContradiction
              intro hno
              refine hmany ((zb_one h10).mpr (fun i j hi hj => ?_))
              have e1 : i = k := Classical.byContradiction fun z => hno ⟨i, z, hi⟩
              have e2 : j = k := Classical.byContradiction fun z => hno ⟨j, z, hj⟩
              rw [e1, e2]
            obtain ⟨q', hq'k, hq'⟩ := hother
            have hx2q' : bt x2 q' = true := by rw [h4b, Bool.and_eq_true] at hq'; exact hq'.1
            obtain ⟨i', j1, j2, j3, j4⟩ := h1 q' hx2q'
            have hi'c : i' < c := by
              have h7 := h6 q' i' hq' j1 j3
              rcases Nat.lt_or_ge i' c with y | y
              · exact y
              · have : i' = c := by omega
                rw [this, ek] at j3
                exact (hq'k (cd_10 (by omega) (by omega) j3).symm).elim
            have hlc' : lv c = top := h4l k c hb' (by omega) ek
            have hli' : lv i' = top := h4l q' i' hq' j1 j3
            have hnd : a_reasonAtoms k ≠ -1 := by
              intro z
              have h7 := ((hLV.2.2.2.1 c k (by omega) (by omega) ek).mp z).2 i' hi'c
              omega
            obtain ⟨r1, r2, r3⟩ := hRS c k (by omega) (by omega) ek hnd
            have hb2 : ∀ q, bt ((x2 &&& ((1 : Int32) <<< (nI k &&& 31) ^^^ (-1))) ||| a_reasonAtoms k) q = ((bt x2 q && !decide (q = k)) || bt (a_reasonAtoms k) q) := fun q => by rw [b_or, zb_clr, zb_bit (by omega)]
            refine nm_r (e' := (x2 &&& ((1 : Int32) <<< (nI k &&& 31) ^^^ (-1))) ||| a_reasonAtoms k) (by rw [ck]) (And.intro ik (nm_r (e' := x3 ||| a_reasonRests k) (by rw [ck]) (And.intro itop (nm_r (e' := ((x2 &&& ((1 : Int32) <<< (nI k &&& 31) ^^^ (-1))) ||| a_reasonAtoms k) &&& a_levelAtoms top) (by rw [ctop]) (nm_r (zi_pm c) ?_)))))
            refine ih f _ _ _ (by omega) (by omega) (fun q hq => ?_) (fun q hq => ?_) (fun τ hM hag => ?_) rfl ⟨q', ?_⟩ (fun q i hq hi e => ?_)
            · rw [hb2, Bool.or_eq_true, Bool.and_eq_true] at hq
              rcases hq with ⟨z, _⟩ | z
              · exact h1 q z
              · obtain ⟨y1, i, y2, y3⟩ := r1 q z
                obtain ⟨k', hk', ek'⟩ := hTR.1 i (by omega)
                have : k' = q := cd_10 (by omega) y1 (by rw [← ek', y3])
                have h7 := hLV.1 i c (by omega) (by omega)
                exact ⟨i, by omega, by omega, y3, by omega⟩
            · rw [b_or, Bool.or_eq_true] at hq
              rcases hq with z | z
              · exact h2 q z
              · exact r2 q z
            · have a1 : M x3 τ := hmono _ _ _ (fun i hi => by rw [b_or, hi]; rfl) hM
              have a2 : M (a_reasonRests k) τ := hmono _ _ _ (fun i hi => by rw [b_or, hi, Bool.or_true]) hM
              refine h3 τ a1 (fun q hq => ?_)
              by_cases e : q = k
              · rw [e]
                exact r3 τ a2 (fun z hz => hag z (by rw [hb2, hz, Bool.or_true]))
              · exact hag q (by rw [hb2, hq, decide_eq_false e]; rfl)
            · have h7 : bt (a_levelAtoms top) q' = true := by rw [h4b, Bool.and_eq_true] at hq'; exact hq'.2
              rw [b_and, hb2, hx2q', h7, decide_eq_false hq'k]; rfl
            · rw [b_and, Bool.and_eq_true, hb2, Bool.or_eq_true, Bool.and_eq_true, Bool.not_eq_true', decide_eq_false_iff_not] at hq
              rcases hq with ⟨⟨z1, z2⟩ | z, hl⟩
              · have h7 := h6 q i (by rw [h4b, z1, hl]; rfl) hi e
                rcases Nat.lt_or_ge i c with y | y
                · exact y
                · have : i = c := by omega
                  rw [this, ek] at e
                  have hq10 : q < 10 := h10 q (by rw [h4b, z1, hl]; rfl)
                  exact (z2 (cd_10 (by omega) hq10 e).symm).elim
              · obtain ⟨y1, i2, y2, y3⟩ := r1 q z
                have : i = i2 := hTR.2.1 i i2 hi (by omega) (by rw [e, y3])
                omega
  refine And.intro itop (nm_r (e' := f_conflictAtoms &&& a_levelAtoms top) (by rw [ctop]) (nm_e (Exists.intro (ts + 1) ?_)))
  refine key ts (ts + 1) _ _ _ (by omega) (Nat.le_refl _) (fun q hq => ?_) hCF.2.1 hCF.2.2 rfl ?_ (fun q i _ hi _ => hi)
  · obtain ⟨i, a, b, c⟩ := hasgp q (hCF.1 q hq)
    refine ⟨i, a, b, c, ?_⟩
    apply Classical.byContradiction
    intro hgt
    have hle := hLV.2.1 i a
    exact hhi (lv i) (by omega) hle q ((hLV.2.2.2.2.1 (lv i) q hle).mpr ⟨by omega, i, a, c, rfl⟩) hq
  · obtain ⟨q, a, b⟩ := hhit
    exact ⟨q, by rw [b_and, a, b]; rfl⟩
end
end
section
/-! what a search leaves -/
def cd_Un (M : Int32 → (Nat → Bool) → Prop) (mt mf ar fx fr : Int32) : Prop :=
  (∀ q, bt fx q = true → bt mt q = true ∨ bt mf q = true) ∧ (∀ q, bt fr q = true → bt ar q = true) ∧
  ∀ τ, M fr τ → (∀ q, bt fx q = true → (bt mt q = true → τ q = true) ∧ (bt mf q = true → τ q = false)) → False
def cd_Gr (G : (Nat → Int) → Prop) (n : Nat) (kd lf rt bd : Nat → Int32) (g : Bool) (tm ae : Int32) (ef et ew pt : Nat → Int32) : Prop :=
  cd_GO G g ef et ew ∧ (∀ k, k < n → kd k = 1 → cd_EM lf rt bd (bt tm k) ef et ew k) ∧ (∀ e, bt ae e = true ↔ (e < n ∧ kd e = 1) ∨ (e = 10 ∧ g = true)) ∧ ie_Fe ae ef et ew pt ∧ (∀ v, v < 8 → -200000000 ≤ (pt v).toInt ∧ (pt v).toInt ≤ 0)
def cd_Re (M : Int32 → (Nat → Bool) → Prop) (n : Nat) (mt mf ar tm : Int32) : Prop :=
  (∀ q, bt tm q = true → q < n) ∧ M ar (fun q => bt tm q) ∧ (∀ q, bt mt q = true → bt tm q = true) ∧ (∀ q, bt mf q = true → bt tm q = false) ∧
  ∀ τ, M ar τ → (∀ q, bt mt q = true → τ q = true) → (∀ q, bt mf q = true → τ q = false) → ∀ p, p < n → (∀ q, q < p → τ q = bt tm q) → τ p ≠ bt tm p → τ p = true ∧ bt tm p = false
theorem st_init {M : Int32 → (Nat → Bool) → Prop} {G : (Nat → Int) → Prop} {n : Nat} {kd lf rt bd : Nat → Int32} {mt mf ar : Int32} {g : Bool} {ae : Int32} {tr ls la ra rr ef et ew pt : Nat → Int32} {lv : Nat → Nat}
    (hn : n ≤ 10) (hGO : cd_GO G g ef et ew) (hla : ∀ j, j < 12 → la j = 0) (hae : ∀ e, bt ae e = true ↔ (e = 10 ∧ g = true)) (hfe : ie_Fe ae ef et ew pt) (hpt : ∀ v, v < 8 → -8000 ≤ (pt v).toInt ∧ (pt v).toInt ≤ 0) :
    cd_ST M G n kd lf rt bd mt mf ar g 0 0 0 0 0 0 ae tr ls la ra rr ef et ew pt lv := by
  refine ⟨⟨hn, ⟨fun i hi => by omega, fun i j hi => by omega, fun k => ?_, fun k h => ?_⟩, ⟨fun i i' _ h => by omega, fun i h => by omega, fun j h1 h2 => by omega, fun i k h => by omega, fun j k hj => ?_, fun j _ h => hla j h⟩, fun i k h => by omega, fun i k h => by omega, Nat.zero_le _⟩, ⟨Nat.le_refl _, hGO, fun i k h => by omega, fun e => ?_, hfe, fun v hv => ?_⟩, fun i h => by omega⟩
  · rw [b_0]
    exact ⟨fun z => (by rcases z with z | z <;> cases z), fun ⟨_, i, hi, _⟩ => by omega⟩
  · rw [b_0] at h; cases h
  · rw [hla j (by omega), b_0]
    exact ⟨fun z => (by cases z), fun ⟨_, i, hi, _⟩ => by omega⟩
  · rw [hae]
    exact ⟨fun z => Or.inr z, fun z => z.elim (fun ⟨_, _, i, hi, _⟩ => by omega) id⟩
  · have := hpt v hv
    omega
section
variable {f_goalEdge f_goalRest f_atomBits f_decided f_maxVariables f_maxAtoms f_maxClauses f_maxDepth f_atomCount f_clauseCount f_depthNow f_assumedTrue f_assumedFalse f_status f_presentTrue f_coreKnown f_coreClauses f_coreAtoms f_witnessClauses f_witnessAtoms f_learnedCount f_learnedNext f_activeRests f_trueMask f_falseMask f_trailSize f_theoryHead f_level f_conflictAtoms f_conflictRests f_failedAtoms f_failedRests f_activeEdges f_goalOn : Int32} {a_kinds a_lefts a_rights a_bounds a_atomDepths a_literals a_literalCounts a_clausePos a_clauseNeg a_clauseDepths a_values a_learnedPos a_learnedNeg a_learnedRests a_trail a_levelStart a_levelAtoms a_reasonAtoms a_reasonRests a_edgeFrom a_edgeTo a_edgeWeight a_potential a_moved a_gamma a_via a_dist a_link : Nat → Int32}
variable {G : (Nat → Int) → Prop} {n m lc V : Nat} {mt mf : Int32} {g : Bool}
theorem xw_start {post : SX → Prop} {cl : Int32} (hn : n ≤ 10) (hAt : ds_At V n a_kinds a_lefts a_rights a_bounds) (hV : V ≤ 8) (hgo : (g = true ∧ ¬ f_goalOn = 0) ∨ (g = false ∧ f_goalOn = 0)) (hGO : cd_GO G g a_edgeFrom a_edgeTo a_edgeWeight)
    (K : ∀ (ts : Nat) (f_trueMask' f_falseMask' f_activeEdges' : Int32) (a_trail' a_levelStart' a_levelAtoms' a_reasonAtoms' a_reasonRests' a_edgeFrom' a_edgeTo' a_edgeWeight' a_potential' : Nat → Int32) (f_activeRests' : Int32) (a_moved' a_gamma' a_via' a_dist' a_link' : Nat → Int32) (lv' : Nat → Nat), (∀ q, bt f_activeRests' q = (bt cl q || (g && decide (q = 24)))) → cd_ST (ds_M n m a_kinds a_lefts a_rights a_bounds a_clausePos a_clauseNeg G) G n a_kinds a_lefts a_rights a_bounds mt mf f_activeRests' g 0 ts 0 0 f_trueMask' f_falseMask' f_activeEdges' a_trail' a_levelStart' a_levelAtoms' a_reasonAtoms' a_reasonRests' a_edgeFrom' a_edgeTo' a_edgeWeight' a_potential' lv' →
      post (f_goalEdge, f_goalRest, f_atomBits, f_decided, f_maxVariables, f_maxAtoms, f_maxClauses, f_maxDepth, nI n, f_clauseCount, f_depthNow, f_assumedTrue, f_assumedFalse, f_status, f_presentTrue, f_coreKnown, f_coreClauses, f_coreAtoms, f_witnessClauses, f_witnessAtoms, f_learnedCount, f_learnedNext, f_activeRests', f_trueMask', f_falseMask', nI ts, nI 0, nI 0, f_conflictAtoms, f_conflictRests, f_failedAtoms, f_failedRests, f_activeEdges', f_goalOn, a_kinds, a_lefts, a_rights, a_bounds, a_atomDepths, a_literals, a_literalCounts, a_clausePos, a_clauseNeg, a_clauseDepths, a_values, a_learnedPos, a_learnedNeg, a_learnedRests, a_trail', a_levelStart', a_levelAtoms', a_reasonAtoms', a_reasonRests', a_edgeFrom', a_edgeTo', a_edgeWeight', a_potential', a_moved', a_gamma', a_via', a_dist', a_link')) :
    wpX_startSearch post (f_goalEdge, f_goalRest, f_atomBits, f_decided, f_maxVariables, f_maxAtoms, f_maxClauses, f_maxDepth, nI n, f_clauseCount, f_depthNow, f_assumedTrue, f_assumedFalse, f_status, f_presentTrue, f_coreKnown, f_coreClauses, f_coreAtoms, f_witnessClauses, f_witnessAtoms, f_learnedCount, f_learnedNext, f_activeRests, f_trueMask, f_falseMask, f_trailSize, f_theoryHead, f_level, f_conflictAtoms, f_conflictRests, f_failedAtoms, f_failedRests, f_activeEdges, f_goalOn, a_kinds, a_lefts, a_rights, a_bounds, a_atomDepths, a_literals, a_literalCounts, a_clausePos, a_clauseNeg, a_clauseDepths, a_values, a_learnedPos, a_learnedNeg, a_learnedRests, a_trail, a_levelStart, a_levelAtoms, a_reasonAtoms, a_reasonRests, a_edgeFrom, a_edgeTo, a_edgeWeight, a_potential, a_moved, a_gamma, a_via, a_dist, a_link) cl := by
  have pot : ∀ (ls la : Nat → Int32), (∀ j, j < 12 → la j = 0) → ∀ f i pt, i ≤ 8 → 8 < f + i → (∀ v, v < i → pt v = 0) →
      wX_startSearch_65 post f_goalEdge f_goalRest f_atomBits f_decided f_maxVariables f_maxAtoms f_maxClauses f_maxDepth (nI n) f_clauseCount f_depthNow f_assumedTrue f_assumedFalse f_status f_presentTrue f_coreKnown f_coreClauses f_coreAtoms f_witnessClauses f_witnessAtoms f_learnedCount f_learnedNext cl 0 0 0 0 0 f_conflictAtoms f_conflictRests f_failedAtoms f_failedRests 0 f_goalOn f (nI i) a_kinds a_lefts a_rights a_bounds a_atomDepths a_literals a_literalCounts a_clausePos a_clauseNeg a_clauseDepths a_values a_learnedPos a_learnedNeg a_learnedRests a_trail ls la a_reasonAtoms a_reasonRests a_edgeFrom a_edgeTo a_edgeWeight pt a_moved a_gamma a_via a_dist a_link := by
    intro ls la hla f
    induction f with
    | zero => intro i pt h1 h2; omega
    | succ f ih =>
      intro i pt hi hf hpt
      have ci : (nI i).toNatClampNeg = i := nI_clamp (by omega)
      refine pk_le 8 i (fun h => br_c (fun hz => ?_) (fun hz => nm_e ?_)) (fun h => And.intro (pk_in i 8 h) (nm_e (nm_r (nI_1 i) ?_)))
      · have hg : g = false := by
          rcases hgo with ⟨_, z⟩ | ⟨z, _⟩
          · exact (z hz).elim
          · exact z
        refine K 0 0 0 0 a_trail ls la a_reasonAtoms a_reasonRests a_edgeFrom a_edgeTo a_edgeWeight pt cl a_moved a_gamma a_via a_dist a_link (fun _ => 0) (fun q => by rw [hg, Bool.false_and, Bool.or_false]) (st_init hn hGO hla (fun e => ?_) (fun e _ hb => ?_) (fun v hv => ?_))
        · rw [b_0, hg]; exact ⟨fun z => (by cases z), fun z => (by cases z.2)⟩
        · rw [b_0] at hb; cases hb
        · rw [hpt v (by omega), zi_0]; omega
      · have hg : g = true := by
          rcases hgo with ⟨z, _⟩ | ⟨_, z⟩
          · exact z
          · exact (hz z).elim
        obtain ⟨o1, o2, o3, o4, o5, o6⟩ := hGO hg
        have hb10 : ∀ e, bt ((0 : Int32) ||| (1 : Int32) <<< (nI 10 &&& 31)) e = decide (e = 10) := fun e => by rw [b_or, b_0, zb_bit (by omega), Bool.false_or]
        refine xw_insert (e := 10) (lo := 0) (by omega) (fun e _ hb => ?_) o1 o2 ⟨o4, o5⟩ o3 (fun e _ hb => ?_) (by omega) (fun v hv => ?_) (fun pt' mv gm vi q1 q2 => br_f (by decide) ?_) (fun es mv gm vi hcf => ?_)
        · rw [b_0] at hb; cases hb
        · rw [b_0] at hb; cases hb
        · rw [hpt v (by omega), zi_0]; omega
        · have hST0 : cd_ST (ds_M n m a_kinds a_lefts a_rights a_bounds a_clausePos a_clauseNeg G) G n a_kinds a_lefts a_rights a_bounds mt mf (cl ||| 16777216) g 0 0 0 0 0 0 ((0 : Int32) ||| (1 : Int32) <<< (nI 10 &&& 31)) a_trail ls la a_reasonAtoms a_reasonRests a_edgeFrom a_edgeTo a_edgeWeight pt' (fun _ => 0) := by
            refine st_init hn hGO hla (fun e => ?_) (fun e he hb => q1 e he (Or.inr ?_)) (fun v hv => ?_)
            · rw [hb10, decide_eq_true_eq, hg]
              exact ⟨fun z => ⟨z, rfl⟩, fun z => z.1⟩
            · rw [hb10, decide_eq_true_eq] at hb; exact hb
            · have := q2 v hv; omega
          refine xw_through (e := 10) (ts := 0) (L := 0) hAt hV (fun _ => ?_) (by omega) ?_ (by omega) hST0 (fun ts' f_trueMask' f_falseMask' a_trail' a_levelAtoms' a_reasonAtoms' a_reasonRests' a_edgeFrom' a_edgeTo' a_edgeWeight' ds lk lv' g1 g2 => ?_)
          · rw [b_or, zb_g24, decide_eq_true rfl, Bool.or_true]
          · rw [hb10, decide_eq_true rfl]
          · exact K ts' _ _ _ _ _ _ _ _ _ _ _ _ _ _ _ _ _ _ lv' (fun q => by rw [b_or, zb_g24, hg, Bool.true_and]) g1
        · exfalso
          refine hcf.2.2 (fun v => if v = (a_edgeTo 10).toNatClampNeg then -708 else 0) (fun q hq => ?_)
          rcases (hcf.1 q hq).2 with z | z
          · rw [b_0] at z; cases z
          · rw [z]
            simp only [if_pos]
            rw [if_neg o3]
            omega
      · rw [ci]
        refine ih (i + 1) _ (by omega) (by omega) (fun v hv => ?_)
        by_cases e : v = i
        · rw [e, pk_us]
        · rw [pk_un e]; exact hpt v (by omega)
  have lev : ∀ f i (ls la : Nat → Int32), i ≤ 12 → 12 < f + i → (∀ j, j < i → la j = 0) →
      wX_startSearch_37 post f_goalEdge f_goalRest f_atomBits f_decided f_maxVariables f_maxAtoms f_maxClauses f_maxDepth (nI n) f_clauseCount f_depthNow f_assumedTrue f_assumedFalse f_status f_presentTrue f_coreKnown f_coreClauses f_coreAtoms f_witnessClauses f_witnessAtoms f_learnedCount f_learnedNext cl 0 0 0 0 0 f_conflictAtoms f_conflictRests f_failedAtoms f_failedRests 0 f_goalOn f (nI i) a_kinds a_lefts a_rights a_bounds a_atomDepths a_literals a_literalCounts a_clausePos a_clauseNeg a_clauseDepths a_values a_learnedPos a_learnedNeg a_learnedRests a_trail ls la a_reasonAtoms a_reasonRests a_edgeFrom a_edgeTo a_edgeWeight a_potential a_moved a_gamma a_via a_dist a_link := by
    intro f
    induction f with
    | zero => intro i ls la h1 h2; omega
    | succ f ih =>
      intro i ls la hi hf hla
      have ci : (nI i).toNatClampNeg = i := nI_clamp (by omega)
      refine pk_le 12 i (fun h => Exists.intro 9 (pot ls la (fun j hj => hla j (by omega)) 9 0 a_potential (by omega) (by omega) (fun v hv => by omega))) (fun h => And.intro (pk_in i 12 h) (nm_e (And.intro (pk_in i 12 h) (nm_e (nm_r (nI_1 i) ?_)))))
      rw [ci]
      refine ih (i + 1) _ _ (by omega) (by omega) (fun j hj => ?_)
      by_cases e : j = i
      · rw [e, pk_us]
      · rw [pk_un e]; exact hla j (by omega)
  exact Exists.intro 13 (lev 13 0 a_levelStart a_levelAtoms (by omega) (by omega) (fun j hj => by omega))
end
end
section
section
variable {f_goalEdge f_goalRest f_atomBits f_decided f_maxVariables f_maxAtoms f_maxClauses f_maxDepth f_atomCount f_clauseCount f_depthNow f_assumedTrue f_assumedFalse f_status f_presentTrue f_coreKnown f_coreClauses f_coreAtoms f_witnessClauses f_witnessAtoms f_learnedCount f_learnedNext f_activeRests f_trueMask f_falseMask f_trailSize f_theoryHead f_level f_conflictAtoms f_conflictRests f_failedAtoms f_failedRests f_activeEdges f_goalOn : Int32} {a_kinds a_lefts a_rights a_bounds a_atomDepths a_literals a_literalCounts a_clausePos a_clauseNeg a_clauseDepths a_values a_learnedPos a_learnedNeg a_learnedRests a_trail a_levelStart a_levelAtoms a_reasonAtoms a_reasonRests a_edgeFrom a_edgeTo a_edgeWeight a_potential a_moved a_gamma a_via a_dist a_link : Nat → Int32}
variable {G : (Nat → Int) → Prop} {n m V : Nat} {mt mf : Int32} {g : Bool}
/-- the end with a model -/
theorem st_res {M : Int32 → (Nat → Bool) → Prop} {s ts L : Nat} {lv : Nat → Nat} (hM : M = ds_M n m a_kinds a_lefts a_rights a_bounds a_clausePos a_clauseNeg G) (hmono : cd_Mono M) (hAt : ds_At V n a_kinds a_lefts a_rights a_bounds) (hV : V ≤ 8) (hST : cd_ST M G n a_kinds a_lefts a_rights a_bounds mt mf f_activeRests g s ts ts L f_trueMask f_falseMask f_activeEdges a_trail a_levelStart a_levelAtoms a_reasonAtoms a_reasonRests a_edgeFrom a_edgeTo a_edgeWeight a_potential lv)
    (har : ∀ q, bt f_activeRests q = true → q < m ∨ (q = 24 ∧ g = true)) (hm : m ≤ 24) (hC : ∀ i, i < m → ∀ k, bt (a_clausePos i) k = true ∨ bt (a_clauseNeg i) k = true → k < n)
    (hall : ∀ q, q < n → bt f_trueMask q = true ∨ bt f_falseMask q = true) (hok : ∀ j, j < m → bt f_activeRests j = true → cd_OK (a_clausePos j) (a_clauseNeg j) f_trueMask f_falseMask)
    (hmt : ∀ q, bt mt q = true → q < n) (hmf : ∀ q, bt mf q = true → q < n) (hb1 : ∀ q, bt f_trueMask q = true → bt mf q = true → False) (hb2 : ∀ q, bt f_falseMask q = true → bt mt q = true → False) :
    cd_Re M n mt mf f_activeRests f_trueMask ∧ cd_Gr G n a_kinds a_lefts a_rights a_bounds g f_trueMask f_activeEdges a_edgeFrom a_edgeTo a_edgeWeight a_potential := by
  have hn := hST.1.1
  have hTR := hST.1.2.1
  have hroom := cd_room hTR hn
  have hph := cd_ph_max (tr := a_trail) (ra := a_reasonAtoms) (ts := ts) (by omega)
  obtain ⟨g1, g2, g3, g4, g5, g6⟩ := hST.2.1
  have hEM : ∀ k, k < n → a_kinds k = 1 → cd_EM a_lefts a_rights a_bounds (bt f_trueMask k) a_edgeFrom a_edgeTo a_edgeWeight k := by
    intro k hk hd
    obtain ⟨_, i, hi, e⟩ := (hTR.2.2.1 k).mp (hall k hk)
    exact g3 i k hi hk e hd
  have hae : ∀ e, bt f_activeEdges e = true ↔ (e < n ∧ a_kinds e = 1) ∨ (e = 10 ∧ g = true) := by
    intro e
    rw [g4 e]
    constructor
    · rintro (⟨a, b, _⟩ | z)
      · exact Or.inl ⟨a, b⟩
      · exact Or.inr z
    · rintro (⟨a, b⟩ | z)
      · obtain ⟨_, i, hi, e'⟩ := (hTR.2.2.1 e).mp (hall e a)
        exact Or.inl ⟨a, b, i, hi, e'⟩
      · exact Or.inr z
  refine ⟨⟨fun q hq => ((hTR.2.2.1 q).mp (Or.inl hq)).1, ?_, fun q hq => ?_, fun q hq => zb_tf fun z => hb1 q z hq, fun τ hτ t1 t2 p hp heq hne => cd_least hmono hST.1 hall hτ t1 t2 hp heq hne⟩, g2, hEM, hae, g5, fun v hv => ?_⟩
  · rw [hM]
    refine ⟨fun v => (a_potential v).toInt, ?_, fun i hi hb => ?_, fun hb => ?_⟩
    · intro a b w ⟨k, hk, hd, hc⟩
      have h1 := g5 k (by omega) ((hae k).mpr (Or.inl ⟨hk, hd⟩))
      have h2 := hEM k hk hd
      have h3 := (cd_EM_ok hAt hV hk hd h2).2.2.2.2.2
      dsimp only at hc
      rcases hc with ⟨c1, c2, c3, c4⟩ | ⟨c1, c2, c3, c4⟩
      · obtain ⟨e1, e2, e3⟩ := h2.1 c1
        rw [if_pos c1] at h3
        rw [e1, e2, h3] at h1
        rw [c2, c3, c4]; exact h1
      · obtain ⟨e1, e2, e3⟩ := h2.2 c1
        rw [c1, if_neg (by decide)] at h3
        rw [e1, e2, h3] at h1
        rw [c2, c3, c4]; exact h1
    · rcases hok i hi hb with z | ⟨k, z1, z2, z3⟩
      · exact z
      · rcases hall k (hC i hi k z1) with y | y
        · rw [z2] at y; cases y
        · rw [z3] at y; cases y
    · rcases har 24 hb with z | ⟨_, z⟩
      · omega
      · exact ((g2 z).2.2.2.2.2 _).mpr (g5 10 (by omega) ((hae 10).mpr (Or.inr ⟨rfl, z⟩)))
  · rcases hall q (hmt q hq) with z | z
    · exact z
    · exact (hb2 q z hq).elim
  · have h1 := g6 v hv
    have h2 := hST.1.2.2.2.2.2
    omega
theorem xw_search {post : Int32 → SX → Prop} {cl : Int32} {lc0 : Nat} (hn : n ≤ 10) (hAt : ds_At V n a_kinds a_lefts a_rights a_bounds) (hV : V ≤ 8) (hgo : (g = true ∧ ¬ f_goalOn = 0) ∨ (g = false ∧ f_goalOn = 0)) (hGO : cd_GO G g a_edgeFrom a_edgeTo a_edgeWeight)
    (hm : m ≤ 24) (hC : ∀ i, i < m → ∀ k, bt (a_clausePos i) k = true ∨ bt (a_clauseNeg i) k = true → k < n) (hlc0 : lc0 ≤ 128) (hLC0 : cd_LC (ds_M n m a_kinds a_lefts a_rights a_bounds a_clausePos a_clauseNeg G) n m g lc0 a_learnedPos a_learnedNeg a_learnedRests)
    (hmt : ∀ q, bt mt q = true → q < n) (hmf : ∀ q, bt mf q = true → q < n) (hdis : ∀ q, bt mt q = true → bt mf q = true → False) (hcl : ∀ q, bt cl q = true → q < m)
    (K1 : ∀ (lc : Nat) (f_learnedCount' f_learnedNext' f_activeRests' f_trueMask' f_falseMask' f_trailSize' f_theoryHead' f_level' f_conflictAtoms' f_conflictRests' f_failedAtoms' f_failedRests' f_activeEdges' : Int32) (a_learnedPos' a_learnedNeg' a_learnedRests' a_trail' a_levelStart' a_levelAtoms' a_reasonAtoms' a_reasonRests' a_edgeFrom' a_edgeTo' a_edgeWeight' a_potential' a_moved' a_gamma' a_via' a_dist' a_link' : Nat → Int32), lc ≤ 128 → cd_LC (ds_M n m a_kinds a_lefts a_rights a_bounds a_clausePos a_clauseNeg G) n m g lc a_learnedPos' a_learnedNeg' a_learnedRests' → (∀ q, bt f_activeRests' q = (bt cl q || (g && decide (q = 24)))) →
      cd_Re (ds_M n m a_kinds a_lefts a_rights a_bounds a_clausePos a_clauseNeg G) n mt mf f_activeRests' f_trueMask' → cd_Gr G n a_kinds a_lefts a_rights a_bounds g f_trueMask' f_activeEdges' a_edgeFrom' a_edgeTo' a_edgeWeight' a_potential' →
      post 1 (f_goalEdge, f_goalRest, f_atomBits, f_decided, f_maxVariables, f_maxAtoms, f_maxClauses, f_maxDepth, nI n, nI m, f_depthNow, f_assumedTrue, f_assumedFalse, f_status, f_presentTrue, f_coreKnown, f_coreClauses, f_coreAtoms, f_witnessClauses, f_witnessAtoms, nI lc, f_learnedNext', f_activeRests', f_trueMask', f_falseMask', f_trailSize', f_theoryHead', f_level', f_conflictAtoms', f_conflictRests', f_failedAtoms', f_failedRests', f_activeEdges', f_goalOn, a_kinds, a_lefts, a_rights, a_bounds, a_atomDepths, a_literals, a_literalCounts, a_clausePos, a_clauseNeg, a_clauseDepths, a_values, a_learnedPos', a_learnedNeg', a_learnedRests', a_trail', a_levelStart', a_levelAtoms', a_reasonAtoms', a_reasonRests', a_edgeFrom', a_edgeTo', a_edgeWeight', a_potential', a_moved', a_gamma', a_via', a_dist', a_link'))
    (K0 : ∀ (lc : Nat) (f_learnedCount' f_learnedNext' f_activeRests' f_trueMask' f_falseMask' f_trailSize' f_theoryHead' f_level' f_conflictAtoms' f_conflictRests' f_failedAtoms' f_failedRests' f_activeEdges' : Int32) (a_learnedPos' a_learnedNeg' a_learnedRests' a_trail' a_levelStart' a_levelAtoms' a_reasonAtoms' a_reasonRests' a_edgeFrom' a_edgeTo' a_edgeWeight' a_potential' a_moved' a_gamma' a_via' a_dist' a_link' : Nat → Int32), lc ≤ 128 → cd_LC (ds_M n m a_kinds a_lefts a_rights a_bounds a_clausePos a_clauseNeg G) n m g lc a_learnedPos' a_learnedNeg' a_learnedRests' → (∀ q, bt f_activeRests' q = (bt cl q || (g && decide (q = 24)))) →
      cd_Un (ds_M n m a_kinds a_lefts a_rights a_bounds a_clausePos a_clauseNeg G) mt mf f_activeRests' f_failedAtoms' f_failedRests' →
      cd_GO G g a_edgeFrom' a_edgeTo' a_edgeWeight' →
      post 0 (f_goalEdge, f_goalRest, f_atomBits, f_decided, f_maxVariables, f_maxAtoms, f_maxClauses, f_maxDepth, nI n, nI m, f_depthNow, f_assumedTrue, f_assumedFalse, f_status, f_presentTrue, f_coreKnown, f_coreClauses, f_coreAtoms, f_witnessClauses, f_witnessAtoms, nI lc, f_learnedNext', f_activeRests', f_trueMask', f_falseMask', f_trailSize', f_theoryHead', f_level', f_conflictAtoms', f_conflictRests', f_failedAtoms', f_failedRests', f_activeEdges', f_goalOn, a_kinds, a_lefts, a_rights, a_bounds, a_atomDepths, a_literals, a_literalCounts, a_clausePos, a_clauseNeg, a_clauseDepths, a_values, a_learnedPos', a_learnedNeg', a_learnedRests', a_trail', a_levelStart', a_levelAtoms', a_reasonAtoms', a_reasonRests', a_edgeFrom', a_edgeTo', a_edgeWeight', a_potential', a_moved', a_gamma', a_via', a_dist', a_link')) :
    wpX_search post (f_goalEdge, f_goalRest, f_atomBits, f_decided, f_maxVariables, f_maxAtoms, f_maxClauses, f_maxDepth, nI n, nI m, f_depthNow, f_assumedTrue, f_assumedFalse, f_status, f_presentTrue, f_coreKnown, f_coreClauses, f_coreAtoms, f_witnessClauses, f_witnessAtoms, nI lc0, f_learnedNext, f_activeRests, f_trueMask, f_falseMask, f_trailSize, f_theoryHead, f_level, f_conflictAtoms, f_conflictRests, f_failedAtoms, f_failedRests, f_activeEdges, f_goalOn, a_kinds, a_lefts, a_rights, a_bounds, a_atomDepths, a_literals, a_literalCounts, a_clausePos, a_clauseNeg, a_clauseDepths, a_values, a_learnedPos, a_learnedNeg, a_learnedRests, a_trail, a_levelStart, a_levelAtoms, a_reasonAtoms, a_reasonRests, a_edgeFrom, a_edgeTo, a_edgeWeight, a_potential, a_moved, a_gamma, a_via, a_dist, a_link) mt mf cl := by
  have hmono : cd_Mono (ds_M n m a_kinds a_lefts a_rights a_bounds a_clausePos a_clauseNeg G) := ds_mono
  refine xw_start (f_activeEdges := f_activeEdges) (f_level := f_level) (f_theoryHead := f_theoryHead) (f_trailSize := f_trailSize) (f_trueMask := f_trueMask) (f_falseMask := f_falseMask) (f_activeRests := f_activeRests) (mt := mt) (mf := mf) (m := m) hn hAt hV hgo hGO (fun ts0 f_trueMask0 f_falseMask0 f_activeEdges0 a_trail0 a_levelStart0 a_levelAtoms0 a_reasonAtoms0 a_reasonRests0 a_edgeFrom0 a_edgeTo0 a_edgeWeight0 a_potential0 ar0 mv0 gm0 vi0 ds0 lk0 lv0 har0 hST0 => nm_e (Exists.intro 2049 ?_))
  have har : ∀ q, bt ar0 q = true → q < m ∨ (q = 24 ∧ g = true) := by
    intro q hq
    rw [har0, Bool.or_eq_true, Bool.and_eq_true, decide_eq_true_eq] at hq
    rcases hq with z | z
    · exact Or.inl (hcl q z)
    · exact Or.inr ⟨z.2, z.1⟩
  have hg24 : g = true → bt ar0 24 = true := by
    intro z
    rw [har0, z, decide_eq_true rfl, Bool.true_and, Bool.or_true]
  have hfin : ∀ fx fr, cd_Un (ds_M n m a_kinds a_lefts a_rights a_bounds a_clausePos a_clauseNeg G) mt mf ar0 fx fr → cd_CS (ds_M n m a_kinds a_lefts a_rights a_bounds a_clausePos a_clauseNeg G) n (fx &&& mf) (fx &&& mt) fr := by
    intro fx fr ⟨u1, u2, u3⟩
    refine ⟨fun q hq => ?_, fun τ hM => ?_⟩
    · rw [b_and, b_and, Bool.and_eq_true, Bool.and_eq_true] at hq
      rcases hq with z | z
      · exact hmf q z.2
      · exact hmt q z.2
    · apply Classical.byContradiction
      intro hno
      refine u3 τ hM (fun q hq => ⟨fun z => ?_, fun z => ?_⟩)
      · exact zb_ft fun y => hno ⟨q, Or.inr ⟨by rw [b_and, hq, z]; rfl, y⟩⟩
      · exact zb_tf fun y => hno ⟨q, Or.inl ⟨by rw [b_and, hq, z]; rfl, y⟩⟩
  have key : ∀ f (s ts th L lc : Nat) (f_learnedNext' f_trueMask' f_falseMask' f_conflictAtoms' f_conflictRests' f_activeEdges' : Int32) (a_learnedPos' a_learnedNeg' a_learnedRests' a_trail' a_levelStart' a_levelAtoms' a_reasonAtoms' a_reasonRests' a_edgeFrom' a_edgeTo' a_edgeWeight' a_potential' a_moved' a_gamma' a_via' a_dist' a_link' : Nat → Int32) (lv' : Nat → Nat), 2048 < f + s → cd_ST (ds_M n m a_kinds a_lefts a_rights a_bounds a_clausePos a_clauseNeg G) G n a_kinds a_lefts a_rights a_bounds mt mf ar0 g s ts th L f_trueMask' f_falseMask' f_activeEdges' a_trail' a_levelStart' a_levelAtoms' a_reasonAtoms' a_reasonRests' a_edgeFrom' a_edgeTo' a_edgeWeight' a_potential' lv' → lc ≤ 128 → cd_LC (ds_M n m a_kinds a_lefts a_rights a_bounds a_clausePos a_clauseNeg G) n m g lc a_learnedPos' a_learnedNeg' a_learnedRests' →
      wX_search_18 post mt mf (((1 : Int32) <<< (nI n &&& 31)) - 1) f (nI s) f_goalEdge f_goalRest f_atomBits f_decided f_maxVariables f_maxAtoms f_maxClauses f_maxDepth (nI n) (nI m) f_depthNow f_assumedTrue f_assumedFalse f_status f_presentTrue f_coreKnown f_coreClauses f_coreAtoms f_witnessClauses f_witnessAtoms (nI lc) f_learnedNext' ar0 f_trueMask' f_falseMask' (nI ts) (nI th) (nI L) f_conflictAtoms' f_conflictRests' f_failedAtoms f_failedRests f_activeEdges' f_goalOn a_kinds a_lefts a_rights a_bounds a_atomDepths a_literals a_literalCounts a_clausePos a_clauseNeg a_clauseDepths a_values a_learnedPos' a_learnedNeg' a_learnedRests' a_trail' a_levelStart' a_levelAtoms' a_reasonAtoms' a_reasonRests' a_edgeFrom' a_edgeTo' a_edgeWeight' a_potential' a_moved' a_gamma' a_via' a_dist' a_link' := by
    intro f
    induction f with
    | zero =>
      intro s ts th L lc f_learnedNext' f_trueMask' f_falseMask' f_conflictAtoms' f_conflictRests' f_activeEdges' a_learnedPos' a_learnedNeg' a_learnedRests' a_trail' a_levelStart' a_levelAtoms' a_reasonAtoms' a_reasonRests' a_edgeFrom' a_edgeTo' a_edgeWeight' a_potential' a_moved' a_gamma' a_via' a_dist' a_link' lv' hf hST
      have h1 := cd_room hST.1.2.1 hn
      have h2 := cd_ph_max (tr := a_trail') (ra := a_reasonAtoms') (ts := ts) (by omega)
      have h3 := hST.1.2.2.2.2.2
      omega
    | succ f ih =>
      intro s ts th L lc f_learnedNext' f_trueMask' f_falseMask' f_conflictAtoms' f_conflictRests' f_activeEdges' a_learnedPos' a_learnedNeg' a_learnedRests' a_trail' a_levelStart' a_levelAtoms' a_reasonAtoms' a_reasonRests' a_edgeFrom' a_edgeTo' a_edgeWeight' a_potential' a_moved' a_gamma' a_via' a_dist' a_link' lv' hf hST hlc hLC
      have hs : s ≤ 2047 := by
        have h1 := cd_room hST.1.2.1 hn
        have h2 := cd_ph_max (tr := a_trail') (ra := a_reasonAtoms') (ts := ts) (by omega)
        have h3 := hST.1.2.2.2.2.2
        omega
      refine pk_le 8192 s (fun h => by omega) (fun _ => ?_)
      refine xw_propagate hAt hV hg24 hs hm hC hlc hLC hST (fun ts2 th2 thx f_trueMask'' f_falseMask'' f_conflictAtoms'' f_conflictRests'' f_activeEdges'' a_trail'' a_levelAtoms'' a_reasonAtoms'' a_reasonRests'' a_edgeFrom'' a_edgeTo'' a_edgeWeight'' a_potential'' a_moved'' a_gamma'' a_via'' a_dist'' a_link'' lv2 h1 h2 h3 h4 => br_t rfl ?_) (fun ts2 f_trueMask'' f_falseMask'' f_activeEdges'' a_trail'' a_levelAtoms'' a_reasonAtoms'' a_reasonRests'' a_edgeFrom'' a_edgeTo'' a_edgeWeight'' a_potential'' a_moved'' a_gamma'' a_via'' a_dist'' a_link'' lv2 h1 h2 => br_f (by decide) ?_)
      · -- a conflict
        have hLr := cd_L h1.1.2.2.1
        have hroom := cd_room h1.1.2.1 hn
        refine xw_high (by omega) (fun top htop hhit hhi => ?_)
        refine pk_eq top 0 (fun e0 => ?_) (fun e0 => ?_)
        · subst e0
          refine xw_explain (u := 0) (b0 := 0) (Bad := fun _ => False) hmono h1.1 h4.1 (fun q i hq hi e => ?_) h4.2.1 h4.2.2 (fun fx fr w1 w2 w3 w4 => ?_)
          · apply Classical.byContradiction
            intro hgt
            have hle := h1.1.2.2.1.2.1 i hi
            obtain ⟨hqn, _⟩ := (h1.1.2.1.2.2.1 q).mp (h4.1 q hq)
            exact hhi (lv2 i) (by omega) hle q ((h1.1.2.2.1.2.2.2.2.1 (lv2 i) q hle).mpr ⟨by omega, i, hi, e, rfl⟩) hq
          · have hno : ∀ q, bt fx q = true → False := by
              intro q hq
              rcases w1 q hq with z | ⟨z1, z2, i, z3, z4, z5⟩
              · rw [b_0] at z; cases z
              · have := ((h1.1.2.2.1.2.2.2.1 i q z3 z2 z4).mp z1).1
                omega
            have hun : cd_Un (ds_M n m a_kinds a_lefts a_rights a_bounds a_clausePos a_clauseNeg G) mt mf ar0 fx fr := ⟨fun q hq => (hno q hq).elim, w3, fun τ hM _ => w4 τ hM (fun q i hq => (hno q hq).elim)⟩
            refine xw_store hlc hLC (hfin fx fr hun) (fun q hq => har q (w3 q hq)) (fun lc3 nx3 lp3 ln3 lr3 g1 g2 => ?_)
            exact K0 lc3 0 nx3 ar0 _ _ _ _ _ _ _ fx fr _ _ _ _ _ _ _ _ _ _ _ _ _ _ _ _ _ _ g1 g2 har0 hun h1.2.1.2.1
        · have hhit' : ∃ q, bt (a_levelAtoms'' top) q = true ∧ bt f_conflictAtoms'' q = true := by
            rcases hhit with z | z
            · exact (e0 z).elim
            · exact z
          refine xw_learn hmono h1 h2 h3 hlc hLC har (by omega) htop h4 hhit' hhi (fun p t lc3 nx3 f_trueMask''' f_falseMask''' f_activeEdges''' a_learnedPos''' a_learnedNeg''' a_learnedRests''' a_trail''' a_levelAtoms''' a_reasonAtoms''' a_reasonRests''' a_edgeFrom''' a_edgeTo''' a_edgeWeight''' lv3 g1 g2 g3 => nm_r (nI_1 s) ?_)
          exact ih (s + 1) (p + 1) p t lc3 _ _ _ _ _ _ _ _ _ _ _ _ _ _ _ _ _ _ _ _ _ _ _ lv3 (by omega) g1 g2 g3
      · -- no conflict
        have hTR := h1.1.2.1
        refine nm_e (br_c (fun hb => nm_e (br_c (fun ho => ?_) (fun ho => ?_))) (fun hb => nm_e ?_))
        · have hb1 : ∀ q, bt f_trueMask'' q = true → bt mf q = true → False := by
            intro q z1 z2
            have := zb_eq0.mp hb q
            rw [b_or, b_and, b_and, z1, z2] at this
            cases this
          have hb2 : ∀ q, bt f_falseMask'' q = true → bt mt q = true → False := by
            intro q z1 z2
            have := zb_eq0.mp hb q
            rw [b_or, b_and, b_and, z1, z2, Bool.and_true, Bool.or_true] at this
            cases this
          have hall : ∀ q, q < n → bt f_trueMask'' q = true ∨ bt f_falseMask'' q = true := by
            intro q hq
            have := zb_sub.mp ho q (by rw [zb_mask (by omega), decide_eq_true hq])
            rw [b_or, Bool.or_eq_true] at this
            exact this
          obtain ⟨r1, r2⟩ := st_res rfl hmono hAt hV h1 har hm hC hall h2 hmt hmf hb1 hb2
          exact K1 lc 0 _ ar0 _ _ _ _ _ _ _ f_failedAtoms f_failedRests _ _ _ _ _ _ _ _ _ _ _ _ _ _ _ _ _ _ hlc hLC har0 r1 r2
        · have hb1 : ∀ q, bt f_trueMask'' q = true → bt mf q = true → False := by
            intro q z1 z2
            have := zb_eq0.mp hb q
            rw [b_or, b_and, b_and, z1, z2] at this
            cases this
          have hb2 : ∀ q, bt f_falseMask'' q = true → bt mt q = true → False := by
            intro q z1 z2
            have := zb_eq0.mp hb q
            rw [b_or, b_and, b_and, z1, z2, Bool.and_true, Bool.or_true] at this
            cases this
          refine xw_decide h1 (fun q => ?_) ho hmt hmf hb1 hb2 hdis (fun f_trueMask''' f_falseMask''' a_trail''' a_levelAtoms''' a_reasonAtoms''' a_reasonRests''' a_edgeFrom''' a_edgeTo''' a_edgeWeight''' ls3 lv3 g1 => nm_r (nI_1 s) ?_)
          · rw [zb_clr, b_or, zb_mask (by omega), Bool.and_eq_true, decide_eq_true_eq, Bool.not_eq_true', Bool.or_eq_false_iff]
          · exact ih (s + 1) (ts2 + 1) ts2 (L + 1) lc _ _ _ _ _ _ _ _ _ _ _ _ _ _ _ _ _ _ _ _ _ _ _ lv3 (by omega) g1 hlc hLC
        · -- a fixed atom is broken
          have hbit : ∀ q, bt ((f_trueMask'' &&& mf) ||| (f_falseMask'' &&& mt)) q = true → q < n ∧ ((bt f_trueMask'' q = true ∧ bt mf q = true) ∨ (bt f_falseMask'' q = true ∧ bt mt q = true)) := by
            intro q hq
            rw [b_or, b_and, b_and, Bool.or_eq_true, Bool.and_eq_true, Bool.and_eq_true] at hq
            refine ⟨?_, hq⟩
            rcases hq with z | z
            · exact hmf q z.2
            · exact hmt q z.2
          obtain ⟨k, k1, k2, k3⟩ := zb_low (fun q hq => by have := (hbit q hq).1; omega) hb
          rw [k3]
          obtain ⟨k4, k5⟩ := hbit k k2
          have hkm : bt mt k = true ∨ bt mf k = true := by
            rcases k5 with z | z
            · exact Or.inr z.2
            · exact Or.inl z.2
          have hasg : bt f_trueMask'' k = true ∨ bt f_falseMask'' k = true := by
            rcases k5 with z | z
            · exact Or.inl z.1
            · exact Or.inr z.1
          have hkb : ∀ q, bt ((1 : Int32) <<< (nI k &&& 31)) q = true → q = k := fun q hq => by
            rw [zb_bit (by omega), decide_eq_true_eq] at hq; exact hq
          refine xw_explain (b0 := L) (Bad := fun τ => τ k = bt f_trueMask'' k) hmono h1.1 (fun q hq => by rw [hkb q hq]; exact hasg) (fun q i _ hi _ => h1.1.2.2.1.2.1 i hi) (fun q hq => by rw [b_0] at hq; cases hq) (fun τ _ hag => hag k (by rw [zb_bit (by omega), decide_eq_true rfl])) (fun fx fr w1 w2 w3 w4 => ?_)
          have hfree : ∀ q i, q < 10 → i < ts2 → a_trail'' i = nI q → a_reasonAtoms'' q = -1 → (bt mt q = true ∨ bt mf q = true) ∧ bt f_trueMask'' q = bt mt q := by
            intro q i hq hi e hd
            rcases h1.1.2.2.2.2.1 i q hi hq e hd with z | ⟨_, _, _, _, z1, z2⟩
            · exact z
            · exfalso
              rcases k5 with z | z
              · have := z2 k z.2
                rw [z.1] at this; cases this
              · have := z1 k z.2
                exact hTR.2.2.2 k this z.1
          have hun : cd_Un (ds_M n m a_kinds a_lefts a_rights a_bounds a_clausePos a_clauseNeg G) mt mf ar0 fx fr := by
            refine ⟨fun q hq => ?_, w3, fun τ hM hmu => ?_⟩
            · rcases w1 q hq with z | ⟨z1, z2, i, z3, z4, _⟩
              · rw [hkb q z]; exact hkm
              · exact (hfree q i z2 z3 z4 z1).1
            · have h6 := w4 τ hM (fun q i hq hq10 hi e hd => by
                obtain ⟨y1, y2⟩ := hfree q i hq10 hi e hd
                obtain ⟨y3, y4⟩ := hmu q hq
                rw [y2]
                rcases y1 with z | z
                · rw [z]; exact y3 z
                · have : bt mt q = false := zb_tf fun x => hdis q x z
                  rw [this]; exact y4 z)
              obtain ⟨y3, y4⟩ := hmu k (w2 k (by rw [zb_bit (by omega), decide_eq_true rfl]))
              rcases k5 with z | z
              · rw [y4 z.2, z.1] at h6; cases h6
              · rw [y3 z.2] at h6
                exact hTR.2.2.2 k h6.symm z.1
          refine xw_store hlc hLC (hfin fx fr hun) (fun q hq => har q (w3 q hq)) (fun lc3 nx3 lp3 ln3 lr3 g1 g2 => ?_)
          exact K0 lc3 0 nx3 ar0 _ _ _ _ _ _ _ fx fr _ _ _ _ _ _ _ _ _ _ _ _ _ _ _ _ _ _ g1 g2 har0 hun h1.2.1.2.1
  exact key 2049 0 ts0 0 0 lc0 _ _ _ _ _ _ _ _ _ _ _ _ _ _ _ _ _ _ _ _ _ _ _ lv0 (by omega) hST0 hlc0 hLC0
end
end
section
/-! the values: Bellman-Ford reaches the greatest solution -/
def bf_I (s : Nat → Int) (r : Nat) (vl : Nat → Int32) : Prop :=
  (∀ v, v < 8 → s v ≤ (vl v).toInt ∧ (vl v).toInt ≤ 0) ∧
  ((∀ v, v < 8 → (vl v).toInt = s v) ∨ ∃ ord : Nat → Nat, (∀ i, i < r + 1 → ord i < 8 ∧ (vl (ord i)).toInt = s (ord i)) ∧ ∀ i j, i < r + 1 → j < r + 1 → ord i = ord j → i = j)
theorem bf_full {s : Nat → Int} {vl : Nat → Int32} (h : bf_I s 8 vl) : ∀ v, v < 8 → (vl v).toInt = s v := by
  obtain ⟨_, z | ⟨ord, h1, h2⟩⟩ := h
  · exact z
  · have := zc_php 8 ord 9 (fun i hi => (h1 i hi).1) h2
    omega
theorem bf_init {E : Nat → Nat → Int → Prop} {s : Nat → Int} {vl : Nat → Int32} (hs : gs_Gr E s) (hE : ∀ a b w, E a b w → a < 8 ∧ b < 8) (h0 : ∀ v, v < 8 → vl v = 0) : bf_I s 0 vl := by
  refine ⟨fun v hv => by rw [h0 v hv, zi_0]; exact ⟨hs.2.1 v, Int.le_refl _⟩, Or.inr ?_⟩
  have : ∃ v, v < 8 ∧ s v = 0 := by
    apply Classical.byContradiction
    intro hno
    refine gs_raise hs (fun v => v < 8) (fun v hv => ?_) (fun a b w e ha hb => ?_) 0 (by omega)
    · have h1 := hs.2.1 v
      have h2 : s v ≠ 0 := fun z => hno ⟨v, hv, z⟩
      omega
    · exact (ha (hE a b w e).1).elim
  obtain ⟨v, hv, e⟩ := this
  exact ⟨fun _ => v, fun i hi => ⟨hv, by rw [h0 v hv, zi_0, e]⟩, fun i j hi hj _ => by omega⟩
theorem bf_round {E : Nat → Nat → Int → Prop} {s : Nat → Int} {r : Nat} {vl vl' : Nat → Int32} (hs : gs_Gr E s) (hE : ∀ a b w, E a b w → a < 8 ∧ b < 8) (h : bf_I s r vl)
    (h1 : ∀ v, v < 8 → s v ≤ (vl' v).toInt ∧ (vl' v).toInt ≤ (vl v).toInt) (h2 : ∀ a b w, E a b w → (vl a).toInt = s a → (vl' b).toInt ≤ s a + w) : bf_I s (r + 1) vl' := by
  obtain ⟨h3, h4⟩ := h
  refine ⟨fun v hv => ⟨(h1 v hv).1, by have := (h1 v hv).2; have := (h3 v hv).2; omega⟩, ?_⟩
  have keep : ∀ v, v < 8 → (vl v).toInt = s v → (vl' v).toInt = s v := fun v hv e => by have := h1 v hv; omega
  rcases h4 with z | ⟨ord, g1, g2⟩
  · exact Or.inl (fun v hv => keep v hv (z v hv))
  · rcases Classical.em (∀ v, v < 8 → (vl v).toInt = s v) with z | z
    · exact Or.inl (fun v hv => keep v hv (z v hv))
    · have : ∃ a b w, E a b w ∧ (vl a).toInt = s a ∧ (b < 8 ∧ (vl b).toInt ≠ s b) ∧ s b = s a + w := by
        apply Classical.byContradiction
        intro hno
        apply z
        intro v hv
        apply Classical.byContradiction
        intro hv'
        refine gs_raise hs (fun v => v < 8 ∧ (vl v).toInt ≠ s v) (fun v hv => ?_) (fun a b w e ha hb => ?_) v ⟨hv, hv'⟩
        · have := h3 v hv.1
          omega
        · have h5 := hs.1 a b w e
          have h6 : (vl a).toInt = s a := Classical.byContradiction fun y => ha ⟨(hE a b w e).1, y⟩
          rcases Int.lt_or_le (s b) (s a + w) with y | y
          · exact y
          · exact (hno ⟨a, b, w, e, h6, hb, by omega⟩).elim
      obtain ⟨a, b, w, e, k1, ⟨k2, k3⟩, k4⟩ := this
      have hb : (vl' b).toInt = s b := by
        have := h2 a b w e k1
        have := h1 b k2
        omega
      refine Or.inr ⟨fun i => if i = r + 1 then b else ord i, fun i hi => ?_, fun i j hi hj => ?_⟩
      · by_cases e1 : i = r + 1
        · simp only [if_pos e1]; exact ⟨k2, hb⟩
        · simp only [if_neg e1]
          obtain ⟨c1, c2⟩ := g1 i (by omega)
          exact ⟨c1, keep _ c1 c2⟩
      · have hne : ∀ i, i < r + 1 → ord i ≠ b := fun i hi y => k3 (by rw [← y]; exact (g1 i hi).2)
        by_cases e1 : i = r + 1
        · by_cases e2 : j = r + 1
          · omega
          · simp only [if_pos e1, if_neg e2]
            intro y; exact (hne j (by omega) y.symm).elim
        · by_cases e2 : j = r + 1
          · simp only [if_neg e1, if_pos e2]
            intro y; exact (hne i (by omega) y).elim
          · simp only [if_neg e1, if_neg e2]
            exact g2 i j (by omega) (by omega)
section
variable {f_goalEdge f_goalRest f_atomBits f_decided f_maxVariables f_maxAtoms f_maxClauses f_maxDepth f_atomCount f_clauseCount f_depthNow f_assumedTrue f_assumedFalse f_status f_presentTrue f_coreKnown f_coreClauses f_coreAtoms f_witnessClauses f_witnessAtoms f_learnedCount f_learnedNext f_activeRests f_trueMask f_falseMask f_trailSize f_theoryHead f_level f_conflictAtoms f_conflictRests f_failedAtoms f_failedRests f_activeEdges f_goalOn : Int32} {a_kinds a_lefts a_rights a_bounds a_atomDepths a_literals a_literalCounts a_clausePos a_clauseNeg a_clauseDepths a_values a_learnedPos a_learnedNeg a_learnedRests a_trail a_levelStart a_levelAtoms a_reasonAtoms a_reasonRests a_edgeFrom a_edgeTo a_edgeWeight a_potential a_moved a_gamma a_via a_dist a_link : Nat → Int32}
variable {G : (Nat → Int) → Prop} {n V : Nat}
theorem xw_adopt {post : SX → Prop} {s : Nat → Int} (hn : n ≤ 10) (hAt : ds_At V n a_kinds a_lefts a_rights a_bounds) (hV : V ≤ 8) (hGr : cd_Gr G n a_kinds a_lefts a_rights a_bounds false f_trueMask f_activeEdges a_edgeFrom a_edgeTo a_edgeWeight a_potential)
    (hs : gs_Gr (ds_E n a_kinds a_lefts a_rights a_bounds (fun q => bt f_trueMask q)) s)
    (K : ∀ vl, (∀ v, v < 8 → (vl v).toInt = s v) → post (f_goalEdge, f_goalRest, f_atomBits, f_decided, f_maxVariables, f_maxAtoms, f_maxClauses, f_maxDepth, f_atomCount, f_clauseCount, f_depthNow, f_assumedTrue, f_assumedFalse, f_status, f_trueMask, f_coreKnown, f_coreClauses, f_coreAtoms, f_witnessClauses, f_witnessAtoms, f_learnedCount, f_learnedNext, f_activeRests, f_trueMask, f_falseMask, f_trailSize, f_theoryHead, f_level, f_conflictAtoms, f_conflictRests, f_failedAtoms, f_failedRests, f_activeEdges, f_goalOn, a_kinds, a_lefts, a_rights, a_bounds, a_atomDepths, a_literals, a_literalCounts, a_clausePos, a_clauseNeg, a_clauseDepths, vl, a_learnedPos, a_learnedNeg, a_learnedRests, a_trail, a_levelStart, a_levelAtoms, a_reasonAtoms, a_reasonRests, a_edgeFrom, a_edgeTo, a_edgeWeight, a_potential, a_moved, a_gamma, a_via, a_dist, a_link)) : wpX_adoptModel post (f_goalEdge, f_goalRest, f_atomBits, f_decided, f_maxVariables, f_maxAtoms, f_maxClauses, f_maxDepth, f_atomCount, f_clauseCount, f_depthNow, f_assumedTrue, f_assumedFalse, f_status, f_presentTrue, f_coreKnown, f_coreClauses, f_coreAtoms, f_witnessClauses, f_witnessAtoms, f_learnedCount, f_learnedNext, f_activeRests, f_trueMask, f_falseMask, f_trailSize, f_theoryHead, f_level, f_conflictAtoms, f_conflictRests, f_failedAtoms, f_failedRests, f_activeEdges, f_goalOn, a_kinds, a_lefts, a_rights, a_bounds, a_atomDepths, a_literals, a_literalCounts, a_clausePos, a_clauseNeg, a_clauseDepths, a_values, a_learnedPos, a_learnedNeg, a_learnedRests, a_trail, a_levelStart, a_levelAtoms, a_reasonAtoms, a_reasonRests, a_edgeFrom, a_edgeTo, a_edgeWeight, a_potential, a_moved, a_gamma, a_via, a_dist, a_link) := by
  obtain ⟨_, hEM, hae, _, _⟩ := hGr
  have hact : ∀ e, bt f_activeEdges e = true ↔ (e < n ∧ a_kinds e = 1) := fun e => by
    rw [hae e]
    exact ⟨fun z => z.elim id (fun y => (by cases y.2)), fun z => Or.inl z⟩
  have hlow : ∀ v, -707 ≤ s v := gs_low hs (ds_E8 hAt hV)
  have hE2 : ∀ a b w, ds_E n a_kinds a_lefts a_rights a_bounds (fun q => bt f_trueMask q) a b w → ∃ k, k < n ∧ a_kinds k = 1 ∧ (a_edgeFrom k).toNatClampNeg = a ∧ (a_edgeTo k).toNatClampNeg = b ∧ (a_edgeWeight k).toInt = w := by
    intro a b w ⟨k, hk, hd, hc⟩
    have h2 := hEM k hk hd
    have h3 := (cd_EM_ok hAt hV hk hd h2).2.2.2.2.2
    refine ⟨k, hk, hd, ?_⟩
    dsimp only at hc
    rcases hc with ⟨c1, c2, c3, c4⟩ | ⟨c1, c2, c3, c4⟩
    · obtain ⟨e1, e2, e3⟩ := h2.1 c1
      rw [if_pos c1] at h3
      rw [e1, e2, h3, c2, c3, c4]; exact ⟨rfl, rfl, rfl⟩
    · obtain ⟨e1, e2, e3⟩ := h2.2 c1
      rw [c1, if_neg (by decide)] at h3
      rw [e1, e2, h3, c2, c3, c4]; exact ⟨rfl, rfl, rfl⟩
  have hsol : ∀ k, k < n → a_kinds k = 1 → s (a_edgeTo k).toNatClampNeg ≤ s (a_edgeFrom k).toNatClampNeg + (a_edgeWeight k).toInt := fun k hk hd => cd_EM_sol (τ := fun q => bt f_trueMask q) hAt hV hk hd (hEM k hk hd) hs.1
  have hE8 : ∀ a b w, ds_E n a_kinds a_lefts a_rights a_bounds (fun q => bt f_trueMask q) a b w → a < 8 ∧ b < 8 := fun a b w e => by
    have := ds_E8 hAt hV a b w e
    exact ⟨this.1, this.2.1⟩
  -- the edges of one round
  have edges : ∀ (J31 : Int32 → (Nat → Int32) → (Nat → Int32) → (Nat → Int32) → (Nat → Int32) → (Nat → Int32) → (Nat → Int32) → (Nat → Int32) → (Nat → Int32) → (Nat → Int32) → (Nat → Int32) → (Nat → Int32) → (Nat → Int32) → (Nat → Int32) → (Nat → Int32) → (Nat → Int32) → (Nat → Int32) → (Nat → Int32) → (Nat → Int32) → (Nat → Int32) → (Nat → Int32) → (Nat → Int32) → (Nat → Int32) → (Nat → Int32) → (Nat → Int32) → (Nat → Int32) → (Nat → Int32) → (Nat → Int32) → (Nat → Int32) → Prop) (r : Nat) (vl0 : Nat → Int32), (∀ v, v < 8 → s v ≤ (vl0 v).toInt ∧ (vl0 v).toInt ≤ 0) →
      (∀ vl, (∀ v, v < 8 → s v ≤ (vl v).toInt ∧ (vl v).toInt ≤ (vl0 v).toInt) → (∀ k, k < n → a_kinds k = 1 → (vl0 (a_edgeFrom k).toNatClampNeg).toInt = s (a_edgeFrom k).toNatClampNeg → (vl (a_edgeTo k).toNatClampNeg).toInt ≤ s (a_edgeFrom k).toNatClampNeg + (a_edgeWeight k).toInt) → J31 (nI (r + 1)) a_kinds a_lefts a_rights a_bounds a_atomDepths a_literals a_literalCounts a_clausePos a_clauseNeg a_clauseDepths vl a_learnedPos a_learnedNeg a_learnedRests a_trail a_levelStart a_levelAtoms a_reasonAtoms a_reasonRests a_edgeFrom a_edgeTo a_edgeWeight a_potential a_moved a_gamma a_via a_dist a_link) →
      ∀ f i vl, i ≤ 10 → 10 < f + i → (∀ v, v < 8 → s v ≤ (vl v).toInt ∧ (vl v).toInt ≤ (vl0 v).toInt) → (∀ k, k < n → k < i → a_kinds k = 1 → (vl0 (a_edgeFrom k).toNatClampNeg).toInt = s (a_edgeFrom k).toNatClampNeg → (vl (a_edgeTo k).toNatClampNeg).toInt ≤ s (a_edgeFrom k).toNatClampNeg + (a_edgeWeight k).toInt) →
      wX_adoptModel_39 post J31 (nI r) f_goalEdge f_goalRest f_atomBits f_decided f_maxVariables f_maxAtoms f_maxClauses f_maxDepth f_atomCount f_clauseCount f_depthNow f_assumedTrue f_assumedFalse f_status f_trueMask f_coreKnown f_coreClauses f_coreAtoms f_witnessClauses f_witnessAtoms f_learnedCount f_learnedNext f_activeRests f_trueMask f_falseMask f_trailSize f_theoryHead f_level f_conflictAtoms f_conflictRests f_failedAtoms f_failedRests f_activeEdges f_goalOn f (nI i) a_kinds a_lefts a_rights a_bounds a_atomDepths a_literals a_literalCounts a_clausePos a_clauseNeg a_clauseDepths vl a_learnedPos a_learnedNeg a_learnedRests a_trail a_levelStart a_levelAtoms a_reasonAtoms a_reasonRests a_edgeFrom a_edgeTo a_edgeWeight a_potential a_moved a_gamma a_via a_dist a_link := by
    intro J31 r vl0 hv0 hJ f
    induction f with
    | zero => intro i vl h1 h2; omega
    | succ f ih =>
      intro i vl hi hf hvl hacc
      have ci : (nI i).toNatClampNeg = i := nI_clamp (by omega)
      refine pk_le 10 i (fun h => nm_r (nI_1 r) (hJ vl hvl (fun k hk => hacc k hk (by omega)))) (fun h => br_c (fun h1 => nm_r (nI_1 i) (ih (i + 1) vl (by omega) (by omega) hvl (fun k hk hki hd => ?_))) (fun h1 => ?_))
      · rcases Nat.lt_or_ge k i with z | z
        · exact hacc k hk z hd
        · have : k = i := by omega
          subst this
          have := (zb_shr1 (by omega)).mp h1
          rw [(hact k).mpr ⟨hk, hd⟩] at this
          cases this
      · obtain ⟨hin, hid⟩ := (hact i).mp (zb_ft fun z => h1 ((zb_shr1 (by omega)).mpr z))
        obtain ⟨o1, o2, o3, o4, o5, _⟩ := cd_EM_ok hAt hV hin hid (hEM i hin hid)
        have hF := (zi_in o1).1
        have hT := (zi_in o2).1
        have ii : vp_in (nI i) 11 := pk_in i 11 (by omega)
        have hvF := hvl _ hF
        have hv0F := hv0 _ hF
        have hlF := hlow (a_edgeFrom i).toNatClampNeg
        have hx : (vl (a_edgeFrom i).toNatClampNeg + a_edgeWeight i).toInt = (vl (a_edgeFrom i).toNatClampNeg).toInt + (a_edgeWeight i).toInt := zi_add (by omega) (by omega)
        have hsl := hsol i hin hid
        refine And.intro ii ?_
        rw [ci]
        refine And.intro o1 (And.intro ii (nm_e (And.intro ii (And.intro o2 ?_))))
        refine br_c (fun h2 => nm_r (nI_1 i) (ih (i + 1) vl (by omega) (by omega) hvl (fun k hk hki hd hfin => ?_))) (fun h2 => And.intro ii (And.intro o2 (nm_e (nm_r (nI_1 i) (ih (i + 1) _ (by omega) (by omega) (fun v hv => ?_) (fun k hk hki hd hfin => ?_))))))
        · rcases Nat.lt_or_ge k i with z | z
          · exact hacc k hk z hd hfin
          · have : k = i := by omega
            subst this
            rw [zi_le, hx] at h2
            omega
        · rw [zi_le, hx] at h2
          by_cases e : v = (a_edgeTo i).toNatClampNeg
          · rw [e, pk_us, hx]
            have := hvl _ hT
            omega
          · rw [pk_un e]; exact hvl v hv
        · rw [zi_le, hx] at h2
          by_cases e : (a_edgeTo k).toNatClampNeg = (a_edgeTo i).toNatClampNeg
          · rw [e, pk_us, hx]
            rcases Nat.lt_or_ge k i with z | z
            · have h5 := hacc k hk z hd hfin
              rw [e] at h5
              omega
            · have : k = i := by omega
              subst this
              omega
          · rw [pk_un e]
            rcases Nat.lt_or_ge k i with z | z
            · exact hacc k hk z hd hfin
            · have : k = i := by omega
              rw [this] at e
              exact (e rfl).elim
  have rounds : ∀ f r vl, r ≤ 8 → 8 < f + r → bf_I s r vl → wX_adoptModel_31 post f_goalEdge f_goalRest f_atomBits f_decided f_maxVariables f_maxAtoms f_maxClauses f_maxDepth f_atomCount f_clauseCount f_depthNow f_assumedTrue f_assumedFalse f_status f_trueMask f_coreKnown f_coreClauses f_coreAtoms f_witnessClauses f_witnessAtoms f_learnedCount f_learnedNext f_activeRests f_trueMask f_falseMask f_trailSize f_theoryHead f_level f_conflictAtoms f_conflictRests f_failedAtoms f_failedRests f_activeEdges f_goalOn f (nI r) a_kinds a_lefts a_rights a_bounds a_atomDepths a_literals a_literalCounts a_clausePos a_clauseNeg a_clauseDepths vl a_learnedPos a_learnedNeg a_learnedRests a_trail a_levelStart a_levelAtoms a_reasonAtoms a_reasonRests a_edgeFrom a_edgeTo a_edgeWeight a_potential a_moved a_gamma a_via a_dist a_link := by
    intro f
    induction f with
    | zero => intro r vl h1 h2; omega
    | succ f ih =>
      intro r vl hr hf hI
      refine pk_le 8 r (fun h => ?_) (fun h => Exists.intro 11 (edges _ r vl hI.1 (fun vl' g1 g2 => ih (r + 1) vl' (by omega) (by omega) (bf_round hs hE8 hI g1 (fun a b w e ha => ?_))) 11 0 vl (by omega) (by omega) (fun v hv => ⟨(hI.1 v hv).1, Int.le_refl _⟩) (fun k _ hk => by omega)))
      · have : r = 8 := by omega
        subst this
        exact K vl (bf_full hI)
      · obtain ⟨k, hk, hd, e1, e2, e3⟩ := hE2 a b w e
        have h5 := g2 k hk hd (by rw [e1]; exact ha)
        rw [e1, e2, e3] at h5
        exact h5
  have zero : ∀ f i vl, i ≤ 8 → 8 < f + i → (∀ v, v < i → vl v = 0) → wX_adoptModel_10 post f_goalEdge f_goalRest f_atomBits f_decided f_maxVariables f_maxAtoms f_maxClauses f_maxDepth f_atomCount f_clauseCount f_depthNow f_assumedTrue f_assumedFalse f_status f_trueMask f_coreKnown f_coreClauses f_coreAtoms f_witnessClauses f_witnessAtoms f_learnedCount f_learnedNext f_activeRests f_trueMask f_falseMask f_trailSize f_theoryHead f_level f_conflictAtoms f_conflictRests f_failedAtoms f_failedRests f_activeEdges f_goalOn f (nI i) a_kinds a_lefts a_rights a_bounds a_atomDepths a_literals a_literalCounts a_clausePos a_clauseNeg a_clauseDepths vl a_learnedPos a_learnedNeg a_learnedRests a_trail a_levelStart a_levelAtoms a_reasonAtoms a_reasonRests a_edgeFrom a_edgeTo a_edgeWeight a_potential a_moved a_gamma a_via a_dist a_link := by
    intro f
    induction f with
    | zero => intro i vl h1 h2; omega
    | succ f ih =>
      intro i vl hi hf hI
      have ci : (nI i).toNatClampNeg = i := nI_clamp (by omega)
      refine pk_le 8 i (fun h => Exists.intro 9 (rounds 9 0 vl (by omega) (by omega) (bf_init hs hE8 (fun v hv => hI v (by omega))))) (fun h => And.intro (pk_in i 8 h) (nm_e (nm_r (nI_1 i) ?_)))
      rw [ci]
      refine ih (i + 1) _ (by omega) (by omega) (fun v hv => ?_)
      by_cases e : v = i
      · rw [e, pk_us]
      · rw [pk_un e]; exact hI v (by omega)
  exact Exists.intro 9 (zero 9 0 a_values (by omega) (by omega) (fun v hv => by omega))
end
end
section
/-! Floyd-Warshall over a table T x y, 100000000 for no bound; phase z at row x, column y; T0: the table at the phase's start -/
def fw_In (V : Nat) (E : Nat → Nat → Int → Prop) (M U : Int) (z x y : Nat) (T0 T : Nat → Nat → Int) : Prop :=
  fw_Sn V E T ∧
  (∀ a c w, E a c w → a < V ∧ c < V ∧ T c a < 100000000 ∧ T c a ≤ w) ∧
  (∀ i j, i < V → j < V → T i j ≤ T0 i j ∧ T0 i j ≤ 100000000) ∧
  (∀ i, i < V → T0 i i ≤ 0) ∧
  ((∀ i, i < V → T i i = 0) → ∀ i j, i < V → j < V → T i j = T0 i j ∨ (T0 i z < 100000000 ∧ T0 z j < 100000000 ∧ T i j = T0 i z + T0 z j ∧ T i j < T0 i j)) ∧
  ((∀ i, i < V → T i i = 0) → ∀ i j, i < V → j < V → (i < x ∨ (i = x ∧ j < y)) → T0 i z < 100000000 → T0 z j < 100000000 → T i j ≤ T0 i z + T0 z j) ∧
  (∀ i j, x < i → i < V → j < V → -M ≤ T i j) ∧
  (∀ j, y ≤ j → j < V → x < V → -M ≤ T x j) ∧
  (z < y → x < V → (x ≤ z → -(2 * M) ≤ T x z) ∧ -(4 * M) ≤ T x z) ∧
  (z ≤ x → ∀ j, j < V → -(3 * M) ≤ T z j) ∧
  (∀ i j, i < V → j < V → -(8 * M) ≤ T i j) ∧
  ((∀ i j, i < V → j < V → T0 i j < 100000000 → T0 i j ≤ U) ∧ (∀ i, i < V → T i z < 100000000 → T0 i z < 100000000) ∧ (∀ j, j < V → T z j < 100000000 → T0 z j < 100000000) ∧ ∀ i j, i < V → j < V → T i j < 100000000 → T i j ≤ 2 * U)
/-- under a zero diagonal row z and column z stand still -/
theorem fw_row {V : Nat} {E : Nat → Nat → Int → Prop} {M U : Int} {z x y : Nat} {T0 T : Nat → Nat → Int} (h : fw_In V E M U z x y T0 T) (hz : z < V) (hd : ∀ i, i < V → T i i = 0) :
    (∀ i, i < V → T i z = T0 i z) ∧ (∀ j, j < V → T z j = T0 z j) ∧ ∀ i, i < V → T0 i i = 0 := by
  obtain ⟨_, _, h3, h4, h5, _⟩ := h
  have hd0 : ∀ i, i < V → T0 i i = 0 := fun i hi => by
    have := (h3 i i hi hi).1
    have := h4 i hi
    have := hd i hi
    omega
  have hzz := hd0 z hz
  refine ⟨fun i hi => ?_, fun j hj => ?_, hd0⟩
  · rcases h5 hd i z hi hz with e | ⟨_, _, e1, e2⟩
    · exact e
    · omega
  · rcases h5 hd z j hz hj with e | ⟨_, _, e1, e2⟩
    · exact e
    · omega
/-- the sum at (x, y) is not too low -/
theorem fw_sum {V : Nat} {E : Nat → Nat → Int → Prop} {M U : Int} {z x y : Nat} {T0 T : Nat → Nat → Int} (h : fw_In V E M U z x y T0 T) (hM : 0 ≤ M) (hz : z < V) (hx : x < V) (hy : y < V) :
    -(7 * M) ≤ T x z + T z y ∧ (x = z → -(3 * M) ≤ T x z + T z y) ∧ (y = z → (x ≤ z → -(2 * M) ≤ T x z + T z y) ∧ -(4 * M) ≤ T x z + T z y) := by
  obtain ⟨_, _, _, _, _, _, l1, l2, l3, l4, l5, _⟩ := h
  have r1 : (x < z → -M ≤ T z y) := fun hlt => l1 z y hlt hz hy
  have r2 : (z ≤ x → -(3 * M) ≤ T z y) := fun hle => l4 hle y hy
  have f1 : (y ≤ z → -M ≤ T x z) := fun hle => l2 z hle hz hx
  have f2 : (z < y → (x ≤ z → -(2 * M) ≤ T x z) ∧ -(4 * M) ≤ T x z) := fun hlt => l3 hlt hx
  have r3 : (x = z → -M ≤ T z y) := fun e => by subst e; exact l2 y (Nat.le_refl _) hy hx
  rcases Nat.lt_trichotomy x z with q | q | q
  · have a := r1 q
    rcases Nat.lt_or_ge z y with p | p
    · have b := (f2 p).1 (by omega)
      exact ⟨by omega, fun e => by omega, fun e => by omega⟩
    · have b := f1 p
      exact ⟨by omega, fun e => by omega, fun e => ⟨fun _ => by omega, by omega⟩⟩
  · have a := r3 q
    rcases Nat.lt_or_ge z y with p | p
    · have b := (f2 p).1 (by omega)
      exact ⟨by omega, fun e => by omega, fun e => by omega⟩
    · have b := f1 p
      exact ⟨by omega, fun e => by omega, fun e => ⟨fun _ => by omega, by omega⟩⟩
  · have a := r2 (by omega)
    rcases Nat.lt_or_ge z y with p | p
    · have b := (f2 p).2
      exact ⟨by omega, fun e => by omega, fun e => by omega⟩
    · have b := f1 p
      exact ⟨by omega, fun e => by omega, fun e => ⟨fun e2 => by omega, by omega⟩⟩
/-- one cell -/
theorem fw_step {V : Nat} {E : Nat → Nat → Int → Prop} {M U : Int} {z x y : Nat} {T0 T T' : Nat → Nat → Int} (h : fw_In V E M U z x y T0 T) (hM : 0 ≤ M) (hz : z < V) (hx : x < V) (hy : y < V)
    (hoth : ∀ i j, i < V → j < V → (i ≠ x ∨ j ≠ y) → T' i j = T i j)
    (hc : (T' x y = T x y ∧ (T x z < 100000000 → T z y < 100000000 → T x y ≤ T x z + T z y)) ∨ (T x z < 100000000 ∧ T z y < 100000000 ∧ T' x y = T x z + T z y ∧ T' x y < T x y)) :
    fw_In V E M U z x (y + 1) T0 T' := by
  have hsum := fw_sum h hM hz hx hy
  have hrow := fun hd => fw_row h hz hd
  obtain ⟨h1, h2, h3, h4, h5, h6, l1, l2, l3, l4, l5, u1, u2, u3, u4⟩ := h
  have hle : ∀ i j, i < V → j < V → T' i j ≤ T i j := by
    intro i j hi hj
    by_cases e : i = x ∧ j = y
    · rw [e.1, e.2]
      rcases hc with ⟨a, _⟩ | ⟨_, _, _, a⟩ <;> omega
    · rw [hoth i j hi hj (by omega)]; exact Int.le_refl _
  have hdd : (∀ i, i < V → T' i i = 0) → ∀ i, i < V → T i i = 0 := by
    intro hd i hi
    have a := hle i i hi hi
    have b := (h3 i i hi hi).1
    have c := h4 i hi
    have d := hd i hi
    omega
  have hxy : T' x y = T x y ∨ T' x y = T x z + T z y := by
    rcases hc with ⟨a, _⟩ | ⟨_, _, a, _⟩
    · exact Or.inl a
    · exact Or.inr a
  refine ⟨fun s hs i j hi hj hlt => ?_, fun a c w e => ?_, fun i j hi hj => ?_, h4, fun hd i j hi hj => ?_, fun hd i j hi hj hdone f1 f2 => ?_, fun i j hi hi' hj => ?_, fun j hj hj' _ => ?_, fun hzy _ => ?_, fun hzx j hj => ?_, fun i j hi hj => ?_, u1, fun i hi hlt => ?_, fun j hj hlt => ?_, fun i j hi hj hlt => ?_⟩
  · by_cases e : i = x ∧ j = y
    · obtain ⟨rfl, rfl⟩ := e
      rcases hc with ⟨a, _⟩ | ⟨a, b, c, d⟩
      · rw [a] at hlt ⊢; exact h1 s hs i j hi hj hlt
      · have e1 := h1 s hs i z hi hz a
        have e2 := h1 s hs z j hz hj b
        omega
    · rw [hoth i j hi hj (by omega)] at hlt ⊢
      exact h1 s hs i j hi hj hlt
  · obtain ⟨a1, a2, a3, a4⟩ := h2 a c w e
    have := hle c a a2 a1
    exact ⟨a1, a2, by omega, by omega⟩
  · have := hle i j hi hj
    have := h3 i j hi hj
    exact ⟨by omega, this.2⟩
  · have hd' := hdd hd
    obtain ⟨c1, c2, c3⟩ := hrow hd'
    by_cases e : i = x ∧ j = y
    · obtain ⟨rfl, rfl⟩ := e
      rcases hc with ⟨a, _⟩ | ⟨a, b, c, d⟩
      · rw [a]; exact h5 hd' i j hi hj
      · rw [c1 i hi] at a c
        rw [c2 j hj] at b c
        have := (h3 i j hi hj).1
        exact Or.inr ⟨a, b, c, by omega⟩
    · rw [hoth i j hi hj (by omega)]
      exact h5 hd' i j hi hj
  · have hd' := hdd hd
    obtain ⟨c1, c2, c3⟩ := hrow hd'
    by_cases e : i = x ∧ j = y
    · obtain ⟨rfl, rfl⟩ := e
      rw [← c1 i hi] at f1 ⊢
      rw [← c2 j hj] at f2 ⊢
      rcases hc with ⟨a, b⟩ | ⟨a, b, c, d⟩
      · rw [a]; exact b f1 f2
      · omega
    · rw [hoth i j hi hj (by omega)]
      exact h6 hd' i j hi hj (by omega) f1 f2
  · rw [hoth i j hi' hj (by omega)]
    exact l1 i j hi hi' hj
  · rw [hoth x j hx hj' (by omega)]
    exact l2 j (by omega) hj' hx
  · by_cases e : y = z
    · subst e
      have a := hsum.2.2 rfl
      have b := l2 y (Nat.le_refl _) hy hx
      rcases hxy with c | c
      · rw [c]; exact ⟨fun _ => by omega, by omega⟩
      · rw [c]; exact a
    · rw [hoth x z hx hz (by omega)]
      exact l3 (by omega) hx
  · by_cases e : z = x ∧ j = y
    · obtain ⟨rfl, rfl⟩ := e
      have a := hsum.2.1 rfl
      have b := l2 j (Nat.le_refl _) hj hx
      rcases hxy with c | c <;> omega
    · rw [hoth z j hz hj (by omega)]
      exact l4 hzx j hj
  · by_cases e : i = x ∧ j = y
    · obtain ⟨rfl, rfl⟩ := e
      have a := hsum.1
      have b := l5 i j hi hj
      rcases hxy with c | c <;> omega
    · rw [hoth i j hi hj (by omega)]
      exact l5 i j hi hj
  · by_cases e : i = x ∧ z = y
    · obtain ⟨rfl, rfl⟩ := e
      rcases hc with ⟨a, _⟩ | ⟨a, b, c, d⟩
      · rw [a] at hlt; exact u2 i hi hlt
      · exact u2 i hi a
    · rw [hoth i z hi hz (by omega)] at hlt
      exact u2 i hi hlt
  · by_cases e : z = x ∧ j = y
    · obtain ⟨rfl, rfl⟩ := e
      rcases hc with ⟨a, _⟩ | ⟨a, b, c, d⟩
      · rw [a] at hlt; exact u3 j hj hlt
      · exact u3 j hj b
    · rw [hoth z j hz hj (by omega)] at hlt
      exact u3 j hj hlt
  · by_cases e : i = x ∧ j = y
    · obtain ⟨rfl, rfl⟩ := e
      rcases hc with ⟨a, _⟩ | ⟨a, b, c, d⟩
      · rw [a] at hlt ⊢; exact u4 i j hi hj hlt
      · have e1 := u1 i z hi hz (u2 i hi a)
        have e2 := u1 z j hz hj (u3 j hj b)
        have e3 := (h3 i z hi hz).1
        have e4 := (h3 z j hz hj).1
        omega
    · rw [hoth i j hi hj (by omega)] at hlt ⊢
      exact u4 i j hi hj hlt
/-- the next row -/
theorem fw_next {V : Nat} {E : Nat → Nat → Int → Prop} {M U : Int} {z x : Nat} {T0 T : Nat → Nat → Int} (h : fw_In V E M U z x V T0 T) (hM : 0 ≤ M) (hz : z < V) : fw_In V E M U z (x + 1) 0 T0 T := by
  obtain ⟨h1, h2, h3, h4, h5, h6, l1, l2, l3, l4, l5, lu⟩ := h
  refine ⟨h1, h2, h3, h4, h5, fun hd i j hi hj hdone => h6 hd i j hi hj (by omega), fun i j hi => l1 i j (by omega), fun j _ hj hx => l1 (x + 1) j (by omega) hx hj, fun hlt => by omega, fun hzx j hj => ?_, l5, lu⟩
  rcases Nat.lt_or_ge x z with q | q
  · have := l1 z j q hz hj
    omega
  · exact l4 q j hj
/-- closed at every z' below z, if the diagonal is zero -/
def fw_Ph (V : Nat) (E : Nat → Nat → Int → Prop) (M U : Int) (z : Nat) (T : Nat → Nat → Int) : Prop :=
  fw_Sn V E T ∧
  (∀ a c w, E a c w → a < V ∧ c < V ∧ T c a < 100000000 ∧ T c a ≤ w) ∧
  (∀ i j, i < V → j < V → T i j ≤ 100000000) ∧
  (∀ i, i < V → T i i ≤ 0) ∧
  ((∀ i, i < V → T i i = 0) → ∀ z', z' < z → ∀ i j, i < V → j < V → T i z' < 100000000 → T z' j < 100000000 → T i j < 100000000 ∧ T i j ≤ T i z' + T z' j) ∧
  (∀ i j, i < V → j < V → -M ≤ T i j) ∧ (∀ i j, i < V → j < V → T i j < 100000000 → T i j ≤ U)
theorem fw_begin {V : Nat} {E : Nat → Nat → Int → Prop} {M U : Int} {z : Nat} {T : Nat → Nat → Int} (h : fw_Ph V E M U z T) (hM : 0 ≤ M) (hU : 0 ≤ U) : fw_In V E M U z 0 0 T T := by
  obtain ⟨h1, h2, h3, h4, h5, h6, h7⟩ := h
  refine ⟨h1, h2, fun i j hi hj => ⟨Int.le_refl _, h3 i j hi hj⟩, h4, fun _ i j _ _ => Or.inl rfl, fun _ i j _ _ hd => by omega, fun i j _ hi hj => h6 i j hi hj, fun j _ hj hx => h6 0 j hx hj, fun hlt => by omega, fun hle j hj => ?_, fun i j hi hj => ?_, h7, fun i _ q => q, fun j _ q => q, fun i j hi hj q => by have := h7 i j hi hj q; omega⟩
  · have := h6 z j (by omega) hj
    omega
  · have := h6 i j hi hj
    omega
theorem fw_end {V : Nat} {E : Nat → Nat → Int → Prop} {M U : Int} {z : Nat} {T0 T : Nat → Nat → Int} (h0 : fw_Ph V E M U z T0) (h : fw_In V E M U z V 0 T0 T) (hz : z < V) (hM : 0 ≤ M) (hU : 2 * U < 100000000) : fw_Ph V E (8 * M) (2 * U) (z + 1) T := by
  have hrow := fun hd => fw_row h hz hd
  obtain ⟨h1, h2, h3, h4, h5, h6, l1, l2, l3, l4, l5, u1, u2, u3, u4⟩ := h
  obtain ⟨_, _, p3, p4, p5, p6, p7⟩ := h0
  refine ⟨h1, h2, fun i j hi hj => ?_, fun i hi => ?_, fun hd z' hz' i j hi hj f1 f2 => ?_, l5, u4⟩
  · have := h3 i j hi hj; omega
  · have := h3 i i hi hi
    have := p4 i hi
    omega
  · obtain ⟨c1, c2, c3⟩ := hrow hd
    have key : ∀ i j, i < V → j < V → T0 i z < 100000000 → T0 z j < 100000000 → T i j < 100000000 ∧ T i j ≤ T0 i z + T0 z j := fun i j hi hj a b => by
      have k1 := h6 hd i j hi hj (by omega) a b
      have k2 := p7 i z hi hz a
      have k3 := p7 z j hz hj b
      exact ⟨by omega, k1⟩
    rcases Nat.lt_or_ge z' z with q | q
    · have hzV : z' < V := by omega
      have cl0 : ∀ i j, i < V → j < V → T0 i z' < 100000000 → T0 z' j < 100000000 → T0 i j < 100000000 ∧ T0 i j ≤ T0 i z' + T0 z' j := fun i j hi hj => p5 c3 z' q i j hi hj
      rcases h5 hd i z' hi hzV with e | ⟨a1, a2, a3, a4⟩
      · rcases h5 hd z' j hzV hj with e' | ⟨b1, b2, b3, b4⟩
        · rw [e] at f1 ⊢
          rw [e'] at f2 ⊢
          have k := cl0 i j hi hj f1 f2
          have := (h3 i j hi hj).1
          exact ⟨by omega, by omega⟩
        · rw [e] at f1 ⊢
          have k := cl0 i z hi hz f1 b1
          have k2 := key i j hi hj k.1 b2
          exact ⟨k2.1, by omega⟩
      · rcases h5 hd z' j hzV hj with e' | ⟨b1, b2, b3, b4⟩
        · rw [e'] at f2 ⊢
          have k := cl0 z j hz hj a2 f2
          have k2 := key i j hi hj a1 k.1
          exact ⟨k2.1, by omega⟩
        · have k := cl0 z z hz hz a2 b1
          have k0 := c3 z hz
          have k2 := key i j hi hj a1 b2
          exact ⟨k2.1, by omega⟩
    · have e : z' = z := by omega
      subst e
      rw [c1 i hi] at f1 ⊢
      rw [c2 j hj] at f2 ⊢
      exact key i j hi hj f1 f2
end
section
def rl_tau (n t : Nat) : Nat → Bool := fun k => t.testBit (n - 1 - k)
def fw_T (b : Nat → Int32) (x y : Nat) : Int := (b (x * 8 + y)).toInt
def fw_M : Nat → Int
  | 0 => 101
  | z + 1 => 8 * fw_M z
def fw_U : Nat → Int
  | 0 => 100
  | z + 1 => 2 * fw_U z
theorem fw_Mb : ∀ z, z < 8 → 0 ≤ fw_M z ∧ fw_M z ≤ 211812352 ∧ 0 ≤ fw_U z ∧ fw_U z ≤ 12800 := by decide
theorem zi_ix (x y : Nat) : nI x * 8 + nI y = nI (x * 8 + y) := by
  rw [show (8 : Int32) = nI 8 from rfl, pk_mul, nI_add]
theorem fw_upd {b : Nat → Int32} {x y i j : Nat} {c : Int32} (hj : j < 8) (hy : y < 8) : fw_T (upd b (x * 8 + y) c) i j = if i = x ∧ j = y then c.toInt else fw_T b i j := by
  unfold fw_T
  by_cases e : i = x ∧ j = y
  · rw [if_pos e, e.1, e.2, pk_us]
  · rw [if_neg e, pk_un (by omega)]
section
variable {y_maxV y_maxA y_maxC y_maxD y_n y_m y_d y_status y_model y_hasCore : Int32} {z_kind z_atomX z_atomY z_atomC z_atomDepth z_assumed z_literals z_length z_clauseDepth z_clauseIn z_assumptionIn z_bound : Nat → Int32}
variable {n V t : Nat}
theorem yw_isTrue {post : Int32 → Prop} {k : Nat} (hn : n ≤ 10) (hk : k < n) (ht : t < 1024) (K1 : rl_tau n t k = true → post 1) (K0 : rl_tau n t k = false → post 0) : wpY_isTrue post (y_maxV, y_maxA, y_maxC, y_maxD, nI n, y_m, y_d, y_status, y_model, y_hasCore, z_kind, z_atomX, z_atomY, z_atomC, z_atomDepth, z_assumed, z_literals, z_length, z_clauseDepth, z_clauseIn, z_assumptionIn, z_bound) (nI t) (nI k) := by
  have e : nI n - 1 - nI k = nI (n - 1 - k) := by
    cases n with
    | zero => omega
    | succ n' => rw [nI_pred, pk_sub (by omega)]; rfl
  have hb : (nI t >>> (nI (n - 1 - k) &&& 31)) &&& 1 = if rl_tau n t k = true then 1 else 0 := by
    rw [zb_shrv (by omega), zb_nI (by omega)]; rfl
  refine br_c (fun h => K1 ?_) (fun h => K0 ?_)
  · rw [e, hb] at h
    cases hc : rl_tau n t k
    · rw [hc] at h; revert h; decide
    · rfl
  · rw [e, hb] at h
    cases hc : rl_tau n t k
    · rfl
    · rw [hc] at h; exact (h rfl).elim
theorem yw_atMost {post : SY → Prop} {x y : Nat} {c : Int32} (hx : x < 8) (hy : y < 8) (K1 : fw_T z_bound x y ≤ c.toInt → post (y_maxV, y_maxA, y_maxC, y_maxD, y_n, y_m, y_d, y_status, y_model, y_hasCore, z_kind, z_atomX, z_atomY, z_atomC, z_atomDepth, z_assumed, z_literals, z_length, z_clauseDepth, z_clauseIn, z_assumptionIn, z_bound)) (K2 : c.toInt < fw_T z_bound x y → post (y_maxV, y_maxA, y_maxC, y_maxD, y_n, y_m, y_d, y_status, y_model, y_hasCore, z_kind, z_atomX, z_atomY, z_atomC, z_atomDepth, z_assumed, z_literals, z_length, z_clauseDepth, z_clauseIn, z_assumptionIn, upd z_bound (x * 8 + y) c)) : wpY_atMost post (y_maxV, y_maxA, y_maxC, y_maxD, y_n, y_m, y_d, y_status, y_model, y_hasCore, z_kind, z_atomX, z_atomY, z_atomC, z_atomDepth, z_assumed, z_literals, z_length, z_clauseDepth, z_clauseIn, z_assumptionIn, z_bound) (nI x) (nI y) c := by
  have e := zi_ix x y
  have ii : vp_in (nI x * 8 + nI y) 64 := by rw [e]; exact vp_in_nI (by omega) (by omega)
  have ci : (nI x * 8 + nI y).toNatClampNeg = x * 8 + y := by rw [e]; exact nI_clamp (by omega)
  refine And.intro ii ?_
  rw [ci]
  refine br_c (fun h => K1 ?_) (fun h => And.intro ii (nm_e ?_))
  · rw [zi_le] at h; exact h
  · rw [zi_le] at h
    exact K2 (by unfold fw_T; omega)
theorem yw_156 {post : Int32 → SY → Prop} {J135 J145 : Int32 → Int32 → Int32 → Int32 → Int32 → Int32 → Int32 → Int32 → Int32 → Int32 → Int32 → (Nat → Int32) → (Nat → Int32) → (Nat → Int32) → (Nat → Int32) → (Nat → Int32) → (Nat → Int32) → (Nat → Int32) → (Nat → Int32) → (Nat → Int32) → (Nat → Int32) → (Nat → Int32) → (Nat → Int32) → Prop} {E : Nat → Nat → Int → Prop} {M U : Int} {z x : Nat} {T0 : Nat → Nat → Int} (hV : V ≤ 8) (hM : 0 ≤ M) (hM2 : M ≤ 211812352) (hU : U ≤ 12800) (hz : z < V) (hx : x < V)
    (K : ∀ b, fw_In V E M U z x V T0 (fw_T b) → J145 (nI (x + 1)) (nI V) y_maxA y_maxC y_maxD y_n y_m y_d y_status y_model y_hasCore z_kind z_atomX z_atomY z_atomC z_atomDepth z_assumed z_literals z_length z_clauseDepth z_clauseIn z_assumptionIn b) :
    ∀ f y b, y ≤ V → V < f + y → fw_In V E M U z x y T0 (fw_T b) → wY_feasible_156 post J135 J145 (nI z) (nI x) f (nI y) (nI V) y_maxA y_maxC y_maxD y_n y_m y_d y_status y_model y_hasCore z_kind z_atomX z_atomY z_atomC z_atomDepth z_assumed z_literals z_length z_clauseDepth z_clauseIn z_assumptionIn b := by
  intro f
  induction f with
  | zero => intro y b h1 h2; omega
  | succ f ih =>
    intro y b hy hf hI
    refine pk_le V y (fun h => nm_r (nI_1 x) ?_) (fun h => ?_)
    · have : y = V := by omega
      subst this
      exact K b hI
    · have e1 := zi_ix x z
      have e2 := zi_ix z y
      have i1 : vp_in (nI x * 8 + nI z) 64 := by rw [e1]; exact vp_in_nI (by omega) (by omega)
      have i2 : vp_in (nI z * 8 + nI y) 64 := by rw [e2]; exact vp_in_nI (by omega) (by omega)
      have c1 : (nI x * 8 + nI z).toNatClampNeg = x * 8 + z := by rw [e1]; exact nI_clamp (by omega)
      have c2 : (nI z * 8 + nI y).toNatClampNeg = z * 8 + y := by rw [e2]; exact nI_clamp (by omega)
      have np : (100000000 : Int32).toInt = 100000000 := by decide
      have hxz : fw_T b x z ≤ 100000000 := by have := hI.2.2.1 x z hx hz; omega
      have hzy : fw_T b z y ≤ 100000000 := by have := hI.2.2.1 z y hz h; omega
      have lxz := hI.2.2.2.2.2.2.2.2.2.2.1 x z hx hz
      have lzy := hI.2.2.2.2.2.2.2.2.2.2.1 z y hz h
      have hsum := (fw_sum hI hM hz hx h).1
      refine And.intro i1 (nm_r (e' := b (x * 8 + z)) (by rw [c1]) (And.intro i2 (nm_r (e' := b (z * 8 + y)) (by rw [c2]) (br_c (fun h1 => nm_r (nI_1 y) (ih (y + 1) b (by omega) (by omega) ?_)) (fun h1 => br_c (fun h2 => nm_r (nI_1 y) (ih (y + 1) b (by omega) (by omega) ?_)) (fun h2 => ?_))))))
      · refine fw_step hI hM hz hx h (fun i j _ _ _ => rfl) (Or.inl ⟨rfl, fun q => ?_⟩)
        unfold fw_T at q
        rw [h1, np] at q
        omega
      · refine fw_step hI hM hz hx h (fun i j _ _ _ => rfl) (Or.inl ⟨rfl, fun _ q => ?_⟩)
        unfold fw_T at q
        rw [h2, np] at q
        omega
      · have f1 : fw_T b x z < 100000000 := by
          rcases Int.lt_or_le (fw_T b x z) 100000000 with q | q
          · exact q
          · exact (h1 (Int32.toInt_inj.mp (by rw [np]; unfold fw_T at q hxz; omega))).elim
        have f2 : fw_T b z y < 100000000 := by
          rcases Int.lt_or_le (fw_T b z y) 100000000 with q | q
          · exact q
          · exact (h2 (Int32.toInt_inj.mp (by rw [np]; unfold fw_T at q hzy; omega))).elim
        have hadd : (b (x * 8 + z) + b (z * 8 + y)).toInt = fw_T b x z + fw_T b z y := by
          unfold fw_T at *
          exact zi_add (by omega) (by omega)
        refine yw_atMost (by omega) (by omega) (fun h3 => nm_r (nI_1 y) (ih (y + 1) b (by omega) (by omega) ?_)) (fun h3 => nm_r (nI_1 y) (ih (y + 1) _ (by omega) (by omega) ?_))
        · rw [hadd] at h3
          exact fw_step hI hM hz hx h (fun i j _ _ _ => rfl) (Or.inl ⟨rfl, fun _ _ => h3⟩)
        · rw [hadd] at h3
          refine fw_step hI hM hz hx h (fun i j _ hj hne => ?_) (Or.inr ⟨f1, f2, ?_, ?_⟩)
          · rw [fw_upd (by omega) (by omega), if_neg (by omega)]
          · rw [fw_upd (by omega) (by omega), if_pos ⟨rfl, rfl⟩, hadd]
          · rw [fw_upd (by omega) (by omega), if_pos ⟨rfl, rfl⟩, hadd]; exact h3
theorem yw_145 {post : Int32 → SY → Prop} {J135 : Int32 → Int32 → Int32 → Int32 → Int32 → Int32 → Int32 → Int32 → Int32 → Int32 → Int32 → (Nat → Int32) → (Nat → Int32) → (Nat → Int32) → (Nat → Int32) → (Nat → Int32) → (Nat → Int32) → (Nat → Int32) → (Nat → Int32) → (Nat → Int32) → (Nat → Int32) → (Nat → Int32) → (Nat → Int32) → Prop} {E : Nat → Nat → Int → Prop} {M U : Int} {z : Nat} {T0 : Nat → Nat → Int} (hV : V ≤ 8) (hM : 0 ≤ M) (hM2 : M ≤ 211812352) (hU : U ≤ 12800) (hz : z < V)
    (K : ∀ b, fw_In V E M U z V 0 T0 (fw_T b) → J135 (nI (z + 1)) (nI V) y_maxA y_maxC y_maxD y_n y_m y_d y_status y_model y_hasCore z_kind z_atomX z_atomY z_atomC z_atomDepth z_assumed z_literals z_length z_clauseDepth z_clauseIn z_assumptionIn b) :
    ∀ f x b, x ≤ V → V < f + x → fw_In V E M U z x 0 T0 (fw_T b) → wY_feasible_145 post J135 (nI z) f (nI x) (nI V) y_maxA y_maxC y_maxD y_n y_m y_d y_status y_model y_hasCore z_kind z_atomX z_atomY z_atomC z_atomDepth z_assumed z_literals z_length z_clauseDepth z_clauseIn z_assumptionIn b := by
  intro f
  induction f with
  | zero => intro x b h1 h2; omega
  | succ f ih =>
    intro x b hx hf hI
    refine pk_le V x (fun h => nm_r (nI_1 z) ?_) (fun h => Exists.intro (V + 1) (yw_156 hV hM hM2 hU hz h (fun b' h' => ih (x + 1) b' (by omega) (by omega) (fw_next h' hM hz)) (V + 1) 0 b (by omega) (by omega) hI))
    have : x = V := by omega
    subst this
    exact K b hI
theorem yw_238 {post : Int32 → SY → Prop} (hV : V ≤ 8) (K1 : (∀ x, x < V → 0 ≤ fw_T z_bound x x) → post 1 (nI V, y_maxA, y_maxC, y_maxD, y_n, y_m, y_d, y_status, y_model, y_hasCore, z_kind, z_atomX, z_atomY, z_atomC, z_atomDepth, z_assumed, z_literals, z_length, z_clauseDepth, z_clauseIn, z_assumptionIn, z_bound)) (K0 : (∃ x, x < V ∧ fw_T z_bound x x < 0) → post 0 (nI V, y_maxA, y_maxC, y_maxD, y_n, y_m, y_d, y_status, y_model, y_hasCore, z_kind, z_atomX, z_atomY, z_atomC, z_atomDepth, z_assumed, z_literals, z_length, z_clauseDepth, z_clauseIn, z_assumptionIn, z_bound)) :
    ∀ f x, x ≤ V → V < f + x → (∀ i, i < x → 0 ≤ fw_T z_bound i i) → wY_feasible_238 post (nI V) y_maxA y_maxC y_maxD y_n y_m y_d y_status y_model y_hasCore z_kind z_atomX z_atomY z_atomC z_atomDepth z_assumed z_literals z_length z_clauseDepth z_clauseIn z_assumptionIn z_bound f (nI x) := by
  intro f
  induction f with
  | zero => intro x h1 h2; omega
  | succ f ih =>
    intro x hx hf hI
    refine pk_le V x (fun h => K1 (fun i hi => hI i (by omega))) (fun h => ?_)
    have e := zi_ix x x
    have c : (nI x * 8 + nI x).toNatClampNeg = x * 8 + x := by rw [e]; exact nI_clamp (by omega)
    refine And.intro (by rw [e]; exact vp_in_nI (by omega) (by omega)) ?_
    rw [c]
    refine br_c (fun h1 => nm_r (nI_1 x) (ih (x + 1) (by omega) (by omega) (fun i hi => ?_))) (fun h1 => K0 ⟨x, h, ?_⟩)
    · rw [zi_le, zi_0] at h1
      rcases Nat.lt_or_ge i x with q | q
      · exact hI i q
      · have : i = x := by omega
        subst this; exact h1
    · rw [zi_le, zi_0] at h1
      unfold fw_T; omega
theorem yw_135 {post : Int32 → SY → Prop} {E : Nat → Nat → Int → Prop} (hV : V ≤ 8)
    (K1 : ∀ b, fw_Cl V E (fw_T b) → fw_Sn V E (fw_T b) → post 1 (nI V, y_maxA, y_maxC, y_maxD, y_n, y_m, y_d, y_status, y_model, y_hasCore, z_kind, z_atomX, z_atomY, z_atomC, z_atomDepth, z_assumed, z_literals, z_length, z_clauseDepth, z_clauseIn, z_assumptionIn, b)) (K0 : ∀ b, (¬ ∃ s, gs_Sol E s) → post 0 (nI V, y_maxA, y_maxC, y_maxD, y_n, y_m, y_d, y_status, y_model, y_hasCore, z_kind, z_atomX, z_atomY, z_atomC, z_atomDepth, z_assumed, z_literals, z_length, z_clauseDepth, z_clauseIn, z_assumptionIn, b)) :
    ∀ f z b, z ≤ V → V < f + z → fw_Ph V E (fw_M z) (fw_U z) z (fw_T b) → wY_feasible_135 post f (nI z) (nI V) y_maxA y_maxC y_maxD y_n y_m y_d y_status y_model y_hasCore z_kind z_atomX z_atomY z_atomC z_atomDepth z_assumed z_literals z_length z_clauseDepth z_clauseIn z_assumptionIn b := by
  intro f
  induction f with
  | zero => intro z b h1 h2; omega
  | succ f ih =>
    intro z b hz hf hI
    refine pk_le V z (fun h => Exists.intro (V + 1) (yw_238 hV (fun hd => ?_) (fun hd => ?_) (V + 1) 0 (by omega) (by omega) (fun i hi => by omega))) (fun h => Exists.intro (V + 1) ?_)
    · have : z = V := by omega
      subst this
      obtain ⟨h1, h2, h3, h4, h5, h6, h7⟩ := hI
      have hd0 : ∀ x, x < z → fw_T b x x = 0 := fun x hx => by have := h4 x hx; have := hd x hx; omega
      exact K1 b ⟨hd0, fun x y w hx hy hw f1 f2 => h5 hd0 w hw x y hx hy f1 f2, h2, h3⟩ h1
    · obtain ⟨x, hx, hlt⟩ := hd
      refine K0 b (fun ⟨s, hs⟩ => ?_)
      have := hI.1 s hs x x hx hx (by omega)
      omega
    · obtain ⟨m1, m2, m3, m4⟩ := fw_Mb z (by omega)
      exact yw_145 hV m1 m2 m4 h (fun b' h' => ih (z + 1) b' (by omega) (by omega) (fw_end hI h' h m1 (by omega))) (V + 1) 0 b (by omega) (by omega) (fw_begin hI m1 m3)
theorem yw_feas {post : Int32 → SY → Prop} (hn : n ≤ 10) (hAt : ds_At V n z_kind z_atomX z_atomY z_atomC) (hV : V ≤ 8) (ht : t < 1024)
    (K1 : ∀ b, fw_Cl V (ds_E n z_kind z_atomX z_atomY z_atomC (rl_tau n t)) (fw_T b) → fw_Sn V (ds_E n z_kind z_atomX z_atomY z_atomC (rl_tau n t)) (fw_T b) → post 1 (nI V, y_maxA, y_maxC, y_maxD, nI n, y_m, y_d, y_status, y_model, y_hasCore, z_kind, z_atomX, z_atomY, z_atomC, z_atomDepth, z_assumed, z_literals, z_length, z_clauseDepth, z_clauseIn, z_assumptionIn, b))
    (K0 : ∀ b, (¬ ∃ s, gs_Sol (ds_E n z_kind z_atomX z_atomY z_atomC (rl_tau n t)) s) → post 0 (nI V, y_maxA, y_maxC, y_maxD, nI n, y_m, y_d, y_status, y_model, y_hasCore, z_kind, z_atomX, z_atomY, z_atomC, z_atomDepth, z_assumed, z_literals, z_length, z_clauseDepth, z_clauseIn, z_assumptionIn, b)) :
    wpY_feasible post (nI V, y_maxA, y_maxC, y_maxD, nI n, y_m, y_d, y_status, y_model, y_hasCore, z_kind, z_atomX, z_atomY, z_atomC, z_atomDepth, z_assumed, z_literals, z_length, z_clauseDepth, z_clauseIn, z_assumptionIn, z_bound) (nI t) := by
  have np : (100000000 : Int32).toInt = 100000000 := by decide
  have atoms : ∀ f k b, k ≤ n → n < f + k → (∀ i j, i < 8 → j < 8 → -101 ≤ fw_T b i j ∧ fw_T b i j ≤ 100000000 ∧ (fw_T b i j < 100000000 → fw_T b i j ≤ 100)) → (∀ i, i < 8 → fw_T b i i = 0) →
      (∀ s, gs_Sol (ds_E n z_kind z_atomX z_atomY z_atomC (rl_tau n t)) s → ∀ i j, i < 8 → j < 8 → fw_T b i j < 100000000 → s i - s j ≤ fw_T b i j) →
      (∀ k', k' < k → z_kind k' = 1 → (rl_tau n t k' = true → fw_T b (z_atomX k').toNatClampNeg (z_atomY k').toNatClampNeg ≤ (z_atomC k').toInt) ∧ (rl_tau n t k' = false → fw_T b (z_atomY k').toNatClampNeg (z_atomX k').toNatClampNeg ≤ -(z_atomC k').toInt - 1)) →
      wY_feasible_50 post (nI t) f (nI k) (nI V) y_maxA y_maxC y_maxD (nI n) y_m y_d y_status y_model y_hasCore z_kind z_atomX z_atomY z_atomC z_atomDepth z_assumed z_literals z_length z_clauseDepth z_clauseIn z_assumptionIn b := by
    intro f
    induction f with
    | zero => intro k b h1 h2; omega
    | succ f ih =>
      intro k b hk hf h1 h2 h3 h4
      refine pk_le n k (fun h => Exists.intro (V + 1) ?_) (fun h => And.intro (pk_in k 10 (by omega)) ?_)
      · refine yw_135 hV K1 K0 (V + 1) 0 b (by omega) (by omega) ⟨fun s hs i j hi hj => h3 s hs i j (by omega) (by omega), fun a c w ⟨k', hk', hd, hc⟩ => ?_, fun i j hi hj => (h1 i j (by omega) (by omega)).2.1, fun i hi => by rw [h2 i (by omega)]; exact Int.le_refl _, fun _ z' hz' => by omega, fun i j hi hj => (h1 i j (by omega) (by omega)).1, fun i j hi hj => (h1 i j (by omega) (by omega)).2.2⟩
        have hb := ds_Eb hAt hV a c w ⟨k', hk', hd, hc⟩
        obtain ⟨g1, g2⟩ := h4 k' (by omega) hd
        refine ⟨hb.1, hb.2.1, ?_⟩
        rcases hc with ⟨c1, c2, c3, c4⟩ | ⟨c1, c2, c3, c4⟩
        · have := g1 c1
          rw [c2, c3]
          omega
        · have := g2 c1
          rw [c2, c3]
          omega
      · have ck : (nI k).toNatClampNeg = k := nI_clamp (by omega)
        rw [ck]
        refine br_c (fun hd => ?_) (fun hd => nm_r (nI_1 k) (ih (k + 1) b (by omega) (by omega) h1 h2 h3 (fun k' hk' hd' => ?_)))
        · obtain ⟨⟨x, hx, ex⟩, ⟨y, hy, ey⟩, hne, b1, b2⟩ := (hAt k h).2 hd
          have hxy : x ≠ y := fun q => hne (by rw [ex, ey, q])
          have cx : (z_atomX k).toNatClampNeg = x := by rw [ex]; exact nI_clamp (by omega)
          have cy : (z_atomY k).toNatClampNeg = y := by rw [ey]; exact nI_clamp (by omega)
          have ik : vp_in (nI k) 10 := pk_in k 10 (by omega)
          have hneg : (-(z_atomC k) - 1).toInt = -(z_atomC k).toInt - 1 := by
            have e4 : (-(z_atomC k)).toInt = -(z_atomC k).toInt := zi_neg (by omega)
            have e5 : (1 : Int32).toInt = 1 := by decide
            rw [zi_sub (by rw [e4, e5]; omega) (by rw [e4, e5]; omega), e4, e5]
          -- a cell gets a bound of this atom
          have put : ∀ (p q : Nat) (c : Int32), p < 8 → q < 8 → p ≠ q → -101 ≤ c.toInt → c.toInt ≤ 100 → (∀ s, gs_Sol (ds_E n z_kind z_atomX z_atomY z_atomC (rl_tau n t)) s → s p - s q ≤ c.toInt) →
              (∀ b', fw_T b' p q ≤ c.toInt → (rl_tau n t k = true → fw_T b' (z_atomX k).toNatClampNeg (z_atomY k).toNatClampNeg ≤ (z_atomC k).toInt) ∧ (rl_tau n t k = false → fw_T b' (z_atomY k).toNatClampNeg (z_atomX k).toNatClampNeg ≤ -(z_atomC k).toInt - 1)) →
              wpY_atMost (fun u => match u with | (y_maxV, y_maxA, y_maxC, y_maxD, y_n, y_m, y_d, y_status, y_model, y_hasCore, z_kind, z_atomX, z_atomY, z_atomC, z_atomDepth, z_assumed, z_literals, z_length, z_clauseDepth, z_clauseIn, z_assumptionIn, z_bound) => ∀ x : Int32, x = nI k + 1 → wY_feasible_50 post (nI t) f x y_maxV y_maxA y_maxC y_maxD y_n y_m y_d y_status y_model y_hasCore z_kind z_atomX z_atomY z_atomC z_atomDepth z_assumed z_literals z_length z_clauseDepth z_clauseIn z_assumptionIn z_bound) (nI V, y_maxA, y_maxC, y_maxD, nI n, y_m, y_d, y_status, y_model, y_hasCore, z_kind, z_atomX, z_atomY, z_atomC, z_atomDepth, z_assumed, z_literals, z_length, z_clauseDepth, z_clauseIn, z_assumptionIn, b) (nI p) (nI q) c := by
            intro p q c hp hq hpq hc1 hc2 hsd hcov
            refine yw_atMost hp hq (fun hle => nm_r (nI_1 k) (ih (k + 1) b (by omega) (by omega) h1 h2 h3 (fun k' hk' hd' => ?_))) (fun hlt => nm_r (nI_1 k) (ih (k + 1) _ (by omega) (by omega) (fun i j hi hj => ?_) (fun i hi => ?_) (fun s hs i j hi hj => ?_) (fun k' hk' hd' => ?_)))
            · rcases Nat.lt_or_ge k' k with w | w
              · exact h4 k' w hd'
              · have : k' = k := by omega
                subst this
                exact hcov b hle
            · rw [fw_upd hj hq]
              by_cases e : i = p ∧ j = q
              · rw [if_pos e]; exact ⟨hc1, by omega, fun _ => hc2⟩
              · rw [if_neg e]; exact h1 i j hi hj
            · rw [fw_upd hi hq, if_neg (by omega)]; exact h2 i hi
            · rw [fw_upd hj hq]
              by_cases e : i = p ∧ j = q
              · rw [if_pos e, e.1, e.2]; exact fun _ => hsd s hs
              · rw [if_neg e]; exact h3 s hs i j hi hj
            · rcases Nat.lt_or_ge k' k with w | w
              · obtain ⟨g1, g2⟩ := h4 k' w hd'
                obtain ⟨⟨x', hx', ex'⟩, ⟨y', hy', ey'⟩, _⟩ := (hAt k' (by omega)).2 hd'
                have cx' : (z_atomX k').toNatClampNeg = x' := by rw [ex']; exact nI_clamp (by omega)
                have cy' : (z_atomY k').toNatClampNeg = y' := by rw [ey']; exact nI_clamp (by omega)
                rw [cx', cy'] at g1 g2
                rw [cx', cy']
                have low : ∀ i j, i < 8 → j < 8 → fw_T (upd b (p * 8 + q) c) i j ≤ fw_T b i j := by
                  intro i j hi hj
                  rw [fw_upd hj hq]
                  by_cases e : i = p ∧ j = q
                  · rw [if_pos e, e.1, e.2]; omega
                  · rw [if_neg e]; exact Int.le_refl _
                refine ⟨fun w => ?_, fun w => ?_⟩
                · have := low x' y' (by omega) (by omega); have := g1 w; omega
                · have := low y' x' (by omega) (by omega); have := g2 w; omega
              · have : k' = k := by omega
                subst this
                refine hcov _ ?_
                rw [fw_upd hq hq, if_pos ⟨rfl, rfl⟩]; exact Int.le_refl _
          refine yw_isTrue hn h ht (fun hτ => br_f (by decide) (And.intro ik (And.intro ik (And.intro ik ?_)))) (fun hτ => br_t rfl (And.intro ik (And.intro ik (And.intro ik ?_))))
          · rw [ex, ey]
            refine put x y (z_atomC k) (by omega) (by omega) hxy (by omega) (by omega) (fun s hs => ?_) (fun b' hb' => ⟨fun _ => by rw [cx, cy]; exact hb', fun w => by rw [hτ] at w; cases w⟩)
            have := hs _ _ _ ⟨k, h, hd, Or.inl ⟨hτ, rfl, rfl, rfl⟩⟩
            rw [cx, cy] at this
            omega
          · rw [ex, ey]
            refine put y x (-(z_atomC k) - 1) (by omega) (by omega) (fun q => hxy q.symm) (by omega) (by omega) (fun s hs => ?_) (fun b' hb' => ⟨fun w => (by rw [hτ] at w; cases w), fun _ => by rw [cx, cy]; omega⟩)
            have := hs _ _ _ ⟨k, h, hd, Or.inr ⟨hτ, rfl, rfl, rfl⟩⟩
            rw [cx, cy] at this
            omega
        · rcases Nat.lt_or_ge k' k with w | w
          · exact h4 k' w hd'
          · have : k' = k := by omega
            subst this
            exact (hd hd').elim
  have diag : ∀ f i b, i ≤ 8 → 8 < f + i → (∀ x y, x < 8 → y < 8 → fw_T b x y = if x = y ∧ x < i then 0 else 100000000) → wY_feasible_24 post (nI t) (nI V) y_maxA y_maxC y_maxD (nI n) y_m y_d y_status y_model y_hasCore f (nI i) z_kind z_atomX z_atomY z_atomC z_atomDepth z_assumed z_literals z_length z_clauseDepth z_clauseIn z_assumptionIn b := by
    intro f
    induction f with
    | zero => intro i b h1 h2; omega
    | succ f ih =>
      intro i b hi hf hI
      have e := zi_ix i i
      have c : (nI i * 8 + nI i).toNatClampNeg = i * 8 + i ∨ 8 ≤ i := by
        rcases Nat.lt_or_ge i 8 with q | q
        · exact Or.inl (by rw [e]; exact nI_clamp (by omega))
        · exact Or.inr q
      refine pk_le 8 i (fun h => Exists.intro (n + 1) (atoms (n + 1) 0 b (by omega) (by omega) (fun x y hx hy => ?_) (fun x hx => ?_) (fun s _ x y hx hy hlt => ?_) (fun k' hk' => by omega))) (fun h => And.intro (by rw [e]; exact vp_in_nI (by omega) (by omega)) (nm_e (nm_r (nI_1 i) (ih (i + 1) _ (by omega) (by omega) (fun x y hx hy => ?_)))))
      · rw [hI x y hx hy]
        by_cases q : x = y ∧ x < i
        · rw [if_pos q]; omega
        · rw [if_neg q]; omega
      · rw [hI x x hx hx, if_pos ⟨rfl, by omega⟩]
      · rw [hI x y hx hy] at hlt ⊢
        by_cases q : x = y ∧ x < i
        · rw [if_pos q, q.1]; omega
        · rw [if_neg q] at hlt; omega
      · rcases c with c | c
        · rw [c, fw_upd hy h, hI x y hx hy]
          by_cases q : x = i ∧ y = i
          · rw [if_pos q, if_pos (by omega), zi_0]
          · rw [if_neg q]
            by_cases q2 : x = y ∧ x < i
            · rw [if_pos q2, if_pos (by omega)]
            · rw [if_neg q2, if_neg (by omega)]
        · omega
  have fill : ∀ f i b, i ≤ 64 → 64 < f + i → (∀ j, j < i → b j = 100000000) → wY_feasible_2 post (nI t) (nI V) y_maxA y_maxC y_maxD (nI n) y_m y_d y_status y_model y_hasCore f (nI i) z_kind z_atomX z_atomY z_atomC z_atomDepth z_assumed z_literals z_length z_clauseDepth z_clauseIn z_assumptionIn b := by
    intro f
    induction f with
    | zero => intro i b h1 h2; omega
    | succ f ih =>
      intro i b hi hf hI
      have ci : (nI i).toNatClampNeg = i := nI_clamp (by omega)
      refine pk_le 64 i (fun h => Exists.intro 9 (diag 9 0 b (by omega) (by omega) (fun x y hx hy => ?_))) (fun h => And.intro (pk_in i 64 h) (nm_e (nm_r (nI_1 i) (ih (i + 1) _ (by omega) (by omega) (fun j hj => ?_)))))
      · rw [if_neg (by omega)]
        unfold fw_T
        rw [hI _ (by omega), np]
      · rw [ci]
        by_cases e : j = i
        · rw [e, pk_us]
        · rw [pk_un e]; exact hI j (by omega)
  exact Exists.intro 65 (fill 65 0 z_bound (by omega) (by omega) (fun j hj => by omega))
end
end
section
/-- a clause's literals and its masks -/
def rl_Cla (n l : Nat) (lt : Nat → Int32) (cp cn : Int32) : Prop :=
  (∀ p, p < l → ∃ k, k < n ∧ (lt p = nI (k + 1) ∨ lt p = -(nI (k + 1)))) ∧ (∀ k, bt cp k = true ↔ (k < n ∧ ∃ p, p < l ∧ lt p = nI (k + 1))) ∧ (∀ k, bt cn k = true ↔ (k < n ∧ ∃ p, p < l ∧ lt p = -(nI (k + 1))))
theorem zi_lpos {k : Nat} (h : k < 10) : ¬ nI (k + 1) ≤ 0 ∧ 0 ≤ nI (k + 1) ∧ nI (k + 1) - 1 = nI k ∧ -(nI (k + 1)) ≤ 0 ∧ ¬ 0 ≤ -(nI (k + 1)) ∧ -(-(nI (k + 1))) - 1 = nI k :=
  (by decide +kernel : ∀ k, k < 10 → ¬ nI (k + 1) ≤ 0 ∧ 0 ≤ nI (k + 1) ∧ nI (k + 1) - 1 = nI k ∧ -(nI (k + 1)) ≤ 0 ∧ ¬ 0 ≤ -(nI (k + 1)) ∧ -(-(nI (k + 1))) - 1 = nI k) k h
theorem zi_linj {k j : Nat} (h : k < 10) (h' : j < 10) : (nI (k + 1) = nI (j + 1) → k = j) ∧ (-(nI (k + 1)) = -(nI (j + 1)) → k = j) ∧ nI (k + 1) ≠ -(nI (j + 1)) :=
  (by decide +kernel : ∀ k, k < 10 → ∀ j, j < 10 → (nI (k + 1) = nI (j + 1) → k = j) ∧ (-(nI (k + 1)) = -(nI (j + 1)) → k = j) ∧ nI (k + 1) ≠ -(nI (j + 1))) k h j h'
theorem zi_ix4 (x y : Nat) : nI x * 4 + nI y = nI (x * 4 + y) := by
  rw [show (4 : Int32) = nI 4 from rfl, pk_mul, nI_add]
section
variable {y_maxV y_maxA y_maxC y_maxD y_n y_m y_d y_status y_model y_hasCore : Int32} {z_kind z_atomX z_atomY z_atomC z_atomDepth z_assumed z_literals z_length z_clauseDepth z_clauseIn z_assumptionIn z_bound : Nat → Int32}
variable {n m V t : Nat}
theorem yw_holds {post : Int32 → Prop} {i l : Nat} {cp cn : Int32} (hn : n ≤ 10) (ht : t < 1024) (hi : i < 24) (hl : l ≤ 4) (hlen : z_length i = nI l) (hcl : rl_Cla n l (fun p => z_literals (i * 4 + p)) cp cn)
    (K1 : ds_Cl cp cn (rl_tau n t) → post 1) (K0 : (¬ ds_Cl cp cn (rl_tau n t)) → post 0) : wpY_clauseHolds post (y_maxV, y_maxA, y_maxC, y_maxD, nI n, y_m, y_d, y_status, y_model, y_hasCore, z_kind, z_atomX, z_atomY, z_atomC, z_atomDepth, z_assumed, z_literals, z_length, z_clauseDepth, z_clauseIn, z_assumptionIn, z_bound) (nI t) (nI i) := by
  obtain ⟨c1, c2, c3⟩ := hcl
  have key : ∀ f p, p ≤ l → l < f + p → (∀ p', p' < p → ∀ k, k < n → (z_literals (i * 4 + p') = nI (k + 1) → rl_tau n t k = false) ∧ (z_literals (i * 4 + p') = -(nI (k + 1)) → rl_tau n t k = true)) → wY_clauseHolds_2 post (nI t) (nI i) y_maxV y_maxA y_maxC y_maxD (nI n) y_m y_d y_status y_model y_hasCore z_kind z_atomX z_atomY z_atomC z_atomDepth z_assumed z_literals z_length z_clauseDepth z_clauseIn z_assumptionIn z_bound f (nI p) := by
    intro f
    induction f with
    | zero => intro p h1 h2; omega
    | succ f ih =>
      intro p hp hf hI
      have ci : (nI i).toNatClampNeg = i := nI_clamp (by omega)
      refine And.intro (pk_in i 24 hi) ?_
      rw [ci, hlen]
      refine pk_le l p (fun h => K0 (fun ⟨k, hk⟩ => ?_)) (fun h => ?_)
      · rcases hk with ⟨a, b⟩ | ⟨a, b⟩
        · obtain ⟨hkn, p', hp', e⟩ := (c2 k).mp a
          have := (hI p' (by omega) k hkn).1 e
          rw [b] at this; cases this
        · obtain ⟨hkn, p', hp', e⟩ := (c3 k).mp a
          have := (hI p' (by omega) k hkn).2 e
          rw [b] at this; cases this
      · have e4 := zi_ix4 i p
        have c4 : (nI i * 4 + nI p).toNatClampNeg = i * 4 + p := by rw [e4]; exact nI_clamp (by omega)
        obtain ⟨k, hk, hlit⟩ := c1 p h
        dsimp only at hlit
        obtain ⟨z1, z2, z3, z4, z5, z6⟩ := zi_lpos (k := k) (by omega)
        have next : (∀ k', k' < n → (z_literals (i * 4 + p) = nI (k' + 1) → rl_tau n t k' = false) ∧ (z_literals (i * 4 + p) = -(nI (k' + 1)) → rl_tau n t k' = true)) → wY_clauseHolds_2 post (nI t) (nI i) y_maxV y_maxA y_maxC y_maxD (nI n) y_m y_d y_status y_model y_hasCore z_kind z_atomX z_atomY z_atomC z_atomDepth z_assumed z_literals z_length z_clauseDepth z_clauseIn z_assumptionIn z_bound f (nI (p + 1)) := by
          intro hnew
          refine ih (p + 1) (by omega) (by omega) (fun p' hp' k' hk' => ?_)
          rcases Nat.lt_or_ge p' p with q | q
          · exact hI p' q k' hk'
          · have : p' = p := by omega
            subst this
            exact hnew k' hk'
        refine And.intro (by rw [e4]; exact vp_in_nI (by omega) (by omega)) ?_
        rw [c4]
        rcases hlit with e | e
        · rw [e]
          refine nm_e (br_f z1 ?_)
          rw [z3]
          refine yw_isTrue hn hk ht (fun hτ => br_f (by decide) (K1 ⟨k, Or.inl ⟨(c2 k).mpr ⟨hk, p, h, e⟩, hτ⟩⟩)) (fun hτ => br_t rfl (br_t z2 (nm_r (nI_1 p) (next (fun k' hk' => ⟨fun e' => ?_, fun e' => ?_⟩)))))
          · rw [e] at e'
            rw [← (zi_linj (by omega) (by omega)).1 e']; exact hτ
          · rw [e] at e'
            exact ((zi_linj (by omega) (by omega)).2.2 e').elim
        · rw [e]
          refine nm_e (br_t z4 (br_f z5 ?_))
          rw [z6]
          refine yw_isTrue hn hk ht (fun hτ => br_f (by decide) (nm_r (nI_1 p) (next (fun k' hk' => ⟨fun e' => ?_, fun e' => ?_⟩)))) (fun hτ => br_t rfl (K1 ⟨k, Or.inr ⟨(c3 k).mpr ⟨hk, p, h, e⟩, hτ⟩⟩))
          · rw [e] at e'
            exact ((zi_linj (by omega) (by omega)).2.2 e'.symm).elim
          · rw [e] at e'
            rw [← (zi_linj (by omega) (by omega)).2.1 e']; exact hτ
  exact Exists.intro (l + 1) (key (l + 1) 0 (by omega) (by omega) (fun p' hp' => by omega))
/-- t is a model of the clauses in S and the assumptions in A -/
def rl_Md (n m : Nat) (kd lf rt bd cp cn : Nat → Int32) (aT aF : Int32) (S A : Nat → Prop) (τ : Nat → Bool) : Prop :=
  (∀ k, k < n → A k → (bt aT k = true → τ k = true) ∧ (bt aF k = true → τ k = false)) ∧ (∀ i, i < m → S i → ds_Cl (cp i) (cn i) τ) ∧ ∃ s, gs_Sol (ds_E n kd lf rt bd τ) s
theorem yw_isModel {post : Int32 → SY → Prop} {cp cn : Nat → Int32} {aT aF al : Int32} {S A : Nat → Prop} {len : Nat → Nat} (hn : n ≤ 10) (hm : m ≤ 24) (hAt : ds_At V n z_kind z_atomX z_atomY z_atomC) (hV : V ≤ 8) (ht : t < 1024)
    (hlen : ∀ i, i < m → z_length i = nI (len i) ∧ len i ≤ 4) (hcl : ∀ i, i < m → rl_Cla n (len i) (fun p => z_literals (i * 4 + p)) (cp i) (cn i))
    (hasm : ∀ k, k < n → z_assumed k = if bt aT k = true then 1 else if bt aF k = true then -1 else 0) (hdis : ∀ k, bt aT k = true → bt aF k = true → False)
    (hS : ∀ i, i < m → (S i ↔ (¬ al = 0 ∨ ¬ z_clauseIn i = 0))) (hA : ∀ k, k < n → (A k ↔ (¬ al = 0 ∨ ¬ z_assumptionIn k = 0)))
    (K1 : ∀ b, rl_Md n m z_kind z_atomX z_atomY z_atomC cp cn aT aF S A (rl_tau n t) → fw_Cl V (ds_E n z_kind z_atomX z_atomY z_atomC (rl_tau n t)) (fw_T b) → fw_Sn V (ds_E n z_kind z_atomX z_atomY z_atomC (rl_tau n t)) (fw_T b) → post 1 (nI V, y_maxA, y_maxC, y_maxD, nI n, nI m, y_d, y_status, y_model, y_hasCore, z_kind, z_atomX, z_atomY, z_atomC, z_atomDepth, z_assumed, z_literals, z_length, z_clauseDepth, z_clauseIn, z_assumptionIn, b))
    (K0 : ∀ b, ¬ rl_Md n m z_kind z_atomX z_atomY z_atomC cp cn aT aF S A (rl_tau n t) → post 0 (nI V, y_maxA, y_maxC, y_maxD, nI n, nI m, y_d, y_status, y_model, y_hasCore, z_kind, z_atomX, z_atomY, z_atomC, z_atomDepth, z_assumed, z_literals, z_length, z_clauseDepth, z_clauseIn, z_assumptionIn, b)) :
    wpY_isModel post (nI V, y_maxA, y_maxC, y_maxD, nI n, nI m, y_d, y_status, y_model, y_hasCore, z_kind, z_atomX, z_atomY, z_atomC, z_atomDepth, z_assumed, z_literals, z_length, z_clauseDepth, z_clauseIn, z_assumptionIn, z_bound) (nI t) al := by
  have cls : (∀ k, k < n → A k → (bt aT k = true → rl_tau n t k = true) ∧ (bt aF k = true → rl_tau n t k = false)) → ∀ f i, i ≤ m → m < f + i → (∀ j, j < i → S j → ds_Cl (cp j) (cn j) (rl_tau n t)) →
      wY_isModel_73 post (nI t) al (nI V) y_maxA y_maxC y_maxD (nI n) (nI m) y_d y_status y_model y_hasCore z_kind z_atomX z_atomY z_atomC z_atomDepth z_assumed z_literals z_length z_clauseDepth z_clauseIn z_assumptionIn z_bound f (nI i) := by
    intro hA' f
    induction f with
    | zero => intro i h1 h2; omega
    | succ f ih =>
      intro i hi hf hI
      refine pk_le m i (fun h => ?_) (fun h => ?_)
      · refine yw_feas hn hAt hV ht (fun b g1 g2 => And.intro rfl (K1 b ⟨hA', fun j hj => hI j (by omega), _, fw_sol g1⟩ g1 g2)) (fun b g1 => And.intro rfl (K0 b (fun q => g1 q.2.2)))
      · have ci : (nI i).toNatClampNeg = i := nI_clamp (by omega)
        have skip : ¬ S i → wY_isModel_73 post (nI t) al (nI V) y_maxA y_maxC y_maxD (nI n) (nI m) y_d y_status y_model y_hasCore z_kind z_atomX z_atomY z_atomC z_atomDepth z_assumed z_literals z_length z_clauseDepth z_clauseIn z_assumptionIn z_bound f (nI (i + 1)) := by
          intro hno
          refine ih (i + 1) (by omega) (by omega) (fun j hj hs => ?_)
          rcases Nat.lt_or_ge j i with q | q
          · exact hI j q hs
          · have : j = i := by omega
            subst this
            exact (hno hs).elim
        have chk : S i → wY_isModel_94 post (wY_isModel_73 post (nI t) al (nI V) y_maxA y_maxC y_maxD (nI n) (nI m) y_d y_status y_model y_hasCore z_kind z_atomX z_atomY z_atomC z_atomDepth z_assumed z_literals z_length z_clauseDepth z_clauseIn z_assumptionIn z_bound f) (nI t) al (nI i) (nI V) y_maxA y_maxC y_maxD (nI n) (nI m) y_d y_status y_model y_hasCore z_kind z_atomX z_atomY z_atomC z_atomDepth z_assumed z_literals z_length z_clauseDepth z_clauseIn z_assumptionIn z_bound := by
          intro hs
          obtain ⟨l1, l2⟩ := hlen i h
          refine yw_holds hn ht (by omega) l2 l1 (hcl i h) (fun q => br_f (by decide) (nm_r (nI_1 i) (ih (i + 1) (by omega) (by omega) (fun j hj hs => ?_)))) (fun q => br_t rfl (K0 _ (fun y => q (y.2.1 i h hs))))
          rcases Nat.lt_or_ge j i with w | w
          · exact hI j w hs
          · have : j = i := by omega
            subst this
            exact q
        refine br_c (fun h1 => And.intro (pk_in i 24 (by omega)) ?_) (fun h1 => chk ((hS i h).mpr (Or.inl h1)))
        rw [ci]
        refine br_c (fun h2 => nm_r (nI_1 i) (skip (fun q => ?_))) (fun h2 => chk ((hS i h).mpr (Or.inr h2)))
        rcases (hS i h).mp q with w | w
        · exact w h1
        · exact w h2
  have asm : ∀ f k, k ≤ n → n < f + k → (∀ j, j < k → A j → (bt aT j = true → rl_tau n t j = true) ∧ (bt aF j = true → rl_tau n t j = false)) → wY_isModel_2 post (nI t) al (nI V) y_maxA y_maxC y_maxD (nI n) (nI m) y_d y_status y_model y_hasCore z_kind z_atomX z_atomY z_atomC z_atomDepth z_assumed z_literals z_length z_clauseDepth z_clauseIn z_assumptionIn z_bound f (nI k) := by
    intro f
    induction f with
    | zero => intro k h1 h2; omega
    | succ f ih =>
      intro k hk hf hI
      refine pk_le n k (fun h => Exists.intro (m + 1) (cls (fun j hj => hI j (by omega)) (m + 1) 0 (by omega) (by omega) (fun j hj => by omega))) (fun h => ?_)
      have ck : (nI k).toNatClampNeg = k := nI_clamp (by omega)
      have ik : vp_in (nI k) 10 := pk_in k 10 (by omega)
      have next : (A k → (bt aT k = true → rl_tau n t k = true) ∧ (bt aF k = true → rl_tau n t k = false)) → wY_isModel_2 post (nI t) al (nI V) y_maxA y_maxC y_maxD (nI n) (nI m) y_d y_status y_model y_hasCore z_kind z_atomX z_atomY z_atomC z_atomDepth z_assumed z_literals z_length z_clauseDepth z_clauseIn z_assumptionIn z_bound f (nI (k + 1)) := by
        intro hnew
        refine ih (k + 1) (by omega) (by omega) (fun j hj => ?_)
        rcases Nat.lt_or_ge j k with q | q
        · exact hI j q
        · have : j = k := by omega
          subst this
          exact hnew
      have chk : A k → wY_isModel_23 post (wY_isModel_2 post (nI t) al (nI V) y_maxA y_maxC y_maxD (nI n) (nI m) y_d y_status y_model y_hasCore z_kind z_atomX z_atomY z_atomC z_atomDepth z_assumed z_literals z_length z_clauseDepth z_clauseIn z_assumptionIn z_bound f) (nI t) al (nI k) (nI V) y_maxA y_maxC y_maxD (nI n) (nI m) y_d y_status y_model y_hasCore z_kind z_atomX z_atomY z_atomC z_atomDepth z_assumed z_literals z_length z_clauseDepth z_clauseIn z_assumptionIn z_bound := by
        intro ha
        refine And.intro ik ?_
        rw [ck, hasm k h]
        cases hT : bt aT k
        · cases hF : bt aF k
          · refine br_f (by decide) (And.intro ik ?_)
            rw [ck, hasm k h, hT, hF]
            refine br_f (by decide) (nm_r (nI_1 k) (next (fun _ => ⟨fun q => ?_, fun q => ?_⟩)))
            · rw [hT] at q; cases q
            · rw [hF] at q; cases q
          · refine br_f (by decide) (And.intro ik ?_)
            rw [ck, hasm k h, hT, hF]
            refine br_t (by decide) (yw_isTrue hn h ht (fun hτ => br_f (by decide) (K0 _ (fun q => ?_))) (fun hτ => br_t rfl (nm_r (nI_1 k) (next (fun _ => ⟨fun q => ?_, fun _ => hτ⟩)))))
            · have := (q.1 k h ha).2 hF
              rw [hτ] at this; cases this
            · rw [hT] at q; cases q
        · refine br_t (by simp) (yw_isTrue hn h ht (fun hτ => br_f (by decide) (And.intro ik ?_)) (fun hτ => br_t rfl (K0 _ (fun q => ?_))))
          · rw [ck, hasm k h, hT, if_pos rfl]
            refine br_f (by decide) (nm_r (nI_1 k) (next (fun _ => ⟨fun _ => hτ, fun q => (hdis k hT q).elim⟩)))
          · have := (q.1 k h ha).1 hT
            rw [hτ] at this; cases this
      refine br_c (fun h1 => And.intro ik ?_) (fun h1 => chk ((hA k h).mpr (Or.inl h1)))
      rw [ck]
      refine br_c (fun h2 => nm_r (nI_1 k) (next (fun q => ?_))) (fun h2 => chk ((hA k h).mpr (Or.inr h2)))
      rcases (hA k h).mp q with w | w
      · exact (w h1).elim
      · exact (w h2).elim
  exact Exists.intro (n + 1) (asm (n + 1) 0 (by omega) (by omega) (fun j hj => by omega))
end
end
section
/-! choices as numbers: atom 0 is the highest bit -/
def rl_num : Nat → (Nat → Bool) → Nat
  | 0, _ => 0
  | n + 1, f => 2 * rl_num n f + (if f n = true then 1 else 0)
theorem rl_num_lt (f : Nat → Bool) : ∀ n, rl_num n f < 2 ^ n
  | 0 => by show 0 < 2 ^ 0; decide
  | n + 1 => by
    have := rl_num_lt f n
    simp only [rl_num]
    rw [Nat.pow_succ]
    by_cases e : f n = true
    · rw [if_pos e]; omega
    · rw [if_neg e]; omega
theorem rl_num_cg {f g : Nat → Bool} : ∀ {n : Nat}, (∀ k, k < n → f k = g k) → rl_num n f = rl_num n g
  | 0, _ => rfl
  | n + 1, h => by
    simp only [rl_num]
    rw [rl_num_cg (fun k hk => h k (by omega)), h n (by omega)]
theorem rl_num_bit (f : Nat → Bool) : ∀ {n k : Nat}, k < n → rl_tau n (rl_num n f) k = f k
  | 0, k, h => by omega
  | n + 1, k, h => by
    unfold rl_tau
    simp only [rl_num]
    rcases Nat.lt_or_ge k n with q | q
    · have ih := rl_num_bit f (n := n) (k := k) q
      unfold rl_tau at ih
      rw [show n + 1 - 1 - k = (n - 1 - k) + 1 by omega, Nat.testBit_add_one]
      have e : (2 * rl_num n f + (if f n = true then 1 else 0)) / 2 = rl_num n f := by
        by_cases e : f n = true
        · rw [if_pos e]; omega
        · rw [if_neg e]; omega
      rw [e]
      exact ih
    · have : k = n := by omega
      subst this
      rw [show k + 1 - 1 - k = 0 by omega, Nat.testBit_zero]
      cases hb : f k
      · simp only [Bool.false_eq_true, if_false, decide_eq_false_iff_not]; omega
      · simp only [if_true, decide_eq_true_eq]; omega
theorem rl_num_tau : ∀ {n t : Nat}, t < 2 ^ n → rl_num n (rl_tau n t) = t
  | 0, t, h => by
    have h0 : 2 ^ 0 = 1 := rfl
    rw [h0] at h
    show 0 = t
    omega
  | n + 1, t, h => by
    rw [Nat.pow_succ] at h
    have ih := rl_num_tau (n := n) (t := t / 2) (by omega)
    simp only [rl_num]
    have e1 : rl_num n (rl_tau (n + 1) t) = rl_num n (rl_tau n (t / 2)) := rl_num_cg (fun k hk => by
      unfold rl_tau
      rw [show n + 1 - 1 - k = (n - 1 - k) + 1 by omega, Nat.testBit_add_one])
    have e2 : rl_tau (n + 1) t n = decide (t % 2 = 1) := by
      unfold rl_tau
      rw [show n + 1 - 1 - n = 0 by omega, Nat.testBit_zero]
    rw [e1, ih, e2]
    by_cases e : t % 2 = 1
    · rw [decide_eq_true e, if_pos rfl]; omega
    · rw [decide_eq_false e, if_neg (by decide)]; omega
theorem rl_num_ord {f g : Nat → Bool} {p : Nat} : ∀ {n : Nat}, p < n → (∀ q, q < p → f q = g q) → f p = false → g p = true → rl_num n f < rl_num n g
  | 0, h, _, _, _ => by omega
  | n + 1, h, h1, h2, h3 => by
    simp only [rl_num]
    rcases Nat.lt_or_ge p n with q | q
    · have := rl_num_ord (n := n) q h1 h2 h3
      by_cases e : f n = true
      · by_cases e' : g n = true
        · rw [if_pos e, if_pos e']; omega
        · rw [if_pos e, if_neg e']; omega
      · by_cases e' : g n = true
        · rw [if_neg e, if_pos e']; omega
        · rw [if_neg e, if_neg e']; omega
    · have : p = n := by omega
      subst this
      rw [rl_num_cg h1, h2, h3]
      simp
theorem rl_diff {f g : Nat → Bool} : ∀ n : Nat, (∀ k, k < n → f k = g k) ∨ ∃ p, p < n ∧ (∀ q, q < p → f q = g q) ∧ f p ≠ g p
  | 0 => Or.inl (fun k h => by omega)
  | n + 1 => by
    rcases rl_diff (f := f) (g := g) n with h | ⟨p, h1, h2, h3⟩
    · by_cases e : f n = g n
      · refine Or.inl (fun k hk => ?_)
        rcases Nat.lt_or_ge k n with q | q
        · exact h k q
        · have : k = n := by omega
          subst this; exact e
      · exact Or.inr ⟨n, by omega, h, e⟩
    · exact Or.inr ⟨p, by omega, h2, h3⟩
theorem rl_Mdcg {n m : Nat} {kd lf rt bd cp cn : Nat → Int32} {aT aF : Int32} {S A : Nat → Prop} {τ τ' : Nat → Bool} (hC : ∀ i, i < m → ∀ k, bt (cp i) k = true ∨ bt (cn i) k = true → k < n) (h : ∀ k, k < n → τ k = τ' k)
    (hm : rl_Md n m kd lf rt bd cp cn aT aF S A τ) : rl_Md n m kd lf rt bd cp cn aT aF S A τ' := by
  obtain ⟨h1, h2, s, h3⟩ := hm
  refine ⟨fun k hk ha => by rw [← h k hk]; exact h1 k hk ha, fun i hi hs => ?_, s, by rw [← ds_Ecg h]; exact h3⟩
  obtain ⟨k, hk⟩ := h2 i hi hs
  rcases hk with ⟨a, b⟩ | ⟨a, b⟩
  · exact ⟨k, Or.inl ⟨a, by rw [← h k (hC i hi k (Or.inl a))]; exact b⟩⟩
  · exact ⟨k, Or.inr ⟨a, by rw [← h k (hC i hi k (Or.inr a))]; exact b⟩⟩
def rl_YH (V n m : Nat) (kd lf rt bd len lt asm cp cn : Nat → Int32) (aT aF : Int32) : Prop :=
  n ≤ 10 ∧ m ≤ 24 ∧ V ≤ 8 ∧ ds_At V n kd lf rt bd ∧ (∀ i, i < m → len i = nI (len i).toNatClampNeg ∧ (len i).toNatClampNeg ≤ 4) ∧ (∀ i, i < m → rl_Cla n (len i).toNatClampNeg (fun p => lt (i * 4 + p)) (cp i) (cn i)) ∧
  (∀ k, k < n → asm k = if bt aT k = true then 1 else if bt aF k = true then -1 else 0) ∧ (∀ k, bt aT k = true → bt aF k = true → False)
theorem rl_pow : ∀ n, n ≤ 10 → (1 : Int32) <<< (nI n &&& 31) = nI (2 ^ n) ∧ 2 ^ n ≤ 1024 := by decide +kernel
section
variable {y_maxV y_maxA y_maxC y_maxD y_n y_m y_d y_status y_model y_hasCore : Int32} {z_kind z_atomX z_atomY z_atomC z_atomDepth z_assumed z_literals z_length z_clauseDepth z_clauseIn z_assumptionIn z_bound : Nat → Int32}
variable {n m V : Nat} {cp cn : Nat → Int32} {aT aF al : Int32} {S A : Nat → Prop}
theorem yw_md {post : Int32 → SY → Prop} {t : Nat} (h : rl_YH V n m z_kind z_atomX z_atomY z_atomC z_length z_literals z_assumed cp cn aT aF) (ht : t < 1024)
    (hS : ∀ i, i < m → (S i ↔ (¬ al = 0 ∨ ¬ z_clauseIn i = 0))) (hA : ∀ k, k < n → (A k ↔ (¬ al = 0 ∨ ¬ z_assumptionIn k = 0)))
    (K1 : ∀ b, rl_Md n m z_kind z_atomX z_atomY z_atomC cp cn aT aF S A (rl_tau n t) → fw_Cl V (ds_E n z_kind z_atomX z_atomY z_atomC (rl_tau n t)) (fw_T b) → fw_Sn V (ds_E n z_kind z_atomX z_atomY z_atomC (rl_tau n t)) (fw_T b) → post 1 (nI V, y_maxA, y_maxC, y_maxD, nI n, nI m, y_d, y_status, y_model, y_hasCore, z_kind, z_atomX, z_atomY, z_atomC, z_atomDepth, z_assumed, z_literals, z_length, z_clauseDepth, z_clauseIn, z_assumptionIn, b))
    (K0 : ∀ b, ¬ rl_Md n m z_kind z_atomX z_atomY z_atomC cp cn aT aF S A (rl_tau n t) → post 0 (nI V, y_maxA, y_maxC, y_maxD, nI n, nI m, y_d, y_status, y_model, y_hasCore, z_kind, z_atomX, z_atomY, z_atomC, z_atomDepth, z_assumed, z_literals, z_length, z_clauseDepth, z_clauseIn, z_assumptionIn, b)) :
    wpY_isModel post (nI V, y_maxA, y_maxC, y_maxD, nI n, nI m, y_d, y_status, y_model, y_hasCore, z_kind, z_atomX, z_atomY, z_atomC, z_atomDepth, z_assumed, z_literals, z_length, z_clauseDepth, z_clauseIn, z_assumptionIn, z_bound) (nI t) al := by
  obtain ⟨h1, h2, h3, h4, h5, h6, h7, h8⟩ := h
  exact yw_isModel (len := fun i => (z_length i).toNatClampNeg) h1 h2 h4 h3 ht h5 h6 h7 h8 hS hA K1 K0
theorem yw_leastS {post : Int32 → SY → Prop} {fr t0 : Nat} (h : rl_YH V n m z_kind z_atomX z_atomY z_atomC z_length z_literals z_assumed cp cn aT aF)
    (hS : ∀ i, i < m → (S i ↔ (¬ al = 0 ∨ ¬ z_clauseIn i = 0))) (hA : ∀ k, k < n → (A k ↔ (¬ al = 0 ∨ ¬ z_assumptionIn k = 0)))
    (hfr : fr ≤ t0) (ht0 : t0 < 2 ^ n) (hmod : rl_Md n m z_kind z_atomX z_atomY z_atomC cp cn aT aF S A (rl_tau n t0)) (hno : ∀ t, fr ≤ t → t < t0 → ¬ rl_Md n m z_kind z_atomX z_atomY z_atomC cp cn aT aF S A (rl_tau n t))
    (K : ∀ b, post (nI t0) (nI V, y_maxA, y_maxC, y_maxD, nI n, nI m, y_d, y_status, y_model, y_hasCore, z_kind, z_atomX, z_atomY, z_atomC, z_atomDepth, z_assumed, z_literals, z_length, z_clauseDepth, z_clauseIn, z_assumptionIn, b)) : wpY_leastFrom post (nI V, y_maxA, y_maxC, y_maxD, nI n, nI m, y_d, y_status, y_model, y_hasCore, z_kind, z_atomX, z_atomY, z_atomC, z_atomDepth, z_assumed, z_literals, z_length, z_clauseDepth, z_clauseIn, z_assumptionIn, z_bound) (nI fr) al := by
  obtain ⟨e1, e2⟩ := rl_pow n h.1
  have key : ∀ f t b, fr ≤ t → t ≤ t0 → t0 < f + t → wY_leastFrom_2 post al f (nI t) (nI V) y_maxA y_maxC y_maxD (nI n) (nI m) y_d y_status y_model y_hasCore z_kind z_atomX z_atomY z_atomC z_atomDepth z_assumed z_literals z_length z_clauseDepth z_clauseIn z_assumptionIn b := by
    intro f
    induction f with
    | zero => intro t b h1 h2 h3; omega
    | succ f ih =>
      intro t b h1 h2 h3
      refine pk_le (2 ^ n) t (fun q => by omega) (fun q => ?_) e1
      refine yw_md h (by omega) hS hA (fun b' g1 _ _ => br_f (by decide) ?_) (fun b' g1 => br_t rfl (nm_r (nI_1 t) (ih (t + 1) b' (by omega) ?_ (by omega))))
      · rcases Nat.lt_or_ge t t0 with w | w
        · exact (hno t h1 w g1).elim
        · have : t = t0 := by omega
          subst this
          exact K b'
      · rcases Nat.lt_or_ge t t0 with w | w
        · omega
        · have : t = t0 := by omega
          subst this
          exact (g1 hmod).elim
  exact Exists.intro (t0 + 1) (key (t0 + 1) fr z_bound (Nat.le_refl _) hfr (by omega))
theorem yw_leastN {post : Int32 → SY → Prop} {fr : Nat} (h : rl_YH V n m z_kind z_atomX z_atomY z_atomC z_length z_literals z_assumed cp cn aT aF)
    (hS : ∀ i, i < m → (S i ↔ (¬ al = 0 ∨ ¬ z_clauseIn i = 0))) (hA : ∀ k, k < n → (A k ↔ (¬ al = 0 ∨ ¬ z_assumptionIn k = 0)))
    (hfr : fr ≤ 2 ^ n) (hno : ∀ t, fr ≤ t → t < 2 ^ n → ¬ rl_Md n m z_kind z_atomX z_atomY z_atomC cp cn aT aF S A (rl_tau n t))
    (K : ∀ b, post (-1) (nI V, y_maxA, y_maxC, y_maxD, nI n, nI m, y_d, y_status, y_model, y_hasCore, z_kind, z_atomX, z_atomY, z_atomC, z_atomDepth, z_assumed, z_literals, z_length, z_clauseDepth, z_clauseIn, z_assumptionIn, b)) : wpY_leastFrom post (nI V, y_maxA, y_maxC, y_maxD, nI n, nI m, y_d, y_status, y_model, y_hasCore, z_kind, z_atomX, z_atomY, z_atomC, z_atomDepth, z_assumed, z_literals, z_length, z_clauseDepth, z_clauseIn, z_assumptionIn, z_bound) (nI fr) al := by
  obtain ⟨e1, e2⟩ := rl_pow n h.1
  have key : ∀ f t b, fr ≤ t → t ≤ 2 ^ n → 2 ^ n < f + t → wY_leastFrom_2 post al f (nI t) (nI V) y_maxA y_maxC y_maxD (nI n) (nI m) y_d y_status y_model y_hasCore z_kind z_atomX z_atomY z_atomC z_atomDepth z_assumed z_literals z_length z_clauseDepth z_clauseIn z_assumptionIn b := by
    intro f
    induction f with
    | zero => intro t b h1 h2 h3; omega
    | succ f ih =>
      intro t b h1 h2 h3
      refine pk_le (2 ^ n) t (fun q => K b) (fun q => ?_) e1
      exact yw_md h (by omega) hS hA (fun b' g1 _ _ => (hno t h1 q g1).elim) (fun b' g1 => br_t rfl (nm_r (nI_1 t) (ih (t + 1) b' (by omega) (by omega) (by omega))))
  exact Exists.intro (2 ^ n + 1) (key (2 ^ n + 1) fr z_bound (Nat.le_refl _) hfr (by omega))
end
end
section
/-! the relation -/
def rl_PD (V n m d : Nat) (kd lf rt bd ad lt len cp cn cd : Nat → Int32) (aT aF : Int32) (asm ltY : Nat → Int32) : Prop :=
  ds_At V n kd lf rt bd ∧
  (∀ k, k < n → ∃ e, e ≤ d ∧ ad k = nI e) ∧ (∀ j k, j ≤ k → k < n → (ad j).toNatClampNeg ≤ (ad k).toNatClampNeg) ∧
  (∀ i, i < m → ∃ e, e ≤ d ∧ cd i = nI e) ∧ (∀ i j, i ≤ j → j < m → (cd i).toNatClampNeg ≤ (cd j).toNatClampNeg) ∧
  (∀ i, i < m → len i = nI (len i).toNatClampNeg ∧ (len i).toNatClampNeg ≤ 4 ∧ rl_Cla n (len i).toNatClampNeg (fun p => lt (i * 4 + p)) (cp i) (cn i) ∧ (∀ p, p < (len i).toNatClampNeg → ltY (i * 4 + p) = lt (i * 4 + p)) ∧ (∀ p, (len i).toNatClampNeg ≤ p → p < 4 → lt (i * 4 + p) = 0) ∧ (∀ k, bt (cp i) k = true ∨ bt (cn i) k = true → (ad k).toNatClampNeg ≤ (cd i).toNatClampNeg)) ∧
  (∀ k, bt aT k = true ∨ bt aF k = true → k < n) ∧ (∀ k, bt aT k = true → bt aF k = true → False) ∧
  (∀ k, k < n → asm k = if bt aT k = true then 1 else if bt aF k = true then -1 else 0)
/-- the core by deletion in order -/
def rl_Co (n m : Nat) (kd lf rt bd cp cn : Nat → Int32) (aT aF cc ca : Int32) : Prop :=
  (∀ q, bt cc q = true → q < m) ∧ (∀ q, bt ca q = true → bt aT q = true ∨ bt aF q = true) ∧
  (∀ i, i < m → (bt cc i = true ↔ ∃ τ, rl_Md n m kd lf rt bd cp cn aT aF (fun j => (j < i ∧ bt cc j = true) ∨ i < j) (fun _ => True) τ)) ∧
  (∀ k, k < n → bt aT k = true ∨ bt aF k = true → (bt ca k = true ↔ ∃ τ, rl_Md n m kd lf rt bd cp cn aT aF (fun j => bt cc j = true) (fun j => (j < k ∧ bt ca j = true) ∨ k < j) τ))
def rl_SS (n m : Nat) (kd lf rt bd cp cn : Nat → Int32) (aT aF st pT ck cc ca wC wA : Int32) (vl : Nat → Int32) (md : Int32) (cI aI : Nat → Int32) : Prop :=
  (st = 0 ∨
   (st = 1 ∧ ∃ t, t < 2 ^ n ∧ md = nI t ∧ (∀ k, bt pT k = true ↔ (k < n ∧ rl_tau n t k = true)) ∧ rl_Md n m kd lf rt bd cp cn aT aF (fun _ => True) (fun _ => True) (rl_tau n t) ∧
     ∃ s, gs_Gr (ds_E n kd lf rt bd (rl_tau n t)) s ∧ ∀ v, v < 8 → (vl v).toInt = s v) ∨
   (st = 2 ∧ (∀ q, bt wC q = true → q < m) ∧ (∀ q, bt wA q = true → bt aT q = true ∨ bt aF q = true) ∧ ∀ τ, ¬ rl_Md n m kd lf rt bd cp cn aT aF (fun i => bt wC i = true) (fun k => bt wA k = true) τ)) ∧
  (ck = 0 ∨ (ck = 1 ∧ st = 2 ∧ rl_Co n m kd lf rt bd cp cn aT aF cc ca ∧ (∀ i, i < m → cI i = if bt cc i = true then 1 else 0) ∧ (∀ k, k < n → aI k = if bt ca k = true then 1 else 0)))
def rl_R (V A C D n m d lc : Nat) (aT aF st pT ck cc ca wC wA : Int32) (kd lf rt bd ad lt len cp cn cd vl lp ln lr : Nat → Int32) (md : Int32) (asm ltY cI aI : Nat → Int32) : Prop :=
  (2 ≤ V ∧ V ≤ 8 ∧ n ≤ A ∧ A ≤ 10 ∧ m ≤ C ∧ C ≤ 24 ∧ d ≤ D ∧ D ≤ 6 ∧ lc ≤ 128) ∧
  rl_PD V n m d kd lf rt bd ad lt len cp cn cd aT aF asm ltY ∧
  cd_LC (ds_M n m kd lf rt bd cp cn (fun _ => True)) n m false lc lp ln lr ∧
  rl_SS n m kd lf rt bd cp cn aT aF st pT ck cc ca wC wA vl md cI aI
/-- the relation at the head of a turn -/
def i_Rel (_k : Nat) (u : SX) (v : SY) : Prop := match u, v with
  | (f_goalEdge, f_goalRest, f_atomBits, f_decided, f_maxVariables, f_maxAtoms, f_maxClauses, f_maxDepth, f_atomCount, f_clauseCount, f_depthNow, f_assumedTrue, f_assumedFalse, f_status, f_presentTrue, f_coreKnown, f_coreClauses, f_coreAtoms, f_witnessClauses, f_witnessAtoms, f_learnedCount, f_learnedNext, f_activeRests, f_trueMask, f_falseMask, f_trailSize, f_theoryHead, f_level, f_conflictAtoms, f_conflictRests, f_failedAtoms, f_failedRests, f_activeEdges, f_goalOn, a_kinds, a_lefts, a_rights, a_bounds, a_atomDepths, a_literals, a_literalCounts, a_clausePos, a_clauseNeg, a_clauseDepths, a_values, a_learnedPos, a_learnedNeg, a_learnedRests, a_trail, a_levelStart, a_levelAtoms, a_reasonAtoms, a_reasonRests, a_edgeFrom, a_edgeTo, a_edgeWeight, a_potential, a_moved, a_gamma, a_via, a_dist, a_link), (y_maxV, y_maxA, y_maxC, y_maxD, y_n, y_m, y_d, y_status, y_model, y_hasCore, z_kind, z_atomX, z_atomY, z_atomC, z_atomDepth, z_assumed, z_literals, z_length, z_clauseDepth, z_clauseIn, z_assumptionIn, z_bound) => ∃ V A C D n m d lc : Nat, (f_maxVariables = nI V ∧ f_maxAtoms = nI A ∧ f_maxClauses = nI C ∧ f_maxDepth = nI D ∧ f_atomCount = nI n ∧ f_clauseCount = nI m ∧ f_depthNow = nI d ∧ f_learnedCount = nI lc ∧ f_goalOn = 0) ∧
    (y_maxV = nI V ∧ y_maxA = nI A ∧ y_maxC = nI C ∧ y_maxD = nI D ∧ y_n = nI n ∧ y_m = nI m ∧ y_d = nI d ∧ y_status = f_status ∧ y_hasCore = f_coreKnown) ∧
    (z_kind = a_kinds ∧ z_atomX = a_lefts ∧ z_atomY = a_rights ∧ z_atomC = a_bounds ∧ z_atomDepth = a_atomDepths ∧ z_length = a_literalCounts ∧ z_clauseDepth = a_clauseDepths) ∧ rl_R V A C D n m d lc f_assumedTrue f_assumedFalse f_status f_presentTrue f_coreKnown f_coreClauses f_coreAtoms f_witnessClauses f_witnessAtoms a_kinds a_lefts a_rights a_bounds a_atomDepths a_literals a_literalCounts a_clausePos a_clauseNeg a_clauseDepths a_values a_learnedPos a_learnedNeg a_learnedRests y_model z_assumed z_literals z_clauseIn z_assumptionIn
theorem i_up {k : Nat} {u : SX} {v : SY} (h : i_Rel k u v) : i_Rel (k + 5) u v := h
section
variable {f_goalEdge f_goalRest f_atomBits f_decided f_maxVariables f_maxAtoms f_maxClauses f_maxDepth f_atomCount f_clauseCount f_depthNow f_assumedTrue f_assumedFalse f_status f_presentTrue f_coreKnown f_coreClauses f_coreAtoms f_witnessClauses f_witnessAtoms f_learnedCount f_learnedNext f_activeRests f_trueMask f_falseMask f_trailSize f_theoryHead f_level f_conflictAtoms f_conflictRests f_failedAtoms f_failedRests f_activeEdges f_goalOn : Int32} {a_kinds a_lefts a_rights a_bounds a_atomDepths a_literals a_literalCounts a_clausePos a_clauseNeg a_clauseDepths a_values a_learnedPos a_learnedNeg a_learnedRests a_trail a_levelStart a_levelAtoms a_reasonAtoms a_reasonRests a_edgeFrom a_edgeTo a_edgeWeight a_potential a_moved a_gamma a_via a_dist a_link : Nat → Int32}
variable {y_model : Int32} {z_assumed z_literals z_clauseIn z_assumptionIn z_bound : Nat → Int32} {V A C D n m d lc : Nat}
theorem zz_in {k : Nat} (h : rl_R V A C D n m d lc f_assumedTrue f_assumedFalse f_status f_presentTrue f_coreKnown f_coreClauses f_coreAtoms f_witnessClauses f_witnessAtoms a_kinds a_lefts a_rights a_bounds a_atomDepths a_literals a_literalCounts a_clausePos a_clauseNeg a_clauseDepths a_values a_learnedPos a_learnedNeg a_learnedRests y_model z_assumed z_literals z_clauseIn z_assumptionIn) : i_Rel k (f_goalEdge, f_goalRest, f_atomBits, f_decided, nI V, nI A, nI C, nI D, nI n, nI m, nI d, f_assumedTrue, f_assumedFalse, f_status, f_presentTrue, f_coreKnown, f_coreClauses, f_coreAtoms, f_witnessClauses, f_witnessAtoms, nI lc, f_learnedNext, f_activeRests, f_trueMask, f_falseMask, f_trailSize, f_theoryHead, f_level, f_conflictAtoms, f_conflictRests, f_failedAtoms, f_failedRests, f_activeEdges, 0, a_kinds, a_lefts, a_rights, a_bounds, a_atomDepths, a_literals, a_literalCounts, a_clausePos, a_clauseNeg, a_clauseDepths, a_values, a_learnedPos, a_learnedNeg, a_learnedRests, a_trail, a_levelStart, a_levelAtoms, a_reasonAtoms, a_reasonRests, a_edgeFrom, a_edgeTo, a_edgeWeight, a_potential, a_moved, a_gamma, a_via, a_dist, a_link)
    (nI V, nI A, nI C, nI D, nI n, nI m, nI d, f_status, y_model, f_coreKnown, a_kinds, a_lefts, a_rights, a_bounds, a_atomDepths, z_assumed, z_literals, a_literalCounts, a_clauseDepths, z_clauseIn, z_assumptionIn, z_bound) :=
  ⟨V, A, C, D, n, m, d, lc, ⟨rfl, rfl, rfl, rfl, rfl, rfl, rfl, rfl, rfl⟩, ⟨rfl, rfl, rfl, rfl, rfl, rfl, rfl, rfl, rfl⟩, ⟨rfl, rfl, rfl, rfl, rfl, rfl, rfl⟩, h⟩
end
theorem zz_el {P : SX → SY → Prop} (h : ∀ (V A C D n m d lc : Nat) (f_goalEdge f_goalRest f_atomBits f_decided f_assumedTrue f_assumedFalse f_status f_presentTrue f_coreKnown f_coreClauses f_coreAtoms f_witnessClauses f_witnessAtoms f_learnedNext f_activeRests f_trueMask f_falseMask f_trailSize f_theoryHead f_level f_conflictAtoms f_conflictRests f_failedAtoms f_failedRests f_activeEdges : Int32) (a_kinds a_lefts a_rights a_bounds a_atomDepths a_literals a_literalCounts a_clausePos a_clauseNeg a_clauseDepths a_values a_learnedPos a_learnedNeg a_learnedRests a_trail a_levelStart a_levelAtoms a_reasonAtoms a_reasonRests a_edgeFrom a_edgeTo a_edgeWeight a_potential a_moved a_gamma a_via a_dist a_link : Nat → Int32) (y_model : Int32) (z_assumed z_literals z_clauseIn z_assumptionIn z_bound : Nat → Int32), rl_R V A C D n m d lc f_assumedTrue f_assumedFalse f_status f_presentTrue f_coreKnown f_coreClauses f_coreAtoms f_witnessClauses f_witnessAtoms a_kinds a_lefts a_rights a_bounds a_atomDepths a_literals a_literalCounts a_clausePos a_clauseNeg a_clauseDepths a_values a_learnedPos a_learnedNeg a_learnedRests y_model z_assumed z_literals z_clauseIn z_assumptionIn →
      P (f_goalEdge, f_goalRest, f_atomBits, f_decided, nI V, nI A, nI C, nI D, nI n, nI m, nI d, f_assumedTrue, f_assumedFalse, f_status, f_presentTrue, f_coreKnown, f_coreClauses, f_coreAtoms, f_witnessClauses, f_witnessAtoms, nI lc, f_learnedNext, f_activeRests, f_trueMask, f_falseMask, f_trailSize, f_theoryHead, f_level, f_conflictAtoms, f_conflictRests, f_failedAtoms, f_failedRests, f_activeEdges, 0, a_kinds, a_lefts, a_rights, a_bounds, a_atomDepths, a_literals, a_literalCounts, a_clausePos, a_clauseNeg, a_clauseDepths, a_values, a_learnedPos, a_learnedNeg, a_learnedRests, a_trail, a_levelStart, a_levelAtoms, a_reasonAtoms, a_reasonRests, a_edgeFrom, a_edgeTo, a_edgeWeight, a_potential, a_moved, a_gamma, a_via, a_dist, a_link)
        (nI V, nI A, nI C, nI D, nI n, nI m, nI d, f_status, y_model, f_coreKnown, a_kinds, a_lefts, a_rights, a_bounds, a_atomDepths, z_assumed, z_literals, a_literalCounts, a_clauseDepths, z_clauseIn, z_assumptionIn, z_bound))
    {k : Nat} {u : SX} {v : SY} (I : i_Rel k u v) : P u v := by
  obtain ⟨f_goalEdge, f_goalRest, f_atomBits, f_decided, f_maxVariables, f_maxAtoms, f_maxClauses, f_maxDepth, f_atomCount, f_clauseCount, f_depthNow, f_assumedTrue, f_assumedFalse, f_status, f_presentTrue, f_coreKnown, f_coreClauses, f_coreAtoms, f_witnessClauses, f_witnessAtoms, f_learnedCount, f_learnedNext, f_activeRests, f_trueMask, f_falseMask, f_trailSize, f_theoryHead, f_level, f_conflictAtoms, f_conflictRests, f_failedAtoms, f_failedRests, f_activeEdges, f_goalOn, a_kinds, a_lefts, a_rights, a_bounds, a_atomDepths, a_literals, a_literalCounts, a_clausePos, a_clauseNeg, a_clauseDepths, a_values, a_learnedPos, a_learnedNeg, a_learnedRests, a_trail, a_levelStart, a_levelAtoms, a_reasonAtoms, a_reasonRests, a_edgeFrom, a_edgeTo, a_edgeWeight, a_potential, a_moved, a_gamma, a_via, a_dist, a_link⟩ := u
  obtain ⟨y_maxV, y_maxA, y_maxC, y_maxD, y_n, y_m, y_d, y_status, y_model, y_hasCore, z_kind, z_atomX, z_atomY, z_atomC, z_atomDepth, z_assumed, z_literals, z_length, z_clauseDepth, z_clauseIn, z_assumptionIn, z_bound⟩ := v
  obtain ⟨V, A, C, D, n, m, d, lc, ⟨e1, e2, e3, e4, e5, e6, e7, e8, e9⟩, ⟨g1, g2, g3, g4, g5, g6, g7, g8, g9⟩, ⟨k1, k2, k3, k4, k5, k6, k7⟩, hR⟩ := I
  subst e1 e2 e3 e4 e5 e6 e7 e8 e9 g1 g2 g3 g4 g5 g6 g7 g8 g9 k1 k2 k3 k4 k5 k6 k7
  exact h V A C D n m d lc _ _ _ _ _ _ _ _ _ _ _ _ _ _ _ _ _ _ _ _ _ _ _ _ _ _ _ _ _ _ _ _ _ _ _ _ _ _ _ _ _ _ _ _ _ _ _ _ _ _ _ _ _ _ _ _ _ _ _ hR
end
section
def zz_cl (a b c : Int32) : Int32 := if b ≤ a then (if a ≤ c then a else c) else b
theorem zz_cl_r {a : Int32} {lo hi : Nat} (h : lo ≤ hi) (hh : hi < 2 ^ 31) : ∃ v, lo ≤ v ∧ v ≤ hi ∧ zz_cl a (nI lo) (nI hi) = nI v := by
  unfold zz_cl
  by_cases h1 : nI lo ≤ a
  · rw [if_pos h1]
    by_cases h2 : a ≤ nI hi
    · rw [if_pos h2]
      rw [zi_le, nI_toInt (by omega)] at h1
      rw [zi_le, nI_toInt hh] at h2
      refine ⟨a.toInt.toNat, by omega, by omega, Int32.toInt_inj.mp ?_⟩
      rw [nI_toInt (by omega)]
      omega
    · rw [if_neg h2]; exact ⟨hi, h, Nat.le_refl _, rfl⟩
  · rw [if_neg h1]; exact ⟨lo, Nat.le_refl _, h, rfl⟩
section
variable {f_goalEdge f_goalRest f_atomBits f_decided f_maxVariables f_maxAtoms f_maxClauses f_maxDepth f_atomCount f_clauseCount f_depthNow f_assumedTrue f_assumedFalse f_status f_presentTrue f_coreKnown f_coreClauses f_coreAtoms f_witnessClauses f_witnessAtoms f_learnedCount f_learnedNext f_activeRests f_trueMask f_falseMask f_trailSize f_theoryHead f_level f_conflictAtoms f_conflictRests f_failedAtoms f_failedRests f_activeEdges f_goalOn : Int32} {a_kinds a_lefts a_rights a_bounds a_atomDepths a_literals a_literalCounts a_clausePos a_clauseNeg a_clauseDepths a_values a_learnedPos a_learnedNeg a_learnedRests a_trail a_levelStart a_levelAtoms a_reasonAtoms a_reasonRests a_edgeFrom a_edgeTo a_edgeWeight a_potential a_moved a_gamma a_via a_dist a_link : Nat → Int32}
theorem xw_clamp {post : Int32 → Prop} {a b c : Int32} (K : post (zz_cl a b c)) : wpX_clamp post (f_goalEdge, f_goalRest, f_atomBits, f_decided, f_maxVariables, f_maxAtoms, f_maxClauses, f_maxDepth, f_atomCount, f_clauseCount, f_depthNow, f_assumedTrue, f_assumedFalse, f_status, f_presentTrue, f_coreKnown, f_coreClauses, f_coreAtoms, f_witnessClauses, f_witnessAtoms, f_learnedCount, f_learnedNext, f_activeRests, f_trueMask, f_falseMask, f_trailSize, f_theoryHead, f_level, f_conflictAtoms, f_conflictRests, f_failedAtoms, f_failedRests, f_activeEdges, f_goalOn, a_kinds, a_lefts, a_rights, a_bounds, a_atomDepths, a_literals, a_literalCounts, a_clausePos, a_clauseNeg, a_clauseDepths, a_values, a_learnedPos, a_learnedNeg, a_learnedRests, a_trail, a_levelStart, a_levelAtoms, a_reasonAtoms, a_reasonRests, a_edgeFrom, a_edgeTo, a_edgeWeight, a_potential, a_moved, a_gamma, a_via, a_dist, a_link) a b c := by
  unfold zz_cl at K
  refine br_c (fun h => br_c (fun h2 => ?_) (fun h2 => ?_)) (fun h => ?_)
  · rw [if_pos h, if_pos h2] at K; exact K
  · rw [if_pos h, if_neg h2] at K; exact K
  · rw [if_neg h] at K; exact K
end
section
variable {y_maxV y_maxA y_maxC y_maxD y_n y_m y_d y_status y_model y_hasCore : Int32} {z_kind z_atomX z_atomY z_atomC z_atomDepth z_assumed z_literals z_length z_clauseDepth z_clauseIn z_assumptionIn z_bound : Nat → Int32}
theorem yw_clamp {post : Int32 → Prop} {a b c : Int32} (K : post (zz_cl a b c)) : wpY_clamp post (y_maxV, y_maxA, y_maxC, y_maxD, y_n, y_m, y_d, y_status, y_model, y_hasCore, z_kind, z_atomX, z_atomY, z_atomC, z_atomDepth, z_assumed, z_literals, z_length, z_clauseDepth, z_clauseIn, z_assumptionIn, z_bound) a b c := by
  unfold zz_cl at K
  refine br_c (fun h => br_c (fun h2 => ?_) (fun h2 => ?_)) (fun h => ?_)
  · rw [if_pos h, if_pos h2] at K; exact K
  · rw [if_pos h, if_neg h2] at K; exact K
  · rw [if_neg h] at K; exact K
end
theorem i_vc0 (k0 : Int32) (k1 : Int32) (k2 : Int32) (k3 : Int32) : wpX_init (fun u => wpY_init (fun v => i_Rel 4 u v) k0 k1 k2 k3) k0 k1 k2 k3 := by
  refine xw_clamp (xw_clamp (xw_clamp (xw_clamp (yw_clamp (yw_clamp (yw_clamp (yw_clamp ?_)))))))
  obtain ⟨V, v1, v2, v3⟩ := zz_cl_r (a := k0) (lo := 2) (hi := 8) (by omega) (by omega)
  obtain ⟨A, a1, a2, a3⟩ := zz_cl_r (a := k1) (lo := 2) (hi := 10) (by omega) (by omega)
  obtain ⟨C, c1, c2, c3⟩ := zz_cl_r (a := k2) (lo := 2) (hi := 24) (by omega) (by omega)
  obtain ⟨D, d1, d2, d3⟩ := zz_cl_r (a := k3) (lo := 1) (hi := 6) (by omega) (by omega)
  refine ⟨V, A, C, D, 0, 0, 0, 0, ⟨v3, a3, c3, d3, rfl, rfl, rfl, rfl, rfl⟩, ⟨v3, a3, c3, d3, rfl, rfl, rfl, rfl, rfl⟩, ⟨rfl, rfl, rfl, rfl, rfl, rfl, rfl⟩, ⟨by omega, by omega, by omega, by omega, by omega, by omega, by omega, by omega, by omega⟩, ⟨fun k hk => by omega, fun k hk => by omega, fun j k _ hk => by omega, fun i hi => by omega, fun i j _ hj => by omega, fun i hi => by omega, fun k hk => ?_, fun k hk => ?_, fun k hk => by omega⟩, fun i hi => by omega, Or.inl rfl, Or.inl rfl⟩
  · rw [b_0] at hk; rcases hk with z | z <;> cases z
  · rw [b_0] at hk; cases hk
/-! a new atom -/
theorem pd_atom {V n m d : Nat} {kd lf rt bd ad lt len cp cn cd : Nat → Int32} {aT aF : Int32} {asm ltY : Nat → Int32} {k x y c : Int32} (h : rl_PD V n m d kd lf rt bd ad lt len cp cn cd aT aF asm ltY) (hn : n < 10) (hd : d ≤ 6)
    (hk : (k = 0 ∨ k = 1) ∧ (k = 1 → (∃ a, a < V ∧ x = nI a) ∧ (∃ b, b < V ∧ y = nI b) ∧ x ≠ y ∧ -100 ≤ c.toInt ∧ c.toInt ≤ 100)) :
    rl_PD V (n + 1) m d (upd kd n k) (upd lf n x) (upd rt n y) (upd bd n c) (upd ad n (nI d)) lt len cp cn cd aT aF (upd asm n 0) ltY := by
  obtain ⟨h1, h2, h3, h4, h5, h6, h7, h8, h9⟩ := h
  refine ⟨fun j hj => ?_, fun j hj => ?_, fun i j hij hj => ?_, h4, h5, fun i hi => ?_, fun j hj => ?_, h8, fun j hj => ?_⟩
  · by_cases e : j = n
    · rw [e, pk_us, pk_us, pk_us, pk_us]; exact hk
    · rw [pk_un e, pk_un e, pk_un e, pk_un e]; exact h1 j (by omega)
  · by_cases e : j = n
    · rw [e, pk_us]; exact ⟨d, Nat.le_refl _, rfl⟩
    · rw [pk_un e]; exact h2 j (by omega)
  · by_cases e : j = n
    · by_cases e' : i = n
      · rw [e, e']; exact Nat.le_refl _
      · rw [e, pk_us, pk_un e']
        obtain ⟨q, q1, q2⟩ := h2 i (by omega)
        rw [q2, nI_clamp (by omega), nI_clamp (by omega)]; exact q1
    · rw [pk_un e, pk_un (by omega)]; exact h3 i j hij (by omega)
  · obtain ⟨g1, g2, ⟨c1, c2, c3⟩, g4, g5, g6⟩ := h6 i hi
    refine ⟨g1, g2, ⟨fun p hp => ?_, fun j => ?_, fun j => ?_⟩, g4, g5, fun j hj => ?_⟩
    · obtain ⟨q, q1, q2⟩ := c1 p hp
      exact ⟨q, by omega, q2⟩
    · rw [c2 j]
      refine ⟨fun ⟨q1, q2⟩ => ⟨by omega, q2⟩, fun ⟨q1, p, q2, q3⟩ => ⟨?_, p, q2, q3⟩⟩
      obtain ⟨q, r1, r2⟩ := c1 p q2
      dsimp only at r2 q3
      rcases r2 with r2 | r2
      · rw [r2] at q3
        have := (zi_linj (by omega) (by omega)).1 q3
        omega
      · rw [r2] at q3
        exact ((zi_linj (by omega) (by omega)).2.2 q3.symm).elim
    · rw [c3 j]
      refine ⟨fun ⟨q1, q2⟩ => ⟨by omega, q2⟩, fun ⟨q1, p, q2, q3⟩ => ⟨?_, p, q2, q3⟩⟩
      obtain ⟨q, r1, r2⟩ := c1 p q2
      dsimp only at r2 q3
      rcases r2 with r2 | r2
      · rw [r2] at q3
        exact ((zi_linj (by omega) (by omega)).2.2 q3).elim
      · rw [r2] at q3
        have := (zi_linj (by omega) (by omega)).2.1 q3
        omega
    · have hjn : j < n := by
        rcases hj with z | z
        · exact ((c2 j).mp z).1
        · exact ((c3 j).mp z).1
      rw [pk_un (by omega)]; exact g6 j hj
  · have := h7 j hj; omega
  · by_cases e : j = n
    · rw [e, pk_us]
      have t1 : bt aT n = false := zb_tf fun z => by have := h7 n (Or.inl z); omega
      have t2 : bt aF n = false := zb_tf fun z => by have := h7 n (Or.inr z); omega
      rw [t1, t2]; rfl
    · rw [pk_un e]; exact h9 j (by omega)
theorem lc_atom {n m lc : Nat} {kd lf rt bd cp cn lp ln lr : Nat → Int32} {k x y c : Int32} (h : cd_LC (ds_M n m kd lf rt bd cp cn (fun _ => True)) n m false lc lp ln lr) :
    cd_LC (ds_M (n + 1) m (upd kd n k) (upd lf n x) (upd rt n y) (upd bd n c) cp cn (fun _ => True)) (n + 1) m false lc lp ln lr := by
  intro i hi
  obtain ⟨⟨h1, h2⟩, h3⟩ := h i hi
  refine ⟨⟨fun q hq => by have := h1 q hq; omega, fun τ ⟨s, m1, m2, m3⟩ => h2 τ ⟨s, fun a b w ⟨j, hj, e1, e2⟩ => m1 a b w ⟨j, by omega, ?_, ?_⟩, m2, m3⟩⟩, h3⟩
  · rw [pk_un (by omega)]; exact e1
  · rw [pk_un (by omega), pk_un (by omega), pk_un (by omega)]; exact e2
section
variable {f_goalEdge f_goalRest f_atomBits f_decided f_maxVariables f_maxAtoms f_maxClauses f_maxDepth f_atomCount f_clauseCount f_depthNow f_assumedTrue f_assumedFalse f_status f_presentTrue f_coreKnown f_coreClauses f_coreAtoms f_witnessClauses f_witnessAtoms f_learnedCount f_learnedNext f_activeRests f_trueMask f_falseMask f_trailSize f_theoryHead f_level f_conflictAtoms f_conflictRests f_failedAtoms f_failedRests f_activeEdges f_goalOn : Int32} {a_kinds a_lefts a_rights a_bounds a_atomDepths a_literals a_literalCounts a_clausePos a_clauseNeg a_clauseDepths a_values a_learnedPos a_learnedNeg a_learnedRests a_trail a_levelStart a_levelAtoms a_reasonAtoms a_reasonRests a_edgeFrom a_edgeTo a_edgeWeight a_potential a_moved a_gamma a_via a_dist a_link : Nat → Int32}
variable {n d : Nat}
theorem xw_enter {post : Int32 → SX → Prop} {p0 p1 p2 p3 : Int32} (hn : n < 10)
    (K : post (nI n) (f_goalEdge, f_goalRest, f_atomBits, f_decided, f_maxVariables, f_maxAtoms, f_maxClauses, f_maxDepth, nI (n + 1), f_clauseCount, nI d, f_assumedTrue, f_assumedFalse, 0, 0, 0, 0, 0, f_witnessClauses, f_witnessAtoms, f_learnedCount, f_learnedNext, f_activeRests, f_trueMask, f_falseMask, f_trailSize, f_theoryHead, f_level, f_conflictAtoms, f_conflictRests, f_failedAtoms, f_failedRests, f_activeEdges, f_goalOn, upd a_kinds n p0, upd a_lefts n p1, upd a_rights n p2, upd a_bounds n p3, upd a_atomDepths n (nI d), a_literals, a_literalCounts, a_clausePos, a_clauseNeg, a_clauseDepths, a_values, a_learnedPos, a_learnedNeg, a_learnedRests, a_trail, a_levelStart, a_levelAtoms, a_reasonAtoms, a_reasonRests, a_edgeFrom, a_edgeTo, a_edgeWeight, a_potential, a_moved, a_gamma, a_via, a_dist, a_link)) :
    wpX_enterAtom post (f_goalEdge, f_goalRest, f_atomBits, f_decided, f_maxVariables, f_maxAtoms, f_maxClauses, f_maxDepth, nI n, f_clauseCount, nI d, f_assumedTrue, f_assumedFalse, f_status, f_presentTrue, f_coreKnown, f_coreClauses, f_coreAtoms, f_witnessClauses, f_witnessAtoms, f_learnedCount, f_learnedNext, f_activeRests, f_trueMask, f_falseMask, f_trailSize, f_theoryHead, f_level, f_conflictAtoms, f_conflictRests, f_failedAtoms, f_failedRests, f_activeEdges, f_goalOn, a_kinds, a_lefts, a_rights, a_bounds, a_atomDepths, a_literals, a_literalCounts, a_clausePos, a_clauseNeg, a_clauseDepths, a_values, a_learnedPos, a_learnedNeg, a_learnedRests, a_trail, a_levelStart, a_levelAtoms, a_reasonAtoms, a_reasonRests, a_edgeFrom, a_edgeTo, a_edgeWeight, a_potential, a_moved, a_gamma, a_via, a_dist, a_link) p0 p1 p2 p3 := by
  have c : (nI n).toNatClampNeg = n := nI_clamp (by omega)
  have i : vp_in (nI n) 10 := pk_in n 10 hn
  refine And.intro i (nm_e (And.intro i (nm_e (And.intro i (nm_e (And.intro i (nm_e (And.intro i (nm_e (nm_r (nI_1 n) ?_))))))))))
  rw [c]
  exact K
end
section
variable {y_maxV y_maxA y_maxC y_maxD y_n y_m y_d y_status y_model y_hasCore : Int32} {z_kind z_atomX z_atomY z_atomC z_atomDepth z_assumed z_literals z_length z_clauseDepth z_clauseIn z_assumptionIn z_bound : Nat → Int32}
variable {n d : Nat}
theorem yw_enter {post : Int32 → SY → Prop} {p0 p1 p2 p3 : Int32} (hn : n < 10)
    (K : post (nI n) (y_maxV, y_maxA, y_maxC, y_maxD, nI (n + 1), y_m, nI d, 0, 0, 0, upd z_kind n p0, upd z_atomX n p1, upd z_atomY n p2, upd z_atomC n p3, upd z_atomDepth n (nI d), upd z_assumed n 0, z_literals, z_length, z_clauseDepth, z_clauseIn, z_assumptionIn, z_bound)) :
    wpY_enterAtom post (y_maxV, y_maxA, y_maxC, y_maxD, nI n, y_m, nI d, y_status, y_model, y_hasCore, z_kind, z_atomX, z_atomY, z_atomC, z_atomDepth, z_assumed, z_literals, z_length, z_clauseDepth, z_clauseIn, z_assumptionIn, z_bound) p0 p1 p2 p3 := by
  have c : (nI n).toNatClampNeg = n := nI_clamp (by omega)
  have i : vp_in (nI n) 10 := pk_in n 10 hn
  refine And.intro i (nm_e (And.intro i (nm_e (And.intro i (nm_e (And.intro i (nm_e (And.intro i (nm_e (And.intro i (nm_e (nm_r (nI_1 n) ?_))))))))))))
  rw [c]
  show post (nI (n + 1) - 1) _
  rw [nI_pred]
  exact K
end
theorem i_vc_plainAtom {k : Nat} {u : SX} {v : SY} (I : i_Rel k u v) (hk : k + 5 ≤ 2564) : wpX_plainAtom (fun r u' => wpY_plainAtom (fun r' v' => r' = r ∧ i_Rel (k + 5) u' v') v) u := by
  refine zz_el (P := fun u v => wpX_plainAtom (fun r u' => wpY_plainAtom (fun r' v' => r' = r ∧ i_Rel (k + 5) u' v') v) u) ?_ I
  intro V A C D n m d lc f_goalEdge f_goalRest f_atomBits f_decided f_assumedTrue f_assumedFalse f_status f_presentTrue f_coreKnown f_coreClauses f_coreAtoms f_witnessClauses f_witnessAtoms f_learnedNext f_activeRests f_trueMask f_falseMask f_trailSize f_theoryHead f_level f_conflictAtoms f_conflictRests f_failedAtoms f_failedRests f_activeEdges a_kinds a_lefts a_rights a_bounds a_atomDepths a_literals a_literalCounts a_clausePos a_clauseNeg a_clauseDepths a_values a_learnedPos a_learnedNeg a_learnedRests a_trail a_levelStart a_levelAtoms a_reasonAtoms a_reasonRests a_edgeFrom a_edgeTo a_edgeWeight a_potential a_moved a_gamma a_via a_dist a_link y_model z_assumed z_literals z_clauseIn z_assumptionIn z_bound hR
  obtain ⟨⟨b1, b2, b3, b4, b5, b6, b7, b8, b9⟩, hPD, hLC, hSS⟩ := hR
  refine pk_lt n A (fun h => xw_enter (by omega) (pk_eq n A (fun e => by omega) (fun e => yw_enter (by omega) ⟨rfl, zz_in ⟨⟨b1, b2, by omega, b4, b5, b6, b7, b8, b9⟩, pd_atom hPD (by omega) (by omega) ⟨Or.inl rfl, fun z => ?_⟩, lc_atom hLC, Or.inl rfl, Or.inl rfl⟩⟩))) (fun h => pk_eq n A (fun e => ⟨rfl, zz_in ⟨⟨b1, b2, b3, b4, b5, b6, b7, b8, b9⟩, hPD, hLC, hSS⟩⟩) (fun e => by omega))
  exact absurd z (by decide)
end
section
section
variable {f_goalEdge f_goalRest f_atomBits f_decided f_maxVariables f_maxAtoms f_maxClauses f_maxDepth f_atomCount f_clauseCount f_depthNow f_assumedTrue f_assumedFalse f_status f_presentTrue f_coreKnown f_coreClauses f_coreAtoms f_witnessClauses f_witnessAtoms f_learnedCount f_learnedNext f_activeRests f_trueMask f_falseMask f_trailSize f_theoryHead f_level f_conflictAtoms f_conflictRests f_failedAtoms f_failedRests f_activeEdges f_goalOn : Int32} {a_kinds a_lefts a_rights a_bounds a_atomDepths a_literals a_literalCounts a_clausePos a_clauseNeg a_clauseDepths a_values a_learnedPos a_learnedNeg a_learnedRests a_trail a_levelStart a_levelAtoms a_reasonAtoms a_reasonRests a_edgeFrom a_edgeTo a_edgeWeight a_potential a_moved a_gamma a_via a_dist a_link : Nat → Int32}
variable {V n m : Nat}
theorem xw_varF {post : Int32 → Prop} {x : Int32} (hV : V < 2 ^ 31) (h : ¬ ∃ j, j < V ∧ x = nI j) (K : post 0) : wpX_isVariable post (f_goalEdge, f_goalRest, f_atomBits, f_decided, nI V, f_maxAtoms, f_maxClauses, f_maxDepth, f_atomCount, f_clauseCount, f_depthNow, f_assumedTrue, f_assumedFalse, f_status, f_presentTrue, f_coreKnown, f_coreClauses, f_coreAtoms, f_witnessClauses, f_witnessAtoms, f_learnedCount, f_learnedNext, f_activeRests, f_trueMask, f_falseMask, f_trailSize, f_theoryHead, f_level, f_conflictAtoms, f_conflictRests, f_failedAtoms, f_failedRests, f_activeEdges, f_goalOn, a_kinds, a_lefts, a_rights, a_bounds, a_atomDepths, a_literals, a_literalCounts, a_clausePos, a_clauseNeg, a_clauseDepths, a_values, a_learnedPos, a_learnedNeg, a_learnedRests, a_trail, a_levelStart, a_levelAtoms, a_reasonAtoms, a_reasonRests, a_edgeFrom, a_edgeTo, a_edgeWeight, a_potential, a_moved, a_gamma, a_via, a_dist, a_link) x := by
  refine br_c (fun _ => K) (fun h1 => br_c (fun _ => K) (fun h2 => ?_))
  rcases pk_ix x hV with z | z | z
  · exact (h1 z).elim
  · exact (h2 z).elim
  · exact (h z).elim
theorem xw_varT {post : Int32 → Prop} {j : Nat} (hV : V < 2 ^ 31) (h : j < V) (K : post 1) : wpX_isVariable post (f_goalEdge, f_goalRest, f_atomBits, f_decided, nI V, f_maxAtoms, f_maxClauses, f_maxDepth, f_atomCount, f_clauseCount, f_depthNow, f_assumedTrue, f_assumedFalse, f_status, f_presentTrue, f_coreKnown, f_coreClauses, f_coreAtoms, f_witnessClauses, f_witnessAtoms, f_learnedCount, f_learnedNext, f_activeRests, f_trueMask, f_falseMask, f_trailSize, f_theoryHead, f_level, f_conflictAtoms, f_conflictRests, f_failedAtoms, f_failedRests, f_activeEdges, f_goalOn, a_kinds, a_lefts, a_rights, a_bounds, a_atomDepths, a_literals, a_literalCounts, a_clausePos, a_clauseNeg, a_clauseDepths, a_values, a_learnedPos, a_learnedNeg, a_learnedRests, a_trail, a_levelStart, a_levelAtoms, a_reasonAtoms, a_reasonRests, a_edgeFrom, a_edgeTo, a_edgeWeight, a_potential, a_moved, a_gamma, a_via, a_dist, a_link) (nI j) :=
  br_f (nI_pos (by omega)) (br_f (nI_ge h hV) K)
theorem xw_atomF {post : Int32 → Prop} {x : Int32} (hn : n < 2 ^ 31) (h : ¬ ∃ j, j < n ∧ x = nI j) (K : post 0) : wpX_isAtom post (f_goalEdge, f_goalRest, f_atomBits, f_decided, f_maxVariables, f_maxAtoms, f_maxClauses, f_maxDepth, nI n, f_clauseCount, f_depthNow, f_assumedTrue, f_assumedFalse, f_status, f_presentTrue, f_coreKnown, f_coreClauses, f_coreAtoms, f_witnessClauses, f_witnessAtoms, f_learnedCount, f_learnedNext, f_activeRests, f_trueMask, f_falseMask, f_trailSize, f_theoryHead, f_level, f_conflictAtoms, f_conflictRests, f_failedAtoms, f_failedRests, f_activeEdges, f_goalOn, a_kinds, a_lefts, a_rights, a_bounds, a_atomDepths, a_literals, a_literalCounts, a_clausePos, a_clauseNeg, a_clauseDepths, a_values, a_learnedPos, a_learnedNeg, a_learnedRests, a_trail, a_levelStart, a_levelAtoms, a_reasonAtoms, a_reasonRests, a_edgeFrom, a_edgeTo, a_edgeWeight, a_potential, a_moved, a_gamma, a_via, a_dist, a_link) x := by
  refine br_c (fun _ => K) (fun h1 => br_c (fun _ => K) (fun h2 => ?_))
  rcases pk_ix x hn with z | z | z
  · exact (h1 z).elim
  · exact (h2 z).elim
  · exact (h z).elim
theorem xw_atomT {post : Int32 → Prop} {j : Nat} (hn : n < 2 ^ 31) (h : j < n) (K : post 1) : wpX_isAtom post (f_goalEdge, f_goalRest, f_atomBits, f_decided, f_maxVariables, f_maxAtoms, f_maxClauses, f_maxDepth, nI n, f_clauseCount, f_depthNow, f_assumedTrue, f_assumedFalse, f_status, f_presentTrue, f_coreKnown, f_coreClauses, f_coreAtoms, f_witnessClauses, f_witnessAtoms, f_learnedCount, f_learnedNext, f_activeRests, f_trueMask, f_falseMask, f_trailSize, f_theoryHead, f_level, f_conflictAtoms, f_conflictRests, f_failedAtoms, f_failedRests, f_activeEdges, f_goalOn, a_kinds, a_lefts, a_rights, a_bounds, a_atomDepths, a_literals, a_literalCounts, a_clausePos, a_clauseNeg, a_clauseDepths, a_values, a_learnedPos, a_learnedNeg, a_learnedRests, a_trail, a_levelStart, a_levelAtoms, a_reasonAtoms, a_reasonRests, a_edgeFrom, a_edgeTo, a_edgeWeight, a_potential, a_moved, a_gamma, a_via, a_dist, a_link) (nI j) :=
  br_f (nI_pos (by omega)) (br_f (nI_ge h hn) K)
theorem xw_clsF {post : Int32 → Prop} {x : Int32} (hm : m < 2 ^ 31) (h : ¬ ∃ j, j < m ∧ x = nI j) (K : post 0) : wpX_isClause post (f_goalEdge, f_goalRest, f_atomBits, f_decided, f_maxVariables, f_maxAtoms, f_maxClauses, f_maxDepth, f_atomCount, nI m, f_depthNow, f_assumedTrue, f_assumedFalse, f_status, f_presentTrue, f_coreKnown, f_coreClauses, f_coreAtoms, f_witnessClauses, f_witnessAtoms, f_learnedCount, f_learnedNext, f_activeRests, f_trueMask, f_falseMask, f_trailSize, f_theoryHead, f_level, f_conflictAtoms, f_conflictRests, f_failedAtoms, f_failedRests, f_activeEdges, f_goalOn, a_kinds, a_lefts, a_rights, a_bounds, a_atomDepths, a_literals, a_literalCounts, a_clausePos, a_clauseNeg, a_clauseDepths, a_values, a_learnedPos, a_learnedNeg, a_learnedRests, a_trail, a_levelStart, a_levelAtoms, a_reasonAtoms, a_reasonRests, a_edgeFrom, a_edgeTo, a_edgeWeight, a_potential, a_moved, a_gamma, a_via, a_dist, a_link) x := by
  refine br_c (fun _ => K) (fun h1 => br_c (fun _ => K) (fun h2 => ?_))
  rcases pk_ix x hm with z | z | z
  · exact (h1 z).elim
  · exact (h2 z).elim
  · exact (h z).elim
theorem xw_clsT {post : Int32 → Prop} {j : Nat} (hm : m < 2 ^ 31) (h : j < m) (K : post 1) : wpX_isClause post (f_goalEdge, f_goalRest, f_atomBits, f_decided, f_maxVariables, f_maxAtoms, f_maxClauses, f_maxDepth, f_atomCount, nI m, f_depthNow, f_assumedTrue, f_assumedFalse, f_status, f_presentTrue, f_coreKnown, f_coreClauses, f_coreAtoms, f_witnessClauses, f_witnessAtoms, f_learnedCount, f_learnedNext, f_activeRests, f_trueMask, f_falseMask, f_trailSize, f_theoryHead, f_level, f_conflictAtoms, f_conflictRests, f_failedAtoms, f_failedRests, f_activeEdges, f_goalOn, a_kinds, a_lefts, a_rights, a_bounds, a_atomDepths, a_literals, a_literalCounts, a_clausePos, a_clauseNeg, a_clauseDepths, a_values, a_learnedPos, a_learnedNeg, a_learnedRests, a_trail, a_levelStart, a_levelAtoms, a_reasonAtoms, a_reasonRests, a_edgeFrom, a_edgeTo, a_edgeWeight, a_potential, a_moved, a_gamma, a_via, a_dist, a_link) (nI j) :=
  br_f (nI_pos (by omega)) (br_f (nI_ge h hm) K)
end
section
variable {y_maxV y_maxA y_maxC y_maxD y_n y_m y_d y_status y_model y_hasCore : Int32} {z_kind z_atomX z_atomY z_atomC z_atomDepth z_assumed z_literals z_length z_clauseDepth z_clauseIn z_assumptionIn z_bound : Nat → Int32}
variable {V n m : Nat}
theorem yw_varF {post : Int32 → Prop} {x : Int32} (hV : V < 2 ^ 31) (h : ¬ ∃ j, j < V ∧ x = nI j) (K : post 0) : wpY_isVariable post (nI V, y_maxA, y_maxC, y_maxD, y_n, y_m, y_d, y_status, y_model, y_hasCore, z_kind, z_atomX, z_atomY, z_atomC, z_atomDepth, z_assumed, z_literals, z_length, z_clauseDepth, z_clauseIn, z_assumptionIn, z_bound) x := by
  refine br_c (fun _ => K) (fun h1 => br_c (fun _ => K) (fun h2 => ?_))
  rcases pk_ix x hV with z | z | z
  · exact (h1 z).elim
  · exact (h2 z).elim
  · exact (h z).elim
theorem yw_varT {post : Int32 → Prop} {j : Nat} (hV : V < 2 ^ 31) (h : j < V) (K : post 1) : wpY_isVariable post (nI V, y_maxA, y_maxC, y_maxD, y_n, y_m, y_d, y_status, y_model, y_hasCore, z_kind, z_atomX, z_atomY, z_atomC, z_atomDepth, z_assumed, z_literals, z_length, z_clauseDepth, z_clauseIn, z_assumptionIn, z_bound) (nI j) :=
  br_f (nI_pos (by omega)) (br_f (nI_ge h hV) K)
theorem yw_atomF {post : Int32 → Prop} {x : Int32} (hn : n < 2 ^ 31) (h : ¬ ∃ j, j < n ∧ x = nI j) (K : post 0) : wpY_isAtom post (y_maxV, y_maxA, y_maxC, y_maxD, nI n, y_m, y_d, y_status, y_model, y_hasCore, z_kind, z_atomX, z_atomY, z_atomC, z_atomDepth, z_assumed, z_literals, z_length, z_clauseDepth, z_clauseIn, z_assumptionIn, z_bound) x := by
  refine br_c (fun _ => K) (fun h1 => br_c (fun _ => K) (fun h2 => ?_))
  rcases pk_ix x hn with z | z | z
  · exact (h1 z).elim
  · exact (h2 z).elim
  · exact (h z).elim
theorem yw_atomT {post : Int32 → Prop} {j : Nat} (hn : n < 2 ^ 31) (h : j < n) (K : post 1) : wpY_isAtom post (y_maxV, y_maxA, y_maxC, y_maxD, nI n, y_m, y_d, y_status, y_model, y_hasCore, z_kind, z_atomX, z_atomY, z_atomC, z_atomDepth, z_assumed, z_literals, z_length, z_clauseDepth, z_clauseIn, z_assumptionIn, z_bound) (nI j) :=
  br_f (nI_pos (by omega)) (br_f (nI_ge h hn) K)
theorem yw_clsF {post : Int32 → Prop} {x : Int32} (hm : m < 2 ^ 31) (h : ¬ ∃ j, j < m ∧ x = nI j) (K : post 0) : wpY_isClause post (y_maxV, y_maxA, y_maxC, y_maxD, y_n, nI m, y_d, y_status, y_model, y_hasCore, z_kind, z_atomX, z_atomY, z_atomC, z_atomDepth, z_assumed, z_literals, z_length, z_clauseDepth, z_clauseIn, z_assumptionIn, z_bound) x := by
  refine br_c (fun _ => K) (fun h1 => br_c (fun _ => K) (fun h2 => ?_))
  rcases pk_ix x hm with z | z | z
  · exact (h1 z).elim
  · exact (h2 z).elim
  · exact (h z).elim
theorem yw_clsT {post : Int32 → Prop} {j : Nat} (hm : m < 2 ^ 31) (h : j < m) (K : post 1) : wpY_isClause post (y_maxV, y_maxA, y_maxC, y_maxD, y_n, nI m, y_d, y_status, y_model, y_hasCore, z_kind, z_atomX, z_atomY, z_atomC, z_atomDepth, z_assumed, z_literals, z_length, z_clauseDepth, z_clauseIn, z_assumptionIn, z_bound) (nI j) :=
  br_f (nI_pos (by omega)) (br_f (nI_ge h hm) K)
end
theorem i_vc_differenceAtom {k : Nat} {u : SX} {v : SY} (I : i_Rel k u v) (hk : k + 5 ≤ 2564) (v1 : Int32) (v2 : Int32) (v3 : Int32) : wpX_differenceAtom (fun r u' => wpY_differenceAtom (fun r' v' => r' = r ∧ i_Rel (k + 5) u' v') v v1 v2 v3) u v1 v2 v3 := by
  refine zz_el (P := fun u v => wpX_differenceAtom (fun r u' => wpY_differenceAtom (fun r' v' => r' = r ∧ i_Rel (k + 5) u' v') v v1 v2 v3) u v1 v2 v3) ?_ I
  intro V A C D n m d lc f_goalEdge f_goalRest f_atomBits f_decided f_assumedTrue f_assumedFalse f_status f_presentTrue f_coreKnown f_coreClauses f_coreAtoms f_witnessClauses f_witnessAtoms f_learnedNext f_activeRests f_trueMask f_falseMask f_trailSize f_theoryHead f_level f_conflictAtoms f_conflictRests f_failedAtoms f_failedRests f_activeEdges a_kinds a_lefts a_rights a_bounds a_atomDepths a_literals a_literalCounts a_clausePos a_clauseNeg a_clauseDepths a_values a_learnedPos a_learnedNeg a_learnedRests a_trail a_levelStart a_levelAtoms a_reasonAtoms a_reasonRests a_edgeFrom a_edgeTo a_edgeWeight a_potential a_moved a_gamma a_via a_dist a_link y_model z_assumed z_literals z_clauseIn z_assumptionIn z_bound hR
  have hR' := hR
  obtain ⟨⟨b1, b2, b3, b4, b5, b6, b7, b8, b9⟩, hPD, hLC, hSS⟩ := hR
  unfold wpX_differenceAtom wpY_differenceAtom
  rcases Classical.em (∃ j, j < V ∧ v1 = nI j) with ⟨x, hx, rfl⟩ | hno
  · refine xw_varT (by omega) hx ?_
    refine br_f (by decide) ?_
    rcases Classical.em (∃ j, j < V ∧ v2 = nI j) with ⟨y, hy, rfl⟩ | hno
    · refine xw_varT (by omega) hy ?_
      refine br_f (by decide) ?_
      refine br_c (fun h1 => ?_) (fun h1 => ?_)
      · refine yw_varT (by omega) hx ?_
        refine br_f (by decide) ?_
        refine yw_varT (by omega) hy ?_
        refine br_f (by decide) ?_
        exact br_t h1 ⟨rfl, zz_in hR'⟩
      refine br_c (fun h2 => ?_) (fun h2 => ?_)
      · refine yw_varT (by omega) hx ?_
        refine br_f (by decide) ?_
        refine yw_varT (by omega) hy ?_
        refine br_f (by decide) ?_
        exact br_f h1 (br_t h2 ⟨rfl, zz_in hR'⟩)
      refine br_c (fun h3 => ?_) (fun h3 => ?_)
      · refine pk_lt n A (fun h4 => ?_) (fun h4 => ?_)
        · refine xw_enter (by omega) ?_
          refine yw_varT (by omega) hx ?_
          refine br_f (by decide) ?_
          refine yw_varT (by omega) hy ?_
          refine br_f (by decide) ?_
          refine br_f h1 (br_f h2 (br_t h3 ?_))
          refine pk_eq n A (fun e => by omega) (fun e => ?_)
          refine yw_enter (by omega) ?_
          refine ⟨rfl, zz_in ⟨⟨b1, b2, by omega, b4, b5, b6, b7, b8, b9⟩, pd_atom hPD (by omega) (by omega) ⟨Or.inr rfl, fun _ => ⟨⟨x, hx, rfl⟩, ⟨y, hy, rfl⟩, h1, ?_, ?_⟩⟩, lc_atom hLC, Or.inl rfl, Or.inl rfl⟩⟩
          · rw [zi_lt] at h2
            have : (-100 : Int32).toInt = -100 := by decide
            omega
          · rw [zi_le] at h3
            have : (100 : Int32).toInt = 100 := by decide
            omega
        · refine yw_varT (by omega) hx ?_
          refine br_f (by decide) ?_
          refine yw_varT (by omega) hy ?_
          refine br_f (by decide) ?_
          refine br_f h1 (br_f h2 (br_t h3 ?_))
          exact pk_eq n A (fun e => ⟨rfl, zz_in hR'⟩) (fun e => by omega)
      · refine yw_varT (by omega) hx ?_
        refine br_f (by decide) ?_
        refine yw_varT (by omega) hy ?_
        refine br_f (by decide) ?_
        exact br_f h1 (br_f h2 (br_f h3 ⟨rfl, zz_in hR'⟩))
    · refine xw_varF (by omega) hno ?_
      refine br_t rfl ?_
      refine yw_varT (by omega) hx ?_
      refine br_f (by decide) ?_
      refine yw_varF (by omega) hno ?_
      exact br_t rfl ⟨rfl, zz_in hR'⟩
  · refine xw_varF (by omega) hno ?_
    refine br_t rfl ?_
    refine yw_varF (by omega) hno ?_
    exact br_t rfl ⟨rfl, zz_in hR'⟩
theorem i_vc_push {k : Nat} {u : SX} {v : SY} (I : i_Rel k u v) (hk : k + 5 ≤ 2564) : wpX_push (fun r u' => wpY_push (fun r' v' => r' = r ∧ i_Rel (k + 5) u' v') v) u := by
  refine zz_el (P := fun u v => wpX_push (fun r u' => wpY_push (fun r' v' => r' = r ∧ i_Rel (k + 5) u' v') v) u) ?_ I
  intro V A C D n m d lc f_goalEdge f_goalRest f_atomBits f_decided f_assumedTrue f_assumedFalse f_status f_presentTrue f_coreKnown f_coreClauses f_coreAtoms f_witnessClauses f_witnessAtoms f_learnedNext f_activeRests f_trueMask f_falseMask f_trailSize f_theoryHead f_level f_conflictAtoms f_conflictRests f_failedAtoms f_failedRests f_activeEdges a_kinds a_lefts a_rights a_bounds a_atomDepths a_literals a_literalCounts a_clausePos a_clauseNeg a_clauseDepths a_values a_learnedPos a_learnedNeg a_learnedRests a_trail a_levelStart a_levelAtoms a_reasonAtoms a_reasonRests a_edgeFrom a_edgeTo a_edgeWeight a_potential a_moved a_gamma a_via a_dist a_link y_model z_assumed z_literals z_clauseIn z_assumptionIn z_bound hR
  have hR' := hR
  obtain ⟨⟨b1, b2, b3, b4, b5, b6, b7, b8, b9⟩, hPD, hLC, hSS⟩ := hR
  refine pk_lt d D (fun h => nm_r (nI_1 d) (pk_eq d D (fun e => by omega) (fun e => nm_r (nI_1 d) ⟨rfl, zz_in ⟨⟨b1, b2, b3, b4, b5, b6, by omega, b8, b9⟩, ?_, hLC, hSS⟩⟩))) (fun h => pk_eq d D (fun e => ⟨rfl, zz_in hR'⟩) (fun e => by omega))
  obtain ⟨h1, h2, h3, h4, h5, h6, h7, h8, h9⟩ := hPD
  refine ⟨h1, fun j hj => ?_, h3, fun j hj => ?_, h5, h6, h7, h8, h9⟩
  · obtain ⟨q, q1, q2⟩ := h2 j hj
    exact ⟨q, by omega, q2⟩
  · obtain ⟨q, q1, q2⟩ := h4 j hj
    exact ⟨q, by omega, q2⟩
theorem i_vc_status {k : Nat} {u : SX} {v : SY} (I : i_Rel k u v) (hk : k + 5 ≤ 2564) : wpX_status (fun r => wpY_status (fun r' => r' = r ∧ i_Rel (k + 5) u v) v) u := by
  refine zz_el (P := fun u v => wpX_status (fun r => wpY_status (fun r' => r' = r ∧ i_Rel (k + 5) u v) v) u) ?_ I
  intro V A C D n m d lc f_goalEdge f_goalRest f_atomBits f_decided f_assumedTrue f_assumedFalse f_status f_presentTrue f_coreKnown f_coreClauses f_coreAtoms f_witnessClauses f_witnessAtoms f_learnedNext f_activeRests f_trueMask f_falseMask f_trailSize f_theoryHead f_level f_conflictAtoms f_conflictRests f_failedAtoms f_failedRests f_activeEdges a_kinds a_lefts a_rights a_bounds a_atomDepths a_literals a_literalCounts a_clausePos a_clauseNeg a_clauseDepths a_values a_learnedPos a_learnedNeg a_learnedRests a_trail a_levelStart a_levelAtoms a_reasonAtoms a_reasonRests a_edgeFrom a_edgeTo a_edgeWeight a_potential a_moved a_gamma a_via a_dist a_link y_model z_assumed z_literals z_clauseIn z_assumptionIn z_bound hR
  exact ⟨rfl, zz_in hR⟩
end
section
def zz_pc (f : Nat → Bool) : Nat → Nat
  | 0 => 0
  | i + 1 => zz_pc f i + (if f i = true then 1 else 0)
theorem zz_pc_le (f : Nat → Bool) : ∀ n, zz_pc f n ≤ n
  | 0 => Nat.le_refl _
  | n + 1 => by
    have := zz_pc_le f n
    simp only [zz_pc]
    by_cases e : f n = true
    · rw [if_pos e]; omega
    · rw [if_neg e]; omega
theorem zz_pc_hi {f : Nat → Bool} {n : Nat} (h : ∀ k, n ≤ k → f k = false) : ∀ N, n ≤ N → zz_pc f N = zz_pc f n
  | 0, hN => by
    have : n = 0 := by omega
    rw [this]
  | N + 1, hN => by
    rcases Nat.lt_or_ge N n with q | q
    · have : n = N + 1 := by omega
      rw [this]
    · simp only [zz_pc]
      rw [zz_pc_hi h N q, h N q]
      simp
theorem zz_pc_cg {f g : Nat → Bool} : ∀ {n : Nat}, (∀ k, k < n → f k = g k) → zz_pc f n = zz_pc g n
  | 0, _ => rfl
  | n + 1, h => by
    simp only [zz_pc]
    rw [zz_pc_cg (fun k hk => h k (by omega)), h n (by omega)]
def zz_ok (n : Nat) (x : Int32) : Prop := ∃ k, k < n ∧ (x = nI (k + 1) ∨ x = -(nI (k + 1)))
theorem zz_nt {w : Nat} (h : w < 2 ^ 31) : (-nI w).toInt = -(w : Int) := by
  rw [zi_neg (by rw [nI_toInt h]; omega), nI_toInt h]
theorem zz_lit {n : Nat} (hn : n ≤ 10) (x : Int32) : (x < -(nI n) ∨ nI n < x) ∨ x = 0 ∨ zz_ok n x := by
  rw [zi_lt, zi_lt, zz_nt (by omega), nI_toInt (by omega)]
  rcases Int.lt_or_le x.toInt (-(n : Int)) with q | q
  · exact Or.inl (Or.inl q)
  · rcases Int.lt_or_le (n : Int) x.toInt with w | w
    · exact Or.inl (Or.inr w)
    · refine Or.inr ?_
      rcases Int.lt_trichotomy x.toInt 0 with z | z | z
      · refine Or.inr ⟨(-x.toInt - 1).toNat, by omega, Or.inr (Int32.toInt_inj.mp ?_)⟩
        rw [zz_nt (by omega)]; omega
      · exact Or.inl (Int32.toInt_inj.mp (by rw [z, zi_0]))
      · refine Or.inr ⟨(x.toInt - 1).toNat, by omega, Or.inl (Int32.toInt_inj.mp ?_)⟩
        rw [nI_toInt (by omega)]; omega
theorem zz_lit_ok {n : Nat} (hn : n ≤ 10) {x : Int32} (h : zz_ok n x) : ¬ x < -(nI n) ∧ ¬ nI n < x ∧ ¬ x = 0 := by
  obtain ⟨k, hk, e | e⟩ := h
  · rw [zi_lt, zi_lt, e, zz_nt (by omega), nI_toInt (by omega), nI_toInt (by omega)]
    refine ⟨by omega, by omega, fun z => ?_⟩
    have := congrArg Int32.toInt z
    rw [nI_toInt (by omega), zi_0] at this
    omega
  · rw [zi_lt, zi_lt, e, zz_nt (by omega), zz_nt (by omega), nI_toInt (by omega)]
    refine ⟨by omega, by omega, fun z => ?_⟩
    have := congrArg Int32.toInt z
    rw [zz_nt (by omega), zi_0] at this
    omega
theorem zz_lit_0 {n : Nat} (hn : n ≤ 10) : ¬ (0 : Int32) < -(nI n) ∧ ¬ nI n < 0 := by
  rw [zi_lt, zi_lt, zz_nt (by omega), nI_toInt (by omega), zi_0]
  omega
theorem zz_lit_bad {n : Nat} (hn : n ≤ 10) {x : Int32} (h : x < -(nI n) ∨ nI n < x) : ¬ x = 0 ∧ ¬ zz_ok n x := by
  constructor
  · intro z
    rw [z] at h
    rcases h with q | q
    · exact (zz_lit_0 hn).1 q
    · exact (zz_lit_0 hn).2 q
  · intro z
    rcases h with q | q
    · exact (zz_lit_ok hn z).1 q
    · exact (zz_lit_ok hn z).2.1 q
section
variable {f_goalEdge f_goalRest f_atomBits f_decided f_maxVariables f_maxAtoms f_maxClauses f_maxDepth f_atomCount f_clauseCount f_depthNow f_assumedTrue f_assumedFalse f_status f_presentTrue f_coreKnown f_coreClauses f_coreAtoms f_witnessClauses f_witnessAtoms f_learnedCount f_learnedNext f_activeRests f_trueMask f_falseMask f_trailSize f_theoryHead f_level f_conflictAtoms f_conflictRests f_failedAtoms f_failedRests f_activeEdges f_goalOn : Int32} {a_kinds a_lefts a_rights a_bounds a_atomDepths a_literals a_literalCounts a_clausePos a_clauseNeg a_clauseDepths a_values a_learnedPos a_learnedNeg a_learnedRests a_trail a_levelStart a_levelAtoms a_reasonAtoms a_reasonRests a_edgeFrom a_edgeTo a_edgeWeight a_potential a_moved a_gamma a_via a_dist a_link : Nat → Int32}
variable {n : Nat}
theorem xw_bc {post : Int32 → Prop} {x : Int32} (K : post (nI (zz_pc (fun i => bt x i) 32))) : wpX_bitCount post (f_goalEdge, f_goalRest, f_atomBits, f_decided, f_maxVariables, f_maxAtoms, f_maxClauses, f_maxDepth, f_atomCount, f_clauseCount, f_depthNow, f_assumedTrue, f_assumedFalse, f_status, f_presentTrue, f_coreKnown, f_coreClauses, f_coreAtoms, f_witnessClauses, f_witnessAtoms, f_learnedCount, f_learnedNext, f_activeRests, f_trueMask, f_falseMask, f_trailSize, f_theoryHead, f_level, f_conflictAtoms, f_conflictRests, f_failedAtoms, f_failedRests, f_activeEdges, f_goalOn, a_kinds, a_lefts, a_rights, a_bounds, a_atomDepths, a_literals, a_literalCounts, a_clausePos, a_clauseNeg, a_clauseDepths, a_values, a_learnedPos, a_learnedNeg, a_learnedRests, a_trail, a_levelStart, a_levelAtoms, a_reasonAtoms, a_reasonRests, a_edgeFrom, a_edgeTo, a_edgeWeight, a_potential, a_moved, a_gamma, a_via, a_dist, a_link) x := by
  have key : ∀ f i, i ≤ 32 → 32 < f + i → wX_bitCount_4 post x f_goalEdge f_goalRest f_atomBits f_decided f_maxVariables f_maxAtoms f_maxClauses f_maxDepth f_atomCount f_clauseCount f_depthNow f_assumedTrue f_assumedFalse f_status f_presentTrue f_coreKnown f_coreClauses f_coreAtoms f_witnessClauses f_witnessAtoms f_learnedCount f_learnedNext f_activeRests f_trueMask f_falseMask f_trailSize f_theoryHead f_level f_conflictAtoms f_conflictRests f_failedAtoms f_failedRests f_activeEdges f_goalOn a_kinds a_lefts a_rights a_bounds a_atomDepths a_literals a_literalCounts a_clausePos a_clauseNeg a_clauseDepths a_values a_learnedPos a_learnedNeg a_learnedRests a_trail a_levelStart a_levelAtoms a_reasonAtoms a_reasonRests a_edgeFrom a_edgeTo a_edgeWeight a_potential a_moved a_gamma a_via a_dist a_link f (nI (zz_pc (fun i => bt x i) i)) (nI i) := by
    intro f
    induction f with
    | zero => intro i h1 h2; omega
    | succ f ih =>
      intro i hi hf
      refine pk_le 32 i (fun h => ?_) (fun h => nm_r (e' := nI (zz_pc (fun i => bt x i) (i + 1))) ?_ (nm_r (nI_1 i) (ih (i + 1) (by omega) (by omega))))
      · have : i = 32 := by omega
        subst this
        exact K
      · rw [zb_ushrv h]
        simp only [zz_pc]
        by_cases e : bt x i = true
        · rw [if_pos e, if_pos e]; exact nI_1 _
        · rw [if_neg e, if_neg e]; exact Int32.add_zero _
  exact Exists.intro 33 (key 33 0 (by omega) (by omega))
theorem xw_litT {post : Int32 → Prop} {x : Int32} (hn : n ≤ 10) (h : x = 0 ∨ zz_ok n x) (K : post 1) : wpX_isLiteralOrZero post (f_goalEdge, f_goalRest, f_atomBits, f_decided, f_maxVariables, f_maxAtoms, f_maxClauses, f_maxDepth, nI n, f_clauseCount, f_depthNow, f_assumedTrue, f_assumedFalse, f_status, f_presentTrue, f_coreKnown, f_coreClauses, f_coreAtoms, f_witnessClauses, f_witnessAtoms, f_learnedCount, f_learnedNext, f_activeRests, f_trueMask, f_falseMask, f_trailSize, f_theoryHead, f_level, f_conflictAtoms, f_conflictRests, f_failedAtoms, f_failedRests, f_activeEdges, f_goalOn, a_kinds, a_lefts, a_rights, a_bounds, a_atomDepths, a_literals, a_literalCounts, a_clausePos, a_clauseNeg, a_clauseDepths, a_values, a_learnedPos, a_learnedNeg, a_learnedRests, a_trail, a_levelStart, a_levelAtoms, a_reasonAtoms, a_reasonRests, a_edgeFrom, a_edgeTo, a_edgeWeight, a_potential, a_moved, a_gamma, a_via, a_dist, a_link) x := by
  rcases h with z | z
  · rw [z]; exact br_f (zz_lit_0 hn).1 (br_f (zz_lit_0 hn).2 K)
  · exact br_f (zz_lit_ok hn z).1 (br_f (zz_lit_ok hn z).2.1 K)
theorem xw_litF {post : Int32 → Prop} {x : Int32} (h : x < -(nI n) ∨ nI n < x) (K : post 0) : wpX_isLiteralOrZero post (f_goalEdge, f_goalRest, f_atomBits, f_decided, f_maxVariables, f_maxAtoms, f_maxClauses, f_maxDepth, nI n, f_clauseCount, f_depthNow, f_assumedTrue, f_assumedFalse, f_status, f_presentTrue, f_coreKnown, f_coreClauses, f_coreAtoms, f_witnessClauses, f_witnessAtoms, f_learnedCount, f_learnedNext, f_activeRests, f_trueMask, f_falseMask, f_trailSize, f_theoryHead, f_level, f_conflictAtoms, f_conflictRests, f_failedAtoms, f_failedRests, f_activeEdges, f_goalOn, a_kinds, a_lefts, a_rights, a_bounds, a_atomDepths, a_literals, a_literalCounts, a_clausePos, a_clauseNeg, a_clauseDepths, a_values, a_learnedPos, a_learnedNeg, a_learnedRests, a_trail, a_levelStart, a_levelAtoms, a_reasonAtoms, a_reasonRests, a_edgeFrom, a_edgeTo, a_edgeWeight, a_potential, a_moved, a_gamma, a_via, a_dist, a_link) x := by
  refine br_c (fun _ => K) (fun h1 => br_c (fun _ => K) (fun h2 => ?_))
  rcases h with z | z
  · exact (h1 z).elim
  · exact (h2 z).elim
theorem xw_lb {post : Int32 → Prop} {x : Int32} {k : Nat} (hk : k < 10) (h : x = nI (k + 1) ∨ x = -(nI (k + 1))) (K : post ((1 : Int32) <<< (nI k &&& 31))) : wpX_literalBit post (f_goalEdge, f_goalRest, f_atomBits, f_decided, f_maxVariables, f_maxAtoms, f_maxClauses, f_maxDepth, f_atomCount, f_clauseCount, f_depthNow, f_assumedTrue, f_assumedFalse, f_status, f_presentTrue, f_coreKnown, f_coreClauses, f_coreAtoms, f_witnessClauses, f_witnessAtoms, f_learnedCount, f_learnedNext, f_activeRests, f_trueMask, f_falseMask, f_trailSize, f_theoryHead, f_level, f_conflictAtoms, f_conflictRests, f_failedAtoms, f_failedRests, f_activeEdges, f_goalOn, a_kinds, a_lefts, a_rights, a_bounds, a_atomDepths, a_literals, a_literalCounts, a_clausePos, a_clauseNeg, a_clauseDepths, a_values, a_learnedPos, a_learnedNeg, a_learnedRests, a_trail, a_levelStart, a_levelAtoms, a_reasonAtoms, a_reasonRests, a_edgeFrom, a_edgeTo, a_edgeWeight, a_potential, a_moved, a_gamma, a_via, a_dist, a_link) x := by
  obtain ⟨z1, z2, z3, z4, z5, z6⟩ := zi_lpos hk
  rcases h with e | e
  · rw [e]; exact br_f z1 (nm_r z3 K)
  · rw [e]; exact br_t z4 (nm_r z6 K)
end
section
variable {y_maxV y_maxA y_maxC y_maxD y_n y_m y_d y_status y_model y_hasCore : Int32} {z_kind z_atomX z_atomY z_atomC z_atomDepth z_assumed z_literals z_length z_clauseDepth z_clauseIn z_assumptionIn z_bound : Nat → Int32}
variable {n : Nat}
theorem yw_asms {post : Int32 → Prop} {g : Nat → Bool} (hn : n ≤ 10) (hg : ∀ k, k < n → (z_assumed k = 0 ↔ g k = false)) (K : post (nI (zz_pc g n))) : wpY_assumptions post (y_maxV, y_maxA, y_maxC, y_maxD, nI n, y_m, y_d, y_status, y_model, y_hasCore, z_kind, z_atomX, z_atomY, z_atomC, z_atomDepth, z_assumed, z_literals, z_length, z_clauseDepth, z_clauseIn, z_assumptionIn, z_bound) := by
  have key : ∀ f i, i ≤ n → n < f + i → wY_assumptions_4 post y_maxV y_maxA y_maxC y_maxD (nI n) y_m y_d y_status y_model y_hasCore z_kind z_atomX z_atomY z_atomC z_atomDepth z_assumed z_literals z_length z_clauseDepth z_clauseIn z_assumptionIn z_bound f (nI (zz_pc g i)) (nI i) := by
    intro f
    induction f with
    | zero => intro i h1 h2; omega
    | succ f ih =>
      intro i hi hf
      have ci : (nI i).toNatClampNeg = i := nI_clamp (by omega)
      refine pk_le n i (fun h => ?_) (fun h => And.intro (pk_in i 10 (by omega)) ?_)
      · have : i = n := by omega
        subst this
        exact K
      · rw [ci]
        have e : zz_pc g (i + 1) = zz_pc g i + (if g i = true then 1 else 0) := rfl
        refine br_c (fun h1 => nm_r (nI_1 i) ?_) (fun h1 => nm_r (nI_1 _) (nm_r (nI_1 i) ?_))
        · have := ih (i + 1) (by omega) (by omega)
          rw [e, (hg i h).mp h1, if_neg (by decide), Nat.add_zero] at this
          exact this
        · have := ih (i + 1) (by omega) (by omega)
          have hb : g i = true := zb_ft fun z => h1 ((hg i h).mpr z)
          rw [e, hb, if_pos rfl] at this
          exact this
  exact Exists.intro (n + 1) (key (n + 1) 0 (by omega) (by omega))
theorem yw_litF {post : Int32 → Prop} {x : Int32} (h : (x < -(nI n) ∨ nI n < x) ∨ x = 0) (K : post 0) : wpY_isLiteral post (y_maxV, y_maxA, y_maxC, y_maxD, nI n, y_m, y_d, y_status, y_model, y_hasCore, z_kind, z_atomX, z_atomY, z_atomC, z_atomDepth, z_assumed, z_literals, z_length, z_clauseDepth, z_clauseIn, z_assumptionIn, z_bound) x := by
  refine br_c (fun _ => K) (fun h0 => br_c (fun _ => K) (fun h1 => br_c (fun _ => K) (fun h2 => ?_)))
  rcases h with (z | z) | z
  · exact (h1 z).elim
  · exact (h2 z).elim
  · exact (h0 z).elim
theorem yw_litT {post : Int32 → Prop} {x : Int32} (hn : n ≤ 10) (h : zz_ok n x) (K : post 1) : wpY_isLiteral post (y_maxV, y_maxA, y_maxC, y_maxD, nI n, y_m, y_d, y_status, y_model, y_hasCore, z_kind, z_atomX, z_atomY, z_atomC, z_atomDepth, z_assumed, z_literals, z_length, z_clauseDepth, z_clauseIn, z_assumptionIn, z_bound) x :=
  br_f (zz_lit_ok hn h).2.2 (br_f (zz_lit_ok hn h).1 (br_f (zz_lit_ok hn h).2.1 K))
end
/-- the assumptions: one goes in, one goes out -/
theorem pd_asm {V n m d : Nat} {kd lf rt bd ad lt len cp cn cd : Nat → Int32} {aT aF aT' aF' : Int32} {asm ltY asm' : Nat → Int32} (h : rl_PD V n m d kd lf rt bd ad lt len cp cn cd aT aF asm ltY)
    (h1 : ∀ k, bt aT' k = true ∨ bt aF' k = true → k < n) (h2 : ∀ k, bt aT' k = true → bt aF' k = true → False) (h3 : ∀ k, k < n → asm' k = if bt aT' k = true then 1 else if bt aF' k = true then -1 else 0) :
    rl_PD V n m d kd lf rt bd ad lt len cp cn cd aT' aF' asm' ltY := by
  obtain ⟨g1, g2, g3, g4, g5, g6, g7, g8, g9⟩ := h
  exact ⟨g1, g2, g3, g4, g5, g6, h1, h2, h3⟩
theorem zz_a0 {aT aF : Int32} {asm : Nat → Int32} {n k : Nat} (h : ∀ k, k < n → asm k = if bt aT k = true then 1 else if bt aF k = true then -1 else 0) (hk : k < n) : asm k = 0 ↔ (bt aT k || bt aF k) = false := by
  rw [h k hk]
  cases bt aT k <;> cases bt aF k <;> decide
theorem zz_pcn {x : Int32} {n : Nat} (h : ∀ k, bt x k = true → k < n) (hn : n ≤ 32) : zz_pc (fun i => bt x i) 32 = zz_pc (fun i => bt x i) n :=
  zz_pc_hi (fun k hk => zb_tf fun z => by have := h k z; omega) 32 hn
theorem i_vc_assume {k : Nat} {u : SX} {v : SY} (I : i_Rel k u v) (hk : k + 5 ≤ 2564) (v1 : Int32) : wpX_assume (fun r u' => wpY_assume (fun r' v' => r' = r ∧ i_Rel (k + 5) u' v') v v1) u v1 := by
  refine zz_el (P := fun u v => wpX_assume (fun r u' => wpY_assume (fun r' v' => r' = r ∧ i_Rel (k + 5) u' v') v v1) u v1) ?_ I
  intro V A C D n m d lc f_goalEdge f_goalRest f_atomBits f_decided f_assumedTrue f_assumedFalse f_status f_presentTrue f_coreKnown f_coreClauses f_coreAtoms f_witnessClauses f_witnessAtoms f_learnedNext f_activeRests f_trueMask f_falseMask f_trailSize f_theoryHead f_level f_conflictAtoms f_conflictRests f_failedAtoms f_failedRests f_activeEdges a_kinds a_lefts a_rights a_bounds a_atomDepths a_literals a_literalCounts a_clausePos a_clauseNeg a_clauseDepths a_values a_learnedPos a_learnedNeg a_learnedRests a_trail a_levelStart a_levelAtoms a_reasonAtoms a_reasonRests a_edgeFrom a_edgeTo a_edgeWeight a_potential a_moved a_gamma a_via a_dist a_link y_model z_assumed z_literals z_clauseIn z_assumptionIn z_bound hR
  have hR' := hR
  obtain ⟨⟨b1, b2, b3, b4, b5, b6, b7, b8, b9⟩, hPD, hLC, hSS⟩ := hR
  have hP := hPD
  obtain ⟨_, _, _, _, _, _, g7, g8, g9⟩ := hP
  unfold wpX_assume wpY_assume
  rcases zz_lit (n := n) (by omega) v1 with hbad | h0 | hok
  · refine br_f (zz_lit_bad (by omega) hbad).1 ?_
    refine xw_litF hbad ?_
    refine br_t rfl ?_
    refine yw_litF (Or.inl hbad) ?_
    exact br_t rfl ⟨rfl, zz_in hR'⟩
  · refine br_t h0 ?_
    refine yw_litF (Or.inr h0) ?_
    exact br_t rfl ⟨rfl, zz_in hR'⟩
  · refine br_f (zz_lit_ok (by omega) hok).2.2 ?_
    refine xw_litT (by omega) (Or.inr hok) ?_
    refine br_f (by decide) ?_
    obtain ⟨a, ha, hlit⟩ := hok
    have hok' : zz_ok n v1 := ⟨a, ha, hlit⟩
    obtain ⟨z1, z2, z3, z4, z5, z6⟩ := zi_lpos (k := a) (by omega)
    have ca : (nI a).toNatClampNeg = a := nI_clamp (by omega)
    have ia : vp_in (nI a) 10 := pk_in a 10 (by omega)
    refine xw_lb (by omega) hlit ?_
    refine br_c (fun h1 => ?_) (fun h1 => ?_)
    · have hfree : bt f_assumedTrue a = false ∧ bt f_assumedFalse a = false := by
        have := (zb_and1 (by omega)).mp h1
        rw [b_or, Bool.or_eq_false_iff] at this
        exact this
      have hz : z_assumed a = 0 := (zz_a0 g9 ha).mpr (by rw [hfree.1, hfree.2]; rfl)
      rcases hlit with e | e
      · subst e
        refine br_f z1 (nm_e ?_)
        have hnew : ∀ q, bt (f_assumedTrue ||| (1 : Int32) <<< (nI a &&& 31)) q = (bt f_assumedTrue q || decide (q = a)) := fun q => by rw [b_or, zb_bit (by omega)]
        generalize f_assumedTrue ||| (1 : Int32) <<< (nI a &&& 31) = aT' at hnew ⊢
        have k1 : ∀ q, bt aT' q = true ∨ bt f_assumedFalse q = true → q < n := by
          intro q hq
          rw [hnew, Bool.or_eq_true, decide_eq_true_eq] at hq
          rcases hq with (z | z) | z
          · exact g7 q (Or.inl z)
          · omega
          · exact g7 q (Or.inr z)
        have k2 : ∀ q, bt aT' q = true → bt f_assumedFalse q = true → False := by
          intro q hq hf
          rw [hnew, Bool.or_eq_true, decide_eq_true_eq] at hq
          rcases hq with z | z
          · exact g8 q z hf
          · rw [z, hfree.2] at hf; cases hf
        have k3 : ∀ q, q < n → upd z_assumed a 1 q = if bt aT' q = true then 1 else if bt f_assumedFalse q = true then -1 else 0 := by
          intro q hq
          by_cases e : q = a
          · rw [e, pk_us, hnew, decide_eq_true rfl, Bool.or_true, if_pos rfl]
          · rw [pk_un e, hnew, decide_eq_false e, Bool.or_false]; exact g9 q hq
        refine xw_bc ?_
        refine yw_litT (by omega) hok' ?_
        refine br_f (by decide) (br_f z1 ?_)
        rw [z3]
        refine And.intro ia ?_
        rw [ca]
        refine br_t hz (br_f z1 (And.intro ia (nm_e ?_)))
        rw [ca]
        refine yw_asms (g := fun q => bt aT' q || bt f_assumedFalse q) (by omega) (fun q hq => zz_a0 k3 hq) ?_
        refine ⟨?_, zz_in ⟨⟨b1, b2, b3, b4, b5, b6, b7, b8, b9⟩, pd_asm hPD k1 k2 k3, hLC, Or.inl rfl, Or.inl rfl⟩⟩
        rw [zz_pcn (n := n) (fun q hq => k1 q (by rw [b_or, Bool.or_eq_true] at hq; exact hq)) (by omega)]
        rw [zz_pc_cg (fun q _ => b_or aT' f_assumedFalse q)]
      · subst e
        refine br_t z4 (nm_e ?_)
        have hnew : ∀ q, bt (f_assumedFalse ||| (1 : Int32) <<< (nI a &&& 31)) q = (bt f_assumedFalse q || decide (q = a)) := fun q => by rw [b_or, zb_bit (by omega)]
        generalize f_assumedFalse ||| (1 : Int32) <<< (nI a &&& 31) = aF' at hnew ⊢
        have k1 : ∀ q, bt f_assumedTrue q = true ∨ bt aF' q = true → q < n := by
          intro q hq
          rw [hnew, Bool.or_eq_true, decide_eq_true_eq] at hq
          rcases hq with z | (z | z)
          · exact g7 q (Or.inl z)
          · exact g7 q (Or.inr z)
          · omega
        have k2 : ∀ q, bt f_assumedTrue q = true → bt aF' q = true → False := by
          intro q ht hq
          rw [hnew, Bool.or_eq_true, decide_eq_true_eq] at hq
          rcases hq with z | z
          · exact g8 q ht z
          · rw [z, hfree.1] at ht; cases ht
        have k3 : ∀ q, q < n → upd z_assumed a (-1) q = if bt f_assumedTrue q = true then 1 else if bt aF' q = true then -1 else 0 := by
          intro q hq
          by_cases e : q = a
          · rw [e, pk_us, hnew, decide_eq_true rfl, Bool.or_true, hfree.1, if_neg (by decide), if_pos rfl]
          · rw [pk_un e, hnew, decide_eq_false e, Bool.or_false]; exact g9 q hq
        refine xw_bc ?_
        refine yw_litT (by omega) hok' ?_
        refine br_f (by decide) (br_t z4 ?_)
        rw [z6]
        refine And.intro ia ?_
        rw [ca]
        refine br_t hz (br_t z4 (And.intro ia (nm_e ?_)))
        rw [ca]
        refine yw_asms (g := fun q => bt f_assumedTrue q || bt aF' q) (by omega) (fun q hq => zz_a0 k3 hq) ?_
        refine ⟨?_, zz_in ⟨⟨b1, b2, b3, b4, b5, b6, b7, b8, b9⟩, pd_asm hPD k1 k2 k3, hLC, Or.inl rfl, Or.inl rfl⟩⟩
        rw [zz_pcn (n := n) (fun q hq => k1 q (by rw [b_or, Bool.or_eq_true] at hq; exact hq)) (by omega)]
        rw [zz_pc_cg (fun q _ => b_or f_assumedTrue aF' q)]
    · have hz : ¬ z_assumed a = 0 := by
        intro z
        have := (zz_a0 g9 ha).mp z
        exact h1 ((zb_and1 (by omega)).mpr (by rw [b_or]; exact this))
      refine yw_litT (by omega) hok' ?_
      refine br_f (by decide) ?_
      rcases hlit with e | e
      · subst e
        refine br_f z1 ?_
        rw [z3]
        refine And.intro ia ?_
        rw [ca]
        exact br_f hz ⟨rfl, zz_in hR'⟩
      · subst e
        refine br_t z4 ?_
        rw [z6]
        refine And.intro ia ?_
        rw [ca]
        exact br_f hz ⟨rfl, zz_in hR'⟩
end
section
theorem i_vc_retract {k : Nat} {u : SX} {v : SY} (I : i_Rel k u v) (hk : k + 5 ≤ 2564) (v1 : Int32) : wpX_retract (fun r u' => wpY_retract (fun r' v' => r' = r ∧ i_Rel (k + 5) u' v') v v1) u v1 := by
  refine zz_el (P := fun u v => wpX_retract (fun r u' => wpY_retract (fun r' v' => r' = r ∧ i_Rel (k + 5) u' v') v v1) u v1) ?_ I
  intro V A C D n m d lc f_goalEdge f_goalRest f_atomBits f_decided f_assumedTrue f_assumedFalse f_status f_presentTrue f_coreKnown f_coreClauses f_coreAtoms f_witnessClauses f_witnessAtoms f_learnedNext f_activeRests f_trueMask f_falseMask f_trailSize f_theoryHead f_level f_conflictAtoms f_conflictRests f_failedAtoms f_failedRests f_activeEdges a_kinds a_lefts a_rights a_bounds a_atomDepths a_literals a_literalCounts a_clausePos a_clauseNeg a_clauseDepths a_values a_learnedPos a_learnedNeg a_learnedRests a_trail a_levelStart a_levelAtoms a_reasonAtoms a_reasonRests a_edgeFrom a_edgeTo a_edgeWeight a_potential a_moved a_gamma a_via a_dist a_link y_model z_assumed z_literals z_clauseIn z_assumptionIn z_bound hR
  have hR' := hR
  obtain ⟨⟨b1, b2, b3, b4, b5, b6, b7, b8, b9⟩, hPD, hLC, hSS⟩ := hR
  have hP := hPD
  obtain ⟨_, _, _, _, _, _, g7, g8, g9⟩ := hP
  unfold wpX_retract wpY_retract
  rcases Classical.em (∃ j, j < n ∧ v1 = nI j) with ⟨a, ha, rfl⟩ | hno
  · have ca : (nI a).toNatClampNeg = a := nI_clamp (by omega)
    have ia : vp_in (nI a) 10 := pk_in a 10 (by omega)
    refine xw_atomT (by omega) ha ?_
    refine br_f (by decide) (nm_e ?_)
    refine br_c (fun h1 => ?_) (fun h1 => ?_)
    · have hz : z_assumed a = 0 := (zz_a0 g9 ha).mpr (by have := (zb_and1 (by omega)).mp h1; rw [b_or] at this; exact this)
      refine yw_atomT (by omega) ha ?_
      refine br_f (by decide) (And.intro ia ?_)
      rw [ca]
      exact br_t hz ⟨rfl, zz_in hR'⟩
    · have hz : ¬ z_assumed a = 0 := by
        intro z
        have := (zz_a0 g9 ha).mp z
        exact h1 ((zb_and1 (by omega)).mpr (by rw [b_or]; exact this))
      have t1 : ∀ q, bt (f_assumedTrue &&& (((1 : Int32) <<< (nI a &&& 31)) ^^^ (-1))) q = (bt f_assumedTrue q && !decide (q = a)) := fun q => by rw [zb_clr, zb_bit (by omega)]
      have t2 : ∀ q, bt (f_assumedFalse &&& (((1 : Int32) <<< (nI a &&& 31)) ^^^ (-1))) q = (bt f_assumedFalse q && !decide (q = a)) := fun q => by rw [zb_clr, zb_bit (by omega)]
      refine nm_e (nm_e ?_)
      generalize f_assumedTrue &&& (((1 : Int32) <<< (nI a &&& 31)) ^^^ (-1)) = aT' at t1 ⊢
      generalize f_assumedFalse &&& (((1 : Int32) <<< (nI a &&& 31)) ^^^ (-1)) = aF' at t2 ⊢
      have k1 : ∀ q, bt aT' q = true ∨ bt aF' q = true → q < n := by
        intro q hq
        rw [t1, t2, Bool.and_eq_true, Bool.and_eq_true] at hq
        rcases hq with z | z
        · exact g7 q (Or.inl z.1)
        · exact g7 q (Or.inr z.1)
      have k2 : ∀ q, bt aT' q = true → bt aF' q = true → False := by
        intro q h2 h3
        rw [t1, Bool.and_eq_true] at h2
        rw [t2, Bool.and_eq_true] at h3
        exact g8 q h2.1 h3.1
      have k3 : ∀ q, q < n → upd z_assumed a 0 q = if bt aT' q = true then 1 else if bt aF' q = true then -1 else 0 := by
        intro q hq
        by_cases e : q = a
        · rw [e, pk_us, t1, t2, decide_eq_true rfl, Bool.not_true, Bool.and_false, Bool.and_false]; rfl
        · rw [pk_un e, t1, t2, decide_eq_false e, Bool.not_false, Bool.and_true, Bool.and_true]; exact g9 q hq
      refine xw_bc ?_
      refine yw_atomT (by omega) ha ?_
      refine br_f (by decide) (And.intro ia ?_)
      rw [ca]
      refine br_f hz (And.intro ia (nm_e ?_))
      refine yw_asms (g := fun q => bt aT' q || bt aF' q) (by omega) (fun q hq => zz_a0 k3 hq) ?_
      refine ⟨?_, zz_in ⟨⟨b1, b2, b3, b4, b5, b6, b7, b8, b9⟩, pd_asm hPD k1 k2 k3, hLC, Or.inl rfl, Or.inl rfl⟩⟩
      rw [zz_pcn (n := n) (fun q hq => k1 q (by rw [b_or, Bool.or_eq_true] at hq; exact hq)) (by omega)]
      rw [zz_pc_cg (fun q _ => b_or aT' aF' q)]
  · refine xw_atomF (by omega) hno ?_
    refine br_t rfl ?_
    refine yw_atomF (by omega) hno ?_
    exact br_t rfl ⟨rfl, zz_in hR'⟩
theorem i_vc_truth {k : Nat} {u : SX} {v : SY} (I : i_Rel k u v) (hk : k + 5 ≤ 2564) (v1 : Int32) : wpX_truth (fun r => wpY_truth (fun r' => r' = r ∧ i_Rel (k + 5) u v) v v1) u v1 := by
  refine zz_el (P := fun u v => wpX_truth (fun r => wpY_truth (fun r' => r' = r ∧ i_Rel (k + 5) u v) v v1) u v1) ?_ I
  intro V A C D n m d lc f_goalEdge f_goalRest f_atomBits f_decided f_assumedTrue f_assumedFalse f_status f_presentTrue f_coreKnown f_coreClauses f_coreAtoms f_witnessClauses f_witnessAtoms f_learnedNext f_activeRests f_trueMask f_falseMask f_trailSize f_theoryHead f_level f_conflictAtoms f_conflictRests f_failedAtoms f_failedRests f_activeEdges a_kinds a_lefts a_rights a_bounds a_atomDepths a_literals a_literalCounts a_clausePos a_clauseNeg a_clauseDepths a_values a_learnedPos a_learnedNeg a_learnedRests a_trail a_levelStart a_levelAtoms a_reasonAtoms a_reasonRests a_edgeFrom a_edgeTo a_edgeWeight a_potential a_moved a_gamma a_via a_dist a_link y_model z_assumed z_literals z_clauseIn z_assumptionIn z_bound hR
  have hR' := hR
  obtain ⟨⟨b1, b2, b3, b4, b5, b6, b7, b8, b9⟩, hPD, hLC, hSS⟩ := hR
  unfold wpX_truth wpY_truth
  rcases Classical.em (∃ j, j < n ∧ v1 = nI j) with ⟨a, ha, rfl⟩ | hno
  · refine xw_atomT (by omega) ha ?_
    refine br_f (by decide) ?_
    refine br_c (fun h1 => ?_) (fun h1 => ?_)
    · refine yw_atomT (by omega) ha ?_
      refine br_f (by decide) (br_t h1 ?_)
      obtain ⟨hst, _⟩ := hSS
      rcases hst with z | ⟨_, t, t1, t2, t3, _⟩ | ⟨z, _⟩
      · rw [z] at h1; exact absurd h1 (by decide)
      · have hp := (rl_pow n (by omega)).2
        rw [t2]
        have e : (f_presentTrue >>> (nI a &&& 31)) &&& 1 = if rl_tau n t a = true then 1 else 0 := by
          rw [zb_shrv (by omega)]
          by_cases q : rl_tau n t a = true
          · rw [if_pos q, if_pos ((t3 a).mpr ⟨ha, q⟩)]
          · rw [if_neg q, if_neg (fun y => q ((t3 a).mp y).2)]
        rw [e]
        refine yw_isTrue (by omega) ha (by omega) (fun hτ => ?_) (fun hτ => ?_)
        · refine br_f (by decide) ⟨by rw [hτ]; rfl, ?_⟩
          rw [← t2]
          exact zz_in hR'
        · refine br_t rfl ⟨by rw [hτ]; rfl, ?_⟩
          rw [← t2]
          exact zz_in hR'
      · rw [z] at h1; exact absurd h1 (by decide)
    · refine yw_atomT (by omega) ha ?_
      exact br_f (by decide) (br_f h1 ⟨rfl, zz_in hR'⟩)
  · refine xw_atomF (by omega) hno ?_
    refine br_t rfl ?_
    refine yw_atomF (by omega) hno ?_
    exact br_t rfl ⟨rfl, zz_in hR'⟩
theorem i_vc_clauseInCore {k : Nat} {u : SX} {v : SY} (I : i_Rel k u v) (hk : k + 5 ≤ 2564) (v1 : Int32) : wpX_clauseInCore (fun r => wpY_clauseInCore (fun r' => r' = r ∧ i_Rel (k + 5) u v) v v1) u v1 := by
  refine zz_el (P := fun u v => wpX_clauseInCore (fun r => wpY_clauseInCore (fun r' => r' = r ∧ i_Rel (k + 5) u v) v v1) u v1) ?_ I
  intro V A C D n m d lc f_goalEdge f_goalRest f_atomBits f_decided f_assumedTrue f_assumedFalse f_status f_presentTrue f_coreKnown f_coreClauses f_coreAtoms f_witnessClauses f_witnessAtoms f_learnedNext f_activeRests f_trueMask f_falseMask f_trailSize f_theoryHead f_level f_conflictAtoms f_conflictRests f_failedAtoms f_failedRests f_activeEdges a_kinds a_lefts a_rights a_bounds a_atomDepths a_literals a_literalCounts a_clausePos a_clauseNeg a_clauseDepths a_values a_learnedPos a_learnedNeg a_learnedRests a_trail a_levelStart a_levelAtoms a_reasonAtoms a_reasonRests a_edgeFrom a_edgeTo a_edgeWeight a_potential a_moved a_gamma a_via a_dist a_link y_model z_assumed z_literals z_clauseIn z_assumptionIn z_bound hR
  have hR' := hR
  obtain ⟨⟨b1, b2, b3, b4, b5, b6, b7, b8, b9⟩, hPD, hLC, hSS⟩ := hR
  unfold wpX_clauseInCore wpY_clauseInCore
  rcases Classical.em (∃ j, j < m ∧ v1 = nI j) with ⟨a, ha, rfl⟩ | hno
  · have ca : (nI a).toNatClampNeg = a := nI_clamp (by omega)
    refine xw_clsT (by omega) ha ?_
    refine br_f (by decide) ?_
    refine br_c (fun h1 => ?_) (fun h1 => ?_)
    · refine yw_clsT (by omega) ha ?_
      exact br_f (by decide) (br_t h1 ⟨rfl, zz_in hR'⟩)
    · refine yw_clsT (by omega) ha ?_
      refine br_f (by decide) (br_f h1 (And.intro (pk_in a 24 (by omega)) ?_))
      rcases hSS.2 with z | ⟨_, _, _, hc, _⟩
      · exact (h1 z).elim
      · rw [ca, hc a ha, zb_shrv (by omega)]
        cases hb : bt f_coreClauses a
        · exact br_t (by decide) ⟨rfl, zz_in hR'⟩
        · exact br_f (by decide) ⟨rfl, zz_in hR'⟩
  · refine xw_clsF (by omega) hno ?_
    refine br_t rfl ?_
    refine yw_clsF (by omega) hno ?_
    exact br_t rfl ⟨rfl, zz_in hR'⟩
theorem i_vc_assumptionInCore {k : Nat} {u : SX} {v : SY} (I : i_Rel k u v) (hk : k + 5 ≤ 2564) (v1 : Int32) : wpX_assumptionInCore (fun r => wpY_assumptionInCore (fun r' => r' = r ∧ i_Rel (k + 5) u v) v v1) u v1 := by
  refine zz_el (P := fun u v => wpX_assumptionInCore (fun r => wpY_assumptionInCore (fun r' => r' = r ∧ i_Rel (k + 5) u v) v v1) u v1) ?_ I
  intro V A C D n m d lc f_goalEdge f_goalRest f_atomBits f_decided f_assumedTrue f_assumedFalse f_status f_presentTrue f_coreKnown f_coreClauses f_coreAtoms f_witnessClauses f_witnessAtoms f_learnedNext f_activeRests f_trueMask f_falseMask f_trailSize f_theoryHead f_level f_conflictAtoms f_conflictRests f_failedAtoms f_failedRests f_activeEdges a_kinds a_lefts a_rights a_bounds a_atomDepths a_literals a_literalCounts a_clausePos a_clauseNeg a_clauseDepths a_values a_learnedPos a_learnedNeg a_learnedRests a_trail a_levelStart a_levelAtoms a_reasonAtoms a_reasonRests a_edgeFrom a_edgeTo a_edgeWeight a_potential a_moved a_gamma a_via a_dist a_link y_model z_assumed z_literals z_clauseIn z_assumptionIn z_bound hR
  have hR' := hR
  obtain ⟨⟨b1, b2, b3, b4, b5, b6, b7, b8, b9⟩, hPD, hLC, hSS⟩ := hR
  unfold wpX_assumptionInCore wpY_assumptionInCore
  rcases Classical.em (∃ j, j < n ∧ v1 = nI j) with ⟨a, ha, rfl⟩ | hno
  · have ca : (nI a).toNatClampNeg = a := nI_clamp (by omega)
    refine xw_atomT (by omega) ha ?_
    refine br_f (by decide) ?_
    refine br_c (fun h1 => ?_) (fun h1 => ?_)
    · refine yw_atomT (by omega) ha ?_
      exact br_f (by decide) (br_t h1 ⟨rfl, zz_in hR'⟩)
    · refine yw_atomT (by omega) ha ?_
      refine br_f (by decide) (br_f h1 (And.intro (pk_in a 10 (by omega)) ?_))
      rcases hSS.2 with z | ⟨_, _, _, _, hc⟩
      · exact (h1 z).elim
      · rw [ca, hc a ha, zb_shrv (by omega)]
        cases hb : bt f_coreAtoms a
        · exact br_t (by decide) ⟨rfl, zz_in hR'⟩
        · exact br_f (by decide) ⟨rfl, zz_in hR'⟩
  · refine xw_atomF (by omega) hno ?_
    refine br_t rfl ?_
    refine yw_atomF (by omega) hno ?_
    exact br_t rfl ⟨rfl, zz_in hR'⟩
theorem i_vc_atomField {k : Nat} {u : SX} {v : SY} (I : i_Rel k u v) (hk : k + 5 ≤ 2564) (v1 : Int32) (v2 : Int32) : wpX_atomField (fun r => wpY_atomField (fun r' => r' = r ∧ i_Rel (k + 5) u v) v v1 v2) u v1 v2 := by
  refine zz_el (P := fun u v => wpX_atomField (fun r => wpY_atomField (fun r' => r' = r ∧ i_Rel (k + 5) u v) v v1 v2) u v1 v2) ?_ I
  intro V A C D n m d lc f_goalEdge f_goalRest f_atomBits f_decided f_assumedTrue f_assumedFalse f_status f_presentTrue f_coreKnown f_coreClauses f_coreAtoms f_witnessClauses f_witnessAtoms f_learnedNext f_activeRests f_trueMask f_falseMask f_trailSize f_theoryHead f_level f_conflictAtoms f_conflictRests f_failedAtoms f_failedRests f_activeEdges a_kinds a_lefts a_rights a_bounds a_atomDepths a_literals a_literalCounts a_clausePos a_clauseNeg a_clauseDepths a_values a_learnedPos a_learnedNeg a_learnedRests a_trail a_levelStart a_levelAtoms a_reasonAtoms a_reasonRests a_edgeFrom a_edgeTo a_edgeWeight a_potential a_moved a_gamma a_via a_dist a_link y_model z_assumed z_literals z_clauseIn z_assumptionIn z_bound hR
  have hR' := hR
  obtain ⟨⟨b1, b2, b3, b4, b5, b6, b7, b8, b9⟩, hPD, hLC, hSS⟩ := hR
  obtain ⟨_, _, _, _, _, _, g7, g8, g9⟩ := hPD
  unfold wpX_atomField wpY_atomField
  rcases Classical.em (∃ j, j < n ∧ v1 = nI j) with ⟨a, ha, rfl⟩ | hno
  · have ca : (nI a).toNatClampNeg = a := nI_clamp (by omega)
    have ia : vp_in (nI a) 10 := pk_in a 10 (by omega)
    refine xw_atomT (by omega) ha ?_
    refine br_f (by decide) ?_
    rcases pk_ix v2 (n := 6) (by omega) with hlt | hge | ⟨j, hj, rfl⟩
    · have hne : ∀ j, j < 6 → ¬ v2 = nI j := fun j hj e => by rw [e] at hlt; exact nI_pos (by omega) hlt
      refine br_t hlt ?_
      refine yw_atomT (by omega) ha ?_
      exact br_f (by decide) (br_f (hne 0 (by omega)) (br_f (hne 1 (by omega)) (br_f (hne 2 (by omega)) (br_f (hne 3 (by omega)) (br_f (hne 4 (by omega)) (br_f (hne 5 (by omega)) ⟨rfl, zz_in hR'⟩))))))
    · have hne : ∀ j, j < 6 → ¬ v2 = nI j := fun j hj e => by rw [e] at hge; exact nI_ge (a := j) (b := 6) (by omega) (by omega) hge
      have h6 : (nI 6).toInt = 6 := by decide
      have h5 : (5 : Int32).toInt = 5 := by decide
      rw [zi_le, h6] at hge
      refine br_f (by rw [zi_lt, zi_0]; omega) (br_t (by rw [zi_lt, h5]; omega) ?_)
      refine yw_atomT (by omega) ha ?_
      exact br_f (by decide) (br_f (hne 0 (by omega)) (br_f (hne 1 (by omega)) (br_f (hne 2 (by omega)) (br_f (hne 3 (by omega)) (br_f (hne 4 (by omega)) (br_f (hne 5 (by omega)) ⟨rfl, zz_in hR'⟩))))))
    · refine br_f (nI_pos (by omega)) (br_f (nI_nlt (b := j) (a := 5) (by omega) (by omega)) ?_)
      have hcase : j = 0 ∨ j = 1 ∨ j = 2 ∨ j = 3 ∨ j = 4 ∨ j = 5 := by omega
      rcases hcase with rfl | rfl | rfl | rfl | rfl | rfl
      · refine br_t rfl (And.intro ia ?_)
        refine yw_atomT (by omega) ha ?_
        exact br_f (by decide) (br_t rfl (And.intro ia ⟨rfl, zz_in hR'⟩))
      · refine br_f (by decide) (br_t rfl (And.intro ia ?_))
        refine yw_atomT (by omega) ha ?_
        exact br_f (by decide) (br_f (by decide) (br_t rfl (And.intro ia ⟨rfl, zz_in hR'⟩)))
      · refine br_f (by decide) (br_f (by decide) (br_t rfl (And.intro ia ?_)))
        refine yw_atomT (by omega) ha ?_
        exact br_f (by decide) (br_f (by decide) (br_f (by decide) (br_t rfl (And.intro ia ⟨rfl, zz_in hR'⟩))))
      · refine br_f (by decide) (br_f (by decide) (br_f (by decide) (br_t rfl (And.intro ia ?_))))
        refine yw_atomT (by omega) ha ?_
        exact br_f (by decide) (br_f (by decide) (br_f (by decide) (br_f (by decide) (br_t rfl (And.intro ia ⟨rfl, zz_in hR'⟩)))))
      · refine br_f (by decide) (br_f (by decide) (br_f (by decide) (br_f (by decide) (br_t rfl (And.intro ia ?_)))))
        refine yw_atomT (by omega) ha ?_
        exact br_f (by decide) (br_f (by decide) (br_f (by decide) (br_f (by decide) (br_f (by decide) (br_t rfl (And.intro ia ⟨rfl, zz_in hR'⟩))))))
      · refine br_f (by decide) (br_f (by decide) (br_f (by decide) (br_f (by decide) (br_f (by decide) (br_t rfl ?_)))))
        refine yw_atomT (by omega) ha ?_
        refine br_f (by decide) (br_f (by decide) (br_f (by decide) (br_f (by decide) (br_f (by decide) (br_f (by decide) (br_t rfl (And.intro ia ⟨?_, zz_in hR'⟩)))))))
        rw [ca, g9 a ha, zb_shrv (by omega), zb_shrv (by omega)]
        cases hT : bt f_assumedTrue a <;> cases hF : bt f_assumedFalse a
        · decide
        · decide
        · decide
        · exact (g8 a hT hF).elim
  · refine xw_atomF (by omega) hno ?_
    refine br_t rfl ?_
    refine yw_atomF (by omega) hno ?_
    exact br_t rfl ⟨rfl, zz_in hR'⟩
end
section
theorem zi_4i (x y : Nat) : 4 * nI x + nI y = nI (x * 4 + y) := by
  rw [show (4 : Int32) = nI 4 from rfl, pk_mul, nI_add, Nat.mul_comm]
theorem i_vc_clauseField {k : Nat} {u : SX} {v : SY} (I : i_Rel k u v) (hk : k + 5 ≤ 2564) (v1 : Int32) (v2 : Int32) : wpX_clauseField (fun r => wpY_clauseField (fun r' => r' = r ∧ i_Rel (k + 5) u v) v v1 v2) u v1 v2 := by
  refine zz_el (P := fun u v => wpX_clauseField (fun r => wpY_clauseField (fun r' => r' = r ∧ i_Rel (k + 5) u v) v v1 v2) u v1 v2) ?_ I
  intro V A C D n m d lc f_goalEdge f_goalRest f_atomBits f_decided f_assumedTrue f_assumedFalse f_status f_presentTrue f_coreKnown f_coreClauses f_coreAtoms f_witnessClauses f_witnessAtoms f_learnedNext f_activeRests f_trueMask f_falseMask f_trailSize f_theoryHead f_level f_conflictAtoms f_conflictRests f_failedAtoms f_failedRests f_activeEdges a_kinds a_lefts a_rights a_bounds a_atomDepths a_literals a_literalCounts a_clausePos a_clauseNeg a_clauseDepths a_values a_learnedPos a_learnedNeg a_learnedRests a_trail a_levelStart a_levelAtoms a_reasonAtoms a_reasonRests a_edgeFrom a_edgeTo a_edgeWeight a_potential a_moved a_gamma a_via a_dist a_link y_model z_assumed z_literals z_clauseIn z_assumptionIn z_bound hR
  have hR' := hR
  obtain ⟨⟨b1, b2, b3, b4, b5, b6, b7, b8, b9⟩, hPD, hLC, hSS⟩ := hR
  obtain ⟨_, _, _, _, _, g6, _, _, _⟩ := hPD
  unfold wpX_clauseField wpY_clauseField
  rcases Classical.em (∃ j, j < m ∧ v1 = nI j) with ⟨a, ha, rfl⟩ | hno
  · have ca : (nI a).toNatClampNeg = a := nI_clamp (by omega)
    have ia : vp_in (nI a) 24 := pk_in a 24 (by omega)
    obtain ⟨l1, l2, _, l4, l5, _⟩ := g6 a ha
    refine xw_clsT (by omega) ha ?_
    refine br_f (by decide) ?_
    refine br_c (fun h1 => ?_) (fun h1 => ?_)
    · refine yw_clsT (by omega) ha ?_
      exact br_f (by decide) (br_t h1 ⟨rfl, zz_in hR'⟩)
    refine br_c (fun h2 => ?_) (fun h2 => ?_)
    · refine br_c (fun h3 => And.intro ia ?_) (fun h3 => ?_)
      · refine yw_clsT (by omega) ha ?_
        exact br_f (by decide) (br_f h1 (br_t h2 (br_t h3 (And.intro ia ⟨rfl, zz_in hR'⟩))))
      refine br_c (fun h4 => And.intro ia ?_) (fun h4 => ?_)
      · refine yw_clsT (by omega) ha ?_
        exact br_f (by decide) (br_f h1 (br_t h2 (br_f h3 (br_t h4 (And.intro ia ⟨rfl, zz_in hR'⟩)))))
      have hj : ∃ j, j < 4 ∧ v2 = nI j := by
        obtain ⟨j, hj, e⟩ := nI_of2 (M := 5) (n := 5) (by decide) h1 h2
        subst e
        refine ⟨j, ?_, rfl⟩
        have n4 : j ≠ 4 := fun z => h3 (by rw [z]; rfl)
        have n5 : j ≠ 5 := fun z => h4 (by rw [z]; rfl)
        omega
      obtain ⟨j, hj, rfl⟩ := hj
      have e1 := zi_4i a j
      have e2 := zi_ix4 a j
      have c1 : (4 * nI a + nI j).toNatClampNeg = a * 4 + j := by rw [e1]; exact nI_clamp (by omega)
      have c2 : (nI a * 4 + nI j).toNatClampNeg = a * 4 + j := by rw [e2]; exact nI_clamp (by omega)
      refine And.intro (by rw [e1]; exact vp_in_nI (by omega) (by omega)) ?_
      refine yw_clsT (by omega) ha ?_
      refine br_f (by decide) (br_f h1 (br_t h2 (br_f h3 (br_f h4 (And.intro ia ?_)))))
      rw [ca, l1]
      refine pk_lt j (a_literalCounts a).toNatClampNeg (fun q => And.intro (by rw [e2]; exact vp_in_nI (by omega) (by omega)) ⟨?_, zz_in hR'⟩) (fun q => ⟨?_, zz_in hR'⟩)
      · rw [c1, c2]; exact l4 j q
      · rw [c1]; exact (l5 j q hj).symm
    · refine yw_clsT (by omega) ha ?_
      exact br_f (by decide) (br_f h1 (br_f h2 ⟨rfl, zz_in hR'⟩))
  · refine xw_clsF (by omega) hno ?_
    refine br_t rfl ?_
    refine yw_clsF (by omega) hno ?_
    exact br_t rfl ⟨rfl, zz_in hR'⟩
theorem i_vc_count {k : Nat} {u : SX} {v : SY} (I : i_Rel k u v) (hk : k + 5 ≤ 2564) (v1 : Int32) : wpX_count (fun r => wpY_count (fun r' => r' = r ∧ i_Rel (k + 5) u v) v v1) u v1 := by
  refine zz_el (P := fun u v => wpX_count (fun r => wpY_count (fun r' => r' = r ∧ i_Rel (k + 5) u v) v v1) u v1) ?_ I
  intro V A C D n m d lc f_goalEdge f_goalRest f_atomBits f_decided f_assumedTrue f_assumedFalse f_status f_presentTrue f_coreKnown f_coreClauses f_coreAtoms f_witnessClauses f_witnessAtoms f_learnedNext f_activeRests f_trueMask f_falseMask f_trailSize f_theoryHead f_level f_conflictAtoms f_conflictRests f_failedAtoms f_failedRests f_activeEdges a_kinds a_lefts a_rights a_bounds a_atomDepths a_literals a_literalCounts a_clausePos a_clauseNeg a_clauseDepths a_values a_learnedPos a_learnedNeg a_learnedRests a_trail a_levelStart a_levelAtoms a_reasonAtoms a_reasonRests a_edgeFrom a_edgeTo a_edgeWeight a_potential a_moved a_gamma a_via a_dist a_link y_model z_assumed z_literals z_clauseIn z_assumptionIn z_bound hR
  have hR' := hR
  obtain ⟨⟨b1, b2, b3, b4, b5, b6, b7, b8, b9⟩, hPD, hLC, hSS⟩ := hR
  obtain ⟨_, _, _, _, _, _, g7, g8, g9⟩ := hPD
  unfold wpX_count wpY_count
  rcases pk_ix v1 (n := 8) (by omega) with hlt | hge | ⟨j, hj, rfl⟩
  · have hne : ∀ j, j < 8 → ¬ v1 = nI j := fun j hj e => by rw [e] at hlt; exact nI_pos (by omega) hlt
    exact br_t hlt (br_f (hne 0 (by omega)) (br_f (hne 1 (by omega)) (br_f (hne 2 (by omega)) (br_f (hne 3 (by omega)) (br_f (hne 4 (by omega)) (br_f (hne 5 (by omega)) (br_f (hne 6 (by omega)) (br_f (hne 7 (by omega)) ⟨rfl, zz_in hR'⟩))))))))
  · have hne : ∀ j, j < 8 → ¬ v1 = nI j := fun j hj e => by rw [e] at hge; exact nI_ge (a := j) (b := 8) (by omega) (by omega) hge
    have h6 : (nI 8).toInt = 8 := by decide
    have h5 : (7 : Int32).toInt = 7 := by decide
    rw [zi_le, h6] at hge
    exact br_f (by rw [zi_lt, zi_0]; omega) (br_t (by rw [zi_lt, h5]; omega) (br_f (hne 0 (by omega)) (br_f (hne 1 (by omega)) (br_f (hne 2 (by omega)) (br_f (hne 3 (by omega)) (br_f (hne 4 (by omega)) (br_f (hne 5 (by omega)) (br_f (hne 6 (by omega)) (br_f (hne 7 (by omega)) ⟨rfl, zz_in hR'⟩)))))))))
  · refine br_f (nI_pos (by omega)) (br_f (nI_nlt (b := j) (a := 7) (by omega) (by omega)) ?_)
    have hcase : j = 0 ∨ j = 1 ∨ j = 2 ∨ j = 3 ∨ j = 4 ∨ j = 5 ∨ j = 6 ∨ j = 7 := by omega
    rcases hcase with rfl | rfl | rfl | rfl | rfl | rfl | rfl | rfl
    · exact br_t rfl (br_t rfl ⟨rfl, zz_in hR'⟩)
    · exact br_f (by decide) (br_t rfl (br_f (by decide) (br_t rfl ⟨rfl, zz_in hR'⟩)))
    · exact br_f (by decide) (br_f (by decide) (br_t rfl (br_f (by decide) (br_f (by decide) (br_t rfl ⟨rfl, zz_in hR'⟩)))))
    · exact br_f (by decide) (br_f (by decide) (br_f (by decide) (br_t rfl (br_f (by decide) (br_f (by decide) (br_f (by decide) (br_t rfl ⟨rfl, zz_in hR'⟩)))))))
    · exact br_f (by decide) (br_f (by decide) (br_f (by decide) (br_f (by decide) (br_t rfl (br_f (by decide) (br_f (by decide) (br_f (by decide) (br_f (by decide) (br_t rfl ⟨rfl, zz_in hR'⟩)))))))))
    · exact br_f (by decide) (br_f (by decide) (br_f (by decide) (br_f (by decide) (br_f (by decide) (br_t rfl (br_f (by decide) (br_f (by decide) (br_f (by decide) (br_f (by decide) (br_f (by decide) (br_t rfl ⟨rfl, zz_in hR'⟩)))))))))))
    · exact br_f (by decide) (br_f (by decide) (br_f (by decide) (br_f (by decide) (br_f (by decide) (br_f (by decide) (br_t rfl (br_f (by decide) (br_f (by decide) (br_f (by decide) (br_f (by decide) (br_f (by decide) (br_f (by decide) (br_t rfl ⟨rfl, zz_in hR'⟩)))))))))))))
    · refine br_f (by decide) (br_f (by decide) (br_f (by decide) (br_f (by decide) (br_f (by decide) (br_f (by decide) (br_f (by decide) (br_t rfl ?_)))))))
      refine xw_bc ?_
      refine br_f (by decide) (br_f (by decide) (br_f (by decide) (br_f (by decide) (br_f (by decide) (br_f (by decide) (br_f (by decide) (br_t rfl ?_)))))))
      refine yw_asms (g := fun q => bt f_assumedTrue q || bt f_assumedFalse q) (by omega) (fun q hq => zz_a0 g9 hq) ?_
      refine ⟨?_, zz_in hR'⟩
      rw [zz_pcn (n := n) (fun q hq => g7 q (by rw [b_or, Bool.or_eq_true] at hq; exact hq)) (by omega)]
      rw [zz_pc_cg (fun q _ => b_or f_assumedTrue f_assumedFalse q)]
theorem i_vc_value {k : Nat} {u : SX} {v : SY} (I : i_Rel k u v) (hk : k + 5 ≤ 2564) (v1 : Int32) : wpX_value (fun r => wpY_value (fun r' v' => r' = r ∧ i_Rel (k + 5) u v') v v1) u v1 := by
  refine zz_el (P := fun u v => wpX_value (fun r => wpY_value (fun r' v' => r' = r ∧ i_Rel (k + 5) u v') v v1) u v1) ?_ I
  intro V A C D n m d lc f_goalEdge f_goalRest f_atomBits f_decided f_assumedTrue f_assumedFalse f_status f_presentTrue f_coreKnown f_coreClauses f_coreAtoms f_witnessClauses f_witnessAtoms f_learnedNext f_activeRests f_trueMask f_falseMask f_trailSize f_theoryHead f_level f_conflictAtoms f_conflictRests f_failedAtoms f_failedRests f_activeEdges a_kinds a_lefts a_rights a_bounds a_atomDepths a_literals a_literalCounts a_clausePos a_clauseNeg a_clauseDepths a_values a_learnedPos a_learnedNeg a_learnedRests a_trail a_levelStart a_levelAtoms a_reasonAtoms a_reasonRests a_edgeFrom a_edgeTo a_edgeWeight a_potential a_moved a_gamma a_via a_dist a_link y_model z_assumed z_literals z_clauseIn z_assumptionIn z_bound hR
  have hR' := hR
  obtain ⟨⟨b1, b2, b3, b4, b5, b6, b7, b8, b9⟩, hPD, hLC, hSS⟩ := hR
  unfold wpX_value wpY_value
  rcases Classical.em (∃ j, j < V ∧ v1 = nI j) with ⟨a, ha, rfl⟩ | hno
  · have ca : (nI a).toNatClampNeg = a := nI_clamp (by omega)
    refine xw_varT (by omega) ha ?_
    refine br_f (by decide) ?_
    refine br_c (fun h1 => And.intro (pk_in a 8 (by omega)) ?_) (fun h1 => ?_)
    · refine yw_varT (by omega) ha ?_
      refine br_f (by decide) (br_t h1 ?_)
      obtain ⟨hst, _⟩ := hSS
      rcases hst with z | ⟨_, t, t1, t2, t3, t4, s, t5, t6⟩ | ⟨z, _⟩
      · rw [z] at h1; exact absurd h1 (by decide)
      · have hp := (rl_pow n (by omega)).2
        rw [t2]
        refine yw_feas (by omega) hPD.1 (by omega) (by omega) (fun b c1 c2 => ?_) (fun b c1 => (c1 ⟨s, t5.1⟩).elim)
        have hs : s a = fw_mn (fw_T b a) V := by
          have := gs_uniq t5 (fw_gr c1 c2) a
          rw [if_pos ha] at this
          exact this
        have loop : ∀ f y (x2 : Int32), y ≤ V → V < f + y → x2.toInt = fw_mn (fw_T b a) y → wY_value_37 (fun r' v' => r' = a_values (nI a).toNatClampNeg ∧ i_Rel (k + 5) (f_goalEdge, f_goalRest, f_atomBits, f_decided, nI V, nI A, nI C, nI D, nI n, nI m, nI d, f_assumedTrue, f_assumedFalse, f_status, f_presentTrue, f_coreKnown, f_coreClauses, f_coreAtoms, f_witnessClauses, f_witnessAtoms, nI lc, f_learnedNext, f_activeRests, f_trueMask, f_falseMask, f_trailSize, f_theoryHead, f_level, f_conflictAtoms, f_conflictRests, f_failedAtoms, f_failedRests, f_activeEdges, 0, a_kinds, a_lefts, a_rights, a_bounds, a_atomDepths, a_literals, a_literalCounts, a_clausePos, a_clauseNeg, a_clauseDepths, a_values, a_learnedPos, a_learnedNeg, a_learnedRests, a_trail, a_levelStart, a_levelAtoms, a_reasonAtoms, a_reasonRests, a_edgeFrom, a_edgeTo, a_edgeWeight, a_potential, a_moved, a_gamma, a_via, a_dist, a_link) v') (nI a) (nI V) (nI A) (nI C) (nI D) (nI n) (nI m) (nI d) f_status (nI t) f_coreKnown a_kinds a_lefts a_rights a_bounds a_atomDepths z_assumed z_literals a_literalCounts a_clauseDepths z_clauseIn z_assumptionIn b f x2 (nI y) := by
          intro f
          induction f with
          | zero => intro y x2 h2 h3; omega
          | succ f ih =>
            intro y x2 hy hf hx
            refine pk_le V y (fun h => ?_) (fun h => ?_)
            · refine ⟨?_, ?_⟩
              · have : y = V := by omega
                rw [ca]
                refine Int32.toInt_inj.mp ?_
                rw [hx, this, t6 a (by omega), hs]
              · rw [← t2]; exact zz_in hR'
            · have e := zi_ix a y
              have c : (nI a * 8 + nI y).toNatClampNeg = a * 8 + y := by rw [e]; exact nI_clamp (by omega)
              have ii : vp_in (nI a * 8 + nI y) 64 := by rw [e]; exact vp_in_nI (by omega) (by omega)
              refine And.intro ii ?_
              rw [c]
              have hstep : fw_mn (fw_T b a) (y + 1) = if fw_T b a y < fw_mn (fw_T b a) y then fw_T b a y else fw_mn (fw_T b a) y := rfl
              refine br_c (fun h2 => nm_r (nI_1 y) (ih (y + 1) x2 (by omega) (by omega) ?_)) (fun h2 => And.intro ii (nm_e (nm_r (nI_1 y) (ih (y + 1) _ (by omega) (by omega) ?_))))
              · rw [zi_le] at h2
                rw [hstep, if_neg (by unfold fw_T; unfold fw_T at hx; omega)]; exact hx
              · rw [zi_le] at h2
                rw [hstep, if_pos (by unfold fw_T; unfold fw_T at hx; omega)]; rfl
        exact Exists.intro (V + 1) (loop (V + 1) 0 0 (by omega) (by omega) (by rw [zi_0]; rfl))
      · rw [z] at h1; exact absurd h1 (by decide)
    · refine yw_varT (by omega) ha ?_
      exact br_f (by decide) (br_f h1 ⟨rfl, zz_in hR'⟩)
  · refine xw_varF (by omega) hno ?_
    refine br_t rfl ?_
    refine yw_varF (by omega) hno ?_
    exact br_t rfl ⟨rfl, zz_in hR'⟩
end
section
def zz_add (ls : List Int32) (x : Int32) : List Int32 := if x = 0 ∨ x ∈ ls then ls else ls ++ [x]
theorem zz_add_t {ls : List Int32} {x : Int32} (h : x = 0 ∨ x ∈ ls) : zz_add ls x = ls := if_pos h
theorem zz_add_f {ls : List Int32} {x : Int32} (h : ¬ (x = 0 ∨ x ∈ ls)) : zz_add ls x = ls ++ [x] := if_neg h
theorem zz_add_len (ls : List Int32) (x : Int32) : (zz_add ls x).length ≤ ls.length + 1 := by
  rcases Classical.em (x = 0 ∨ x ∈ ls) with h | h
  · rw [zz_add_t h]; omega
  · rw [zz_add_f h, List.length_append]; simp
theorem zz_add_ok {n : Nat} {ls : List Int32} {x : Int32} (h : ∀ y, y ∈ ls → zz_ok n y) (hx : x = 0 ∨ zz_ok n x) : ∀ y, y ∈ zz_add ls x → zz_ok n y := by
  intro y hy
  rcases Classical.em (x = 0 ∨ x ∈ ls) with q | q
  · rw [zz_add_t q] at hy; exact h y hy
  · rw [zz_add_f q, List.mem_append, List.mem_singleton] at hy
    rcases hy with z | z
    · exact h y z
    · rw [z]
      rcases hx with w | w
      · exact (q (Or.inl w)).elim
      · exact w
theorem upd_upd {f : Nat → Int32} {k : Nat} {x y : Int32} : upd (upd f k x) k y = upd f k y := by
  funext j
  by_cases e : j = k
  · rw [e, pk_us, pk_us]
  · rw [pk_un e, pk_un e, pk_un e]
/-- the masks of a list of literals -/
def zz_mk (n : Nat) (ls : List Int32) (cp cn : Int32) : Prop := (∀ k, bt cp k = true ↔ (k < n ∧ nI (k + 1) ∈ ls)) ∧ (∀ k, bt cn k = true ↔ (k < n ∧ -(nI (k + 1)) ∈ ls))
theorem zz_gd_l {ls : List Int32} {x : Int32} {p : Nat} (h : p < ls.length) : (ls ++ [x]).getD p 0 = ls.getD p 0 := by
  simp only [List.getD_eq_getElem?_getD]
  rw [List.getElem?_append_left h]
theorem zz_gd_r {ls : List Int32} {x : Int32} : (ls ++ [x]).getD ls.length 0 = x := by
  simp [List.getD_eq_getElem?_getD]
theorem zz_gd_o {ls : List Int32} {p : Nat} (h : ls.length ≤ p) : ls.getD p 0 = 0 := by
  simp only [List.getD_eq_getElem?_getD]
  rw [List.getElem?_eq_none h]
  rfl
theorem zz_mem {ls : List Int32} {x : Int32} : x ∈ ls ↔ ∃ p, p < ls.length ∧ ls.getD p 0 = x := by
  rw [List.mem_iff_getElem]
  constructor
  · intro ⟨p, hp, e⟩
    exact ⟨p, hp, by simp [List.getD_eq_getElem?_getD, List.getElem?_eq_getElem hp, e]⟩
  · intro ⟨p, hp, e⟩
    refine ⟨p, hp, ?_⟩
    simp [List.getD_eq_getElem?_getD, List.getElem?_eq_getElem hp] at e
    exact e
section
variable {f_goalEdge f_goalRest f_atomBits f_decided f_maxVariables f_maxAtoms f_maxClauses f_maxDepth f_atomCount f_clauseCount f_depthNow f_assumedTrue f_assumedFalse f_status f_presentTrue f_coreKnown f_coreClauses f_coreAtoms f_witnessClauses f_witnessAtoms f_learnedCount f_learnedNext f_activeRests f_trueMask f_falseMask f_trailSize f_theoryHead f_level f_conflictAtoms f_conflictRests f_failedAtoms f_failedRests f_activeEdges f_goalOn : Int32} {a_kinds a_lefts a_rights a_bounds a_atomDepths a_literals a_literalCounts a_clausePos a_clauseNeg a_clauseDepths a_values a_learnedPos a_learnedNeg a_learnedRests a_trail a_levelStart a_levelAtoms a_reasonAtoms a_reasonRests a_edgeFrom a_edgeTo a_edgeWeight a_potential a_moved a_gamma a_via a_dist a_link : Nat → Int32}
variable {n m : Nat}
theorem xw_add {post : SX → Prop} {x cpm cnm : Int32} {ls : List Int32} {len0 cp0 cn0 : Nat → Int32} (hm : m < 24) (hn : n ≤ 10) (hl : ls.length ≤ 3) (hx : x = 0 ∨ zz_ok n x)
    (hlt : ∀ p, p < 4 → a_literals (m * 4 + p) = ls.getD p 0) (hmk : zz_mk n ls cpm cnm)
    (K : ∀ lt cp' cn', (∀ p, p < 4 → lt (m * 4 + p) = (zz_add ls x).getD p 0) → (∀ j, j < m * 4 → lt j = a_literals j) → zz_mk n (zz_add ls x) cp' cn' →
      post (f_goalEdge, f_goalRest, f_atomBits, f_decided, f_maxVariables, f_maxAtoms, f_maxClauses, f_maxDepth, f_atomCount, f_clauseCount, f_depthNow, f_assumedTrue, f_assumedFalse, f_status, f_presentTrue, f_coreKnown, f_coreClauses, f_coreAtoms, f_witnessClauses, f_witnessAtoms, f_learnedCount, f_learnedNext, f_activeRests, f_trueMask, f_falseMask, f_trailSize, f_theoryHead, f_level, f_conflictAtoms, f_conflictRests, f_failedAtoms, f_failedRests, f_activeEdges, f_goalOn, a_kinds, a_lefts, a_rights, a_bounds, a_atomDepths, lt, upd len0 m (nI (zz_add ls x).length), upd cp0 m cp', upd cn0 m cn', a_clauseDepths, a_values, a_learnedPos, a_learnedNeg, a_learnedRests, a_trail, a_levelStart, a_levelAtoms, a_reasonAtoms, a_reasonRests, a_edgeFrom, a_edgeTo, a_edgeWeight, a_potential, a_moved, a_gamma, a_via, a_dist, a_link)) :
    wpX_addLiteral post (f_goalEdge, f_goalRest, f_atomBits, f_decided, f_maxVariables, f_maxAtoms, f_maxClauses, f_maxDepth, f_atomCount, f_clauseCount, f_depthNow, f_assumedTrue, f_assumedFalse, f_status, f_presentTrue, f_coreKnown, f_coreClauses, f_coreAtoms, f_witnessClauses, f_witnessAtoms, f_learnedCount, f_learnedNext, f_activeRests, f_trueMask, f_falseMask, f_trailSize, f_theoryHead, f_level, f_conflictAtoms, f_conflictRests, f_failedAtoms, f_failedRests, f_activeEdges, f_goalOn, a_kinds, a_lefts, a_rights, a_bounds, a_atomDepths, a_literals, upd len0 m (nI ls.length), upd cp0 m cpm, upd cn0 m cnm, a_clauseDepths, a_values, a_learnedPos, a_learnedNeg, a_learnedRests, a_trail, a_levelStart, a_levelAtoms, a_reasonAtoms, a_reasonRests, a_edgeFrom, a_edgeTo, a_edgeWeight, a_potential, a_moved, a_gamma, a_via, a_dist, a_link) (nI m) x := by
  have cm : (nI m).toNatClampNeg = m := nI_clamp (by omega)
  have im : vp_in (nI m) 24 := pk_in m 24 hm
  rcases hx with h0 | hok
  · refine br_t h0 ?_
    have e := zz_add_t (ls := ls) (Or.inl h0)
    rw [e] at K
    exact K a_literals cpm cnm hlt (fun j _ => rfl) hmk
  · refine br_f (zz_lit_ok hn hok).2.2 ?_
    obtain ⟨k, hk, hlit⟩ := hok
    obtain ⟨z1, z2, z3, z4, z5, z6⟩ := zi_lpos (k := k) (by omega)
    refine xw_lb (by omega) hlit ?_
    -- the new place
    have put : ∀ cp' cn', ¬ (x = 0 ∨ x ∈ ls) → zz_mk n (ls ++ [x]) cp' cn' → wX_addLiteral_67 post (nI m) x f_goalEdge f_goalRest f_atomBits f_decided f_maxVariables f_maxAtoms f_maxClauses f_maxDepth f_atomCount f_clauseCount f_depthNow f_assumedTrue f_assumedFalse f_status f_presentTrue f_coreKnown f_coreClauses f_coreAtoms f_witnessClauses f_witnessAtoms f_learnedCount f_learnedNext f_activeRests f_trueMask f_falseMask f_trailSize f_theoryHead f_level f_conflictAtoms f_conflictRests f_failedAtoms f_failedRests f_activeEdges f_goalOn a_kinds a_lefts a_rights a_bounds a_atomDepths a_literals (upd len0 m (nI ls.length)) (upd cp0 m cp') (upd cn0 m cn') a_clauseDepths a_values a_learnedPos a_learnedNeg a_learnedRests a_trail a_levelStart a_levelAtoms a_reasonAtoms a_reasonRests a_edgeFrom a_edgeTo a_edgeWeight a_potential a_moved a_gamma a_via a_dist a_link := by
      intro cp' cn' hnew hmk'
      have e1 : upd len0 m (nI ls.length) (nI m).toNatClampNeg = nI ls.length := by rw [cm, pk_us]
      refine And.intro im ?_
      rw [e1]
      have e2 := zi_4i m ls.length
      have c2 : (4 * nI m + nI ls.length).toNatClampNeg = m * 4 + ls.length := by rw [e2]; exact nI_clamp (by omega)
      refine And.intro (by rw [e2]; exact vp_in_nI (by omega) (by omega)) (nm_e (And.intro im (And.intro im (nm_r (e' := upd len0 m (nI (ls.length + 1))) ?_ ?_))))
      · rw [cm, upd_upd, nI_1]
      · rw [c2]
        have e3 := zz_add_f hnew
        rw [e3] at K
        have e4 : (ls ++ [x]).length = ls.length + 1 := by simp
        rw [e4] at K
        refine K _ cp' cn' (fun p hp => ?_) (fun j hj => pk_un (by omega)) hmk'
        by_cases e : p = ls.length
        · rw [e, pk_us, zz_gd_r]
        · rw [pk_un (by omega)]
          rcases Nat.lt_or_ge p ls.length with q | q
          · rw [zz_gd_l q]; exact hlt p hp
          · rw [hlt p hp, zz_gd_o q, zz_gd_o (by rw [e4]; omega)]
    have same : x ∈ ls → post (f_goalEdge, f_goalRest, f_atomBits, f_decided, f_maxVariables, f_maxAtoms, f_maxClauses, f_maxDepth, f_atomCount, f_clauseCount, f_depthNow, f_assumedTrue, f_assumedFalse, f_status, f_presentTrue, f_coreKnown, f_coreClauses, f_coreAtoms, f_witnessClauses, f_witnessAtoms, f_learnedCount, f_learnedNext, f_activeRests, f_trueMask, f_falseMask, f_trailSize, f_theoryHead, f_level, f_conflictAtoms, f_conflictRests, f_failedAtoms, f_failedRests, f_activeEdges, f_goalOn, a_kinds, a_lefts, a_rights, a_bounds, a_atomDepths, a_literals, upd len0 m (nI ls.length), upd cp0 m cpm, upd cn0 m cnm, a_clauseDepths, a_values, a_learnedPos, a_learnedNeg, a_learnedRests, a_trail, a_levelStart, a_levelAtoms, a_reasonAtoms, a_reasonRests, a_edgeFrom, a_edgeTo, a_edgeWeight, a_potential, a_moved, a_gamma, a_via, a_dist, a_link) := by
      intro hin
      have e := zz_add_t (ls := ls) (x := x) (Or.inr hin)
      rw [e] at K
      exact K a_literals cpm cnm hlt (fun j _ => rfl) hmk
    obtain ⟨m1, m2⟩ := hmk
    rcases hlit with e | e
    · subst e
      refine br_f z1 (And.intro im ?_)
      rw [cm, pk_us]
      refine br_c (fun h1 => br_f z1 (And.intro im (And.intro im (nm_r (e' := upd cp0 m (cpm ||| (1 : Int32) <<< (nI k &&& 31))) ?_ (put _ _ ?_ ⟨fun q => ?_, fun q => ?_⟩))))) (fun h1 => same ?_)
      · rw [cm, pk_us, upd_upd]
      · intro hin
        rcases hin with z | z
        · exact (zz_lit_ok hn ⟨k, hk, Or.inl rfl⟩).2.2 z
        · have := (m1 k).mpr ⟨hk, z⟩
          rw [(zb_and1 (by omega)).mp h1] at this
          cases this
      · rw [b_or, Bool.or_eq_true, zb_bit (by omega), decide_eq_true_eq, m1 q, List.mem_append, List.mem_singleton]
        constructor
        · rintro (⟨a, b⟩ | z)
          · exact ⟨a, Or.inl b⟩
          · rw [z]; exact ⟨hk, Or.inr rfl⟩
        · rintro ⟨a, b | b⟩
          · exact Or.inl ⟨a, b⟩
          · exact Or.inr ((zi_linj (by omega) (by omega)).1 b)
      · rw [m2 q, List.mem_append, List.mem_singleton]
        refine ⟨fun ⟨a, b⟩ => ⟨a, Or.inl b⟩, fun ⟨a, b⟩ => ⟨a, ?_⟩⟩
        rcases b with b | b
        · exact b
        · exact ((zi_linj (by omega) (by omega)).2.2 b.symm).elim
      · have := zb_ft fun z => h1 ((zb_and1 (k := k) (by omega)).mpr z)
        exact ((m1 k).mp this).2
    · subst e
      refine br_t z4 (And.intro im ?_)
      rw [cm, pk_us]
      refine br_c (fun h1 => br_t z4 (And.intro im (And.intro im (nm_r (e' := upd cn0 m (cnm ||| (1 : Int32) <<< (nI k &&& 31))) ?_ (put _ _ ?_ ⟨fun q => ?_, fun q => ?_⟩))))) (fun h1 => same ?_)
      · rw [cm, pk_us, upd_upd]
      · intro hin
        rcases hin with z | z
        · exact (zz_lit_ok hn ⟨k, hk, Or.inr rfl⟩).2.2 z
        · have := (m2 k).mpr ⟨hk, z⟩
          rw [(zb_and1 (by omega)).mp h1] at this
          cases this
      · rw [m1 q, List.mem_append, List.mem_singleton]
        refine ⟨fun ⟨a, b⟩ => ⟨a, Or.inl b⟩, fun ⟨a, b⟩ => ⟨a, ?_⟩⟩
        rcases b with b | b
        · exact b
        · exact ((zi_linj (by omega) (by omega)).2.2 b).elim
      · rw [b_or, Bool.or_eq_true, zb_bit (by omega), decide_eq_true_eq, m2 q, List.mem_append, List.mem_singleton]
        constructor
        · rintro (⟨a, b⟩ | z)
          · exact ⟨a, Or.inl b⟩
          · rw [z]; exact ⟨hk, Or.inr rfl⟩
        · rintro ⟨a, b | b⟩
          · exact Or.inl ⟨a, b⟩
          · exact Or.inr ((zi_linj (by omega) (by omega)).2.1 b)
      · have := zb_ft fun z => h1 ((zb_and1 (k := k) (by omega)).mpr z)
        exact ((m2 k).mp this).2
end
section
variable {y_maxV y_maxA y_maxC y_maxD y_n y_m y_d y_status y_model y_hasCore : Int32} {z_kind z_atomX z_atomY z_atomC z_atomDepth z_assumed z_literals z_length z_clauseDepth z_clauseIn z_assumptionIn z_bound : Nat → Int32}
variable {n m : Nat}
theorem yw_keep {post : SY → Prop} {x : Int32} {ls : List Int32} {len0 : Nat → Int32} (hm : m < 24) (hl : ls.length ≤ 3)
    (hlt : ∀ p, p < ls.length → z_literals (m * 4 + p) = ls.getD p 0)
    (K : ∀ lt, (∀ p, p < (zz_add ls x).length → lt (m * 4 + p) = (zz_add ls x).getD p 0) → (∀ j, j < m * 4 → lt j = z_literals j) → post (y_maxV, y_maxA, y_maxC, y_maxD, y_n, nI m, y_d, y_status, y_model, y_hasCore, z_kind, z_atomX, z_atomY, z_atomC, z_atomDepth, z_assumed, lt, upd len0 m (nI (zz_add ls x).length), z_clauseDepth, z_clauseIn, z_assumptionIn, z_bound)) :
    wpY_keep post (y_maxV, y_maxA, y_maxC, y_maxD, y_n, nI m, y_d, y_status, y_model, y_hasCore, z_kind, z_atomX, z_atomY, z_atomC, z_atomDepth, z_assumed, z_literals, upd len0 m (nI ls.length), z_clauseDepth, z_clauseIn, z_assumptionIn, z_bound) x := by
  have cm : (nI m).toNatClampNeg = m := nI_clamp (by omega)
  have im : vp_in (nI m) 24 := pk_in m 24 hm
  refine br_c (fun h0 => ?_) (fun h0 => Exists.intro (ls.length + 1) ?_)
  · have e := zz_add_t (ls := ls) (Or.inl h0)
    rw [e] at K
    exact K z_literals hlt (fun j _ => rfl)
  · have key : ∀ f p, p ≤ ls.length → ls.length < f + p → (∀ q, q < p → ls.getD q 0 ≠ x) → wY_keep_7 post x y_maxV y_maxA y_maxC y_maxD y_n (nI m) y_d y_status y_model y_hasCore z_kind z_atomX z_atomY z_atomC z_atomDepth z_assumed z_literals (upd len0 m (nI ls.length)) z_clauseDepth z_clauseIn z_assumptionIn z_bound f (nI p) := by
      intro f
      induction f with
      | zero => intro p h1 h2; omega
      | succ f ih =>
        intro p hp hf hno
        have e1 : upd len0 m (nI ls.length) (nI m).toNatClampNeg = nI ls.length := by rw [cm, pk_us]
        refine And.intro im ?_
        rw [e1]
        refine pk_le ls.length p (fun h => And.intro im ?_) (fun h => ?_)
        · have e2 := zi_ix4 m ls.length
          have c2 : (nI m * 4 + nI ls.length).toNatClampNeg = m * 4 + ls.length := by rw [e2]; exact nI_clamp (by omega)
          refine And.intro (by rw [e2]; exact vp_in_nI (by omega) (by omega)) (nm_e (And.intro im (And.intro im (nm_r (e' := upd len0 m (nI (ls.length + 1))) ?_ ?_))))
          · rw [cm, upd_upd, nI_1]
          · rw [c2]
            have hnew : ¬ (x = 0 ∨ x ∈ ls) := by
              rintro (z | z)
              · exact h0 z
              · obtain ⟨q, q1, q2⟩ := zz_mem.mp z
                exact hno q (by omega) q2
            have e3 := zz_add_f hnew
            rw [e3] at K
            have e4 : (ls ++ [x]).length = ls.length + 1 := by simp
            rw [e4] at K
            refine K _ (fun q hq => ?_) (fun j hj => pk_un (by omega))
            by_cases e : q = ls.length
            · rw [e, pk_us, zz_gd_r]
            · rw [pk_un (by omega), zz_gd_l (by omega)]; exact hlt q (by omega)
        · have e2 := zi_ix4 m p
          have c2 : (nI m * 4 + nI p).toNatClampNeg = m * 4 + p := by rw [e2]; exact nI_clamp (by omega)
          refine And.intro (by rw [e2]; exact vp_in_nI (by omega) (by omega)) ?_
          rw [c2, hlt p h]
          refine br_c (fun h1 => ?_) (fun h1 => nm_r (nI_1 p) (ih (p + 1) (by omega) (by omega) (fun q hq => ?_)))
          · have e := zz_add_t (ls := ls) (x := x) (Or.inr (zz_mem.mpr ⟨p, h, h1⟩))
            rw [e] at K
            exact K z_literals hlt (fun j _ => rfl)
          · rcases Nat.lt_or_ge q p with w | w
            · exact hno q w
            · have : q = p := by omega
              subst this
              exact h1
    exact key (ls.length + 1) 0 (by omega) (by omega) (fun q hq => by omega)
end
end
section
theorem pd_clause {V n m d : Nat} {kd lf rt bd ad lt len cp cn cd lt' : Nat → Int32} {aT aF c1 c2 : Int32} {asm ltY ltY' : Nat → Int32} {ls : List Int32} (h : rl_PD V n m d kd lf rt bd ad lt len cp cn cd aT aF asm ltY) (hn : n ≤ 10) (hm : m < 24) (hd : d ≤ 6)
    (hl : ls.length ≤ 4) (hok : ∀ y, y ∈ ls → zz_ok n y) (hmk : zz_mk n ls c1 c2) (h1 : ∀ p, p < 4 → lt' (m * 4 + p) = ls.getD p 0) (h2 : ∀ j, j < m * 4 → lt' j = lt j)
    (h3 : ∀ p, p < ls.length → ltY' (m * 4 + p) = ls.getD p 0) (h4 : ∀ j, j < m * 4 → ltY' j = ltY j) :
    rl_PD V n (m + 1) d kd lf rt bd ad lt' (upd len m (nI ls.length)) (upd cp m c1) (upd cn m c2) (upd cd m (nI d)) aT aF asm ltY' := by
  obtain ⟨g1, g2, g3, g4, g5, g6, g7, g8, g9⟩ := h
  refine ⟨g1, g2, g3, fun i hi => ?_, fun i j hij hj => ?_, fun i hi => ?_, g7, g8, g9⟩
  · by_cases e : i = m
    · rw [e, pk_us]; exact ⟨d, Nat.le_refl _, rfl⟩
    · rw [pk_un e]; exact g4 i (by omega)
  · by_cases e : j = m
    · by_cases e' : i = m
      · rw [e, e']; exact Nat.le_refl _
      · rw [e, pk_us, pk_un e']
        obtain ⟨q, q1, q2⟩ := g4 i (by omega)
        rw [q2, nI_clamp (by omega), nI_clamp (by omega)]; exact q1
    · rw [pk_un e, pk_un (by omega)]; exact g5 i j hij (by omega)
  · by_cases e : i = m
    · subst e
      have cl : (nI ls.length).toNatClampNeg = ls.length := nI_clamp (by omega)
      rw [pk_us, pk_us, pk_us, pk_us, cl]
      refine ⟨rfl, hl, ⟨fun p hp => ?_, fun k => ?_, fun k => ?_⟩, fun p hp => ?_, fun p hp hp4 => ?_, fun k hk => ?_⟩
      · obtain ⟨k, hk, e⟩ := hok _ (zz_mem.mpr ⟨p, hp, rfl⟩)
        exact ⟨k, hk, by dsimp only; rw [h1 p (by omega)]; exact e⟩
      · rw [hmk.1 k, zz_mem]
        exact ⟨fun ⟨a, p, b, c⟩ => ⟨a, p, b, by dsimp only; rw [h1 p (by omega)]; exact c⟩, fun ⟨a, p, b, c⟩ => ⟨a, p, b, by dsimp only at c; rw [h1 p (by omega)] at c; exact c⟩⟩
      · rw [hmk.2 k, zz_mem]
        exact ⟨fun ⟨a, p, b, c⟩ => ⟨a, p, b, by dsimp only; rw [h1 p (by omega)]; exact c⟩, fun ⟨a, p, b, c⟩ => ⟨a, p, b, by dsimp only at c; rw [h1 p (by omega)] at c; exact c⟩⟩
      · rw [h1 p (by omega), h3 p hp]
      · rw [h1 p hp4, zz_gd_o hp]
      · have hkn : k < n := by
          rcases hk with z | z
          · exact ((hmk.1 k).mp z).1
          · exact ((hmk.2 k).mp z).1
        obtain ⟨q, q1, q2⟩ := g2 k hkn
        rw [q2, nI_clamp (by omega), nI_clamp (by omega)]; exact q1
    · rw [pk_un e, pk_un e, pk_un e, pk_un e]
      obtain ⟨k1, k2, ⟨k3, k4, k5⟩, k6, k7, k8⟩ := g6 i (by omega)
      have hlt : ∀ p, p < 4 → lt' (i * 4 + p) = lt (i * 4 + p) := fun p hp => h2 _ (by omega)
      refine ⟨k1, k2, ⟨fun p hp => ?_, fun k => ?_, fun k => ?_⟩, fun p hp => ?_, fun p hp hp4 => ?_, k8⟩
      · dsimp only; rw [hlt p (by omega)]; exact k3 p hp
      · rw [k4 k]
        exact ⟨fun ⟨a, p, b, c⟩ => ⟨a, p, b, by dsimp only; rw [hlt p (by omega)]; exact c⟩, fun ⟨a, p, b, c⟩ => ⟨a, p, b, by dsimp only at c; rw [hlt p (by omega)] at c; exact c⟩⟩
      · rw [k5 k]
        exact ⟨fun ⟨a, p, b, c⟩ => ⟨a, p, b, by dsimp only; rw [hlt p (by omega)]; exact c⟩, fun ⟨a, p, b, c⟩ => ⟨a, p, b, by dsimp only at c; rw [hlt p (by omega)] at c; exact c⟩⟩
      · rw [hlt p (by omega), h4 _ (by omega)]; exact k6 p hp
      · rw [hlt p hp4]; exact k7 p hp hp4
theorem lc_clause {n m lc : Nat} {kd lf rt bd cp cn lp ln lr : Nat → Int32} {c1 c2 : Int32} (h : cd_LC (ds_M n m kd lf rt bd cp cn (fun _ => True)) n m false lc lp ln lr) :
    cd_LC (ds_M n (m + 1) kd lf rt bd (upd cp m c1) (upd cn m c2) (fun _ => True)) n (m + 1) false lc lp ln lr := by
  intro i hi
  obtain ⟨⟨h1, h2⟩, h3⟩ := h i hi
  refine ⟨⟨h1, fun τ ⟨s, m1, m2, m3⟩ => h2 τ ⟨s, m1, fun j hj hb => ?_, m3⟩⟩, fun q hq => ?_⟩
  · have := m2 j (by omega) hb
    rw [pk_un (by omega), pk_un (by omega)] at this
    exact this
  · rcases h3 q hq with z | z
    · exact Or.inl (by omega)
    · exact Or.inr z
section
variable {f_goalEdge f_goalRest f_atomBits f_decided f_maxVariables f_maxAtoms f_maxClauses f_maxDepth f_atomCount f_clauseCount f_depthNow f_assumedTrue f_assumedFalse f_status f_presentTrue f_coreKnown f_coreClauses f_coreAtoms f_witnessClauses f_witnessAtoms f_learnedCount f_learnedNext f_activeRests f_trueMask f_falseMask f_trailSize f_theoryHead f_level f_conflictAtoms f_conflictRests f_failedAtoms f_failedRests f_activeEdges f_goalOn : Int32} {a_kinds a_lefts a_rights a_bounds a_atomDepths a_literals a_literalCounts a_clausePos a_clauseNeg a_clauseDepths a_values a_learnedPos a_learnedNeg a_learnedRests a_trail a_levelStart a_levelAtoms a_reasonAtoms a_reasonRests a_edgeFrom a_edgeTo a_edgeWeight a_potential a_moved a_gamma a_via a_dist a_link : Nat → Int32}
variable {n m C d : Nat}
theorem xw_cl58 {post : Int32 → SX → Prop} {x1 x2 x3 x4 : Int32} (hn : n ≤ 10) (hm : m < 24) (h1 : x1 = 0 ∨ zz_ok n x1) (h2 : x2 = 0 ∨ zz_ok n x2) (h3 : x3 = 0 ∨ zz_ok n x3) (h4 : x4 = 0 ∨ zz_ok n x4)
    (K : ∀ lt c1 c2, (∀ p, p < 4 → lt (m * 4 + p) = (zz_add (zz_add (zz_add (zz_add [] x1) x2) x3) x4).getD p 0) → (∀ j, j < m * 4 → lt j = a_literals j) → zz_mk n (zz_add (zz_add (zz_add (zz_add [] x1) x2) x3) x4) c1 c2 →
      post (nI m) (f_goalEdge, f_goalRest, f_atomBits, f_decided, f_maxVariables, f_maxAtoms, f_maxClauses, f_maxDepth, f_atomCount, nI (m + 1), nI d, f_assumedTrue, f_assumedFalse, 0, 0, 0, 0, 0, f_witnessClauses, f_witnessAtoms, f_learnedCount, f_learnedNext, f_activeRests, f_trueMask, f_falseMask, f_trailSize, f_theoryHead, f_level, f_conflictAtoms, f_conflictRests, f_failedAtoms, f_failedRests, f_activeEdges, f_goalOn, a_kinds, a_lefts, a_rights, a_bounds, a_atomDepths, lt, upd a_literalCounts m (nI (zz_add (zz_add (zz_add (zz_add [] x1) x2) x3) x4).length), upd a_clausePos m c1, upd a_clauseNeg m c2, upd a_clauseDepths m (nI d), a_values, a_learnedPos, a_learnedNeg, a_learnedRests, a_trail, a_levelStart, a_levelAtoms, a_reasonAtoms, a_reasonRests, a_edgeFrom, a_edgeTo, a_edgeWeight, a_potential, a_moved, a_gamma, a_via, a_dist, a_link)) :
    ∀ f i lt, i ≤ 4 → 4 < f + i → (∀ p, p < i → lt (m * 4 + p) = 0) → (∀ j, j < m * 4 → lt j = a_literals j) →
      wX_clause_82 post x1 x2 x3 x4 (nI m) f_goalEdge f_goalRest f_atomBits f_decided f_maxVariables f_maxAtoms f_maxClauses f_maxDepth f_atomCount (nI m) (nI d) f_assumedTrue f_assumedFalse f_status f_presentTrue f_coreKnown f_coreClauses f_coreAtoms f_witnessClauses f_witnessAtoms f_learnedCount f_learnedNext f_activeRests f_trueMask f_falseMask f_trailSize f_theoryHead f_level f_conflictAtoms f_conflictRests f_failedAtoms f_failedRests f_activeEdges f_goalOn f (nI i) a_kinds a_lefts a_rights a_bounds a_atomDepths lt a_literalCounts a_clausePos a_clauseNeg a_clauseDepths a_values a_learnedPos a_learnedNeg a_learnedRests a_trail a_levelStart a_levelAtoms a_reasonAtoms a_reasonRests a_edgeFrom a_edgeTo a_edgeWeight a_potential a_moved a_gamma a_via a_dist a_link := by
  have cm : (nI m).toNatClampNeg = m := nI_clamp (by omega)
  have im : vp_in (nI m) 24 := pk_in m 24 hm
  intro f
  induction f with
  | zero => intro i lt q1 q2; omega
  | succ f ih =>
    intro i lt hi hf hz hfr
    refine pk_le 4 i (fun h => And.intro im (nm_e (And.intro im (nm_e (And.intro im (nm_e (And.intro im (nm_e ?_)))))))) (fun h => ?_)
    · rw [cm]
      have l1 := zz_add_len [] x1
      have l2 := zz_add_len (zz_add [] x1) x2
      have l3 := zz_add_len (zz_add (zz_add [] x1) x2) x3
      have l0 : ([] : List Int32).length = 0 := rfl
      refine xw_add (n := n) (m := m) (ls := []) hm hn (by omega) h1 (fun p hp => by rw [hz p (by omega)]; rfl) ⟨fun k => by rw [b_0]; simp, fun k => by rw [b_0]; simp⟩ (fun lt1 c1 c1' p1 p2 p3 => ?_)
      refine xw_add (n := n) (m := m) (ls := zz_add [] x1) hm hn (by omega) h2 p1 p3 (fun lt2 c2 c2' q1 q2 q3 => ?_)
      refine xw_add (n := n) (m := m) (ls := zz_add (zz_add [] x1) x2) hm hn (by omega) h3 q1 q3 (fun lt3 c3 c3' r1 r2 r3 => ?_)
      refine xw_add (n := n) (m := m) (ls := zz_add (zz_add (zz_add [] x1) x2) x3) hm hn (by omega) h4 r1 r3 (fun lt4 c4 c4' s1 s2 s3 => nm_r (nI_1 m) ?_)
      exact K lt4 c4 c4' s1 (fun j hj => by rw [s2 j hj, r2 j hj, q2 j hj, p2 j hj, hfr j hj]) s3
    · have e := zi_4i m i
      have c : (4 * nI m + nI i).toNatClampNeg = m * 4 + i := by rw [e]; exact nI_clamp (by omega)
      refine And.intro (by rw [e]; exact vp_in_nI (by omega) (by omega)) (nm_e (nm_r (nI_1 i) ?_))
      rw [c]
      refine ih (i + 1) _ (by omega) (by omega) (fun p hp => ?_) (fun j hj => ?_)
      · by_cases e : p = i
        · rw [e, pk_us]
        · rw [pk_un (by omega)]; exact hz p (by omega)
      · rw [pk_un (by omega)]; exact hfr j hj
/-- behind the checks -/
theorem xw_cl0 {post : Int32 → SX → Prop} {x1 x2 x3 x4 : Int32} (hn : n ≤ 10) (h1 : x1 = 0 ∨ zz_ok n x1) (h2 : x2 = 0 ∨ zz_ok n x2) (h3 : x3 = 0 ∨ zz_ok n x3) (h4 : x4 = 0 ∨ zz_ok n x4)
    (K0 : (x1 = 0 ∧ x2 = 0 ∧ x3 = 0 ∧ x4 = 0) → post (-1008) (f_goalEdge, f_goalRest, f_atomBits, f_decided, f_maxVariables, f_maxAtoms, f_maxClauses, f_maxDepth, nI n, f_clauseCount, f_depthNow, f_assumedTrue, f_assumedFalse, f_status, f_presentTrue, f_coreKnown, f_coreClauses, f_coreAtoms, f_witnessClauses, f_witnessAtoms, f_learnedCount, f_learnedNext, f_activeRests, f_trueMask, f_falseMask, f_trailSize, f_theoryHead, f_level, f_conflictAtoms, f_conflictRests, f_failedAtoms, f_failedRests, f_activeEdges, f_goalOn, a_kinds, a_lefts, a_rights, a_bounds, a_atomDepths, a_literals, a_literalCounts, a_clausePos, a_clauseNeg, a_clauseDepths, a_values, a_learnedPos, a_learnedNeg, a_learnedRests, a_trail, a_levelStart, a_levelAtoms, a_reasonAtoms, a_reasonRests, a_edgeFrom, a_edgeTo, a_edgeWeight, a_potential, a_moved, a_gamma, a_via, a_dist, a_link)) (K : ¬ (x1 = 0 ∧ x2 = 0 ∧ x3 = 0 ∧ x4 = 0) → wX_clause_58 post x1 x2 x3 x4 f_goalEdge f_goalRest f_atomBits f_decided f_maxVariables f_maxAtoms f_maxClauses f_maxDepth (nI n) f_clauseCount f_depthNow f_assumedTrue f_assumedFalse f_status f_presentTrue f_coreKnown f_coreClauses f_coreAtoms f_witnessClauses f_witnessAtoms f_learnedCount f_learnedNext f_activeRests f_trueMask f_falseMask f_trailSize f_theoryHead f_level f_conflictAtoms f_conflictRests f_failedAtoms f_failedRests f_activeEdges f_goalOn a_kinds a_lefts a_rights a_bounds a_atomDepths a_literals a_literalCounts a_clausePos a_clauseNeg a_clauseDepths a_values a_learnedPos a_learnedNeg a_learnedRests a_trail a_levelStart a_levelAtoms a_reasonAtoms a_reasonRests a_edgeFrom a_edgeTo a_edgeWeight a_potential a_moved a_gamma a_via a_dist a_link) :
    wpX_clause post (f_goalEdge, f_goalRest, f_atomBits, f_decided, f_maxVariables, f_maxAtoms, f_maxClauses, f_maxDepth, nI n, f_clauseCount, f_depthNow, f_assumedTrue, f_assumedFalse, f_status, f_presentTrue, f_coreKnown, f_coreClauses, f_coreAtoms, f_witnessClauses, f_witnessAtoms, f_learnedCount, f_learnedNext, f_activeRests, f_trueMask, f_falseMask, f_trailSize, f_theoryHead, f_level, f_conflictAtoms, f_conflictRests, f_failedAtoms, f_failedRests, f_activeEdges, f_goalOn, a_kinds, a_lefts, a_rights, a_bounds, a_atomDepths, a_literals, a_literalCounts, a_clausePos, a_clauseNeg, a_clauseDepths, a_values, a_learnedPos, a_learnedNeg, a_learnedRests, a_trail, a_levelStart, a_levelAtoms, a_reasonAtoms, a_reasonRests, a_edgeFrom, a_edgeTo, a_edgeWeight, a_potential, a_moved, a_gamma, a_via, a_dist, a_link) x1 x2 x3 x4 := by
  unfold wpX_clause
  refine xw_litT hn h1 ?_
  refine br_f (by decide) ?_
  refine xw_litT hn h2 ?_
  refine br_f (by decide) ?_
  refine xw_litT hn h3 ?_
  refine br_f (by decide) ?_
  refine xw_litT hn h4 ?_
  refine br_f (by decide) ?_
  exact br_c (fun e1 => br_c (fun e2 => br_c (fun e3 => br_c (fun e4 => K0 ⟨e1, e2, e3, e4⟩) (fun e4 => K (fun z => e4 z.2.2.2))) (fun e3 => K (fun z => e3 z.2.2.1))) (fun e2 => K (fun z => e2 z.2.1))) (fun e1 => K (fun z => e1 z.1))
end
section
variable {y_maxV y_maxA y_maxC y_maxD y_n y_m y_d y_status y_model y_hasCore : Int32} {z_kind z_atomX z_atomY z_atomC z_atomDepth z_assumed z_literals z_length z_clauseDepth z_clauseIn z_assumptionIn z_bound : Nat → Int32}
variable {n m C d : Nat}
theorem yw_cl0 {post : Int32 → SY → Prop} {x1 x2 x3 x4 : Int32} (hn : n ≤ 10) (h1 : x1 = 0 ∨ zz_ok n x1) (K : wY_clause_16 post x1 x2 x3 x4 y_maxV y_maxA y_maxC y_maxD (nI n) y_m y_d y_status y_model y_hasCore z_kind z_atomX z_atomY z_atomC z_atomDepth z_assumed z_literals z_length z_clauseDepth z_clauseIn z_assumptionIn z_bound) : wpY_clause post (y_maxV, y_maxA, y_maxC, y_maxD, nI n, y_m, y_d, y_status, y_model, y_hasCore, z_kind, z_atomX, z_atomY, z_atomC, z_atomDepth, z_assumed, z_literals, z_length, z_clauseDepth, z_clauseIn, z_assumptionIn, z_bound) x1 x2 x3 x4 := by
  rcases h1 with e | e
  · exact br_t e K
  · exact br_f (zz_lit_ok hn e).2.2 (yw_litT hn e (br_f (by decide) K))
theorem yw_cl16 {post : Int32 → SY → Prop} {x1 x2 x3 x4 : Int32} (hn : n ≤ 10) (h1 : x2 = 0 ∨ zz_ok n x2) (K : wY_clause_32 post x1 x2 x3 x4 y_maxV y_maxA y_maxC y_maxD (nI n) y_m y_d y_status y_model y_hasCore z_kind z_atomX z_atomY z_atomC z_atomDepth z_assumed z_literals z_length z_clauseDepth z_clauseIn z_assumptionIn z_bound) : wY_clause_16 post x1 x2 x3 x4 y_maxV y_maxA y_maxC y_maxD (nI n) y_m y_d y_status y_model y_hasCore z_kind z_atomX z_atomY z_atomC z_atomDepth z_assumed z_literals z_length z_clauseDepth z_clauseIn z_assumptionIn z_bound := by
  rcases h1 with e | e
  · exact br_t e K
  · exact br_f (zz_lit_ok hn e).2.2 (yw_litT hn e (br_f (by decide) K))
theorem yw_cl32 {post : Int32 → SY → Prop} {x1 x2 x3 x4 : Int32} (hn : n ≤ 10) (h1 : x3 = 0 ∨ zz_ok n x3) (K : wY_clause_48 post x1 x2 x3 x4 y_maxV y_maxA y_maxC y_maxD (nI n) y_m y_d y_status y_model y_hasCore z_kind z_atomX z_atomY z_atomC z_atomDepth z_assumed z_literals z_length z_clauseDepth z_clauseIn z_assumptionIn z_bound) : wY_clause_32 post x1 x2 x3 x4 y_maxV y_maxA y_maxC y_maxD (nI n) y_m y_d y_status y_model y_hasCore z_kind z_atomX z_atomY z_atomC z_atomDepth z_assumed z_literals z_length z_clauseDepth z_clauseIn z_assumptionIn z_bound := by
  rcases h1 with e | e
  · exact br_t e K
  · exact br_f (zz_lit_ok hn e).2.2 (yw_litT hn e (br_f (by decide) K))
theorem yw_cl48 {post : Int32 → SY → Prop} {x1 x2 x3 x4 : Int32} (hn : n ≤ 10) (h1 : x4 = 0 ∨ zz_ok n x4) (K : wY_clause_66 post x1 x2 x3 x4 y_maxV y_maxA y_maxC y_maxD (nI n) y_m y_d y_status y_model y_hasCore z_kind z_atomX z_atomY z_atomC z_atomDepth z_assumed z_literals z_length z_clauseDepth z_clauseIn z_assumptionIn z_bound) : wY_clause_48 post x1 x2 x3 x4 y_maxV y_maxA y_maxC y_maxD (nI n) y_m y_d y_status y_model y_hasCore z_kind z_atomX z_atomY z_atomC z_atomDepth z_assumed z_literals z_length z_clauseDepth z_clauseIn z_assumptionIn z_bound := by
  rcases h1 with e | e
  · exact br_t e K
  · exact br_f (zz_lit_ok hn e).2.2 (yw_litT hn e (br_f (by decide) K))
theorem yw_cl66 {post : Int32 → SY → Prop} {x1 x2 x3 x4 : Int32} (K0 : (x1 = 0 ∧ x2 = 0 ∧ x3 = 0 ∧ x4 = 0) → post (-1008) (y_maxV, y_maxA, y_maxC, y_maxD, y_n, y_m, y_d, y_status, y_model, y_hasCore, z_kind, z_atomX, z_atomY, z_atomC, z_atomDepth, z_assumed, z_literals, z_length, z_clauseDepth, z_clauseIn, z_assumptionIn, z_bound)) (K : ¬ (x1 = 0 ∧ x2 = 0 ∧ x3 = 0 ∧ x4 = 0) → wY_clause_87 post x1 x2 x3 x4 y_maxV y_maxA y_maxC y_maxD y_n y_m y_d y_status y_model y_hasCore z_kind z_atomX z_atomY z_atomC z_atomDepth z_assumed z_literals z_length z_clauseDepth z_clauseIn z_assumptionIn z_bound) : wY_clause_66 post x1 x2 x3 x4 y_maxV y_maxA y_maxC y_maxD y_n y_m y_d y_status y_model y_hasCore z_kind z_atomX z_atomY z_atomC z_atomDepth z_assumed z_literals z_length z_clauseDepth z_clauseIn z_assumptionIn z_bound :=
  br_c (fun e1 => br_c (fun e2 => br_c (fun e3 => br_c (fun e4 => K0 ⟨e1, e2, e3, e4⟩) (fun e4 => K (fun z => e4 z.2.2.2))) (fun e3 => K (fun z => e3 z.2.2.1))) (fun e2 => K (fun z => e2 z.2.1))) (fun e1 => K (fun z => e1 z.1))
theorem yw_cl87 {post : Int32 → SY → Prop} {x1 x2 x3 x4 : Int32} (hm : m < 24) (hC : C ≤ 24) (hne : m ≠ C)
    (K : ∀ lt, (∀ p, p < (zz_add (zz_add (zz_add (zz_add [] x1) x2) x3) x4).length → lt (m * 4 + p) = (zz_add (zz_add (zz_add (zz_add [] x1) x2) x3) x4).getD p 0) → (∀ j, j < m * 4 → lt j = z_literals j) →
      post (nI m) (y_maxV, y_maxA, nI C, y_maxD, y_n, nI (m + 1), nI d, 0, 0, 0, z_kind, z_atomX, z_atomY, z_atomC, z_atomDepth, z_assumed, lt, upd z_length m (nI (zz_add (zz_add (zz_add (zz_add [] x1) x2) x3) x4).length), upd z_clauseDepth m (nI d), z_clauseIn, z_assumptionIn, z_bound)) :
    wY_clause_87 post x1 x2 x3 x4 y_maxV y_maxA (nI C) y_maxD y_n (nI m) (nI d) y_status y_model y_hasCore z_kind z_atomX z_atomY z_atomC z_atomDepth z_assumed z_literals z_length z_clauseDepth z_clauseIn z_assumptionIn z_bound := by
  have cm : (nI m).toNatClampNeg = m := nI_clamp (by omega)
  have im : vp_in (nI m) 24 := pk_in m 24 hm
  have l1 := zz_add_len [] x1
  have l2 := zz_add_len (zz_add [] x1) x2
  have l3 := zz_add_len (zz_add (zz_add [] x1) x2) x3
  have l0 : ([] : List Int32).length = 0 := rfl
  refine pk_eq m C (fun e => (hne e).elim) (fun _ => And.intro im (nm_e ?_))
  rw [cm]
  refine yw_keep (m := m) (ls := []) hm (by omega) (fun p hp => by omega) (fun lt1 p1 p2 => ?_)
  refine yw_keep (m := m) (ls := zz_add [] x1) hm (by omega) p1 (fun lt2 q1 q2 => ?_)
  refine yw_keep (m := m) (ls := zz_add (zz_add [] x1) x2) hm (by omega) q1 (fun lt3 r1 r2 => ?_)
  refine yw_keep (m := m) (ls := zz_add (zz_add (zz_add [] x1) x2) x3) hm (by omega) r1 (fun lt4 s1 s2 => And.intro im (nm_e (nm_r (nI_1 m) ?_)))
  rw [cm]
  show post (nI (m + 1) - 1) _
  rw [nI_pred]
  exact K lt4 s1 (fun j hj => by rw [s2 j hj, r2 j hj, q2 j hj, p2 j hj])
end
theorem i_vc_clause {k : Nat} {u : SX} {v : SY} (I : i_Rel k u v) (hk : k + 5 ≤ 2564) (v1 : Int32) (v2 : Int32) (v3 : Int32) (v4 : Int32) : wpX_clause (fun r u' => wpY_clause (fun r' v' => r' = r ∧ i_Rel (k + 5) u' v') v v1 v2 v3 v4) u v1 v2 v3 v4 := by
  refine zz_el (P := fun u v => wpX_clause (fun r u' => wpY_clause (fun r' v' => r' = r ∧ i_Rel (k + 5) u' v') v v1 v2 v3 v4) u v1 v2 v3 v4) ?_ I
  intro V A C D n m d lc f_goalEdge f_goalRest f_atomBits f_decided f_assumedTrue f_assumedFalse f_status f_presentTrue f_coreKnown f_coreClauses f_coreAtoms f_witnessClauses f_witnessAtoms f_learnedNext f_activeRests f_trueMask f_falseMask f_trailSize f_theoryHead f_level f_conflictAtoms f_conflictRests f_failedAtoms f_failedRests f_activeEdges a_kinds a_lefts a_rights a_bounds a_atomDepths a_literals a_literalCounts a_clausePos a_clauseNeg a_clauseDepths a_values a_learnedPos a_learnedNeg a_learnedRests a_trail a_levelStart a_levelAtoms a_reasonAtoms a_reasonRests a_edgeFrom a_edgeTo a_edgeWeight a_potential a_moved a_gamma a_via a_dist a_link y_model z_assumed z_literals z_clauseIn z_assumptionIn z_bound hR
  have hR' := hR
  obtain ⟨⟨b1, b2, b3, b4, b5, b6, b7, b8, b9⟩, hPD, hLC, hSS⟩ := hR
  have hn : n ≤ 10 := by omega
  have cases3 : ∀ x, (x < -(nI n) ∨ nI n < x) ∨ (x = 0 ∨ zz_ok n x) := fun x => zz_lit hn x
  rcases cases3 v1 with w1 | w1
  · unfold wpX_clause
    refine xw_litF w1 ?_
    refine br_t rfl ?_
    refine br_f (zz_lit_bad hn w1).1 ?_
    refine yw_litF (Or.inl w1) ?_
    exact br_t rfl ⟨rfl, zz_in hR'⟩
  rcases cases3 v2 with w2 | w2
  · unfold wpX_clause
    refine xw_litT hn w1 ?_
    refine br_f (by decide) ?_
    refine xw_litF w2 ?_
    refine br_t rfl ?_
    refine yw_cl0 hn w1 ?_
    refine br_f (zz_lit_bad hn w2).1 ?_
    refine yw_litF (Or.inl w2) ?_
    exact br_t rfl ⟨rfl, zz_in hR'⟩
  rcases cases3 v3 with w3 | w3
  · unfold wpX_clause
    refine xw_litT hn w1 ?_
    refine br_f (by decide) ?_
    refine xw_litT hn w2 ?_
    refine br_f (by decide) ?_
    refine xw_litF w3 ?_
    refine br_t rfl ?_
    refine yw_cl0 hn w1 (yw_cl16 hn w2 ?_)
    refine br_f (zz_lit_bad hn w3).1 ?_
    refine yw_litF (Or.inl w3) ?_
    exact br_t rfl ⟨rfl, zz_in hR'⟩
  rcases cases3 v4 with w4 | w4
  · unfold wpX_clause
    refine xw_litT hn w1 ?_
    refine br_f (by decide) ?_
    refine xw_litT hn w2 ?_
    refine br_f (by decide) ?_
    refine xw_litT hn w3 ?_
    refine br_f (by decide) ?_
    refine xw_litF w4 ?_
    refine br_t rfl ?_
    refine yw_cl0 hn w1 (yw_cl16 hn w2 (yw_cl32 hn w3 ?_))
    refine br_f (zz_lit_bad hn w4).1 ?_
    refine yw_litF (Or.inl w4) ?_
    exact br_t rfl ⟨rfl, zz_in hR'⟩
  refine xw_cl0 hn w1 w2 w3 w4 (fun hz => ?_) (fun hz => ?_)
  · exact yw_cl0 hn w1 (yw_cl16 hn w2 (yw_cl32 hn w3 (yw_cl48 hn w4 (yw_cl66 (fun _ => ⟨rfl, zz_in hR'⟩) (fun q => (q hz).elim)))))
  · refine pk_lt m C (fun h => Exists.intro 5 (xw_cl58 hn (by omega) w1 w2 w3 w4 (fun lt c1 c2 p1 p2 p3 => ?_) 5 0 a_literals (by omega) (by omega) (fun p hp => by omega) (fun j _ => rfl))) (fun h => ?_)
    · refine yw_cl0 hn w1 (yw_cl16 hn w2 (yw_cl32 hn w3 (yw_cl48 hn w4 (yw_cl66 (fun q => (hz q).elim) (fun _ => yw_cl87 (by omega) b6 (by omega) (fun lt' q1 q2 => ⟨rfl, ?_⟩))))))
      have l1 := zz_add_len [] v1
      have l2 := zz_add_len (zz_add [] v1) v2
      have l3 := zz_add_len (zz_add (zz_add [] v1) v2) v3
      have l4 := zz_add_len (zz_add (zz_add (zz_add [] v1) v2) v3) v4
      have l0 : ([] : List Int32).length = 0 := rfl
      exact zz_in ⟨⟨b1, b2, b3, b4, by omega, b6, b7, b8, b9⟩, pd_clause hPD hn (by omega) (by omega) (by omega) (zz_add_ok (zz_add_ok (zz_add_ok (zz_add_ok (fun y hy => by simp at hy) w1) w2) w3) w4) p3 p1 p2 q1 q2, lc_clause hLC, Or.inl rfl, Or.inl rfl⟩
    · exact yw_cl0 hn w1 (yw_cl16 hn w2 (yw_cl32 hn w3 (yw_cl48 hn w4 (yw_cl66 (fun q => (hz q).elim) (fun _ => pk_eq m C (fun e => ⟨rfl, zz_in hR'⟩) (fun e => by omega))))))
end
section
section
variable {f_goalEdge f_goalRest f_atomBits f_decided f_maxVariables f_maxAtoms f_maxClauses f_maxDepth f_atomCount f_clauseCount f_depthNow f_assumedTrue f_assumedFalse f_status f_presentTrue f_coreKnown f_coreClauses f_coreAtoms f_witnessClauses f_witnessAtoms f_learnedCount f_learnedNext f_activeRests f_trueMask f_falseMask f_trailSize f_theoryHead f_level f_conflictAtoms f_conflictRests f_failedAtoms f_failedRests f_activeEdges f_goalOn : Int32} {a_kinds a_lefts a_rights a_bounds a_atomDepths a_literals a_literalCounts a_clausePos a_clauseNeg a_clauseDepths a_values a_learnedPos a_learnedNeg a_learnedRests a_trail a_levelStart a_levelAtoms a_reasonAtoms a_reasonRests a_edgeFrom a_edgeTo a_edgeWeight a_potential a_moved a_gamma a_via a_dist a_link : Nat → Int32}
variable {n m lc d : Nat}
theorem xw_drop {post : SX → Prop} (hn : n ≤ 10) (hm : m ≤ 24) (hlc : lc ≤ 128)
    (K : ∀ (lc' : Nat) (a_learnedPos' a_learnedNeg' a_learnedRests' : Nat → Int32), lc' ≤ lc → (∀ i, i < lc' → ∃ j, j < lc ∧ a_learnedPos' i = a_learnedPos j ∧ a_learnedNeg' i = a_learnedNeg j ∧ a_learnedRests' i = a_learnedRests j ∧ (∀ q, bt (a_learnedPos j) q = true ∨ bt (a_learnedNeg j) q = true → q < n) ∧ (∀ q, bt (a_learnedRests j) q = true → q < m)) →
      post (f_goalEdge, f_goalRest, f_atomBits, f_decided, f_maxVariables, f_maxAtoms, f_maxClauses, f_maxDepth, nI n, nI m, f_depthNow, f_assumedTrue, f_assumedFalse, f_status, f_presentTrue, f_coreKnown, f_coreClauses, f_coreAtoms, f_witnessClauses, f_witnessAtoms, nI lc', 0, f_activeRests, f_trueMask, f_falseMask, f_trailSize, f_theoryHead, f_level, f_conflictAtoms, f_conflictRests, f_failedAtoms, f_failedRests, f_activeEdges, f_goalOn, a_kinds, a_lefts, a_rights, a_bounds, a_atomDepths, a_literals, a_literalCounts, a_clausePos, a_clauseNeg, a_clauseDepths, a_values, a_learnedPos', a_learnedNeg', a_learnedRests', a_trail, a_levelStart, a_levelAtoms, a_reasonAtoms, a_reasonRests, a_edgeFrom, a_edgeTo, a_edgeWeight, a_potential, a_moved, a_gamma, a_via, a_dist, a_link)) :
    wpX_dropStaleLearned post (f_goalEdge, f_goalRest, f_atomBits, f_decided, f_maxVariables, f_maxAtoms, f_maxClauses, f_maxDepth, nI n, nI m, f_depthNow, f_assumedTrue, f_assumedFalse, f_status, f_presentTrue, f_coreKnown, f_coreClauses, f_coreAtoms, f_witnessClauses, f_witnessAtoms, nI lc, f_learnedNext, f_activeRests, f_trueMask, f_falseMask, f_trailSize, f_theoryHead, f_level, f_conflictAtoms, f_conflictRests, f_failedAtoms, f_failedRests, f_activeEdges, f_goalOn, a_kinds, a_lefts, a_rights, a_bounds, a_atomDepths, a_literals, a_literalCounts, a_clausePos, a_clauseNeg, a_clauseDepths, a_values, a_learnedPos, a_learnedNeg, a_learnedRests, a_trail, a_levelStart, a_levelAtoms, a_reasonAtoms, a_reasonRests, a_edgeFrom, a_edgeTo, a_edgeWeight, a_potential, a_moved, a_gamma, a_via, a_dist, a_link) := by
  have key : ∀ f i c (a_learnedPos' a_learnedNeg' a_learnedRests' : Nat → Int32), i ≤ lc → lc < f + i → c ≤ i →
      (∀ j, j < c → ∃ q, q < lc ∧ a_learnedPos' j = a_learnedPos q ∧ a_learnedNeg' j = a_learnedNeg q ∧ a_learnedRests' j = a_learnedRests q ∧ (∀ z, bt (a_learnedPos q) z = true ∨ bt (a_learnedNeg q) z = true → z < n) ∧ (∀ z, bt (a_learnedRests q) z = true → z < m)) →
      (∀ j, i ≤ j → j < lc → a_learnedPos' j = a_learnedPos j ∧ a_learnedNeg' j = a_learnedNeg j ∧ a_learnedRests' j = a_learnedRests j) →
      wX_dropStaleLearned_23 post (((1 : Int32) <<< (nI n &&& 31)) - 1) (((1 : Int32) <<< (nI m &&& 31)) - 1) f_goalEdge f_goalRest f_atomBits f_decided f_maxVariables f_maxAtoms f_maxClauses f_maxDepth (nI n) (nI m) f_depthNow f_assumedTrue f_assumedFalse f_status f_presentTrue f_coreKnown f_coreClauses f_coreAtoms f_witnessClauses f_witnessAtoms (nI lc) f_learnedNext f_activeRests f_trueMask f_falseMask f_trailSize f_theoryHead f_level f_conflictAtoms f_conflictRests f_failedAtoms f_failedRests f_activeEdges f_goalOn f (nI c) (nI i) a_kinds a_lefts a_rights a_bounds a_atomDepths a_literals a_literalCounts a_clausePos a_clauseNeg a_clauseDepths a_values a_learnedPos' a_learnedNeg' a_learnedRests' a_trail a_levelStart a_levelAtoms a_reasonAtoms a_reasonRests a_edgeFrom a_edgeTo a_edgeWeight a_potential a_moved a_gamma a_via a_dist a_link := by
    intro f
    induction f with
    | zero => intro i c _ _ _ h1 h2; omega
    | succ f ih =>
      intro i c a_learnedPos' a_learnedNeg' a_learnedRests' hi hf hc h1 h2
      refine pk_le lc i (fun h => K c a_learnedPos' a_learnedNeg' a_learnedRests' (by omega) h1) (fun h => ?_)
      have ii : vp_in (nI i) 128 := pk_in i 128 (by omega)
      have ic : vp_in (nI c) 128 := pk_in c 128 (by omega)
      have ci : (nI i).toNatClampNeg = i := nI_clamp (by omega)
      have cc : (nI c).toNatClampNeg = c := nI_clamp (by omega)
      obtain ⟨e1, e2, e3⟩ := h2 i (Nat.le_refl _) h
      have skip : wX_dropStaleLearned_23 post (((1 : Int32) <<< (nI n &&& 31)) - 1) (((1 : Int32) <<< (nI m &&& 31)) - 1) f_goalEdge f_goalRest f_atomBits f_decided f_maxVariables f_maxAtoms f_maxClauses f_maxDepth (nI n) (nI m) f_depthNow f_assumedTrue f_assumedFalse f_status f_presentTrue f_coreKnown f_coreClauses f_coreAtoms f_witnessClauses f_witnessAtoms (nI lc) f_learnedNext f_activeRests f_trueMask f_falseMask f_trailSize f_theoryHead f_level f_conflictAtoms f_conflictRests f_failedAtoms f_failedRests f_activeEdges f_goalOn f (nI c) (nI (i + 1)) a_kinds a_lefts a_rights a_bounds a_atomDepths a_literals a_literalCounts a_clausePos a_clauseNeg a_clauseDepths a_values a_learnedPos' a_learnedNeg' a_learnedRests' a_trail a_levelStart a_levelAtoms a_reasonAtoms a_reasonRests a_edgeFrom a_edgeTo a_edgeWeight a_potential a_moved a_gamma a_via a_dist a_link :=
        ih (i + 1) c a_learnedPos' a_learnedNeg' a_learnedRests' (by omega) (by omega) (by omega) h1 (fun j hj => h2 j (by omega))
      refine And.intro ii (And.intro ii (nm_r (e' := a_learnedPos i ||| a_learnedNeg i) (by rw [ci, e1, e2]) (br_c (fun g1 => And.intro ii ?_) (fun g1 => nm_r (nI_1 i) skip))))
      rw [ci, e3]
      refine br_c (fun g2 => And.intro ii (And.intro ic (nm_e (And.intro ii (And.intro ic (nm_e (And.intro ii (And.intro ic (nm_e (nm_r (nI_1 c) (nm_r (nI_1 i) ?_))))))))))) (fun g2 => nm_r (nI_1 i) skip)
      rw [cc, e1, e2]
      refine ih (i + 1) (c + 1) _ _ _ (by omega) (by omega) (by omega) (fun j hj => ?_) (fun j hj hj' => ?_)
      · by_cases e : j = c
        · rw [e, pk_us, pk_us, pk_us]
          refine ⟨i, h, rfl, rfl, rfl, fun z hz => ?_, fun z hz => ?_⟩
          · have := zb_sub.mp g1 z (by rw [b_or, Bool.or_eq_true]; exact hz)
            rw [zb_mask (by omega), decide_eq_true_eq] at this
            exact this
          · have := zb_sub.mp g2 z hz
            rw [zb_mask (by omega), decide_eq_true_eq] at this
            exact this
        · rw [pk_un e, pk_un e, pk_un e]; exact h1 j (by omega)
      · rw [pk_un (by omega), pk_un (by omega), pk_un (by omega)]; exact h2 j (by omega) hj'
  exact nm_e (nm_e (Exists.intro (lc + 1) (key (lc + 1) 0 0 a_learnedPos a_learnedNeg a_learnedRests (by omega) (by omega) (by omega) (fun j hj => by omega) (fun j _ _ => ⟨rfl, rfl, rfl⟩))))
end
theorem zz_cut {g : Nat → Nat} {d : Nat} : ∀ m : Nat, (∀ i j, i ≤ j → j < m → g i ≤ g j) → (∀ i, i < m → g i ≤ d) → ∃ m', m' ≤ m ∧ (∀ i, i < m' → g i < d) ∧ ∀ i, m' ≤ i → i < m → g i = d
  | 0, _, _ => ⟨0, Nat.le_refl _, fun i hi => by omega, fun i _ hi => by omega⟩
  | m + 1, h1, h2 => by
    obtain ⟨m', q1, q2, q3⟩ := zz_cut m (fun i j hij hj => h1 i j hij (by omega)) (fun i hi => h2 i (by omega))
    by_cases e : g m = d
    · refine ⟨m', by omega, q2, fun i hi hi' => ?_⟩
      by_cases e' : i = m
      · rw [e']; exact e
      · exact q3 i hi (by omega)
    · have hm := h2 m (by omega)
      refine ⟨m + 1, Nat.le_refl _, fun i hi => ?_, fun i hi hi' => by omega⟩
      have := h1 i m (by omega) (by omega)
      omega
theorem lc_pop {n m n' m' lc lc' : Nat} {kd lf rt bd cp cn lp ln lr lp' ln' lr' : Nat → Int32} (h : cd_LC (ds_M n m kd lf rt bd cp cn (fun _ => True)) n m false lc lp ln lr) (hn : n' ≤ n) (hm : m' ≤ m)
    (hC : ∀ i, i < m' → ∀ k, bt (cp i) k = true ∨ bt (cn i) k = true → k < n')
    (h2 : ∀ i, i < lc' → ∃ j, j < lc ∧ lp' i = lp j ∧ ln' i = ln j ∧ lr' i = lr j ∧ (∀ q, bt (lp j) q = true ∨ bt (ln j) q = true → q < n') ∧ (∀ q, bt (lr j) q = true → q < m')) :
    cd_LC (ds_M n' m' kd lf rt bd cp cn (fun _ => True)) n' m' false lc' lp' ln' lr' := by
  intro i hi
  obtain ⟨j, hj, e1, e2, e3, e4, e5⟩ := h2 i hi
  obtain ⟨⟨g1, g2⟩, g3⟩ := h j hj
  rw [e1, e2, e3]
  refine ⟨⟨e4, fun τ ⟨s, m1, m2, m3⟩ => ?_⟩, fun q hq => Or.inl (e5 q hq)⟩
  have hcl : ∀ p q (τ' : Nat → Bool), (∀ k, k < n' → τ' k = τ k) → (∀ k, bt p k = true ∨ bt q k = true → k < n') → (ds_Cl p q τ' ↔ ds_Cl p q τ) := by
    intro p q τ' hag hb
    constructor
    · rintro ⟨k, ⟨a, b⟩ | ⟨a, b⟩⟩
      · exact ⟨k, Or.inl ⟨a, by rw [← hag k (hb k (Or.inl a))]; exact b⟩⟩
      · exact ⟨k, Or.inr ⟨a, by rw [← hag k (hb k (Or.inr a))]; exact b⟩⟩
    · rintro ⟨k, ⟨a, b⟩ | ⟨a, b⟩⟩
      · exact ⟨k, Or.inl ⟨a, by rw [hag k (hb k (Or.inl a))]; exact b⟩⟩
      · exact ⟨k, Or.inr ⟨a, by rw [hag k (hb k (Or.inr a))]; exact b⟩⟩
  have hag : ∀ k, k < n' → (fun k => if k < n' then τ k else decide (s (lf k).toNatClampNeg ≤ s (rt k).toNatClampNeg + (bd k).toInt)) k = τ k := fun k hk => if_pos hk
  refine (hcl _ _ _ hag e4).mp (g2 _ ⟨s, fun a b w ⟨k, hk, hd, hc⟩ => ?_, fun i' hi' hb => ?_, fun _ => trivial⟩)
  · rcases Nat.lt_or_ge k n' with q | q
    · rw [hag k q] at hc
      exact m1 a b w ⟨k, q, hd, hc⟩
    · have hv : (fun k => if k < n' then τ k else decide (s (lf k).toNatClampNeg ≤ s (rt k).toNatClampNeg + (bd k).toInt)) k = decide (s (lf k).toNatClampNeg ≤ s (rt k).toNatClampNeg + (bd k).toInt) := if_neg (by omega)
      rw [hv] at hc
      rcases hc with ⟨c1, c2, c3, c4⟩ | ⟨c1, c2, c3, c4⟩
      · rw [decide_eq_true_eq] at c1
        rw [c2, c3, c4]; exact c1
      · rw [decide_eq_false_iff_not] at c1
        rw [c2, c3, c4]; omega
  · have hlt := e5 i' hb
    exact (hcl _ _ _ hag (hC i' hlt)).mpr (m2 i' hlt hb)
theorem pd_pop {V n m d n' m' : Nat} {kd lf rt bd ad lt len cp cn cd : Nat → Int32} {aT aF aT' aF' : Int32} {asm ltY : Nat → Int32} (h : rl_PD V n m (d + 1) kd lf rt bd ad lt len cp cn cd aT aF asm ltY) (hd : d < 6) (hn : n ≤ 10)
    (n1 : n' ≤ n) (n2 : ∀ i, i < n' → (ad i).toNatClampNeg < d + 1) (n3 : ∀ i, n' ≤ i → i < n → (ad i).toNatClampNeg = d + 1) (m1 : m' ≤ m) (m2 : ∀ i, i < m' → (cd i).toNatClampNeg < d + 1)
    (ht : ∀ q, bt aT' q = (bt aT q && decide (q < n'))) (hf : ∀ q, bt aF' q = (bt aF q && decide (q < n'))) :
    rl_PD V n' m' d kd lf rt bd ad lt len cp cn cd aT' aF' asm ltY ∧ ∀ i, i < m' → ∀ k, bt (cp i) k = true ∨ bt (cn i) k = true → k < n' := by
  obtain ⟨g1, g2, g3, g4, g5, g6, g7, g8, g9⟩ := h
  have hC : ∀ i, i < m' → ∀ k, bt (cp i) k = true ∨ bt (cn i) k = true → k < n' := by
    intro i hi k hk
    obtain ⟨_, _, ⟨_, c2, c3⟩, _, _, k8⟩ := g6 i (by omega)
    have hkn : k < n := by
      rcases hk with z | z
      · exact ((c2 k).mp z).1
      · exact ((c3 k).mp z).1
    have h1 := k8 k hk
    have h2 := m2 i hi
    rcases Nat.lt_or_ge k n' with q | q
    · exact q
    · have := n3 k q hkn
      omega
  refine ⟨⟨fun k hk => g1 k (by omega), fun k hk => ?_, fun j k hjk hk => g3 j k hjk (by omega), fun i hi => ?_, fun i j hij hj => g5 i j hij (by omega), fun i hi => ?_, fun k hk => ?_, fun k h1 h2 => ?_, fun k hk => ?_⟩, hC⟩
  · obtain ⟨e, e1, e2⟩ := g2 k (by omega)
    have := n2 k hk
    rw [e2, nI_clamp (by omega)] at this
    exact ⟨e, by omega, e2⟩
  · obtain ⟨e, e1, e2⟩ := g4 i (by omega)
    have := m2 i hi
    rw [e2, nI_clamp (by omega)] at this
    exact ⟨e, by omega, e2⟩
  · obtain ⟨k1, k2, ⟨k3, k4, k5⟩, k6, k7, k8⟩ := g6 i (by omega)
    refine ⟨k1, k2, ⟨fun p hp => ?_, fun k => ?_, fun k => ?_⟩, k6, k7, k8⟩
    · obtain ⟨k, hk, e⟩ := k3 p hp
      refine ⟨k, hC i hi k ?_, e⟩
      rcases e with e | e
      · exact Or.inl ((k4 k).mpr ⟨hk, p, hp, e⟩)
      · exact Or.inr ((k5 k).mpr ⟨hk, p, hp, e⟩)
    · constructor
      · intro hb; exact ⟨hC i hi k (Or.inl hb), ((k4 k).mp hb).2⟩
      · intro ⟨a, b⟩; exact (k4 k).mpr ⟨by omega, b⟩
    · constructor
      · intro hb; exact ⟨hC i hi k (Or.inr hb), ((k5 k).mp hb).2⟩
      · intro ⟨a, b⟩; exact (k5 k).mpr ⟨by omega, b⟩
  · rw [ht, hf, Bool.and_eq_true, Bool.and_eq_true, decide_eq_true_eq] at hk
    rcases hk with z | z
    · exact z.2
    · exact z.2
  · rw [ht, Bool.and_eq_true] at h1
    rw [hf, Bool.and_eq_true] at h2
    exact g8 k h1.1 h2.1
  · rw [ht, hf, decide_eq_true hk, Bool.and_true, Bool.and_true]
    exact g9 k (by omega)
section
variable {f_goalEdge f_goalRest f_atomBits f_decided f_maxVariables f_maxAtoms f_maxClauses f_maxDepth f_atomCount f_clauseCount f_depthNow f_assumedTrue f_assumedFalse f_status f_presentTrue f_coreKnown f_coreClauses f_coreAtoms f_witnessClauses f_witnessAtoms f_learnedCount f_learnedNext f_activeRests f_trueMask f_falseMask f_trailSize f_theoryHead f_level f_conflictAtoms f_conflictRests f_failedAtoms f_failedRests f_activeEdges f_goalOn : Int32} {a_kinds a_lefts a_rights a_bounds a_atomDepths a_literals a_literalCounts a_clausePos a_clauseNeg a_clauseDepths a_values a_learnedPos a_learnedNeg a_learnedRests a_trail a_levelStart a_levelAtoms a_reasonAtoms a_reasonRests a_edgeFrom a_edgeTo a_edgeWeight a_potential a_moved a_gamma a_via a_dist a_link : Nat → Int32}
variable {n m lc d n' m' : Nat}
theorem xw_pop {post : Int32 → SX → Prop} (hn : n ≤ 10) (hm : m ≤ 24) (hd : d < 6) (hlc : lc ≤ 128)
    (n1 : n' ≤ n) (n2 : ∀ i, i < n' → (a_atomDepths i).toNatClampNeg < d + 1) (n3 : ∀ i, n' ≤ i → i < n → a_atomDepths i = nI (d + 1)) (m1 : m' ≤ m) (m2 : ∀ i, i < m' → (a_clauseDepths i).toNatClampNeg < d + 1) (m3 : ∀ i, m' ≤ i → i < m → a_clauseDepths i = nI (d + 1))
    (K : ∀ (lc' : Nat) (aT aF : Int32) (a_learnedPos' a_learnedNeg' a_learnedRests' : Nat → Int32), (∀ q, bt aT q = (bt f_assumedTrue q && decide (q < n'))) → (∀ q, bt aF q = (bt f_assumedFalse q && decide (q < n'))) → lc' ≤ lc → (∀ i, i < lc' → ∃ j, j < lc ∧ a_learnedPos' i = a_learnedPos j ∧ a_learnedNeg' i = a_learnedNeg j ∧ a_learnedRests' i = a_learnedRests j ∧ (∀ q, bt (a_learnedPos j) q = true ∨ bt (a_learnedNeg j) q = true → q < n') ∧ (∀ q, bt (a_learnedRests j) q = true → q < m')) →
      post (nI d) (f_goalEdge, f_goalRest, f_atomBits, f_decided, f_maxVariables, f_maxAtoms, f_maxClauses, f_maxDepth, nI n', nI m', nI d, aT, aF, 0, 0, 0, 0, 0, f_witnessClauses, f_witnessAtoms, nI lc', 0, f_activeRests, f_trueMask, f_falseMask, f_trailSize, f_theoryHead, f_level, f_conflictAtoms, f_conflictRests, f_failedAtoms, f_failedRests, f_activeEdges, f_goalOn, a_kinds, a_lefts, a_rights, a_bounds, a_atomDepths, a_literals, a_literalCounts, a_clausePos, a_clauseNeg, a_clauseDepths, a_values, a_learnedPos', a_learnedNeg', a_learnedRests', a_trail, a_levelStart, a_levelAtoms, a_reasonAtoms, a_reasonRests, a_edgeFrom, a_edgeTo, a_edgeWeight, a_potential, a_moved, a_gamma, a_via, a_dist, a_link)) :
    wpX_pop post (f_goalEdge, f_goalRest, f_atomBits, f_decided, f_maxVariables, f_maxAtoms, f_maxClauses, f_maxDepth, nI n, nI m, nI (d + 1), f_assumedTrue, f_assumedFalse, f_status, f_presentTrue, f_coreKnown, f_coreClauses, f_coreAtoms, f_witnessClauses, f_witnessAtoms, nI lc, f_learnedNext, f_activeRests, f_trueMask, f_falseMask, f_trailSize, f_theoryHead, f_level, f_conflictAtoms, f_conflictRests, f_failedAtoms, f_failedRests, f_activeEdges, f_goalOn, a_kinds, a_lefts, a_rights, a_bounds, a_atomDepths, a_literals, a_literalCounts, a_clausePos, a_clauseNeg, a_clauseDepths, a_values, a_learnedPos, a_learnedNeg, a_learnedRests, a_trail, a_levelStart, a_levelAtoms, a_reasonAtoms, a_reasonRests, a_edgeFrom, a_edgeTo, a_edgeWeight, a_potential, a_moved, a_gamma, a_via, a_dist, a_link) := by
  have fin : wX_pop_109 post f_goalEdge f_goalRest f_atomBits f_decided f_maxVariables f_maxAtoms f_maxClauses f_maxDepth (nI n') (nI m') (nI (d + 1)) f_assumedTrue f_assumedFalse f_status f_presentTrue f_coreKnown f_coreClauses f_coreAtoms f_witnessClauses f_witnessAtoms (nI lc) f_learnedNext f_activeRests f_trueMask f_falseMask f_trailSize f_theoryHead f_level f_conflictAtoms f_conflictRests f_failedAtoms f_failedRests f_activeEdges f_goalOn a_kinds a_lefts a_rights a_bounds a_atomDepths a_literals a_literalCounts a_clausePos a_clauseNeg a_clauseDepths a_values a_learnedPos a_learnedNeg a_learnedRests a_trail a_levelStart a_levelAtoms a_reasonAtoms a_reasonRests a_edgeFrom a_edgeTo a_edgeWeight a_potential a_moved a_gamma a_via a_dist a_link := by
    refine nm_e (nm_e (nm_e (nm_r (nI_pred d) (xw_drop (n := n') (m := m') (lc := lc) (by omega) (by omega) hlc (fun lc' a_learnedPos' a_learnedNeg' a_learnedRests' g1 g2 => ?_)))))
    refine K lc' _ _ a_learnedPos' a_learnedNeg' a_learnedRests' (fun q => ?_) (fun q => ?_) g1 g2
    · rw [b_and, zb_mask (by omega)]
    · rw [b_and, zb_mask (by omega)]
  have ne : ∀ (x : Int32), x.toNatClampNeg < d + 1 → ¬ x = nI (d + 1) := fun x hx e => by rw [e, nI_clamp (by omega)] at hx; omega
  have atoms : ∀ f i c, i + c = n → n' ≤ c → c < f → wX_pop_62 post f_goalEdge f_goalRest f_atomBits f_decided f_maxVariables f_maxAtoms f_maxClauses f_maxDepth (nI m') (nI (d + 1)) f_assumedTrue f_assumedFalse f_status f_presentTrue f_coreKnown f_coreClauses f_coreAtoms f_witnessClauses f_witnessAtoms (nI lc) f_learnedNext f_activeRests f_trueMask f_falseMask f_trailSize f_theoryHead f_level f_conflictAtoms f_conflictRests f_failedAtoms f_failedRests f_activeEdges f_goalOn a_kinds a_lefts a_rights a_bounds a_atomDepths a_literals a_literalCounts a_clausePos a_clauseNeg a_clauseDepths a_values a_learnedPos a_learnedNeg a_learnedRests a_trail a_levelStart a_levelAtoms a_reasonAtoms a_reasonRests a_edgeFrom a_edgeTo a_edgeWeight a_potential a_moved a_gamma a_via a_dist a_link f (nI i) (nI c) := by
    intro f
    induction f with
    | zero => intro i c h1 h2 h3; omega
    | succ f ih =>
      intro i c h1 h2 h3
      have done : c = n' → wX_pop_109 post f_goalEdge f_goalRest f_atomBits f_decided f_maxVariables f_maxAtoms f_maxClauses f_maxDepth (nI c) (nI m') (nI (d + 1)) f_assumedTrue f_assumedFalse f_status f_presentTrue f_coreKnown f_coreClauses f_coreAtoms f_witnessClauses f_witnessAtoms (nI lc) f_learnedNext f_activeRests f_trueMask f_falseMask f_trailSize f_theoryHead f_level f_conflictAtoms f_conflictRests f_failedAtoms f_failedRests f_activeEdges f_goalOn a_kinds a_lefts a_rights a_bounds a_atomDepths a_literals a_literalCounts a_clausePos a_clauseNeg a_clauseDepths a_values a_learnedPos a_learnedNeg a_learnedRests a_trail a_levelStart a_levelAtoms a_reasonAtoms a_reasonRests a_edgeFrom a_edgeTo a_edgeWeight a_potential a_moved a_gamma a_via a_dist a_link := fun e => by rw [e]; exact fin
      refine pk_le 10 i (fun h => done (by omega)) (fun h => pk_le c 0 (fun h4 => done (by omega)) (fun h4 => ?_))
      obtain ⟨c', rfl⟩ : ∃ c', c = c' + 1 := ⟨c - 1, by omega⟩
      rw [nI_pred]
      have cc : (nI c').toNatClampNeg = c' := nI_clamp (by omega)
      refine And.intro (pk_in c' 10 (by omega)) ?_
      rw [cc]
      refine br_c (fun h5 => nm_e (nm_r (nI_1 i) (ih (i + 1) c' (by omega) ?_ (by omega)))) (fun h5 => done ?_)
      · rcases Nat.lt_or_ge c' n' with q | q
        · exact (ne _ (n2 c' q) h5).elim
        · exact q
      · rcases Nat.lt_or_ge c' n' with q | q
        · omega
        · exact (h5 (n3 c' q (by omega))).elim
  have cls : ∀ f i c, i + c = m → m' ≤ c → c < f → wX_pop_13 post f_goalEdge f_goalRest f_atomBits f_decided f_maxVariables f_maxAtoms f_maxClauses f_maxDepth (nI n) (nI (d + 1)) f_assumedTrue f_assumedFalse f_status f_presentTrue f_coreKnown f_coreClauses f_coreAtoms f_witnessClauses f_witnessAtoms (nI lc) f_learnedNext f_activeRests f_trueMask f_falseMask f_trailSize f_theoryHead f_level f_conflictAtoms f_conflictRests f_failedAtoms f_failedRests f_activeEdges f_goalOn a_kinds a_lefts a_rights a_bounds a_atomDepths a_literals a_literalCounts a_clausePos a_clauseNeg a_clauseDepths a_values a_learnedPos a_learnedNeg a_learnedRests a_trail a_levelStart a_levelAtoms a_reasonAtoms a_reasonRests a_edgeFrom a_edgeTo a_edgeWeight a_potential a_moved a_gamma a_via a_dist a_link f (nI i) (nI c) := by
    intro f
    induction f with
    | zero => intro i c h1 h2 h3; omega
    | succ f ih =>
      intro i c h1 h2 h3
      have done : c = m' → ∃ n62 : Nat, wX_pop_62 post f_goalEdge f_goalRest f_atomBits f_decided f_maxVariables f_maxAtoms f_maxClauses f_maxDepth (nI c) (nI (d + 1)) f_assumedTrue f_assumedFalse f_status f_presentTrue f_coreKnown f_coreClauses f_coreAtoms f_witnessClauses f_witnessAtoms (nI lc) f_learnedNext f_activeRests f_trueMask f_falseMask f_trailSize f_theoryHead f_level f_conflictAtoms f_conflictRests f_failedAtoms f_failedRests f_activeEdges f_goalOn a_kinds a_lefts a_rights a_bounds a_atomDepths a_literals a_literalCounts a_clausePos a_clauseNeg a_clauseDepths a_values a_learnedPos a_learnedNeg a_learnedRests a_trail a_levelStart a_levelAtoms a_reasonAtoms a_reasonRests a_edgeFrom a_edgeTo a_edgeWeight a_potential a_moved a_gamma a_via a_dist a_link n62 0 (nI n) := fun e => by
        rw [e]; exact ⟨n + 1, atoms (n + 1) 0 n (by omega) n1 (by omega)⟩
      refine pk_le 24 i (fun h => done (by omega)) (fun h => pk_le c 0 (fun h4 => done (by omega)) (fun h4 => ?_))
      obtain ⟨c', rfl⟩ : ∃ c', c = c' + 1 := ⟨c - 1, by omega⟩
      rw [nI_pred]
      have cc : (nI c').toNatClampNeg = c' := nI_clamp (by omega)
      refine And.intro (pk_in c' 24 (by omega)) ?_
      rw [cc]
      refine br_c (fun h5 => nm_e (nm_r (nI_1 i) (ih (i + 1) c' (by omega) ?_ (by omega)))) (fun h5 => done ?_)
      · rcases Nat.lt_or_ge c' m' with q | q
        · exact (ne _ (m2 c' q) h5).elim
        · exact q
      · rcases Nat.lt_or_ge c' m' with q | q
        · omega
        · exact (h5 (m3 c' q (by omega))).elim
  exact br_f (nI_ne0 (by omega) (by omega)) (Exists.intro (m + 1) (cls (m + 1) 0 m (by omega) m1 (by omega)))
end
section
variable {y_maxV y_maxA y_maxC y_maxD y_n y_m y_d y_status y_model y_hasCore : Int32} {z_kind z_atomX z_atomY z_atomC z_atomDepth z_assumed z_literals z_length z_clauseDepth z_clauseIn z_assumptionIn z_bound : Nat → Int32}
variable {n m d n' m' : Nat}
theorem yw_pop {post : Int32 → SY → Prop} (hn : n ≤ 10) (hm : m ≤ 24) (hd : d < 6)
    (n1 : n' ≤ n) (n2 : ∀ i, i < n' → (z_atomDepth i).toNatClampNeg < d + 1) (n3 : ∀ i, n' ≤ i → i < n → z_atomDepth i = nI (d + 1)) (m1 : m' ≤ m) (m2 : ∀ i, i < m' → (z_clauseDepth i).toNatClampNeg < d + 1) (m3 : ∀ i, m' ≤ i → i < m → z_clauseDepth i = nI (d + 1))
    (K : post (nI d) (y_maxV, y_maxA, y_maxC, y_maxD, nI n', nI m', nI d, 0, 0, 0, z_kind, z_atomX, z_atomY, z_atomC, z_atomDepth, z_assumed, z_literals, z_length, z_clauseDepth, z_clauseIn, z_assumptionIn, z_bound)) :
    wpY_pop post (y_maxV, y_maxA, y_maxC, y_maxD, nI n, nI m, nI (d + 1), y_status, y_model, y_hasCore, z_kind, z_atomX, z_atomY, z_atomC, z_atomDepth, z_assumed, z_literals, z_length, z_clauseDepth, z_clauseIn, z_assumptionIn, z_bound) := by
  have ne : ∀ (x : Int32), x.toNatClampNeg < d + 1 → ¬ x = nI (d + 1) := fun x hx e => by rw [e, nI_clamp (by omega)] at hx; omega
  have atoms : ∀ f i c, i ≤ n → n < f + i → ((c = i ∧ i ≤ n') ∨ (c = n' ∧ n' ≤ i)) → wY_pop_49 post (nI m') y_maxV y_maxA y_maxC y_maxD (nI n) (nI m) (nI (d + 1)) y_status y_model y_hasCore z_kind z_atomX z_atomY z_atomC z_atomDepth z_assumed z_literals z_length z_clauseDepth z_clauseIn z_assumptionIn z_bound f (nI c) (nI i) := by
    intro f
    induction f with
    | zero => intro i c h1 h2 h3; omega
    | succ f ih =>
      intro i c h1 h2 h3
      have ci : (nI i).toNatClampNeg = i := nI_clamp (by omega)
      refine pk_le n i (fun h => nm_r (nI_pred d) ?_) (fun h => And.intro (pk_in i 10 (by omega)) ?_)
      · have : c = n' := by omega
        rw [this]
        exact K
      · rw [ci]
        refine br_c (fun h5 => nm_r (nI_1 i) (ih (i + 1) c (by omega) (by omega) ?_)) (fun h5 => nm_r (nI_1 c) (nm_r (nI_1 i) (ih (i + 1) (c + 1) (by omega) (by omega) ?_)))
        · rcases Nat.lt_or_ge i n' with q | q
          · exact (ne _ (n2 i q) h5).elim
          · omega
        · rcases Nat.lt_or_ge i n' with q | q
          · omega
          · exact (h5 (n3 i q h)).elim
  have cls : ∀ f i c, i ≤ m → m < f + i → ((c = i ∧ i ≤ m') ∨ (c = m' ∧ m' ≤ i)) → wY_pop_15 post y_maxV y_maxA y_maxC y_maxD (nI n) (nI m) (nI (d + 1)) y_status y_model y_hasCore z_kind z_atomX z_atomY z_atomC z_atomDepth z_assumed z_literals z_length z_clauseDepth z_clauseIn z_assumptionIn z_bound f (nI c) (nI i) := by
    intro f
    induction f with
    | zero => intro i c h1 h2 h3; omega
    | succ f ih =>
      intro i c h1 h2 h3
      have ci : (nI i).toNatClampNeg = i := nI_clamp (by omega)
      refine pk_le m i (fun h => ?_) (fun h => And.intro (pk_in i 24 (by omega)) ?_)
      · have : c = m' := by omega
        rw [this]
        exact Exists.intro (n + 1) (atoms (n + 1) 0 0 (by omega) (by omega) (Or.inl ⟨rfl, by omega⟩))
      · rw [ci]
        refine br_c (fun h5 => nm_r (nI_1 i) (ih (i + 1) c (by omega) (by omega) ?_)) (fun h5 => nm_r (nI_1 c) (nm_r (nI_1 i) (ih (i + 1) (c + 1) (by omega) (by omega) ?_)))
        · rcases Nat.lt_or_ge i m' with q | q
          · exact (ne _ (m2 i q) h5).elim
          · omega
        · rcases Nat.lt_or_ge i m' with q | q
          · omega
          · exact (h5 (m3 i q h)).elim
  exact br_f (nI_ne0 (by omega) (by omega)) (Exists.intro (m + 1) (cls (m + 1) 0 0 (by omega) (by omega) (Or.inl ⟨rfl, by omega⟩)))
end
theorem i_vc_pop {k : Nat} {u : SX} {v : SY} (I : i_Rel k u v) (hk : k + 5 ≤ 2564) : wpX_pop (fun r u' => wpY_pop (fun r' v' => r' = r ∧ i_Rel (k + 5) u' v') v) u := by
  refine zz_el (P := fun u v => wpX_pop (fun r u' => wpY_pop (fun r' v' => r' = r ∧ i_Rel (k + 5) u' v') v) u) ?_ I
  intro V A C D n m d lc f_goalEdge f_goalRest f_atomBits f_decided f_assumedTrue f_assumedFalse f_status f_presentTrue f_coreKnown f_coreClauses f_coreAtoms f_witnessClauses f_witnessAtoms f_learnedNext f_activeRests f_trueMask f_falseMask f_trailSize f_theoryHead f_level f_conflictAtoms f_conflictRests f_failedAtoms f_failedRests f_activeEdges a_kinds a_lefts a_rights a_bounds a_atomDepths a_literals a_literalCounts a_clausePos a_clauseNeg a_clauseDepths a_values a_learnedPos a_learnedNeg a_learnedRests a_trail a_levelStart a_levelAtoms a_reasonAtoms a_reasonRests a_edgeFrom a_edgeTo a_edgeWeight a_potential a_moved a_gamma a_via a_dist a_link y_model z_assumed z_literals z_clauseIn z_assumptionIn z_bound hR
  have hR' := hR
  obtain ⟨⟨b1, b2, b3, b4, b5, b6, b7, b8, b9⟩, hPD, hLC, hSS⟩ := hR
  cases d with
  | zero => exact br_t rfl (br_t rfl ⟨rfl, zz_in hR'⟩)
  | succ d =>
    have hP := hPD
    obtain ⟨g1, g2, g3, g4, g5, g6, g7, g8, g9⟩ := hP
    obtain ⟨n', n1, n2, n3⟩ := zz_cut (g := fun i => (a_atomDepths i).toNatClampNeg) (d := d + 1) n g3 (fun i hi => by
      obtain ⟨e, e1, e2⟩ := g2 i hi
      rw [e2, nI_clamp (by omega)]; exact e1)
    obtain ⟨m', m1, m2, m3⟩ := zz_cut (g := fun i => (a_clauseDepths i).toNatClampNeg) (d := d + 1) m g5 (fun i hi => by
      obtain ⟨e, e1, e2⟩ := g4 i hi
      rw [e2, nI_clamp (by omega)]; exact e1)
    have n3' : ∀ i, n' ≤ i → i < n → a_atomDepths i = nI (d + 1) := fun i hi hi' => by
      obtain ⟨e, e1, e2⟩ := g2 i hi'
      have := n3 i hi hi'
      rw [e2, nI_clamp (by omega)] at this
      rw [e2, this]
    have m3' : ∀ i, m' ≤ i → i < m → a_clauseDepths i = nI (d + 1) := fun i hi hi' => by
      obtain ⟨e, e1, e2⟩ := g4 i hi'
      have := m3 i hi hi'
      rw [e2, nI_clamp (by omega)] at this
      rw [e2, this]
    refine xw_pop (by omega) (by omega) (by omega) b9 n1 n2 n3' m1 m2 m3' (fun lc' aT aF lp ln lr t1 t2 t3 t4 => yw_pop (by omega) (by omega) (by omega) n1 n2 n3' m1 m2 m3' ⟨rfl, ?_⟩)
    obtain ⟨p1, p2⟩ := pd_pop hPD (by omega) (by omega) n1 n2 n3 m1 m2 t1 t2
    exact zz_in ⟨⟨b1, b2, by omega, b4, by omega, b6, by omega, b8, by omega⟩, p1, lc_pop hLC n1 m1 p2 t4, Or.inl rfl, Or.inl rfl⟩
end
section
/-- models under masks of fixed atoms and of clauses -/
def rl_FS (n m : Nat) (kd lf rt bd cp cn : Nat → Int32) (mt mf cl : Int32) (τ : Nat → Bool) : Prop :=
  (∃ s, gs_Sol (ds_E n kd lf rt bd τ) s) ∧ (∀ i, i < m → bt cl i = true → ds_Cl (cp i) (cn i) τ) ∧ (∀ q, bt mt q = true → τ q = true) ∧ (∀ q, bt mf q = true → τ q = false)
def rl_Bs (n m : Nat) (kd lf rt bd cp cn : Nat → Int32) (mt mf cl tm : Int32) : Prop :=
  (∀ q, bt tm q = true → q < n) ∧ rl_FS n m kd lf rt bd cp cn mt mf cl (fun q => bt tm q) ∧
  ∀ τ, rl_FS n m kd lf rt bd cp cn mt mf cl τ → ∀ p, p < n → (∀ q, q < p → τ q = bt tm q) → τ p ≠ bt tm p → τ p = true ∧ bt tm p = false
/-- no model, and what that rests on -/
def rl_Nn (n m : Nat) (kd lf rt bd cp cn : Nat → Int32) (mt mf cl fx fr : Int32) : Prop :=
  (∀ q, bt fx q = true → bt mt q = true ∨ bt mf q = true) ∧ (∀ q, bt fr q = true → bt cl q = true) ∧
  ∀ τ, (∃ s, gs_Sol (ds_E n kd lf rt bd τ) s) → (∀ i, i < m → bt fr i = true → ds_Cl (cp i) (cn i) τ) → (∀ q, bt fx q = true → (bt mt q = true → τ q = true) ∧ (bt mf q = true → τ q = false)) → False
theorem rl_Nn_no {n m : Nat} {kd lf rt bd cp cn : Nat → Int32} {mt mf cl fx fr : Int32} (h : rl_Nn n m kd lf rt bd cp cn mt mf cl fx fr) : ∀ τ, ¬ rl_FS n m kd lf rt bd cp cn mt mf cl τ := by
  intro τ ⟨h1, h2, h3, h4⟩
  exact h.2.2 τ h1 (fun i hi hb => h2 i hi (h.2.1 i hb)) (fun q _ => ⟨h3 q, h4 q⟩)
theorem bs_ge {n m : Nat} {kd lf rt bd cp cn : Nat → Int32} {mt mf cl tm : Int32} (h : rl_Bs n m kd lf rt bd cp cn mt mf cl tm) {t : Nat} (ht : t < 2 ^ n) (hfs : rl_FS n m kd lf rt bd cp cn mt mf cl (rl_tau n t)) : rl_num n (fun q => bt tm q) ≤ t := by
  rcases rl_diff (f := rl_tau n t) (g := fun q => bt tm q) n with e | ⟨p, p1, p2, p3⟩
  · have : rl_num n (rl_tau n t) = rl_num n (fun q => bt tm q) := rl_num_cg e
    rw [rl_num_tau ht] at this
    omega
  · obtain ⟨e1, e2⟩ := h.2.2 _ hfs p p1 p2 p3
    have : rl_num n (fun q => bt tm q) < rl_num n (rl_tau n t) := rl_num_ord (n := n) p1 (fun q hq => (p2 q hq).symm) e2 e1
    rw [rl_num_tau ht] at this
    omega
/-- what the relation gives a search -/
def rl_XH (V n m lc : Nat) (kd lf rt bd cp cn lp ln lr : Nat → Int32) : Prop :=
  n ≤ 10 ∧ m ≤ 24 ∧ V ≤ 8 ∧ lc ≤ 128 ∧ ds_At V n kd lf rt bd ∧ (∀ i, i < m → ∀ k, bt (cp i) k = true ∨ bt (cn i) k = true → k < n) ∧ cd_LC (ds_M n m kd lf rt bd cp cn (fun _ => True)) n m false lc lp ln lr
theorem rl_xh {V A C D n m d lc : Nat} {aT aF st pT ck cc ca wC wA : Int32} {kd lf rt bd ad lt len cp cn cd vl lp ln lr : Nat → Int32} {md : Int32} {asm ltY cI aI : Nat → Int32}
    (h : rl_R V A C D n m d lc aT aF st pT ck cc ca wC wA kd lf rt bd ad lt len cp cn cd vl lp ln lr md asm ltY cI aI) : rl_XH V n m lc kd lf rt bd cp cn lp ln lr := by
  obtain ⟨⟨b1, b2, b3, b4, b5, b6, b7, b8, b9⟩, ⟨g1, g2, g3, g4, g5, g6, g7, g8, g9⟩, hLC, hSS⟩ := h
  refine ⟨by omega, by omega, b2, b9, g1, fun i hi k hk => ?_, hLC⟩
  obtain ⟨_, _, ⟨_, c2, c3⟩, _⟩ := g6 i hi
  rcases hk with z | z
  · exact ((c2 k).mp z).1
  · exact ((c3 k).mp z).1
theorem rl_yh {V A C D n m d lc : Nat} {aT aF st pT ck cc ca wC wA : Int32} {kd lf rt bd ad lt len cp cn cd vl lp ln lr : Nat → Int32} {md : Int32} {asm ltY cI aI : Nat → Int32}
    (h : rl_R V A C D n m d lc aT aF st pT ck cc ca wC wA kd lf rt bd ad lt len cp cn cd vl lp ln lr md asm ltY cI aI) : rl_YH V n m kd lf rt bd len ltY asm cp cn aT aF := by
  obtain ⟨⟨b1, b2, b3, b4, b5, b6, b7, b8, b9⟩, ⟨g1, g2, g3, g4, g5, g6, g7, g8, g9⟩, hLC, hSS⟩ := h
  refine ⟨by omega, by omega, b2, g1, fun i hi => ⟨(g6 i hi).1, (g6 i hi).2.1⟩, fun i hi => ?_, g9, g8⟩
  obtain ⟨k1, k2, ⟨k3, k4, k5⟩, k6, k7, k8⟩ := g6 i hi
  refine ⟨fun p hp => ?_, fun k => ?_, fun k => ?_⟩
  · dsimp only; rw [k6 p hp]; exact k3 p hp
  · rw [k4 k]
    exact ⟨fun ⟨a, p, b, c⟩ => ⟨a, p, b, by dsimp only; rw [k6 p b]; exact c⟩, fun ⟨a, p, b, c⟩ => ⟨a, p, b, by dsimp only at c; rw [k6 p b] at c; exact c⟩⟩
  · rw [k5 k]
    exact ⟨fun ⟨a, p, b, c⟩ => ⟨a, p, b, by dsimp only; rw [k6 p b]; exact c⟩, fun ⟨a, p, b, c⟩ => ⟨a, p, b, by dsimp only at c; rw [k6 p b] at c; exact c⟩⟩
section
variable {f_goalEdge f_goalRest f_atomBits f_decided f_maxVariables f_maxAtoms f_maxClauses f_maxDepth f_atomCount f_clauseCount f_depthNow f_assumedTrue f_assumedFalse f_status f_presentTrue f_coreKnown f_coreClauses f_coreAtoms f_witnessClauses f_witnessAtoms f_learnedCount f_learnedNext f_activeRests f_trueMask f_falseMask f_trailSize f_theoryHead f_level f_conflictAtoms f_conflictRests f_failedAtoms f_failedRests f_activeEdges f_goalOn : Int32} {a_kinds a_lefts a_rights a_bounds a_atomDepths a_literals a_literalCounts a_clausePos a_clauseNeg a_clauseDepths a_values a_learnedPos a_learnedNeg a_learnedRests a_trail a_levelStart a_levelAtoms a_reasonAtoms a_reasonRests a_edgeFrom a_edgeTo a_edgeWeight a_potential a_moved a_gamma a_via a_dist a_link : Nat → Int32}
variable {V n m lc : Nat} {mt mf : Int32}
/-- a search without a goal -/
theorem xw_se {post : Int32 → SX → Prop} {cl : Int32} (h : rl_XH V n m lc a_kinds a_lefts a_rights a_bounds a_clausePos a_clauseNeg a_learnedPos a_learnedNeg a_learnedRests)
    (hmt : ∀ q, bt mt q = true → q < n) (hmf : ∀ q, bt mf q = true → q < n) (hdis : ∀ q, bt mt q = true → bt mf q = true → False) (hcl : ∀ q, bt cl q = true → q < m)
    (K1 : ∀ (lc' : Nat) (f_learnedCount' f_learnedNext' f_activeRests' f_trueMask' f_falseMask' f_trailSize' f_theoryHead' f_level' f_conflictAtoms' f_conflictRests' f_failedAtoms' f_failedRests' f_activeEdges' : Int32) (a_learnedPos' a_learnedNeg' a_learnedRests' a_trail' a_levelStart' a_levelAtoms' a_reasonAtoms' a_reasonRests' a_edgeFrom' a_edgeTo' a_edgeWeight' a_potential' a_moved' a_gamma' a_via' a_dist' a_link' : Nat → Int32), rl_XH V n m lc' a_kinds a_lefts a_rights a_bounds a_clausePos a_clauseNeg a_learnedPos' a_learnedNeg' a_learnedRests' →
      rl_Bs n m a_kinds a_lefts a_rights a_bounds a_clausePos a_clauseNeg mt mf cl f_trueMask' → cd_Gr (fun _ => True) n a_kinds a_lefts a_rights a_bounds false f_trueMask' f_activeEdges' a_edgeFrom' a_edgeTo' a_edgeWeight' a_potential' →
      post 1 (f_goalEdge, f_goalRest, f_atomBits, f_decided, f_maxVariables, f_maxAtoms, f_maxClauses, f_maxDepth, nI n, nI m, f_depthNow, f_assumedTrue, f_assumedFalse, f_status, f_presentTrue, f_coreKnown, f_coreClauses, f_coreAtoms, f_witnessClauses, f_witnessAtoms, nI lc', f_learnedNext', f_activeRests', f_trueMask', f_falseMask', f_trailSize', f_theoryHead', f_level', f_conflictAtoms', f_conflictRests', f_failedAtoms', f_failedRests', f_activeEdges', 0, a_kinds, a_lefts, a_rights, a_bounds, a_atomDepths, a_literals, a_literalCounts, a_clausePos, a_clauseNeg, a_clauseDepths, a_values, a_learnedPos', a_learnedNeg', a_learnedRests', a_trail', a_levelStart', a_levelAtoms', a_reasonAtoms', a_reasonRests', a_edgeFrom', a_edgeTo', a_edgeWeight', a_potential', a_moved', a_gamma', a_via', a_dist', a_link'))
    (K0 : ∀ (lc' : Nat) (f_learnedCount' f_learnedNext' f_activeRests' f_trueMask' f_falseMask' f_trailSize' f_theoryHead' f_level' f_conflictAtoms' f_conflictRests' f_failedAtoms' f_failedRests' f_activeEdges' : Int32) (a_learnedPos' a_learnedNeg' a_learnedRests' a_trail' a_levelStart' a_levelAtoms' a_reasonAtoms' a_reasonRests' a_edgeFrom' a_edgeTo' a_edgeWeight' a_potential' a_moved' a_gamma' a_via' a_dist' a_link' : Nat → Int32), rl_XH V n m lc' a_kinds a_lefts a_rights a_bounds a_clausePos a_clauseNeg a_learnedPos' a_learnedNeg' a_learnedRests' →
      rl_Nn n m a_kinds a_lefts a_rights a_bounds a_clausePos a_clauseNeg mt mf cl f_failedAtoms' f_failedRests' →
      post 0 (f_goalEdge, f_goalRest, f_atomBits, f_decided, f_maxVariables, f_maxAtoms, f_maxClauses, f_maxDepth, nI n, nI m, f_depthNow, f_assumedTrue, f_assumedFalse, f_status, f_presentTrue, f_coreKnown, f_coreClauses, f_coreAtoms, f_witnessClauses, f_witnessAtoms, nI lc', f_learnedNext', f_activeRests', f_trueMask', f_falseMask', f_trailSize', f_theoryHead', f_level', f_conflictAtoms', f_conflictRests', f_failedAtoms', f_failedRests', f_activeEdges', 0, a_kinds, a_lefts, a_rights, a_bounds, a_atomDepths, a_literals, a_literalCounts, a_clausePos, a_clauseNeg, a_clauseDepths, a_values, a_learnedPos', a_learnedNeg', a_learnedRests', a_trail', a_levelStart', a_levelAtoms', a_reasonAtoms', a_reasonRests', a_edgeFrom', a_edgeTo', a_edgeWeight', a_potential', a_moved', a_gamma', a_via', a_dist', a_link')) :
    wpX_search post (f_goalEdge, f_goalRest, f_atomBits, f_decided, f_maxVariables, f_maxAtoms, f_maxClauses, f_maxDepth, nI n, nI m, f_depthNow, f_assumedTrue, f_assumedFalse, f_status, f_presentTrue, f_coreKnown, f_coreClauses, f_coreAtoms, f_witnessClauses, f_witnessAtoms, nI lc, f_learnedNext, f_activeRests, f_trueMask, f_falseMask, f_trailSize, f_theoryHead, f_level, f_conflictAtoms, f_conflictRests, f_failedAtoms, f_failedRests, f_activeEdges, 0, a_kinds, a_lefts, a_rights, a_bounds, a_atomDepths, a_literals, a_literalCounts, a_clausePos, a_clauseNeg, a_clauseDepths, a_values, a_learnedPos, a_learnedNeg, a_learnedRests, a_trail, a_levelStart, a_levelAtoms, a_reasonAtoms, a_reasonRests, a_edgeFrom, a_edgeTo, a_edgeWeight, a_potential, a_moved, a_gamma, a_via, a_dist, a_link) mt mf cl := by
  obtain ⟨h1, h2, h3, h4, h5, h6, h7⟩ := h
  refine xw_search (G := fun _ => True) (g := false) h1 h5 h3 (Or.inr ⟨rfl, rfl⟩) (fun z => (by cases z)) h2 h6 h4 h7 hmt hmf hdis hcl (fun lc' f_learnedCount' f_learnedNext' f_activeRests' f_trueMask' f_falseMask' f_trailSize' f_theoryHead' f_level' f_conflictAtoms' f_conflictRests' f_failedAtoms' f_failedRests' f_activeEdges' a_learnedPos' a_learnedNeg' a_learnedRests' a_trail' a_levelStart' a_levelAtoms' a_reasonAtoms' a_reasonRests' a_edgeFrom' a_edgeTo' a_edgeWeight' a_potential' a_moved' a_gamma' a_via' a_dist' a_link' g1 g2 g3 g4 g5 => ?_) (fun lc' f_learnedCount' f_learnedNext' f_activeRests' f_trueMask' f_falseMask' f_trailSize' f_theoryHead' f_level' f_conflictAtoms' f_conflictRests' f_failedAtoms' f_failedRests' f_activeEdges' a_learnedPos' a_learnedNeg' a_learnedRests' a_trail' a_levelStart' a_levelAtoms' a_reasonAtoms' a_reasonRests' a_edgeFrom' a_edgeTo' a_edgeWeight' a_potential' a_moved' a_gamma' a_via' a_dist' a_link' g1 g2 g3 g4 _ => ?_)
  · have har : ∀ q, bt f_activeRests' q = bt cl q := fun q => by rw [g3, Bool.false_and, Bool.or_false]
    have h24 : bt f_activeRests' 24 = false := zb_tf fun z => by rw [har] at z; have := hcl 24 z; omega
    have toM : ∀ τ, rl_FS n m a_kinds a_lefts a_rights a_bounds a_clausePos a_clauseNeg mt mf cl τ → ds_M n m a_kinds a_lefts a_rights a_bounds a_clausePos a_clauseNeg (fun _ => True) f_activeRests' τ := by
      intro τ ⟨⟨s, q1⟩, q2, _, _⟩
      exact ⟨s, q1, fun i hi hb => q2 i hi (by rw [← har]; exact hb), fun _ => trivial⟩
    obtain ⟨r1, r2, r3, r4, r5⟩ := g4
    refine K1 lc' f_learnedCount' f_learnedNext' f_activeRests' f_trueMask' f_falseMask' f_trailSize' f_theoryHead' f_level' f_conflictAtoms' f_conflictRests' f_failedAtoms' f_failedRests' f_activeEdges' a_learnedPos' a_learnedNeg' a_learnedRests' a_trail' a_levelStart' a_levelAtoms' a_reasonAtoms' a_reasonRests' a_edgeFrom' a_edgeTo' a_edgeWeight' a_potential' a_moved' a_gamma' a_via' a_dist' a_link' ⟨h1, h2, h3, g1, h5, h6, g2⟩ ⟨r1, ?_, fun τ hτ => r5 τ (toM τ hτ) hτ.2.2.1 hτ.2.2.2⟩ g5
    obtain ⟨s, q1, q2, _⟩ := r2
    exact ⟨⟨s, q1⟩, fun i hi hb => q2 i hi (by rw [har]; exact hb), r3, r4⟩
  · have har : ∀ q, bt f_activeRests' q = bt cl q := fun q => by rw [g3, Bool.false_and, Bool.or_false]
    refine K0 lc' f_learnedCount' f_learnedNext' f_activeRests' f_trueMask' f_falseMask' f_trailSize' f_theoryHead' f_level' f_conflictAtoms' f_conflictRests' f_failedAtoms' f_failedRests' f_activeEdges' a_learnedPos' a_learnedNeg' a_learnedRests' a_trail' a_levelStart' a_levelAtoms' a_reasonAtoms' a_reasonRests' a_edgeFrom' a_edgeTo' a_edgeWeight' a_potential' a_moved' a_gamma' a_via' a_dist' a_link' ⟨h1, h2, h3, g1, h5, h6, g2⟩ ⟨g4.1, fun q hq => by rw [← har]; exact g4.2.1 q hq, fun τ ⟨s, q1⟩ q2 q3 => g4.2.2 τ ⟨s, q1, fun i hi hb => q2 i hi hb, fun _ => trivial⟩ q3⟩
theorem xw_sa {post : Int32 → SX → Prop} {p0 p1 : Int32} (h : rl_XH V n m lc a_kinds a_lefts a_rights a_bounds a_clausePos a_clauseNeg a_learnedPos a_learnedNeg a_learnedRests)
    (hmt : ∀ q, bt (f_assumedTrue ||| p0) q = true → q < n) (hmf : ∀ q, bt (f_assumedFalse ||| p1) q = true → q < n) (hdis : ∀ q, bt (f_assumedTrue ||| p0) q = true → bt (f_assumedFalse ||| p1) q = true → False)
    (K1 : ∀ (lc' : Nat) (f_learnedCount' f_learnedNext' f_activeRests' f_trueMask' f_falseMask' f_trailSize' f_theoryHead' f_level' f_conflictAtoms' f_conflictRests' f_failedAtoms' f_failedRests' f_activeEdges' : Int32) (a_learnedPos' a_learnedNeg' a_learnedRests' a_trail' a_levelStart' a_levelAtoms' a_reasonAtoms' a_reasonRests' a_edgeFrom' a_edgeTo' a_edgeWeight' a_potential' a_moved' a_gamma' a_via' a_dist' a_link' : Nat → Int32), rl_XH V n m lc' a_kinds a_lefts a_rights a_bounds a_clausePos a_clauseNeg a_learnedPos' a_learnedNeg' a_learnedRests' →
      rl_Bs n m a_kinds a_lefts a_rights a_bounds a_clausePos a_clauseNeg (f_assumedTrue ||| p0) (f_assumedFalse ||| p1) (((1 : Int32) <<< (nI m &&& 31)) - 1) f_trueMask' → cd_Gr (fun _ => True) n a_kinds a_lefts a_rights a_bounds false f_trueMask' f_activeEdges' a_edgeFrom' a_edgeTo' a_edgeWeight' a_potential' →
      post 1 (f_goalEdge, f_goalRest, f_atomBits, f_decided, f_maxVariables, f_maxAtoms, f_maxClauses, f_maxDepth, nI n, nI m, f_depthNow, f_assumedTrue, f_assumedFalse, f_status, f_presentTrue, f_coreKnown, f_coreClauses, f_coreAtoms, f_witnessClauses, f_witnessAtoms, nI lc', f_learnedNext', f_activeRests', f_trueMask', f_falseMask', f_trailSize', f_theoryHead', f_level', f_conflictAtoms', f_conflictRests', f_failedAtoms', f_failedRests', f_activeEdges', 0, a_kinds, a_lefts, a_rights, a_bounds, a_atomDepths, a_literals, a_literalCounts, a_clausePos, a_clauseNeg, a_clauseDepths, a_values, a_learnedPos', a_learnedNeg', a_learnedRests', a_trail', a_levelStart', a_levelAtoms', a_reasonAtoms', a_reasonRests', a_edgeFrom', a_edgeTo', a_edgeWeight', a_potential', a_moved', a_gamma', a_via', a_dist', a_link'))
    (K0 : ∀ (lc' : Nat) (f_learnedCount' f_learnedNext' f_activeRests' f_trueMask' f_falseMask' f_trailSize' f_theoryHead' f_level' f_conflictAtoms' f_conflictRests' f_failedAtoms' f_failedRests' f_activeEdges' : Int32) (a_learnedPos' a_learnedNeg' a_learnedRests' a_trail' a_levelStart' a_levelAtoms' a_reasonAtoms' a_reasonRests' a_edgeFrom' a_edgeTo' a_edgeWeight' a_potential' a_moved' a_gamma' a_via' a_dist' a_link' : Nat → Int32), rl_XH V n m lc' a_kinds a_lefts a_rights a_bounds a_clausePos a_clauseNeg a_learnedPos' a_learnedNeg' a_learnedRests' →
      rl_Nn n m a_kinds a_lefts a_rights a_bounds a_clausePos a_clauseNeg (f_assumedTrue ||| p0) (f_assumedFalse ||| p1) (((1 : Int32) <<< (nI m &&& 31)) - 1) f_failedAtoms' f_failedRests' →
      post 0 (f_goalEdge, f_goalRest, f_atomBits, f_decided, f_maxVariables, f_maxAtoms, f_maxClauses, f_maxDepth, nI n, nI m, f_depthNow, f_assumedTrue, f_assumedFalse, f_status, f_presentTrue, f_coreKnown, f_coreClauses, f_coreAtoms, f_witnessClauses, f_witnessAtoms, nI lc', f_learnedNext', f_activeRests', f_trueMask', f_falseMask', f_trailSize', f_theoryHead', f_level', f_conflictAtoms', f_conflictRests', f_failedAtoms', f_failedRests', f_activeEdges', 0, a_kinds, a_lefts, a_rights, a_bounds, a_atomDepths, a_literals, a_literalCounts, a_clausePos, a_clauseNeg, a_clauseDepths, a_values, a_learnedPos', a_learnedNeg', a_learnedRests', a_trail', a_levelStart', a_levelAtoms', a_reasonAtoms', a_reasonRests', a_edgeFrom', a_edgeTo', a_edgeWeight', a_potential', a_moved', a_gamma', a_via', a_dist', a_link')) :
    wpX_searchAll post (f_goalEdge, f_goalRest, f_atomBits, f_decided, f_maxVariables, f_maxAtoms, f_maxClauses, f_maxDepth, nI n, nI m, f_depthNow, f_assumedTrue, f_assumedFalse, f_status, f_presentTrue, f_coreKnown, f_coreClauses, f_coreAtoms, f_witnessClauses, f_witnessAtoms, nI lc, f_learnedNext, f_activeRests, f_trueMask, f_falseMask, f_trailSize, f_theoryHead, f_level, f_conflictAtoms, f_conflictRests, f_failedAtoms, f_failedRests, f_activeEdges, 0, a_kinds, a_lefts, a_rights, a_bounds, a_atomDepths, a_literals, a_literalCounts, a_clausePos, a_clauseNeg, a_clauseDepths, a_values, a_learnedPos, a_learnedNeg, a_learnedRests, a_trail, a_levelStart, a_levelAtoms, a_reasonAtoms, a_reasonRests, a_edgeFrom, a_edgeTo, a_edgeWeight, a_potential, a_moved, a_gamma, a_via, a_dist, a_link) p0 p1 := by
  refine nm_e ?_
  refine xw_se h hmt hmf hdis (fun q hq => ?_) (fun lc' f_learnedCount' f_learnedNext' f_activeRests' f_trueMask' f_falseMask' f_trailSize' f_theoryHead' f_level' f_conflictAtoms' f_conflictRests' f_failedAtoms' f_failedRests' f_activeEdges' a_learnedPos' a_learnedNeg' a_learnedRests' a_trail' a_levelStart' a_levelAtoms' a_reasonAtoms' a_reasonRests' a_edgeFrom' a_edgeTo' a_edgeWeight' a_potential' a_moved' a_gamma' a_via' a_dist' a_link' g1 g2 g3 => And.intro rfl (K1 lc' f_learnedCount' f_learnedNext' f_activeRests' f_trueMask' f_falseMask' f_trailSize' f_theoryHead' f_level' f_conflictAtoms' f_conflictRests' f_failedAtoms' f_failedRests' f_activeEdges' a_learnedPos' a_learnedNeg' a_learnedRests' a_trail' a_levelStart' a_levelAtoms' a_reasonAtoms' a_reasonRests' a_edgeFrom' a_edgeTo' a_edgeWeight' a_potential' a_moved' a_gamma' a_via' a_dist' a_link' g1 g2 g3)) (fun lc' f_learnedCount' f_learnedNext' f_activeRests' f_trueMask' f_falseMask' f_trailSize' f_theoryHead' f_level' f_conflictAtoms' f_conflictRests' f_failedAtoms' f_failedRests' f_activeEdges' a_learnedPos' a_learnedNeg' a_learnedRests' a_trail' a_levelStart' a_levelAtoms' a_reasonAtoms' a_reasonRests' a_edgeFrom' a_edgeTo' a_edgeWeight' a_potential' a_moved' a_gamma' a_via' a_dist' a_link' g1 g2 => And.intro rfl (K0 lc' f_learnedCount' f_learnedNext' f_activeRests' f_trueMask' f_falseMask' f_trailSize' f_theoryHead' f_level' f_conflictAtoms' f_conflictRests' f_failedAtoms' f_failedRests' f_activeEdges' a_learnedPos' a_learnedNeg' a_learnedRests' a_trail' a_levelStart' a_levelAtoms' a_reasonAtoms' a_reasonRests' a_edgeFrom' a_edgeTo' a_edgeWeight' a_potential' a_moved' a_gamma' a_via' a_dist' a_link' g1 g2))
  rw [zb_mask (by have := h.2.1; omega), decide_eq_true_eq] at hq
  exact hq
end
section
variable {f_goalEdge f_goalRest f_atomBits f_decided f_maxVariables f_maxAtoms f_maxClauses f_maxDepth f_atomCount f_clauseCount f_depthNow f_assumedTrue f_assumedFalse f_status f_presentTrue f_coreKnown f_coreClauses f_coreAtoms f_witnessClauses f_witnessAtoms f_learnedCount f_learnedNext f_activeRests f_trueMask f_falseMask f_trailSize f_theoryHead f_level f_conflictAtoms f_conflictRests f_failedAtoms f_failedRests f_activeEdges f_goalOn : Int32} {a_kinds a_lefts a_rights a_bounds a_atomDepths a_literals a_literalCounts a_clausePos a_clauseNeg a_clauseDepths a_values a_learnedPos a_learnedNeg a_learnedRests a_trail a_levelStart a_levelAtoms a_reasonAtoms a_reasonRests a_edgeFrom a_edgeTo a_edgeWeight a_potential a_moved a_gamma a_via a_dist a_link : Nat → Int32}
theorem xw_reset {post : SX → Prop} (K : post (f_goalEdge, f_goalRest, f_atomBits, f_decided, f_maxVariables, f_maxAtoms, f_maxClauses, f_maxDepth, f_atomCount, f_clauseCount, f_depthNow, f_assumedTrue, f_assumedFalse, 0, 0, 0, 0, 0, f_witnessClauses, f_witnessAtoms, f_learnedCount, f_learnedNext, f_activeRests, f_trueMask, f_falseMask, f_trailSize, f_theoryHead, f_level, f_conflictAtoms, f_conflictRests, f_failedAtoms, f_failedRests, f_activeEdges, f_goalOn, a_kinds, a_lefts, a_rights, a_bounds, a_atomDepths, a_literals, a_literalCounts, a_clausePos, a_clauseNeg, a_clauseDepths, a_values, a_learnedPos, a_learnedNeg, a_learnedRests, a_trail, a_levelStart, a_levelAtoms, a_reasonAtoms, a_reasonRests, a_edgeFrom, a_edgeTo, a_edgeWeight, a_potential, a_moved, a_gamma, a_via, a_dist, a_link)) : wpX_reset post (f_goalEdge, f_goalRest, f_atomBits, f_decided, f_maxVariables, f_maxAtoms, f_maxClauses, f_maxDepth, f_atomCount, f_clauseCount, f_depthNow, f_assumedTrue, f_assumedFalse, f_status, f_presentTrue, f_coreKnown, f_coreClauses, f_coreAtoms, f_witnessClauses, f_witnessAtoms, f_learnedCount, f_learnedNext, f_activeRests, f_trueMask, f_falseMask, f_trailSize, f_theoryHead, f_level, f_conflictAtoms, f_conflictRests, f_failedAtoms, f_failedRests, f_activeEdges, f_goalOn, a_kinds, a_lefts, a_rights, a_bounds, a_atomDepths, a_literals, a_literalCounts, a_clausePos, a_clauseNeg, a_clauseDepths, a_values, a_learnedPos, a_learnedNeg, a_learnedRests, a_trail, a_levelStart, a_levelAtoms, a_reasonAtoms, a_reasonRests, a_edgeFrom, a_edgeTo, a_edgeWeight, a_potential, a_moved, a_gamma, a_via, a_dist, a_link) := K
end
section
variable {y_maxV y_maxA y_maxC y_maxD y_n y_m y_d y_status y_model y_hasCore : Int32} {z_kind z_atomX z_atomY z_atomC z_atomDepth z_assumed z_literals z_length z_clauseDepth z_clauseIn z_assumptionIn z_bound : Nat → Int32}
theorem yw_reset {post : SY → Prop} (K : post (y_maxV, y_maxA, y_maxC, y_maxD, y_n, y_m, y_d, 0, 0, 0, z_kind, z_atomX, z_atomY, z_atomC, z_atomDepth, z_assumed, z_literals, z_length, z_clauseDepth, z_clauseIn, z_assumptionIn, z_bound)) : wpY_reset post (y_maxV, y_maxA, y_maxC, y_maxD, y_n, y_m, y_d, y_status, y_model, y_hasCore, z_kind, z_atomX, z_atomY, z_atomC, z_atomDepth, z_assumed, z_literals, z_length, z_clauseDepth, z_clauseIn, z_assumptionIn, z_bound) := K
end
/-- full models and the masks of a search under all clauses -/
theorem fs_md {n m : Nat} {kd lf rt bd cp cn : Nat → Int32} {aT aF mt mf : Int32} (hm : m ≤ 24) (hb : ∀ k, bt aT k = true ∨ bt aF k = true → k < n) {τ : Nat → Bool} :
    rl_FS n m kd lf rt bd cp cn (aT ||| mt) (aF ||| mf) (((1 : Int32) <<< (nI m &&& 31)) - 1) τ ↔ (rl_Md n m kd lf rt bd cp cn aT aF (fun _ => True) (fun _ => True) τ ∧ (∀ q, bt mt q = true → τ q = true) ∧ (∀ q, bt mf q = true → τ q = false)) := by
  constructor
  · intro ⟨h1, h2, h3, h4⟩
    refine ⟨⟨fun k _ _ => ⟨fun z => h3 k (by rw [b_or, z]; rfl), fun z => h4 k (by rw [b_or, z]; rfl)⟩, fun i hi _ => h2 i hi (by rw [zb_mask hm, decide_eq_true hi]), h1⟩, fun q hq => h3 q (by rw [b_or, hq, Bool.or_true]), fun q hq => h4 q (by rw [b_or, hq, Bool.or_true])⟩
  · intro ⟨⟨h1, h2, h3⟩, h4, h5⟩
    refine ⟨h3, fun i hi _ => h2 i hi trivial, fun q hq => ?_, fun q hq => ?_⟩
    · rw [b_or, Bool.or_eq_true] at hq
      rcases hq with z | z
      · exact (h1 q (hb q (Or.inl z)) trivial).1 z
      · exact h4 q z
    · rw [b_or, Bool.or_eq_true] at hq
      rcases hq with z | z
      · exact (h1 q (hb q (Or.inr z)) trivial).2 z
      · exact h5 q z
theorem md_weak {n m : Nat} {kd lf rt bd cp cn : Nat → Int32} {aT aF : Int32} {S A S' A' : Nat → Prop} {τ : Nat → Bool} (h : rl_Md n m kd lf rt bd cp cn aT aF S A τ) (h1 : ∀ i, i < m → S' i → S i) (h2 : ∀ k, k < n → A' k → A k) : rl_Md n m kd lf rt bd cp cn aT aF S' A' τ :=
  ⟨fun k hk ha => h.1 k hk (h2 k hk ha), fun i hi hs => h.2.1 i hi (h1 i hi hs), h.2.2⟩
/-- a status with a model -/
theorem ss_sat {n m : Nat} {kd lf rt bd cp cn : Nat → Int32} {aT aF tm cc ca wC wA : Int32} {vl cI aI : Nat → Int32} {s : Nat → Int} (hC : ∀ i, i < m → ∀ k, bt (cp i) k = true ∨ bt (cn i) k = true → k < n) (h1 : ∀ q, bt tm q = true → q < n)
    (h2 : rl_Md n m kd lf rt bd cp cn aT aF (fun _ => True) (fun _ => True) (fun q => bt tm q)) (h3 : gs_Gr (ds_E n kd lf rt bd (fun q => bt tm q)) s) (h4 : ∀ v, v < 8 → (vl v).toInt = s v) :
    rl_SS n m kd lf rt bd cp cn aT aF 1 tm 0 cc ca wC wA vl (nI (rl_num n (fun q => bt tm q))) cI aI := by
  have hb : ∀ k, k < n → rl_tau n (rl_num n (fun q => bt tm q)) k = bt tm k := fun k hk => rl_num_bit _ hk
  refine ⟨Or.inr (Or.inl ⟨rfl, _, rl_num_lt _ n, rfl, fun k => ?_, rl_Mdcg hC (fun k hk => (hb k hk).symm) h2, s, ?_, h4⟩), Or.inl rfl⟩
  · constructor
    · intro hk; exact ⟨h1 k hk, by rw [hb k (h1 k hk)]; exact hk⟩
    · intro ⟨hk, e⟩; rw [hb k hk] at e; exact e
  · rw [ds_Ecg hb]; exact h3
theorem i_vc_solve {k : Nat} {u : SX} {v : SY} (I : i_Rel k u v) (hk : k + 5 ≤ 2564) : wpX_solve (fun r u' => wpY_solve (fun r' v' => r' = r ∧ i_Rel (k + 5) u' v') v) u := by
  refine zz_el (P := fun u v => wpX_solve (fun r u' => wpY_solve (fun r' v' => r' = r ∧ i_Rel (k + 5) u' v') v) u) ?_ I
  intro V A C D n m d lc f_goalEdge f_goalRest f_atomBits f_decided f_assumedTrue f_assumedFalse f_status f_presentTrue f_coreKnown f_coreClauses f_coreAtoms f_witnessClauses f_witnessAtoms f_learnedNext f_activeRests f_trueMask f_falseMask f_trailSize f_theoryHead f_level f_conflictAtoms f_conflictRests f_failedAtoms f_failedRests f_activeEdges a_kinds a_lefts a_rights a_bounds a_atomDepths a_literals a_literalCounts a_clausePos a_clauseNeg a_clauseDepths a_values a_learnedPos a_learnedNeg a_learnedRests a_trail a_levelStart a_levelAtoms a_reasonAtoms a_reasonRests a_edgeFrom a_edgeTo a_edgeWeight a_potential a_moved a_gamma a_via a_dist a_link y_model z_assumed z_literals z_clauseIn z_assumptionIn z_bound hR
  have hXH := rl_xh hR
  have hYH := rl_yh hR
  obtain ⟨⟨b1, b2, b3, b4, b5, b6, b7, b8, b9⟩, hPD, hLC, hSS⟩ := hR
  have hP := hPD
  obtain ⟨_, _, _, _, _, _, g7, g8, g9⟩ := hP
  have hp := (rl_pow n (by omega)).2
  have hor0 : ∀ (x : Int32) q, bt (x ||| 0) q = bt x q := fun x q => by rw [b_or, b_0, Bool.or_false]
  have hfs := fun τ => fs_md (n := n) (m := m) (kd := a_kinds) (lf := a_lefts) (rt := a_rights) (bd := a_bounds) (cp := a_clausePos) (cn := a_clauseNeg) (aT := f_assumedTrue) (aF := f_assumedFalse) (mt := 0) (mf := 0) (τ := τ) (by omega) g7
  have hfs' : ∀ τ, rl_FS n m a_kinds a_lefts a_rights a_bounds a_clausePos a_clauseNeg (f_assumedTrue ||| 0) (f_assumedFalse ||| 0) (((1 : Int32) <<< (nI m &&& 31)) - 1) τ ↔ rl_Md n m a_kinds a_lefts a_rights a_bounds a_clausePos a_clauseNeg f_assumedTrue f_assumedFalse (fun _ => True) (fun _ => True) τ := fun τ => by
    rw [hfs τ]
    exact ⟨fun z => z.1, fun z => ⟨z, fun q hq => (by rw [b_0] at hq; cases hq), fun q hq => (by rw [b_0] at hq; cases hq)⟩⟩
  unfold wpX_solve wpY_solve
  refine xw_reset ?_
  refine xw_sa hXH (fun q hq => g7 q (Or.inl (by rw [hor0] at hq; exact hq))) (fun q hq => g7 q (Or.inr (by rw [hor0] at hq; exact hq))) (fun q h1 h2 => g8 q (by rw [hor0] at h1; exact h1) (by rw [hor0] at h2; exact h2)) (fun lc' f_learnedCount' f_learnedNext' f_activeRests' f_trueMask' f_falseMask' f_trailSize' f_theoryHead' f_level' f_conflictAtoms' f_conflictRests' f_failedAtoms' f_failedRests' f_activeEdges' a_learnedPos' a_learnedNeg' a_learnedRests' a_trail' a_levelStart' a_levelAtoms' a_reasonAtoms' a_reasonRests' a_edgeFrom' a_edgeTo' a_edgeWeight' a_potential' a_moved' a_gamma' a_via' a_dist' a_link' q1 q2 q3 => ?_) (fun lc' f_learnedCount' f_learnedNext' f_activeRests' f_trueMask' f_falseMask' f_trailSize' f_theoryHead' f_level' f_conflictAtoms' f_conflictRests' f_failedAtoms' f_failedRests' f_activeEdges' a_learnedPos' a_learnedNeg' a_learnedRests' a_trail' a_levelStart' a_levelAtoms' a_reasonAtoms' a_reasonRests' a_edgeFrom' a_edgeTo' a_edgeWeight' a_potential' a_moved' a_gamma' a_via' a_dist' a_link' q1 q2 => ?_)
  · obtain ⟨r1, r2, r3⟩ := q2
    have r2' := (hfs' _).mp r2
    obtain ⟨s, hs⟩ := gs_ex (fun a b w e => by have := ds_E8 hXH.2.2.2.2.1 b2 a b w e; exact ⟨this.1, this.2.1⟩) r2'.2.2
    refine br_f (by decide) ?_
    refine xw_adopt (by omega) hXH.2.2.2.2.1 b2 q3 hs (fun vl hvl => ?_)
    have hb : ∀ k, k < n → rl_tau n (rl_num n (fun q => bt f_trueMask' q)) k = bt f_trueMask' k := fun k hk => rl_num_bit _ hk
    refine yw_reset ?_
    refine yw_leastS (S := fun _ => True) (A := fun _ => True) (t0 := rl_num n (fun q => bt f_trueMask' q)) hYH (fun i _ => ⟨fun _ => Or.inl (by decide), fun _ => trivial⟩) (fun i _ => ⟨fun _ => Or.inl (by decide), fun _ => trivial⟩) (Nat.zero_le _) (rl_num_lt _ n) (rl_Mdcg hXH.2.2.2.2.2.1 (fun k hk => (hb k hk).symm) r2') (fun t _ htl hmod => ?_) (fun b => ?_)
    · have ht2 : t < 2 ^ n := by have := rl_num_lt (fun q => bt f_trueMask' q) n; omega
      have := bs_ge ⟨r1, r2, r3⟩ ht2 ((hfs' _).mpr hmod)
      omega
    · refine br_t (nI_pos' (by have := rl_num_lt (fun q => bt f_trueMask' q) n; omega)) ⟨rfl, zz_in ⟨⟨b1, b2, b3, b4, b5, b6, b7, b8, q1.2.2.2.1⟩, hPD, q1.2.2.2.2.2.2, ss_sat hXH.2.2.2.2.2.1 r1 r2' hs hvl⟩⟩
  · refine br_t rfl ?_
    have hno := rl_Nn_no q2
    refine yw_reset ?_
    refine yw_leastN (S := fun _ => True) (A := fun _ => True) hYH (fun i _ => ⟨fun _ => Or.inl (by decide), fun _ => trivial⟩) (fun i _ => ⟨fun _ => Or.inl (by decide), fun _ => trivial⟩) (Nat.zero_le _) (fun t _ _ hmod => hno _ ((hfs' _).mpr hmod)) (fun b => ?_)
    refine br_f (by decide) ⟨rfl, zz_in ⟨⟨b1, b2, b3, b4, b5, b6, b7, b8, q1.2.2.2.1⟩, hPD, q1.2.2.2.2.2.2, Or.inr (Or.inr ⟨rfl, fun q hq => ?_, fun q hq => ?_, fun τ hτ => ?_⟩), Or.inl rfl⟩⟩
    · have := q2.2.1 q hq
      rw [zb_mask (by omega), decide_eq_true_eq] at this
      exact this
    · have := q2.1 q hq
      rw [hor0, hor0] at this
      exact this
    · refine q2.2.2 τ hτ.2.2 (fun i hi hb => hτ.2.1 i hi hb) (fun q hq => ?_)
      have hqn : q < n := by
        have := q2.1 q hq
        rw [hor0, hor0] at this
        exact g7 q this
      rw [hor0, hor0]
      exact hτ.1 q hqn hq
end
section
theorem zb_nand (x y : Int32) (q : Nat) : bt ((x ^^^ (-1)) &&& y) q = (!bt x q && bt y q) := by
  rw [b_and, Bool.and_comm, ← b_and, zb_clr, Bool.and_comm]
/-- one number above another: the first difference -/
theorem rl_gt {n t t' : Nat} (ht : t < 2 ^ n) (ht' : t' < 2 ^ n) (h : t < t') : ∃ p, p < n ∧ (∀ q, q < p → rl_tau n t' q = rl_tau n t q) ∧ rl_tau n t' p = true ∧ rl_tau n t p = false := by
  rcases rl_diff (f := rl_tau n t') (g := rl_tau n t) n with e | ⟨p, p1, p2, p3⟩
  · have := rl_num_cg e
    rw [rl_num_tau ht, rl_num_tau ht'] at this
    omega
  · refine ⟨p, p1, p2, ?_⟩
    cases h1 : rl_tau n t' p <;> cases h2 : rl_tau n t p
    · rw [h1, h2] at p3; exact (p3 rfl).elim
    · have := rl_num_ord (n := n) p1 p2 h1 h2
      rw [rl_num_tau ht, rl_num_tau ht'] at this
      omega
    · exact ⟨rfl, rfl⟩
    · rw [h1, h2] at p3; exact (p3 rfl).elim
theorem i_vc_next {k : Nat} {u : SX} {v : SY} (I : i_Rel k u v) (hk : k + 5 ≤ 2564) : wpX_next (fun r u' => wpY_next (fun r' v' => r' = r ∧ i_Rel (k + 5) u' v') v) u := by
  refine zz_el (P := fun u v => wpX_next (fun r u' => wpY_next (fun r' v' => r' = r ∧ i_Rel (k + 5) u' v') v) u) ?_ I
  intro V A C D n m d lc f_goalEdge f_goalRest f_atomBits f_decided f_assumedTrue f_assumedFalse f_status f_presentTrue f_coreKnown f_coreClauses f_coreAtoms f_witnessClauses f_witnessAtoms f_learnedNext f_activeRests f_trueMask f_falseMask f_trailSize f_theoryHead f_level f_conflictAtoms f_conflictRests f_failedAtoms f_failedRests f_activeEdges a_kinds a_lefts a_rights a_bounds a_atomDepths a_literals a_literalCounts a_clausePos a_clauseNeg a_clauseDepths a_values a_learnedPos a_learnedNeg a_learnedRests a_trail a_levelStart a_levelAtoms a_reasonAtoms a_reasonRests a_edgeFrom a_edgeTo a_edgeWeight a_potential a_moved a_gamma a_via a_dist a_link y_model z_assumed z_literals z_clauseIn z_assumptionIn z_bound hR
  have hR' := hR
  have hXH := rl_xh hR
  have hYH := rl_yh hR
  obtain ⟨⟨b1, b2, b3, b4, b5, b6, b7, b8, b9⟩, hPD, hLC, hSS⟩ := hR
  have hP := hPD
  obtain ⟨_, _, _, _, _, _, g7, g8, g9⟩ := hP
  have hp := (rl_pow n (by omega)).2
  have hC := hXH.2.2.2.2.2.1
  refine br_c (fun hst => nm_e ?_) (fun hst => br_f hst ⟨rfl, zz_in hR'⟩)
  obtain ⟨hs1, hs2⟩ := hSS
  rcases hs1 with z | ⟨_, t, t1, t2, t3, t4, hval⟩ | ⟨z, _⟩
  · rw [z] at hst; exact absurd hst (by decide)
  rotate_left
  · rw [z] at hst; exact absurd hst (by decide)
  have hpT : ∀ q, q < n → bt f_presentTrue q = rl_tau n t q := fun q hq => by
    cases hb : rl_tau n t q
    · exact zb_tf fun y => by rw [((t3 q).mp y).2] at hb; cases hb
    · exact (t3 q).mpr ⟨hq, hb⟩
  have hpn : ∀ q, bt f_presentTrue q = true → q < n := fun q hq => ((t3 q).mp hq).1
  have haT : ∀ q, bt f_assumedTrue q = true → bt f_presentTrue q = true := fun q hq => by
    have hqn := g7 q (Or.inl hq)
    rw [hpT q hqn]; exact (t4.1 q hqn trivial).1 hq
  have haF : ∀ q, bt f_assumedFalse q = true → bt f_presentTrue q = false := fun q hq => by
    have hqn := g7 q (Or.inr hq)
    rw [hpT q hqn]; exact (t4.1 q hqn trivial).2 hq
  have key : ∀ c f (lc' : Nat) (f_learnedCount' f_learnedNext' f_activeRests' f_trueMask' f_falseMask' f_trailSize' f_theoryHead' f_level' f_conflictAtoms' f_conflictRests' f_failedAtoms' f_failedRests' f_activeEdges' : Int32) (a_learnedPos' a_learnedNeg' a_learnedRests' a_trail' a_levelStart' a_levelAtoms' a_reasonAtoms' a_reasonRests' a_edgeFrom' a_edgeTo' a_edgeWeight' a_potential' a_moved' a_gamma' a_via' a_dist' a_link' : Nat → Int32), c < f → c ≤ n → rl_XH V n m lc' a_kinds a_lefts a_rights a_bounds a_clausePos a_clauseNeg a_learnedPos' a_learnedNeg' a_learnedRests' →
      (∀ a, c ≤ a → a < n → ∀ τ, rl_Md n m a_kinds a_lefts a_rights a_bounds a_clausePos a_clauseNeg f_assumedTrue f_assumedFalse (fun _ => True) (fun _ => True) τ → (∀ q, q < a → τ q = bt f_presentTrue q) → τ a = true → bt f_presentTrue a = false → False) →
      wX_next_19 (fun r u' => wpY_next (fun r' v' => r' = r ∧ i_Rel (k + 5) u' v') (nI V, nI A, nI C, nI D, nI n, nI m, nI d, f_status, y_model, f_coreKnown, a_kinds, a_lefts, a_rights, a_bounds, a_atomDepths, z_assumed, z_literals, a_literalCounts, a_clauseDepths, z_clauseIn, z_assumptionIn, z_bound)) f (nI c - 1) f_goalEdge f_goalRest f_atomBits f_decided (nI V) (nI A) (nI C) (nI D) (nI n) (nI m) (nI d) f_assumedTrue f_assumedFalse f_status f_presentTrue f_coreKnown f_coreClauses f_coreAtoms f_witnessClauses f_witnessAtoms (nI lc') f_learnedNext' f_activeRests' f_trueMask' f_falseMask' f_trailSize' f_theoryHead' f_level' f_conflictAtoms' f_conflictRests' f_failedAtoms' f_failedRests' f_activeEdges' 0 a_kinds a_lefts a_rights a_bounds a_atomDepths a_literals a_literalCounts a_clausePos a_clauseNeg a_clauseDepths a_values a_learnedPos' a_learnedNeg' a_learnedRests' a_trail' a_levelStart' a_levelAtoms' a_reasonAtoms' a_reasonRests' a_edgeFrom' a_edgeTo' a_edgeWeight' a_potential' a_moved' a_gamma' a_via' a_dist' a_link' := by
    intro c
    induction c with
    | zero =>
      intro f lc' f_learnedCount' f_learnedNext' f_activeRests' f_trueMask' f_falseMask' f_trailSize' f_theoryHead' f_level' f_conflictAtoms' f_conflictRests' f_failedAtoms' f_failedRests' f_activeEdges' a_learnedPos' a_learnedNeg' a_learnedRests' a_trail' a_levelStart' a_levelAtoms' a_reasonAtoms' a_reasonRests' a_edgeFrom' a_edgeTo' a_edgeWeight' a_potential' a_moved' a_gamma' a_via' a_dist' a_link' hf hc hX hno
      cases f with
      | zero => omega
      | succ f =>
        refine br_t (by decide) ?_
        refine br_t hst ?_
        rw [t2, nI_1]
        refine yw_leastN (S := fun _ => True) (A := fun _ => True) hYH (fun i _ => ⟨fun _ => Or.inl (by decide), fun _ => trivial⟩) (fun i _ => ⟨fun _ => Or.inl (by decide), fun _ => trivial⟩) (by omega) (fun t' w1 w2 hmod => ?_) (fun b => ?_)
        · obtain ⟨p, p1, p2, p3, p4⟩ := rl_gt t1 w2 (by omega)
          exact hno p (Nat.zero_le _) p1 _ hmod (fun q hq => by rw [hpT q (by omega)]; exact p2 q hq) p3 (by rw [hpT p p1]; exact p4)
        · refine br_f (by decide) ⟨rfl, ?_⟩
          rw [← t2]
          exact zz_in ⟨⟨b1, b2, b3, b4, b5, b6, b7, b8, hX.2.2.2.1⟩, hPD, hX.2.2.2.2.2.2, Or.inr (Or.inl ⟨hst, t, t1, t2, t3, t4, hval⟩), hs2⟩
    | succ c ih =>
      intro f lc' f_learnedCount' f_learnedNext' f_activeRests' f_trueMask' f_falseMask' f_trailSize' f_theoryHead' f_level' f_conflictAtoms' f_conflictRests' f_failedAtoms' f_failedRests' f_activeEdges' a_learnedPos' a_learnedNeg' a_learnedRests' a_trail' a_levelStart' a_levelAtoms' a_reasonAtoms' a_reasonRests' a_edgeFrom' a_edgeTo' a_edgeWeight' a_potential' a_moved' a_gamma' a_via' a_dist' a_link' hf hc hX hno
      cases f with
      | zero => omega
      | succ f =>
        rw [nI_pred]
        refine br_f (nI_pos (by omega)) (nm_e (br_c (fun h1 => ?_) (fun h1 => ?_)))
        · have hfr : bt f_presentTrue c = false ∧ bt f_assumedFalse c = false := by
            have := (zb_and1 (by omega)).mp h1
            rw [b_or, Bool.or_eq_false_iff] at this
            exact this
          have hx4 : ∀ q, bt ((f_presentTrue &&& (((1 : Int32) <<< (nI c &&& 31)) - 1)) ||| (1 : Int32) <<< (nI c &&& 31)) q = ((bt f_presentTrue q && decide (q < c)) || decide (q = c)) := fun q => by rw [b_or, b_and, zb_mask (by omega), zb_bit (by omega)]
          have hx5 : ∀ q, bt ((f_presentTrue ^^^ (-1)) &&& (((1 : Int32) <<< (nI c &&& 31)) - 1)) q = (!bt f_presentTrue q && decide (q < c)) := fun q => by rw [zb_nand, zb_mask (by omega)]
          refine nm_e (nm_e (nm_e ?_))
          generalize (f_presentTrue &&& (((1 : Int32) <<< (nI c &&& 31)) - 1)) ||| (1 : Int32) <<< (nI c &&& 31) = x4 at hx4 ⊢
          generalize (f_presentTrue ^^^ (-1)) &&& (((1 : Int32) <<< (nI c &&& 31)) - 1) = x5 at hx5 ⊢
          have hx4' : ∀ q, bt x4 q = true ↔ ((bt f_presentTrue q = true ∧ q < c) ∨ q = c) := fun q => by rw [hx4, Bool.or_eq_true, Bool.and_eq_true, decide_eq_true_eq, decide_eq_true_eq]
          have hx5' : ∀ q, bt x5 q = true ↔ (bt f_presentTrue q = false ∧ q < c) := fun q => by rw [hx5, Bool.and_eq_true, decide_eq_true_eq, Bool.not_eq_true']
          have hfs := fun τ => fs_md (n := n) (m := m) (kd := a_kinds) (lf := a_lefts) (rt := a_rights) (bd := a_bounds) (cp := a_clausePos) (cn := a_clauseNeg) (aT := f_assumedTrue) (aF := f_assumedFalse) (mt := x4) (mf := x5) (τ := τ) (by omega) g7
          have pre : ∀ τ : Nat → Bool, (∀ q, q < c → τ q = bt f_presentTrue q) → τ c = true → (∀ q, bt x4 q = true → τ q = true) ∧ (∀ q, bt x5 q = true → τ q = false) := by
            intro τ e1 e2
            refine ⟨fun q hq => ?_, fun q hq => ?_⟩
            · rcases (hx4' q).mp hq with ⟨y1, y2⟩ | y
              · rw [e1 q y2]; exact y1
              · rw [y]; exact e2
            · obtain ⟨y1, y2⟩ := (hx5' q).mp hq
              rw [e1 q y2]; exact y1
          refine xw_sa hX (fun q hq => ?_) (fun q hq => ?_) (fun q hq1 hq2 => ?_) (fun lc2 f_learnedCount'' f_learnedNext'' f_activeRests'' f_trueMask'' f_falseMask'' f_trailSize'' f_theoryHead'' f_level'' f_conflictAtoms'' f_conflictRests'' f_failedAtoms'' f_failedRests'' f_activeEdges'' a_learnedPos'' a_learnedNeg'' a_learnedRests'' a_trail'' a_levelStart'' a_levelAtoms'' a_reasonAtoms'' a_reasonRests'' a_edgeFrom'' a_edgeTo'' a_edgeWeight'' a_potential'' a_moved'' a_gamma'' a_via'' a_dist'' a_link'' q1 q2 q3 => ?_) (fun lc2 f_learnedCount'' f_learnedNext'' f_activeRests'' f_trueMask'' f_falseMask'' f_trailSize'' f_theoryHead'' f_level'' f_conflictAtoms'' f_conflictRests'' f_failedAtoms'' f_failedRests'' f_activeEdges'' a_learnedPos'' a_learnedNeg'' a_learnedRests'' a_trail'' a_levelStart'' a_levelAtoms'' a_reasonAtoms'' a_reasonRests'' a_edgeFrom'' a_edgeTo'' a_edgeWeight'' a_potential'' a_moved'' a_gamma'' a_via'' a_dist'' a_link'' q1 q2 => ?_)
          · rw [b_or, Bool.or_eq_true] at hq
            rcases hq with y | y
            · exact g7 q (Or.inl y)
            · rcases (hx4' q).mp y with ⟨y1, y2⟩ | y
              · omega
              · omega
          · rw [b_or, Bool.or_eq_true] at hq
            rcases hq with y | y
            · exact g7 q (Or.inr y)
            · have := ((hx5' q).mp y).2
              omega
          · rw [b_or, Bool.or_eq_true] at hq1 hq2
            rcases hq1 with y | y
            · rcases hq2 with w | w
              · exact g8 q y w
              · have h6 := haT q y
                rw [((hx5' q).mp w).1] at h6; cases h6
            · rcases hq2 with w | w
              · rcases (hx4' q).mp y with ⟨y1, y2⟩ | y
                · rw [haF q w] at y1; cases y1
                · rw [y, hfr.2] at w; cases w
              · obtain ⟨w1, w2⟩ := (hx5' q).mp w
                rcases (hx4' q).mp y with ⟨y1, y2⟩ | y
                · rw [w1] at y1; cases y1
                · omega
          · -- found
            have q2' := q2
            obtain ⟨r1, r2, r3⟩ := q2'
            obtain ⟨r4, r5, r6⟩ := (hfs _).mp r2
            obtain ⟨s, hs⟩ := gs_ex (fun a b w e => by have := ds_E8 hXH.2.2.2.2.1 b2 a b w e; exact ⟨this.1, this.2.1⟩) r4.2.2
            have hb : ∀ q, q < n → rl_tau n (rl_num n (fun q => bt f_trueMask'' q)) q = bt f_trueMask'' q := fun q hq => rl_num_bit _ hq
            have hlo : ∀ q, q < c → bt f_trueMask'' q = bt f_presentTrue q := by
              intro q hq
              cases hpq : bt f_presentTrue q
              · exact r6 q ((hx5' q).mpr ⟨hpq, hq⟩)
              · exact r5 q ((hx4' q).mpr (Or.inl ⟨hpq, hq⟩))
            have hcc : bt f_trueMask'' c = true := r5 c ((hx4' c).mpr (Or.inr rfl))
            refine br_f (by decide) ?_
            refine xw_adopt (by omega) hXH.2.2.2.2.1 b2 q3 hs (fun vl hvl => ?_)
            refine br_t hst ?_
            rw [t2, nI_1]
            have hlt : t < rl_num n (fun q => bt f_trueMask'' q) := by
              have : rl_num n (rl_tau n t) < rl_num n (fun q => bt f_trueMask'' q) := rl_num_ord (n := n) (p := c) (by omega) (fun q hq => by rw [hlo q hq, hpT q (by omega)]) (by rw [← hpT c (by omega)]; exact hfr.1) hcc
              rw [rl_num_tau t1] at this
              exact this
            refine yw_leastS (S := fun _ => True) (A := fun _ => True) (t0 := rl_num n (fun q => bt f_trueMask'' q)) hYH (fun i _ => ⟨fun _ => Or.inl (by decide), fun _ => trivial⟩) (fun i _ => ⟨fun _ => Or.inl (by decide), fun _ => trivial⟩) (by omega) (rl_num_lt _ n) (rl_Mdcg hC (fun q hq => (hb q hq).symm) r4) (fun t' w1 w2 hmod => ?_) (fun b => ?_)
            · have hlt0 := rl_num_lt (fun q => bt f_trueMask'' q) n
              have ht' : t' < 2 ^ n := by omega
              obtain ⟨p, p1, p2, p3, p4⟩ := rl_gt t1 ht' (by omega)
              have p2' : ∀ q, q < p → rl_tau n t' q = bt f_presentTrue q := fun q hq => by rw [hpT q (by omega)]; exact p2 q hq
              have p4' : bt f_presentTrue p = false := by rw [hpT p p1]; exact p4
              rcases Nat.lt_trichotomy p c with y | y | y
              · have : rl_num n (fun q => bt f_trueMask'' q) < rl_num n (rl_tau n t') := rl_num_ord (n := n) p1 (fun q hq => by rw [hlo q (by omega), p2' q hq]) (by rw [hlo p y]; exact p4') p3
                rw [rl_num_tau ht'] at this
                omega
              · subst y
                have := bs_ge q2 ht' ((hfs _).mpr ⟨hmod, pre _ p2' p3⟩)
                omega
              · exact hno p (by omega) p1 _ hmod p2' p3 p4'
            · have hck : f_coreKnown = 0 := by
                rcases hs2 with y | ⟨_, y, _⟩
                · exact y
                · rw [hst] at y; exact absurd y (by decide)
              refine br_t (nI_pos' (by have := rl_num_lt (fun q => bt f_trueMask'' q) n; omega)) ⟨rfl, ?_⟩
              subst hck hst
              exact zz_in ⟨⟨b1, b2, b3, b4, b5, b6, b7, b8, q1.2.2.2.1⟩, hPD, q1.2.2.2.2.2.2, ss_sat hC r1 r4 hs hvl⟩
          · -- not found
            have hnn := rl_Nn_no q2
            refine br_t rfl (nm_r (zi_pm c) (ih f lc2 f_learnedCount'' f_learnedNext'' f_activeRests'' f_trueMask'' f_falseMask'' f_trailSize'' f_theoryHead'' f_level'' f_conflictAtoms'' f_conflictRests'' f_failedAtoms'' f_failedRests'' f_activeEdges'' a_learnedPos'' a_learnedNeg'' a_learnedRests'' a_trail'' a_levelStart'' a_levelAtoms'' a_reasonAtoms'' a_reasonRests'' a_edgeFrom'' a_edgeTo'' a_edgeWeight'' a_potential'' a_moved'' a_gamma'' a_via'' a_dist'' a_link'' (by omega) (by omega) q1 (fun a ha ha' τ hmod e1 e2 e3 => ?_)))
            rcases Nat.lt_or_ge c a with y | y
            · exact hno a (by omega) ha' τ hmod e1 e2 e3
            · have : a = c := by omega
              subst this
              exact hnn τ ((hfs τ).mpr ⟨hmod, pre τ e1 e2⟩)
        · refine nm_r (zi_pm c) (ih f lc' f_learnedCount' f_learnedNext' f_activeRests' f_trueMask' f_falseMask' f_trailSize' f_theoryHead' f_level' f_conflictAtoms' f_conflictRests' f_failedAtoms' f_failedRests' f_activeEdges' a_learnedPos' a_learnedNeg' a_learnedRests' a_trail' a_levelStart' a_levelAtoms' a_reasonAtoms' a_reasonRests' a_edgeFrom' a_edgeTo' a_edgeWeight' a_potential' a_moved' a_gamma' a_via' a_dist' a_link' (by omega) (by omega) hX (fun a ha ha' τ hmod e1 e2 e3 => ?_))
          rcases Nat.lt_or_ge c a with y | y
          · exact hno a (by omega) ha' τ hmod e1 e2 e3
          · have : a = c := by omega
            subst this
            have hb : bt (f_presentTrue ||| f_assumedFalse) a = true := zb_ft fun z => h1 ((zb_and1 (by omega)).mpr z)
            rw [b_or, Bool.or_eq_true, e3] at hb
            rcases hb with w | w
            · cases w
            · have := (hmod.1 a ha' trivial).2 w
              rw [e2] at this; cases this
  exact Exists.intro (n + 1) (key n (n + 1) lc 0 f_learnedNext f_activeRests f_trueMask f_falseMask f_trailSize f_theoryHead f_level f_conflictAtoms f_conflictRests f_failedAtoms f_failedRests f_activeEdges a_learnedPos a_learnedNeg a_learnedRests a_trail a_levelStart a_levelAtoms a_reasonAtoms a_reasonRests a_edgeFrom a_edgeTo a_edgeWeight a_potential a_moved a_gamma a_via a_dist a_link (by omega) (Nat.le_refl _) hXH (fun a h1 h2 => by omega))
end
section
section
variable {f_goalEdge f_goalRest f_atomBits f_decided f_maxVariables f_maxAtoms f_maxClauses f_maxDepth f_atomCount f_clauseCount f_depthNow f_assumedTrue f_assumedFalse f_status f_presentTrue f_coreKnown f_coreClauses f_coreAtoms f_witnessClauses f_witnessAtoms f_learnedCount f_learnedNext f_activeRests f_trueMask f_falseMask f_trailSize f_theoryHead f_level f_conflictAtoms f_conflictRests f_failedAtoms f_failedRests f_activeEdges f_goalOn : Int32} {a_kinds a_lefts a_rights a_bounds a_atomDepths a_literals a_literalCounts a_clausePos a_clauseNeg a_clauseDepths a_values a_learnedPos a_learnedNeg a_learnedRests a_trail a_levelStart a_levelAtoms a_reasonAtoms a_reasonRests a_edgeFrom a_edgeTo a_edgeWeight a_potential a_moved a_gamma a_via a_dist a_link : Nat → Int32}
variable {V n m lc : Nat}
theorem xw_has {post : Int32 → SX → Prop} {md : Int32} {cI aI : Nat → Int32} (h : rl_XH V n m lc a_kinds a_lefts a_rights a_bounds a_clausePos a_clauseNeg a_learnedPos a_learnedNeg a_learnedRests)
    (g7 : ∀ k, bt f_assumedTrue k = true ∨ bt f_assumedFalse k = true → k < n) (g8 : ∀ k, bt f_assumedTrue k = true → bt f_assumedFalse k = true → False)
    (hSS : rl_SS n m a_kinds a_lefts a_rights a_bounds a_clausePos a_clauseNeg f_assumedTrue f_assumedFalse f_status f_presentTrue f_coreKnown f_coreClauses f_coreAtoms f_witnessClauses f_witnessAtoms a_values md cI aI)
    (K1 : ∀ (lc' : Nat) (f_learnedCount' f_learnedNext' f_activeRests' f_trueMask' f_falseMask' f_trailSize' f_theoryHead' f_level' f_conflictAtoms' f_conflictRests' f_failedAtoms' f_failedRests' f_activeEdges' : Int32) (a_learnedPos' a_learnedNeg' a_learnedRests' a_trail' a_levelStart' a_levelAtoms' a_reasonAtoms' a_reasonRests' a_edgeFrom' a_edgeTo' a_edgeWeight' a_potential' a_moved' a_gamma' a_via' a_dist' a_link' : Nat → Int32) (mm : Int32), rl_XH V n m lc' a_kinds a_lefts a_rights a_bounds a_clausePos a_clauseNeg a_learnedPos' a_learnedNeg' a_learnedRests' → ((f_status = 1 ∧ mm = f_presentTrue) ∨ (¬ f_status = 1 ∧ mm = f_trueMask')) →
      (∀ q, bt mm q = true → q < n) → rl_Md n m a_kinds a_lefts a_rights a_bounds a_clausePos a_clauseNeg f_assumedTrue f_assumedFalse (fun _ => True) (fun _ => True) (fun q => bt mm q) → post 1 (f_goalEdge, f_goalRest, f_atomBits, f_decided, f_maxVariables, f_maxAtoms, f_maxClauses, f_maxDepth, nI n, nI m, f_depthNow, f_assumedTrue, f_assumedFalse, f_status, f_presentTrue, f_coreKnown, f_coreClauses, f_coreAtoms, f_witnessClauses, f_witnessAtoms, nI lc', f_learnedNext', f_activeRests', f_trueMask', f_falseMask', f_trailSize', f_theoryHead', f_level', f_conflictAtoms', f_conflictRests', f_failedAtoms', f_failedRests', f_activeEdges', 0, a_kinds, a_lefts, a_rights, a_bounds, a_atomDepths, a_literals, a_literalCounts, a_clausePos, a_clauseNeg, a_clauseDepths, a_values, a_learnedPos', a_learnedNeg', a_learnedRests', a_trail', a_levelStart', a_levelAtoms', a_reasonAtoms', a_reasonRests', a_edgeFrom', a_edgeTo', a_edgeWeight', a_potential', a_moved', a_gamma', a_via', a_dist', a_link'))
    (K0 : ∀ (lc' : Nat) (f_learnedCount' f_learnedNext' f_activeRests' f_trueMask' f_falseMask' f_trailSize' f_theoryHead' f_level' f_conflictAtoms' f_conflictRests' f_failedAtoms' f_failedRests' f_activeEdges' : Int32) (a_learnedPos' a_learnedNeg' a_learnedRests' a_trail' a_levelStart' a_levelAtoms' a_reasonAtoms' a_reasonRests' a_edgeFrom' a_edgeTo' a_edgeWeight' a_potential' a_moved' a_gamma' a_via' a_dist' a_link' : Nat → Int32), rl_XH V n m lc' a_kinds a_lefts a_rights a_bounds a_clausePos a_clauseNeg a_learnedPos' a_learnedNeg' a_learnedRests' → (∀ τ, ¬ rl_Md n m a_kinds a_lefts a_rights a_bounds a_clausePos a_clauseNeg f_assumedTrue f_assumedFalse (fun _ => True) (fun _ => True) τ) →
      post 0 (f_goalEdge, f_goalRest, f_atomBits, f_decided, f_maxVariables, f_maxAtoms, f_maxClauses, f_maxDepth, nI n, nI m, f_depthNow, f_assumedTrue, f_assumedFalse, f_status, f_presentTrue, f_coreKnown, f_coreClauses, f_coreAtoms, f_witnessClauses, f_witnessAtoms, nI lc', f_learnedNext', f_activeRests', f_trueMask', f_falseMask', f_trailSize', f_theoryHead', f_level', f_conflictAtoms', f_conflictRests', f_failedAtoms', f_failedRests', f_activeEdges', 0, a_kinds, a_lefts, a_rights, a_bounds, a_atomDepths, a_literals, a_literalCounts, a_clausePos, a_clauseNeg, a_clauseDepths, a_values, a_learnedPos', a_learnedNeg', a_learnedRests', a_trail', a_levelStart', a_levelAtoms', a_reasonAtoms', a_reasonRests', a_edgeFrom', a_edgeTo', a_edgeWeight', a_potential', a_moved', a_gamma', a_via', a_dist', a_link')) :
    wpX_hasModel post (f_goalEdge, f_goalRest, f_atomBits, f_decided, f_maxVariables, f_maxAtoms, f_maxClauses, f_maxDepth, nI n, nI m, f_depthNow, f_assumedTrue, f_assumedFalse, f_status, f_presentTrue, f_coreKnown, f_coreClauses, f_coreAtoms, f_witnessClauses, f_witnessAtoms, nI lc, f_learnedNext, f_activeRests, f_trueMask, f_falseMask, f_trailSize, f_theoryHead, f_level, f_conflictAtoms, f_conflictRests, f_failedAtoms, f_failedRests, f_activeEdges, 0, a_kinds, a_lefts, a_rights, a_bounds, a_atomDepths, a_literals, a_literalCounts, a_clausePos, a_clauseNeg, a_clauseDepths, a_values, a_learnedPos, a_learnedNeg, a_learnedRests, a_trail, a_levelStart, a_levelAtoms, a_reasonAtoms, a_reasonRests, a_edgeFrom, a_edgeTo, a_edgeWeight, a_potential, a_moved, a_gamma, a_via, a_dist, a_link) := by
  have hor0 : ∀ (x : Int32) q, bt (x ||| 0) q = bt x q := fun x q => by rw [b_or, b_0, Bool.or_false]
  have hfs' : ∀ τ, rl_FS n m a_kinds a_lefts a_rights a_bounds a_clausePos a_clauseNeg (f_assumedTrue ||| 0) (f_assumedFalse ||| 0) (((1 : Int32) <<< (nI m &&& 31)) - 1) τ ↔ rl_Md n m a_kinds a_lefts a_rights a_bounds a_clausePos a_clauseNeg f_assumedTrue f_assumedFalse (fun _ => True) (fun _ => True) τ := fun τ => by
    rw [fs_md (by have := h.2.1; omega) g7]
    exact ⟨fun z => z.1, fun z => ⟨z, fun q hq => (by rw [b_0] at hq; cases hq), fun q hq => (by rw [b_0] at hq; cases hq)⟩⟩
  refine br_c (fun h0 => ?_) (fun h0 => br_c (fun h1 => ?_) (fun h1 => ?_))
  · have h1 : ¬ f_status = 1 := by rw [h0]; decide
    refine xw_sa h (fun q hq => g7 q (Or.inl (by rw [hor0] at hq; exact hq))) (fun q hq => g7 q (Or.inr (by rw [hor0] at hq; exact hq))) (fun q h1 h2 => g8 q (by rw [hor0] at h1; exact h1) (by rw [hor0] at h2; exact h2)) (fun lc' f_learnedCount' f_learnedNext' f_activeRests' f_trueMask' f_falseMask' f_trailSize' f_theoryHead' f_level' f_conflictAtoms' f_conflictRests' f_failedAtoms' f_failedRests' f_activeEdges' a_learnedPos' a_learnedNeg' a_learnedRests' a_trail' a_levelStart' a_levelAtoms' a_reasonAtoms' a_reasonRests' a_edgeFrom' a_edgeTo' a_edgeWeight' a_potential' a_moved' a_gamma' a_via' a_dist' a_link' q1 q2 q3 => And.intro rfl ?_) (fun lc' f_learnedCount' f_learnedNext' f_activeRests' f_trueMask' f_falseMask' f_trailSize' f_theoryHead' f_level' f_conflictAtoms' f_conflictRests' f_failedAtoms' f_failedRests' f_activeEdges' a_learnedPos' a_learnedNeg' a_learnedRests' a_trail' a_levelStart' a_levelAtoms' a_reasonAtoms' a_reasonRests' a_edgeFrom' a_edgeTo' a_edgeWeight' a_potential' a_moved' a_gamma' a_via' a_dist' a_link' q1 q2 => And.intro rfl ?_)
    · exact K1 lc' f_learnedCount' f_learnedNext' f_activeRests' f_trueMask' f_falseMask' f_trailSize' f_theoryHead' f_level' f_conflictAtoms' f_conflictRests' f_failedAtoms' f_failedRests' f_activeEdges' a_learnedPos' a_learnedNeg' a_learnedRests' a_trail' a_levelStart' a_levelAtoms' a_reasonAtoms' a_reasonRests' a_edgeFrom' a_edgeTo' a_edgeWeight' a_potential' a_moved' a_gamma' a_via' a_dist' a_link' f_trueMask' q1 (Or.inr ⟨h1, rfl⟩) q2.1 ((hfs' _).mp q2.2.1)
    · exact K0 lc' f_learnedCount' f_learnedNext' f_activeRests' f_trueMask' f_falseMask' f_trailSize' f_theoryHead' f_level' f_conflictAtoms' f_conflictRests' f_failedAtoms' f_failedRests' f_activeEdges' a_learnedPos' a_learnedNeg' a_learnedRests' a_trail' a_levelStart' a_levelAtoms' a_reasonAtoms' a_reasonRests' a_edgeFrom' a_edgeTo' a_edgeWeight' a_potential' a_moved' a_gamma' a_via' a_dist' a_link' q1 (fun τ hτ => rl_Nn_no q2 τ ((hfs' τ).mpr hτ))
  · rcases hSS.1 with z | ⟨_, t, t1, t2, t3, t4, _⟩ | ⟨z, _⟩
    · exact (h0 z).elim
    · refine K1 lc 0 f_learnedNext f_activeRests f_trueMask f_falseMask f_trailSize f_theoryHead f_level f_conflictAtoms f_conflictRests f_failedAtoms f_failedRests f_activeEdges a_learnedPos a_learnedNeg a_learnedRests a_trail a_levelStart a_levelAtoms a_reasonAtoms a_reasonRests a_edgeFrom a_edgeTo a_edgeWeight a_potential a_moved a_gamma a_via a_dist a_link f_presentTrue h (Or.inl ⟨h1, rfl⟩) (fun q hq => ((t3 q).mp hq).1) (rl_Mdcg h.2.2.2.2.2.1 (fun q hq => ?_) t4)
      cases hb : rl_tau n t q
      · exact (zb_tf fun y => by rw [((t3 q).mp y).2] at hb; cases hb).symm
      · exact ((t3 q).mpr ⟨hq, hb⟩).symm
    · rw [z] at h1; exact absurd h1 (by decide)
  · rcases hSS.1 with z | ⟨z, _⟩ | ⟨_, _, _, w3⟩
    · exact (h0 z).elim
    · exact (h1 z).elim
    · exact K0 lc 0 f_learnedNext f_activeRests f_trueMask f_falseMask f_trailSize f_theoryHead f_level f_conflictAtoms f_conflictRests f_failedAtoms f_failedRests f_activeEdges a_learnedPos a_learnedNeg a_learnedRests a_trail a_levelStart a_levelAtoms a_reasonAtoms a_reasonRests a_edgeFrom a_edgeTo a_edgeWeight a_potential a_moved a_gamma a_via a_dist a_link h (fun τ hτ => w3 τ (md_weak hτ (fun _ _ _ => trivial) (fun _ _ _ => trivial)))
end
section
variable {y_maxV y_maxA y_maxC y_maxD y_n y_m y_d y_status y_model y_hasCore : Int32} {z_kind z_atomX z_atomY z_atomC z_atomDepth z_assumed z_literals z_length z_clauseDepth z_clauseIn z_assumptionIn z_bound : Nat → Int32}
variable {V n m : Nat} {cp cn : Nat → Int32} {aT aF : Int32}
theorem yw_forced {post : Int32 → SY → Prop} {a : Nat} {ans : Int32} (h : rl_YH V n m z_kind z_atomX z_atomY z_atomC z_length z_literals z_assumed cp cn aT aF) (hC : ∀ i, i < m → ∀ k, bt (cp i) k = true ∨ bt (cn i) k = true → k < n) (ha : a < n)
    (hans : (ans = -1012 ∧ ∀ τ, ¬ rl_Md n m z_kind z_atomX z_atomY z_atomC cp cn aT aF (fun _ => True) (fun _ => True) τ) ∨
      (ans = 1 ∧ (∃ τ, rl_Md n m z_kind z_atomX z_atomY z_atomC cp cn aT aF (fun _ => True) (fun _ => True) τ) ∧ ∀ τ, rl_Md n m z_kind z_atomX z_atomY z_atomC cp cn aT aF (fun _ => True) (fun _ => True) τ → τ a = true) ∨
      (ans = 2 ∧ (∃ τ, rl_Md n m z_kind z_atomX z_atomY z_atomC cp cn aT aF (fun _ => True) (fun _ => True) τ) ∧ ∀ τ, rl_Md n m z_kind z_atomX z_atomY z_atomC cp cn aT aF (fun _ => True) (fun _ => True) τ → τ a = false) ∨
      (ans = 0 ∧ (∃ τ, rl_Md n m z_kind z_atomX z_atomY z_atomC cp cn aT aF (fun _ => True) (fun _ => True) τ ∧ τ a = true) ∧ (∃ τ, rl_Md n m z_kind z_atomX z_atomY z_atomC cp cn aT aF (fun _ => True) (fun _ => True) τ ∧ τ a = false)))
    (K : ∀ b, post ans (nI V, y_maxA, y_maxC, y_maxD, nI n, nI m, y_d, y_status, y_model, y_hasCore, z_kind, z_atomX, z_atomY, z_atomC, z_atomDepth, z_assumed, z_literals, z_length, z_clauseDepth, z_clauseIn, z_assumptionIn, b)) : wpY_forced post (nI V, y_maxA, y_maxC, y_maxD, nI n, nI m, y_d, y_status, y_model, y_hasCore, z_kind, z_atomX, z_atomY, z_atomC, z_atomDepth, z_assumed, z_literals, z_length, z_clauseDepth, z_clauseIn, z_assumptionIn, z_bound) (nI a) := by
  obtain ⟨e1, e2⟩ := rl_pow n h.1
  have num : ∀ τ, rl_Md n m z_kind z_atomX z_atomY z_atomC cp cn aT aF (fun _ => True) (fun _ => True) τ → rl_Md n m z_kind z_atomX z_atomY z_atomC cp cn aT aF (fun _ => True) (fun _ => True) (rl_tau n (rl_num n τ)) ∧ rl_tau n (rl_num n τ) a = τ a := fun τ hτ =>
    ⟨rl_Mdcg hC (fun q hq => (rl_num_bit τ hq).symm) hτ, rl_num_bit τ ha⟩
  have key : ∀ f t (x2 x3 : Int32) b, t ≤ 2 ^ n → 2 ^ n < f + t →
      ((x2 = 0 ∧ ∀ t', t' < t → rl_Md n m z_kind z_atomX z_atomY z_atomC cp cn aT aF (fun _ => True) (fun _ => True) (rl_tau n t') → rl_tau n t' a = false) ∨ (x2 = 1 ∧ ∃ t', t' < t ∧ rl_Md n m z_kind z_atomX z_atomY z_atomC cp cn aT aF (fun _ => True) (fun _ => True) (rl_tau n t') ∧ rl_tau n t' a = true)) →
      ((x3 = 0 ∧ ∀ t', t' < t → rl_Md n m z_kind z_atomX z_atomY z_atomC cp cn aT aF (fun _ => True) (fun _ => True) (rl_tau n t') → rl_tau n t' a = true) ∨ (x3 = 1 ∧ ∃ t', t' < t ∧ rl_Md n m z_kind z_atomX z_atomY z_atomC cp cn aT aF (fun _ => True) (fun _ => True) (rl_tau n t') ∧ rl_tau n t' a = false)) →
      wY_forced_19 post (nI a) f x2 x3 (nI t) (nI V) y_maxA y_maxC y_maxD (nI n) (nI m) y_d y_status y_model y_hasCore z_kind z_atomX z_atomY z_atomC z_atomDepth z_assumed z_literals z_length z_clauseDepth z_clauseIn z_assumptionIn b := by
    intro f
    induction f with
    | zero => intro t x2 x3 b h1 h2; omega
    | succ f ih =>
      intro t x2 x3 b h1 h2 hT hF
      have keep2 : (∀ t', t' < t + 1 → t' = t → rl_Md n m z_kind z_atomX z_atomY z_atomC cp cn aT aF (fun _ => True) (fun _ => True) (rl_tau n t') → rl_tau n t' a = false) → ((x2 = 0 ∧ ∀ t', t' < t + 1 → rl_Md n m z_kind z_atomX z_atomY z_atomC cp cn aT aF (fun _ => True) (fun _ => True) (rl_tau n t') → rl_tau n t' a = false) ∨ (x2 = 1 ∧ ∃ t', t' < t + 1 ∧ rl_Md n m z_kind z_atomX z_atomY z_atomC cp cn aT aF (fun _ => True) (fun _ => True) (rl_tau n t') ∧ rl_tau n t' a = true)) := by
        intro hn
        rcases hT with ⟨y1, y2⟩ | ⟨y1, t', y2, y3⟩
        · refine Or.inl ⟨y1, fun t' ht' hm => ?_⟩
          rcases Nat.lt_or_ge t' t with w | w
          · exact y2 t' w hm
          · exact hn t' ht' (by omega) hm
        · exact Or.inr ⟨y1, t', by omega, y3⟩
      have keep3 : (∀ t', t' < t + 1 → t' = t → rl_Md n m z_kind z_atomX z_atomY z_atomC cp cn aT aF (fun _ => True) (fun _ => True) (rl_tau n t') → rl_tau n t' a = true) → ((x3 = 0 ∧ ∀ t', t' < t + 1 → rl_Md n m z_kind z_atomX z_atomY z_atomC cp cn aT aF (fun _ => True) (fun _ => True) (rl_tau n t') → rl_tau n t' a = true) ∨ (x3 = 1 ∧ ∃ t', t' < t + 1 ∧ rl_Md n m z_kind z_atomX z_atomY z_atomC cp cn aT aF (fun _ => True) (fun _ => True) (rl_tau n t') ∧ rl_tau n t' a = false)) := by
        intro hn
        rcases hF with ⟨y1, y2⟩ | ⟨y1, t', y2, y3⟩
        · refine Or.inl ⟨y1, fun t' ht' hm => ?_⟩
          rcases Nat.lt_or_ge t' t with w | w
          · exact y2 t' w hm
          · exact hn t' ht' (by omega) hm
        · exact Or.inr ⟨y1, t', by omega, y3⟩
      refine pk_le (2 ^ n) t (fun q => ?_) (fun q => ?_) e1
      · have ht : t = 2 ^ n := by omega
        subst ht
        -- what the two flags say of all models
        have hT' : (x2 = 0 ∧ ∀ τ, rl_Md n m z_kind z_atomX z_atomY z_atomC cp cn aT aF (fun _ => True) (fun _ => True) τ → τ a = false) ∨ (x2 = 1 ∧ ∃ τ, rl_Md n m z_kind z_atomX z_atomY z_atomC cp cn aT aF (fun _ => True) (fun _ => True) τ ∧ τ a = true) := by
          rcases hT with ⟨y1, y2⟩ | ⟨y1, t', y2, y3⟩
          · refine Or.inl ⟨y1, fun τ hτ => ?_⟩
            obtain ⟨w1, w2⟩ := num τ hτ
            rw [← w2]; exact y2 _ (rl_num_lt τ n) w1
          · exact Or.inr ⟨y1, _, y3⟩
        have hF' : (x3 = 0 ∧ ∀ τ, rl_Md n m z_kind z_atomX z_atomY z_atomC cp cn aT aF (fun _ => True) (fun _ => True) τ → τ a = true) ∨ (x3 = 1 ∧ ∃ τ, rl_Md n m z_kind z_atomX z_atomY z_atomC cp cn aT aF (fun _ => True) (fun _ => True) τ ∧ τ a = false) := by
          rcases hF with ⟨y1, y2⟩ | ⟨y1, t', y2, y3⟩
          · refine Or.inl ⟨y1, fun τ hτ => ?_⟩
            obtain ⟨w1, w2⟩ := num τ hτ
            rw [← w2]; exact y2 _ (rl_num_lt τ n) w1
          · exact Or.inr ⟨y1, _, y3⟩
        rcases hT' with ⟨y1, y2⟩ | ⟨y1, τ1, y2, y3⟩ <;> rcases hF' with ⟨z1, z2⟩ | ⟨z1, τ2, z2, z3⟩
        · have hno : ∀ τ, ¬ rl_Md n m z_kind z_atomX z_atomY z_atomC cp cn aT aF (fun _ => True) (fun _ => True) τ := fun τ hτ => by
            have := y2 τ hτ
            rw [z2 τ hτ] at this; cases this
          refine br_t y1 (br_t z1 ?_)
          rcases hans with ⟨e, _⟩ | ⟨_, ⟨τ, hτ⟩, _⟩ | ⟨_, ⟨τ, hτ⟩, _⟩ | ⟨_, ⟨τ, hτ, _⟩, _⟩
          · rw [e] at K; exact K b
          · exact (hno τ hτ).elim
          · exact (hno τ hτ).elim
          · exact (hno τ hτ).elim
        · refine br_t y1 (br_f (by rw [z1]; decide) (br_f (by rw [z1]; decide) (br_t y1 ?_)))
          rcases hans with ⟨_, w⟩ | ⟨_, _, w⟩ | ⟨e, _⟩ | ⟨_, ⟨τ, hτ, w⟩, _⟩
          · exact (w τ2 z2).elim
          · rw [w τ2 z2] at z3; cases z3
          · rw [e] at K; exact K b
          · rw [y2 τ hτ] at w; cases w
        · refine br_f (by rw [y1]; decide) (br_t z1 ?_)
          rcases hans with ⟨_, w⟩ | ⟨e, _⟩ | ⟨_, _, w⟩ | ⟨_, _, ⟨τ, hτ, w⟩⟩
          · exact (w τ1 y2).elim
          · rw [e] at K; exact K b
          · rw [w τ1 y2] at y3; cases y3
          · rw [z2 τ hτ] at w; cases w
        · refine br_f (by rw [y1]; decide) (br_f (by rw [z1]; decide) (br_f (by rw [y1]; decide) ?_))
          rcases hans with ⟨_, w⟩ | ⟨_, _, w⟩ | ⟨_, _, w⟩ | ⟨e, _⟩
          · exact (w τ1 y2).elim
          · rw [w τ2 z2] at z3; cases z3
          · rw [w τ1 y2] at y3; cases y3
          · rw [e] at K; exact K b
      · refine yw_md (S := fun _ => True) (A := fun _ => True) h (by omega) (fun i _ => ⟨fun _ => Or.inl (by decide), fun _ => trivial⟩) (fun i _ => ⟨fun _ => Or.inl (by decide), fun _ => trivial⟩) (fun b' g1 _ _ => br_f (by decide) ?_) (fun b' g1 => br_t rfl (nm_r (nI_1 t) (ih (t + 1) x2 x3 b' (by omega) (by omega) (keep2 (fun t' _ e hm => by rw [e] at hm; exact (g1 hm).elim)) (keep3 (fun t' _ e hm => by rw [e] at hm; exact (g1 hm).elim)))))
        refine yw_isTrue h.1 ha (by omega) (fun hτ => br_f (by decide) (nm_r (nI_1 t) (ih (t + 1) 1 x3 b' (by omega) (by omega) (Or.inr ⟨rfl, t, by omega, g1, hτ⟩) (keep3 (fun t' _ e _ => by rw [e]; exact hτ))))) (fun hτ => br_t rfl (nm_r (nI_1 t) (ih (t + 1) x2 1 b' (by omega) (by omega) (keep2 (fun t' _ e _ => by rw [e]; exact hτ)) (Or.inr ⟨rfl, t, by omega, g1, hτ⟩))))
  have hn31 : n < 2 ^ 31 := by have := h.1; omega
  unfold wpY_forced
  refine yw_atomT hn31 ha ?_
  exact br_f (by decide) (Exists.intro (2 ^ n + 1) (key (2 ^ n + 1) 0 0 0 z_bound (Nat.zero_le _) (by omega) (Or.inl ⟨rfl, fun t' ht => by omega⟩) (Or.inl ⟨rfl, fun t' ht => by omega⟩)))
end
theorem i_vc_forced {k : Nat} {u : SX} {v : SY} (I : i_Rel k u v) (hk : k + 5 ≤ 2564) (v1 : Int32) : wpX_forced (fun r u' => wpY_forced (fun r' v' => r' = r ∧ i_Rel (k + 5) u' v') v v1) u v1 := by
  refine zz_el (P := fun u v => wpX_forced (fun r u' => wpY_forced (fun r' v' => r' = r ∧ i_Rel (k + 5) u' v') v v1) u v1) ?_ I
  intro V A C D n m d lc f_goalEdge f_goalRest f_atomBits f_decided f_assumedTrue f_assumedFalse f_status f_presentTrue f_coreKnown f_coreClauses f_coreAtoms f_witnessClauses f_witnessAtoms f_learnedNext f_activeRests f_trueMask f_falseMask f_trailSize f_theoryHead f_level f_conflictAtoms f_conflictRests f_failedAtoms f_failedRests f_activeEdges a_kinds a_lefts a_rights a_bounds a_atomDepths a_literals a_literalCounts a_clausePos a_clauseNeg a_clauseDepths a_values a_learnedPos a_learnedNeg a_learnedRests a_trail a_levelStart a_levelAtoms a_reasonAtoms a_reasonRests a_edgeFrom a_edgeTo a_edgeWeight a_potential a_moved a_gamma a_via a_dist a_link y_model z_assumed z_literals z_clauseIn z_assumptionIn z_bound hR
  have hR' := hR
  have hXH := rl_xh hR
  have hYH := rl_yh hR
  obtain ⟨⟨b1, b2, b3, b4, b5, b6, b7, b8, b9⟩, hPD, hLC, hSS⟩ := hR
  have hP := hPD
  obtain ⟨_, _, _, _, _, _, g7, g8, g9⟩ := hP
  have hC := hXH.2.2.2.2.2.1
  rcases Classical.em (∃ j, j < n ∧ v1 = nI j) with ⟨a, ha, rfl⟩ | hno
  rotate_left
  · unfold wpX_forced wpY_forced
    refine xw_atomF (by omega) hno ?_
    refine br_t rfl ?_
    refine yw_atomF (by omega) hno ?_
    exact br_t rfl ⟨rfl, zz_in hR'⟩
  have fin : ∀ (ans : Int32) (lc' : Nat) (f_learnedCount' f_learnedNext' f_activeRests' f_trueMask' f_falseMask' f_trailSize' f_theoryHead' f_level' f_conflictAtoms' f_conflictRests' f_failedAtoms' f_failedRests' f_activeEdges' : Int32) (a_learnedPos' a_learnedNeg' a_learnedRests' a_trail' a_levelStart' a_levelAtoms' a_reasonAtoms' a_reasonRests' a_edgeFrom' a_edgeTo' a_edgeWeight' a_potential' a_moved' a_gamma' a_via' a_dist' a_link' : Nat → Int32), rl_XH V n m lc' a_kinds a_lefts a_rights a_bounds a_clausePos a_clauseNeg a_learnedPos' a_learnedNeg' a_learnedRests' →
      ((ans = -1012 ∧ ∀ τ, ¬ rl_Md n m a_kinds a_lefts a_rights a_bounds a_clausePos a_clauseNeg f_assumedTrue f_assumedFalse (fun _ => True) (fun _ => True) τ) ∨
      (ans = 1 ∧ (∃ τ, rl_Md n m a_kinds a_lefts a_rights a_bounds a_clausePos a_clauseNeg f_assumedTrue f_assumedFalse (fun _ => True) (fun _ => True) τ) ∧ ∀ τ, rl_Md n m a_kinds a_lefts a_rights a_bounds a_clausePos a_clauseNeg f_assumedTrue f_assumedFalse (fun _ => True) (fun _ => True) τ → τ a = true) ∨
      (ans = 2 ∧ (∃ τ, rl_Md n m a_kinds a_lefts a_rights a_bounds a_clausePos a_clauseNeg f_assumedTrue f_assumedFalse (fun _ => True) (fun _ => True) τ) ∧ ∀ τ, rl_Md n m a_kinds a_lefts a_rights a_bounds a_clausePos a_clauseNeg f_assumedTrue f_assumedFalse (fun _ => True) (fun _ => True) τ → τ a = false) ∨
      (ans = 0 ∧ (∃ τ, rl_Md n m a_kinds a_lefts a_rights a_bounds a_clausePos a_clauseNeg f_assumedTrue f_assumedFalse (fun _ => True) (fun _ => True) τ ∧ τ a = true) ∧ (∃ τ, rl_Md n m a_kinds a_lefts a_rights a_bounds a_clausePos a_clauseNeg f_assumedTrue f_assumedFalse (fun _ => True) (fun _ => True) τ ∧ τ a = false))) →
      wpY_forced (fun r' v' => r' = ans ∧ i_Rel (k + 5) (f_goalEdge, f_goalRest, f_atomBits, f_decided, nI V, nI A, nI C, nI D, nI n, nI m, nI d, f_assumedTrue, f_assumedFalse, f_status, f_presentTrue, f_coreKnown, f_coreClauses, f_coreAtoms, f_witnessClauses, f_witnessAtoms, nI lc', f_learnedNext', f_activeRests', f_trueMask', f_falseMask', f_trailSize', f_theoryHead', f_level', f_conflictAtoms', f_conflictRests', f_failedAtoms', f_failedRests', f_activeEdges', 0, a_kinds, a_lefts, a_rights, a_bounds, a_atomDepths, a_literals, a_literalCounts, a_clausePos, a_clauseNeg, a_clauseDepths, a_values, a_learnedPos', a_learnedNeg', a_learnedRests', a_trail', a_levelStart', a_levelAtoms', a_reasonAtoms', a_reasonRests', a_edgeFrom', a_edgeTo', a_edgeWeight', a_potential', a_moved', a_gamma', a_via', a_dist', a_link') v') (nI V, nI A, nI C, nI D, nI n, nI m, nI d, f_status, y_model, f_coreKnown, a_kinds, a_lefts, a_rights, a_bounds, a_atomDepths, z_assumed, z_literals, a_literalCounts, a_clauseDepths, z_clauseIn, z_assumptionIn, z_bound) (nI a) := by
    intro ans lc' f_learnedCount' f_learnedNext' f_activeRests' f_trueMask' f_falseMask' f_trailSize' f_theoryHead' f_level' f_conflictAtoms' f_conflictRests' f_failedAtoms' f_failedRests' f_activeEdges' a_learnedPos' a_learnedNeg' a_learnedRests' a_trail' a_levelStart' a_levelAtoms' a_reasonAtoms' a_reasonRests' a_edgeFrom' a_edgeTo' a_edgeWeight' a_potential' a_moved' a_gamma' a_via' a_dist' a_link' hX hans
    exact yw_forced hYH hC ha hans (fun b => ⟨rfl, zz_in ⟨⟨b1, b2, b3, b4, b5, b6, b7, b8, hX.2.2.2.1⟩, hPD, hX.2.2.2.2.2.2, hSS⟩⟩)
  unfold wpX_forced
  refine xw_atomT (by omega) ha ?_
  refine br_f (by decide) ?_
  refine xw_has hXH g7 g8 hSS (fun lc' f_learnedCount' f_learnedNext' f_activeRests' f_trueMask' f_falseMask' f_trailSize' f_theoryHead' f_level' f_conflictAtoms' f_conflictRests' f_failedAtoms' f_failedRests' f_activeEdges' a_learnedPos' a_learnedNeg' a_learnedRests' a_trail' a_levelStart' a_levelAtoms' a_reasonAtoms' a_reasonRests' a_edgeFrom' a_edgeTo' a_edgeWeight' a_potential' a_moved' a_gamma' a_via' a_dist' a_link' mm q1 q2 q3 q4 => ?_) (fun lc' f_learnedCount' f_learnedNext' f_activeRests' f_trueMask' f_falseMask' f_trailSize' f_theoryHead' f_level' f_conflictAtoms' f_conflictRests' f_failedAtoms' f_failedRests' f_activeEdges' a_learnedPos' a_learnedNeg' a_learnedRests' a_trail' a_levelStart' a_levelAtoms' a_reasonAtoms' a_reasonRests' a_edgeFrom' a_edgeTo' a_edgeWeight' a_potential' a_moved' a_gamma' a_via' a_dist' a_link' q1 q2 => ?_)
  · refine br_f (by decide) (nm_e ?_)
    have main : wX_forced_46 (fun r u' => wpY_forced (fun r' v' => r' = r ∧ i_Rel (k + 5) u' v') (nI V, nI A, nI C, nI D, nI n, nI m, nI d, f_status, y_model, f_coreKnown, a_kinds, a_lefts, a_rights, a_bounds, a_atomDepths, z_assumed, z_literals, a_literalCounts, a_clauseDepths, z_clauseIn, z_assumptionIn, z_bound) (nI a)) ((1 : Int32) <<< (nI a &&& 31)) mm f_goalEdge f_goalRest f_atomBits f_decided (nI V) (nI A) (nI C) (nI D) (nI n) (nI m) (nI d) f_assumedTrue f_assumedFalse f_status f_presentTrue f_coreKnown f_coreClauses f_coreAtoms f_witnessClauses f_witnessAtoms (nI lc') f_learnedNext' f_activeRests' f_trueMask' f_falseMask' f_trailSize' f_theoryHead' f_level' f_conflictAtoms' f_conflictRests' f_failedAtoms' f_failedRests' f_activeEdges' 0 a_kinds a_lefts a_rights a_bounds a_atomDepths a_literals a_literalCounts a_clausePos a_clauseNeg a_clauseDepths a_values a_learnedPos' a_learnedNeg' a_learnedRests' a_trail' a_levelStart' a_levelAtoms' a_reasonAtoms' a_reasonRests' a_edgeFrom' a_edgeTo' a_edgeWeight' a_potential' a_moved' a_gamma' a_via' a_dist' a_link' := by
      have hbit : ∀ q, bt ((1 : Int32) <<< (nI a &&& 31)) q = decide (q = a) := fun q => zb_bit (by omega) q
      have hor0 : ∀ (x : Int32) q, bt (x ||| 0) q = bt x q := fun x q => by rw [b_or, b_0, Bool.or_false]
      refine br_c (fun h1 => ?_) (fun h1 => ?_)
      · -- false in this model
        have hmm : bt mm a = false := (zb_and1 (by omega)).mp h1
        refine br_c (fun h2 => br_t rfl (br_t rfl ?_)) (fun h2 => br_t rfl (fin 2 lc' f_learnedCount' f_learnedNext' f_activeRests' f_trueMask' f_falseMask' f_trailSize' f_theoryHead' f_level' f_conflictAtoms' f_conflictRests' f_failedAtoms' f_failedRests' f_activeEdges' a_learnedPos' a_learnedNeg' a_learnedRests' a_trail' a_levelStart' a_levelAtoms' a_reasonAtoms' a_reasonRests' a_edgeFrom' a_edgeTo' a_edgeWeight' a_potential' a_moved' a_gamma' a_via' a_dist' a_link' q1 (Or.inr (Or.inr (Or.inl ⟨rfl, ⟨_, q4⟩, fun τ hτ => ?_⟩)))))
        · have hfr : bt f_assumedTrue a = false ∧ bt f_assumedFalse a = false := by
            have := (zb_and1 (by omega)).mp h2
            rw [b_or, Bool.or_eq_false_iff] at this
            exact this
          have hfs := fun τ => fs_md (n := n) (m := m) (kd := a_kinds) (lf := a_lefts) (rt := a_rights) (bd := a_bounds) (cp := a_clausePos) (cn := a_clauseNeg) (aT := f_assumedTrue) (aF := f_assumedFalse) (mt := (1 : Int32) <<< (nI a &&& 31)) (mf := 0) (τ := τ) (by omega) g7
          refine xw_sa q1 (fun q hq => ?_) (fun q hq => g7 q (Or.inr (by rw [hor0] at hq; exact hq))) (fun q w1 w2 => ?_) (fun lc2 f_learnedCount'' f_learnedNext'' f_activeRests'' f_trueMask'' f_falseMask'' f_trailSize'' f_theoryHead'' f_level'' f_conflictAtoms'' f_conflictRests'' f_failedAtoms'' f_failedRests'' f_activeEdges'' a_learnedPos'' a_learnedNeg'' a_learnedRests'' a_trail'' a_levelStart'' a_levelAtoms'' a_reasonAtoms'' a_reasonRests'' a_edgeFrom'' a_edgeTo'' a_edgeWeight'' a_potential'' a_moved'' a_gamma'' a_via'' a_dist'' a_link'' r1 r2 r3 => br_f (by decide) ?_) (fun lc2 f_learnedCount'' f_learnedNext'' f_activeRests'' f_trueMask'' f_falseMask'' f_trailSize'' f_theoryHead'' f_level'' f_conflictAtoms'' f_conflictRests'' f_failedAtoms'' f_failedRests'' f_activeEdges'' a_learnedPos'' a_learnedNeg'' a_learnedRests'' a_trail'' a_levelStart'' a_levelAtoms'' a_reasonAtoms'' a_reasonRests'' a_edgeFrom'' a_edgeTo'' a_edgeWeight'' a_potential'' a_moved'' a_gamma'' a_via'' a_dist'' a_link'' r1 r2 => br_t rfl (br_t rfl ?_))
          · rw [b_or, Bool.or_eq_true, hbit, decide_eq_true_eq] at hq
            rcases hq with y | y
            · exact g7 q (Or.inl y)
            · omega
          · rw [hor0] at w2
            rw [b_or, Bool.or_eq_true, hbit, decide_eq_true_eq] at w1
            rcases w1 with y | y
            · exact g8 q y w2
            · rw [y, hfr.2] at w2; cases w2
          · obtain ⟨w1, w2, _⟩ := (hfs _).mp r2.2.1
            exact fin 0 lc2 f_learnedCount'' f_learnedNext'' f_activeRests'' f_trueMask'' f_falseMask'' f_trailSize'' f_theoryHead'' f_level'' f_conflictAtoms'' f_conflictRests'' f_failedAtoms'' f_failedRests'' f_activeEdges'' a_learnedPos'' a_learnedNeg'' a_learnedRests'' a_trail'' a_levelStart'' a_levelAtoms'' a_reasonAtoms'' a_reasonRests'' a_edgeFrom'' a_edgeTo'' a_edgeWeight'' a_potential'' a_moved'' a_gamma'' a_via'' a_dist'' a_link'' r1 (Or.inr (Or.inr (Or.inr ⟨rfl, ⟨_, w1, w2 a (by rw [hbit, decide_eq_true rfl])⟩, ⟨_, q4, hmm⟩⟩)))
          · refine fin 2 lc2 f_learnedCount'' f_learnedNext'' f_activeRests'' f_trueMask'' f_falseMask'' f_trailSize'' f_theoryHead'' f_level'' f_conflictAtoms'' f_conflictRests'' f_failedAtoms'' f_failedRests'' f_activeEdges'' a_learnedPos'' a_learnedNeg'' a_learnedRests'' a_trail'' a_levelStart'' a_levelAtoms'' a_reasonAtoms'' a_reasonRests'' a_edgeFrom'' a_edgeTo'' a_edgeWeight'' a_potential'' a_moved'' a_gamma'' a_via'' a_dist'' a_link'' r1 (Or.inr (Or.inr (Or.inl ⟨rfl, ⟨_, q4⟩, fun τ hτ => zb_tf fun y => rl_Nn_no r2 τ ((hfs τ).mpr ⟨hτ, fun q hq => ?_, fun q hq => (by rw [b_0] at hq; cases hq)⟩)⟩)))
            rw [hbit, decide_eq_true_eq] at hq
            rw [hq]; exact y
        · have hb : bt (f_assumedTrue ||| f_assumedFalse) a = true := zb_ft fun z => h2 ((zb_and1 (by omega)).mpr z)
          rw [b_or, Bool.or_eq_true] at hb
          rcases hb with y | y
          · have := (q4.1 a ha trivial).1 y
            dsimp only at this
            rw [hmm] at this; cases this
          · exact (hτ.1 a ha trivial).2 y
      · have hmm : bt mm a = true := zb_ft fun z => h1 ((zb_and1 (by omega)).mpr z)
        refine br_c (fun h2 => br_f (by decide) (br_f (by decide) ?_)) (fun h2 => br_f (by decide) (fin 1 lc' f_learnedCount' f_learnedNext' f_activeRests' f_trueMask' f_falseMask' f_trailSize' f_theoryHead' f_level' f_conflictAtoms' f_conflictRests' f_failedAtoms' f_failedRests' f_activeEdges' a_learnedPos' a_learnedNeg' a_learnedRests' a_trail' a_levelStart' a_levelAtoms' a_reasonAtoms' a_reasonRests' a_edgeFrom' a_edgeTo' a_edgeWeight' a_potential' a_moved' a_gamma' a_via' a_dist' a_link' q1 (Or.inr (Or.inl ⟨rfl, ⟨_, q4⟩, fun τ hτ => ?_⟩))))
        · have hfr : bt f_assumedTrue a = false ∧ bt f_assumedFalse a = false := by
            have := (zb_and1 (by omega)).mp h2
            rw [b_or, Bool.or_eq_false_iff] at this
            exact this
          have hfs := fun τ => fs_md (n := n) (m := m) (kd := a_kinds) (lf := a_lefts) (rt := a_rights) (bd := a_bounds) (cp := a_clausePos) (cn := a_clauseNeg) (aT := f_assumedTrue) (aF := f_assumedFalse) (mt := 0) (mf := (1 : Int32) <<< (nI a &&& 31)) (τ := τ) (by omega) g7
          refine xw_sa q1 (fun q hq => g7 q (Or.inl (by rw [hor0] at hq; exact hq))) (fun q hq => ?_) (fun q w1 w2 => ?_) (fun lc2 f_learnedCount'' f_learnedNext'' f_activeRests'' f_trueMask'' f_falseMask'' f_trailSize'' f_theoryHead'' f_level'' f_conflictAtoms'' f_conflictRests'' f_failedAtoms'' f_failedRests'' f_activeEdges'' a_learnedPos'' a_learnedNeg'' a_learnedRests'' a_trail'' a_levelStart'' a_levelAtoms'' a_reasonAtoms'' a_reasonRests'' a_edgeFrom'' a_edgeTo'' a_edgeWeight'' a_potential'' a_moved'' a_gamma'' a_via'' a_dist'' a_link'' r1 r2 r3 => br_f (by decide) ?_) (fun lc2 f_learnedCount'' f_learnedNext'' f_activeRests'' f_trueMask'' f_falseMask'' f_trailSize'' f_theoryHead'' f_level'' f_conflictAtoms'' f_conflictRests'' f_failedAtoms'' f_failedRests'' f_activeEdges'' a_learnedPos'' a_learnedNeg'' a_learnedRests'' a_trail'' a_levelStart'' a_levelAtoms'' a_reasonAtoms'' a_reasonRests'' a_edgeFrom'' a_edgeTo'' a_edgeWeight'' a_potential'' a_moved'' a_gamma'' a_via'' a_dist'' a_link'' r1 r2 => br_t rfl (br_f (by decide) ?_))
          · rw [b_or, Bool.or_eq_true, hbit, decide_eq_true_eq] at hq
            rcases hq with y | y
            · exact g7 q (Or.inr y)
            · omega
          · rw [hor0] at w1
            rw [b_or, Bool.or_eq_true, hbit, decide_eq_true_eq] at w2
            rcases w2 with y | y
            · exact g8 q w1 y
            · rw [y, hfr.1] at w1; cases w1
          · obtain ⟨w1, _, w2⟩ := (hfs _).mp r2.2.1
            exact fin 0 lc2 f_learnedCount'' f_learnedNext'' f_activeRests'' f_trueMask'' f_falseMask'' f_trailSize'' f_theoryHead'' f_level'' f_conflictAtoms'' f_conflictRests'' f_failedAtoms'' f_failedRests'' f_activeEdges'' a_learnedPos'' a_learnedNeg'' a_learnedRests'' a_trail'' a_levelStart'' a_levelAtoms'' a_reasonAtoms'' a_reasonRests'' a_edgeFrom'' a_edgeTo'' a_edgeWeight'' a_potential'' a_moved'' a_gamma'' a_via'' a_dist'' a_link'' r1 (Or.inr (Or.inr (Or.inr ⟨rfl, ⟨_, q4, hmm⟩, ⟨_, w1, w2 a (by rw [hbit, decide_eq_true rfl])⟩⟩)))
          · refine fin 1 lc2 f_learnedCount'' f_learnedNext'' f_activeRests'' f_trueMask'' f_falseMask'' f_trailSize'' f_theoryHead'' f_level'' f_conflictAtoms'' f_conflictRests'' f_failedAtoms'' f_failedRests'' f_activeEdges'' a_learnedPos'' a_learnedNeg'' a_learnedRests'' a_trail'' a_levelStart'' a_levelAtoms'' a_reasonAtoms'' a_reasonRests'' a_edgeFrom'' a_edgeTo'' a_edgeWeight'' a_potential'' a_moved'' a_gamma'' a_via'' a_dist'' a_link'' r1 (Or.inr (Or.inl ⟨rfl, ⟨_, q4⟩, fun τ hτ => zb_ft fun y => rl_Nn_no r2 τ ((hfs τ).mpr ⟨hτ, fun q hq => (by rw [b_0] at hq; cases hq), fun q hq => ?_⟩)⟩))
            rw [hbit, decide_eq_true_eq] at hq
            rw [hq]; exact y
        · have hb : bt (f_assumedTrue ||| f_assumedFalse) a = true := zb_ft fun z => h2 ((zb_and1 (by omega)).mpr z)
          rw [b_or, Bool.or_eq_true] at hb
          rcases hb with y | y
          · exact (hτ.1 a ha trivial).1 y
          · have := (q4.1 a ha trivial).2 y
            dsimp only at this
            rw [hmm] at this; cases this
    rcases q2 with ⟨e1, e2⟩ | ⟨e1, e2⟩
    · rw [e2] at main; exact br_t e1 main
    · rw [e2] at main; exact br_f e1 main
  · exact br_t rfl (fin (-1012) lc' f_learnedCount' f_learnedNext' f_activeRests' f_trueMask' f_falseMask' f_trailSize' f_theoryHead' f_level' f_conflictAtoms' f_conflictRests' f_failedAtoms' f_failedRests' f_activeEdges' a_learnedPos' a_learnedNeg' a_learnedRests' a_trail' a_levelStart' a_levelAtoms' a_reasonAtoms' a_reasonRests' a_edgeFrom' a_edgeTo' a_edgeWeight' a_potential' a_moved' a_gamma' a_via' a_dist' a_link' q1 (Or.inl ⟨rfl, q2⟩))
end
section
section
variable {f_goalEdge f_goalRest f_atomBits f_decided f_maxVariables f_maxAtoms f_maxClauses f_maxDepth f_atomCount f_clauseCount f_depthNow f_assumedTrue f_assumedFalse f_status f_presentTrue f_coreKnown f_coreClauses f_coreAtoms f_witnessClauses f_witnessAtoms f_learnedCount f_learnedNext f_activeRests f_trueMask f_falseMask f_trailSize f_theoryHead f_level f_conflictAtoms f_conflictRests f_failedAtoms f_failedRests f_activeEdges f_goalOn : Int32} {a_kinds a_lefts a_rights a_bounds a_atomDepths a_literals a_literalCounts a_clausePos a_clauseNeg a_clauseDepths a_values a_learnedPos a_learnedNeg a_learnedRests a_trail a_levelStart a_levelAtoms a_reasonAtoms a_reasonRests a_edgeFrom a_edgeTo a_edgeWeight a_potential a_moved a_gamma a_via a_dist a_link : Nat → Int32}
variable {V n m lc : Nat}
/-- is there no model of the kept items? -/
theorem xw_refuted {post : Int32 → SX → Prop} {kc ka : Int32} (h : rl_XH V n m lc a_kinds a_lefts a_rights a_bounds a_clausePos a_clauseNeg a_learnedPos a_learnedNeg a_learnedRests)
    (g7 : ∀ k, bt f_assumedTrue k = true ∨ bt f_assumedFalse k = true → k < n) (g8 : ∀ k, bt f_assumedTrue k = true → bt f_assumedFalse k = true → False) (hkc : ∀ q, bt kc q = true → q < m)
    (K1 : ∀ (lc' : Nat) (f_learnedCount' f_learnedNext' f_activeRests' f_trueMask' f_falseMask' f_trailSize' f_theoryHead' f_level' f_conflictAtoms' f_conflictRests' f_failedAtoms' f_failedRests' f_activeEdges' : Int32) (a_learnedPos' a_learnedNeg' a_learnedRests' a_trail' a_levelStart' a_levelAtoms' a_reasonAtoms' a_reasonRests' a_edgeFrom' a_edgeTo' a_edgeWeight' a_potential' a_moved' a_gamma' a_via' a_dist' a_link' : Nat → Int32) (wC wA : Int32), rl_XH V n m lc' a_kinds a_lefts a_rights a_bounds a_clausePos a_clauseNeg a_learnedPos' a_learnedNeg' a_learnedRests' → (∀ q, bt wC q = true → bt kc q = true) → (∀ q, bt wA q = true → bt ka q = true ∧ (bt f_assumedTrue q = true ∨ bt f_assumedFalse q = true)) →
      (∀ τ, ¬ rl_Md n m a_kinds a_lefts a_rights a_bounds a_clausePos a_clauseNeg f_assumedTrue f_assumedFalse (fun i => bt wC i = true) (fun k => bt wA k = true) τ) → post 1 (f_goalEdge, f_goalRest, f_atomBits, f_decided, f_maxVariables, f_maxAtoms, f_maxClauses, f_maxDepth, nI n, nI m, f_depthNow, f_assumedTrue, f_assumedFalse, f_status, f_presentTrue, f_coreKnown, f_coreClauses, f_coreAtoms, wC, wA, nI lc', f_learnedNext', f_activeRests', f_trueMask', f_falseMask', f_trailSize', f_theoryHead', f_level', f_conflictAtoms', f_conflictRests', f_failedAtoms', f_failedRests', f_activeEdges', 0, a_kinds, a_lefts, a_rights, a_bounds, a_atomDepths, a_literals, a_literalCounts, a_clausePos, a_clauseNeg, a_clauseDepths, a_values, a_learnedPos', a_learnedNeg', a_learnedRests', a_trail', a_levelStart', a_levelAtoms', a_reasonAtoms', a_reasonRests', a_edgeFrom', a_edgeTo', a_edgeWeight', a_potential', a_moved', a_gamma', a_via', a_dist', a_link'))
    (K0 : ∀ (lc' : Nat) (f_learnedCount' f_learnedNext' f_activeRests' f_trueMask' f_falseMask' f_trailSize' f_theoryHead' f_level' f_conflictAtoms' f_conflictRests' f_failedAtoms' f_failedRests' f_activeEdges' : Int32) (a_learnedPos' a_learnedNeg' a_learnedRests' a_trail' a_levelStart' a_levelAtoms' a_reasonAtoms' a_reasonRests' a_edgeFrom' a_edgeTo' a_edgeWeight' a_potential' a_moved' a_gamma' a_via' a_dist' a_link' : Nat → Int32), rl_XH V n m lc' a_kinds a_lefts a_rights a_bounds a_clausePos a_clauseNeg a_learnedPos' a_learnedNeg' a_learnedRests' → (∃ τ, rl_Md n m a_kinds a_lefts a_rights a_bounds a_clausePos a_clauseNeg f_assumedTrue f_assumedFalse (fun i => bt kc i = true) (fun k => bt ka k = true) τ) →
      post 0 (f_goalEdge, f_goalRest, f_atomBits, f_decided, f_maxVariables, f_maxAtoms, f_maxClauses, f_maxDepth, nI n, nI m, f_depthNow, f_assumedTrue, f_assumedFalse, f_status, f_presentTrue, f_coreKnown, f_coreClauses, f_coreAtoms, f_witnessClauses, f_witnessAtoms, nI lc', f_learnedNext', f_activeRests', f_trueMask', f_falseMask', f_trailSize', f_theoryHead', f_level', f_conflictAtoms', f_conflictRests', f_failedAtoms', f_failedRests', f_activeEdges', 0, a_kinds, a_lefts, a_rights, a_bounds, a_atomDepths, a_literals, a_literalCounts, a_clausePos, a_clauseNeg, a_clauseDepths, a_values, a_learnedPos', a_learnedNeg', a_learnedRests', a_trail', a_levelStart', a_levelAtoms', a_reasonAtoms', a_reasonRests', a_edgeFrom', a_edgeTo', a_edgeWeight', a_potential', a_moved', a_gamma', a_via', a_dist', a_link')) :
    wpX_refuted post (f_goalEdge, f_goalRest, f_atomBits, f_decided, f_maxVariables, f_maxAtoms, f_maxClauses, f_maxDepth, nI n, nI m, f_depthNow, f_assumedTrue, f_assumedFalse, f_status, f_presentTrue, f_coreKnown, f_coreClauses, f_coreAtoms, f_witnessClauses, f_witnessAtoms, nI lc, f_learnedNext, f_activeRests, f_trueMask, f_falseMask, f_trailSize, f_theoryHead, f_level, f_conflictAtoms, f_conflictRests, f_failedAtoms, f_failedRests, f_activeEdges, 0, a_kinds, a_lefts, a_rights, a_bounds, a_atomDepths, a_literals, a_literalCounts, a_clausePos, a_clauseNeg, a_clauseDepths, a_values, a_learnedPos, a_learnedNeg, a_learnedRests, a_trail, a_levelStart, a_levelAtoms, a_reasonAtoms, a_reasonRests, a_edgeFrom, a_edgeTo, a_edgeWeight, a_potential, a_moved, a_gamma, a_via, a_dist, a_link) kc ka := by
  unfold wpX_refuted
  refine xw_se h (fun q hq => ?_) (fun q hq => ?_) (fun q h1 h2 => ?_) hkc (fun lc' f_learnedCount' f_learnedNext' f_activeRests' f_trueMask' f_falseMask' f_trailSize' f_theoryHead' f_level' f_conflictAtoms' f_conflictRests' f_failedAtoms' f_failedRests' f_activeEdges' a_learnedPos' a_learnedNeg' a_learnedRests' a_trail' a_levelStart' a_levelAtoms' a_reasonAtoms' a_reasonRests' a_edgeFrom' a_edgeTo' a_edgeWeight' a_potential' a_moved' a_gamma' a_via' a_dist' a_link' q1 q2 _ => br_f (by decide) ?_) (fun lc' f_learnedCount' f_learnedNext' f_activeRests' f_trueMask' f_falseMask' f_trailSize' f_theoryHead' f_level' f_conflictAtoms' f_conflictRests' f_failedAtoms' f_failedRests' f_activeEdges' a_learnedPos' a_learnedNeg' a_learnedRests' a_trail' a_levelStart' a_levelAtoms' a_reasonAtoms' a_reasonRests' a_edgeFrom' a_edgeTo' a_edgeWeight' a_potential' a_moved' a_gamma' a_via' a_dist' a_link' q1 q2 => br_t rfl ?_)
  · rw [b_and, Bool.and_eq_true] at hq; exact g7 q (Or.inl hq.1)
  · rw [b_and, Bool.and_eq_true] at hq; exact g7 q (Or.inr hq.1)
  · rw [b_and, Bool.and_eq_true] at h1 h2; exact g8 q h1.1 h2.1
  · obtain ⟨f1, f2, f3, f4⟩ := q2.2.1
    exact K0 lc' f_learnedCount' f_learnedNext' f_activeRests' f_trueMask' f_falseMask' f_trailSize' f_theoryHead' f_level' f_conflictAtoms' f_conflictRests' f_failedAtoms' f_failedRests' f_activeEdges' a_learnedPos' a_learnedNeg' a_learnedRests' a_trail' a_levelStart' a_levelAtoms' a_reasonAtoms' a_reasonRests' a_edgeFrom' a_edgeTo' a_edgeWeight' a_potential' a_moved' a_gamma' a_via' a_dist' a_link' q1 ⟨_, fun k hk ha => ⟨fun z => f3 k (by rw [b_and, z, ha]; rfl), fun z => f4 k (by rw [b_and, z, ha]; rfl)⟩, f2, f1⟩
  · obtain ⟨f1, f2, f3⟩ := q2
    have hA : ∀ q, bt f_failedAtoms' q = true → bt ka q = true ∧ (bt f_assumedTrue q = true ∨ bt f_assumedFalse q = true) := by
      intro q hq
      have := f1 q hq
      rw [b_and, b_and, Bool.and_eq_true, Bool.and_eq_true] at this
      rcases this with z | z
      · exact ⟨z.2, Or.inl z.1⟩
      · exact ⟨z.2, Or.inr z.1⟩
    refine K1 lc' f_learnedCount' f_learnedNext' f_activeRests' f_trueMask' f_falseMask' f_trailSize' f_theoryHead' f_level' f_conflictAtoms' f_conflictRests' f_failedAtoms' f_failedRests' f_activeEdges' a_learnedPos' a_learnedNeg' a_learnedRests' a_trail' a_levelStart' a_levelAtoms' a_reasonAtoms' a_reasonRests' a_edgeFrom' a_edgeTo' a_edgeWeight' a_potential' a_moved' a_gamma' a_via' a_dist' a_link' f_failedRests' f_failedAtoms' q1 f2 hA (fun τ hτ => f3 τ hτ.2.2 (fun i hi hb => hτ.2.1 i hi hb) (fun q hq => ?_))
    have hqn := g7 q (hA q hq).2
    refine ⟨fun z => ?_, fun z => ?_⟩
    · rw [b_and, Bool.and_eq_true] at z; exact (hτ.1 q hqn hq).1 z.1
    · rw [b_and, Bool.and_eq_true] at z; exact (hτ.1 q hqn hq).2 z.1
theorem md_cg {kd lf rt bd cp cn : Nat → Int32} {aT aF : Int32} {S A S' A' : Nat → Prop} (h1 : ∀ i, i < m → (S i ↔ S' i)) (h2 : ∀ k, k < n → bt aT k = true ∨ bt aF k = true → (A k ↔ A' k)) (τ : Nat → Bool) :
    rl_Md n m kd lf rt bd cp cn aT aF S A τ ↔ rl_Md n m kd lf rt bd cp cn aT aF S' A' τ := by
  constructor
  · intro ⟨a, b, c⟩
    exact ⟨fun k hk ha => ⟨fun z => (a k hk ((h2 k hk (Or.inl z)).mpr ha)).1 z, fun z => (a k hk ((h2 k hk (Or.inr z)).mpr ha)).2 z⟩, fun i hi hs => b i hi ((h1 i hi).mpr hs), c⟩
  · intro ⟨a, b, c⟩
    exact ⟨fun k hk ha => ⟨fun z => (a k hk ((h2 k hk (Or.inl z)).mp ha)).1 z, fun z => (a k hk ((h2 k hk (Or.inr z)).mp ha)).2 z⟩, fun i hi hs => b i hi ((h1 i hi).mp hs), c⟩
theorem xw_sc73 {post : SX → Prop} {kc : Int32} (g7 : ∀ k, bt f_assumedTrue k = true ∨ bt f_assumedFalse k = true → k < n) (g8 : ∀ k, bt f_assumedTrue k = true → bt f_assumedFalse k = true → False) (hkc : ∀ q, bt kc q = true → q < m)
    (hco : ∀ i, i < m → (bt kc i = true ↔ ∃ τ, rl_Md n m a_kinds a_lefts a_rights a_bounds a_clausePos a_clauseNeg f_assumedTrue f_assumedFalse (fun j => (j < i ∧ bt kc j = true) ∨ i < j) (fun _ => True) τ))
    (K : ∀ (lc' : Nat) (f_learnedCount' f_learnedNext' f_activeRests' f_trueMask' f_falseMask' f_trailSize' f_theoryHead' f_level' f_conflictAtoms' f_conflictRests' f_failedAtoms' f_failedRests' f_activeEdges' : Int32) (a_learnedPos' a_learnedNeg' a_learnedRests' a_trail' a_levelStart' a_levelAtoms' a_reasonAtoms' a_reasonRests' a_edgeFrom' a_edgeTo' a_edgeWeight' a_potential' a_moved' a_gamma' a_via' a_dist' a_link' : Nat → Int32) (wC wA ka : Int32), rl_XH V n m lc' a_kinds a_lefts a_rights a_bounds a_clausePos a_clauseNeg a_learnedPos' a_learnedNeg' a_learnedRests' → (∀ q, bt wC q = true → q < m) → (∀ q, bt wA q = true → bt f_assumedTrue q = true ∨ bt f_assumedFalse q = true) →
      (∀ τ, ¬ rl_Md n m a_kinds a_lefts a_rights a_bounds a_clausePos a_clauseNeg f_assumedTrue f_assumedFalse (fun i => bt wC i = true) (fun k => bt wA k = true) τ) → rl_Co n m a_kinds a_lefts a_rights a_bounds a_clausePos a_clauseNeg f_assumedTrue f_assumedFalse kc ka →
      post (f_goalEdge, f_goalRest, f_atomBits, f_decided, f_maxVariables, f_maxAtoms, f_maxClauses, f_maxDepth, nI n, nI m, f_depthNow, f_assumedTrue, f_assumedFalse, f_status, f_presentTrue, 1, kc, ka, wC, wA, nI lc', f_learnedNext', f_activeRests', f_trueMask', f_falseMask', f_trailSize', f_theoryHead', f_level', f_conflictAtoms', f_conflictRests', f_failedAtoms', f_failedRests', f_activeEdges', 0, a_kinds, a_lefts, a_rights, a_bounds, a_atomDepths, a_literals, a_literalCounts, a_clausePos, a_clauseNeg, a_clauseDepths, a_values, a_learnedPos', a_learnedNeg', a_learnedRests', a_trail', a_levelStart', a_levelAtoms', a_reasonAtoms', a_reasonRests', a_edgeFrom', a_edgeTo', a_edgeWeight', a_potential', a_moved', a_gamma', a_via', a_dist', a_link')) :
    ∀ f i (lc' : Nat) (f_learnedCount' f_learnedNext' f_activeRests' f_trueMask' f_falseMask' f_trailSize' f_theoryHead' f_level' f_conflictAtoms' f_conflictRests' f_failedAtoms' f_failedRests' f_activeEdges' : Int32) (a_learnedPos' a_learnedNeg' a_learnedRests' a_trail' a_levelStart' a_levelAtoms' a_reasonAtoms' a_reasonRests' a_edgeFrom' a_edgeTo' a_edgeWeight' a_potential' a_moved' a_gamma' a_via' a_dist' a_link' : Nat → Int32) (wC wA ka : Int32), i ≤ n → n < f + i → rl_XH V n m lc' a_kinds a_lefts a_rights a_bounds a_clausePos a_clauseNeg a_learnedPos' a_learnedNeg' a_learnedRests' →
      (∀ q, bt wC q = true → bt kc q = true) → (∀ q, bt wA q = true → bt ka q = true) → (∀ τ, ¬ rl_Md n m a_kinds a_lefts a_rights a_bounds a_clausePos a_clauseNeg f_assumedTrue f_assumedFalse (fun i => bt wC i = true) (fun k => bt wA k = true) τ) →
      (∀ q, bt ka q = true → bt f_assumedTrue q = true ∨ bt f_assumedFalse q = true) → (∀ q, i ≤ q → bt f_assumedTrue q = true ∨ bt f_assumedFalse q = true → bt ka q = true) →
      (∀ j, j < i → bt f_assumedTrue j = true ∨ bt f_assumedFalse j = true → (bt ka j = true ↔ ∃ τ, rl_Md n m a_kinds a_lefts a_rights a_bounds a_clausePos a_clauseNeg f_assumedTrue f_assumedFalse (fun j => bt kc j = true) (fun q => (q < j ∧ bt ka q = true) ∨ j < q) τ)) →
      wX_shrinkCore_73 post kc f ka (nI i) f_goalEdge f_goalRest f_atomBits f_decided f_maxVariables f_maxAtoms f_maxClauses f_maxDepth (nI n) (nI m) f_depthNow f_assumedTrue f_assumedFalse f_status f_presentTrue f_coreKnown f_coreClauses f_coreAtoms wC wA (nI lc') f_learnedNext' f_activeRests' f_trueMask' f_falseMask' f_trailSize' f_theoryHead' f_level' f_conflictAtoms' f_conflictRests' f_failedAtoms' f_failedRests' f_activeEdges' 0 a_kinds a_lefts a_rights a_bounds a_atomDepths a_literals a_literalCounts a_clausePos a_clauseNeg a_clauseDepths a_values a_learnedPos' a_learnedNeg' a_learnedRests' a_trail' a_levelStart' a_levelAtoms' a_reasonAtoms' a_reasonRests' a_edgeFrom' a_edgeTo' a_edgeWeight' a_potential' a_moved' a_gamma' a_via' a_dist' a_link' := by
  intro f
  induction f with
  | zero => intro i _ _ _ _ _ _ _ _ _ _ _ _ _ _ _ _ _ _ _ _ _ _ _ _ _ _ _ _ _ _ _ _ _ _ h1 h2; omega
  | succ f ih =>
    intro i lc' f_learnedCount' f_learnedNext' f_activeRests' f_trueMask' f_falseMask' f_trailSize' f_theoryHead' f_level' f_conflictAtoms' f_conflictRests' f_failedAtoms' f_failedRests' f_activeEdges' a_learnedPos' a_learnedNeg' a_learnedRests' a_trail' a_levelStart' a_levelAtoms' a_reasonAtoms' a_reasonRests' a_edgeFrom' a_edgeTo' a_edgeWeight' a_potential' a_moved' a_gamma' a_via' a_dist' a_link' wC wA ka hi hf hX w1 w2 w3 k1 k2 k3
    have hn10 := hX.1
    refine pk_le n i (fun h => K lc' f_learnedCount' f_learnedNext' f_activeRests' f_trueMask' f_falseMask' f_trailSize' f_theoryHead' f_level' f_conflictAtoms' f_conflictRests' f_failedAtoms' f_failedRests' f_activeEdges' a_learnedPos' a_learnedNeg' a_learnedRests' a_trail' a_levelStart' a_levelAtoms' a_reasonAtoms' a_reasonRests' a_edgeFrom' a_edgeTo' a_edgeWeight' a_potential' a_moved' a_gamma' a_via' a_dist' a_link' wC wA ka hX (fun q hq => hkc q (w1 q hq)) (fun q hq => k1 q (w2 q hq)) w3 ⟨hkc, k1, hco, fun j hj ha => k3 j (by omega) ha⟩) (fun h => nm_e ?_)
    have ib : i < 32 := by omega
    refine br_c (fun h1 => nm_r (nI_1 i) (ih (i + 1) lc' f_learnedCount' f_learnedNext' f_activeRests' f_trueMask' f_falseMask' f_trailSize' f_theoryHead' f_level' f_conflictAtoms' f_conflictRests' f_failedAtoms' f_failedRests' f_activeEdges' a_learnedPos' a_learnedNeg' a_learnedRests' a_trail' a_levelStart' a_levelAtoms' a_reasonAtoms' a_reasonRests' a_edgeFrom' a_edgeTo' a_edgeWeight' a_potential' a_moved' a_gamma' a_via' a_dist' a_link' wC wA ka (by omega) (by omega) hX w1 w2 w3 k1 (fun q hq => k2 q (by omega)) (fun j hj ha => ?_))) (fun h1 => ?_)
    · rcases Nat.lt_or_ge j i with y | y
      · exact k3 j y ha
      · have : j = i := by omega
        subst this
        have := (zb_and1 ib).mp h1
        rw [k2 j (Nat.le_refl _) ha] at this; cases this
    · have hki : bt ka i = true := zb_ft fun z => h1 ((zb_and1 ib).mpr z)
      have hia := k1 i hki
      have hnew : ∀ q, bt (ka &&& ((1 : Int32) <<< (nI i &&& 31) ^^^ (-1))) q = (bt ka q && !decide (q = i)) := fun q => by rw [zb_clr, zb_bit ib]
      generalize hkd : ka &&& ((1 : Int32) <<< (nI i &&& 31) ^^^ (-1)) = ka' at *
      have hnew' : ∀ q, bt ka' q = true ↔ (bt ka q = true ∧ q ≠ i) := fun q => by rw [hnew, Bool.and_eq_true, Bool.not_eq_true', decide_eq_false_iff_not]
      -- the set asked
      have hset : ∀ τ, rl_Md n m a_kinds a_lefts a_rights a_bounds a_clausePos a_clauseNeg f_assumedTrue f_assumedFalse (fun j => bt kc j = true) (fun q => bt ka' q = true) τ ↔ rl_Md n m a_kinds a_lefts a_rights a_bounds a_clausePos a_clauseNeg f_assumedTrue f_assumedFalse (fun j => bt kc j = true) (fun q => (q < i ∧ bt ka q = true) ∨ i < q) τ := by
        refine md_cg (fun _ _ => Iff.rfl) (fun q _ ha => ?_)
        rw [hnew']
        constructor
        · intro ⟨y1, y2⟩
          rcases Nat.lt_trichotomy q i with w | w | w
          · exact Or.inl ⟨w, y1⟩
          · exact (y2 w).elim
          · exact Or.inr w
        · rintro (⟨y1, y2⟩ | y)
          · exact ⟨y2, by omega⟩
          · exact ⟨k2 q (by omega) ha, by omega⟩
      -- the kept atoms below, with or without i
      have carry : ∀ kx : Int32, (∀ q, q < i → bt kx q = bt ka q) → ∀ j, j < i → bt f_assumedTrue j = true ∨ bt f_assumedFalse j = true → (bt kx j = true ↔ ∃ τ, rl_Md n m a_kinds a_lefts a_rights a_bounds a_clausePos a_clauseNeg f_assumedTrue f_assumedFalse (fun j => bt kc j = true) (fun q => (q < j ∧ bt kx q = true) ∨ j < q) τ) := by
        intro kx hx j hj ha
        rw [hx j hj, k3 j hj ha]
        refine exists_congr (md_cg (fun _ _ => Iff.rfl) (fun q _ _ => ?_))
        constructor
        · rintro (⟨y1, y2⟩ | y)
          · exact Or.inl ⟨y1, by rw [hx q (by omega)]; exact y2⟩
          · exact Or.inr y
        · rintro (⟨y1, y2⟩ | y)
          · exact Or.inl ⟨y1, by rw [hx q (by omega)] at y2; exact y2⟩
          · exact Or.inr y
      have drop : ∀ (lc2 : Nat) (f_learnedCount'' f_learnedNext'' f_activeRests'' f_trueMask'' f_falseMask'' f_trailSize'' f_theoryHead'' f_level'' f_conflictAtoms'' f_conflictRests'' f_failedAtoms'' f_failedRests'' f_activeEdges'' : Int32) (a_learnedPos'' a_learnedNeg'' a_learnedRests'' a_trail'' a_levelStart'' a_levelAtoms'' a_reasonAtoms'' a_reasonRests'' a_edgeFrom'' a_edgeTo'' a_edgeWeight'' a_potential'' a_moved'' a_gamma'' a_via'' a_dist'' a_link'' : Nat → Int32) (wC' wA' : Int32), rl_XH V n m lc2 a_kinds a_lefts a_rights a_bounds a_clausePos a_clauseNeg a_learnedPos'' a_learnedNeg'' a_learnedRests'' → (∀ q, bt wC' q = true → bt kc q = true) → (∀ q, bt wA' q = true → bt ka' q = true) →
          (∀ τ, ¬ rl_Md n m a_kinds a_lefts a_rights a_bounds a_clausePos a_clauseNeg f_assumedTrue f_assumedFalse (fun i => bt wC' i = true) (fun k => bt wA' k = true) τ) →
          wX_shrinkCore_117 post (wX_shrinkCore_73 post kc f) kc ka (nI i) ((1 : Int32) <<< (nI i &&& 31)) f_goalEdge f_goalRest f_atomBits f_decided f_maxVariables f_maxAtoms f_maxClauses f_maxDepth (nI n) (nI m) f_depthNow f_assumedTrue f_assumedFalse f_status f_presentTrue f_coreKnown f_coreClauses f_coreAtoms wC' wA' (nI lc2) f_learnedNext'' f_activeRests'' f_trueMask'' f_falseMask'' f_trailSize'' f_theoryHead'' f_level'' f_conflictAtoms'' f_conflictRests'' f_failedAtoms'' f_failedRests'' f_activeEdges'' 0 a_kinds a_lefts a_rights a_bounds a_atomDepths a_literals a_literalCounts a_clausePos a_clauseNeg a_clauseDepths a_values a_learnedPos'' a_learnedNeg'' a_learnedRests'' a_trail'' a_levelStart'' a_levelAtoms'' a_reasonAtoms'' a_reasonRests'' a_edgeFrom'' a_edgeTo'' a_edgeWeight'' a_potential'' a_moved'' a_gamma'' a_via'' a_dist'' a_link'' := by
        intro lc2 f_learnedCount'' f_learnedNext'' f_activeRests'' f_trueMask'' f_falseMask'' f_trailSize'' f_theoryHead'' f_level'' f_conflictAtoms'' f_conflictRests'' f_failedAtoms'' f_failedRests'' f_activeEdges'' a_learnedPos'' a_learnedNeg'' a_learnedRests'' a_trail'' a_levelStart'' a_levelAtoms'' a_reasonAtoms'' a_reasonRests'' a_edgeFrom'' a_edgeTo'' a_edgeWeight'' a_potential'' a_moved'' a_gamma'' a_via'' a_dist'' a_link'' wC' wA' hX2 y1 y2 y3
        refine nm_r hkd (nm_r (nI_1 i) (ih (i + 1) lc2 f_learnedCount'' f_learnedNext'' f_activeRests'' f_trueMask'' f_falseMask'' f_trailSize'' f_theoryHead'' f_level'' f_conflictAtoms'' f_conflictRests'' f_failedAtoms'' f_failedRests'' f_activeEdges'' a_learnedPos'' a_learnedNeg'' a_learnedRests'' a_trail'' a_levelStart'' a_levelAtoms'' a_reasonAtoms'' a_reasonRests'' a_edgeFrom'' a_edgeTo'' a_edgeWeight'' a_potential'' a_moved'' a_gamma'' a_via'' a_dist'' a_link'' wC' wA' ka' (by omega) (by omega) hX2 y1 y2 y3 (fun q hq => k1 q ((hnew' q).mp hq).1) (fun q hq ha => (hnew' q).mpr ⟨k2 q (by omega) ha, by omega⟩) (fun j hj ha => ?_)))
        rcases Nat.lt_or_ge j i with w | w
        · exact carry ka' (fun q hq => by rw [hnew, decide_eq_false (by omega), Bool.not_false, Bool.and_true]) j w ha
        · have : j = i := by omega
          subst this
          constructor
          · intro z; exact (((hnew' j).mp z).2 rfl).elim
          · intro ⟨τ, hτ⟩
            exfalso
            refine y3 τ (md_weak ((hset τ).mpr ?_) (fun q _ hq => y1 q hq) (fun q _ hq => y2 q hq))
            refine (md_cg (fun _ _ => Iff.rfl) (fun q _ _ => ?_) τ).mp hτ
            constructor
            · rintro (⟨v1, v2⟩ | v)
              · exact Or.inl ⟨v1, ((hnew' q).mp v2).1⟩
              · exact Or.inr v
            · rintro (⟨v1, v2⟩ | v)
              · exact Or.inl ⟨v1, (hnew' q).mpr ⟨v2, by omega⟩⟩
              · exact Or.inr v
      refine br_c (fun h2 => drop lc' f_learnedCount' f_learnedNext' f_activeRests' f_trueMask' f_falseMask' f_trailSize' f_theoryHead' f_level' f_conflictAtoms' f_conflictRests' f_failedAtoms' f_failedRests' f_activeEdges' a_learnedPos' a_learnedNeg' a_learnedRests' a_trail' a_levelStart' a_levelAtoms' a_reasonAtoms' a_reasonRests' a_edgeFrom' a_edgeTo' a_edgeWeight' a_potential' a_moved' a_gamma' a_via' a_dist' a_link' wC wA hX w1 (fun q hq => (hnew' q).mpr ⟨w2 q hq, fun e => ?_⟩) w3) (fun h2 => ?_)
      · rw [e, (zb_and1 ib).mp h2] at hq; cases hq
      · refine xw_refuted hX g7 g8 hkc (fun lc2 f_learnedCount'' f_learnedNext'' f_activeRests'' f_trueMask'' f_falseMask'' f_trailSize'' f_theoryHead'' f_level'' f_conflictAtoms'' f_conflictRests'' f_failedAtoms'' f_failedRests'' f_activeEdges'' a_learnedPos'' a_learnedNeg'' a_learnedRests'' a_trail'' a_levelStart'' a_levelAtoms'' a_reasonAtoms'' a_reasonRests'' a_edgeFrom'' a_edgeTo'' a_edgeWeight'' a_potential'' a_moved'' a_gamma'' a_via'' a_dist'' a_link'' wC' wA' y1 y2 y3 y4 => br_f (by decide) (drop lc2 f_learnedCount'' f_learnedNext'' f_activeRests'' f_trueMask'' f_falseMask'' f_trailSize'' f_theoryHead'' f_level'' f_conflictAtoms'' f_conflictRests'' f_failedAtoms'' f_failedRests'' f_activeEdges'' a_learnedPos'' a_learnedNeg'' a_learnedRests'' a_trail'' a_levelStart'' a_levelAtoms'' a_reasonAtoms'' a_reasonRests'' a_edgeFrom'' a_edgeTo'' a_edgeWeight'' a_potential'' a_moved'' a_gamma'' a_via'' a_dist'' a_link'' wC' wA' y1 y2 (fun q hq => (y3 q hq).1) y4)) (fun lc2 f_learnedCount'' f_learnedNext'' f_activeRests'' f_trueMask'' f_falseMask'' f_trailSize'' f_theoryHead'' f_level'' f_conflictAtoms'' f_conflictRests'' f_failedAtoms'' f_failedRests'' f_activeEdges'' a_learnedPos'' a_learnedNeg'' a_learnedRests'' a_trail'' a_levelStart'' a_levelAtoms'' a_reasonAtoms'' a_reasonRests'' a_edgeFrom'' a_edgeTo'' a_edgeWeight'' a_potential'' a_moved'' a_gamma'' a_via'' a_dist'' a_link'' y1 y2 => br_t rfl (nm_r (nI_1 i) (ih (i + 1) lc2 f_learnedCount'' f_learnedNext'' f_activeRests'' f_trueMask'' f_falseMask'' f_trailSize'' f_theoryHead'' f_level'' f_conflictAtoms'' f_conflictRests'' f_failedAtoms'' f_failedRests'' f_activeEdges'' a_learnedPos'' a_learnedNeg'' a_learnedRests'' a_trail'' a_levelStart'' a_levelAtoms'' a_reasonAtoms'' a_reasonRests'' a_edgeFrom'' a_edgeTo'' a_edgeWeight'' a_potential'' a_moved'' a_gamma'' a_via'' a_dist'' a_link'' wC wA ka (by omega) (by omega) y1 w1 w2 w3 k1 (fun q hq => k2 q (by omega)) (fun j hj ha => ?_))))
        rcases Nat.lt_or_ge j i with w | w
        · exact k3 j w ha
        · have : j = i := by omega
          subst this
          refine ⟨fun _ => ?_, fun _ => hki⟩
          obtain ⟨τ, hτ⟩ := y2
          exact ⟨τ, (hset τ).mp hτ⟩
theorem xw_sc21 {post : SX → Prop} {ka : Int32} (g7 : ∀ k, bt f_assumedTrue k = true ∨ bt f_assumedFalse k = true → k < n) (g8 : ∀ k, bt f_assumedTrue k = true → bt f_assumedFalse k = true → False) (hka : ∀ q, bt ka q = (bt f_assumedTrue q || bt f_assumedFalse q))
    (K : ∀ (lc' : Nat) (f_learnedCount' f_learnedNext' f_activeRests' f_trueMask' f_falseMask' f_trailSize' f_theoryHead' f_level' f_conflictAtoms' f_conflictRests' f_failedAtoms' f_failedRests' f_activeEdges' : Int32) (a_learnedPos' a_learnedNeg' a_learnedRests' a_trail' a_levelStart' a_levelAtoms' a_reasonAtoms' a_reasonRests' a_edgeFrom' a_edgeTo' a_edgeWeight' a_potential' a_moved' a_gamma' a_via' a_dist' a_link' : Nat → Int32) (wC wA cc ca : Int32), rl_XH V n m lc' a_kinds a_lefts a_rights a_bounds a_clausePos a_clauseNeg a_learnedPos' a_learnedNeg' a_learnedRests' → (∀ q, bt wC q = true → q < m) → (∀ q, bt wA q = true → bt f_assumedTrue q = true ∨ bt f_assumedFalse q = true) →
      (∀ τ, ¬ rl_Md n m a_kinds a_lefts a_rights a_bounds a_clausePos a_clauseNeg f_assumedTrue f_assumedFalse (fun i => bt wC i = true) (fun k => bt wA k = true) τ) → rl_Co n m a_kinds a_lefts a_rights a_bounds a_clausePos a_clauseNeg f_assumedTrue f_assumedFalse cc ca →
      post (f_goalEdge, f_goalRest, f_atomBits, f_decided, f_maxVariables, f_maxAtoms, f_maxClauses, f_maxDepth, nI n, nI m, f_depthNow, f_assumedTrue, f_assumedFalse, f_status, f_presentTrue, 1, cc, ca, wC, wA, nI lc', f_learnedNext', f_activeRests', f_trueMask', f_falseMask', f_trailSize', f_theoryHead', f_level', f_conflictAtoms', f_conflictRests', f_failedAtoms', f_failedRests', f_activeEdges', 0, a_kinds, a_lefts, a_rights, a_bounds, a_atomDepths, a_literals, a_literalCounts, a_clausePos, a_clauseNeg, a_clauseDepths, a_values, a_learnedPos', a_learnedNeg', a_learnedRests', a_trail', a_levelStart', a_levelAtoms', a_reasonAtoms', a_reasonRests', a_edgeFrom', a_edgeTo', a_edgeWeight', a_potential', a_moved', a_gamma', a_via', a_dist', a_link')) :
    ∀ f i (lc' : Nat) (f_learnedCount' f_learnedNext' f_activeRests' f_trueMask' f_falseMask' f_trailSize' f_theoryHead' f_level' f_conflictAtoms' f_conflictRests' f_failedAtoms' f_failedRests' f_activeEdges' : Int32) (a_learnedPos' a_learnedNeg' a_learnedRests' a_trail' a_levelStart' a_levelAtoms' a_reasonAtoms' a_reasonRests' a_edgeFrom' a_edgeTo' a_edgeWeight' a_potential' a_moved' a_gamma' a_via' a_dist' a_link' : Nat → Int32) (wC wA kc : Int32), i ≤ m → m < f + i → rl_XH V n m lc' a_kinds a_lefts a_rights a_bounds a_clausePos a_clauseNeg a_learnedPos' a_learnedNeg' a_learnedRests' →
      (∀ q, bt wC q = true → bt kc q = true) → (∀ q, bt wA q = true → bt f_assumedTrue q = true ∨ bt f_assumedFalse q = true) → (∀ τ, ¬ rl_Md n m a_kinds a_lefts a_rights a_bounds a_clausePos a_clauseNeg f_assumedTrue f_assumedFalse (fun i => bt wC i = true) (fun k => bt wA k = true) τ) →
      (∀ q, bt kc q = true → q < m) → (∀ q, i ≤ q → q < m → bt kc q = true) →
      (∀ j, j < i → (bt kc j = true ↔ ∃ τ, rl_Md n m a_kinds a_lefts a_rights a_bounds a_clausePos a_clauseNeg f_assumedTrue f_assumedFalse (fun q => (q < j ∧ bt kc q = true) ∨ j < q) (fun _ => True) τ)) →
      wX_shrinkCore_21 post ka f kc (nI i) f_goalEdge f_goalRest f_atomBits f_decided f_maxVariables f_maxAtoms f_maxClauses f_maxDepth (nI n) (nI m) f_depthNow f_assumedTrue f_assumedFalse f_status f_presentTrue f_coreKnown f_coreClauses f_coreAtoms wC wA (nI lc') f_learnedNext' f_activeRests' f_trueMask' f_falseMask' f_trailSize' f_theoryHead' f_level' f_conflictAtoms' f_conflictRests' f_failedAtoms' f_failedRests' f_activeEdges' 0 a_kinds a_lefts a_rights a_bounds a_atomDepths a_literals a_literalCounts a_clausePos a_clauseNeg a_clauseDepths a_values a_learnedPos' a_learnedNeg' a_learnedRests' a_trail' a_levelStart' a_levelAtoms' a_reasonAtoms' a_reasonRests' a_edgeFrom' a_edgeTo' a_edgeWeight' a_potential' a_moved' a_gamma' a_via' a_dist' a_link' := by
  have hka' : ∀ q, bt ka q = true ↔ (bt f_assumedTrue q = true ∨ bt f_assumedFalse q = true) := fun q => by rw [hka, Bool.or_eq_true]
  intro f
  induction f with
  | zero => intro i _ _ _ _ _ _ _ _ _ _ _ _ _ _ _ _ _ _ _ _ _ _ _ _ _ _ _ _ _ _ _ _ _ _ h1 h2; omega
  | succ f ih =>
    intro i lc' f_learnedCount' f_learnedNext' f_activeRests' f_trueMask' f_falseMask' f_trailSize' f_theoryHead' f_level' f_conflictAtoms' f_conflictRests' f_failedAtoms' f_failedRests' f_activeEdges' a_learnedPos' a_learnedNeg' a_learnedRests' a_trail' a_levelStart' a_levelAtoms' a_reasonAtoms' a_reasonRests' a_edgeFrom' a_edgeTo' a_edgeWeight' a_potential' a_moved' a_gamma' a_via' a_dist' a_link' wC wA kc hi hf hX w1 w2 w3 k1 k2 k3
    have hn10 := hX.1
    have hm24 := hX.2.1
    refine pk_le m i (fun h => Exists.intro (n + 1) (xw_sc73 g7 g8 k1 (fun j hj => k3 j (by omega)) (fun lc2 f_learnedCount'' f_learnedNext'' f_activeRests'' f_trueMask'' f_falseMask'' f_trailSize'' f_theoryHead'' f_level'' f_conflictAtoms'' f_conflictRests'' f_failedAtoms'' f_failedRests'' f_activeEdges'' a_learnedPos'' a_learnedNeg'' a_learnedRests'' a_trail'' a_levelStart'' a_levelAtoms'' a_reasonAtoms'' a_reasonRests'' a_edgeFrom'' a_edgeTo'' a_edgeWeight'' a_potential'' a_moved'' a_gamma'' a_via'' a_dist'' a_link'' wC' wA' ca y1 y2 y3 y4 y5 => K lc2 f_learnedCount'' f_learnedNext'' f_activeRests'' f_trueMask'' f_falseMask'' f_trailSize'' f_theoryHead'' f_level'' f_conflictAtoms'' f_conflictRests'' f_failedAtoms'' f_failedRests'' f_activeEdges'' a_learnedPos'' a_learnedNeg'' a_learnedRests'' a_trail'' a_levelStart'' a_levelAtoms'' a_reasonAtoms'' a_reasonRests'' a_edgeFrom'' a_edgeTo'' a_edgeWeight'' a_potential'' a_moved'' a_gamma'' a_via'' a_dist'' a_link'' wC' wA' kc ca y1 y2 y3 y4 y5) (n + 1) 0 lc' f_learnedCount' f_learnedNext' f_activeRests' f_trueMask' f_falseMask' f_trailSize' f_theoryHead' f_level' f_conflictAtoms' f_conflictRests' f_failedAtoms' f_failedRests' f_activeEdges' a_learnedPos' a_learnedNeg' a_learnedRests' a_trail' a_levelStart' a_levelAtoms' a_reasonAtoms' a_reasonRests' a_edgeFrom' a_edgeTo' a_edgeWeight' a_potential' a_moved' a_gamma' a_via' a_dist' a_link' wC wA ka (by omega) (by omega) hX w1 (fun q hq => (hka' q).mpr (w2 q hq)) w3 (fun q hq => (hka' q).mp hq) (fun q _ ha => (hka' q).mpr ha) (fun j hj => by omega))) (fun h => nm_e ?_)
    have ib : i < 32 := by omega
    have hki : bt kc i = true := k2 i (Nat.le_refl _) h
    have hnew : ∀ q, bt (kc &&& ((1 : Int32) <<< (nI i &&& 31) ^^^ (-1))) q = (bt kc q && !decide (q = i)) := fun q => by rw [zb_clr, zb_bit ib]
    generalize hkd : kc &&& ((1 : Int32) <<< (nI i &&& 31) ^^^ (-1)) = kc' at *
    have hnew' : ∀ q, bt kc' q = true ↔ (bt kc q = true ∧ q ≠ i) := fun q => by rw [hnew, Bool.and_eq_true, Bool.not_eq_true', decide_eq_false_iff_not]
    have hset : ∀ τ, rl_Md n m a_kinds a_lefts a_rights a_bounds a_clausePos a_clauseNeg f_assumedTrue f_assumedFalse (fun q => bt kc' q = true) (fun q => bt ka q = true) τ ↔ rl_Md n m a_kinds a_lefts a_rights a_bounds a_clausePos a_clauseNeg f_assumedTrue f_assumedFalse (fun q => (q < i ∧ bt kc q = true) ∨ i < q) (fun _ => True) τ := by
      refine md_cg (fun q hq => ?_) (fun q _ ha => ⟨fun _ => trivial, fun _ => (hka' q).mpr ha⟩)
      rw [hnew']
      constructor
      · intro ⟨y1, y2⟩
        rcases Nat.lt_trichotomy q i with w | w | w
        · exact Or.inl ⟨w, y1⟩
        · exact (y2 w).elim
        · exact Or.inr w
      · rintro (⟨y1, y2⟩ | y)
        · exact ⟨y2, by omega⟩
        · exact ⟨k2 q (by omega) hq, by omega⟩
    have carry : ∀ kx : Int32, (∀ q, q < i → bt kx q = bt kc q) → ∀ j, j < i → (bt kx j = true ↔ ∃ τ, rl_Md n m a_kinds a_lefts a_rights a_bounds a_clausePos a_clauseNeg f_assumedTrue f_assumedFalse (fun q => (q < j ∧ bt kx q = true) ∨ j < q) (fun _ => True) τ) := by
      intro kx hx j hj
      rw [hx j hj, k3 j hj]
      refine exists_congr (md_cg (fun q _ => ?_) (fun _ _ _ => Iff.rfl))
      constructor
      · rintro (⟨y1, y2⟩ | y)
        · exact Or.inl ⟨y1, by rw [hx q (by omega)]; exact y2⟩
        · exact Or.inr y
      · rintro (⟨y1, y2⟩ | y)
        · exact Or.inl ⟨y1, by rw [hx q (by omega)] at y2; exact y2⟩
        · exact Or.inr y
    have drop : ∀ (lc2 : Nat) (f_learnedCount'' f_learnedNext'' f_activeRests'' f_trueMask'' f_falseMask'' f_trailSize'' f_theoryHead'' f_level'' f_conflictAtoms'' f_conflictRests'' f_failedAtoms'' f_failedRests'' f_activeEdges'' : Int32) (a_learnedPos'' a_learnedNeg'' a_learnedRests'' a_trail'' a_levelStart'' a_levelAtoms'' a_reasonAtoms'' a_reasonRests'' a_edgeFrom'' a_edgeTo'' a_edgeWeight'' a_potential'' a_moved'' a_gamma'' a_via'' a_dist'' a_link'' : Nat → Int32) (wC' wA' : Int32), rl_XH V n m lc2 a_kinds a_lefts a_rights a_bounds a_clausePos a_clauseNeg a_learnedPos'' a_learnedNeg'' a_learnedRests'' → (∀ q, bt wC' q = true → bt kc' q = true) → (∀ q, bt wA' q = true → bt f_assumedTrue q = true ∨ bt f_assumedFalse q = true) →
        (∀ τ, ¬ rl_Md n m a_kinds a_lefts a_rights a_bounds a_clausePos a_clauseNeg f_assumedTrue f_assumedFalse (fun i => bt wC' i = true) (fun k => bt wA' k = true) τ) →
        wX_shrinkCore_58 post (wX_shrinkCore_21 post ka f) kc ka (nI i) ((1 : Int32) <<< (nI i &&& 31)) f_goalEdge f_goalRest f_atomBits f_decided f_maxVariables f_maxAtoms f_maxClauses f_maxDepth (nI n) (nI m) f_depthNow f_assumedTrue f_assumedFalse f_status f_presentTrue f_coreKnown f_coreClauses f_coreAtoms wC' wA' (nI lc2) f_learnedNext'' f_activeRests'' f_trueMask'' f_falseMask'' f_trailSize'' f_theoryHead'' f_level'' f_conflictAtoms'' f_conflictRests'' f_failedAtoms'' f_failedRests'' f_activeEdges'' 0 a_kinds a_lefts a_rights a_bounds a_atomDepths a_literals a_literalCounts a_clausePos a_clauseNeg a_clauseDepths a_values a_learnedPos'' a_learnedNeg'' a_learnedRests'' a_trail'' a_levelStart'' a_levelAtoms'' a_reasonAtoms'' a_reasonRests'' a_edgeFrom'' a_edgeTo'' a_edgeWeight'' a_potential'' a_moved'' a_gamma'' a_via'' a_dist'' a_link'' := by
      intro lc2 f_learnedCount'' f_learnedNext'' f_activeRests'' f_trueMask'' f_falseMask'' f_trailSize'' f_theoryHead'' f_level'' f_conflictAtoms'' f_conflictRests'' f_failedAtoms'' f_failedRests'' f_activeEdges'' a_learnedPos'' a_learnedNeg'' a_learnedRests'' a_trail'' a_levelStart'' a_levelAtoms'' a_reasonAtoms'' a_reasonRests'' a_edgeFrom'' a_edgeTo'' a_edgeWeight'' a_potential'' a_moved'' a_gamma'' a_via'' a_dist'' a_link'' wC' wA' hX2 y1 y2 y3
      refine nm_r hkd (nm_r (nI_1 i) (ih (i + 1) lc2 f_learnedCount'' f_learnedNext'' f_activeRests'' f_trueMask'' f_falseMask'' f_trailSize'' f_theoryHead'' f_level'' f_conflictAtoms'' f_conflictRests'' f_failedAtoms'' f_failedRests'' f_activeEdges'' a_learnedPos'' a_learnedNeg'' a_learnedRests'' a_trail'' a_levelStart'' a_levelAtoms'' a_reasonAtoms'' a_reasonRests'' a_edgeFrom'' a_edgeTo'' a_edgeWeight'' a_potential'' a_moved'' a_gamma'' a_via'' a_dist'' a_link'' wC' wA' kc' (by omega) (by omega) hX2 y1 y2 y3 (fun q hq => k1 q ((hnew' q).mp hq).1) (fun q hq hq' => (hnew' q).mpr ⟨k2 q (by omega) hq', by omega⟩) (fun j hj => ?_)))
      rcases Nat.lt_or_ge j i with w | w
      · exact carry kc' (fun q hq => by rw [hnew, decide_eq_false (by omega), Bool.not_false, Bool.and_true]) j w
      · have : j = i := by omega
        subst this
        constructor
        · intro z; exact (((hnew' j).mp z).2 rfl).elim
        · intro ⟨τ, hτ⟩
          exfalso
          refine y3 τ (md_weak ((hset τ).mpr ?_) (fun q _ hq => y1 q hq) (fun q _ hq => (hka' q).mpr (y2 q hq)))
          refine (md_cg (fun q _ => ?_) (fun _ _ _ => Iff.rfl) τ).mp hτ
          constructor
          · rintro (⟨v1, v2⟩ | v)
            · exact Or.inl ⟨v1, ((hnew' q).mp v2).1⟩
            · exact Or.inr v
          · rintro (⟨v1, v2⟩ | v)
            · exact Or.inl ⟨v1, (hnew' q).mpr ⟨v2, by omega⟩⟩
            · exact Or.inr v
    refine br_c (fun h2 => drop lc' f_learnedCount' f_learnedNext' f_activeRests' f_trueMask' f_falseMask' f_trailSize' f_theoryHead' f_level' f_conflictAtoms' f_conflictRests' f_failedAtoms' f_failedRests' f_activeEdges' a_learnedPos' a_learnedNeg' a_learnedRests' a_trail' a_levelStart' a_levelAtoms' a_reasonAtoms' a_reasonRests' a_edgeFrom' a_edgeTo' a_edgeWeight' a_potential' a_moved' a_gamma' a_via' a_dist' a_link' wC wA hX (fun q hq => (hnew' q).mpr ⟨w1 q hq, fun e => ?_⟩) w2 w3) (fun h2 => ?_)
    · rw [e, (zb_and1 ib).mp h2] at hq; cases hq
    · refine xw_refuted hX g7 g8 (fun q hq => k1 q ((hnew' q).mp hq).1) (fun lc2 f_learnedCount'' f_learnedNext'' f_activeRests'' f_trueMask'' f_falseMask'' f_trailSize'' f_theoryHead'' f_level'' f_conflictAtoms'' f_conflictRests'' f_failedAtoms'' f_failedRests'' f_activeEdges'' a_learnedPos'' a_learnedNeg'' a_learnedRests'' a_trail'' a_levelStart'' a_levelAtoms'' a_reasonAtoms'' a_reasonRests'' a_edgeFrom'' a_edgeTo'' a_edgeWeight'' a_potential'' a_moved'' a_gamma'' a_via'' a_dist'' a_link'' wC' wA' y1 y2 y3 y4 => br_f (by decide) (drop lc2 f_learnedCount'' f_learnedNext'' f_activeRests'' f_trueMask'' f_falseMask'' f_trailSize'' f_theoryHead'' f_level'' f_conflictAtoms'' f_conflictRests'' f_failedAtoms'' f_failedRests'' f_activeEdges'' a_learnedPos'' a_learnedNeg'' a_learnedRests'' a_trail'' a_levelStart'' a_levelAtoms'' a_reasonAtoms'' a_reasonRests'' a_edgeFrom'' a_edgeTo'' a_edgeWeight'' a_potential'' a_moved'' a_gamma'' a_via'' a_dist'' a_link'' wC' wA' y1 y2 (fun q hq => (y3 q hq).2) y4)) (fun lc2 f_learnedCount'' f_learnedNext'' f_activeRests'' f_trueMask'' f_falseMask'' f_trailSize'' f_theoryHead'' f_level'' f_conflictAtoms'' f_conflictRests'' f_failedAtoms'' f_failedRests'' f_activeEdges'' a_learnedPos'' a_learnedNeg'' a_learnedRests'' a_trail'' a_levelStart'' a_levelAtoms'' a_reasonAtoms'' a_reasonRests'' a_edgeFrom'' a_edgeTo'' a_edgeWeight'' a_potential'' a_moved'' a_gamma'' a_via'' a_dist'' a_link'' y1 y2 => br_t rfl (nm_r (nI_1 i) (ih (i + 1) lc2 f_learnedCount'' f_learnedNext'' f_activeRests'' f_trueMask'' f_falseMask'' f_trailSize'' f_theoryHead'' f_level'' f_conflictAtoms'' f_conflictRests'' f_failedAtoms'' f_failedRests'' f_activeEdges'' a_learnedPos'' a_learnedNeg'' a_learnedRests'' a_trail'' a_levelStart'' a_levelAtoms'' a_reasonAtoms'' a_reasonRests'' a_edgeFrom'' a_edgeTo'' a_edgeWeight'' a_potential'' a_moved'' a_gamma'' a_via'' a_dist'' a_link'' wC wA kc (by omega) (by omega) y1 w1 w2 w3 k1 (fun q hq => k2 q (by omega)) (fun j hj => ?_))))
      rcases Nat.lt_or_ge j i with w | w
      · exact k3 j w
      · have : j = i := by omega
        subst this
        refine ⟨fun _ => ?_, fun _ => hki⟩
        obtain ⟨τ, hτ⟩ := y2
        exact ⟨τ, (hset τ).mp hτ⟩
end
end
section
theorem rl_lst (P : Nat → Prop) : ∀ N, (∃ t, t < N ∧ P t) → ∃ t0, t0 < N ∧ P t0 ∧ ∀ t, t < t0 → ¬ P t
  | 0, ⟨t, h, _⟩ => by omega
  | N + 1, ⟨t, h, hp⟩ => by
    rcases Classical.em (∃ t, t < N ∧ P t) with q | q
    · obtain ⟨t0, a, b, c⟩ := rl_lst P N q
      exact ⟨t0, by omega, b, c⟩
    · refine ⟨t, h, hp, fun t' ht' hp' => q ⟨t', by omega, hp'⟩⟩
def zz_b (b : Bool) : Int32 := if b = true then 1 else 0
theorem zz_b0 {b : Bool} : ¬ zz_b b = 0 ↔ b = true := by cases b <;> decide
theorem zz_n0 : vp_nar .boolean 0 = 0 := rfl
theorem zz_n1 : vp_nar .boolean 1 = 1 := rfl
section
variable {y_maxV y_maxA y_maxC y_maxD y_n y_m y_d y_status y_model y_hasCore : Int32} {z_kind z_atomX z_atomY z_atomC z_atomDepth z_assumed z_literals z_length z_clauseDepth z_clauseIn z_assumptionIn z_bound : Nat → Int32}
variable {V n m : Nat} {cp cn : Nat → Int32} {aT aF : Int32}
theorem yw_any {post : Int32 → SY → Prop} {S A : Nat → Prop} (h : rl_YH V n m z_kind z_atomX z_atomY z_atomC z_length z_literals z_assumed cp cn aT aF) (hC : ∀ i, i < m → ∀ k, bt (cp i) k = true ∨ bt (cn i) k = true → k < n)
    (hS : ∀ i, i < m → (S i ↔ ¬ z_clauseIn i = 0)) (hA : ∀ k, k < n → (A k ↔ ¬ z_assumptionIn k = 0))
    (K1 : (∃ τ, rl_Md n m z_kind z_atomX z_atomY z_atomC cp cn aT aF S A τ) → ∀ t0 b, t0 < 1024 → post (nI t0) (nI V, y_maxA, y_maxC, y_maxD, nI n, nI m, y_d, y_status, y_model, y_hasCore, z_kind, z_atomX, z_atomY, z_atomC, z_atomDepth, z_assumed, z_literals, z_length, z_clauseDepth, z_clauseIn, z_assumptionIn, b))
    (K0 : (¬ ∃ τ, rl_Md n m z_kind z_atomX z_atomY z_atomC cp cn aT aF S A τ) → ∀ b, post (-1) (nI V, y_maxA, y_maxC, y_maxD, nI n, nI m, y_d, y_status, y_model, y_hasCore, z_kind, z_atomX, z_atomY, z_atomC, z_atomDepth, z_assumed, z_literals, z_length, z_clauseDepth, z_clauseIn, z_assumptionIn, b)) :
    wpY_leastFrom post (nI V, y_maxA, y_maxC, y_maxD, nI n, nI m, y_d, y_status, y_model, y_hasCore, z_kind, z_atomX, z_atomY, z_atomC, z_atomDepth, z_assumed, z_literals, z_length, z_clauseDepth, z_clauseIn, z_assumptionIn, z_bound) 0 0 := by
  obtain ⟨e1, e2⟩ := rl_pow n h.1
  have hS' : ∀ i, i < m → (S i ↔ (¬ (0 : Int32) = 0 ∨ ¬ z_clauseIn i = 0)) := fun i hi => by rw [hS i hi]; exact ⟨Or.inr, fun z => z.elim (fun y => (y rfl).elim) id⟩
  have hA' : ∀ k, k < n → (A k ↔ (¬ (0 : Int32) = 0 ∨ ¬ z_assumptionIn k = 0)) := fun k hk => by rw [hA k hk]; exact ⟨Or.inr, fun z => z.elim (fun y => (y rfl).elim) id⟩
  rcases Classical.em (∃ τ, rl_Md n m z_kind z_atomX z_atomY z_atomC cp cn aT aF S A τ) with q | q
  · obtain ⟨τ, hτ⟩ := q
    obtain ⟨t0, a, b, c⟩ := rl_lst (fun t => rl_Md n m z_kind z_atomX z_atomY z_atomC cp cn aT aF S A (rl_tau n t)) (2 ^ n) ⟨rl_num n τ, rl_num_lt τ n, rl_Mdcg hC (fun q hq => (rl_num_bit τ hq).symm) hτ⟩
    exact yw_leastS (fr := 0) h hS' hA' (Nat.zero_le _) a b (fun t _ ht => c t ht) (fun bb => K1 ⟨τ, hτ⟩ t0 bb (by omega))
  · exact yw_leastN (fr := 0) h hS' hA' (Nat.zero_le _) (fun t _ _ hm => q ⟨_, hm⟩) (fun bb => K0 q bb)
theorem yw_core {post : Int32 → SY → Prop} {cc ca : Int32} (h : rl_YH V n m z_kind z_atomX z_atomY z_atomC z_length z_literals z_assumed cp cn aT aF) (hC : ∀ i, i < m → ∀ k, bt (cp i) k = true ∨ bt (cn i) k = true → k < n)
    (hco : rl_Co n m z_kind z_atomX z_atomY z_atomC cp cn aT aF cc ca)
    (K : ∀ b cI aI, (∀ i, i < m → cI i = if bt cc i = true then 1 else 0) → (∀ k, k < n → aI k = if bt ca k = true then 1 else 0) → post (nI (zz_pc (fun i => bt cc i) m + zz_pc (fun i => bt ca i) n)) (nI V, y_maxA, y_maxC, y_maxD, nI n, nI m, y_d, y_status, y_model, 1, z_kind, z_atomX, z_atomY, z_atomC, z_atomDepth, z_assumed, z_literals, z_length, z_clauseDepth, cI, aI, b))
    (hst : y_status = 2) : wpY_core post (nI V, y_maxA, y_maxC, y_maxD, nI n, nI m, y_d, y_status, y_model, y_hasCore, z_kind, z_atomX, z_atomY, z_atomC, z_atomDepth, z_assumed, z_literals, z_length, z_clauseDepth, z_clauseIn, z_assumptionIn, z_bound) := by
  have hn := h.1
  have hm := h.2.1
  obtain ⟨c1, c2, c3, c4⟩ := hco
  have h9 := h.2.2.2.2.2.2.1
  have hasm : ∀ k, k < n → (z_assumed k = 0 ↔ ¬ (bt aT k = true ∨ bt aF k = true)) := fun k hk => by
    rw [zz_a0 h9 hk, Bool.or_eq_false_iff]
    cases bt aT k <;> cases bt aF k <;> simp
  have l117 : ∀ (cI : Nat → Int32), (∀ i, i < m → cI i = zz_b (bt cc i)) → ∀ f k b aI, k ≤ n → n < f + k → (∀ q, q < k → aI q = zz_b (bt ca q)) → (∀ q, k ≤ q → q < n → aI q = zz_b (bt aT q || bt aF q)) →
      wY_core_117 post f (nI (zz_pc (fun i => bt cc i) m + zz_pc (fun i => bt ca i) k)) (nI k) (nI V) y_maxA y_maxC y_maxD (nI n) (nI m) y_d y_status y_model y_hasCore z_kind z_atomX z_atomY z_atomC z_atomDepth z_assumed z_literals z_length z_clauseDepth cI aI b := by
    intro cI hcI f
    induction f with
    | zero => intro k b aI h1 h2; omega
    | succ f ih =>
      intro k b aI hk hf h1 h2
      have ck : (nI k).toNatClampNeg = k := nI_clamp (by omega)
      have ik : k < n → vp_in (nI k) 10 := fun hk => pk_in k 10 (by omega)
      have epc : zz_pc (fun i => bt ca i) (k + 1) = zz_pc (fun i => bt ca i) k + (if bt ca k = true then 1 else 0) := rfl
      refine pk_le n k (fun h3 => ?_) (fun h3 => And.intro (ik h3) ?_)
      · have : k = n := by omega
        subst this
        exact K b cI aI hcI h1
      · rw [ck]
        refine br_c (fun h4 => nm_r (nI_1 k) ?_) (fun h4 => And.intro (ik h3) (nm_e ?_))
        · have hna := (hasm k h3).mp h4
          have hca : bt ca k = false := zb_tf fun z => hna (c2 k z)
          have hnext := ih (k + 1) b aI (by omega) (by omega) (fun q hq => ?_) (fun q hq hq' => h2 q (by omega) hq')
          · rw [epc, hca, if_neg (by decide), Nat.add_zero] at hnext
            exact hnext
          · rcases Nat.lt_or_ge q k with y | y
            · exact h1 q y
            · have : q = k := by omega
              subst this
              rw [h2 q (Nat.le_refl _) h3, hca]
              have t1 : bt aT q = false := zb_tf fun z => hna (Or.inl z)
              have t2 : bt aF q = false := zb_tf fun z => hna (Or.inr z)
              rw [t1, t2]; rfl
        · have ha : bt aT k = true ∨ bt aF k = true := Classical.byContradiction fun z => h4 ((hasm k h3).mpr z)
          rw [zz_n0]
          have hset : ∀ τ, rl_Md n m z_kind z_atomX z_atomY z_atomC cp cn aT aF (fun j => bt cc j = true) (fun q => (q < k ∧ bt ca q = true) ∨ (k < q ∧ (bt aT q = true ∨ bt aF q = true))) τ ↔ rl_Md n m z_kind z_atomX z_atomY z_atomC cp cn aT aF (fun j => bt cc j = true) (fun q => (q < k ∧ bt ca q = true) ∨ k < q) τ :=
            md_cg (fun _ _ => Iff.rfl) (fun q _ hq => ⟨fun z => z.elim Or.inl (fun y => Or.inr y.1), fun z => z.elim Or.inl (fun y => Or.inr ⟨y, hq⟩)⟩)
          refine yw_any (S := fun j => bt cc j = true) (A := fun q => (q < k ∧ bt ca q = true) ∨ (k < q ∧ (bt aT q = true ∨ bt aF q = true))) h hC (fun i hi => by rw [hcI i hi, zz_b0]) (fun q hq => ?_) (fun hex t0 b' ht0 => br_f (nI_pos (by omega)) (And.intro (ik h3) (nm_e (nm_r (nI_1 _) (nm_r (nI_1 k) ?_))))) (fun hno b' => br_t (by decide) (nm_r (nI_1 k) ?_))
          · rcases Nat.lt_trichotomy q k with y | y | y
            · rw [pk_un (by omega), h1 q y, zz_b0]
              exact ⟨fun z => z.elim (fun w => w.2) (fun w => by omega), fun z => Or.inl ⟨y, z⟩⟩
            · rw [y, pk_us]
              exact ⟨fun z => z.elim (fun w => by omega) (fun w => by omega), fun z => (z rfl).elim⟩
            · rw [pk_un (by omega), h2 q (by omega) hq, zz_b0, Bool.or_eq_true]
              exact ⟨fun z => z.elim (fun w => by omega) (fun w => w.2), fun z => Or.inr ⟨y, z⟩⟩
          · have hca : bt ca k = true := (c4 k h3 ha).mpr (hex.elim fun τ hτ => ⟨τ, (hset τ).mp hτ⟩)
            rw [zz_n1]
            have hn2 := ih (k + 1) b' (upd (upd aI k 0) k 1) (by omega) (by omega) (fun q hq => ?_) (fun q hq hq' => by rw [pk_un (by omega), pk_un (by omega)]; exact h2 q (by omega) hq')
            · rw [epc, hca, if_pos rfl, ← Nat.add_assoc] at hn2
              exact hn2
            · by_cases e : q = k
              · rw [e, pk_us, hca]; rfl
              · rw [pk_un e, pk_un e]; exact h1 q (by omega)
          · have hca : bt ca k = false := zb_tf fun z => hno ((c4 k h3 ha).mp z |>.elim fun τ hτ => ⟨τ, (hset τ).mpr hτ⟩)
            have hn2 := ih (k + 1) b' (upd aI k 0) (by omega) (by omega) (fun q hq => ?_) (fun q hq hq' => by rw [pk_un (by omega)]; exact h2 q (by omega) hq')
            · rw [epc, hca, if_neg (by decide), Nat.add_zero] at hn2
              exact hn2
            · by_cases e : q = k
              · rw [e, pk_us, hca]; rfl
              · rw [pk_un e]; exact h1 q (by omega)
  have l75 : ∀ (aI : Nat → Int32), (∀ q, q < n → aI q = zz_b (bt aT q || bt aF q)) → ∀ f i b cI, i ≤ m → m < f + i → (∀ q, q < i → cI q = zz_b (bt cc q)) → (∀ q, i ≤ q → q < m → cI q = 1) →
      wY_core_75 post f (nI (zz_pc (fun i => bt cc i) i)) (nI i) (nI V) y_maxA y_maxC y_maxD (nI n) (nI m) y_d y_status y_model y_hasCore z_kind z_atomX z_atomY z_atomC z_atomDepth z_assumed z_literals z_length z_clauseDepth cI aI b := by
    intro aI haI f
    induction f with
    | zero => intro i b cI h1 h2; omega
    | succ f ih =>
      intro i b cI hi hf h1 h2
      have ci : (nI i).toNatClampNeg = i := nI_clamp (by omega)
      have epc : zz_pc (fun i => bt cc i) (i + 1) = zz_pc (fun i => bt cc i) i + (if bt cc i = true then 1 else 0) := rfl
      refine pk_le m i (fun h3 => Exists.intro (n + 1) ?_) (fun h3 => And.intro (pk_in i 24 (by omega)) (nm_e ?_))
      · have : i = m := by omega
        subst this
        exact l117 cI h1 (n + 1) 0 b aI (by omega) (by omega) (fun q hq => by omega) (fun q _ hq => haI q hq)
      · rw [ci, zz_n0]
        have hset : ∀ τ, rl_Md n m z_kind z_atomX z_atomY z_atomC cp cn aT aF (fun q => (q < i ∧ bt cc q = true) ∨ i < q) (fun q => bt aT q = true ∨ bt aF q = true) τ ↔ rl_Md n m z_kind z_atomX z_atomY z_atomC cp cn aT aF (fun q => (q < i ∧ bt cc q = true) ∨ i < q) (fun _ => True) τ :=
          md_cg (fun _ _ => Iff.rfl) (fun q _ hq => ⟨fun _ => trivial, fun _ => hq⟩)
        refine yw_any (S := fun q => (q < i ∧ bt cc q = true) ∨ i < q) (A := fun q => bt aT q = true ∨ bt aF q = true) h hC (fun q hq => ?_) (fun q hq => by rw [haI q hq, zz_b0, Bool.or_eq_true]) (fun hex t0 b' ht0 => br_f (nI_pos (by omega)) (And.intro (pk_in i 24 (by omega)) (nm_e (nm_r (nI_1 _) (nm_r (nI_1 i) ?_))))) (fun hno b' => br_t (by decide) (nm_r (nI_1 i) ?_))
        · rcases Nat.lt_trichotomy q i with y | y | y
          · rw [pk_un (by omega), h1 q y, zz_b0]
            exact ⟨fun z => z.elim (fun w => w.2) (fun w => by omega), fun z => Or.inl ⟨y, z⟩⟩
          · rw [y, pk_us]
            exact ⟨fun z => z.elim (fun w => by omega) (fun w => by omega), fun z => (z rfl).elim⟩
          · rw [pk_un (by omega), h2 q (by omega) hq]
            exact ⟨fun _ => by decide, fun _ => Or.inr y⟩
        · have hcc : bt cc i = true := (c3 i h3).mpr (hex.elim fun τ hτ => ⟨τ, (hset τ).mp hτ⟩)
          rw [zz_n1]
          have hn2 := ih (i + 1) b' (upd (upd cI i 0) i 1) (by omega) (by omega) (fun q hq => ?_) (fun q hq hq' => by rw [pk_un (by omega), pk_un (by omega)]; exact h2 q (by omega) hq')
          · rw [epc, hcc, if_pos rfl] at hn2
            exact hn2
          · by_cases e : q = i
            · rw [e, pk_us, hcc]; rfl
            · rw [pk_un e, pk_un e]; exact h1 q (by omega)
        · have hcc : bt cc i = false := zb_tf fun z => hno ((c3 i h3).mp z |>.elim fun τ hτ => ⟨τ, (hset τ).mpr hτ⟩)
          have hn2 := ih (i + 1) b' (upd cI i 0) (by omega) (by omega) (fun q hq => ?_) (fun q hq hq' => by rw [pk_un (by omega)]; exact h2 q (by omega) hq')
          · rw [epc, hcc, if_neg (by decide), Nat.add_zero] at hn2
            exact hn2
          · by_cases e : q = i
            · rw [e, pk_us, hcc]; rfl
            · rw [pk_un e]; exact h1 q (by omega)
  have l37 : ∀ (cI : Nat → Int32), (∀ q, q < m → cI q = 1) → ∀ f k aI, k ≤ n → n < f + k → (∀ q, q < k → aI q = zz_b (bt aT q || bt aF q)) →
      wY_core_37 post (nI V) y_maxA y_maxC y_maxD (nI n) (nI m) y_d y_status y_model y_hasCore f (nI k) z_kind z_atomX z_atomY z_atomC z_atomDepth z_assumed z_literals z_length z_clauseDepth cI aI z_bound := by
    intro cI hcI f
    induction f with
    | zero => intro k aI h1 h2; omega
    | succ f ih =>
      intro k aI hk hf h1
      have ck : (nI k).toNatClampNeg = k := nI_clamp (by omega)
      refine pk_le n k (fun h3 => Exists.intro (m + 1) (l75 aI (fun q hq => h1 q (by omega)) (m + 1) 0 z_bound cI (by omega) (by omega) (fun q hq => by omega) (fun q _ hq => hcI q hq))) (fun h3 => And.intro (pk_in k 10 (by omega)) ?_)
      rw [ck]
      refine br_c (fun h4 => And.intro (pk_in k 10 (by omega)) (nm_e (nm_r (nI_1 k) ?_))) (fun h4 => And.intro (pk_in k 10 (by omega)) (nm_e (nm_r (nI_1 k) ?_)))
      · have hna := (hasm k h3).mp h4
        refine ih (k + 1) _ (by omega) (by omega) (fun q hq => ?_)
        by_cases e : q = k
        · have t1 : bt aT k = false := zb_tf fun z => hna (Or.inl z)
          have t2 : bt aF k = false := zb_tf fun z => hna (Or.inr z)
          rw [e, pk_us, t1, t2, zz_n0]; rfl
        · rw [pk_un e]; exact h1 q (by omega)
      · have ha : bt aT k = true ∨ bt aF k = true := Classical.byContradiction fun z => h4 ((hasm k h3).mpr z)
        refine ih (k + 1) _ (by omega) (by omega) (fun q hq => ?_)
        by_cases e : q = k
        · have t1 : (bt aT k || bt aF k) = true := by rw [Bool.or_eq_true]; exact ha
          rw [e, pk_us, t1, zz_n1]; rfl
        · rw [pk_un e]; exact h1 q (by omega)
  have l14 : ∀ f i cI, i ≤ m → m < f + i → (∀ q, q < i → cI q = 1) → wY_core_14 post (nI V) y_maxA y_maxC y_maxD (nI n) (nI m) y_d y_status y_model y_hasCore f (nI i) z_kind z_atomX z_atomY z_atomC z_atomDepth z_assumed z_literals z_length z_clauseDepth cI z_assumptionIn z_bound := by
    intro f
    induction f with
    | zero => intro i cI h1 h2; omega
    | succ f ih =>
      intro i cI hi hf h1
      have ci : (nI i).toNatClampNeg = i := nI_clamp (by omega)
      refine pk_le m i (fun h3 => Exists.intro (n + 1) (l37 cI (fun q hq => h1 q (by omega)) (n + 1) 0 z_assumptionIn (by omega) (by omega) (fun q hq => by omega))) (fun h3 => And.intro (pk_in i 24 (by omega)) (nm_e (nm_r (nI_1 i) ?_)))
      rw [ci, zz_n1]
      refine ih (i + 1) _ (by omega) (by omega) (fun q hq => ?_)
      by_cases e : q = i
      · rw [e, pk_us]
      · rw [pk_un e]; exact h1 q (by omega)
  exact br_t hst (Exists.intro (m + 1) (l14 (m + 1) 0 z_clauseIn (by omega) (by omega) (fun q hq => by omega)))
end
theorem i_vc_core {k : Nat} {u : SX} {v : SY} (I : i_Rel k u v) (hk : k + 5 ≤ 2564) : wpX_core (fun r u' => wpY_core (fun r' v' => r' = r ∧ i_Rel (k + 5) u' v') v) u := by
  refine zz_el (P := fun u v => wpX_core (fun r u' => wpY_core (fun r' v' => r' = r ∧ i_Rel (k + 5) u' v') v) u) ?_ I
  intro V A C D n m d lc f_goalEdge f_goalRest f_atomBits f_decided f_assumedTrue f_assumedFalse f_status f_presentTrue f_coreKnown f_coreClauses f_coreAtoms f_witnessClauses f_witnessAtoms f_learnedNext f_activeRests f_trueMask f_falseMask f_trailSize f_theoryHead f_level f_conflictAtoms f_conflictRests f_failedAtoms f_failedRests f_activeEdges a_kinds a_lefts a_rights a_bounds a_atomDepths a_literals a_literalCounts a_clausePos a_clauseNeg a_clauseDepths a_values a_learnedPos a_learnedNeg a_learnedRests a_trail a_levelStart a_levelAtoms a_reasonAtoms a_reasonRests a_edgeFrom a_edgeTo a_edgeWeight a_potential a_moved a_gamma a_via a_dist a_link y_model z_assumed z_literals z_clauseIn z_assumptionIn z_bound hR
  have hR' := hR
  have hXH := rl_xh hR
  have hYH := rl_yh hR
  obtain ⟨⟨b1, b2, b3, b4, b5, b6, b7, b8, b9⟩, hPD, hLC, hSS⟩ := hR
  have hP := hPD
  obtain ⟨_, _, _, _, _, _, g7, g8, g9⟩ := hP
  have hC := hXH.2.2.2.2.2.1
  refine br_c (fun hst => ?_) (fun hst => br_f hst ⟨rfl, zz_in hR'⟩)
  -- the answer, the core being known
  have fin : ∀ (lc' : Nat) (f_learnedCount' f_learnedNext' f_activeRests' f_trueMask' f_falseMask' f_trailSize' f_theoryHead' f_level' f_conflictAtoms' f_conflictRests' f_failedAtoms' f_failedRests' f_activeEdges' : Int32) (a_learnedPos' a_learnedNeg' a_learnedRests' a_trail' a_levelStart' a_levelAtoms' a_reasonAtoms' a_reasonRests' a_edgeFrom' a_edgeTo' a_edgeWeight' a_potential' a_moved' a_gamma' a_via' a_dist' a_link' : Nat → Int32) (wC wA cc ca : Int32), rl_XH V n m lc' a_kinds a_lefts a_rights a_bounds a_clausePos a_clauseNeg a_learnedPos' a_learnedNeg' a_learnedRests' → (∀ q, bt wC q = true → q < m) → (∀ q, bt wA q = true → bt f_assumedTrue q = true ∨ bt f_assumedFalse q = true) →
      (∀ τ, ¬ rl_Md n m a_kinds a_lefts a_rights a_bounds a_clausePos a_clauseNeg f_assumedTrue f_assumedFalse (fun i => bt wC i = true) (fun k => bt wA k = true) τ) → rl_Co n m a_kinds a_lefts a_rights a_bounds a_clausePos a_clauseNeg f_assumedTrue f_assumedFalse cc ca →
      wX_core_23 (fun r u' => wpY_core (fun r' v' => r' = r ∧ i_Rel (k + 5) u' v') (nI V, nI A, nI C, nI D, nI n, nI m, nI d, f_status, y_model, f_coreKnown, a_kinds, a_lefts, a_rights, a_bounds, a_atomDepths, z_assumed, z_literals, a_literalCounts, a_clauseDepths, z_clauseIn, z_assumptionIn, z_bound)) f_goalEdge f_goalRest f_atomBits f_decided (nI V) (nI A) (nI C) (nI D) (nI n) (nI m) (nI d) f_assumedTrue f_assumedFalse f_status f_presentTrue 1 cc ca wC wA (nI lc') f_learnedNext' f_activeRests' f_trueMask' f_falseMask' f_trailSize' f_theoryHead' f_level' f_conflictAtoms' f_conflictRests' f_failedAtoms' f_failedRests' f_activeEdges' 0 a_kinds a_lefts a_rights a_bounds a_atomDepths a_literals a_literalCounts a_clausePos a_clauseNeg a_clauseDepths a_values a_learnedPos' a_learnedNeg' a_learnedRests' a_trail' a_levelStart' a_levelAtoms' a_reasonAtoms' a_reasonRests' a_edgeFrom' a_edgeTo' a_edgeWeight' a_potential' a_moved' a_gamma' a_via' a_dist' a_link' := by
    intro lc' f_learnedCount' f_learnedNext' f_activeRests' f_trueMask' f_falseMask' f_trailSize' f_theoryHead' f_level' f_conflictAtoms' f_conflictRests' f_failedAtoms' f_failedRests' f_activeEdges' a_learnedPos' a_learnedNeg' a_learnedRests' a_trail' a_levelStart' a_levelAtoms' a_reasonAtoms' a_reasonRests' a_edgeFrom' a_edgeTo' a_edgeWeight' a_potential' a_moved' a_gamma' a_via' a_dist' a_link' wC wA cc ca hX w1 w2 w3 hco
    refine xw_bc (xw_bc (nm_r (nI_add _ _) ?_))
    refine yw_core hYH hC hco (fun b cI aI h1 h2 => ⟨?_, ?_⟩) hst
    · rw [zz_pcn (n := m) hco.1 (by omega), zz_pcn (n := n) (fun q hq => g7 q (hco.2.1 q hq)) (by omega)]
    · exact zz_in ⟨⟨b1, b2, b3, b4, b5, b6, b7, b8, hX.2.2.2.1⟩, hPD, hX.2.2.2.2.2.2, Or.inr (Or.inr ⟨hst, w1, w2, w3⟩), Or.inr ⟨rfl, hst, hco, h1, h2⟩⟩
  obtain ⟨hs1, hs2⟩ := hSS
  have hw : (∀ q, bt f_witnessClauses q = true → q < m) ∧ (∀ q, bt f_witnessAtoms q = true → bt f_assumedTrue q = true ∨ bt f_assumedFalse q = true) ∧ ∀ τ, ¬ rl_Md n m a_kinds a_lefts a_rights a_bounds a_clausePos a_clauseNeg f_assumedTrue f_assumedFalse (fun i => bt f_witnessClauses i = true) (fun k => bt f_witnessAtoms k = true) τ := by
    rcases hs1 with z | ⟨z, _⟩ | ⟨_, z⟩
    · rw [z] at hst; exact absurd hst (by decide)
    · rw [z] at hst; exact absurd hst (by decide)
    · exact z
  refine br_c (fun hck => ?_) (fun hck => ?_)
  · refine nm_e (nm_e (Exists.intro (m + 1) ?_))
    refine xw_sc21 g7 g8 (fun q => b_or _ _ q) (fun lc' f_learnedCount' f_learnedNext' f_activeRests' f_trueMask' f_falseMask' f_trailSize' f_theoryHead' f_level' f_conflictAtoms' f_conflictRests' f_failedAtoms' f_failedRests' f_activeEdges' a_learnedPos' a_learnedNeg' a_learnedRests' a_trail' a_levelStart' a_levelAtoms' a_reasonAtoms' a_reasonRests' a_edgeFrom' a_edgeTo' a_edgeWeight' a_potential' a_moved' a_gamma' a_via' a_dist' a_link' wC wA cc ca y1 y2 y3 y4 y5 => fin lc' f_learnedCount' f_learnedNext' f_activeRests' f_trueMask' f_falseMask' f_trailSize' f_theoryHead' f_level' f_conflictAtoms' f_conflictRests' f_failedAtoms' f_failedRests' f_activeEdges' a_learnedPos' a_learnedNeg' a_learnedRests' a_trail' a_levelStart' a_levelAtoms' a_reasonAtoms' a_reasonRests' a_edgeFrom' a_edgeTo' a_edgeWeight' a_potential' a_moved' a_gamma' a_via' a_dist' a_link' wC wA cc ca y1 y2 y3 y4 y5) (m + 1) 0 lc 0 f_learnedNext f_activeRests f_trueMask f_falseMask f_trailSize f_theoryHead f_level f_conflictAtoms f_conflictRests f_failedAtoms f_failedRests f_activeEdges a_learnedPos a_learnedNeg a_learnedRests a_trail a_levelStart a_levelAtoms a_reasonAtoms a_reasonRests a_edgeFrom a_edgeTo a_edgeWeight a_potential a_moved a_gamma a_via a_dist a_link f_witnessClauses f_witnessAtoms _ (by omega) (by omega) hXH (fun q hq => ?_) hw.2.1 hw.2.2 (fun q hq => ?_) (fun q _ hq => ?_) (fun j hj => by omega)
    · rw [zb_mask (by omega), decide_eq_true (hw.1 q hq)]
    · rw [zb_mask (by omega), decide_eq_true_eq] at hq; exact hq
    · rw [zb_mask (by omega), decide_eq_true hq]
  · rcases hs2 with z | ⟨z, _, hco, _⟩
    · exact (hck z).elim
    · subst z
      exact fin lc 0 f_learnedNext f_activeRests f_trueMask f_falseMask f_trailSize f_theoryHead f_level f_conflictAtoms f_conflictRests f_failedAtoms f_failedRests f_activeEdges a_learnedPos a_learnedNeg a_learnedRests a_trail a_levelStart a_levelAtoms a_reasonAtoms a_reasonRests a_edgeFrom a_edgeTo a_edgeWeight a_potential a_moved a_gamma a_via a_dist a_link f_witnessClauses f_witnessAtoms f_coreClauses f_coreAtoms hXH hw.1 hw.2.1 hw.2.2 hco
end
section
/-! the learned clauses under a goal -/
theorem lc_g0 {n m lc : Nat} {kd lf rt bd cp cn lp ln lr : Nat → Int32} {G : (Nat → Int) → Prop} (hm : m ≤ 24) (h : cd_LC (ds_M n m kd lf rt bd cp cn (fun _ => True)) n m false lc lp ln lr) : cd_LC (ds_M n m kd lf rt bd cp cn G) n m true lc lp ln lr := by
  intro i hi
  obtain ⟨⟨h1, h2⟩, h3⟩ := h i hi
  refine ⟨⟨h1, fun τ ⟨s, m1, m2, _⟩ => h2 τ ⟨s, m1, m2, fun _ => trivial⟩⟩, fun q hq => ?_⟩
  rcases h3 q hq with z | ⟨_, z⟩
  · exact Or.inl z
  · cases z
theorem lc_gS {n m lc : Nat} {kd lf rt bd cp cn lp ln lr : Nat → Int32} {G G' : (Nat → Int) → Prop} (hG : ∀ s, G' s → G s) (h : cd_LC (ds_M n m kd lf rt bd cp cn G) n m true lc lp ln lr) : cd_LC (ds_M n m kd lf rt bd cp cn G') n m true lc lp ln lr := by
  intro i hi
  obtain ⟨⟨h1, h2⟩, h3⟩ := h i hi
  exact ⟨⟨h1, fun τ ⟨s, m1, m2, m3⟩ => h2 τ ⟨s, m1, m2, fun z => hG s (m3 z)⟩⟩, h3⟩
theorem lc_gE {n m lc lc' : Nat} {kd lf rt bd cp cn lp ln lr lp' ln' lr' : Nat → Int32} {G : (Nat → Int) → Prop} (hm : m ≤ 24) (h : cd_LC (ds_M n m kd lf rt bd cp cn G) n m true lc lp ln lr)
    (h2 : ∀ i, i < lc' → ∃ j, j < lc ∧ lp' i = lp j ∧ ln' i = ln j ∧ lr' i = lr j ∧ (∀ q, bt (lp j) q = true ∨ bt (ln j) q = true → q < n) ∧ (∀ q, bt (lr j) q = true → q < m)) :
    cd_LC (ds_M n m kd lf rt bd cp cn (fun _ => True)) n m false lc' lp' ln' lr' := by
  intro i hi
  obtain ⟨j, hj, e1, e2, e3, e4, e5⟩ := h2 i hi
  obtain ⟨⟨g1, g2⟩, g3⟩ := h j hj
  rw [e1, e2, e3]
  refine ⟨⟨e4, fun τ ⟨s, m1, m2, m3⟩ => g2 τ ⟨s, m1, m2, fun z => ?_⟩⟩, fun q hq => Or.inl (e5 q hq)⟩
  have := e5 24 z
  omega
/-- what a spread from y says of x - y -/
theorem sp_sup {V n : Nat} {kd lf rt bd : Nat → Int32} {G : (Nat → Int) → Prop} {tm ae : Int32} {ef et ew pt ds lk : Nat → Int32} {x y : Nat} (hn : n ≤ 10) (hAt : ds_At V n kd lf rt bd) (hV : V ≤ 8)
    (hGr : cd_Gr G n kd lf rt bd true tm ae ef et ew pt) (he10 : (et 10).toNatClampNeg = y) (hx : x < 8) (hy : y < 8)
    (hF : sp_F ae ef et ew pt ef et (fun v => (pt y).toInt - (pt v).toInt) 0 y 100 ds lk) :
    (0 ≤ (ds x).toInt → gs_Sup (ds_E n kd lf rt bd (fun q => bt tm q)) x y ((ds x).toInt - ((pt y).toInt - (pt x).toInt)) ∧ (ds x).toInt - ((pt y).toInt - (pt x).toInt) ≤ 700) ∧ (¬ 0 ≤ (ds x).toInt → gs_Unb (ds_E n kd lf rt bd (fun q => bt tm q)) x y) := by
  obtain ⟨hGO, hEM, hae, hfe, hpt⟩ := hGr
  obtain ⟨st, r, ord, hr, ⟨i1, i2, i3, i4, i5, i6, i7, i8, i9, i10, i11, i12, i13⟩, hall⟩ := hF
  simp only [Nat.zero_add] at i4 i5 i6 i7 i8 i9 i10 i11 i12 i13 hall
  -- an edge of the system is an active edge of an atom
  have hE2 : ∀ a b w, ds_E n kd lf rt bd (fun q => bt tm q) a b w → ∃ k, k < n ∧ kd k = 1 ∧ (ef k).toNatClampNeg = a ∧ (et k).toNatClampNeg = b ∧ (ew k).toInt = w := by
    intro a b w ⟨k, hk, hd, hc⟩
    have h2 := hEM k hk hd
    have h3 := (cd_EM_ok hAt hV hk hd h2).2.2.2.2.2
    refine ⟨k, hk, hd, ?_⟩
    dsimp only at hc
    rcases hc with ⟨c1, c2, c3, c4⟩ | ⟨c1, c2, c3, c4⟩
    · obtain ⟨e1, e2, e3⟩ := h2.1 c1
      rw [if_pos c1] at h3
      rw [e1, e2, h3, c2, c3, c4]; exact ⟨rfl, rfl, rfl⟩
    · obtain ⟨e1, e2, e3⟩ := h2.2 c1
      rw [c1, if_neg (by decide)] at h3
      rw [e1, e2, h3, c2, c3, c4]; exact ⟨rfl, rfl, rfl⟩
  have hP : gs_Sol (ds_E n kd lf rt bd (fun q => bt tm q)) (fun v => (pt v).toInt) := by
    intro a b w e
    obtain ⟨k, hk, hd, e1, e2, e3⟩ := hE2 a b w e
    have := hfe k (by omega) ((hae k).mpr (Or.inl ⟨hk, hd⟩))
    rw [e1, e2, e3] at this
    exact this
  have hsnd : ∀ s, gs_Sol (ds_E n kd lf rt bd (fun q => bt tm q)) s → ∀ f j, j < f → j < r → s (ord j) - s y ≤ (ds (ord j)).toInt - ((pt y).toInt - (pt (ord j)).toInt) := by
    intro s hs f
    induction f with
    | zero => intro j h; omega
    | succ f ih =>
      intro j hj hjr
      have hst : bt st (ord j) = true := (i1 _).mpr ⟨j, hjr, rfl⟩
      rcases i10 (ord j) (i2 j hjr) (i5 (ord j) (i2 j hjr) hst) with z | ⟨e, i, a1, a2, a3, a4, a5, a6, a7, a8⟩
      · rw [z, i6]; omega
      · have hij := a8 j hjr rfl
        have h1 := ih i (by omega) a3
        have h2 : s (et e).toNatClampNeg ≤ s (ef e).toNatClampNeg + (ew e).toInt ∨ ord j = y := by
          rcases (hae e).mp a2 with ⟨c1, c2⟩ | ⟨c1, _⟩
          · exact Or.inl (cd_EM_sol (τ := fun q => bt tm q) hAt hV c1 c2 (hEM e c1 c2) hs)
          · rw [c1, he10] at a5; exact Or.inr a5.symm
        rcases h2 with h2 | h2
        · rw [a5, a6] at h2
          have h3 : sp_sl ef et ew pt e = (pt (ord i)).toInt + (ew e).toInt - (pt (ord j)).toInt := by unfold sp_sl; rw [a5, a6]
          omega
        · rw [h2, i6]; omega
  have key := gs_src (E := ds_E n kd lf rt bd (fun q => bt tm q)) (R := fun v => v < 8 ∧ 0 ≤ (ds v).toInt) (D := fun v => (ds v).toInt - ((pt y).toInt - (pt v).toInt)) (x := x) (y := y) (ds_E8 hAt hV) hP
    ⟨hy, by rw [i6]; exact Int.le_refl _⟩ (by show (ds y).toInt - ((pt y).toInt - (pt y).toInt) = 0; rw [i6]; omega) (fun a b w e ⟨ha, hra⟩ => by
      obtain ⟨k, hk, hd, e1, e2, e3⟩ := hE2 a b w e
      have hak := (hae k).mpr (Or.inl ⟨hk, hd⟩)
      have hb8 := (ds_E8 hAt hV a b w e).2.1
      obtain ⟨h1, h2⟩ := i9 k (by omega) hak (by rw [e1]; exact hall a ha hra)
      rw [e1, e2] at h2
      rw [e2] at h1
      have h3 : sp_sl ef et ew pt k = (pt a).toInt + w - (pt b).toInt := by unfold sp_sl; rw [e1, e2, e3]
      exact ⟨⟨hb8, h1⟩, by show (ds b).toInt - ((pt y).toInt - (pt b).toInt) ≤ (ds a).toInt - ((pt y).toInt - (pt a).toInt) + w; omega⟩) hx (fun s hs ⟨_, hrx⟩ => by
      obtain ⟨j, hj, ej⟩ := (i1 x).mp (hall x hx hrx)
      have := hsnd s hs (j + 1) j (by omega) hj
      rw [ej] at this
      exact this)
  refine ⟨fun hrx => ⟨key.1 ⟨hx, hrx⟩, ?_⟩, fun hrx => key.2 (fun z => hrx z.2)⟩
  obtain ⟨j, hj, ej⟩ := (i1 x).mp (hall x hx hrx)
  have := i11 j hj
  rw [ej] at this
  omega
/-- the value of one model: its sup, or 100000000 -/
def wd_V (E : Nat → Nat → Int → Prop) (x y : Nat) (v : Int) : Prop := (v < 100000000 ∧ gs_Sup E x y v) ∨ (v = 100000000 ∧ gs_Unb E x y)
theorem wd_lo {V n : Nat} {kd lf rt bd : Nat → Int32} {τ : Nat → Bool} {x y : Nat} (hAt : ds_At V n kd lf rt bd) (hV : V ≤ 8) (h : ∃ s, gs_Sol (ds_E n kd lf rt bd τ) s) : ∃ s, gs_Sol (ds_E n kd lf rt bd τ) s ∧ -707 ≤ s x - s y := by
  obtain ⟨s, hs⟩ := gs_ex (fun a b w e => by have := ds_E8 hAt hV a b w e; exact ⟨this.1, this.2.1⟩) h
  have h1 := gs_low hs (ds_E8 hAt hV) x
  have h2 := hs.2.1 y
  exact ⟨s, hs.1, by omega⟩
section
variable {y_maxV y_maxA y_maxC y_maxD y_n y_m y_d y_status y_model y_hasCore : Int32} {z_kind z_atomX z_atomY z_atomC z_atomDepth z_assumed z_literals z_length z_clauseDepth z_clauseIn z_assumptionIn z_bound : Nat → Int32}
variable {V n m : Nat} {cp cn : Nat → Int32} {aT aF : Int32}
theorem yw_widest {post : Int32 → SY → Prop} {x y : Nat} {ans : Int32} (h : rl_YH V n m z_kind z_atomX z_atomY z_atomC z_length z_literals z_assumed cp cn aT aF) (hC : ∀ i, i < m → ∀ k, bt (cp i) k = true ∨ bt (cn i) k = true → k < n) (hx : x < V) (hy : y < V)
    (hans : (ans = -1012 ∧ ∀ τ, ¬ rl_Md n m z_kind z_atomX z_atomY z_atomC cp cn aT aF (fun _ => True) (fun _ => True) τ) ∨
      ((∃ τ, rl_Md n m z_kind z_atomX z_atomY z_atomC cp cn aT aF (fun _ => True) (fun _ => True) τ) ∧ x = y ∧ ans = 0) ∨
      (x ≠ y ∧ ans = 2000 ∧ ∃ τ, rl_Md n m z_kind z_atomX z_atomY z_atomC cp cn aT aF (fun _ => True) (fun _ => True) τ ∧ gs_Unb (ds_E n z_kind z_atomX z_atomY z_atomC τ) x y) ∨
      (x ≠ y ∧ ans.toInt ≤ 700 ∧ (∃ τ, rl_Md n m z_kind z_atomX z_atomY z_atomC cp cn aT aF (fun _ => True) (fun _ => True) τ ∧ gs_Sup (ds_E n z_kind z_atomX z_atomY z_atomC τ) x y ans.toInt) ∧
        ∀ τ, rl_Md n m z_kind z_atomX z_atomY z_atomC cp cn aT aF (fun _ => True) (fun _ => True) τ → ∀ s, gs_Sol (ds_E n z_kind z_atomX z_atomY z_atomC τ) s → s x - s y ≤ ans.toInt))
    (K : ∀ b, post ans (nI V, y_maxA, y_maxC, y_maxD, nI n, nI m, y_d, y_status, y_model, y_hasCore, z_kind, z_atomX, z_atomY, z_atomC, z_atomDepth, z_assumed, z_literals, z_length, z_clauseDepth, z_clauseIn, z_assumptionIn, b)) : wpY_widest post (nI V, y_maxA, y_maxC, y_maxD, nI n, nI m, y_d, y_status, y_model, y_hasCore, z_kind, z_atomX, z_atomY, z_atomC, z_atomDepth, z_assumed, z_literals, z_length, z_clauseDepth, z_clauseIn, z_assumptionIn, z_bound) (nI x) (nI y) := by
  obtain ⟨e1, e2⟩ := rl_pow n h.1
  have hV := h.2.2.1
  have hAt := h.2.2.2.1
  have np : (100000000 : Int32).toInt = 100000000 := by decide
  have nn : (-100000000 : Int32).toInt = -100000000 := by decide
  have num : ∀ τ, rl_Md n m z_kind z_atomX z_atomY z_atomC cp cn aT aF (fun _ => True) (fun _ => True) τ → rl_Md n m z_kind z_atomX z_atomY z_atomC cp cn aT aF (fun _ => True) (fun _ => True) (rl_tau n (rl_num n τ)) ∧ ds_E n z_kind z_atomX z_atomY z_atomC (rl_tau n (rl_num n τ)) = ds_E n z_kind z_atomX z_atomY z_atomC τ := fun τ hτ =>
    ⟨rl_Mdcg hC (fun q hq => (rl_num_bit τ hq).symm) hτ, ds_Ecg (fun q hq => rl_num_bit τ hq)⟩
  have key : ∀ f t (x3 x4 : Int32) b, t ≤ 2 ^ n → 2 ^ n < f + t →
      ((x3 = 0 ∧ x4 = -100000000 ∧ ∀ t', t' < t → ¬ rl_Md n m z_kind z_atomX z_atomY z_atomC cp cn aT aF (fun _ => True) (fun _ => True) (rl_tau n t')) ∨
       (x3 = 1 ∧ (∃ t', t' < t ∧ rl_Md n m z_kind z_atomX z_atomY z_atomC cp cn aT aF (fun _ => True) (fun _ => True) (rl_tau n t') ∧ wd_V (ds_E n z_kind z_atomX z_atomY z_atomC (rl_tau n t')) x y x4.toInt) ∧
         ∀ t', t' < t → rl_Md n m z_kind z_atomX z_atomY z_atomC cp cn aT aF (fun _ => True) (fun _ => True) (rl_tau n t') → ∀ v, wd_V (ds_E n z_kind z_atomX z_atomY z_atomC (rl_tau n t')) x y v → v ≤ x4.toInt)) →
      wY_widest_29 post (nI x) (nI y) f x3 x4 (nI t) (nI V) y_maxA y_maxC y_maxD (nI n) (nI m) y_d y_status y_model y_hasCore z_kind z_atomX z_atomY z_atomC z_atomDepth z_assumed z_literals z_length z_clauseDepth z_clauseIn z_assumptionIn b := by
    intro f
    induction f with
    | zero => intro t x3 x4 b h1 h2; omega
    | succ f ih =>
      intro t x3 x4 b h1 h2 hI
      refine pk_le (2 ^ n) t (fun q => ?_) (fun q => ?_) e1
      · have ht : t = 2 ^ n := by omega
        subst ht
        rcases hI with ⟨y1, y2, y3⟩ | ⟨y1, ⟨t', y2, y3, y4⟩, y5⟩
        · have hno : ∀ τ, ¬ rl_Md n m z_kind z_atomX z_atomY z_atomC cp cn aT aF (fun _ => True) (fun _ => True) τ := fun τ hτ => y3 _ (rl_num_lt τ n) (num τ hτ).1
          refine br_t y1 ?_
          rcases hans with ⟨e, _⟩ | ⟨⟨τ, hτ⟩, _⟩ | ⟨_, _, τ, hτ, _⟩ | ⟨_, _, ⟨τ, hτ, _⟩, _⟩
          · rw [e] at K; exact K b
          · exact (hno τ hτ).elim
          · exact (hno τ hτ).elim
          · exact (hno τ hτ).elim
        · refine br_f (by rw [y1]; decide) ?_
          rcases hans with ⟨_, w⟩ | ⟨_, w1, w2⟩ | ⟨w0, w1, τ, w2, w3⟩ | ⟨w0, w1, ⟨τ, w2, w3⟩, w4⟩
          · exact (w _ y3).elim
          · rw [w2] at K
            exact pk_eq x y (fun _ => K b) (fun z => (z w1).elim)
          · refine pk_eq x y (fun z => (w0 z).elim) (fun _ => br_t ?_ (by rw [w1] at K; exact K b))
            obtain ⟨v1, v2⟩ := num τ w2
            have h5 := y5 _ (rl_num_lt τ n) v1 100000000 (Or.inr ⟨rfl, by rw [v2]; exact w3⟩)
            have h6 : x4.toInt ≤ 100000000 := by
              rcases y4 with ⟨z, _⟩ | ⟨z, _⟩ <;> omega
            exact Int32.toInt_inj.mp (by rw [np]; omega)
          · have hle : x4.toInt ≤ ans.toInt := by
              rcases y4 with ⟨_, z⟩ | ⟨_, z⟩
              · obtain ⟨_, s, z1, z2⟩ := z
                have := w4 _ y3 s z1
                omega
              · obtain ⟨s, z1, z2⟩ := z ans.toInt
                have := w4 _ y3 s z1
                omega
            have hge : ans.toInt ≤ x4.toInt := by
              obtain ⟨v1, v2⟩ := num τ w2
              exact y5 _ (rl_num_lt τ n) v1 ans.toInt (Or.inl ⟨by omega, by rw [v2]; exact w3⟩)
            have heq : x4 = ans := Int32.toInt_inj.mp (by omega)
            refine pk_eq x y (fun z => (w0 z).elim) (fun _ => br_f (fun z => ?_) (by rw [heq]; exact K b))
            rw [z, np] at hle
            omega
      · refine yw_md (S := fun _ => True) (A := fun _ => True) h (by omega) (fun i _ => ⟨fun _ => Or.inl (by decide), fun _ => trivial⟩) (fun i _ => ⟨fun _ => Or.inl (by decide), fun _ => trivial⟩) (fun b' g1 g2 g3 => br_f (by decide) ?_) (fun b' g1 => br_t rfl (nm_r (nI_1 t) (ih (t + 1) x3 x4 b' (by omega) (by omega) ?_)))
        · have e := zi_ix x y
          have c : (nI x * 8 + nI y).toNatClampNeg = x * 8 + y := by rw [e]; exact nI_clamp (by omega)
          have ii : vp_in (nI x * 8 + nI y) 64 := by rw [e]; exact vp_in_nI (by omega) (by omega)
          have hsup := fw_sup g2 g3 hV (ds_E8 hAt hV) hx hy
          -- the table's entry is this model's value
          have hv : wd_V (ds_E n z_kind z_atomX z_atomY z_atomC (rl_tau n t)) x y (fw_T b' x y) ∧ -707 ≤ fw_T b' x y := by
            obtain ⟨s, s1, s2⟩ := wd_lo (x := x) (y := y) hAt hV g1.2.2
            have hle := g2.2.2.2 x y hx hy
            rcases Int.lt_or_le (fw_T b' x y) 100000000 with w | w
            · refine ⟨Or.inl ⟨w, hsup.1 w⟩, ?_⟩
              have := (hsup.1 w).1 s s1
              omega
            · exact ⟨Or.inr ⟨by omega, hsup.2 (by omega)⟩, by omega⟩
          have hvu : ∀ v, wd_V (ds_E n z_kind z_atomX z_atomY z_atomC (rl_tau n t)) x y v → v = fw_T b' x y := by
            intro v hw
            rcases hv.1 with ⟨z1, z2⟩ | ⟨z1, z2⟩ <;> rcases hw with ⟨w1, w2⟩ | ⟨w1, w2⟩
            · exact gs_supU w2 z2
            · exact (gs_supN z2 w2).elim
            · exact (gs_supN w2 z2).elim
            · omega
          refine And.intro ii ?_
          rw [c]
          refine br_c (fun h3 => nm_r (nI_1 t) (ih (t + 1) 1 x4 b' (by omega) (by omega) (Or.inr ⟨rfl, ?_, fun t' ht' hm v hw => ?_⟩))) (fun h3 => And.intro ii (nm_e (nm_r (nI_1 t) (ih (t + 1) 1 _ b' (by omega) (by omega) (Or.inr ⟨rfl, ⟨t, by omega, g1, hv.1⟩, fun t' ht' hm v hw => ?_⟩)))))
          · rw [zi_le] at h3
            rcases hI with ⟨y1, y2, y3⟩ | ⟨y1, ⟨t', y2, y3⟩, y5⟩
            · rw [y2, nn] at h3
              have := hv.2
              unfold fw_T at this
              omega
            · exact ⟨t', by omega, y3⟩
          · rw [zi_le] at h3
            rcases hI with ⟨y1, y2, y3⟩ | ⟨y1, _, y5⟩
            · rw [y2, nn] at h3
              have := hv.2
              unfold fw_T at this
              omega
            · rcases Nat.lt_or_ge t' t with w | w
              · exact y5 t' w hm v hw
              · have : t' = t := by omega
                subst this
                rw [hvu v hw]; exact h3
          · rw [zi_le] at h3
            rcases Nat.lt_or_ge t' t with w | w
            · rcases hI with ⟨y1, y2, y3⟩ | ⟨y1, _, y5⟩
              · exact (y3 t' w hm).elim
              · have := y5 t' w hm v hw
                omega
            · have : t' = t := by omega
              subst this
              rw [hvu v hw]; exact Int.le_refl _
        · rcases hI with ⟨y1, y2, y3⟩ | ⟨y1, ⟨t', y2, y3⟩, y5⟩
          · refine Or.inl ⟨y1, y2, fun t' ht' hm => ?_⟩
            rcases Nat.lt_or_ge t' t with w | w
            · exact y3 t' w hm
            · have : t' = t := by omega
              subst this; exact g1 hm
          · refine Or.inr ⟨y1, ⟨t', by omega, y3⟩, fun t'' ht'' hm => ?_⟩
            rcases Nat.lt_or_ge t'' t with w | w
            · exact y5 t'' w hm
            · have : t'' = t := by omega
              subst this; exact (g1 hm).elim
  unfold wpY_widest
  refine yw_varT (by omega) hx ?_
  refine br_f (by decide) ?_
  refine yw_varT (by omega) hy ?_
  exact br_f (by decide) (Exists.intro (2 ^ n + 1) (key (2 ^ n + 1) 0 0 (-100000000) z_bound (Nat.zero_le _) (by omega) (Or.inl ⟨rfl, rfl, fun t' ht => by omega⟩)))
end
end
section
theorem go_y {ef et ew : Nat → Int32} {x y : Nat} {w : Int} (h : cd_GO (fun s => s y ≤ s x + w) true ef et ew) (hxy : x ≠ y) (hw : -708 ≤ w) : (et 10).toNatClampNeg = y := by
  obtain ⟨_, _, h3, _, h5, h6⟩ := h rfl
  apply Classical.byContradiction
  intro hne
  have h7 := (h6 (fun v => if v = (et 10).toNatClampNeg then 5000 else if v = y then -1000 else 0)).mp (by
    dsimp only
    rw [if_neg (fun e => hne e.symm), if_pos rfl]
    by_cases e : x = (et 10).toNatClampNeg
    · rw [if_pos e]; omega
    · rw [if_neg e, if_neg hxy]; omega)
  rw [if_pos rfl, if_neg h3] at h7
  by_cases e : (ef 10).toNatClampNeg = y
  · rw [if_pos e] at h7; omega
  · rw [if_neg e] at h7; omega
section
variable {f_goalEdge f_goalRest f_atomBits f_decided f_maxVariables f_maxAtoms f_maxClauses f_maxDepth f_atomCount f_clauseCount f_depthNow f_assumedTrue f_assumedFalse f_status f_presentTrue f_coreKnown f_coreClauses f_coreAtoms f_witnessClauses f_witnessAtoms f_learnedCount f_learnedNext f_activeRests f_trueMask f_falseMask f_trailSize f_theoryHead f_level f_conflictAtoms f_conflictRests f_failedAtoms f_failedRests f_activeEdges f_goalOn : Int32} {a_kinds a_lefts a_rights a_bounds a_atomDepths a_literals a_literalCounts a_clausePos a_clauseNeg a_clauseDepths a_values a_learnedPos a_learnedNeg a_learnedRests a_trail a_levelStart a_levelAtoms a_reasonAtoms a_reasonRests a_edgeFrom a_edgeTo a_edgeWeight a_potential a_moved a_gamma a_via a_dist a_link : Nat → Int32}
variable {V n m : Nat}
/-- the learned clauses and the problem, under a goal -/
def rl_GH (V n m lc : Nat) (kd lf rt bd cp cn lp ln lr : Nat → Int32) (G : (Nat → Int) → Prop) : Prop :=
  n ≤ 10 ∧ m ≤ 24 ∧ V ≤ 8 ∧ lc ≤ 128 ∧ ds_At V n kd lf rt bd ∧ (∀ i, i < m → ∀ k, bt (cp i) k = true ∨ bt (cn i) k = true → k < n) ∧ cd_LC (ds_M n m kd lf rt bd cp cn G) n m true lc lp ln lr
theorem xw_sg {post : Int32 → SX → Prop} {lc x y : Nat} {w : Int32}
    (h : rl_GH V n m lc a_kinds a_lefts a_rights a_bounds a_clausePos a_clauseNeg a_learnedPos a_learnedNeg a_learnedRests (fun s => s y ≤ s x + w.toInt))
    (g7 : ∀ k, bt f_assumedTrue k = true ∨ bt f_assumedFalse k = true → k < n) (g8 : ∀ k, bt f_assumedTrue k = true → bt f_assumedFalse k = true → False)
    (hx : x < 8) (hy : y < 8) (hxy : x ≠ y) (hw : -708 ≤ w.toInt ∧ w.toInt ≤ 708)
    (K1 : ∀ (lc' : Nat) (f_learnedCount' f_learnedNext' f_activeRests' f_trueMask' f_falseMask' f_trailSize' f_theoryHead' f_level' f_conflictAtoms' f_conflictRests' f_failedAtoms' f_failedRests' f_activeEdges' : Int32) (a_learnedPos' a_learnedNeg' a_learnedRests' a_trail' a_levelStart' a_levelAtoms' a_reasonAtoms' a_reasonRests' a_edgeFrom' a_edgeTo' a_edgeWeight' a_potential' a_moved' a_gamma' a_via' a_dist' a_link' : Nat → Int32), rl_GH V n m lc' a_kinds a_lefts a_rights a_bounds a_clausePos a_clauseNeg a_learnedPos' a_learnedNeg' a_learnedRests' (fun s => s y ≤ s x + w.toInt) →
      rl_Md n m a_kinds a_lefts a_rights a_bounds a_clausePos a_clauseNeg f_assumedTrue f_assumedFalse (fun _ => True) (fun _ => True) (fun q => bt f_trueMask' q) → (∃ s, gs_Sol (ds_E n a_kinds a_lefts a_rights a_bounds (fun q => bt f_trueMask' q)) s ∧ s y ≤ s x + w.toInt) →
      cd_Gr (fun s => s y ≤ s x + w.toInt) n a_kinds a_lefts a_rights a_bounds true f_trueMask' f_activeEdges' a_edgeFrom' a_edgeTo' a_edgeWeight' a_potential' →
      post 1 (f_goalEdge, f_goalRest, f_atomBits, f_decided, f_maxVariables, f_maxAtoms, f_maxClauses, f_maxDepth, nI n, nI m, f_depthNow, f_assumedTrue, f_assumedFalse, f_status, f_presentTrue, f_coreKnown, f_coreClauses, f_coreAtoms, f_witnessClauses, f_witnessAtoms, nI lc', f_learnedNext', f_activeRests', f_trueMask', f_falseMask', f_trailSize', f_theoryHead', f_level', f_conflictAtoms', f_conflictRests', f_failedAtoms', f_failedRests', f_activeEdges', 1, a_kinds, a_lefts, a_rights, a_bounds, a_atomDepths, a_literals, a_literalCounts, a_clausePos, a_clauseNeg, a_clauseDepths, a_values, a_learnedPos', a_learnedNeg', a_learnedRests', a_trail', a_levelStart', a_levelAtoms', a_reasonAtoms', a_reasonRests', a_edgeFrom', a_edgeTo', a_edgeWeight', a_potential', a_moved', a_gamma', a_via', a_dist', a_link'))
    (K0 : ∀ (lc' : Nat) (f_learnedCount' f_learnedNext' f_activeRests' f_trueMask' f_falseMask' f_trailSize' f_theoryHead' f_level' f_conflictAtoms' f_conflictRests' f_failedAtoms' f_failedRests' f_activeEdges' : Int32) (a_learnedPos' a_learnedNeg' a_learnedRests' a_trail' a_levelStart' a_levelAtoms' a_reasonAtoms' a_reasonRests' a_edgeFrom' a_edgeTo' a_edgeWeight' a_potential' a_moved' a_gamma' a_via' a_dist' a_link' : Nat → Int32), rl_GH V n m lc' a_kinds a_lefts a_rights a_bounds a_clausePos a_clauseNeg a_learnedPos' a_learnedNeg' a_learnedRests' (fun s => s y ≤ s x + w.toInt) →
      (∀ τ, rl_Md n m a_kinds a_lefts a_rights a_bounds a_clausePos a_clauseNeg f_assumedTrue f_assumedFalse (fun _ => True) (fun _ => True) τ → ∀ s, gs_Sol (ds_E n a_kinds a_lefts a_rights a_bounds τ) s → ¬ s y ≤ s x + w.toInt) →
      post 0 (f_goalEdge, f_goalRest, f_atomBits, f_decided, f_maxVariables, f_maxAtoms, f_maxClauses, f_maxDepth, nI n, nI m, f_depthNow, f_assumedTrue, f_assumedFalse, f_status, f_presentTrue, f_coreKnown, f_coreClauses, f_coreAtoms, f_witnessClauses, f_witnessAtoms, nI lc', f_learnedNext', f_activeRests', f_trueMask', f_falseMask', f_trailSize', f_theoryHead', f_level', f_conflictAtoms', f_conflictRests', f_failedAtoms', f_failedRests', f_activeEdges', 1, a_kinds, a_lefts, a_rights, a_bounds, a_atomDepths, a_literals, a_literalCounts, a_clausePos, a_clauseNeg, a_clauseDepths, a_values, a_learnedPos', a_learnedNeg', a_learnedRests', a_trail', a_levelStart', a_levelAtoms', a_reasonAtoms', a_reasonRests', a_edgeFrom', a_edgeTo', a_edgeWeight', a_potential', a_moved', a_gamma', a_via', a_dist', a_link')) :
    wpX_searchAll post (f_goalEdge, f_goalRest, f_atomBits, f_decided, f_maxVariables, f_maxAtoms, f_maxClauses, f_maxDepth, nI n, nI m, f_depthNow, f_assumedTrue, f_assumedFalse, f_status, f_presentTrue, f_coreKnown, f_coreClauses, f_coreAtoms, f_witnessClauses, f_witnessAtoms, nI lc, f_learnedNext, f_activeRests, f_trueMask, f_falseMask, f_trailSize, f_theoryHead, f_level, f_conflictAtoms, f_conflictRests, f_failedAtoms, f_failedRests, f_activeEdges, 1, a_kinds, a_lefts, a_rights, a_bounds, a_atomDepths, a_literals, a_literalCounts, a_clausePos, a_clauseNeg, a_clauseDepths, a_values, a_learnedPos, a_learnedNeg, a_learnedRests, a_trail, a_levelStart, a_levelAtoms, a_reasonAtoms, a_reasonRests, upd a_edgeFrom 10 (nI x), upd a_edgeTo 10 (nI y), upd a_edgeWeight 10 w, a_potential, a_moved, a_gamma, a_via, a_dist, a_link) 0 0 := by
  obtain ⟨h1, h2, h3, h4, h5, h6, h7⟩ := h
  have hor0 : ∀ (x : Int32) q, bt (x ||| 0) q = bt x q := fun x q => by rw [b_or, b_0, Bool.or_false]
  have cx : (nI x).toNatClampNeg = x := nI_clamp (by omega)
  have cy : (nI y).toNatClampNeg = y := nI_clamp (by omega)
  have hGO : cd_GO (fun s => s y ≤ s x + w.toInt) true (upd a_edgeFrom 10 (nI x)) (upd a_edgeTo 10 (nI y)) (upd a_edgeWeight 10 w) := by
    intro _
    rw [pk_us, pk_us, pk_us, cx, cy]
    exact ⟨pk_in x 8 hx, pk_in y 8 hy, hxy, hw.1, hw.2, fun s => Iff.rfl⟩
  have hone : (1 : Int32) ≠ 0 := by decide
  refine nm_e ?_
  refine xw_search (G := fun s => s y ≤ s x + w.toInt) (g := true) h1 h5 h3 (Or.inl ⟨rfl, hone⟩) hGO h2 h6 h4 h7 (fun q hq => g7 q (Or.inl (by rw [hor0] at hq; exact hq))) (fun q hq => g7 q (Or.inr (by rw [hor0] at hq; exact hq))) (fun q q1 q2 => g8 q (by rw [hor0] at q1; exact q1) (by rw [hor0] at q2; exact q2)) (fun q hq => ?_) (fun lc' f_learnedCount' f_learnedNext' f_activeRests' f_trueMask' f_falseMask' f_trailSize' f_theoryHead' f_level' f_conflictAtoms' f_conflictRests' f_failedAtoms' f_failedRests' f_activeEdges' a_learnedPos' a_learnedNeg' a_learnedRests' a_trail' a_levelStart' a_levelAtoms' a_reasonAtoms' a_reasonRests' a_edgeFrom' a_edgeTo' a_edgeWeight' a_potential' a_moved' a_gamma' a_via' a_dist' a_link' g1 g2 g3 g4 g5 => And.intro rfl ?_) (fun lc' f_learnedCount' f_learnedNext' f_activeRests' f_trueMask' f_falseMask' f_trailSize' f_theoryHead' f_level' f_conflictAtoms' f_conflictRests' f_failedAtoms' f_failedRests' f_activeEdges' a_learnedPos' a_learnedNeg' a_learnedRests' a_trail' a_levelStart' a_levelAtoms' a_reasonAtoms' a_reasonRests' a_edgeFrom' a_edgeTo' a_edgeWeight' a_potential' a_moved' a_gamma' a_via' a_dist' a_link' g1 g2 g3 g4 _ => And.intro rfl ?_)
  · rw [zb_mask h2, decide_eq_true_eq] at hq; exact hq
  · have har : ∀ i, i < m → bt f_activeRests' i = true := fun i hi => by rw [g3, zb_mask h2, decide_eq_true hi]; rfl
    obtain ⟨r1, ⟨s, m1, m2, m3⟩, r3, r4, r5⟩ := g4
    refine K1 lc' f_learnedCount' f_learnedNext' f_activeRests' f_trueMask' f_falseMask' f_trailSize' f_theoryHead' f_level' f_conflictAtoms' f_conflictRests' f_failedAtoms' f_failedRests' f_activeEdges' a_learnedPos' a_learnedNeg' a_learnedRests' a_trail' a_levelStart' a_levelAtoms' a_reasonAtoms' a_reasonRests' a_edgeFrom' a_edgeTo' a_edgeWeight' a_potential' a_moved' a_gamma' a_via' a_dist' a_link' ⟨h1, h2, h3, g1, h5, h6, g2⟩ ⟨fun k _ _ => ⟨fun z => r3 k (by rw [hor0]; exact z), fun z => r4 k (by rw [hor0]; exact z)⟩, fun i hi _ => m2 i hi (har i hi), s, m1⟩ ⟨s, m1, m3 ?_⟩ g5
    rw [g3, decide_eq_true rfl, Bool.true_and, Bool.or_true]
  · refine K0 lc' f_learnedCount' f_learnedNext' f_activeRests' f_trueMask' f_falseMask' f_trailSize' f_theoryHead' f_level' f_conflictAtoms' f_conflictRests' f_failedAtoms' f_failedRests' f_activeEdges' a_learnedPos' a_learnedNeg' a_learnedRests' a_trail' a_levelStart' a_levelAtoms' a_reasonAtoms' a_reasonRests' a_edgeFrom' a_edgeTo' a_edgeWeight' a_potential' a_moved' a_gamma' a_via' a_dist' a_link' ⟨h1, h2, h3, g1, h5, h6, g2⟩ (fun τ hτ s hs hG => ?_)
    refine g4.2.2 τ ⟨s, hs, fun i hi _ => hτ.2.1 i hi trivial, fun _ => hG⟩ (fun q hq => ?_)
    have hqn : q < n := by
      have := g4.1 q hq
      rw [hor0, hor0] at this
      exact g7 q this
    rw [hor0, hor0]
    exact hτ.1 q hqn trivial
/-- asks for more and more -/
theorem xw_climb {post : Int32 → SX → Prop} {lc x y : Nat} (h : rl_XH V n m lc a_kinds a_lefts a_rights a_bounds a_clausePos a_clauseNeg a_learnedPos a_learnedNeg a_learnedRests)
    (g7 : ∀ k, bt f_assumedTrue k = true ∨ bt f_assumedFalse k = true → k < n) (g8 : ∀ k, bt f_assumedTrue k = true → bt f_assumedFalse k = true → False)
    (hx : x < 8) (hy : y < 8) (hxy : x ≠ y) (hmod : ∃ τ, rl_Md n m a_kinds a_lefts a_rights a_bounds a_clausePos a_clauseNeg f_assumedTrue f_assumedFalse (fun _ => True) (fun _ => True) τ)
    (K : ∀ (ans : Int32) (lc' : Nat) (f_learnedCount' f_learnedNext' f_activeRests' f_trueMask' f_falseMask' f_trailSize' f_theoryHead' f_level' f_conflictAtoms' f_conflictRests' f_failedAtoms' f_failedRests' f_activeEdges' : Int32) (a_learnedPos' a_learnedNeg' a_learnedRests' a_trail' a_levelStart' a_levelAtoms' a_reasonAtoms' a_reasonRests' a_edgeFrom' a_edgeTo' a_edgeWeight' a_potential' a_moved' a_gamma' a_via' a_dist' a_link' : Nat → Int32), rl_XH V n m lc' a_kinds a_lefts a_rights a_bounds a_clausePos a_clauseNeg a_learnedPos' a_learnedNeg' a_learnedRests' →
      ((ans = 2000 ∧ ∃ τ, rl_Md n m a_kinds a_lefts a_rights a_bounds a_clausePos a_clauseNeg f_assumedTrue f_assumedFalse (fun _ => True) (fun _ => True) τ ∧ gs_Unb (ds_E n a_kinds a_lefts a_rights a_bounds τ) x y) ∨
      (ans.toInt ≤ 700 ∧ (∃ τ, rl_Md n m a_kinds a_lefts a_rights a_bounds a_clausePos a_clauseNeg f_assumedTrue f_assumedFalse (fun _ => True) (fun _ => True) τ ∧ gs_Sup (ds_E n a_kinds a_lefts a_rights a_bounds τ) x y ans.toInt) ∧
        ∀ τ, rl_Md n m a_kinds a_lefts a_rights a_bounds a_clausePos a_clauseNeg f_assumedTrue f_assumedFalse (fun _ => True) (fun _ => True) τ → ∀ s, gs_Sol (ds_E n a_kinds a_lefts a_rights a_bounds τ) s → s x - s y ≤ ans.toInt)) →
      post ans (f_goalEdge, f_goalRest, f_atomBits, f_decided, f_maxVariables, f_maxAtoms, f_maxClauses, f_maxDepth, nI n, nI m, f_depthNow, f_assumedTrue, f_assumedFalse, f_status, f_presentTrue, f_coreKnown, f_coreClauses, f_coreAtoms, f_witnessClauses, f_witnessAtoms, nI lc', f_learnedNext', f_activeRests', f_trueMask', f_falseMask', f_trailSize', f_theoryHead', f_level', f_conflictAtoms', f_conflictRests', f_failedAtoms', f_failedRests', f_activeEdges', 0, a_kinds, a_lefts, a_rights, a_bounds, a_atomDepths, a_literals, a_literalCounts, a_clausePos, a_clauseNeg, a_clauseDepths, a_values, a_learnedPos', a_learnedNeg', a_learnedRests', a_trail', a_levelStart', a_levelAtoms', a_reasonAtoms', a_reasonRests', a_edgeFrom', a_edgeTo', a_edgeWeight', a_potential', a_moved', a_gamma', a_via', a_dist', a_link')) :
    wpX_climb post (f_goalEdge, f_goalRest, f_atomBits, f_decided, f_maxVariables, f_maxAtoms, f_maxClauses, f_maxDepth, nI n, nI m, f_depthNow, f_assumedTrue, f_assumedFalse, f_status, f_presentTrue, f_coreKnown, f_coreClauses, f_coreAtoms, f_witnessClauses, f_witnessAtoms, nI lc, f_learnedNext, f_activeRests, f_trueMask, f_falseMask, f_trailSize, f_theoryHead, f_level, f_conflictAtoms, f_conflictRests, f_failedAtoms, f_failedRests, f_activeEdges, 0, a_kinds, a_lefts, a_rights, a_bounds, a_atomDepths, a_literals, a_literalCounts, a_clausePos, a_clauseNeg, a_clauseDepths, a_values, a_learnedPos, a_learnedNeg, a_learnedRests, a_trail, a_levelStart, a_levelAtoms, a_reasonAtoms, a_reasonRests, a_edgeFrom, a_edgeTo, a_edgeWeight, a_potential, a_moved, a_gamma, a_via, a_dist, a_link) (nI x) (nI y) := by
  have hXH := h
  obtain ⟨h1, h2, h3, h4, h5, h6, h7⟩ := h
  have cx : (nI x).toNatClampNeg = x := nI_clamp (by omega)
  have cy : (nI y).toNatClampNeg = y := nI_clamp (by omega)
  -- the end
  have fin : ∀ (ans : Int32) (G : (Nat → Int) → Prop) (lc' : Nat) (f_learnedCount' f_learnedNext' f_activeRests' f_trueMask' f_falseMask' f_trailSize' f_theoryHead' f_level' f_conflictAtoms' f_conflictRests' f_failedAtoms' f_failedRests' f_activeEdges' : Int32) (a_learnedPos' a_learnedNeg' a_learnedRests' a_trail' a_levelStart' a_levelAtoms' a_reasonAtoms' a_reasonRests' a_edgeFrom' a_edgeTo' a_edgeWeight' a_potential' a_moved' a_gamma' a_via' a_dist' a_link' : Nat → Int32), rl_GH V n m lc' a_kinds a_lefts a_rights a_bounds a_clausePos a_clauseNeg a_learnedPos' a_learnedNeg' a_learnedRests' G →
      ((ans = 2000 ∧ ∃ τ, rl_Md n m a_kinds a_lefts a_rights a_bounds a_clausePos a_clauseNeg f_assumedTrue f_assumedFalse (fun _ => True) (fun _ => True) τ ∧ gs_Unb (ds_E n a_kinds a_lefts a_rights a_bounds τ) x y) ∨
      (ans.toInt ≤ 700 ∧ (∃ τ, rl_Md n m a_kinds a_lefts a_rights a_bounds a_clausePos a_clauseNeg f_assumedTrue f_assumedFalse (fun _ => True) (fun _ => True) τ ∧ gs_Sup (ds_E n a_kinds a_lefts a_rights a_bounds τ) x y ans.toInt) ∧
        ∀ τ, rl_Md n m a_kinds a_lefts a_rights a_bounds a_clausePos a_clauseNeg f_assumedTrue f_assumedFalse (fun _ => True) (fun _ => True) τ → ∀ s, gs_Sol (ds_E n a_kinds a_lefts a_rights a_bounds τ) s → s x - s y ≤ ans.toInt)) →
      wX_climb_108 post ans f_goalEdge f_goalRest f_atomBits f_decided f_maxVariables f_maxAtoms f_maxClauses f_maxDepth (nI n) (nI m) f_depthNow f_assumedTrue f_assumedFalse f_status f_presentTrue f_coreKnown f_coreClauses f_coreAtoms f_witnessClauses f_witnessAtoms (nI lc') f_learnedNext' f_activeRests' f_trueMask' f_falseMask' f_trailSize' f_theoryHead' f_level' f_conflictAtoms' f_conflictRests' f_failedAtoms' f_failedRests' f_activeEdges' 1 a_kinds a_lefts a_rights a_bounds a_atomDepths a_literals a_literalCounts a_clausePos a_clauseNeg a_clauseDepths a_values a_learnedPos' a_learnedNeg' a_learnedRests' a_trail' a_levelStart' a_levelAtoms' a_reasonAtoms' a_reasonRests' a_edgeFrom' a_edgeTo' a_edgeWeight' a_potential' a_moved' a_gamma' a_via' a_dist' a_link' := by
    intro ans G lc' f_learnedCount' f_learnedNext' f_activeRests' f_trueMask' f_falseMask' f_trailSize' f_theoryHead' f_level' f_conflictAtoms' f_conflictRests' f_failedAtoms' f_failedRests' f_activeEdges' a_learnedPos' a_learnedNeg' a_learnedRests' a_trail' a_levelStart' a_levelAtoms' a_reasonAtoms' a_reasonRests' a_edgeFrom' a_edgeTo' a_edgeWeight' a_potential' a_moved' a_gamma' a_via' a_dist' a_link' hG hans
    refine xw_drop (n := n) (m := m) (lc := lc') h1 h2 hG.2.2.2.1 (fun lc2 lp ln lr q1 q2 => ?_)
    exact K ans lc2 0 _ _ _ _ _ _ _ _ _ _ _ _ lp ln lr _ _ _ _ _ _ _ _ _ _ _ _ _ _ ⟨h1, h2, h3, by have := hG.2.2.2.1; omega, h5, h6, lc_gE h2 hG.2.2.2.2.2.2 q2⟩ hans
  have wt : ∀ best : Int32, -708 ≤ best.toInt → best.toInt ≤ 700 → (-(best + 1)).toInt = -(best.toInt + 1) := by
    intro best l u
    have e5 : (1 : Int32).toInt = 1 := by decide
    have e6 : (best + 1).toInt = best.toInt + 1 := by rw [zi_add (by rw [e5]; omega) (by rw [e5]; omega), e5]
    rw [zi_neg (by rw [e6]; omega), e6]
  have key : ∀ (f r : Nat) (best : Int32) (lc' : Nat) (f_learnedCount' f_learnedNext' f_activeRests' f_trueMask' f_falseMask' f_trailSize' f_theoryHead' f_level' f_conflictAtoms' f_conflictRests' f_failedAtoms' f_failedRests' f_activeEdges' : Int32) (a_learnedPos' a_learnedNeg' a_learnedRests' a_trail' a_levelStart' a_levelAtoms' a_reasonAtoms' a_reasonRests' a_edgeFrom' a_edgeTo' a_edgeWeight' a_potential' a_moved' a_gamma' a_via' a_dist' a_link' : Nat → Int32), 1500 < f + r → r ≤ 1500 → -708 + (r : Int) ≤ best.toInt → best.toInt ≤ 700 → rl_GH V n m lc' a_kinds a_lefts a_rights a_bounds a_clausePos a_clauseNeg a_learnedPos' a_learnedNeg' a_learnedRests' (fun s => s y ≤ s x + (-(best + 1)).toInt) →
      (best.toInt = -708 ∨ ∃ τ, rl_Md n m a_kinds a_lefts a_rights a_bounds a_clausePos a_clauseNeg f_assumedTrue f_assumedFalse (fun _ => True) (fun _ => True) τ ∧ gs_Sup (ds_E n a_kinds a_lefts a_rights a_bounds τ) x y best.toInt) →
      wX_climb_12 post (nI x) (nI y) f best (nI r) f_goalEdge f_goalRest f_atomBits f_decided f_maxVariables f_maxAtoms f_maxClauses f_maxDepth (nI n) (nI m) f_depthNow f_assumedTrue f_assumedFalse f_status f_presentTrue f_coreKnown f_coreClauses f_coreAtoms f_witnessClauses f_witnessAtoms (nI lc') f_learnedNext' f_activeRests' f_trueMask' f_falseMask' f_trailSize' f_theoryHead' f_level' f_conflictAtoms' f_conflictRests' f_failedAtoms' f_failedRests' f_activeEdges' 1 a_kinds a_lefts a_rights a_bounds a_atomDepths a_literals a_literalCounts a_clausePos a_clauseNeg a_clauseDepths a_values a_learnedPos' a_learnedNeg' a_learnedRests' a_trail' a_levelStart' a_levelAtoms' a_reasonAtoms' a_reasonRests' a_edgeFrom' a_edgeTo' a_edgeWeight' a_potential' a_moved' a_gamma' a_via' a_dist' a_link' := by
    intro f
    induction f with
    | zero => intro r best lc' f_learnedCount' f_learnedNext' f_activeRests' f_trueMask' f_falseMask' f_trailSize' f_theoryHead' f_level' f_conflictAtoms' f_conflictRests' f_failedAtoms' f_failedRests' f_activeEdges' a_learnedPos' a_learnedNeg' a_learnedRests' a_trail' a_levelStart' a_levelAtoms' a_reasonAtoms' a_reasonRests' a_edgeFrom' a_edgeTo' a_edgeWeight' a_potential' a_moved' a_gamma' a_via' a_dist' a_link' q1 q2; omega
    | succ f ih =>
      intro r best lc' f_learnedCount' f_learnedNext' f_activeRests' f_trueMask' f_falseMask' f_trailSize' f_theoryHead' f_level' f_conflictAtoms' f_conflictRests' f_failedAtoms' f_failedRests' f_activeEdges' a_learnedPos' a_learnedNeg' a_learnedRests' a_trail' a_levelStart' a_levelAtoms' a_reasonAtoms' a_reasonRests' a_edgeFrom' a_edgeTo' a_edgeWeight' a_potential' a_moved' a_gamma' a_via' a_dist' a_link' q1 q2 q3 q4 hG hB
      have hw := wt best (by omega) q4
      refine pk_le 1500 r (fun q => by omega) (fun q => ?_)
      refine nm_e (nm_e (nm_e ?_))
      refine xw_sg hG g7 g8 hx hy hxy (by rw [hw]; omega) (fun lc2 f_learnedCount'' f_learnedNext'' f_activeRests'' f_trueMask'' f_falseMask'' f_trailSize'' f_theoryHead'' f_level'' f_conflictAtoms'' f_conflictRests'' f_failedAtoms'' f_failedRests'' f_activeEdges'' a_learnedPos'' a_learnedNeg'' a_learnedRests'' a_trail'' a_levelStart'' a_levelAtoms'' a_reasonAtoms'' a_reasonRests'' a_edgeFrom'' a_edgeTo'' a_edgeWeight'' a_potential'' a_moved'' a_gamma'' a_via'' a_dist'' a_link'' r1 r2 r3 r4 => br_f (by decide) ?_) (fun lc2 f_learnedCount'' f_learnedNext'' f_activeRests'' f_trueMask'' f_falseMask'' f_trailSize'' f_theoryHead'' f_level'' f_conflictAtoms'' f_conflictRests'' f_failedAtoms'' f_failedRests'' f_activeEdges'' a_learnedPos'' a_learnedNeg'' a_learnedRests'' a_trail'' a_levelStart'' a_levelAtoms'' a_reasonAtoms'' a_reasonRests'' a_edgeFrom'' a_edgeTo'' a_edgeWeight'' a_potential'' a_moved'' a_gamma'' a_via'' a_dist'' a_link'' r1 r2 => br_t rfl ?_)
      · -- a model with more
        have he10 := go_y r4.1 hxy (by rw [hw]; omega)
        have hpt := r4.2.2.2.2
        have hok : ie_Ok f_activeEdges'' a_edgeFrom'' a_edgeTo'' a_edgeWeight'' := by
          intro e he ha
          rcases (r4.2.2.1 e).mp ha with ⟨c1, c2⟩ | ⟨rfl, _⟩
          · obtain ⟨o1, o2, _, o3, o4, _⟩ := cd_EM_ok h5 h3 c1 c2 (r4.2.1 e c1 c2)
            exact ⟨o1, o2, by omega, by omega⟩
          · obtain ⟨o1, o2, _, o3, o4, _⟩ := r4.1 rfl
            exact ⟨o1, o2, o3, o4⟩
        refine xw_spreadF (U := 100) hy hok r4.2.2.2.1 (fun v hv => by have := hpt v hv; omega) (fun e he ha hne => ?_) (by omega) (by omega) (fun ds lk hF hdl => ?_)
        · rcases (r4.2.2.1 e).mp ha with ⟨c1, c2⟩ | ⟨rfl, _⟩
          · exact (cd_EM_ok h5 h3 c1 c2 (r4.2.1 e c1 c2)).2.2.2.2.1
          · exact (hne he10).elim
        · obtain ⟨u1, u2⟩ := sp_sup h1 h5 h3 r4 he10 hx hy hF
          refine And.intro (pk_in x 16 (by omega)) ?_
          rw [cx]
          refine br_c (fun v1 => And.intro (pk_in x 16 (by omega)) (And.intro (pk_in y 8 hy) (And.intro (pk_in x 8 hx) ?_))) (fun v1 => ?_)
          · rw [zi_le, zi_0] at v1
            obtain ⟨u3, u4⟩ := u1 v1
            have hPx := hpt x hx
            have hPy := hpt y hy
            have hdx : (ds x).toInt ≤ 500000000 := by omega
            have e1 : (ds x - a_potential'' y).toInt = (ds x).toInt - (a_potential'' y).toInt := zi_sub (by omega) (by omega)
            have e2 : (ds x - a_potential'' y + a_potential'' x).toInt = (ds x).toInt - ((a_potential'' y).toInt - (a_potential'' x).toInt) := by
              rw [zi_add (by rw [e1]; omega) (by rw [e1]; omega), e1]; omega
            have hinc : best.toInt + 1 ≤ (ds x).toInt - ((a_potential'' y).toInt - (a_potential'' x).toInt) := by
              obtain ⟨s, s1, s2⟩ := r3
              have := u3.1 s s1
              rw [hw] at s2
              omega
            rw [cy]
            refine nm_e (nm_r (nI_1 r) ?_)
            generalize ds x - a_potential'' y + a_potential'' x = b' at e2 ⊢
            have hw' := wt b' (by omega) (by omega)
            refine ih (r + 1) b' lc2 0 _ _ _ _ _ _ _ _ _ _ _ _ _ _ _ _ _ _ _ _ _ _ _ _ _ _ _ ds lk (by omega) (by omega) (by omega) (by omega) ⟨h1, h2, h3, r1.2.2.2.1, h5, h6, lc_gS (fun s hs => ?_) r1.2.2.2.2.2.2⟩ (Or.inr ⟨_, r2, ?_⟩)
            · rw [hw'] at hs
              rw [hw]
              omega
            · rw [e2]; exact u3
          · rw [zi_le, zi_0] at v1
            refine fin 2000 _ lc2 0 _ _ _ _ _ _ _ _ _ _ _ _ _ _ _ _ _ _ _ _ _ _ _ _ _ _ _ ds lk r1 (Or.inl ⟨rfl, _, r2, u2 v1⟩)
      · -- no model with more
        refine fin best _ lc2 f_learnedCount'' f_learnedNext'' f_activeRests'' f_trueMask'' f_falseMask'' f_trailSize'' f_theoryHead'' f_level'' f_conflictAtoms'' f_conflictRests'' f_failedAtoms'' f_failedRests'' f_activeEdges'' a_learnedPos'' a_learnedNeg'' a_learnedRests'' a_trail'' a_levelStart'' a_levelAtoms'' a_reasonAtoms'' a_reasonRests'' a_edgeFrom'' a_edgeTo'' a_edgeWeight'' a_potential'' a_moved'' a_gamma'' a_via'' a_dist'' a_link'' r1 (Or.inr ⟨q4, ?_, fun τ hτ s hs => ?_⟩)
        · rcases hB with z | z
          · exfalso
            obtain ⟨τ, hτ⟩ := hmod
            obtain ⟨s, s1, s2⟩ := wd_lo (x := x) (y := y) h5 h3 hτ.2.2
            refine r2 τ hτ s s1 ?_
            rw [hw]; omega
          · exact z
        · have := r2 τ hτ s hs
          rw [hw] at this
          omega
  have hm708 : (-708 : Int32).toInt = -708 := by decide
  exact Exists.intro 1501 (key 1501 0 (-708) lc 0 f_learnedNext f_activeRests f_trueMask f_falseMask f_trailSize f_theoryHead f_level f_conflictAtoms f_conflictRests f_failedAtoms f_failedRests f_activeEdges a_learnedPos a_learnedNeg a_learnedRests a_trail a_levelStart a_levelAtoms a_reasonAtoms a_reasonRests a_edgeFrom a_edgeTo a_edgeWeight a_potential a_moved a_gamma a_via a_dist a_link (by omega) (by omega) (by rw [hm708]; omega) (by rw [hm708]; omega) ⟨h1, h2, h3, h4, h5, h6, lc_g0 h2 h7⟩ (Or.inl hm708))
end
theorem i_vc_widest {k : Nat} {u : SX} {v : SY} (I : i_Rel k u v) (hk : k + 5 ≤ 2564) (v1 : Int32) (v2 : Int32) : wpX_widest (fun r u' => wpY_widest (fun r' v' => r' = r ∧ i_Rel (k + 5) u' v') v v1 v2) u v1 v2 := by
  refine zz_el (P := fun u v => wpX_widest (fun r u' => wpY_widest (fun r' v' => r' = r ∧ i_Rel (k + 5) u' v') v v1 v2) u v1 v2) ?_ I
  intro V A C D n m d lc f_goalEdge f_goalRest f_atomBits f_decided f_assumedTrue f_assumedFalse f_status f_presentTrue f_coreKnown f_coreClauses f_coreAtoms f_witnessClauses f_witnessAtoms f_learnedNext f_activeRests f_trueMask f_falseMask f_trailSize f_theoryHead f_level f_conflictAtoms f_conflictRests f_failedAtoms f_failedRests f_activeEdges a_kinds a_lefts a_rights a_bounds a_atomDepths a_literals a_literalCounts a_clausePos a_clauseNeg a_clauseDepths a_values a_learnedPos a_learnedNeg a_learnedRests a_trail a_levelStart a_levelAtoms a_reasonAtoms a_reasonRests a_edgeFrom a_edgeTo a_edgeWeight a_potential a_moved a_gamma a_via a_dist a_link y_model z_assumed z_literals z_clauseIn z_assumptionIn z_bound hR
  have hR' := hR
  have hXH := rl_xh hR
  have hYH := rl_yh hR
  obtain ⟨⟨b1, b2, b3, b4, b5, b6, b7, b8, b9⟩, hPD, hLC, hSS⟩ := hR
  have hP := hPD
  obtain ⟨_, _, _, _, _, _, g7, g8, g9⟩ := hP
  have hC := hXH.2.2.2.2.2.1
  rcases Classical.em (∃ j, j < V ∧ v1 = nI j) with ⟨x, hx, rfl⟩ | hno
  rotate_left
  · unfold wpX_widest wpY_widest
    refine xw_varF (by omega) hno ?_
    refine br_t rfl ?_
    refine yw_varF (by omega) hno ?_
    exact br_t rfl ⟨rfl, zz_in hR'⟩
  rcases Classical.em (∃ j, j < V ∧ v2 = nI j) with ⟨y, hy, rfl⟩ | hno
  rotate_left
  · unfold wpX_widest wpY_widest
    refine xw_varT (by omega) hx ?_
    refine br_f (by decide) ?_
    refine xw_varF (by omega) hno ?_
    refine br_t rfl ?_
    refine yw_varT (by omega) hx ?_
    refine br_f (by decide) ?_
    refine yw_varF (by omega) hno ?_
    exact br_t rfl ⟨rfl, zz_in hR'⟩
  have back : ∀ (ans : Int32) (lc' : Nat) (f_learnedCount' f_learnedNext' f_activeRests' f_trueMask' f_falseMask' f_trailSize' f_theoryHead' f_level' f_conflictAtoms' f_conflictRests' f_failedAtoms' f_failedRests' f_activeEdges' : Int32) (a_learnedPos' a_learnedNeg' a_learnedRests' a_trail' a_levelStart' a_levelAtoms' a_reasonAtoms' a_reasonRests' a_edgeFrom' a_edgeTo' a_edgeWeight' a_potential' a_moved' a_gamma' a_via' a_dist' a_link' : Nat → Int32), rl_XH V n m lc' a_kinds a_lefts a_rights a_bounds a_clausePos a_clauseNeg a_learnedPos' a_learnedNeg' a_learnedRests' → ∀ b, ans = ans ∧ i_Rel (k + 5) (f_goalEdge, f_goalRest, f_atomBits, f_decided, nI V, nI A, nI C, nI D, nI n, nI m, nI d, f_assumedTrue, f_assumedFalse, f_status, f_presentTrue, f_coreKnown, f_coreClauses, f_coreAtoms, f_witnessClauses, f_witnessAtoms, nI lc', f_learnedNext', f_activeRests', f_trueMask', f_falseMask', f_trailSize', f_theoryHead', f_level', f_conflictAtoms', f_conflictRests', f_failedAtoms', f_failedRests', f_activeEdges', 0, a_kinds, a_lefts, a_rights, a_bounds, a_atomDepths, a_literals, a_literalCounts, a_clausePos, a_clauseNeg, a_clauseDepths, a_values, a_learnedPos', a_learnedNeg', a_learnedRests', a_trail', a_levelStart', a_levelAtoms', a_reasonAtoms', a_reasonRests', a_edgeFrom', a_edgeTo', a_edgeWeight', a_potential', a_moved', a_gamma', a_via', a_dist', a_link') (nI V, nI A, nI C, nI D, nI n, nI m, nI d, f_status, y_model, f_coreKnown, a_kinds, a_lefts, a_rights, a_bounds, a_atomDepths, z_assumed, z_literals, a_literalCounts, a_clauseDepths, z_clauseIn, z_assumptionIn, b) := by
    intro ans lc' f_learnedCount' f_learnedNext' f_activeRests' f_trueMask' f_falseMask' f_trailSize' f_theoryHead' f_level' f_conflictAtoms' f_conflictRests' f_failedAtoms' f_failedRests' f_activeEdges' a_learnedPos' a_learnedNeg' a_learnedRests' a_trail' a_levelStart' a_levelAtoms' a_reasonAtoms' a_reasonRests' a_edgeFrom' a_edgeTo' a_edgeWeight' a_potential' a_moved' a_gamma' a_via' a_dist' a_link' hX b
    exact ⟨rfl, zz_in ⟨⟨b1, b2, b3, b4, b5, b6, b7, b8, hX.2.2.2.1⟩, hPD, hX.2.2.2.2.2.2, hSS⟩⟩
  unfold wpX_widest
  refine xw_varT (by omega) hx ?_
  refine br_f (by decide) ?_
  refine xw_varT (by omega) hy ?_
  refine br_f (by decide) ?_
  refine xw_has hXH g7 g8 hSS (fun lc' f_learnedCount' f_learnedNext' f_activeRests' f_trueMask' f_falseMask' f_trailSize' f_theoryHead' f_level' f_conflictAtoms' f_conflictRests' f_failedAtoms' f_failedRests' f_activeEdges' a_learnedPos' a_learnedNeg' a_learnedRests' a_trail' a_levelStart' a_levelAtoms' a_reasonAtoms' a_reasonRests' a_edgeFrom' a_edgeTo' a_edgeWeight' a_potential' a_moved' a_gamma' a_via' a_dist' a_link' mm q1 q2 q3 q4 => br_f (by decide) ?_) (fun lc' f_learnedCount' f_learnedNext' f_activeRests' f_trueMask' f_falseMask' f_trailSize' f_theoryHead' f_level' f_conflictAtoms' f_conflictRests' f_failedAtoms' f_failedRests' f_activeEdges' a_learnedPos' a_learnedNeg' a_learnedRests' a_trail' a_levelStart' a_levelAtoms' a_reasonAtoms' a_reasonRests' a_edgeFrom' a_edgeTo' a_edgeWeight' a_potential' a_moved' a_gamma' a_via' a_dist' a_link' q1 q2 => br_t rfl ?_)
  · refine pk_eq x y (fun e => ?_) (fun e => ?_)
    · exact yw_widest hYH hC hx hy (Or.inr (Or.inl ⟨⟨_, q4⟩, e, rfl⟩)) (fun b => back 0 lc' f_learnedCount' f_learnedNext' f_activeRests' f_trueMask' f_falseMask' f_trailSize' f_theoryHead' f_level' f_conflictAtoms' f_conflictRests' f_failedAtoms' f_failedRests' f_activeEdges' a_learnedPos' a_learnedNeg' a_learnedRests' a_trail' a_levelStart' a_levelAtoms' a_reasonAtoms' a_reasonRests' a_edgeFrom' a_edgeTo' a_edgeWeight' a_potential' a_moved' a_gamma' a_via' a_dist' a_link' q1 b)
    · refine xw_climb q1 g7 g8 (by omega) (by omega) e ⟨_, q4⟩ (fun ans lc2 f_learnedCount'' f_learnedNext'' f_activeRests'' f_trueMask'' f_falseMask'' f_trailSize'' f_theoryHead'' f_level'' f_conflictAtoms'' f_conflictRests'' f_failedAtoms'' f_failedRests'' f_activeEdges'' a_learnedPos'' a_learnedNeg'' a_learnedRests'' a_trail'' a_levelStart'' a_levelAtoms'' a_reasonAtoms'' a_reasonRests'' a_edgeFrom'' a_edgeTo'' a_edgeWeight'' a_potential'' a_moved'' a_gamma'' a_via'' a_dist'' a_link'' r1 r2 => ?_)
      refine yw_widest (ans := ans) hYH hC hx hy ?_ (fun b => back ans lc2 f_learnedCount'' f_learnedNext'' f_activeRests'' f_trueMask'' f_falseMask'' f_trailSize'' f_theoryHead'' f_level'' f_conflictAtoms'' f_conflictRests'' f_failedAtoms'' f_failedRests'' f_activeEdges'' a_learnedPos'' a_learnedNeg'' a_learnedRests'' a_trail'' a_levelStart'' a_levelAtoms'' a_reasonAtoms'' a_reasonRests'' a_edgeFrom'' a_edgeTo'' a_edgeWeight'' a_potential'' a_moved'' a_gamma'' a_via'' a_dist'' a_link'' r1 b)
      rcases r2 with ⟨z1, z2⟩ | ⟨z1, z2, z3⟩
      · exact Or.inr (Or.inr (Or.inl ⟨e, z1, z2⟩))
      · exact Or.inr (Or.inr (Or.inr ⟨e, z1, z2, z3⟩))
  · exact yw_widest hYH hC hx hy (Or.inl ⟨rfl, q2⟩) (fun b => back (-1012) lc' f_learnedCount' f_learnedNext' f_activeRests' f_trueMask' f_falseMask' f_trailSize' f_theoryHead' f_level' f_conflictAtoms' f_conflictRests' f_failedAtoms' f_failedRests' f_activeEdges' a_learnedPos' a_learnedNeg' a_learnedRests' a_trail' a_levelStart' a_levelAtoms' a_reasonAtoms' a_reasonRests' a_edgeFrom' a_edgeTo' a_edgeWeight' a_potential' a_moved' a_gamma' a_via' a_dist' a_link' q1 b)
end

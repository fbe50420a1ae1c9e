section
-- rows of kit/rows (starting text): PURE-ROWS, BITS
theorem pk_us {f : Nat → Int32} {k : Nat} {x : Int32} : upd f k x k = x := if_pos rfl
theorem pk_un {f : Nat → Int32} {k j : Nat} {x : Int32} (h : j ≠ k) : upd f k x j = f j := if_neg h
theorem pk_sub {a b : Nat} (h : b ≤ a) : nI a - nI b = nI (a - b) := by
  obtain ⟨c, rfl⟩ : ∃ c, a = c + b := ⟨a - b, by omega⟩
  rw [← nI_add, Int32.add_sub_cancel, Nat.add_sub_cancel]
theorem pk_m1 (n : Nat) : nI (n + 1) + (-1) = nI n := by
  rw [← nI_1, Int32.add_assoc, show (1 : Int32) + (-1) = 0 from rfl, Int32.add_zero]
theorem pk_mul (a b : Nat) : nI a * nI b = nI (a * b) := (Int32.ofNat_mul a b).symm
theorem pk_div {a d : Nat} (ha : a < 2 ^ 31) (h0 : 0 < d) (hd : d < 2 ^ 31) : nI a / nI d = nI (a / d) := by
  apply Int32.toInt_inj.mp
  rw [lg_idiv_nonneg (by rw [nI_toInt ha]; omega) (by rw [nI_toInt hd]; omega), nI_toInt ha, nI_toInt hd, nI_toInt (Nat.lt_of_le_of_lt (Nat.div_le_self a d) ha)]
  first | rfl | exact (Int.natCast_ediv _ _).symm
theorem pk_rem {a d : Nat} (ha : a < 2 ^ 31) (h0 : 0 < d) (hd : d < 2 ^ 31) : nI a - nI a / nI d * nI d = nI (a % d) := by
  rw [pk_div ha h0 hd, pk_mul, pk_sub (Nat.div_mul_le_self a d)]
  exact congrArg nI (by have := Nat.div_add_mod' a d; omega)
theorem pk_sub_toInt {a b : Nat} (ha : a < 2 ^ 30) (hb : b < 2 ^ 30) : (nI a - nI b).toInt = (a : Int) - b := by
  rw [Int32.toInt_sub, nI_toInt (by omega), nI_toInt (by omega)]
  exact Int.bmod_eq_of_le (by omega) (by omega)
theorem pk_ix (x : Int32) {n : Nat} (hn : n < 2 ^ 31) : x < 0 ∨ nI n ≤ x ∨ ∃ j : Nat, j < n ∧ x = nI j := by
  by_cases h : x < 0
  · exact Or.inl h
  · obtain ⟨j, hj, rfl⟩ := nI_of h
    by_cases h2 : j < n
    · exact Or.inr (Or.inr ⟨j, h2, rfl⟩)
    · exact Or.inr (Or.inl (nI_le (by omega) hj))
theorem pk_le {x y : Int32} {A B : Prop} (a b : Nat) (f : a ≤ b → A) (g : b < a → B) (hx : x = nI a := by rfl) (hy : y = nI b := by rfl) (ha : a < 2 ^ 31 := by omega) (hb : b < 2 ^ 31 := by omega) : (x ≤ y → A) ∧ (¬ x ≤ y → B) := by
  subst hx hy
  rw [nI_leI ha hb]
  exact ⟨f, fun z => g (by omega)⟩
theorem pk_lt {x y : Int32} {A B : Prop} (a b : Nat) (f : a < b → A) (g : b ≤ a → B) (hx : x = nI a := by rfl) (hy : y = nI b := by rfl) (ha : a < 2 ^ 31 := by omega) (hb : b < 2 ^ 31 := by omega) : (x < y → A) ∧ (¬ x < y → B) := by
  subst hx hy
  rw [nI_ltI ha hb]
  exact ⟨f, fun z => g (by omega)⟩
theorem pk_eq {x y : Int32} {A B : Prop} (a b : Nat) (f : a = b → A) (g : a ≠ b → B) (hx : x = nI a := by rfl) (hy : y = nI b := by rfl) (ha : a < 2 ^ 31 := by omega) (hb : b < 2 ^ 31 := by omega) : (x = y → A) ∧ (¬ x = y → B) := by
  subst hx hy
  rw [nI_eq ha hb]
  exact ⟨f, g⟩
theorem pk_in {x : Int32} (n N : Nat) (h : n < N) (hx : x = nI n := by rfl) (hN : N < 2 ^ 31 := by omega) : vp_in x N := by
  subst hx
  exact vp_in_nI h hN
theorem pk_cl {x : Int32} (n : Nat) (hx : x = nI n := by rfl) (h : n < 2 ^ 31 := by omega) : x.toNatClampNeg = n := by
  subst hx
  exact nI_clamp h
theorem pk_tn {n : Nat} (h : n < 2 ^ 32) : (nI n).toBitVec.toNat = n := Nat.mod_eq_of_lt h
theorem pk_and (x : Int32) {m : Int32} (k : Nat) (hm : m.toBitVec.toNat = 2 ^ k - 1) : x &&& m = nI (x.toBitVec.toNat % 2 ^ k) := by
  apply Int32.toBitVec_inj.mp
  apply BitVec.eq_of_toNat_eq
  rw [Int32.toBitVec_and, BitVec.toNat_and, hm, Nat.and_two_pow_sub_one_eq_mod]
  show _ = (BitVec.ofNat 32 _).toNat
  rw [BitVec.toNat_ofNat]
  exact (Nat.mod_eq_of_lt (Nat.lt_of_le_of_lt (Nat.mod_le _ _) x.toBitVec.isLt)).symm
theorem pk_andN {n : Nat} (h : n < 2 ^ 32) {m : Int32} (k : Nat) (hm : m.toBitVec.toNat = 2 ^ k - 1) : nI n &&& m = nI (n % 2 ^ k) := by
  rw [pk_and _ k hm, pk_tn h]
theorem pk_shl (a s : Int32) (k : Nat) (hs : (s.toBitVec.smod 32).toNat = k) : (a <<< s).toBitVec.toNat = a.toBitVec.toNat * 2 ^ k % 2 ^ 32 := by
  show (a.toBitVec <<< (s.toBitVec.smod 32).toNat).toNat = _
  rw [hs, BitVec.toNat_shiftLeft, Nat.shiftLeft_eq]
theorem pk_shlN {n : Nat} (s : Int32) (k : Nat) (hs : (s.toBitVec.smod 32).toNat = k) (h : n * 2 ^ k < 2 ^ 32) : nI n <<< s = nI (n * 2 ^ k) := by
  apply Int32.toBitVec_inj.mp
  apply BitVec.eq_of_toNat_eq
  have hn : n < 2 ^ 32 := Nat.lt_of_le_of_lt (Nat.le_mul_of_pos_right n (Nat.two_pow_pos k)) h
  rw [pk_shl _ _ k hs, pk_tn hn, pk_tn h, Nat.mod_eq_of_lt h]
theorem pk_shr (a s : Int32) (k : Nat) (hs : (s.toBitVec.smod 32).toNat = k) : (a >>> s).toInt = a.toInt >>> k := by
  show (a.toBitVec.sshiftRight (s.toBitVec.smod 32).toNat).toInt = _
  rw [hs, BitVec.toInt_sshiftRight]
  rfl
theorem pk_shrN {n : Nat} (h : n < 2 ^ 31) (s : Int32) (k : Nat) (hs : (s.toBitVec.smod 32).toNat = k) : nI n >>> s = nI (n / 2 ^ k) := by
  apply Int32.toInt_inj.mp
  have h2 : n / 2 ^ k ≤ n := Nat.div_le_self _ _
  rw [pk_shr _ _ k hs, nI_toInt h, nI_toInt (by omega), Int.shiftRight_eq_div_pow]
  rfl
theorem pk_least (P : Nat → Prop) (h : ∃ k, P k) : ∃ k, P k ∧ ∀ j, j < k → ¬ P j := by
  obtain ⟨k, hk⟩ := h
  induction k using Nat.strongRecOn with
  | ind k ih =>
    by_cases e : ∃ j, j < k ∧ P j
    · obtain ⟨j, hj, pj⟩ := e
      exact ih j hj pj
    · exact ⟨k, hk, fun j hj pj => e ⟨j, hj, pj⟩⟩
def bt (x : Int32) (i : Nat) : Bool := x.toBitVec.getLsbD i
theorem b_ext {x y : Int32} (h : ∀ i, i < 32 → bt x i = bt y i) : x = y := Int32.toBitVec_inj.mp (BitVec.eq_of_getLsbD_eq (fun i hi => h i hi))
theorem b_or (x y : Int32) (i : Nat) : bt (x ||| y) i = (bt x i || bt y i) := by unfold bt; rw [Int32.toBitVec_or, BitVec.getLsbD_or]
theorem b_and (x y : Int32) (i : Nat) : bt (x &&& y) i = (bt x i && bt y i) := by unfold bt; rw [Int32.toBitVec_and, BitVec.getLsbD_and]
theorem b_xor (x y : Int32) (i : Nat) : bt (x ^^^ y) i = (bt x i ^^ bt y i) := by unfold bt; rw [Int32.toBitVec_xor, BitVec.getLsbD_xor]
theorem b_big {x : Int32} {i : Nat} (h : 32 ≤ i) : bt x i = false := BitVec.getLsbD_of_ge _ _ h
theorem b_m1 : ∀ i, i < 32 → bt (-1) i = true := by decide +kernel
theorem b_0 (i : Nat) : bt 0 i = false := BitVec.getLsbD_zero
theorem s_l : ∀ n, n < 32 → ((nI n &&& 31).toBitVec.smod 32).toNat = n := by decide +kernel
theorem b_shl (n : Nat) (hn : n < 32) (x : Int32) {i : Nat} (hi : i < 32) : bt (x <<< (nI n &&& 31)) i = (decide (n ≤ i) && bt x (i - n)) := by
  unfold bt
  rw [Int32.toBitVec_shiftLeft]
  show (x.toBitVec <<< ((nI n &&& 31).toBitVec.smod 32).toNat).getLsbD i = _
  rw [s_l n hn, BitVec.getLsbD_shiftLeft]
  rcases Nat.lt_or_ge i n with h | h
  · simp [h, Nat.not_le.mpr h]
  · simp [hi, h, Nat.not_lt.mpr h]
theorem b_sshr (n : Nat) (hn : n < 32) (x : Int32) {i : Nat} (hi : i < 32) : bt (x >>> (nI n &&& 31)) i = if n + i < 32 then bt x (n + i) else bt x 31 := by
  unfold bt
  rw [Int32.toBitVec_shiftRight]
  show (x.toBitVec.sshiftRight ((nI n &&& 31).toBitVec.smod 32).toNat).getLsbD i = _
  rw [s_l n hn, BitVec.getLsbD_sshiftRight, BitVec.msb_eq_getLsbD_last]
  simp [hi]
theorem nx_and (a b : Nat) : nI a &&& nI b = nI (a &&& b) := by
  apply Int32.toBitVec_inj.1
  show BitVec.ofNat 32 a &&& BitVec.ofNat 32 b = BitVec.ofNat 32 (a &&& b)
  apply BitVec.eq_of_getLsbD_eq
  intro i hi
  simp [hi]
theorem nx_xor (a b : Nat) : nI a ^^^ nI b = nI (a ^^^ b) := by
  apply Int32.toBitVec_inj.1
  show BitVec.ofNat 32 a ^^^ BitVec.ofNat 32 b = BitVec.ofNat 32 (a ^^^ b)
  apply BitVec.eq_of_getLsbD_eq
  intro i hi
  simp [hi]
end
section
/-! bits of Int32 as bits of naturals; sums and counts; loops -/
theorem cu_or (a b : Nat) : nI a ||| nI b = nI (a ||| b) := by
  apply Int32.toBitVec_inj.1
  show BitVec.ofNat 32 a ||| BitVec.ofNat 32 b = BitVec.ofNat 32 (a ||| b)
  apply BitVec.eq_of_getLsbD_eq
  intro i hi
  simp [hi]
theorem cu_bt {n i : Nat} (hi : i < 32) : bt (nI n) i = n.testBit i := by
  show (BitVec.ofNat 32 n).getLsbD i = n.testBit i
  rw [BitVec.getLsbD_ofNat]
  simp [hi]
def cu_dif (a b : Nat) : Nat := a ^^^ (a &&& b)
theorem cu_dif_tb (a b i : Nat) : (cu_dif a b).testBit i = (a.testBit i && !b.testBit i) := by
  unfold cu_dif
  rw [Nat.testBit_xor, Nat.testBit_and]
  cases a.testBit i <;> cases b.testBit i <;> rfl
theorem cu_dif_lt {a n : Nat} (b : Nat) (h : a < 2 ^ n) : cu_dif a b < 2 ^ n := by
  apply Nat.lt_pow_two_of_testBit
  intro i hi
  rw [cu_dif_tb, Nat.testBit_lt_two_pow (Nat.lt_of_lt_of_le h (Nat.pow_le_pow_right (by decide) hi))]
  rfl
theorem cu_not (a b : Nat) : nI a &&& (nI b ^^^ (-1)) = nI (cu_dif a b) := by
  apply b_ext
  intro i hi
  rw [b_and, b_xor, b_m1 i hi, cu_bt hi, cu_bt hi, cu_bt hi, cu_dif_tb]
  cases a.testBit i <;> cases b.testBit i <;> rfl
theorem cu_bit {n k : Nat} (hn : n < 2 ^ 31) (hk : k < 32) : (nI n >>> (nI k &&& 31)) &&& 1 = nI (n.testBit k).toNat := by
  rw [pk_shrN hn _ k (s_l k hk)]
  show nI (n / 2 ^ k) &&& nI 1 = _
  rw [nx_and, Nat.and_one_is_mod, Nat.testBit_eq_decide_div_mod_eq]
  apply congrArg nI
  generalize n / 2 ^ k = z
  rcases Nat.mod_two_eq_zero_or_one z with h | h <;> rw [h] <;> rfl
theorem cu_t1 {b : Bool} : nI b.toNat = 1 ↔ b = true := by
  cases b <;> decide
theorem cu_t0 {b : Bool} : nI b.toNat = 0 ↔ b = false := by
  cases b <;> decide
theorem cu_bit1 {n k : Nat} (hn : n < 2 ^ 31) (hk : k < 32) : (nI n >>> (nI k &&& 31)) &&& 1 = 1 ↔ n.testBit k = true := by
  rw [cu_bit hn hk, cu_t1]
theorem cu_bit0 {n k : Nat} (hn : n < 2 ^ 31) (hk : k < 32) : (nI n >>> (nI k &&& 31)) &&& 1 = 0 ↔ n.testBit k = false := by
  rw [cu_bit hn hk, cu_t0]
theorem cu_if {c d A B : Prop} (e : c ↔ d) (f : d → A) (g : ¬ d → B) : (c → A) ∧ (¬ c → B) := ⟨fun h => f (e.mp h), fun h => g (fun z => h (e.mpr z))⟩
theorem cu_ib {c A B : Prop} {b : Bool} (e : c ↔ b = true) (f : b = true → A) (g : b = false → B) : (c → A) ∧ (¬ c → B) :=
  cu_if e f (fun h => g (by cases b <;> simp_all))
theorem cu_shl1 : ∀ k, k < 32 → (1 : Int32) <<< (nI k &&& 31) = nI (2 ^ k) := by decide +kernel
theorem cu_tb2 (n m : Nat) : (2 ^ n).testBit m = decide (n = m) := Nat.testBit_two_pow
theorem cu_p31 {n : Nat} (h : n < 2 ^ 16) : n < 2 ^ 31 := Nat.lt_of_lt_of_le h (by decide)
theorem cu_pw {n : Nat} (h : n ≤ 16) : 2 ^ n ≤ 65536 := Nat.pow_le_pow_right (n := 2) (j := 16) (by decide) h
theorem cu_tbn {a n i : Nat} (h : a < 2 ^ n) (hi : n ≤ i) : a.testBit i = false := Nat.testBit_lt_two_pow (Nat.lt_of_lt_of_le h (Nat.pow_le_pow_right (by decide) hi))
theorem cu_tbl {a n i : Nat} (h : a < 2 ^ n) (hi : a.testBit i = true) : i < n := by
  rcases Nat.lt_or_ge i n with z | z
  · exact z
  · rw [cu_tbn h z] at hi; cases hi
theorem cu_nz {a : Nat} (h : a ≠ 0) : ∃ i, a.testBit i = true := Nat.exists_testBit_of_ne_zero h
theorem cu_z {a : Nat} (h : ∀ i, a.testBit i = false) : a = 0 := Nat.eq_of_testBit_eq (fun i => by rw [h i, Nat.zero_testBit])
theorem cu_0f {i : Nat} {P : Prop} (h : (0 : Nat).testBit i = true) : P := by
  rw [Nat.zero_testBit] at h
  cases h
theorem cu_neg_tb {c i : Nat} (hi : i < 32) : bt (-(nI c)) i = (c.testBit i ^^ decide (∃ j, j < i ∧ c.testBit j = true)) := by
  show (-(nI c).toBitVec).getLsbD i = _
  rw [BitVec.getLsbD_neg]
  have e : ∀ j, j < 32 → (nI c).toBitVec.getLsbD j = c.testBit j := fun j hj => cu_bt hj
  rw [e i hi]
  have e2 : (∃ j, j < i ∧ (nI c).toBitVec.getLsbD j = true) ↔ (∃ j, j < i ∧ c.testBit j = true) :=
    ⟨fun ⟨j, a, b⟩ => ⟨j, a, by rw [← e j (by omega)]; exact b⟩, fun ⟨j, a, b⟩ => ⟨j, a, by rw [e j (by omega)]; exact b⟩⟩
  rw [decide_eq_true hi, Bool.true_and, decide_eq_decide.mpr e2]
/-- the lowest bit of a set -/
theorem cu_low {c n : Nat} (hc : c < 2 ^ n) (hn : n ≤ 31) (h0 : c ≠ 0) : ∃ k, k < n ∧ c.testBit k = true ∧ (∀ j, j < k → c.testBit j = false) ∧ nI c &&& (-(nI c)) = nI (2 ^ k) := by
  obtain ⟨k, hk, hl⟩ := pk_least (fun k => c.testBit k = true) (cu_nz h0)
  have hk31 : k < n := cu_tbl hc hk
  have hl' : ∀ j, j < k → c.testBit j = false := fun j hj => Bool.eq_false_iff.mpr (hl j hj)
  refine ⟨k, hk31, hk, hl', ?_⟩
  apply b_ext
  intro i hi
  rw [b_and, cu_neg_tb hi, cu_bt hi, cu_bt hi, cu_tb2]
  rcases Nat.lt_trichotomy i k with h | h | h
  · rw [hl' i h, decide_eq_false (p := k = i) (by omega)]; rfl
  · subst h
    rw [hk, decide_eq_false (p := ∃ j, j < i ∧ c.testBit j = true) (fun ⟨j, a, b⟩ => by rw [hl' j a] at b; cases b), decide_eq_true rfl]; rfl
  · rw [decide_eq_true (p := ∃ j, j < i ∧ c.testBit j = true) ⟨k, h, hk⟩, decide_eq_false (p := k = i) (by omega)]
    cases c.testBit i <;> rfl
/-- at most one bit -/
theorem cu_one {c : Nat} : nI c &&& (nI c - 1) = 0 ↔ ∀ i j, i < 32 → j < i → c.testBit j = true → c.testBit i = false := by
  have e : ∀ i, i < 32 → bt (nI c &&& (nI c - 1)) i = (c.testBit i && decide (∃ j, j < i ∧ c.testBit j = true)) := by
    intro i hi
    have e1 : (nI c - 1).toBitVec = ~~~(-(nI c).toBitVec) := by
      rw [BitVec.not_neg]; rfl
    have e2 : bt (nI c - 1) i = !bt (-(nI c)) i := by
      unfold bt
      rw [e1, BitVec.getLsbD_not, decide_eq_true hi, Bool.true_and]
      rfl
    rw [b_and, e2, cu_neg_tb hi, cu_bt hi]
    cases c.testBit i <;> cases decide (∃ j, j < i ∧ c.testBit j = true) <;> rfl
  constructor
  · intro h i j hi hj tj
    have := e i hi
    rw [h, b_0, decide_eq_true (p := ∃ j, j < i ∧ c.testBit j = true) ⟨j, hj, tj⟩, Bool.and_true] at this
    exact this.symm
  · intro h
    apply b_ext
    intro i hi
    rw [e i hi, b_0]
    by_cases z : ∃ j, j < i ∧ c.testBit j = true
    · obtain ⟨j, hj, tj⟩ := z
      rw [h i j hi hj tj]; rfl
    · rw [decide_eq_false z, Bool.and_false]
theorem cu_subset {a b : Nat} : a &&& b = b ↔ ∀ i, b.testBit i = true → a.testBit i = true := by
  constructor
  · intro h i hi
    have := congrArg (fun z => z.testBit i) h
    simp only [Nat.testBit_and, hi, Bool.and_true] at this
    exact this
  · intro h
    apply Nat.eq_of_testBit_eq
    intro i
    rw [Nat.testBit_and]
    cases e : b.testBit i
    · simp
    · rw [h i e]; rfl
theorem cu_disj {a b : Nat} : a &&& b = 0 ↔ ∀ i, a.testBit i = true → b.testBit i = false := by
  constructor
  · intro h i hi
    have := congrArg (fun z => z.testBit i) h
    simp only [Nat.testBit_and, hi, Bool.true_and, Nat.zero_testBit] at this
    exact this
  · intro h
    apply cu_z
    intro i
    rw [Nat.testBit_and]
    cases e : a.testBit i
    · rfl
    · rw [h i e]; rfl
/-! a mask of a predicate -/
def cu_mk (p : Nat → Bool) : Nat → Nat
  | 0 => 0
  | k + 1 => cu_mk p k ||| (if p k = true then 2 ^ k else 0)
theorem cu_mk_tb (p : Nat → Bool) (k i : Nat) : (cu_mk p k).testBit i = (decide (i < k) && p i) := by
  induction k with
  | zero => simp [cu_mk]
  | succ k ih =>
    rw [cu_mk, Nat.testBit_or, ih]
    by_cases hp : p k = true
    · rw [if_pos hp, cu_tb2]
      rcases Nat.lt_trichotomy i k with h | h | h
      · simp [h, Nat.lt_succ_of_lt h, Nat.ne_of_gt h]
      · subst h; simp [hp]
      · simp [Nat.not_lt.mpr (Nat.le_of_lt h), Nat.ne_of_lt h, show ¬ i < k + 1 by omega]
    · rw [if_neg hp, Nat.zero_testBit, Bool.or_false]
      have hp' : p k = false := Bool.eq_false_iff.mpr hp
      rcases Nat.lt_trichotomy i k with h | h | h
      · simp [h, Nat.lt_succ_of_lt h]
      · subst h; simp [hp']
      · simp [Nat.not_lt.mpr (Nat.le_of_lt h), show ¬ i < k + 1 by omega]
theorem cu_mk_lt (p : Nat → Bool) (k : Nat) : cu_mk p k < 2 ^ k := by
  apply Nat.lt_pow_two_of_testBit
  intro i hi
  rw [cu_mk_tb, decide_eq_false (by omega), Bool.false_and]
theorem cu_mk_or {p : Nat → Bool} {k : Nat} (h : p k = true) : cu_mk p k ||| 2 ^ k = cu_mk p (k + 1) := by rw [cu_mk, if_pos h]
theorem cu_mk_no {p : Nat → Bool} {k : Nat} (h : p k = false) : cu_mk p k = cu_mk p (k + 1) := by
  rw [cu_mk, if_neg (by rw [h]; decide), Nat.or_zero]
theorem cu_mk_cg {p q : Nat → Bool} {k : Nat} (h : ∀ i, i < k → p i = q i) : cu_mk p k = cu_mk q k := by
  apply Nat.eq_of_testBit_eq
  intro i
  rw [cu_mk_tb, cu_mk_tb]
  by_cases hi : i < k
  · rw [h i hi]
  · rw [decide_eq_false hi]; rfl
/-! sums -/
def cu_sum (f : Nat → Nat) : Nat → Nat
  | 0 => 0
  | k + 1 => cu_sum f k + f k
theorem cu_sum_cg {f g : Nat → Nat} : ∀ {N : Nat}, (∀ j, j < N → f j = g j) → cu_sum f N = cu_sum g N
  | 0, _ => rfl
  | N + 1, h => by rw [cu_sum, cu_sum, cu_sum_cg (fun j hj => h j (by omega)), h N (by omega)]
theorem cu_sum_le {f g : Nat → Nat} : ∀ {N : Nat}, (∀ j, j < N → f j ≤ g j) → cu_sum f N ≤ cu_sum g N
  | 0, _ => Nat.le_refl _
  | N + 1, h => by
    have h1 := cu_sum_le (N := N) (fun j hj => h j (by omega))
    have h2 := h N (by omega)
    rw [cu_sum, cu_sum]; omega
theorem cu_sum_add {f g : Nat → Nat} : ∀ {N : Nat}, cu_sum (fun j => f j + g j) N = cu_sum f N + cu_sum g N
  | 0 => rfl
  | N + 1 => by rw [cu_sum, cu_sum, cu_sum, cu_sum_add]; omega
theorem cu_sum_lt {f g : Nat → Nat} {k : Nat} : ∀ {N : Nat}, (∀ j, j < N → f j ≤ g j) → k < N → f k < g k → cu_sum f N < cu_sum g N
  | 0, _, hk, _ => absurd hk (by omega)
  | N + 1, h, hk, hl => by
    have h2 := h N (by omega)
    rw [cu_sum, cu_sum]
    rcases Nat.lt_or_ge k N with z | z
    · have := cu_sum_lt (N := N) (fun j hj => h j (by omega)) z hl
      omega
    · have e : k = N := by omega
      subst e
      have := cu_sum_le (N := k) (fun j hj => h j (by omega))
      omega
theorem cu_sum_one {f g : Nat → Nat} {k : Nat} : ∀ {N : Nat}, (∀ j, j < N → j ≠ k → f j = g j) → k < N → g k = f k + 1 → cu_sum g N = cu_sum f N + 1
  | 0, _, hk, _ => absurd hk (by omega)
  | N + 1, h, hk, hl => by
    rw [cu_sum, cu_sum]
    rcases Nat.lt_or_ge k N with z | z
    · have := cu_sum_one (N := N) (fun j hj => h j (by omega)) z hl
      have := h N (by omega) (by omega)
      omega
    · have e : k = N := by omega
      subst e
      have := cu_sum_cg (N := k) (fun j hj => h j (by omega) (by omega))
      omega
theorem cu_sum_b {f : Nat → Nat} {b : Nat} : ∀ {N : Nat}, (∀ j, j < N → f j ≤ b) → cu_sum f N ≤ b * N
  | 0, _ => Nat.zero_le _
  | N + 1, h => by
    have h1 := cu_sum_b (N := N) (fun j hj => h j (by omega))
    have h2 := h N (by omega)
    rw [cu_sum, Nat.mul_succ]; omega
theorem cu_sum_0 {f : Nat → Nat} {N M : Nat} (h : ∀ j, N ≤ j → f j = 0) : cu_sum f (N + M) = cu_sum f N := by
  induction M with
  | zero => rfl
  | succ M ih => rw [← Nat.add_assoc, cu_sum, ih, h (N + M) (by omega)]; rfl
noncomputable def cu_ind (p : Prop) : Nat := @ite _ p (Classical.propDecidable p) 1 0
theorem cu_ind_t {p : Prop} (h : p) : cu_ind p = 1 := by unfold cu_ind; rw [if_pos h]
theorem cu_ind_f {p : Prop} (h : ¬ p) : cu_ind p = 0 := by unfold cu_ind; rw [if_neg h]
theorem cu_ind_cg {p q : Prop} (h : p ↔ q) : cu_ind p = cu_ind q := by rw [propext h]
theorem cu_ind_le {p q : Prop} (h : p → q) : cu_ind p ≤ cu_ind q := by
  by_cases hp : p
  · rw [cu_ind_t hp, cu_ind_t (h hp)]; exact Nat.le_refl _
  · rw [cu_ind_f hp]; exact Nat.zero_le _
theorem cu_ind_1 (p : Prop) : cu_ind p ≤ 1 := by
  by_cases hp : p
  · rw [cu_ind_t hp]; exact Nat.le_refl _
  · rw [cu_ind_f hp]; exact Nat.zero_le _
/-- how many below N -/
noncomputable def cu_cn (p : Nat → Prop) (N : Nat) : Nat := cu_sum (fun j => cu_ind (p j)) N
theorem cu_cn_cg {p q : Nat → Prop} {N : Nat} (h : ∀ j, j < N → (p j ↔ q j)) : cu_cn p N = cu_cn q N := cu_sum_cg (fun j hj => cu_ind_cg (h j hj))
theorem cu_cn_le {p q : Nat → Prop} {N : Nat} (h : ∀ j, j < N → p j → q j) : cu_cn p N ≤ cu_cn q N := cu_sum_le (fun j hj => cu_ind_le (h j hj))
theorem cu_cn_lt {p q : Nat → Prop} {N k : Nat} (h : ∀ j, j < N → p j → q j) (hk : k < N) (hp : ¬ p k) (hq : q k) : cu_cn p N < cu_cn q N :=
  cu_sum_lt (k := k) (fun j hj => cu_ind_le (h j hj)) hk (by rw [cu_ind_f hp, cu_ind_t hq]; decide)
theorem cu_cn_one {p q : Nat → Prop} {N k : Nat} (h : ∀ j, j < N → j ≠ k → (p j ↔ q j)) (hk : k < N) (hp : ¬ p k) (hq : q k) : cu_cn q N = cu_cn p N + 1 :=
  cu_sum_one (k := k) (fun j hj hne => cu_ind_cg (h j hj hne)) hk (by rw [cu_ind_f hp, cu_ind_t hq])
theorem cu_cn_0 {p : Nat → Prop} {N : Nat} (h : ∀ j, j < N → ¬ p j) : cu_cn p N = 0 := by
  have : cu_cn p N ≤ 0 * N := cu_sum_b (fun j hj => by rw [cu_ind_f (h j hj)]; exact Nat.le_refl _)
  omega
theorem cu_cn_no {p : Nat → Prop} {N : Nat} (h : cu_cn p N = 0) : ∀ j, j < N → ¬ p j := by
  intro j hj hp
  have := cu_cn_lt (p := fun _ => False) (q := p) (N := N) (k := j) (fun _ _ z => z.elim) hj (fun z => z) hp
  omega
theorem cu_cn_b (p : Nat → Prop) (N : Nat) : cu_cn p N ≤ N := by
  have : cu_cn p N ≤ 1 * N := cu_sum_b (fun j _ => cu_ind_1 _)
  omega
/-! loops -/
theorem cu_fold {σ : Type} (W : Nat → Nat → σ → Prop) (f : Nat → σ) (e : Nat) (hx : ∀ n, W (n + 1) e (f e)) (hs : ∀ n i, i < e → W n (i + 1) (f (i + 1)) → W (n + 1) i (f i)) : ∃ n, W n 0 (f 0) := by
  have h : ∀ d i, i + d = e → W (d + 1) i (f i) := by
    intro d
    induction d with
    | zero => intro i hi; have : i = e := by omega
              subst this; exact hx 0
    | succ d ih => intro i hi; exact hs (d + 1) i (by omega) (ih (i + 1) (by omega))
  exact ⟨e + 1, h e 0 (by omega)⟩
def cu_all (q : Nat → Bool) : Nat → Bool
  | 0 => true
  | k + 1 => cu_all q k && q k
theorem cu_all_iff {q : Nat → Bool} {N : Nat} : cu_all q N = true ↔ ∀ i, i < N → q i = true := by
  induction N with
  | zero => exact ⟨fun _ i hi => absurd hi (by omega), fun _ => rfl⟩
  | succ N ih =>
    rw [cu_all, Bool.and_eq_true, ih]
    exact ⟨fun h i hi => by
      rcases Nat.lt_or_ge i N with z | z
      · exact h.1 i z
      · have : i = N := by omega
        subst this; exact h.2, fun h => ⟨fun i hi => h i (by omega), h N (by omega)⟩⟩
theorem cu_all_f {q : Nat → Bool} {N i : Nat} (hi : i < N) (h : q i = false) : cu_all q N = false := by
  cases e : cu_all q N
  · rfl
  · rw [cu_all_iff.mp e i hi] at h; cases h
/-- a loop that ends at the first i where q fails -/
theorem cu_scan (W : Nat → Nat → Prop) (q : Nat → Bool) (e : Nat) (hx : ∀ n, (∀ i, i < e → q i = true) → W (n + 1) e) (hf : ∀ n i, i < e → (∀ j, j < i → q j = true) → q i = false → W (n + 1) i) (hs : ∀ n i, i < e → q i = true → W n (i + 1) → W (n + 1) i) : ∃ n, W n 0 := by
  have h : ∀ d i, i + d = e → (∀ j, j < i → q j = true) → W (d + 1) i := by
    intro d
    induction d with
    | zero => intro i hi hq; have : i = e := by omega
              subst this; exact hx 0 hq
    | succ d ih =>
      intro i hi hq
      cases c : q i
      · exact hf (d + 1) i (by omega) hq c
      · refine hs (d + 1) i (by omega) c (ih (i + 1) (by omega) (fun j hj => ?_))
        rcases Nat.lt_or_ge j i with z | z
        · exact hq j z
        · have : j = i := by omega
          subst this; exact c
  exact ⟨e + 1, h e 0 (by omega) (fun j hj => absurd hj (by omega))⟩
/-! ones -/
def cu_ones (m : Nat) : Nat := cu_sum (fun k => (m.testBit k).toNat) 16
theorem cu_bl {a b : Bool} (h : a = true → b = true) : a.toNat ≤ b.toNat := by cases a <;> cases b <;> simp_all
theorem cu_ones_le {a b : Nat} (h : ∀ i, a.testBit i = true → b.testBit i = true) : cu_ones a ≤ cu_ones b := cu_sum_le (fun j _ => cu_bl (h j))
theorem cu_ones_or {a b : Nat} (h : ∀ i, a.testBit i = true → b.testBit i = false) : cu_ones (a ||| b) = cu_ones a + cu_ones b := by
  unfold cu_ones
  rw [← cu_sum_add]
  apply cu_sum_cg
  intro j _
  rw [Nat.testBit_or]
  have := h j
  cases e : a.testBit j <;> cases e2 : b.testBit j <;> simp_all
theorem cu_ones_lt {a b k : Nat} (h : ∀ i, a.testBit i = true → b.testBit i = true) (hk : k < 16) (ha : a.testBit k = false) (hb : b.testBit k = true) : cu_ones a < cu_ones b :=
  cu_sum_lt (k := k) (fun j _ => cu_bl (h j)) hk (by rw [ha, hb]; decide)
theorem cu_ones_16 (a : Nat) : cu_ones a ≤ 16 := by
  have : cu_ones a ≤ 1 * 16 := cu_sum_b (fun j _ => by cases a.testBit j <;> decide)
  omega
theorem cu_ones_20 {a : Nat} (h : a < 2 ^ 16) : cu_sum (fun k => (a.testBit k).toNat) 20 = cu_ones a :=
  cu_sum_0 (N := 16) (M := 4) (fun j hj => by rw [cu_tbn h hj]; rfl)
theorem cu_ones_pos {a k : Nat} (hk : k < 16) (h : a.testBit k = true) : 1 ≤ cu_ones a := by
  have := cu_ones_lt (a := 0) (b := a) (k := k) (fun i hi => cu_0f hi) hk (Nat.zero_testBit k) h
  omega
end
section
/-! the cubes of four bits: digits, rows, words, halves -/
def cu_dg (c b : Nat) : Nat := c / 3 ^ (3 - b) % 3
def cu_hs (c r : Nat) : Bool := cu_all (fun b => cu_dg c b == 2 || cu_dg c b == (r.testBit (3 - b)).toNat) 4
def cu_wd (c : Nat) : Nat := cu_mk (cu_hs c) 16
def cu_fb (c : Nat) : Nat := cu_sum (fun b => if cu_dg c b = 2 then 1 else 0) 4
def cu_up (c b : Nat) : Nat := c + (2 - cu_dg c b) * 3 ^ (3 - b)
def cu_lo (c b : Nat) : Nat := c - 2 * 3 ^ (3 - b)
def cu_hi (c b : Nat) : Nat := c - 3 ^ (3 - b)
theorem cu_wd_tb {c r : Nat} (hr : r < 16) : (cu_wd c).testBit r = cu_hs c r := by
  unfold cu_wd
  rw [cu_mk_tb, decide_eq_true hr, Bool.true_and]
theorem cu_wd_lt (c : Nat) : cu_wd c < 2 ^ 16 := cu_mk_lt _ _
/-- a cube within the rows of m -/
def cu_A (m c : Nat) : Bool := cu_all (fun r => !cu_hs c r || m.testBit r) 16
theorem cu_A_iff {m c : Nat} : cu_A m c = true ↔ ∀ r, r < 16 → cu_hs c r = true → m.testBit r = true := by
  unfold cu_A
  rw [cu_all_iff]
  constructor
  · intro h r hr hh
    have := h r hr
    rw [hh] at this
    simpa using this
  · intro h r hr
    cases e : cu_hs c r
    · rfl
    · rw [h r hr e]; rfl
def cu_any (q : Nat → Bool) : Nat → Bool
  | 0 => false
  | k + 1 => cu_any q k || q k
theorem cu_any_iff {q : Nat → Bool} {N : Nat} : cu_any q N = true ↔ ∃ i, i < N ∧ q i = true := by
  induction N with
  | zero => exact ⟨fun h => (by cases h), fun ⟨i, hi, _⟩ => absurd hi (by omega)⟩
  | succ N ih =>
    rw [cu_any, Bool.or_eq_true, ih]
    constructor
    · rintro (⟨i, hi, h⟩ | h)
      · exact ⟨i, by omega, h⟩
      · exact ⟨N, by omega, h⟩
    · rintro ⟨i, hi, h⟩
      rcases Nat.lt_or_ge i N with z | z
      · exact Or.inl ⟨i, z, h⟩
      · have : i = N := by omega
        subst this; exact Or.inr h
/-- a greater cube by one bit lies within m -/
def cu_J (m c : Nat) : Bool := cu_any (fun b => !(cu_dg c b == 2) && cu_A m (cu_up c b)) 4
def cu_P (m c : Nat) : Bool := cu_A m c && !cu_J m c
theorem cu_J_iff {m c : Nat} : cu_J m c = true ↔ ∃ b, b < 4 ∧ cu_dg c b ≠ 2 ∧ cu_A m (cu_up c b) = true := by
  unfold cu_J
  rw [cu_any_iff]
  constructor
  · rintro ⟨b, hb, h⟩
    simp only [Bool.and_eq_true, Bool.not_eq_true', beq_eq_false_iff_ne] at h
    exact ⟨b, hb, h.1, h.2⟩
  · rintro ⟨b, hb, h, h2⟩
    refine ⟨b, hb, ?_⟩
    simp only [Bool.and_eq_true, Bool.not_eq_true', beq_eq_false_iff_ne]
    exact ⟨h, h2⟩
/-! facts of the table of 81, by the kernel -/
theorem cu_k1 : ∀ c, c < 81 → ∀ b, b < 4 → cu_dg c b ≠ 2 → c < cu_up c b ∧ cu_up c b < 81 ∧ cu_wd c &&& cu_wd (cu_up c b) = cu_wd c := by decide +kernel
theorem cu_k2 : ∀ c, c < 81 → ∀ b, b < 4 → cu_dg c b = 2 → 2 * 3 ^ (3 - b) ≤ c ∧ cu_wd (cu_lo c b) ||| cu_wd (cu_hi c b) = cu_wd c := by decide +kernel
theorem cu_k3 : ∀ c, c < 81 → ∀ b, b < 4 → cu_dg c b = 2 → cu_fb (cu_lo c b) + 1 = cu_fb c ∧ cu_fb (cu_hi c b) + 1 = cu_fb c ∧ cu_lo c b ≠ cu_hi c b := by decide +kernel
theorem cu_k4 : ∀ c, c < 81 → ∀ b, b < 4 → cu_dg c b = 2 → cu_up (cu_lo c b) b = c ∧ cu_up (cu_hi c b) b = c ∧ cu_dg (cu_lo c b) b ≠ 2 ∧ cu_dg (cu_hi c b) b ≠ 2 := by decide +kernel
theorem cu_k5 : ∀ c, c < 81 → ∀ b, b < 4 → cu_dg c b ≠ 2 → cu_dg (cu_up c b) b = 2 ∧ (c = cu_lo (cu_up c b) b ∨ c = cu_hi (cu_up c b) b) := by decide +kernel
theorem cu_k6 : ∀ c, c < 81 → cu_fb c ≤ 4 := by decide +kernel
theorem cu_k7 : ∀ c, c < 81 → 0 < cu_fb c → cu_any (fun b => cu_dg c b == 2) 4 = true := by decide +kernel
def cu_r0 (c : Nat) : Nat := cu_dg c 0 * 8 + cu_dg c 1 * 4 + cu_dg c 2 * 2 + cu_dg c 3
theorem cu_k8 : ∀ c, c < 81 → cu_fb c = 0 → cu_r0 c < 16 ∧ cu_wd c = 2 ^ cu_r0 c := by decide +kernel
def cu_m0 (r : Nat) : Nat := r / 8 % 2 * 27 + r / 4 % 2 * 9 + r / 2 % 2 * 3 + r % 2
theorem cu_k9 : ∀ r, r < 16 → cu_m0 r < 81 ∧ cu_wd (cu_m0 r) = 2 ^ r := by decide +kernel
def cu_tab : List Nat := (List.range 81).map cu_wd
def cu_T : List Nat := [1, 2, 3, 4, 8, 12, 5, 10, 15, 16, 32, 48, 64, 128, 192, 80, 160, 240, 17, 34, 51, 68, 136, 204, 85, 170, 255, 256, 512, 768, 1024, 2048, 3072, 1280, 2560, 3840, 4096, 8192, 12288, 16384, 32768, 49152, 20480, 40960, 61440, 4352, 8704, 13056, 17408, 34816, 52224, 21760, 43520, 65280, 257, 514, 771, 1028, 2056, 3084, 1285, 2570, 3855, 4112, 8224, 12336, 16448, 32896, 49344, 20560, 41120, 61680, 4369, 8738, 13107, 17476, 34952, 52428, 21845, 43690, 65535]
theorem cu_k10 : cu_tab = cu_T := by decide +kernel
theorem cu_wd_T {c : Nat} (h : c < 81) : cu_wd c = cu_T.getD c 0 := by
  rw [← cu_k10]
  unfold cu_tab
  rw [List.getD_eq_getElem?_getD, List.getElem?_map, List.getElem?_range h]
  rfl
def cu_chk (c d : Nat) : Bool := c == d || !(cu_T.getD c 0 &&& cu_T.getD d 0 == cu_T.getD c 0) || cu_any (fun b => !(cu_dg c b == 2) && cu_T.getD (cu_up c b) 0 &&& cu_T.getD d 0 == cu_T.getD (cu_up c b) 0) 4
theorem cu_k11 : cu_all (fun c => cu_all (fun d => cu_chk c d) 81) 81 = true := by decide +kernel
theorem cu_k12 {c d : Nat} (hc : c < 81) (hd : d < 81) (hn : d ≠ c) (h : cu_wd c &&& cu_wd d = cu_wd c) : ∃ b, b < 4 ∧ cu_dg c b ≠ 2 ∧ cu_wd (cu_up c b) &&& cu_wd d = cu_wd (cu_up c b) := by
  have k := cu_all_iff.mp (cu_all_iff.mp cu_k11 c hc) d hd
  unfold cu_chk at k
  rw [← cu_wd_T hc, ← cu_wd_T hd, h, beq_self_eq_true, Bool.not_true, Bool.or_false] at k
  have e : (c == d) = false := beq_eq_false_iff_ne.mpr (fun z => hn z.symm)
  rw [e, Bool.false_or, cu_any_iff] at k
  obtain ⟨b, hb, hk⟩ := k
  simp only [Bool.and_eq_true, Bool.not_eq_true', beq_eq_false_iff_ne, beq_iff_eq] at hk
  have hu := (cu_k1 c hc b hb hk.1).2.1
  rw [← cu_wd_T hu] at hk
  exact ⟨b, hb, hk.1, hk.2⟩
/-! what they say of A, J, P -/
theorem cu_A_wd {m c : Nat} : cu_A m c = true ↔ ∀ r, (cu_wd c).testBit r = true → m.testBit r = true := by
  rw [cu_A_iff]
  constructor
  · intro h r hr
    have hl := cu_tbl (cu_wd_lt c) hr
    exact h r hl (by rw [← cu_wd_tb hl]; exact hr)
  · intro h r hr hh
    exact h r (by rw [cu_wd_tb hr]; exact hh)
theorem cu_A_mono {m c d : Nat} (h : cu_wd c &&& cu_wd d = cu_wd c) (hd : cu_A m d = true) : cu_A m c = true := by
  rw [cu_A_wd] at hd ⊢
  intro r hr
  rw [Nat.and_comm] at h
  exact hd r (cu_subset.mp h r hr)
theorem cu_A_half {m c b : Nat} (hc : c < 81) (hb : b < 4) (h2 : cu_dg c b = 2) : cu_A m c = (cu_A m (cu_lo c b) && cu_A m (cu_hi c b)) := by
  have e := (cu_k2 c hc b hb h2).2
  apply Bool.eq_iff_iff.mpr
  rw [Bool.and_eq_true, cu_A_wd, cu_A_wd, cu_A_wd, ← e]
  constructor
  · intro h
    exact ⟨fun r hr => h r (by rw [Nat.testBit_or, hr]; rfl), fun r hr => h r (by rw [Nat.testBit_or, hr, Bool.or_true])⟩
  · intro h r hr
    rw [Nat.testBit_or, Bool.or_eq_true] at hr
    rcases hr with z | z
    · exact h.1 r z
    · exact h.2 r z
theorem cu_A_0 {m c : Nat} (hc : c < 81) (h0 : cu_fb c = 0) : cu_A m c = m.testBit (cu_r0 c) := by
  have e := (cu_k8 c hc h0).2
  apply Bool.eq_iff_iff.mpr
  rw [cu_A_wd, e]
  constructor
  · intro h; exact h _ (by rw [cu_tb2]; exact decide_eq_true rfl)
  · intro h r hr
    rw [cu_tb2, decide_eq_true_eq] at hr
    rw [← hr]; exact h
/-- what the reference asks of a prime -/
theorem cu_P_ref {m c : Nat} (hc : c < 81) : cu_P m c = true ↔ cu_A m c = true ∧ ∀ d, d < 81 → d ≠ c → cu_A m d = true → ¬ cu_wd c &&& cu_wd d = cu_wd c := by
  unfold cu_P
  rw [Bool.and_eq_true, Bool.not_eq_true']
  constructor
  · rintro ⟨ha, hj⟩
    refine ⟨ha, fun d hd hn had hs => ?_⟩
    obtain ⟨b, hb, h2, hu⟩ := cu_k12 hc hd hn hs
    have : cu_J m c = true := cu_J_iff.mpr ⟨b, hb, h2, cu_A_mono hu had⟩
    rw [hj] at this; cases this
  · rintro ⟨ha, h⟩
    refine ⟨ha, ?_⟩
    cases e : cu_J m c
    · rfl
    · obtain ⟨b, hb, h2, hu⟩ := cu_J_iff.mp e
      obtain ⟨k1, k2, k3⟩ := cu_k1 c hc b hb h2
      exact absurd k3 (h _ k2 (by omega) hu)
/-- every row of m lies in a prime -/
theorem cu_P_has {m r : Nat} (hr : r < 16) (h : m.testBit r = true) : ∃ c, c < 81 ∧ cu_P m c = true ∧ (cu_wd c).testBit r = true := by
  have key : ∀ k c, c < 81 → 81 ≤ c + k → cu_A m c = true → (cu_wd c).testBit r = true → ∃ c, c < 81 ∧ cu_P m c = true ∧ (cu_wd c).testBit r = true := by
    intro k
    induction k with
    | zero => intro c hc hk; omega
    | succ k ih =>
      intro c hc hk ha ht
      cases e : cu_J m c
      · exact ⟨c, hc, by unfold cu_P; rw [ha, e]; rfl, ht⟩
      · obtain ⟨b, hb, h2, hu⟩ := cu_J_iff.mp e
        obtain ⟨k1, k2, k3⟩ := cu_k1 c hc b hb h2
        refine ih _ k2 (by omega) hu ?_
        rw [Nat.and_comm] at k3
        exact cu_subset.mp k3 r ht
  obtain ⟨h1, h2⟩ := cu_k9 r hr
  refine key 81 (cu_m0 r) h1 (by omega) ?_ ?_
  · rw [cu_A_wd, h2]
    intro i hi
    rw [cu_tb2, decide_eq_true_eq] at hi
    rw [← hi]; exact h
  · rw [h2, cu_tb2]; exact decide_eq_true rfl
end
section
/-! at most 15 primes: all 65536 sets of rows at once, each a place in words of 65536 bits -/
def cu_Fr (r : Nat) : Nat → Nat
  | 0 => 0
  | m + 1 => cu_Fr r m ||| ((if m = r then 2 ^ (2 ^ m) - 1 else cu_Fr r m) <<< (2 ^ m))
theorem cu_Fr_lt (r m : Nat) : cu_Fr r m < 2 ^ (2 ^ m) := by
  induction m with
  | zero => simp [cu_Fr]
  | succ m ih =>
    rw [cu_Fr]
    apply Nat.lt_pow_two_of_testBit
    intro i hi
    have hp : 2 ^ (m + 1) = 2 ^ m + 2 ^ m := by rw [Nat.pow_succ]; omega
    rw [Nat.testBit_or, cu_tbn ih (by omega), Bool.false_or, Nat.testBit_shiftLeft]
    by_cases e : m = r
    · rw [if_pos e, Nat.testBit_two_pow_sub_one, decide_eq_false (p := i - 2 ^ m < 2 ^ m) (by omega), Bool.and_false]
    · rw [if_neg e, cu_tbn ih (by omega), Bool.and_false]
theorem cu_Fr_0 {r m : Nat} (h : m ≤ r) : cu_Fr r m = 0 := by
  induction m with
  | zero => rfl
  | succ m ih => rw [cu_Fr, ih (by omega), if_neg (by omega)]; simp
theorem cu_Fr_tb (r m f : Nat) (hf : f < 2 ^ m) : (cu_Fr r m).testBit f = f.testBit r := by
  induction m generalizing f with
  | zero =>
    have : f = 0 := by simp at hf; exact hf
    subst this; simp [cu_Fr]
  | succ m ih =>
    have hp : 2 ^ (m + 1) = 2 ^ m + 2 ^ m := by rw [Nat.pow_succ]; omega
    rw [cu_Fr, Nat.testBit_or, Nat.testBit_shiftLeft]
    rcases Nat.lt_or_ge f (2 ^ m) with h | h
    · rw [decide_eq_false (p := f ≥ 2 ^ m) (by omega), Bool.false_and, Bool.or_false]
      exact ih f h
    · rw [cu_tbn (cu_Fr_lt r m) h, Bool.false_or, decide_eq_true h, Bool.true_and]
      have hs : f - 2 ^ m < 2 ^ m := by omega
      by_cases e : m = r
      · rw [if_pos e, Nat.testBit_two_pow_sub_one, decide_eq_true hs, ← e]
        exact (Nat.testBit_of_two_pow_le_and_two_pow_add_one_gt h hf).symm
      · rw [if_neg e, ih _ hs]
        have ef : f = 2 ^ m + (f - 2 ^ m) := by omega
        rcases Nat.lt_or_ge r m with z | z
        · conv => rhs; rw [ef, Nat.testBit_two_pow_add_gt z]
        · rw [cu_tbn hs z, cu_tbn hf (by omega)]
def cu_Av (c : Nat) : Nat → Nat
  | 0 => 2 ^ (2 ^ 16) - 1
  | k + 1 => if cu_hs c k = true then cu_Av c k &&& cu_Fr k 16 else cu_Av c k
theorem cu_Av_tb {c m : Nat} (hm : m < 2 ^ 16) (k : Nat) : (cu_Av c k).testBit m = cu_all (fun r => !cu_hs c r || m.testBit r) k := by
  induction k with
  | zero =>
    rw [cu_Av, cu_all, Nat.testBit_two_pow_sub_one]
    exact decide_eq_true hm
  | succ k ih =>
    rw [cu_Av, cu_all]
    by_cases e : cu_hs c k = true
    · rw [if_pos e, Nat.testBit_and, ih, cu_Fr_tb k 16 m hm, e]; simp
    · have e' : cu_hs c k = false := Bool.eq_false_iff.mpr e
      rw [if_neg e, ih, e']; simp
def cu_Ju (c : Nat) : Nat → Nat
  | 0 => 0
  | b + 1 => if cu_dg c b = 2 then cu_Ju c b else cu_Ju c b ||| cu_Av (cu_up c b) 16
theorem cu_Ju_tb {c m : Nat} (hm : m < 2 ^ 16) (k : Nat) : (cu_Ju c k).testBit m = cu_any (fun b => !(cu_dg c b == 2) && cu_A m (cu_up c b)) k := by
  induction k with
  | zero => rw [cu_Ju, cu_any, Nat.zero_testBit]
  | succ k ih =>
    rw [cu_Ju, cu_any]
    by_cases e : cu_dg c k = 2
    · rw [if_pos e, ih, e]; simp
    · have e' : (cu_dg c k == 2) = false := beq_eq_false_iff_ne.mpr e
      rw [if_neg e, Nat.testBit_or, ih, e', cu_Av_tb hm]; rfl
def cu_Pv (c : Nat) : Nat := cu_dif (cu_Av c 16) (cu_Ju c 4)
theorem cu_Pv_tb {c m : Nat} (hm : m < 2 ^ 16) : (cu_Pv c).testBit m = cu_P m c := by
  unfold cu_Pv
  rw [cu_dif_tb, cu_Av_tb hm, cu_Ju_tb hm]
  rfl
def cu_inc : List Nat → Nat → List Nat
  | [], c => [c]
  | p :: ps, c => (p ^^^ c) :: cu_inc ps (p &&& c)
def cu_val (f : Nat) : List Nat → Nat
  | [] => 0
  | p :: ps => (p.testBit f).toNat + 2 * cu_val f ps
theorem cu_inc_val (f : Nat) : ∀ (ps : List Nat) (c : Nat), cu_val f (cu_inc ps c) = cu_val f ps + (c.testBit f).toNat
  | [], c => by simp [cu_inc, cu_val]
  | p :: ps, c => by
    rw [cu_inc, cu_val, cu_val, cu_inc_val f ps, Nat.testBit_xor, Nat.testBit_and]
    cases p.testBit f <;> cases c.testBit f <;> simp <;> omega
def cu_planes : Nat → List Nat
  | 0 => []
  | k + 1 => cu_inc (cu_planes k) (cu_Pv k)
theorem cu_planes_val {f : Nat} (hf : f < 2 ^ 16) : ∀ k, cu_val f (cu_planes k) = cu_sum (fun c => (cu_P f c).toNat) k
  | 0 => rfl
  | k + 1 => by rw [cu_planes, cu_inc_val, cu_planes_val hf k, cu_sum, cu_Pv_tb hf]
def cu_nul : List Nat → Bool
  | [] => true
  | p :: ps => Nat.beq p 0 && cu_nul ps
theorem cu_nul_val (f : Nat) : ∀ ps, cu_nul ps = true → cu_val f ps = 0
  | [], _ => rfl
  | p :: ps, h => by
    rw [cu_nul, Bool.and_eq_true] at h
    have e : p = 0 := Nat.eq_of_beq_eq_true h.1
    rw [cu_val, cu_nul_val f ps h.2, e, Nat.zero_testBit]; rfl
theorem cu_drop_val (f : Nat) : ∀ (k : Nat) (ps : List Nat), cu_nul (ps.drop k) = true → cu_val f ps < 2 ^ k
  | 0, ps, h => by rw [cu_nul_val f ps h]; decide
  | k + 1, [], _ => by rw [cu_val]; exact Nat.two_pow_pos _
  | k + 1, p :: ps, h => by
    have := cu_drop_val f k ps h
    rw [cu_val, Nat.pow_succ]
    cases p.testBit f <;> simp <;> omega
theorem cu_planes_ok : cu_nul ((cu_planes 81).drop 4) = true := by decide +kernel
theorem cu_P_15 {f : Nat} (hf : f < 2 ^ 16) : cu_sum (fun c => (cu_P f c).toNat) 81 ≤ 15 := by
  have := cu_drop_val f 4 _ cu_planes_ok
  rw [cu_planes_val hf] at this
  omega
/-! the list of the primes -/
def cu_L (m N : Nat) : List Nat := (List.range N).filter (cu_P m)
theorem cu_L_t {m N : Nat} (h : cu_P m N = true) : cu_L m (N + 1) = cu_L m N ++ [N] := by
  unfold cu_L; rw [List.range_succ, List.filter_append]; simp [h]
theorem cu_L_f {m N : Nat} (h : cu_P m N = false) : cu_L m (N + 1) = cu_L m N := by
  unfold cu_L; rw [List.range_succ, List.filter_append]; simp [h]
theorem cu_L_len (m : Nat) : ∀ N, (cu_L m N).length = cu_sum (fun c => (cu_P m c).toNat) N
  | 0 => rfl
  | N + 1 => by
    rw [cu_sum, ← cu_L_len m N]
    cases e : cu_P m N
    · rw [cu_L_f e]; rfl
    · rw [cu_L_t e, List.length_append]; rfl
/-- how many primes -/
def cu_n (m : Nat) : Nat := (cu_L m 81).length
/-- the i-th prime -/
def cu_c (m i : Nat) : Nat := (cu_L m 81).getD i 0
theorem cu_n_15 {m : Nat} (h : m < 2 ^ 16) : cu_n m ≤ 15 := by unfold cu_n; rw [cu_L_len]; exact cu_P_15 h
theorem cu_L_mono {m N M : Nat} (h : N ≤ M) : (cu_L m N).length ≤ (cu_L m M).length := by
  obtain ⟨d, rfl⟩ : ∃ d, M = N + d := ⟨M - N, by omega⟩
  induction d with
  | zero => exact Nat.le_refl _
  | succ d ih =>
    have := ih (by omega)
    cases e : cu_P m (N + d)
    · rw [← Nat.add_assoc, cu_L_f e]; exact this
    · rw [← Nat.add_assoc, cu_L_t e, List.length_append]; simp; omega
theorem cu_c_mem {m i : Nat} (h : i < cu_n m) : cu_c m i < 81 ∧ cu_P m (cu_c m i) = true := by
  have e : cu_c m i = (cu_L m 81)[i]'h := by
    unfold cu_c
    exact (List.getElem_eq_getD (h := h) 0).symm
  have hm : cu_c m i ∈ cu_L m 81 := by rw [e]; exact List.getElem_mem h
  unfold cu_L at hm
  rw [List.mem_filter, List.mem_range] at hm
  exact hm
theorem cu_c_has {m c : Nat} (hc : c < 81) (h : cu_P m c = true) : ∃ i, i < cu_n m ∧ cu_c m i = c := by
  have hm : c ∈ cu_L m 81 := by
    unfold cu_L
    rw [List.mem_filter, List.mem_range]
    exact ⟨hc, h⟩
  obtain ⟨i, hi, e⟩ := List.mem_iff_getElem.mp hm
  refine ⟨i, hi, ?_⟩
  unfold cu_c
  rw [← List.getElem_eq_getD (h := hi) 0]; exact e
theorem cu_getD_l {l : List Nat} {i x : Nat} (h : i < l.length) : (l ++ [x]).getD i 0 = l.getD i 0 := by
  rw [List.getD_eq_getElem?_getD, List.getD_eq_getElem?_getD, List.getElem?_append_left h]
theorem cu_getD_e {l : List Nat} {x : Nat} : (l ++ [x]).getD l.length 0 = x := by
  rw [List.getD_eq_getElem?_getD, List.getElem?_append_right (Nat.le_refl _)]
  simp
end
section
/-! covers by sets of primes, in plain naturals: n primes with words w, the rows on to be covered -/
def cu_cov (n : Nat) (w : Nat → Nat) (on S : Nat) : Prop := ∀ r, on.testBit r = true → ∃ i, i < n ∧ S.testBit i = true ∧ (w i).testBit r = true
def cu_unc (w : Nat → Nat) (on S : Nat) : Nat → Nat
  | 0 => on
  | k + 1 => if S.testBit k = true then cu_dif (cu_unc w on S k) (w k) else cu_unc w on S k
theorem cu_unc_tb {w : Nat → Nat} {on S r : Nat} : ∀ {k : Nat}, (cu_unc w on S k).testBit r = true ↔ on.testBit r = true ∧ ∀ i, i < k → S.testBit i = true → (w i).testBit r = false
  | 0 => ⟨fun h => ⟨h, fun i hi => absurd hi (by omega)⟩, fun h => h.1⟩
  | k + 1 => by
    rw [cu_unc]
    by_cases e : S.testBit k = true
    · rw [if_pos e, cu_dif_tb, Bool.and_eq_true, cu_unc_tb, Bool.not_eq_true']
      constructor
      · rintro ⟨⟨h1, h2⟩, h3⟩
        refine ⟨h1, fun i hi hs => ?_⟩
        rcases Nat.lt_or_ge i k with z | z
        · exact h2 i z hs
        · have : i = k := by omega
          subst this; exact h3
      · rintro ⟨h1, h2⟩
        exact ⟨⟨h1, fun i hi => h2 i (by omega)⟩, h2 k (by omega) e⟩
    · rw [if_neg e, cu_unc_tb]
      constructor
      · rintro ⟨h1, h2⟩
        refine ⟨h1, fun i hi hs => ?_⟩
        rcases Nat.lt_or_ge i k with z | z
        · exact h2 i z hs
        · have : i = k := by omega
          subst this; exact absurd hs e
      · rintro ⟨h1, h2⟩
        exact ⟨h1, fun i hi => h2 i (by omega)⟩
theorem cu_unc_lt {w : Nat → Nat} {on S : Nat} (h : on < 2 ^ 16) : ∀ k, cu_unc w on S k < 2 ^ 16
  | 0 => h
  | k + 1 => by
    rw [cu_unc]
    split
    · exact cu_dif_lt _ (cu_unc_lt h k)
    · exact cu_unc_lt h k
theorem cu_unc_0 {n : Nat} {w : Nat → Nat} {on S : Nat} : cu_unc w on S n = 0 ↔ cu_cov n w on S := by
  constructor
  · intro h r hr
    apply Classical.byContradiction
    intro hc
    have : (cu_unc w on S n).testBit r = true := cu_unc_tb.mpr ⟨hr, fun i hi hs => by
      cases e : (w i).testBit r
      · rfl
      · exact absurd ⟨i, hi, hs, e⟩ hc⟩
    rw [h, Nat.zero_testBit] at this; cases this
  · intro h
    apply cu_z
    intro r
    cases e : (cu_unc w on S n).testBit r
    · rfl
    · obtain ⟨h1, h2⟩ := cu_unc_tb.mp e
      obtain ⟨i, hi, hs, hw⟩ := h r h1
      rw [h2 i hi hs] at hw; cases hw
def cu_got (w : Nat → Nat) (S : Nat) : Nat → Nat
  | 0 => 0
  | k + 1 => if S.testBit k = true then cu_got w S k ||| w k else cu_got w S k
theorem cu_got_tb {w : Nat → Nat} {S r : Nat} : ∀ {k : Nat}, (cu_got w S k).testBit r = true ↔ ∃ i, i < k ∧ S.testBit i = true ∧ (w i).testBit r = true
  | 0 => ⟨fun h => cu_0f h, fun ⟨i, hi, _⟩ => absurd hi (by omega)⟩
  | k + 1 => by
    rw [cu_got]
    by_cases e : S.testBit k = true
    · rw [if_pos e, Nat.testBit_or, Bool.or_eq_true, cu_got_tb]
      constructor
      · rintro (⟨i, hi, h⟩ | h)
        · exact ⟨i, by omega, h⟩
        · exact ⟨k, by omega, e, h⟩
      · rintro ⟨i, hi, hs, h⟩
        rcases Nat.lt_or_ge i k with z | z
        · exact Or.inl ⟨i, z, hs, h⟩
        · have : i = k := by omega
          subst this; exact Or.inr h
    · rw [if_neg e, cu_got_tb]
      constructor
      · rintro ⟨i, hi, h⟩
        exact ⟨i, by omega, h⟩
      · rintro ⟨i, hi, hs, h⟩
        rcases Nat.lt_or_ge i k with z | z
        · exact ⟨i, z, hs, h⟩
        · have : i = k := by omega
          subst this; exact absurd hs e
theorem cu_got_lt {w : Nat → Nat} {S n : Nat} (h : ∀ i, i < n → w i < 2 ^ 16) : ∀ k, k ≤ n → cu_got w S k < 2 ^ 16
  | 0, _ => by rw [cu_got]; decide
  | k + 1, hk => by
    rw [cu_got]
    split
    · exact Nat.or_lt_two_pow (cu_got_lt h k (by omega)) (h k (by omega))
    · exact cu_got_lt h k (by omega)
theorem cu_got_on {n : Nat} {w : Nat → Nat} {on S : Nat} : cu_got w S n &&& on = on ↔ cu_cov n w on S := by
  rw [cu_subset]
  constructor
  · intro h r hr; exact cu_got_tb.mp (h r hr)
  · intro h r hr; exact cu_got_tb.mpr (h r hr)
def cu_len (l : Nat → Nat) (S n : Nat) : Nat := cu_sum (fun i => if S.testBit i = true then l i else 0) n
theorem cu_len_le {l : Nat → Nat} {n : Nat} (h : ∀ i, i < n → l i ≤ 4) (S : Nat) {k : Nat} (hk : k ≤ n) : cu_len l S k ≤ 4 * k := by
  apply cu_sum_b
  intro j hj
  split
  · exact h j (by omega)
  · omega
def cu_cost (l : Nat → Nat) (n S : Nat) : Nat := 1000 * cu_ones S + cu_len l S n
theorem cu_cost_lt {l : Nat → Nat} {n a b : Nat} (hn : n ≤ 16) (h : ∀ i, i < n → l i ≤ 4) (hab : cu_ones a < cu_ones b) : cu_cost l n a < cu_cost l n b := by
  have := cu_len_le h a (Nat.le_refl n)
  unfold cu_cost
  omega
def cu_hold (w : Nat → Nat) (r n : Nat) : Nat := cu_mk (fun i => (w i).testBit r) n
theorem cu_hold_tb {w : Nat → Nat} {r n i : Nat} : (cu_hold w r n).testBit i = true ↔ i < n ∧ (w i).testBit r = true := by
  unfold cu_hold
  rw [cu_mk_tb, Bool.and_eq_true, decide_eq_true_eq]
def cu_ok (n : Nat) (w : Nat → Nat) (on st S : Nat) : Prop := S < 2 ^ n ∧ (∀ i, st.testBit i = true → S.testBit i = true) ∧ cu_cov n w on S
def cu_ble (cost : Nat → Nat) (a b : Nat) : Prop := cost a < cost b ∨ (cost a = cost b ∧ a ≤ b)
theorem cu_ble_rf {cost : Nat → Nat} {a : Nat} : cu_ble cost a a := Or.inr ⟨rfl, Nat.le_refl _⟩
theorem cu_ble_tr {cost : Nat → Nat} {a b c : Nat} (h : cu_ble cost a b) (k : cu_ble cost b c) : cu_ble cost a c := by
  unfold cu_ble at *; omega
def cu_best (cost : Nat → Nat) (ok : Nat → Prop) (b : Nat) : Prop := ok b ∧ ∀ S, ok S → cu_ble cost b S
theorem cu_best_u {cost : Nat → Nat} {ok : Nat → Prop} {a b : Nat} (ha : cu_best cost ok a) (hb : cu_best cost ok b) : a = b := by
  have h1 := ha.2 b hb.1
  have h2 := hb.2 a ha.1
  unfold cu_ble at *; omega
/-! the places of the search -/
def cu_N (n T B S : Nat) : Prop := S < 2 ^ n ∧ (∀ i, T.testBit i = true → S.testBit i = true) ∧ (∀ i, B.testBit i = true → S.testBit i = false)
def cu_R (n T B C S : Nat) : Prop := cu_N n T B S ∧ ∃ i, C.testBit i = true ∧ S.testBit i = true
def cu_Q (n m : Nat) (T B C : Nat → Nat) (S : Nat) : Prop := ∃ e, e < m ∧ cu_R n (T e) (B e) (C e) S
def cu_K (n : Nat) (cost : Nat → Nat) (ok Q : Nat → Prop) (bs f : Nat) : Prop := ok bs ∧ (∀ S, ok S → ¬ Q S → cu_ble cost bs S) ∧ f = cu_cn (fun S => ok S ∧ ¬ Q S ∧ cu_ones S = cu_ones bs) (2 ^ n) ∧ (f = 0 → bs = 2 ^ n - 1)
/-- cost goes by ones first -/
def cu_mon (cost : Nat → Nat) : Prop := ∀ a b, cu_ones a < cu_ones b → cost a < cost b
theorem cu_mon_le {cost : Nat → Nat} (hm : cu_mon cost) {a b : Nat} (h : cu_ble cost a b) : cu_ones a ≤ cu_ones b := by
  rcases Nat.lt_or_ge (cu_ones b) (cu_ones a) with z | z
  · have := hm b a z
    unfold cu_ble at h; omega
  · exact z
theorem cu_K_skip {n : Nat} {cost : Nat → Nat} {ok Qo Qn : Nat → Prop} {bs f : Nat} (hm : cu_mon cost) (h1 : ∀ S, ok S → Qn S → Qo S) (h2 : ∀ S, ok S → Qo S → ¬ Qn S → cu_ones bs < cu_ones S) (K : cu_K n cost ok Qo bs f) : cu_K n cost ok Qn bs f := by
  obtain ⟨k1, k2, k3, k4⟩ := K
  refine ⟨k1, fun S hS hq => ?_, ?_, k4⟩
  · by_cases z : Qo S
    · exact Or.inl (hm _ _ (h2 S hS z hq))
    · exact k2 S hS z
  · rw [k3]
    apply cu_cn_cg
    intro S _
    constructor
    · rintro ⟨a, b, c⟩
      exact ⟨a, fun z => b (h1 S a z), c⟩
    · rintro ⟨a, b, c⟩
      refine ⟨a, fun z => ?_, c⟩
      have := h2 S a z b
      omega
theorem cu_full {n A : Nat} (hn : n ≤ 16) (hA : A < 2 ^ n) (h : cu_ones (2 ^ n - 1) ≤ cu_ones A) : A = 2 ^ n - 1 := by
  apply Nat.eq_of_testBit_eq
  intro i
  rw [Nat.testBit_two_pow_sub_one]
  by_cases hi : i < n
  · rw [decide_eq_true hi]
    cases e : A.testBit i
    · have := cu_ones_lt (a := A) (b := 2 ^ n - 1) (k := i) (fun j hj => by
        rw [Nat.testBit_two_pow_sub_one]
        exact decide_eq_true (cu_tbl hA hj)) (by omega) e (by rw [Nat.testBit_two_pow_sub_one]; exact decide_eq_true hi)
      omega
    · rfl
  · rw [decide_eq_false hi, cu_tbn hA (by omega)]
theorem cu_full_le {n A : Nat} (hA : A < 2 ^ n) : cu_ones A ≤ cu_ones (2 ^ n - 1) := cu_ones_le (fun j hj => by
  rw [Nat.testBit_two_pow_sub_one]
  exact decide_eq_true (cu_tbl hA hj))
/-- what an offer makes of the count and of the best -/
def cu_of (f a s : Nat) : Nat := if f = 0 ∨ a < s then 1 else if a = s then f + 1 else f
def cu_ob (cost : Nat → Nat) (A bs : Nat) : Nat := if cost A < cost bs ∨ (cost A = cost bs ∧ A < bs) then A else bs
theorem cu_ob_1 {cost : Nat → Nat} {A bs : Nat} : cu_ble cost (cu_ob cost A bs) A := by
  unfold cu_ob
  split
  · exact cu_ble_rf
  · unfold cu_ble; omega
theorem cu_ob_2 {cost : Nat → Nat} {A bs : Nat} : cu_ble cost (cu_ob cost A bs) bs := by
  unfold cu_ob
  split
  · unfold cu_ble; omega
  · exact cu_ble_rf
theorem cu_ob_c {cost : Nat → Nat} {A bs : Nat} {P : Nat → Prop} (h1 : P A) (h2 : P bs) : P (cu_ob cost A bs) := by
  unfold cu_ob
  split
  · exact h1
  · exact h2
theorem cu_K_offer {n : Nat} {cost : Nat → Nat} {ok Qo Qn : Nat → Prop} {bs f A : Nat} (hn : n ≤ 16) (hm : cu_mon cost) (hok : ∀ S, ok S → S < 2 ^ n) (hA : ok A) (hAo : Qo A) (hAn : ¬ Qn A) (h1 : ∀ S, ok S → Qn S → Qo S) (h2 : ∀ S, ok S → Qo S → ¬ Qn S → S ≠ A → cu_ones A < cu_ones S) (K : cu_K n cost ok Qo bs f) : cu_K n cost ok Qn (cu_ob cost A bs) (cu_of f (cu_ones A) (cu_ones bs)) := by
  obtain ⟨k1, k2, k3, k4⟩ := K
  have hb : ∀ S, ok S → ¬ Qn S → cu_ble cost (cu_ob cost A bs) S := by
    intro S hS hq
    by_cases z : Qo S
    · by_cases e : S = A
      · rw [e]; exact cu_ob_1
      · exact cu_ble_tr cu_ob_1 (Or.inl (hm _ _ (h2 S hS z hq e)))
    · exact cu_ble_tr cu_ob_2 (k2 S hS z)
  refine ⟨cu_ob_c hA k1, hb, ?_, ?_⟩
  · rcases Nat.lt_trichotomy (cu_ones A) (cu_ones bs) with c | c | c
    · have e1 : cu_of f (cu_ones A) (cu_ones bs) = 1 := if_pos (Or.inr c)
      have e2 : cu_ob cost A bs = A := if_pos (Or.inl (hm _ _ c))
      rw [e1, e2, cu_cn_one (p := fun _ => False) (k := A), cu_cn_0 (fun _ _ z => z)]
      · intro S hS hne
        refine ⟨fun z => z.elim, fun ⟨a, b, d⟩ => ?_⟩
        by_cases z : Qo S
        · have := h2 S a z b hne; omega
        · have := cu_mon_le hm (k2 S a z); omega
      · exact hok A hA
      · exact fun z => z
      · exact ⟨hA, hAn, rfl⟩
    · have e1 : cu_of f (cu_ones A) (cu_ones bs) = f + 1 := by
        unfold cu_of
        by_cases z : f = 0
        · rw [if_pos (Or.inl z), z]
        · rw [if_neg (by omega), if_pos c]
      have e2 : cu_ones (cu_ob cost A bs) = cu_ones bs := cu_ob_c (P := fun z => cu_ones z = cu_ones bs) c rfl
      rw [e1, e2, k3]
      symm
      apply cu_cn_one (k := A)
      · intro S hS hne
        constructor
        · rintro ⟨a, b, d⟩
          exact ⟨a, fun z => b (h1 S a z), d⟩
        · rintro ⟨a, b, d⟩
          refine ⟨a, fun z => ?_, d⟩
          have := h2 S a z b hne
          omega
      · exact hok A hA
      · exact fun z => z.2.1 hAo
      · exact ⟨hA, hAn, c⟩
    · have hf : f ≠ 0 := by
        intro z
        have := cu_full_le (hok A hA)
        rw [k4 z] at c
        omega
      have e1 : cu_of f (cu_ones A) (cu_ones bs) = f := by
        unfold cu_of
        rw [if_neg (by omega), if_neg (by omega)]
      have e2 : cu_ob cost A bs = bs := by
        have := hm _ _ c
        exact if_neg (by omega)
      rw [e1, e2, k3]
      apply cu_cn_cg
      intro S _
      constructor
      · rintro ⟨a, b, d⟩
        exact ⟨a, fun z => b (h1 S a z), d⟩
      · rintro ⟨a, b, d⟩
        refine ⟨a, fun z => ?_, d⟩
        by_cases e : S = A
        · rw [e] at d; omega
        · have := h2 S a z b e; omega
  · intro z
    unfold cu_of at z
    by_cases q : f = 0 ∨ cu_ones A < cu_ones bs
    · rw [if_pos q] at z; cases z
    · rw [if_neg q] at z
      by_cases q2 : cu_ones A = cu_ones bs
      · rw [if_pos q2] at z; cases z
      · rw [if_neg q2] at z; omega
end
section
/-! bound, the three ends of open, push and pop, in plain naturals -/
def cu_bu (w : Nat → Nat) (n left : Nat) : Nat → Nat × Nat
  | 0 => (0, 0)
  | k + 1 => if left.testBit k = true ∧ cu_hold w k n &&& (cu_bu w n left k).1 = 0 then ((cu_bu w n left k).1 ||| cu_hold w k n, (cu_bu w n left k).2 + 1) else cu_bu w n left k
theorem cu_hold_lt (w : Nat → Nat) (r n : Nat) : cu_hold w r n < 2 ^ n := cu_mk_lt _ _
theorem cu_bu_lt {w : Nat → Nat} {n left : Nat} : ∀ k, (cu_bu w n left k).1 < 2 ^ n ∧ (cu_bu w n left k).2 ≤ k
  | 0 => ⟨Nat.two_pow_pos n, Nat.le_refl _⟩
  | k + 1 => by
    have ih := cu_bu_lt (w := w) (n := n) (left := left) k
    rw [cu_bu]
    split
    · exact ⟨Nat.or_lt_two_pow ih.1 (cu_hold_lt _ _ _), by have := ih.2; show _ + 1 ≤ k + 1; omega⟩
    · exact ⟨ih.1, by omega⟩
/-- a row left has none of its primes in T -/
theorem cu_left_hold {n : Nat} {w : Nat → Nat} {on T r i : Nat} (h : (cu_unc w on T n).testBit r = true) (hi : (cu_hold w r n).testBit i = true) : T.testBit i = false := by
  obtain ⟨h1, h2⟩ := cu_unc_tb.mp h
  obtain ⟨h3, h4⟩ := cu_hold_tb.mp hi
  cases e : T.testBit i
  · rfl
  · rw [h2 i h3 e] at h4; cases h4
theorem cu_left_cov {n : Nat} {w : Nat → Nat} {on T S r : Nat} (h : (cu_unc w on T n).testBit r = true) (hc : cu_cov n w on S) : ∃ i, i < n ∧ (cu_hold w r n).testBit i = true ∧ S.testBit i = true := by
  obtain ⟨h1, h2⟩ := cu_unc_tb.mp h
  obtain ⟨i, hi, hs, hw⟩ := hc r h1
  exact ⟨i, hi, cu_hold_tb.mpr ⟨hi, hw⟩, hs⟩
theorem cu_bu_inv {n : Nat} {w : Nat → Nat} {on T S : Nat} (hn : n ≤ 16) (hc : cu_cov n w on S) : ∀ k, (cu_bu w n (cu_unc w on T n) k).2 ≤ cu_ones (S &&& (cu_bu w n (cu_unc w on T n) k).1) ∧ ∀ i, (cu_bu w n (cu_unc w on T n) k).1.testBit i = true → T.testBit i = false
  | 0 => ⟨Nat.zero_le _, fun i hi => cu_0f hi⟩
  | k + 1 => by
    obtain ⟨ih1, ih2⟩ := cu_bu_inv (T := T) hn hc k
    rw [cu_bu]
    split
    · rename_i h
      obtain ⟨hl, hu⟩ := h
      dsimp only
      constructor
      · have e : S &&& ((cu_bu w n (cu_unc w on T n) k).1 ||| cu_hold w k n) = (S &&& (cu_bu w n (cu_unc w on T n) k).1) ||| (S &&& cu_hold w k n) := by
          apply Nat.eq_of_testBit_eq
          intro i
          simp only [Nat.testBit_and, Nat.testBit_or]
          cases S.testBit i <;> simp
        rw [e, cu_ones_or]
        · obtain ⟨i, hi, h1, h2⟩ := cu_left_cov hl hc
          have := cu_ones_pos (a := S &&& cu_hold w k n) (k := i) (by omega) (by rw [Nat.testBit_and, h1, h2]; rfl)
          omega
        · intro i hi
          rw [Nat.testBit_and, Bool.and_eq_true] at hi
          rw [Nat.testBit_and]
          cases e2 : (cu_hold w k n).testBit i
          · rw [Bool.and_false]
          · have := cu_disj.mp hu i e2
            rw [hi.2] at this; cases this
      · intro i hi
        rw [Nat.testBit_or, Bool.or_eq_true] at hi
        rcases hi with z | z
        · exact ih2 i z
        · exact cu_left_hold hl z
    · exact ⟨ih1, ih2⟩
theorem cu_bound {n : Nat} {w : Nat → Nat} {on T S : Nat} (hn : n ≤ 16) (hc : cu_cov n w on S) (hT : ∀ i, T.testBit i = true → S.testBit i = true) : cu_ones T + (cu_bu w n (cu_unc w on T n) 16).2 ≤ cu_ones S := by
  obtain ⟨h1, h2⟩ := cu_bu_inv (T := T) hn hc 16
  have e := cu_ones_or (a := T) (b := S &&& (cu_bu w n (cu_unc w on T n) 16).1) (fun i hi => by
    rw [Nat.testBit_and]
    cases e : (cu_bu w n (cu_unc w on T n) 16).1.testBit i
    · rw [Bool.and_false]
    · rw [h2 i e] at hi; cases hi)
  have := cu_ones_le (a := T ||| (S &&& (cu_bu w n (cu_unc w on T n) 16).1)) (b := S) (fun i hi => by
    rw [Nat.testBit_or, Bool.or_eq_true] at hi
    rcases hi with z | z
    · exact hT i z
    · rw [Nat.testBit_and, Bool.and_eq_true] at z; exact z.1)
  omega
theorem cu_sup_lt {n T S : Nat} (hn : n ≤ 16) (hS : S < 2 ^ n) (hT : ∀ i, T.testBit i = true → S.testBit i = true) (hne : S ≠ T) : cu_ones T < cu_ones S := by
  have : ∃ i, S.testBit i = true ∧ T.testBit i = false := by
    apply Classical.byContradiction
    intro hc
    apply hne
    apply Nat.eq_of_testBit_eq
    intro i
    cases e : S.testBit i <;> cases e2 : T.testBit i
    · rfl
    · rw [hT i e2] at e; cases e
    · exact absurd ⟨i, e, e2⟩ hc
    · rfl
  obtain ⟨i, h1, h2⟩ := this
  exact cu_ones_lt hT (by have := cu_tbl hS h1; omega) h2 h1
section
variable {n : Nat} {w : Nat → Nat} {on st T B : Nat} {cost : Nat → Nat} {Qm : Nat → Prop} {bs f : Nat}
theorem cu_R0 {S : Nat} (h : cu_R n T B 0 S) : False := by
  obtain ⟨_, i, hi, _⟩ := h
  rw [Nat.zero_testBit] at hi; cases hi
theorem cu_open_leaf (hn : n ≤ 16) (hm : cu_mon cost) (hT : T < 2 ^ n) (hst : ∀ i, st.testBit i = true → T.testBit i = true) (hTB : ∀ i, B.testBit i = true → T.testBit i = false) (hD : ∀ S, cu_N n T B S → ¬ Qm S) (hl : cu_unc w on T n = 0) (K : cu_K n cost (cu_ok n w on st) (fun S => Qm S ∨ cu_N n T B S) bs f) : cu_K n cost (cu_ok n w on st) (fun S => Qm S ∨ cu_R n T B 0 S) (cu_ob cost T bs) (cu_of f (cu_ones T) (cu_ones bs)) := by
  have hN : cu_N n T B T := ⟨hT, fun i hi => hi, hTB⟩
  refine cu_K_offer hn hm (fun S h => h.1) ⟨hT, hst, cu_unc_0.mp hl⟩ (Or.inr hN) ?_ ?_ ?_ K
  · rintro (z | z)
    · exact hD T hN z
    · exact cu_R0 z
  · rintro S _ (z | z)
    · exact Or.inl z
    · exact (cu_R0 z).elim
  · rintro S hS (z | z) hq hne
    · exact absurd (Or.inl z) hq
    · exact cu_sup_lt hn hS.1 z.2.1 hne
theorem cu_open_prune (hn : n ≤ 16) (hm : cu_mon cost) (hb : cu_ones bs < cu_ones T + (cu_bu w n (cu_unc w on T n) 16).2) (K : cu_K n cost (cu_ok n w on st) (fun S => Qm S ∨ cu_N n T B S) bs f) : cu_K n cost (cu_ok n w on st) (fun S => Qm S ∨ cu_R n T B 0 S) bs f := by
  refine cu_K_skip hm ?_ ?_ K
  · rintro S _ (z | z)
    · exact Or.inl z
    · exact (cu_R0 z).elim
  · rintro S hS (z | z) hq
    · exact absurd (Or.inl z) hq
    · have := cu_bound (T := T) hn hS.2.2 z.2.1
      omega
theorem cu_open_branch (hm : cu_mon cost) {r : Nat} (hr : (cu_unc w on T n).testBit r = true) (K : cu_K n cost (cu_ok n w on st) (fun S => Qm S ∨ cu_N n T B S) bs f) : cu_K n cost (cu_ok n w on st) (fun S => Qm S ∨ cu_R n T B (cu_dif (cu_hold w r n) B) S) bs f := by
  refine cu_K_skip hm ?_ ?_ K
  · rintro S _ (z | z)
    · exact Or.inl z
    · exact Or.inr z.1
  · rintro S hS (z | z) hq
    · exact absurd (Or.inl z) hq
    · refine absurd (Or.inr ⟨z, ?_⟩) hq
      obtain ⟨i, hi, h1, h2⟩ := cu_left_cov hr hS.2.2
      refine ⟨i, ?_, h2⟩
      rw [cu_dif_tb, h1]
      cases e : B.testBit i
      · rfl
      · rw [z.2.2 i e] at h2; cases h2
/-- the choices of a place: below 2^n, none taken, none barred -/
def cu_ch3 (n T B C : Nat) : Prop := C < 2 ^ n ∧ (∀ i, C.testBit i = true → T.testBit i = false) ∧ (∀ i, C.testBit i = true → B.testBit i = false)
theorem cu_ch3_0 : cu_ch3 n T B 0 := ⟨Nat.two_pow_pos n, fun i hi => cu_0f hi, fun i hi => cu_0f hi⟩
theorem cu_ch3_r {r : Nat} (hr : (cu_unc w on T n).testBit r = true) : cu_ch3 n T B (cu_dif (cu_hold w r n) B) := by
  refine ⟨cu_dif_lt _ (cu_hold_lt _ _ _), fun i hi => ?_, fun i hi => ?_⟩
  · rw [cu_dif_tb, Bool.and_eq_true] at hi
    exact cu_left_hold hr hi.1
  · rw [cu_dif_tb, Bool.and_eq_true, Bool.not_eq_true'] at hi
    exact hi.2
end
/-- a stack of m places -/
def cu_Lv (n st e T B C : Nat) : Prop := T < 2 ^ n ∧ B < 2 ^ n ∧ (∀ i, st.testBit i = true → T.testBit i = true) ∧ (∀ i, B.testBit i = true → T.testBit i = false) ∧ cu_ch3 n T B C ∧ e ≤ cu_ones T
def cu_St (n st m : Nat) (T B C : Nat → Nat) : Prop := (∀ e, e < m → cu_Lv n st e (T e) (B e) (C e)) ∧ ∀ g, g < m → ∀ e, e < g → ∃ i, (T g).testBit i = true ∧ (B e).testBit i = true
theorem cu_St_pop {n st m : Nat} {T B C : Nat → Nat} (h : cu_St n st (m + 1) T B C) : cu_St n st m T B C := ⟨fun e he => h.1 e (by omega), fun g hg => h.2 g (by omega)⟩
theorem cu_Q_pop {n m : Nat} {T B C : Nat → Nat} (h : C m = 0) (S : Nat) : cu_Q n (m + 1) T B C S ↔ cu_Q n m T B C S := by
  constructor
  · rintro ⟨e, he, hR⟩
    rcases Nat.lt_or_ge e m with z | z
    · exact ⟨e, z, hR⟩
    · have : e = m := by omega
      subst this
      rw [h] at hR
      exact (cu_R0 hR).elim
  · rintro ⟨e, he, hR⟩
    exact ⟨e, by omega, hR⟩
def cu_up1 (g : Nat → Nat) (k x : Nat) : Nat → Nat := fun j => if j = k then x else g j
theorem cu_up1_s {g : Nat → Nat} {k x : Nat} : cu_up1 g k x k = x := if_pos rfl
theorem cu_up1_n {g : Nat → Nat} {k x j : Nat} (h : j ≠ k) : cu_up1 g k x j = g j := if_neg h
theorem cu_or2 {a k i : Nat} : (a ||| 2 ^ k).testBit i = true ↔ a.testBit i = true ∨ i = k := by
  rw [Nat.testBit_or, Bool.or_eq_true, cu_tb2, decide_eq_true_eq]
  exact ⟨fun h => h.imp id Eq.symm, fun h => h.imp id Eq.symm⟩
theorem cu_dif2 {a k i : Nat} : (cu_dif a (2 ^ k)).testBit i = true ↔ a.testBit i = true ∧ i ≠ k := by
  rw [cu_dif_tb, Bool.and_eq_true, cu_tb2, Bool.not_eq_true', decide_eq_false_iff_not]
  exact ⟨fun h => ⟨h.1, fun e => h.2 e.symm⟩, fun h => ⟨h.1, fun e => h.2 e.symm⟩⟩
theorem cu_or2f {a k i : Nat} (h : a.testBit i = false) (hk : i ≠ k) : (a ||| 2 ^ k).testBit i = false := by
  cases e : (a ||| 2 ^ k).testBit i
  · rfl
  · rcases cu_or2.mp e with z | z
    · rw [h] at z; cases z
    · exact absurd z hk
section
variable {n st m k : Nat} {T B C : Nat → Nat}
/-- what is left below the new place, before it is opened: level m with the bit k gone to the barred -/
def cu_Qm (n m k : Nat) (T B C : Nat → Nat) (S : Nat) : Prop := cu_Q n (m + 1) T (cu_up1 B m (B m ||| 2 ^ k)) (cu_up1 C m (cu_dif (C m) (2 ^ k))) S
theorem cu_push_Q (hk : (C m).testBit k = true) (S : Nat) : cu_Q n (m + 1) T B C S ↔ cu_Qm n m k T B C S ∨ cu_N n (T m ||| 2 ^ k) (B m) S := by
  constructor
  · rintro ⟨e, he, hR⟩
    rcases Nat.lt_or_ge e m with z | z
    · refine Or.inl ⟨e, he, ?_⟩
      rw [cu_up1_n (by omega), cu_up1_n (by omega)]
      exact hR
    · have : e = m := by omega
      subst this
      obtain ⟨⟨h1, h2, h3⟩, i, hi, hs⟩ := hR
      by_cases hks : S.testBit k = true
      · refine Or.inr ⟨h1, fun j hj => ?_, h3⟩
        rcases cu_or2.mp hj with q | q
        · exact h2 j q
        · rw [q]; exact hks
      · refine Or.inl ⟨e, he, ?_⟩
        rw [cu_up1_s, cu_up1_s]
        refine ⟨⟨h1, h2, fun j hj => ?_⟩, i, cu_dif2.mpr ⟨hi, fun q => hks (by rw [← q]; exact hs)⟩, hs⟩
        rcases cu_or2.mp hj with q | q
        · exact h3 j q
        · rw [q]; exact Bool.eq_false_iff.mpr hks
  · rintro (⟨e, he, hR⟩ | ⟨h1, h2, h3⟩)
    · refine ⟨e, he, ?_⟩
      rcases Nat.lt_or_ge e m with z | z
      · rw [cu_up1_n (by omega), cu_up1_n (by omega)] at hR
        exact hR
      · have : e = m := by omega
        subst this
        rw [cu_up1_s, cu_up1_s] at hR
        obtain ⟨⟨a1, a2, a3⟩, i, hi, hs⟩ := hR
        exact ⟨⟨a1, a2, fun j hj => a3 j (cu_or2.mpr (Or.inl hj))⟩, i, (cu_dif2.mp hi).1, hs⟩
    · exact ⟨m, by omega, ⟨h1, fun j hj => h2 j (cu_or2.mpr (Or.inl hj)), h3⟩, k, hk, h2 k (cu_or2.mpr (Or.inr rfl))⟩
theorem cu_push_D (h : cu_St n st (m + 1) T B C) (S : Nat) (hS : cu_N n (T m ||| 2 ^ k) (B m) S) : ¬ cu_Qm n m k T B C S := by
  rintro ⟨e, he, ⟨a1, a2, a3⟩, _⟩
  rcases Nat.lt_or_ge e m with z | z
  · rw [cu_up1_n (by omega)] at a3
    obtain ⟨i, h1, h2⟩ := h.2 m (by omega) e z
    have := a3 i h2
    rw [hS.2.1 i (cu_or2.mpr (Or.inl h1))] at this; cases this
  · have : e = m := by omega
    subst this
    rw [cu_up1_s] at a3
    have := a3 k (cu_or2.mpr (Or.inr rfl))
    rw [hS.2.1 k (cu_or2.mpr (Or.inr rfl))] at this; cases this
/-- the stack behind a push, its new place opened with the choices D -/
theorem cu_push_St {D : Nat} (hn : n ≤ 16) (h : cu_St n st (m + 1) T B C) (hk : (C m).testBit k = true) (hD : cu_ch3 n (T m ||| 2 ^ k) (B m) D) : cu_St n st (m + 2) (cu_up1 T (m + 1) (T m ||| 2 ^ k)) (cu_up1 (cu_up1 B (m + 1) (B m)) m (B m ||| 2 ^ k)) (cu_up1 (cu_up1 C m (cu_dif (C m) (2 ^ k))) (m + 1) D) := by
  obtain ⟨l1, l2, l3, l4, l5, l6⟩ := h.1 m (by omega)
  have hkn : k < n := cu_tbl l5.1 hk
  have hk2 : (2 : Nat) ^ k < 2 ^ n := Nat.pow_lt_pow_right (by decide) hkn
  have hkT : (T m).testBit k = false := l5.2.1 k hk
  have hkB : (B m).testBit k = false := l5.2.2 k hk
  constructor
  · intro e he
    rcases Nat.lt_trichotomy e m with z | z | z
    · rw [cu_up1_n (by omega), cu_up1_n (by omega), cu_up1_n (by omega), cu_up1_n (by omega), cu_up1_n (by omega)]
      exact h.1 e (by omega)
    · subst z
      rw [cu_up1_n (by omega), cu_up1_s, cu_up1_n (by omega), cu_up1_s]
      refine ⟨l1, Nat.or_lt_two_pow l2 hk2, l3, fun i hi => ?_, ⟨cu_dif_lt _ l5.1, fun i hi => l5.2.1 i (cu_dif2.mp hi).1, fun i hi => ?_⟩, l6⟩
      · rcases cu_or2.mp hi with q | q
        · exact l4 i q
        · rw [q]; exact hkT
      · exact cu_or2f (l5.2.2 i (cu_dif2.mp hi).1) (cu_dif2.mp hi).2
    · have : e = m + 1 := by omega
      subst this
      rw [cu_up1_s, cu_up1_n (by omega), cu_up1_s, cu_up1_s]
      refine ⟨Nat.or_lt_two_pow l1 hk2, l2, fun i hi => cu_or2.mpr (Or.inl (l3 i hi)), fun i hi => ?_, hD, ?_⟩
      · refine cu_or2f (l4 i hi) (fun q => ?_)
        rw [q, hkB] at hi; cases hi
      · have := cu_ones_lt (a := T m) (b := T m ||| 2 ^ k) (k := k) (fun i hi => cu_or2.mpr (Or.inl hi)) (by omega) hkT (cu_or2.mpr (Or.inr rfl))
        omega
  · intro g hg e he
    rcases Nat.lt_or_ge g (m + 1) with z | z
    · rw [cu_up1_n (by omega), cu_up1_n (by omega), cu_up1_n (by omega)]
      exact h.2 g z e he
    · have : g = m + 1 := by omega
      subst this
      rw [cu_up1_s]
      rcases Nat.lt_or_ge e m with q | q
      · rw [cu_up1_n (by omega), cu_up1_n (by omega)]
        obtain ⟨i, h1, h2⟩ := h.2 m (by omega) e q
        exact ⟨i, cu_or2.mpr (Or.inl h1), h2⟩
      · have : e = m := by omega
        subst this
        rw [cu_up1_s]
        exact ⟨k, cu_or2.mpr (Or.inr rfl), cu_or2.mpr (Or.inr rfl)⟩
theorem cu_push_Qn {D : Nat} (S : Nat) : cu_Q n (m + 2) (cu_up1 T (m + 1) (T m ||| 2 ^ k)) (cu_up1 (cu_up1 B (m + 1) (B m)) m (B m ||| 2 ^ k)) (cu_up1 (cu_up1 C m (cu_dif (C m) (2 ^ k))) (m + 1) D) S ↔ cu_Qm n m k T B C S ∨ cu_R n (T m ||| 2 ^ k) (B m) D S := by
  constructor
  · rintro ⟨e, he, hR⟩
    rcases Nat.lt_trichotomy e m with z | z | z
    · rw [cu_up1_n (by omega), cu_up1_n (by omega), cu_up1_n (by omega), cu_up1_n (by omega), cu_up1_n (by omega)] at hR
      refine Or.inl ⟨e, by omega, ?_⟩
      rw [cu_up1_n (by omega), cu_up1_n (by omega)]
      exact hR
    · subst z
      rw [cu_up1_n (by omega), cu_up1_s, cu_up1_n (by omega), cu_up1_s] at hR
      refine Or.inl ⟨e, by omega, ?_⟩
      rw [cu_up1_s, cu_up1_s]
      exact hR
    · have : e = m + 1 := by omega
      subst this
      rw [cu_up1_s, cu_up1_n (by omega), cu_up1_s, cu_up1_s] at hR
      exact Or.inr hR
  · rintro (⟨e, he, hR⟩ | hR)
    · refine ⟨e, by omega, ?_⟩
      rcases Nat.lt_or_ge e m with z | z
      · rw [cu_up1_n (by omega), cu_up1_n (by omega)] at hR
        rw [cu_up1_n (by omega), cu_up1_n (by omega), cu_up1_n (by omega), cu_up1_n (by omega), cu_up1_n (by omega)]
        exact hR
      · have : e = m := by omega
        subst this
        rw [cu_up1_s, cu_up1_s] at hR
        rw [cu_up1_n (by omega), cu_up1_s, cu_up1_n (by omega), cu_up1_s]
        exact hR
    · refine ⟨m + 1, by omega, ?_⟩
      rw [cu_up1_s, cu_up1_n (by omega), cu_up1_s, cu_up1_s]
      exact hR
/-- the measure falls at a push -/
theorem cu_push_lt {D : Nat} (h : cu_St n st (m + 1) T B C) (hk : (C m).testBit k = true) (hD : cu_ch3 n (T m ||| 2 ^ k) (B m) D) : cu_cn (fun S => cu_Qm n m k T B C S ∨ cu_R n (T m ||| 2 ^ k) (B m) D S) (2 ^ n) < cu_cn (cu_Q n (m + 1) T B C) (2 ^ n) := by
  obtain ⟨l1, l2, l3, l4, l5, l6⟩ := h.1 m (by omega)
  have hkn : k < n := cu_tbl l5.1 hk
  have hk2 : (2 : Nat) ^ k < 2 ^ n := Nat.pow_lt_pow_right (by decide) hkn
  have hkB : (B m).testBit k = false := l5.2.2 k hk
  have hN : cu_N n (T m ||| 2 ^ k) (B m) (T m ||| 2 ^ k) := by
    refine ⟨Nat.or_lt_two_pow l1 hk2, fun i hi => hi, fun i hi => ?_⟩
    refine cu_or2f (l4 i hi) (fun q => ?_)
    rw [q, hkB] at hi; cases hi
  apply cu_cn_lt (k := T m ||| 2 ^ k)
  · rintro S _ (z | z)
    · exact (cu_push_Q hk S).mpr (Or.inl z)
    · exact (cu_push_Q hk S).mpr (Or.inr z.1)
  · exact hN.1
  · rintro (z | z)
    · exact cu_push_D h _ hN z
    · obtain ⟨_, i, hi, hs⟩ := z
      rw [hD.2.1 i hi] at hs; cases hs
  · exact (cu_push_Q hk _).mpr (Or.inr hN)
theorem cu_K_cg {cost : Nat → Nat} {ok Q Q' : Nat → Prop} {bs f : Nat} (h : ∀ S, Q S ↔ Q' S) (K : cu_K n cost ok Q bs f) : cu_K n cost ok Q' bs f := by
  have e : Q = Q' := funext fun S => propext (h S)
  rw [← e]; exact K
end
end
section
/-! the component's small methods -/
theorem cu_ex {A B : Prop} {x : Int32} (N : Nat) (h : A) (hx : x = nI N := by rfl) : (x ≤ nI N → A) ∧ (¬ x ≤ nI N → B) := br_t (by rw [hx]; exact Int32.le_refl _) h
theorem cu_go {A B : Prop} {x : Int32} (N : Nat) {i : Nat} (hi : i < N) (h : B) (hx : x = nI N := by rfl) (hN : N < 2 ^ 31 := by decide) : (x ≤ nI i → A) ∧ (¬ x ≤ nI i → B) := br_f (by rw [hx]; exact nI_ge hi hN) h
theorem cu_3s {b : Nat} (h : b < 4) : (3 : Int32) - nI b = nI (3 - b) := pk_sub (a := 3) (by omega)
theorem cu_3p {k : Nat} (h : k ≤ 3) : 3 ^ k ≤ 27 := Nat.pow_le_pow_right (n := 3) (j := 3) (by decide) h
theorem cu_3q (k : Nat) : 0 < 3 ^ k := Nat.pow_pos (by decide)
theorem cx_power {post : Int32 → Prop} {k : Nat} (hk : k ≤ 3) (h : post (nI (3 ^ k))) : wpX_power post (nI k) := by
  unfold wpX_power
  refine cu_fold (fun n i s => wX_power_4 post (nI k) n s (nI i)) (fun i => nI (3 ^ i)) k ?_ ?_
  · intro n
    exact cu_ex k h
  · intro n i hi ih
    refine cu_go k hi (nm_r (e' := nI (3 ^ (i + 1))) ?_ (nm_r (nI_1 i) ih)) rfl (by omega)
    rw [Nat.pow_succ]
    exact pk_mul (3 ^ i) 3
theorem cx_digit {post : Int32 → Prop} {c b : Nat} (hc : c < 81) (hb : b < 4) (h : post (nI (cu_dg c b))) : wpX_digit post (nI c) (nI b) := by
  unfold wpX_digit
  have h1 := cu_3p (k := 3 - b) (by omega)
  have h2 := cu_3q (3 - b)
  rw [cu_3s hb]
  refine cx_power (by omega) ⟨nI_ne0 h2 (by omega), by decide, ?_⟩
  have e : nI c / nI (3 ^ (3 - b)) - nI c / nI (3 ^ (3 - b)) / 3 * 3 = nI (cu_dg c b) := by
    rw [pk_div (by omega) h2 (by omega)]
    exact pk_rem (d := 3) (Nat.lt_of_le_of_lt (Nat.div_le_self _ _) (by omega)) (by decide) (by decide)
  rw [e]
  exact h
theorem cu_dg_lt (c b : Nat) : cu_dg c b < 3 := Nat.mod_lt _ (by decide)
theorem cu_dg2 (c b : Nat) : nI (cu_dg c b) = 2 ↔ cu_dg c b = 2 := nI_eq (b := 2) (by have := cu_dg_lt c b; omega) (by decide)
theorem cx_asks {post : Int32 → Prop} {c r : Nat} (hc : c < 81) (hr : r < 16) (h : post (nI (cu_hs c r).toNat)) : wpX_asksFor post (nI c) (nI r) := by
  unfold wpX_asksFor
  refine cu_scan (fun n b => wX_asksFor_2 post (nI c) (nI r) n (nI b)) (fun b => cu_dg c b == 2 || cu_dg c b == (r.testBit (3 - b)).toNat) 4 ?_ ?_ ?_
  · intro n hq
    refine cu_ex 4 ?_
    have e : cu_hs c r = true := cu_all_iff.mpr hq
    rw [e] at h
    exact h
  · intro n b hb _ hq
    refine cu_go 4 hb (cx_digit hc hb ?_)
    have e : cu_hs c r = false := cu_all_f hb hq
    rw [e] at h
    simp only [Bool.or_eq_false_iff, beq_eq_false_iff_ne] at hq
    refine br_f (fun z => hq.1 ((cu_dg2 c b).mp z)) (br_f (fun z => hq.2 ?_) h)
    rw [cu_3s hb, cu_bit (by omega) (by omega)] at z
    exact (nI_eq (by have := cu_dg_lt c b; omega) (by cases r.testBit (3 - b) <;> decide)).mp z
  · intro n b hb hq ih
    refine cu_go 4 hb (cx_digit hc hb ?_)
    refine br_c (fun _ => nm_r (nI_1 b) ih) (fun z => br_t ?_ (nm_r (nI_1 b) ih))
    rw [cu_3s hb, cu_bit (by omega) (by omega)]
    simp only [Bool.or_eq_true, beq_iff_eq] at hq
    rcases hq with q | q
    · exact absurd ((cu_dg2 c b).mpr q) z
    · rw [q]
theorem cx_ones {post : Int32 → Prop} {m : Nat} (hm : m < 2 ^ 16) (h : post (nI (cu_ones m))) : wpX_ones post (nI m) := by
  unfold wpX_ones
  refine cu_fold (fun n i s => wX_ones_4 post (nI m) n s (nI i)) (fun i => nI (cu_sum (fun k => (m.testBit k).toNat) i)) 20 ?_ ?_
  · intro n
    refine cu_ex 20 ?_
    try dsimp only
    rw [cu_ones_20 hm]
    exact h
  · intro n i hi ih
    refine cu_go 20 hi (nm_r (e' := nI (cu_sum (fun k => (m.testBit k).toNat) (i + 1))) ?_ (nm_r (nI_1 i) ih))
    rw [cu_bit (cu_p31 hm) (by omega), cu_sum, nI_add]
theorem cx_free {post : Int32 → Prop} {c : Nat} (hc : c < 81) (h : post (nI (cu_fb c))) : wpX_freeBits post (nI c) := by
  unfold wpX_freeBits
  refine cu_fold (fun n i s => wX_freeBits_4 post (nI c) n s (nI i)) (fun i => nI (cu_sum (fun b => if cu_dg c b = 2 then 1 else 0) i)) 4 ?_ ?_
  · intro n
    exact cu_ex 4 h
  · intro n i hi ih
    refine cu_go 4 hi (cx_digit hc hi ?_)
    refine cu_if (cu_dg2 c i) (fun z => ?_) (fun z => ?_)
    · refine nm_r (e' := nI (cu_sum (fun b => if cu_dg c b = 2 then 1 else 0) (i + 1))) ?_ (nm_r (nI_1 i) ih)
      rw [cu_sum, if_pos z]
      exact nI_1 _
    · refine nm_r (e' := nI (cu_sum (fun b => if cu_dg c b = 2 then 1 else 0) (i + 1))) ?_ (nm_r (nI_1 i) ih)
      rw [cu_sum, if_neg z]
      exact nI_add _ 0
theorem cx_isRow_t {post : Int32 → Prop} {r : Nat} (hr : r < 16) (h : post 1) : wpX_isRow post (nI r) := by
  unfold wpX_isRow
  exact br_f (nI_pos (by omega)) (cu_go 16 hr h)
theorem cx_isRow_f {post : Int32 → Prop} {x : Int32} (hx : x < 0 ∨ nI 16 ≤ x) (h : post 0) : wpX_isRow post x := by
  unfold wpX_isRow
  exact br_c (fun _ => h) (fun z => br_t (hx.resolve_left z) h)
theorem cx_isCube_t {post : Int32 → Prop} {c : Nat} (hc : c < 81) (h : post 1) : wpX_isCube post (nI c) := by
  unfold wpX_isCube
  exact br_f (nI_pos (by omega)) (cu_go 81 hc h)
theorem cx_isCube_f {post : Int32 → Prop} {x : Int32} (hx : x < 0 ∨ nI 81 ≤ x) (h : post 0) : wpX_isCube post x := by
  unfold wpX_isCube
  exact br_c (fun _ => h) (fun z => br_t (hx.resolve_left z) h)
section
variable {f_count f_ons f_bestCost f_bestSet f_found f_current : Int32} {a_rows a_words a_allowed a_joined a_list a_takenAt a_barredAt a_choicesAt : Nat → Int32} {n on : Nat} {w c : Nat → Nat}
def cu_rn (a : Nat → Int32) (k : Nat) : Nat := cu_sum (fun r => if a r = 1 then 1 else 0) k
theorem cx_onRows {post : Int32 → Prop} (h : post (nI (cu_rn a_rows 16))) : wpX_onRows post (f_count, f_ons, f_bestCost, f_bestSet, f_found, f_current, a_rows, a_words, a_allowed, a_joined, a_list, a_takenAt, a_barredAt, a_choicesAt) := by
  unfold wpX_onRows
  refine cu_fold (fun n i s => wX_onRows_4 post f_count f_ons f_bestCost f_bestSet f_found f_current a_rows a_words a_allowed a_joined a_list a_takenAt a_barredAt a_choicesAt n s (nI i)) (fun i => nI (cu_rn a_rows i)) 16 ?_ ?_
  · intro n
    exact cu_ex 16 h
  · intro n i hi ih
    refine cu_go 16 hi (And.intro (vp_in_nI hi (by decide)) ?_)
    rw [nI_clamp (by omega)]
    refine br_c (fun z => ?_) (fun z => ?_)
    · refine nm_r (e' := nI (cu_rn a_rows (i + 1))) ?_ (nm_r (nI_1 i) ih)
      rw [cu_rn, cu_rn, cu_sum, if_pos z]
      exact nI_1 _
    · refine nm_r (e' := nI (cu_rn a_rows (i + 1))) ?_ (nm_r (nI_1 i) ih)
      rw [cu_rn, cu_rn, cu_sum, if_neg z]
      exact nI_add _ 0
/-- the words of the cubes -/
def cu_Wd (a : Nat → Int32) : Prop := ∀ c, c < 81 → a c = nI (cu_wd c)
theorem cx_onlyRow {post : Int32 → Prop} {c : Nat} (hW : cu_Wd a_words) (hc : c < 81) (h0 : cu_fb c = 0) (h : post (nI (cu_r0 c))) : wpX_onlyRow post (f_count, f_ons, f_bestCost, f_bestSet, f_found, f_current, a_rows, a_words, a_allowed, a_joined, a_list, a_takenAt, a_barredAt, a_choicesAt) (nI c) := by
  unfold wpX_onlyRow
  obtain ⟨hr, hw⟩ := cu_k8 c hc h0
  have hB : ∀ i, i < 16 → (((a_words (nI c).toNatClampNeg >>> (nI i &&& 31)) &&& 1) = 0 ↔ i ≠ cu_r0 c) := by
    intro i hi
    rw [nI_clamp (by omega), hW c hc, cu_bit0 (cu_p31 (cu_wd_lt c)) (by omega), hw, cu_tb2, decide_eq_false_iff_not]
    exact ⟨fun z q => z q.symm, fun z q => z q.symm⟩
  refine ⟨17, ?_⟩
  have key : ∀ d i, i + d = cu_r0 c → ∀ n, d < n → wX_onlyRow_2 post (nI c) f_count f_ons f_bestCost f_bestSet f_found f_current a_rows a_words a_allowed a_joined a_list a_takenAt a_barredAt a_choicesAt n (nI i) := by
    intro d
    induction d with
    | zero =>
      intro i hi n hn
      have e : i = cu_r0 c := by omega
      subst e
      obtain ⟨n, rfl⟩ : ∃ k, n = k + 1 := ⟨n - 1, by omega⟩
      refine br_c (fun _ => h) (fun _ => And.intro (vp_in_nI hc (by decide)) ?_)
      exact br_f (fun z => (hB _ hr).mp z rfl) h
    | succ d ih =>
      intro i hi n hn
      obtain ⟨n, rfl⟩ : ∃ k, n = k + 1 := ⟨n - 1, by omega⟩
      refine cu_go 15 (by omega) (And.intro (vp_in_nI hc (by decide)) ?_)
      exact br_t ((hB i (by omega)).mpr (by omega)) (nm_r (nI_1 i) (ih (i + 1) (by omega) n (by omega)))
  exact key (cu_r0 c) 0 (by omega) 17 (by omega)
/-- the primes as the component holds them -/
def cu_Pl (n : Nat) (c w : Nat → Nat) (l a : Nat → Int32) : Prop := n ≤ 16 ∧ ∀ i, i < n → l i = nI (c i) ∧ c i < 81 ∧ w i = cu_wd (c i) ∧ a (c i) = nI (w i)
theorem cu_Pl_w {l a : Nat → Int32} (hP : cu_Pl n c w l a) {i : Nat} (hi : i < n) : w i < 2 ^ 16 := by
  rw [(hP.2 i hi).2.2.1]; exact cu_wd_lt _
theorem cx_holders {post : Int32 → Prop} {r : Nat} (hP : cu_Pl n c w a_list a_words) (hr : r < 16) (h : post (nI (cu_hold w r n))) : wpX_holders post (nI n, f_ons, f_bestCost, f_bestSet, f_found, f_current, a_rows, a_words, a_allowed, a_joined, a_list, a_takenAt, a_barredAt, a_choicesAt) (nI r) := by
  unfold wpX_holders
  have hn := hP.1
  refine cu_fold (fun q i s => wX_holders_4 post (nI r) (nI n) f_ons f_bestCost f_bestSet f_found f_current a_rows a_words a_allowed a_joined a_list a_takenAt a_barredAt a_choicesAt q s (nI i)) (fun i => nI (cu_hold w r i)) n ?_ ?_
  · intro q
    exact cu_ex n h
  · intro q i hi ih
    obtain ⟨e1, e2, e3, e4⟩ := hP.2 i hi
    refine cu_go n hi (And.intro (vp_in_nI (by omega) (by decide)) ?_) rfl (by omega)
    rw [nI_clamp (by omega), e1, nI_clamp (by omega), e4]
    refine And.intro (vp_in_nI e2 (by decide)) ?_
    refine cu_ib (cu_bit1 (cu_p31 (cu_Pl_w hP hi)) (by omega)) (fun z => ?_) (fun z => ?_)
    · refine nm_r (e' := nI (cu_hold w r (i + 1))) ?_ (nm_r (nI_1 i) ih)
      rw [cu_shl1 i (by omega), cu_or]
      exact congrArg nI (cu_mk_or (p := fun i => (w i).testBit r) z)
    · have e : cu_hold w r i = cu_hold w r (i + 1) := cu_mk_no (p := fun i => (w i).testBit r) z
      refine nm_r (nI_1 i) ?_
      show wX_holders_4 post (nI r) (nI n) f_ons f_bestCost f_bestSet f_found f_current a_rows a_words a_allowed a_joined a_list a_takenAt a_barredAt a_choicesAt q (nI (cu_hold w r i)) (nI (i + 1))
      rw [e]
      exact ih
theorem cx_uncovered {post : Int32 → Prop} {S : Nat} (hP : cu_Pl n c w a_list a_words) (hS : S < 2 ^ 16) (h : post (nI (cu_unc w on S n))) : wpX_uncovered post (nI n, nI on, f_bestCost, f_bestSet, f_found, f_current, a_rows, a_words, a_allowed, a_joined, a_list, a_takenAt, a_barredAt, a_choicesAt) (nI S) := by
  unfold wpX_uncovered
  have hn := hP.1
  refine cu_fold (fun q i s => wX_uncovered_7 post (nI S) (nI n) (nI on) f_bestCost f_bestSet f_found f_current a_rows a_words a_allowed a_joined a_list a_takenAt a_barredAt a_choicesAt q s (nI i)) (fun i => nI (cu_unc w on S i)) n ?_ ?_
  · intro q
    exact cu_ex n h
  · intro q i hi ih
    obtain ⟨e1, e2, e3, e4⟩ := hP.2 i hi
    refine cu_go n hi ?_ rfl (by omega)
    refine cu_ib (cu_bit1 (cu_p31 hS) (by omega)) (fun z => ?_) (fun z => ?_)
    · refine And.intro (vp_in_nI (by omega) (by decide)) ?_
      rw [nI_clamp (by omega), e1, nI_clamp (by omega), e4]
      refine And.intro (vp_in_nI e2 (by decide)) ?_
      refine nm_r (e' := nI (cu_unc w on S (i + 1))) ?_ (nm_r (nI_1 i) ih)
      try dsimp only
      rw [cu_not, cu_unc, if_pos z]
    · have e : cu_unc w on S i = cu_unc w on S (i + 1) := by rw [cu_unc, if_neg (by rw [z]; decide)]
      refine nm_r (nI_1 i) ?_
      show wX_uncovered_7 post (nI S) (nI n) (nI on) f_bestCost f_bestSet f_found f_current a_rows a_words a_allowed a_joined a_list a_takenAt a_barredAt a_choicesAt q (nI (cu_unc w on S i)) (nI (i + 1))
      rw [e]
      exact ih
def cu_ln (c : Nat → Nat) (i : Nat) : Nat := 4 - cu_fb (c i)
theorem cu_ln4 (c : Nat → Nat) (i : Nat) : cu_ln c i ≤ 4 := by unfold cu_ln; omega
theorem cx_lengthOf {post : Int32 → Prop} {S : Nat} (hP : cu_Pl n c w a_list a_words) (hS : S < 2 ^ 16) (h : post (nI (cu_len (cu_ln c) S n))) : wpX_lengthOf post (nI n, f_ons, f_bestCost, f_bestSet, f_found, f_current, a_rows, a_words, a_allowed, a_joined, a_list, a_takenAt, a_barredAt, a_choicesAt) (nI S) := by
  unfold wpX_lengthOf
  have hn := hP.1
  refine cu_fold (fun q i s => wX_lengthOf_4 post (nI S) (nI n) f_ons f_bestCost f_bestSet f_found f_current a_rows a_words a_allowed a_joined a_list a_takenAt a_barredAt a_choicesAt q s (nI i)) (fun i => nI (cu_len (cu_ln c) S i)) n ?_ ?_
  · intro q
    exact cu_ex n h
  · intro q i hi ih
    obtain ⟨e1, e2, e3, e4⟩ := hP.2 i hi
    refine cu_go n hi ?_ rfl (by omega)
    refine cu_ib (cu_bit1 (cu_p31 hS) (by omega)) (fun z => ?_) (fun z => ?_)
    · refine And.intro (vp_in_nI (by omega) (by decide)) ?_
      rw [nI_clamp (by omega), e1]
      refine cx_free e2 ?_
      refine nm_r (e' := nI (cu_len (cu_ln c) S (i + 1))) ?_ (nm_r (nI_1 i) ih)
      try dsimp only
      rw [show (4 : Int32) - nI (cu_fb (c i)) = nI (cu_ln c i) from pk_sub (a := 4) (cu_k6 _ e2), nI_add, cu_len, cu_len, cu_sum, if_pos z]
    · have e : cu_len (cu_ln c) S i = cu_len (cu_ln c) S (i + 1) := by rw [cu_len, cu_len, cu_sum, if_neg (by rw [z]; decide)]; rfl
      refine nm_r (nI_1 i) ?_
      show wX_lengthOf_4 post (nI S) (nI n) f_ons f_bestCost f_bestSet f_found f_current a_rows a_words a_allowed a_joined a_list a_takenAt a_barredAt a_choicesAt q (nI (cu_len (cu_ln c) S i)) (nI (i + 1))
      rw [e]
      exact ih
/-- the needed primes, as the component gathers them -/
def cu_nd (w : Nat → Nat) (on n : Nat) : Nat → Nat
  | 0 => 0
  | k + 1 => if on.testBit k = true ∧ nI (cu_hold w k n) &&& (nI (cu_hold w k n) - 1) = 0 then cu_nd w on n k ||| cu_hold w k n else cu_nd w on n k
theorem cx_neededSet {post : Int32 → Prop} (hP : cu_Pl n c w a_list a_words) (ho : on < 2 ^ 16) (h : post (nI (cu_nd w on n 16))) : wpX_neededSet post (nI n, nI on, f_bestCost, f_bestSet, f_found, f_current, a_rows, a_words, a_allowed, a_joined, a_list, a_takenAt, a_barredAt, a_choicesAt) := by
  unfold wpX_neededSet
  refine cu_fold (fun q i s => wX_neededSet_4 post (nI n) (nI on) f_bestCost f_bestSet f_found f_current a_rows a_words a_allowed a_joined a_list a_takenAt a_barredAt a_choicesAt q s (nI i)) (fun i => nI (cu_nd w on n i)) 16 ?_ ?_
  · intro q
    exact cu_ex 16 h
  · intro q i hi ih
    refine cu_go 16 hi (cx_holders hP hi ?_)
    refine cu_ib (cu_bit1 (cu_p31 ho) (by omega)) (fun z => ?_) (fun z => ?_)
    · refine br_c (fun y => ?_) (fun y => ?_)
      · refine nm_r (e' := nI (cu_nd w on n (i + 1))) ?_ (nm_r (nI_1 i) ih)
        try dsimp only
        rw [cu_or, cu_nd, if_pos ⟨z, y⟩]
      · have e : cu_nd w on n i = cu_nd w on n (i + 1) := by rw [cu_nd, if_neg (fun k => y k.2)]
        refine nm_r (nI_1 i) ?_
        show wX_neededSet_4 post (nI n) (nI on) f_bestCost f_bestSet f_found f_current a_rows a_words a_allowed a_joined a_list a_takenAt a_barredAt a_choicesAt q (nI (cu_nd w on n i)) (nI (i + 1))
        rw [e]
        exact ih
    · have e : cu_nd w on n i = cu_nd w on n (i + 1) := by rw [cu_nd, if_neg (fun k => by rw [k.1] at z; cases z)]
      refine nm_r (nI_1 i) ?_
      show wX_neededSet_4 post (nI n) (nI on) f_bestCost f_bestSet f_found f_current a_rows a_words a_allowed a_joined a_list a_takenAt a_barredAt a_choicesAt q (nI (cu_nd w on n i)) (nI (i + 1))
      rw [e]
      exact ih
theorem cx_bound {post : Int32 → Prop} {left : Nat} (hP : cu_Pl n c w a_list a_words) (hl : left < 2 ^ 16) (h : post (nI (cu_bu w n left 16).2)) : wpX_bound post (nI n, f_ons, f_bestCost, f_bestSet, f_found, f_current, a_rows, a_words, a_allowed, a_joined, a_list, a_takenAt, a_barredAt, a_choicesAt) (nI left) := by
  unfold wpX_bound
  have hn := hP.1
  refine cu_fold (fun q i (s : Int32 × Int32) => wX_bound_7 post (nI left) (nI n) f_ons f_bestCost f_bestSet f_found f_current a_rows a_words a_allowed a_joined a_list a_takenAt a_barredAt a_choicesAt q s.1 s.2 (nI i)) (fun i => (nI (cu_bu w n left i).1, nI (cu_bu w n left i).2)) 16 ?_ ?_
  · intro q
    exact cu_ex 16 h
  · intro q i hi ih
    have hb := cu_bu_lt (w := w) (n := n) (left := left) i
    have hp := cu_pw hn
    have hh := cu_hold_lt w i n
    refine cu_go 16 hi (cx_holders hP hi ?_)
    refine cu_ib (cu_bit1 (cu_p31 hl) (by omega)) (fun z => ?_) (fun z => ?_)
    · have ez : (nI (cu_hold w i n) &&& nI (cu_bu w n left i).1 = 0) ↔ (cu_hold w i n &&& (cu_bu w n left i).1 = 0) := by
        rw [nx_and]
        exact nI_eq (b := 0) (Nat.lt_of_lt_of_le (Nat.and_lt_two_pow _ hb.1) (by omega)) (by decide)
      refine cu_if ez (fun y => ?_) (fun y => ?_)
      · have e : cu_bu w n left (i + 1) = ((cu_bu w n left i).1 ||| cu_hold w i n, (cu_bu w n left i).2 + 1) := by rw [cu_bu, if_pos ⟨z, y⟩]
        rw [e] at ih
        exact nm_r (cu_or _ _) (nm_r (nI_1 _) (nm_r (nI_1 i) ih))
      · have e : cu_bu w n left (i + 1) = cu_bu w n left i := by rw [cu_bu, if_neg (fun k => y k.2)]
        rw [e] at ih
        exact nm_r (nI_1 i) ih
    · have e : cu_bu w n left (i + 1) = cu_bu w n left i := by rw [cu_bu, if_neg (fun k => by rw [k.1] at z; cases z)]
      rw [e] at ih
      exact nm_r (nI_1 i) ih
end
end
section
/-! refresh: allowed cubes by levels, joined ones, the list of the primes -/
def cu_chp (p c k : Nat) : Bool := cu_any (fun b => cu_dg p b == 2 && (c == cu_lo p b || c == cu_hi p b)) k
def cu_fr (p k : Nat) : Bool := cu_any (fun b => cu_dg p b == 2) k
def cu_D (F k p : Nat) : Bool := decide (cu_fb p < F) || (cu_fb p == F && decide (p < k))
def cu_Jn (m F k c : Nat) : Bool := cu_any (fun p => cu_D F k p && cu_A m p && cu_chp p c 4) 81
def cu_AL (a : Nat → Int32) (m F k : Nat) : Nat → Int32 := fun c => if c < 81 then nI (cu_D F k c && cu_A m c).toNat else a c
def cu_JN (a : Nat → Int32) (m F k : Nat) : Nat → Int32 := fun c => if c < 81 then nI (cu_Jn m F k c).toNat else a c
theorem cu_chp_iff {p c : Nat} {k : Nat} : cu_chp p c k = true ↔ ∃ b, b < k ∧ cu_dg p b = 2 ∧ (c = cu_lo p b ∨ c = cu_hi p b) := by
  unfold cu_chp
  rw [cu_any_iff]
  constructor
  · rintro ⟨b, hb, h⟩
    simp only [Bool.and_eq_true, Bool.or_eq_true, beq_iff_eq] at h
    exact ⟨b, hb, h⟩
  · rintro ⟨b, hb, h⟩
    refine ⟨b, hb, ?_⟩
    simp only [Bool.and_eq_true, Bool.or_eq_true, beq_iff_eq]
    exact h
theorem cu_k13 : ∀ c, c < 81 → ∀ b, b < 4 → cu_dg c b = 2 → 0 < cu_fb c := by decide +kernel
theorem cu_chp_0 {p c : Nat} (hp : p < 81) (h : cu_fb p = 0) : cu_chp p c 4 = false := by
  cases e : cu_chp p c 4
  · rfl
  · obtain ⟨b, hb, h2, _⟩ := cu_chp_iff.mp e
    have := cu_k13 p hp b hb h2
    omega
theorem cu_D_iff {F k p : Nat} : cu_D F k p = true ↔ cu_fb p < F ∨ (cu_fb p = F ∧ p < k) := by
  unfold cu_D
  simp only [Bool.or_eq_true, Bool.and_eq_true, decide_eq_true_eq, beq_iff_eq]
theorem cu_D_next {F p : Nat} (hp : p < 81) : cu_D (F + 1) 0 p = cu_D F 81 p := by
  apply Bool.eq_iff_iff.mpr
  rw [cu_D_iff, cu_D_iff]
  omega
theorem cu_D_skip {F k p : Nat} (h : cu_fb k ≠ F) : cu_D F (k + 1) p = cu_D F k p := by
  apply Bool.eq_iff_iff.mpr
  rw [cu_D_iff, cu_D_iff]
  constructor
  · rintro (z | ⟨z, y⟩)
    · exact Or.inl z
    · refine Or.inr ⟨z, ?_⟩
      rcases Nat.lt_or_ge p k with q | q
      · exact q
      · have : p = k := by omega
        subst this; exact absurd z h
  · rintro (z | ⟨z, y⟩)
    · exact Or.inl z
    · exact Or.inr ⟨z, by omega⟩
theorem cu_D_ne {F k p : Nat} (h : p ≠ k) : cu_D F (k + 1) p = cu_D F k p := by
  apply Bool.eq_iff_iff.mpr
  rw [cu_D_iff, cu_D_iff]
  omega
theorem cu_D_at {F k : Nat} (h : cu_fb k = F) : cu_D F (k + 1) k = true := cu_D_iff.mpr (Or.inr ⟨h, by omega⟩)
theorem cu_D_at0 {F k : Nat} (h : cu_fb k = F) : cu_D F k k = false := by
  cases e : cu_D F k k
  · rfl
  · have := cu_D_iff.mp e; omega
theorem cu_any_cg {q q' : Nat → Bool} : ∀ {N : Nat}, (∀ i, i < N → q i = q' i) → cu_any q N = cu_any q' N
  | 0, _ => rfl
  | N + 1, h => by rw [cu_any, cu_any, cu_any_cg (fun i hi => h i (by omega)), h N (by omega)]
theorem cu_AL_next (a : Nat → Int32) (m F : Nat) : cu_AL a m F 81 = cu_AL a m (F + 1) 0 := by
  funext c
  unfold cu_AL
  by_cases h : c < 81
  · rw [if_pos h, if_pos h, cu_D_next h]
  · rw [if_neg h, if_neg h]
theorem cu_JN_next (a : Nat → Int32) (m F : Nat) : cu_JN a m F 81 = cu_JN a m (F + 1) 0 := by
  funext c
  unfold cu_JN
  by_cases h : c < 81
  · rw [if_pos h, if_pos h]
    have e : cu_Jn m F 81 c = cu_Jn m (F + 1) 0 c := cu_any_cg (fun p hp => by rw [cu_D_next hp])
    rw [e]
  · rw [if_neg h, if_neg h]
theorem cu_AL_skip (a : Nat → Int32) (m : Nat) {F k : Nat} (h : cu_fb k ≠ F) : cu_AL a m F (k + 1) = cu_AL a m F k := by
  funext c
  unfold cu_AL
  rw [cu_D_skip h]
theorem cu_JN_skip (a : Nat → Int32) (m : Nat) {F k : Nat} (h : cu_fb k ≠ F) : cu_JN a m F (k + 1) = cu_JN a m F k := by
  funext c
  unfold cu_JN
  have e : cu_Jn m F (k + 1) c = cu_Jn m F k c := cu_any_cg (fun p hp => by rw [cu_D_skip h])
  rw [e]
theorem cu_AL_put (a : Nat → Int32) (m : Nat) {F k : Nat} (hk : k < 81) (h : cu_fb k = F) : upd (cu_AL a m F k) k (nI (cu_A m k).toNat) = cu_AL a m F (k + 1) := by
  funext c
  by_cases e : c = k
  · subst e
    rw [pk_us]
    unfold cu_AL
    rw [if_pos hk, cu_D_at h, Bool.true_and]
  · rw [pk_un e]
    unfold cu_AL
    rw [cu_D_ne e]
/-- a level's cube that isn't joined: nothing new -/
theorem cu_Jn_f {m F k c : Nat} (h : cu_A m k = false ∨ cu_fb k = 0) : cu_Jn m F (k + 1) c = cu_Jn m F k c := by
  refine cu_any_cg (fun p hp => ?_)
  by_cases e : p = k
  · subst e
    rcases h with z | z
    · rw [z, Bool.and_false, Bool.and_false]
    · rw [cu_chp_0 hp z, Bool.and_false, Bool.and_false]
  · rw [cu_D_ne e]
theorem cu_JN_f (a : Nat → Int32) {m F k : Nat} (h : cu_A m k = false ∨ cu_fb k = 0) : cu_JN a m F (k + 1) = cu_JN a m F k := by
  funext c
  unfold cu_JN
  rw [cu_Jn_f h]
theorem cu_Jn_t {m F k c : Nat} (hk : k < 81) (hF : cu_fb k = F) (h : cu_A m k = true) : cu_Jn m F (k + 1) c = (cu_chp k c 4 || cu_Jn m F k c) := by
  apply Bool.eq_iff_iff.mpr
  rw [Bool.or_eq_true]
  unfold cu_Jn
  rw [cu_any_iff, cu_any_iff]
  constructor
  · rintro ⟨p, hp, z⟩
    by_cases e : p = k
    · subst e
      simp only [Bool.and_eq_true] at z
      exact Or.inl z.2
    · rw [cu_D_ne e] at z
      exact Or.inr ⟨p, hp, z⟩
  · rintro (z | ⟨p, hp, z⟩)
    · exact ⟨k, hk, by rw [cu_D_at hF, h, z]; rfl⟩
    · by_cases e : p = k
      · subst e
        rw [cu_D_at0 hF] at z; cases z
      · exact ⟨p, hp, by rw [cu_D_ne e]; exact z⟩
theorem cu_lo81 {p : Nat} (hp : p < 81) (b : Nat) : cu_lo p b < 81 := Nat.lt_of_le_of_lt (Nat.sub_le _ _) hp
theorem cu_hi81 {p : Nat} (hp : p < 81) (b : Nat) : cu_hi p b < 81 := Nat.lt_of_le_of_lt (Nat.sub_le _ _) hp
theorem cu_chp_81 {p c : Nat} (hp : p < 81) {k : Nat} (h : cu_chp p c k = true) : c < 81 := by
  obtain ⟨b, hb, h2, h3⟩ := cu_chp_iff.mp h
  rcases h3 with z | z
  · rw [z]; exact cu_lo81 hp b
  · rw [z]; exact cu_hi81 hp b
theorem cu_JN_t (a : Nat → Int32) {m F k : Nat} (hk : k < 81) (hF : cu_fb k = F) (h : cu_A m k = true) : (fun c => if cu_chp k c 4 = true then 1 else cu_JN a m F k c) = cu_JN a m F (k + 1) := by
  funext c
  by_cases e : cu_chp k c 4 = true
  · rw [if_pos e]
    unfold cu_JN
    rw [if_pos (cu_chp_81 hk e), cu_Jn_t hk hF h, e]
    rfl
  · rw [if_neg e]
    have e' : cu_chp k c 4 = false := Bool.eq_false_iff.mpr e
    unfold cu_JN
    rw [cu_Jn_t hk hF h, e', Bool.false_or]
/-- behind the last level -/
theorem cu_AL_end (a : Nat → Int32) {m c : Nat} (hc : c < 81) : cu_AL a m 5 0 c = nI (cu_A m c).toNat := by
  unfold cu_AL
  have := cu_k6 c hc
  rw [if_pos hc, cu_D_iff.mpr (Or.inl (by omega)), Bool.true_and]
theorem cu_JN_end (a : Nat → Int32) {m c : Nat} (hc : c < 81) : cu_JN a m 5 0 c = nI (cu_J m c).toNat := by
  unfold cu_JN
  rw [if_pos hc]
  have e : cu_Jn m 5 0 c = cu_J m c := by
    apply Bool.eq_iff_iff.mpr
    unfold cu_Jn
    rw [cu_any_iff, cu_J_iff]
    constructor
    · rintro ⟨p, hp, z⟩
      simp only [Bool.and_eq_true] at z
      obtain ⟨b, hb, h2, h3⟩ := cu_chp_iff.mp z.2
      obtain ⟨k1, k2, k3, k4⟩ := cu_k4 p hp b hb h2
      rcases h3 with y | y
      · exact ⟨b, hb, by rw [y]; exact k3, by rw [y, k1]; exact z.1.2⟩
      · exact ⟨b, hb, by rw [y]; exact k4, by rw [y, k2]; exact z.1.2⟩
    · rintro ⟨b, hb, h2, h3⟩
      obtain ⟨k1, k2⟩ := cu_k5 c hc b hb h2
      have hu := (cu_k1 c hc b hb h2).2.1
      have h6 := cu_k6 _ hu
      refine ⟨cu_up c b, hu, ?_⟩
      rw [cu_D_iff.mpr (Or.inl (by omega)), h3, cu_chp_iff.mpr ⟨b, hb, k1, k2⟩]
      rfl
  rw [e]
theorem cu_AL_0 (a : Nat → Int32) (m : Nat) : (fun c => if c < 81 then 0 else a c) = cu_AL a m 0 0 := by
  funext c
  unfold cu_AL
  by_cases h : c < 81
  · have e : cu_D 0 0 c = false := by
      cases e : cu_D 0 0 c
      · rfl
      · have := cu_D_iff.mp e; omega
    rw [if_pos h, if_pos h, e]
    rfl
  · rw [if_neg h, if_neg h]
theorem cu_JN_0 (a : Nat → Int32) (m : Nat) : (fun c => if c < 81 then 0 else a c) = cu_JN a m 0 0 := by
  funext c
  unfold cu_JN
  by_cases h : c < 81
  · have e : cu_Jn m 0 0 c = false := by
      cases e : cu_Jn m 0 0 c
      · rfl
      · obtain ⟨p, hp, z⟩ := cu_any_iff.mp e
        simp only [Bool.and_eq_true] at z
        have := cu_D_iff.mp z.1.1
        omega
    rw [if_pos h, if_pos h, e]
    rfl
  · rw [if_neg h, if_neg h]
theorem cu_lo_sub {p b : Nat} (hp : p < 81) (hb : b < 4) (h2 : cu_dg p b = 2) : nI p - 2 * nI (3 ^ (3 - b)) = nI (cu_lo p b) := by
  rw [show (2 : Int32) * nI (3 ^ (3 - b)) = nI (2 * 3 ^ (3 - b)) from pk_mul 2 _, pk_sub (cu_k2 p hp b hb h2).1]
  rfl
theorem cu_hi_sub {p b : Nat} (hp : p < 81) (hb : b < 4) (h2 : cu_dg p b = 2) : nI p - nI (3 ^ (3 - b)) = nI (cu_hi p b) := by
  have := (cu_k2 p hp b hb h2).1
  rw [pk_sub (by omega)]
  rfl
theorem cu_nz1 {b : Bool} {x : Int32} (h : x = nI b.toNat) (hb : b = true) : ¬ x = 0 := by rw [h, hb]; decide
theorem cu_z0 {b : Bool} {x : Int32} (h : x = nI b.toNat) (hb : b = false) : x = 0 := by rw [h, hb]; rfl
theorem cu_nb1 : vp_nar .boolean 1 = 1 := rfl
theorem cu_nb0 : vp_nar .boolean 0 = 0 := rfl
theorem cu_nbb (b : Bool) : vp_nar .boolean (nI b.toNat) = nI b.toNat := by cases b <;> rfl
section
variable {f_count f_ons f_bestCost f_bestSet f_found f_current : Int32} {a_rows a_words a_allowed a_joined a_list a_takenAt a_barredAt a_choicesAt : Nat → Int32} {m : Nat}
/-- the halves' marks as the component has them -/
def cu_hv (m p : Nat) (al : Nat → Int32) : Prop := ∀ b, b < 4 → cu_dg p b = 2 → al (cu_lo p b) = nI (cu_A m (cu_lo p b)).toNat ∧ al (cu_hi p b) = nI (cu_A m (cu_hi p b)).toNat
theorem cx_join_t {post : Int32 → SX → Prop} {p : Nat} (hp : p < 81) (hf : 0 < cu_fb p) (hal : cu_hv m p a_allowed) (hA : cu_A m p = true) (h : post 1 (f_count, f_ons, f_bestCost, f_bestSet, f_found, f_current, a_rows, a_words, a_allowed, fun c => if cu_chp p c 4 = true then 1 else a_joined c, a_list, a_takenAt, a_barredAt, a_choicesAt)) : wpX_join post (f_count, f_ons, f_bestCost, f_bestSet, f_found, f_current, a_rows, a_words, a_allowed, a_joined, a_list, a_takenAt, a_barredAt, a_choicesAt) (nI p) := by
  unfold wpX_join
  refine cu_fold (fun n i (s : Int32 × (Nat → Int32)) => wX_join_4 post (nI p) f_count f_ons f_bestCost f_bestSet f_found f_current n s.1 (nI i) a_rows a_words a_allowed s.2 a_list a_takenAt a_barredAt a_choicesAt) (fun i => (nI (cu_fr p i).toNat, fun c => if cu_chp p c i = true then 1 else a_joined c)) 4 ?_ ?_
  · intro n
    refine cu_ex 4 ?_
    have e : cu_fr p 4 = true := cu_k7 p hp hf
    try dsimp only
    rw [e]
    exact ⟨rfl, h⟩
  · intro n i hi ih
    refine cu_go 4 hi (cx_digit hp hi ?_)
    refine cu_if (cu_dg2 p i) (fun z => ?_) (fun z => ?_)
    · rw [cu_3s hi]
      obtain ⟨a1, a2⟩ := hal i hi z
      have hh := cu_A_half (m := m) hp hi z
      rw [hA] at hh
      obtain ⟨h1, h2⟩ := (Bool.and_eq_true _ _).mp hh.symm
      have l1 : cu_lo p i < 81 := cu_lo81 hp i
      have l2 : cu_hi p i < 81 := cu_hi81 hp i
      refine cx_power (by omega) (nm_r (cu_lo_sub hp hi z) ?_)
      refine cx_power (by omega) (nm_r (cu_hi_sub hp hi z) ?_)
      refine And.intro (vp_in_nI l1 (by decide)) ?_
      rw [nI_clamp (by omega)]
      refine br_f (cu_nz1 a1 h1) ?_
      refine And.intro (vp_in_nI l2 (by decide)) ?_
      rw [nI_clamp (by omega)]
      refine br_f (cu_nz1 a2 h2) ?_
      unfold wX_join_65
      refine br_f (by decide) ?_
      rw [nI_clamp (by omega), nI_clamp (by omega)]
      refine And.intro (vp_in_nI l1 (by decide)) (nm_e ?_)
      refine And.intro (vp_in_nI l2 (by decide)) ?_
      have e1 : cu_fr p (i + 1) = true := by
        unfold cu_fr
        rw [cu_any, z]
        simp
      have e2 : upd (upd (fun c => if cu_chp p c i = true then 1 else a_joined c) (cu_lo p i) (vp_nar .boolean 1)) (cu_hi p i) (vp_nar .boolean 1) = fun c => if cu_chp p c (i + 1) = true then 1 else a_joined c := by
        funext c
        have e3 : cu_chp p c (i + 1) = (cu_chp p c i || (c == cu_lo p i || c == cu_hi p i)) := by
          unfold cu_chp
          rw [cu_any, z]
          simp
        rw [e3]
        by_cases q1 : c = cu_hi p i
        · rw [q1, pk_us, if_pos (by simp)]
          rfl
        · rw [pk_un q1]
          by_cases q2 : c = cu_lo p i
          · rw [q2, pk_us, if_pos (by simp)]
            rfl
          · rw [pk_un q2]
            have e4 : (c == cu_lo p i) = false := beq_eq_false_iff_ne.mpr q2
            have e5 : (c == cu_hi p i) = false := beq_eq_false_iff_ne.mpr q1
            rw [e4, e5, Bool.or_false, Bool.or_false]
      refine nm_r e2 (nm_r (nI_1 i) ?_)
      rw [e1] at ih
      exact ih
    · refine nm_r (nI_1 i) ?_
      have e1 : cu_fr p (i + 1) = cu_fr p i := by
        unfold cu_fr
        rw [cu_any, beq_eq_false_iff_ne.mpr z, Bool.or_false]
      have e2 : (fun c => if cu_chp p c (i + 1) = true then (1 : Int32) else a_joined c) = fun c => if cu_chp p c i = true then 1 else a_joined c := by
        funext c
        have e3 : cu_chp p c (i + 1) = cu_chp p c i := by
          unfold cu_chp
          rw [cu_any, beq_eq_false_iff_ne.mpr z, Bool.false_and, Bool.or_false]
        rw [e3]
      rw [e1, e2] at ih
      exact ih
theorem cx_join_f {post : Int32 → SX → Prop} {p : Nat} (hp : p < 81) (hf : 0 < cu_fb p) (hal : cu_hv m p a_allowed) (hA : cu_A m p = false) (h : post 0 (f_count, f_ons, f_bestCost, f_bestSet, f_found, f_current, a_rows, a_words, a_allowed, a_joined, a_list, a_takenAt, a_barredAt, a_choicesAt)) : wpX_join post (f_count, f_ons, f_bestCost, f_bestSet, f_found, f_current, a_rows, a_words, a_allowed, a_joined, a_list, a_takenAt, a_barredAt, a_choicesAt) (nI p) := by
  unfold wpX_join
  refine cu_scan (fun n i => wX_join_4 post (nI p) f_count f_ons f_bestCost f_bestSet f_found f_current n 0 (nI i) a_rows a_words a_allowed a_joined a_list a_takenAt a_barredAt a_choicesAt) (fun b => !(cu_dg p b == 2)) 4 ?_ ?_ ?_
  · intro n hq
    have e : cu_any (fun b => cu_dg p b == 2) 4 = true := cu_k7 p hp hf
    obtain ⟨b, hb, z⟩ := cu_any_iff.mp e
    have := hq b hb
    rw [z] at this; cases this
  · intro n i hi _ hq
    have z : cu_dg p i = 2 := by simpa using hq
    refine cu_go 4 hi (cx_digit hp hi ?_)
    refine br_t ((cu_dg2 p i).mpr z) ?_
    rw [cu_3s hi]
    obtain ⟨a1, a2⟩ := hal i hi z
    have hh := cu_A_half (m := m) hp hi z
    rw [hA] at hh
    have l1 : cu_lo p i < 81 := cu_lo81 hp i
    have l2 : cu_hi p i < 81 := cu_hi81 hp i
    refine cx_power (by omega) (nm_r (cu_lo_sub hp hi z) ?_)
    refine cx_power (by omega) (nm_r (cu_hi_sub hp hi z) ?_)
    refine And.intro (vp_in_nI l1 (by decide)) ?_
    rw [nI_clamp (by omega)]
    refine br_c (fun _ => ?_) (fun y => ?_)
    · unfold wX_join_64 wX_join_65
      exact br_t rfl h
    · refine And.intro (vp_in_nI l2 (by decide)) ?_
      rw [nI_clamp (by omega)]
      refine br_t ?_ ?_
      · apply cu_z0 a2
        cases e : cu_A m (cu_lo p i)
        · exact absurd (cu_z0 a1 e) y
        · rw [e, Bool.true_and] at hh
          exact hh.symm
      · unfold wX_join_64 wX_join_65
        exact br_t rfl h
  · intro n i hi hq ih
    have z : cu_dg p i ≠ 2 := by simpa using hq
    refine cu_go 4 hi (cx_digit hp hi ?_)
    exact br_f (fun y => z ((cu_dg2 p i).mp y)) (nm_r (nI_1 i) ih)
end
end
section
/-! refresh: its loops -/
/-- the rows that aren't off; the rows that are on -/
def cu_av (h : Nat → Int32) : Nat := cu_mk (fun r => decide (¬ h r = 0)) 16
def cu_on (h : Nat → Int32) : Nat := cu_mk (fun r => decide (h r = 1)) 16
theorem cu_av_lt (h : Nat → Int32) : cu_av h < 2 ^ 16 := cu_mk_lt _ _
theorem cu_on_lt (h : Nat → Int32) : cu_on h < 2 ^ 16 := cu_mk_lt _ _
theorem cu_av_tb {h : Nat → Int32} {r : Nat} (hr : r < 16) : (cu_av h).testBit r = decide (¬ h r = 0) := by
  unfold cu_av
  rw [cu_mk_tb, decide_eq_true hr, Bool.true_and]
theorem cu_on_tb {h : Nat → Int32} {r : Nat} (hr : r < 16) : (cu_on h).testBit r = decide (h r = 1) := by
  unfold cu_on
  rw [cu_mk_tb, decide_eq_true hr, Bool.true_and]
/-- what the component keeps while its word 'current' stands -/
def cu_Ca (h : Nat → Int32) (fc fo : Int32) (al li : Nat → Int32) : Prop := fc = nI (cu_n (cu_av h)) ∧ fo = nI (cu_on h) ∧ (∀ c, c < 81 → al c = nI (cu_A (cu_av h) c).toNat) ∧ ∀ i, i < cu_n (cu_av h) → li i = nI (cu_c (cu_av h) i)
section
variable {f_count f_ons f_bestCost f_bestSet f_found f_current : Int32} {a_rows a_words a_allowed a_joined a_list a_takenAt a_barredAt a_choicesAt : Nat → Int32}
def cu_li (a : Nat → Int32) (m k : Nat) : Nat → Int32 := fun j => if j < (cu_L m k).length then nI ((cu_L m k).getD j 0) else a j
theorem cu_li_t (a : Nat → Int32) {m k : Nat} (h : cu_P m k = true) : upd (cu_li a m k) (cu_L m k).length (nI k) = cu_li a m (k + 1) := by
  funext j
  have e : cu_L m (k + 1) = cu_L m k ++ [k] := cu_L_t h
  have el : (cu_L m (k + 1)).length = (cu_L m k).length + 1 := by rw [e, List.length_append]; rfl
  by_cases q : j = (cu_L m k).length
  · rw [q, pk_us]
    unfold cu_li
    rw [if_pos (by omega), e, cu_getD_e]
  · rw [pk_un q]
    unfold cu_li
    by_cases y : j < (cu_L m k).length
    · rw [if_pos y, if_pos (by omega), e, cu_getD_l y]
    · rw [if_neg y, if_neg (by omega)]
theorem cu_li_f (a : Nat → Int32) {m k : Nat} (h : cu_P m k = false) : cu_li a m (k + 1) = cu_li a m k := by
  unfold cu_li
  rw [cu_L_f h]
theorem cx_r164 {post : SX → Prop} {m : Nat} (hm : m < 2 ^ 16) (hal : ∀ c, c < 81 → a_allowed c = nI (cu_A m c).toNat) (hjn : ∀ c, c < 81 → a_joined c = nI (cu_J m c).toNat) (h : post (nI (cu_n m), f_ons, f_bestCost, f_bestSet, f_found, f_current, a_rows, a_words, a_allowed, a_joined, cu_li a_list m 81, a_takenAt, a_barredAt, a_choicesAt)) : ∃ n, wX_refresh_164 post f_ons f_bestCost f_bestSet f_found f_current n 0 0 a_rows a_words a_allowed a_joined a_list a_takenAt a_barredAt a_choicesAt := by
  refine cu_fold (fun n i (s : Int32 × (Nat → Int32)) => wX_refresh_164 post f_ons f_bestCost f_bestSet f_found f_current n (nI i) s.1 a_rows a_words a_allowed a_joined s.2 a_takenAt a_barredAt a_choicesAt) (fun i => (nI (cu_L m i).length, cu_li a_list m i)) 81 ?_ ?_
  · intro n
    exact cu_ex 81 h
  · intro n i hi ih
    refine cu_go 81 hi (And.intro (vp_in_nI hi (by decide)) ?_)
    have hl := cu_L_mono (m := m) (N := i) (M := 81) (by omega)
    have h15 := cu_n_15 hm
    unfold cu_n at h15
    rw [nI_clamp (by omega)]
    cases eA : cu_A m i
    · refine br_t (cu_z0 (hal i hi) eA) (nm_r (nI_1 i) ?_)
      have eP : cu_P m i = false := by unfold cu_P; rw [eA]; rfl
      rw [cu_L_f eP, cu_li_f a_list eP] at ih
      exact ih
    · refine br_f (cu_nz1 (hal i hi) eA) (And.intro (vp_in_nI hi (by decide)) ?_)
      cases eJ : cu_J m i
      · have eP : cu_P m i = true := by unfold cu_P; rw [eA, eJ]; rfl
        refine br_t (cu_z0 (hjn i hi) eJ) ?_
        refine cu_go 32 (by omega) ?_
        refine And.intro (vp_in_nI (by omega) (by decide)) ?_
        rw [nI_clamp (by omega)]
        refine nm_r (cu_li_t a_list eP) (nm_r (e' := nI (cu_L m (i + 1)).length) ?_ (nm_r (nI_1 i) ih))
        try dsimp only
        rw [cu_L_t eP, List.length_append, nI_1]
        rfl
      · have eP : cu_P m i = false := by unfold cu_P; rw [eA, eJ]; rfl
        refine br_f (cu_nz1 (hjn i hi) eJ) (nm_r (nI_1 i) ?_)
        rw [cu_L_f eP, cu_li_f a_list eP] at ih
        exact ih
theorem cx_r95 {post : SX → Prop} {J88 : Int32 → Int32 → Int32 → Int32 → Int32 → Int32 → Int32 → (Nat → Int32) → (Nat → Int32) → (Nat → Int32) → (Nat → Int32) → (Nat → Int32) → (Nat → Int32) → (Nat → Int32) → (Nat → Int32) → Prop} {m F : Nat} {al jn : Nat → Int32} (hW : cu_Wd a_words) (hm : m = cu_av a_rows) (hF : F < 5) (h : J88 (nI (F + 1)) f_count f_ons f_bestCost f_bestSet f_found f_current a_rows a_words (cu_AL al m (F + 1) 0) (cu_JN jn m (F + 1) 0) a_list a_takenAt a_barredAt a_choicesAt) : ∃ n, wX_refresh_95 post J88 (nI F) n 0 f_count f_ons f_bestCost f_bestSet f_found f_current a_rows a_words (cu_AL al m F 0) (cu_JN jn m F 0) a_list a_takenAt a_barredAt a_choicesAt := by
  refine cu_fold (fun n i (s : (Nat → Int32) × (Nat → Int32)) => wX_refresh_95 post J88 (nI F) n (nI i) f_count f_ons f_bestCost f_bestSet f_found f_current a_rows a_words s.1 s.2 a_list a_takenAt a_barredAt a_choicesAt) (fun i => (cu_AL al m F i, cu_JN jn m F i)) 81 ?_ ?_
  · intro n
    refine cu_ex 81 (nm_r (nI_1 F) ?_)
    try dsimp only
    rw [cu_AL_next, cu_JN_next]
    exact h
  · intro n i hi ih
    have h4 := cu_k6 i hi
    refine cu_go 81 hi (cx_free hi ?_)
    refine cu_if (nI_eq (by omega) (by omega)) (fun z => ?_) (fun z => ?_)
    · refine cu_if (nI_eq (b := 0) (by omega) (by decide)) (fun y => ?_) (fun y => ?_)
      · have h0 : cu_fb i = 0 := by omega
        have hr := (cu_k8 i hi h0).1
        refine cx_onlyRow hW hi h0 (And.intro (vp_in_nI hr (by decide)) ?_)
        have eA := cu_A_0 (m := m) hi h0
        rw [hm, cu_av_tb hr] at eA
        rw [nI_clamp (by omega), nI_clamp (by omega)]
        have eP := cu_AL_put al m hi z
        have eJ := cu_JN_f jn (m := m) (F := F) (k := i) (Or.inr h0)
        rw [hm, eA] at eP
        rw [eJ] at ih
        refine br_c (fun q => And.intro (vp_in_nI hi (by decide)) ?_) (fun q => And.intro (vp_in_nI hi (by decide)) ?_)
        · rw [decide_eq_false (fun k => k q)] at eP
          refine nm_r (e' := cu_AL al m F (i + 1)) ?_ (nm_r (nI_1 i) ih)
          rw [hm]
          exact eP
        · rw [decide_eq_true q] at eP
          refine nm_r (e' := cu_AL al m F (i + 1)) ?_ (nm_r (nI_1 i) ih)
          rw [hm]
          exact eP
      · have hf : 0 < cu_fb i := by omega
        have hv : cu_hv m i (cu_AL al m F i) := by
          intro b hb h2
          obtain ⟨k1, k2, k3⟩ := cu_k3 i hi b hb h2
          have l1 : cu_lo i b < 81 := cu_lo81 hi b
          have l2 : cu_hi i b < 81 := cu_hi81 hi b
          unfold cu_AL
          rw [if_pos l1, if_pos l2, cu_D_iff.mpr (Or.inl (by omega)), cu_D_iff.mpr (Or.inl (by omega)), Bool.true_and, Bool.true_and]
          exact ⟨rfl, rfl⟩
        have eP := cu_AL_put al m hi z
        cases eA : cu_A m i
        · refine cx_join_f hi hf hv eA ?_
          have eJ := cu_JN_f jn (m := m) (F := F) (k := i) (Or.inl eA)
          rw [eJ] at ih
          rw [eA] at eP
          refine And.intro (vp_in_nI hi (by decide)) ?_
          rw [nI_clamp (by omega)]
          exact nm_r (e' := cu_AL al m F (i + 1)) eP (nm_r (nI_1 i) ih)
        · refine cx_join_t hi hf hv eA ?_
          have eJ := cu_JN_t jn hi z eA
          rw [eA] at eP
          refine And.intro (vp_in_nI hi (by decide)) ?_
          rw [nI_clamp (by omega)]
          refine nm_r (e' := cu_AL al m F (i + 1)) eP (nm_r (nI_1 i) ?_)
          try dsimp only
          rw [eJ]
          exact ih
    · refine nm_r (nI_1 i) ?_
      rw [cu_AL_skip al m z, cu_JN_skip jn m z] at ih
      exact ih
theorem cx_r88 {post : SX → Prop} {m : Nat} {al jn : Nat → Int32} (hW : cu_Wd a_words) (hm : m = cu_av a_rows) (h : post (nI (cu_n m), f_ons, f_bestCost, f_bestSet, f_found, f_current, a_rows, a_words, cu_AL al m 5 0, cu_JN jn m 5 0, cu_li a_list m 81, a_takenAt, a_barredAt, a_choicesAt)) : ∃ n, wX_refresh_88 post n 0 f_count f_ons f_bestCost f_bestSet f_found f_current a_rows a_words (cu_AL al m 0 0) (cu_JN jn m 0 0) a_list a_takenAt a_barredAt a_choicesAt := by
  refine cu_fold (fun n i (s : (Nat → Int32) × (Nat → Int32)) => wX_refresh_88 post n (nI i) f_count f_ons f_bestCost f_bestSet f_found f_current a_rows a_words s.1 s.2 a_list a_takenAt a_barredAt a_choicesAt) (fun i => (cu_AL al m i 0, cu_JN jn m i 0)) 5 ?_ ?_
  · intro n
    refine br_t (nI_lt (a := 4) (b := 5) (by decide) (by decide)) ?_
    exact cx_r164 (by rw [hm]; exact cu_av_lt _) (fun c hc => cu_AL_end al hc) (fun c hc => cu_JN_end jn hc) h
  · intro n i hi ih
    refine br_f (nI_nlt (a := 4) (b := i) (by omega) (by decide)) ?_
    exact cx_r95 hW hm hi ih
theorem cx_r60 {post : SX → Prop} {m : Nat} (hW : cu_Wd a_words) (hm : m = cu_av a_rows) (h : post (nI (cu_n m), f_ons, f_bestCost, f_bestSet, f_found, f_current, a_rows, a_words, cu_AL a_allowed m 5 0, cu_JN a_joined m 5 0, cu_li a_list m 81, a_takenAt, a_barredAt, a_choicesAt)) : ∃ n, wX_refresh_60 post f_count f_ons f_bestCost f_bestSet f_found f_current n 0 a_rows a_words a_allowed a_joined a_list a_takenAt a_barredAt a_choicesAt := by
  have e0 : ∀ a : Nat → Int32, (fun c => if c < 0 then 0 else a c) = a := fun a => funext fun c => if_neg (by omega)
  have es : ∀ (a : Nat → Int32) (i : Nat), upd (fun c => if c < i then 0 else a c) i (vp_nar .boolean 0) = fun c => if c < i + 1 then 0 else a c := by
    intro a i
    funext c
    by_cases q : c = i
    · rw [q, pk_us, if_pos (by omega)]
      rfl
    · rw [pk_un q]
      by_cases y : c < i
      · rw [if_pos y, if_pos (by omega)]
      · rw [if_neg y, if_neg (by omega)]
  have key := cu_fold (fun n i (s : (Nat → Int32) × (Nat → Int32)) => wX_refresh_60 post f_count f_ons f_bestCost f_bestSet f_found f_current n (nI i) a_rows a_words s.1 s.2 a_list a_takenAt a_barredAt a_choicesAt) (fun i => (fun c => if c < i then 0 else a_allowed c, fun c => if c < i then 0 else a_joined c)) 81 ?_ ?_
  · dsimp only at key
    rw [e0 a_allowed, e0 a_joined] at key
    exact key
  · intro n
    refine cu_ex 81 ?_
    try dsimp only
    rw [cu_AL_0 a_allowed m, cu_JN_0 a_joined m]
    exact cx_r88 hW hm h
  · intro n i hi ih
    refine cu_go 81 hi (And.intro (vp_in_nI hi (by decide)) ?_)
    rw [nI_clamp (by omega)]
    refine nm_r (es a_joined i) ?_
    refine And.intro (vp_in_nI hi (by decide)) ?_
    exact nm_r (es a_allowed i) (nm_r (nI_1 i) ih)
theorem cx_refresh {post : SX → Prop} (hW : cu_Wd a_words) (hc : ¬ f_current = 0 → cu_Ca a_rows f_count f_ons a_allowed a_list) (h : ∀ (fc fo fu : Int32) (al jn li : Nat → Int32), ¬ fu = 0 → cu_Ca a_rows fc fo al li → post (fc, fo, f_bestCost, f_bestSet, f_found, fu, a_rows, a_words, al, jn, li, a_takenAt, a_barredAt, a_choicesAt)) : wpX_refresh post (f_count, f_ons, f_bestCost, f_bestSet, f_found, f_current, a_rows, a_words, a_allowed, a_joined, a_list, a_takenAt, a_barredAt, a_choicesAt) := by
  unfold wpX_refresh
  refine br_c (fun _ => ?_) (fun z => h _ _ _ _ _ _ z (hc z))
  refine cu_fold (fun n i s => wX_refresh_20 post f_count f_bestCost f_bestSet f_found 1 a_rows a_words a_allowed a_joined a_list a_takenAt a_barredAt a_choicesAt n (nI i) s) (fun i => nI (cu_mk (fun r => decide (a_rows r = 1)) i)) 16 ?_ ?_
  · intro n
    refine cu_ex 16 ?_
    refine cx_r60 hW rfl (h _ _ _ _ _ _ (by decide) ⟨rfl, rfl, fun c hc => cu_AL_end _ hc, fun i hi => ?_⟩)
    exact if_pos hi
  · intro n i hi ih
    refine cu_go 16 hi (And.intro (vp_in_nI hi (by decide)) ?_)
    rw [nI_clamp (by omega)]
    refine br_c (fun z => ?_) (fun z => ?_)
    · refine nm_r (e' := nI (cu_mk (fun r => decide (a_rows r = 1)) (i + 1))) ?_ (nm_r (nI_1 i) ih)
      rw [cu_shl1 i (by omega), cu_or, cu_mk_or (p := fun r => decide (a_rows r = 1)) (decide_eq_true z)]
    · refine nm_r (e' := nI (cu_mk (fun r => decide (a_rows r = 1)) (i + 1))) ?_ (nm_r (nI_1 i) ih)
      rw [← cu_mk_no (p := fun r => decide (a_rows r = 1)) (decide_eq_false z)]
      exact (cu_or _ 0).trans (by rw [Nat.or_zero])
/-- the primes of a kept state -/
theorem cu_Ca_Pl {h : Nat → Int32} {fc fo : Int32} {al li : Nat → Int32} (hW : cu_Wd a_words) (hC : cu_Ca h fc fo al li) : cu_Pl (cu_n (cu_av h)) (cu_c (cu_av h)) (fun i => cu_wd (cu_c (cu_av h) i)) li a_words := by
  have h15 := cu_n_15 (cu_av_lt h)
  refine ⟨by omega, fun i hi => ?_⟩
  obtain ⟨c1, c2⟩ := cu_c_mem hi
  exact ⟨hC.2.2.2 i hi, c1, rfl, hW _ c1⟩
end
end
section
/-! the component's search -/
section
variable {f_count f_ons f_bestCost f_bestSet f_found f_current : Int32} {a_rows a_words a_allowed a_joined a_list a_takenAt a_barredAt a_choicesAt : Nat → Int32} {n on st : Nat} {w c : Nat → Nat}
theorem cu_mon_c (c : Nat → Nat) {n : Nat} (hn : n ≤ 16) : cu_mon (cu_cost (cu_ln c) n) := fun _ _ h => cu_cost_lt hn (fun i _ => cu_ln4 c i) h
theorem cu_cost_b (c : Nat → Nat) {n : Nat} (hn : n ≤ 16) (S : Nat) : cu_cost (cu_ln c) n S ≤ 16064 := by
  have h1 := cu_len_le (l := cu_ln c) (n := n) (fun i _ => cu_ln4 c i) S (Nat.le_refl n)
  have h2 := cu_ones_16 S
  unfold cu_cost
  omega
theorem cu_2p {n S : Nat} (hn : n ≤ 16) (hS : S < 2 ^ n) : S < 2 ^ 16 := Nat.lt_of_lt_of_le hS (Nat.pow_le_pow_right (by decide) hn)
theorem cu_1000 (a b : Nat) : (1000 : Int32) * nI a + nI b = nI (1000 * a + b) := by
  rw [show (1000 : Int32) * nI a = nI (1000 * a) from pk_mul 1000 a, nI_add]
theorem cx_offer52 {post : SX → Prop} {A bs g : Nat} (hP : cu_Pl n c w a_list a_words) (hA : A < 2 ^ n) (hb : bs < 2 ^ n) (h : post (nI n, f_ons, nI (cu_cost (cu_ln c) n (cu_ob (cu_cost (cu_ln c) n) A bs)), nI (cu_ob (cu_cost (cu_ln c) n) A bs), nI g, f_current, a_rows, a_words, a_allowed, a_joined, a_list, a_takenAt, a_barredAt, a_choicesAt)) : wX_offer_52 post (nI A) (nI (cu_ones A)) (nI n) f_ons (nI (cu_cost (cu_ln c) n bs)) (nI bs) (nI g) f_current a_rows a_words a_allowed a_joined a_list a_takenAt a_barredAt a_choicesAt := by
  unfold wX_offer_52
  have hn := hP.1
  have hA16 := cu_2p hn hA
  have hb16 := cu_2p hn hb
  have b1 := cu_cost_b c hn A
  have b2 := cu_cost_b c hn bs
  refine cx_lengthOf hP hA16 (nm_r (e' := nI (cu_cost (cu_ln c) n A)) (cu_1000 _ _) ?_)
  have h88 : ¬ (cu_cost (cu_ln c) n A < cu_cost (cu_ln c) n bs ∨ (cu_cost (cu_ln c) n A = cu_cost (cu_ln c) n bs ∧ A < bs)) → wX_offer_88 post (nI A) (nI (cu_ones A)) (nI (cu_cost (cu_ln c) n A)) (nI n) f_ons (nI (cu_cost (cu_ln c) n bs)) (nI bs) (nI g) f_current a_rows a_words a_allowed a_joined a_list a_takenAt a_barredAt a_choicesAt := by
    intro z
    have e : cu_ob (cu_cost (cu_ln c) n) A bs = bs := if_neg z
    rw [e] at h
    unfold wX_offer_88
    refine br_c (fun _ => cx_ones hb16 ?_) (fun _ => h)
    have h1 := cu_ones_16 A
    have h2 := cu_ones_16 bs
    refine br_t (nI_le ?_ (by omega)) h
    rcases Nat.lt_or_ge (cu_ones A) (cu_ones bs) with y | y
    · exact absurd (Or.inl (cu_mon_c c hn _ _ y)) z
    · exact y
  have hyes : (cu_cost (cu_ln c) n A < cu_cost (cu_ln c) n bs ∨ (cu_cost (cu_ln c) n A = cu_cost (cu_ln c) n bs ∧ A < bs)) → post (nI n, f_ons, nI (cu_cost (cu_ln c) n A), nI A, nI g, f_current, a_rows, a_words, a_allowed, a_joined, a_list, a_takenAt, a_barredAt, a_choicesAt) := by
    intro z
    have e : cu_ob (cu_cost (cu_ln c) n) A bs = A := if_pos z
    rw [e] at h
    exact h
  refine cu_if (nI_ltI (by omega) (by omega)) (fun z => hyes (Or.inl z)) (fun z => ?_)
  refine cu_if (nI_eq (by omega) (by omega)) (fun y => ?_) (fun y => h88 (by omega))
  exact cu_if (nI_ltI (by omega) (by omega)) (fun x => hyes (Or.inr ⟨y, x⟩)) (fun x => h88 (by omega))
theorem cx_offer {post : SX → Prop} {A bs f : Nat} (hP : cu_Pl n c w a_list a_words) (hA : A < 2 ^ n) (hb : bs < 2 ^ n) (hf : f < 2 ^ 30) (h : post (nI n, f_ons, nI (cu_cost (cu_ln c) n (cu_ob (cu_cost (cu_ln c) n) A bs)), nI (cu_ob (cu_cost (cu_ln c) n) A bs), nI (cu_of f (cu_ones A) (cu_ones bs)), f_current, a_rows, a_words, a_allowed, a_joined, a_list, a_takenAt, a_barredAt, a_choicesAt)) : wpX_offer post (nI n, f_ons, nI (cu_cost (cu_ln c) n bs), nI bs, nI f, f_current, a_rows, a_words, a_allowed, a_joined, a_list, a_takenAt, a_barredAt, a_choicesAt) (nI A) := by
  unfold wpX_offer
  have hn := hP.1
  have hA16 := cu_2p hn hA
  have hb16 := cu_2p hn hb
  have h1 := cu_ones_16 A
  have h2 := cu_ones_16 bs
  have h23 : f = 0 ∨ cu_ones A < cu_ones bs → wX_offer_23 post (nI A) (nI (cu_ones A)) (nI n) f_ons (nI (cu_cost (cu_ln c) n bs)) (nI bs) (nI f) f_current a_rows a_words a_allowed a_joined a_list a_takenAt a_barredAt a_choicesAt := by
    intro z
    have e : cu_of f (cu_ones A) (cu_ones bs) = 1 := if_pos z
    rw [e] at h
    unfold wX_offer_23
    exact cx_offer52 (g := 1) hP hA hb h
  refine cx_ones hA16 ?_
  refine cu_if (nI_eq (b := 0) (by omega) (by decide)) (fun z => h23 (Or.inl z)) (fun z => ?_)
  refine cx_ones hb16 ?_
  refine cu_if (nI_leI (by omega) (by omega)) (fun y => ?_) (fun y => h23 (Or.inr (by omega)))
  refine cx_ones hb16 ?_
  refine cu_if (nI_eq (by omega) (by omega)) (fun x => ?_) (fun x => ?_)
  · have e : cu_of f (cu_ones A) (cu_ones bs) = f + 1 := by
      unfold cu_of
      rw [if_neg (by omega), if_pos x]
    rw [e] at h
    exact nm_r (nI_1 f) (cx_offer52 hP hA hb h)
  · have e : cu_of f (cu_ones A) (cu_ones bs) = f := by
      unfold cu_of
      rw [if_neg (by omega), if_neg x]
    rw [e] at h
    exact cx_offer52 hP hA hb h
theorem cx_open58 {post : SX → Prop} {d left B : Nat} {ch0 : Nat → Int32} (hP : cu_Pl n c w a_list a_words) (hd : d < 34) (hl : left < 2 ^ 16) (hl0 : left ≠ 0) (hba : a_barredAt d = nI B) (h : ∀ (r : Nat) (ch : Nat → Int32), left.testBit r = true → ch d = nI (cu_dif (cu_hold w r n) B) → (∀ e, e ≠ d → ch e = ch0 e) → post (nI n, f_ons, f_bestCost, f_bestSet, f_found, f_current, a_rows, a_words, a_allowed, a_joined, a_list, a_takenAt, a_barredAt, ch)) : ∃ q, wX_open_58 post (nI d) (nI left) (nI n) f_ons f_bestCost f_bestSet f_found f_current q 33 0 a_rows a_words a_allowed a_joined a_list a_takenAt a_barredAt (upd ch0 d 0) := by
  have hn := hP.1
  have hp := cu_pw hn
  refine loop_0 (fun q i (s : Int32 × (Nat → Int32)) => wX_open_58 post (nI d) (nI left) (nI n) f_ons f_bestCost f_bestSet f_found f_current q s.1 (nI i) a_rows a_words a_allowed a_joined a_list a_takenAt a_barredAt s.2) (fun i s => (s.1 = 33 ∧ (∀ r, r < i → left.testBit r = false) ∧ ∀ e, e ≠ d → s.2 e = ch0 e) ∨ ∃ r, left.testBit r = true ∧ s.1 = nI (cu_ones (cu_dif (cu_hold w r n) B)) ∧ s.2 d = nI (cu_dif (cu_hold w r n) B) ∧ ∀ e, e ≠ d → s.2 e = ch0 e) 16 (33, upd ch0 d 0) ?_ ?_ ?_
  · exact Or.inl ⟨rfl, fun r hr => absurd hr (by omega), fun e he => pk_un he⟩
  · rintro q ⟨x4, ch⟩ hI
    refine cu_ex 16 ?_
    rcases hI with ⟨_, h2, _⟩ | ⟨r, h1, h2, h3, h4⟩
    · obtain ⟨r, hr⟩ := cu_nz hl0
      rw [h2 r (cu_tbl hl hr)] at hr; cases hr
    · exact h r ch h1 h3 h4
  · rintro q i ⟨x4, ch⟩ hi hI ih
    dsimp only at hI ih ⊢
    refine cu_go 16 hi (cx_holders hP hi ?_)
    refine And.intro (vp_in_nI hd (by decide)) ?_
    rw [nI_clamp (by omega), hba]
    refine nm_r (cu_not _ _) ?_
    have hx : cu_dif (cu_hold w i n) B < 2 ^ 16 := cu_2p hn (cu_dif_lt _ (cu_hold_lt _ _ _))
    have ho := cu_ones_16 (cu_dif (cu_hold w i n) B)
    refine cu_ib (cu_bit1 (cu_p31 hl) (by omega)) (fun z => ?_) (fun z => ?_)
    · refine cx_ones hx ?_
      refine br_c (fun y => ?_) (fun y => ?_)
      · refine nm_r (nI_1 i) (ih (x4, ch) ?_)
        rcases hI with ⟨h1, _, _⟩ | hI
        · rw [h1] at y
          exact absurd y (nI_ge (b := 33) (by omega) (by decide))
        · exact Or.inr hI
      · refine cx_ones hx ?_
        refine And.intro (vp_in_nI hd (by decide)) ?_
        refine nm_e (nm_r (nI_1 i) (ih (_, upd ch d (nI (cu_dif (cu_hold w i n) B))) ?_))
        refine Or.inr ⟨i, z, rfl, pk_us, fun e he => ?_⟩
        try dsimp only
        rw [pk_un he]
        rcases hI with ⟨_, _, h3⟩ | ⟨_, _, _, _, h4⟩
        · exact h3 e he
        · exact h4 e he
    · refine nm_r (nI_1 i) (ih (x4, ch) ?_)
      rcases hI with ⟨h1, h2, h3⟩ | hI
      · refine Or.inl ⟨h1, fun r hr => ?_, h3⟩
        rcases Nat.lt_or_ge r i with y | y
        · exact h2 r y
        · have : r = i := by omega
          subst this; exact z
      · exact Or.inr hI
theorem cx_open {post : SX → Prop} {d T B bs f : Nat} {Qm : Nat → Prop} (hP : cu_Pl n c w a_list a_words) (ho : on < 2 ^ 16) (hd : d < 34) (hT : T < 2 ^ n) (hst : ∀ i, st.testBit i = true → T.testBit i = true) (hTB : ∀ i, B.testBit i = true → T.testBit i = false) (hD : ∀ S, cu_N n T B S → ¬ Qm S) (htk : a_takenAt d = nI T) (hba : a_barredAt d = nI B) (K : cu_K n (cu_cost (cu_ln c) n) (cu_ok n w on st) (fun S => Qm S ∨ cu_N n T B S) bs f) (h : ∀ (bs' f' C : Nat) (ch : Nat → Int32), cu_ch3 n T B C → ch d = nI C → (∀ e, e ≠ d → ch e = a_choicesAt e) → cu_K n (cu_cost (cu_ln c) n) (cu_ok n w on st) (fun S => Qm S ∨ cu_R n T B C S) bs' f' → post (nI n, nI on, nI (cu_cost (cu_ln c) n bs'), nI bs', nI f', f_current, a_rows, a_words, a_allowed, a_joined, a_list, a_takenAt, a_barredAt, ch)) : wpX_open post (nI n, nI on, nI (cu_cost (cu_ln c) n bs), nI bs, nI f, f_current, a_rows, a_words, a_allowed, a_joined, a_list, a_takenAt, a_barredAt, a_choicesAt) (nI d) := by
  unfold wpX_open
  have hn := hP.1
  have hp := cu_pw hn
  have hT16 := cu_2p hn hT
  have hb : bs < 2 ^ n := K.1.1
  have hb16 := cu_2p hn hb
  have hf : f ≤ 2 ^ n := by rw [K.2.2.1]; exact cu_cn_b _ _
  have hm := cu_mon_c c hn
  have hin : vp_in (nI d) 34 := vp_in_nI hd (by decide)
  refine And.intro hin ?_
  rw [nI_clamp (by omega), htk]
  refine nm_e (cx_uncovered hP hT16 (And.intro hin (nm_e ?_)))
  have hl := cu_unc_lt (w := w) (S := T) ho n
  refine cu_if (nI_eq (b := 0) (by omega) (by decide)) (fun z => ?_) (fun z => ?_)
  · refine cx_offer hP hT hb (by omega) ?_
    exact h _ _ 0 _ cu_ch3_0 pk_us (fun e he => pk_un he) (cu_open_leaf hn hm hT hst hTB hD z K)
  · refine cx_ones hT16 (cx_bound hP hl (cx_ones hb16 ?_))
    have h1 := cu_ones_16 T
    have h2 := cu_ones_16 bs
    have h3 := (cu_bu_lt (w := w) (n := n) (left := cu_unc w on T n) 16).2
    rw [nI_add]
    refine cu_if (nI_leI (by omega) (by omega)) (fun y => ?_) (fun y => ?_)
    · refine cx_open58 hP hd hl z hba (fun r ch hr h4 h5 => ?_)
      exact h _ _ _ _ (cu_ch3_r hr) h4 h5 (cu_open_branch hm hr K)
    · exact h _ _ 0 _ cu_ch3_0 pk_us (fun e he => pk_un he) (cu_open_prune hn hm (by omega) K)
end
end
section
/-! the component's search: the loop over the stack, the whole -/
section
variable {f_count f_ons f_bestCost f_bestSet f_found f_current : Int32} {a_rows a_words a_allowed a_joined a_list a_takenAt a_barredAt a_choicesAt : Nat → Int32} {n on st : Nat} {w c : Nat → Nat}
theorem cu_Q_0 {n : Nat} {T B C : Nat → Nat} (S : Nat) : cu_Q n 0 T B C S ↔ False := ⟨fun ⟨e, he, _⟩ => absurd he (by omega), fun z => z.elim⟩
def cu_Ar (m : Nat) (T B C : Nat → Nat) (tk ba ch : Nat → Int32) : Prop := ∀ e, e < m → tk e = nI (T e) ∧ ba e = nI (B e) ∧ ch e = nI (C e)
theorem cx_loop {post : SX → Prop} (hP : cu_Pl n c w a_list a_words) (ho : on < 2 ^ 16) (h : ∀ (bs f : Nat) (tk ba ch : Nat → Int32), cu_K n (cu_cost (cu_ln c) n) (cu_ok n w on st) (fun _ => False) bs f → post (nI n, nI on, nI (cu_cost (cu_ln c) n bs), nI bs, nI f, f_current, a_rows, a_words, a_allowed, a_joined, a_list, tk, ba, ch)) : ∀ (N m s bs f : Nat) (T B C : Nat → Nat) (tk ba ch : Nat → Int32) (x2 : Int32), x2 = nI m + (-1) → cu_St n st m T B C → cu_Ar m T B C tk ba ch → cu_K n (cu_cost (cu_ln c) n) (cu_ok n w on st) (cu_Q n m T B C) bs f → s + 2 * cu_cn (cu_Q n m T B C) (2 ^ n) + m ≤ 131072 → 2 * cu_cn (cu_Q n m T B C) (2 ^ n) + m < N → wX_search_73 post N x2 (nI s) (nI n) (nI on) (nI (cu_cost (cu_ln c) n bs)) (nI bs) (nI f) f_current a_rows a_words a_allowed a_joined a_list tk ba ch := by
  have hn := hP.1
  have hp := cu_pw hn
  intro N
  induction N with
  | zero => intro m s bs f T B C tk ba ch x2 _ _ _ _ _ hN; omega
  | succ N ih =>
    intro m s bs f T B C tk ba ch x2 hx2 hSt hAr K hs hN
    refine br_f (nI_ge (b := 400000) (by omega) (by decide)) ?_
    cases m with
    | zero =>
      refine br_t (by rw [hx2]; decide) ?_
      exact h bs f tk ba ch (cu_K_cg (fun S => cu_Q_0 S) K)
    | succ m =>
      rw [pk_m1] at hx2
      subst hx2
      obtain ⟨a1, a2, a3⟩ := hAr m (by omega)
      have hL := hSt.1 m (by omega)
      obtain ⟨l1, l2, l3, l4, l5, l6⟩ := hL
      have hm16 := cu_ones_16 (T m)
      have hin : vp_in (nI m) 34 := vp_in_nI (by omega) (by decide)
      have hin1 : vp_in (nI m + 1) 34 := by rw [nI_1]; exact vp_in_nI (by omega) (by decide)
      refine br_f (nI_pos (by omega)) (And.intro hin ?_)
      rw [nI_clamp (by omega), a3]
      have hC31 : C m < 2 ^ 31 := Nat.lt_of_lt_of_le l5.1 (by omega)
      refine cu_if (nI_eq (b := 0) hC31 (by decide)) (fun z => ?_) (fun z => ?_)
      · have e : cu_cn (cu_Q n (m + 1) T B C) (2 ^ n) = cu_cn (cu_Q n m T B C) (2 ^ n) := cu_cn_cg (fun S _ => cu_Q_pop z S)
        rw [e] at hs hN
        refine nm_e (nm_r (nI_1 s) (ih m (s + 1) bs f T B C tk ba ch _ rfl (cu_St_pop hSt) (fun e he => hAr e (by omega)) (cu_K_cg (fun S => cu_Q_pop z S) K) (by omega) (by omega)))
      · obtain ⟨j, j1, j2, j3, j4⟩ := cu_low l5.1 (by omega) z
        refine And.intro hin (And.intro hin (nm_r j4 (And.intro hin (And.intro hin ?_))))
        rw [cu_not]
        refine nm_e (And.intro hin (And.intro hin1 ?_))
        rw [nI_1, nI_clamp (by omega), a1, cu_or]
        refine nm_e (And.intro hin (And.intro (vp_in_nI (by omega) (by decide)) ?_))
        rw [a2]
        refine nm_e (And.intro hin (And.intro hin ?_))
        have e83 : upd ba (m + 1) (nI (B m)) m = nI (B m) := by rw [pk_un (by omega)]; exact a2
        rw [e83, cu_or]
        refine nm_e (nm_e ?_)
        have K' := cu_K_cg (fun S => cu_push_Q j2 S) K
        have hTB : ∀ i, (B m).testBit i = true → (T m ||| 2 ^ j).testBit i = false := by
          intro i hi
          refine cu_or2f (l4 i hi) (fun q => ?_)
          rw [q, l5.2.2 j j2] at hi; cases hi
        refine cx_open (T := T m ||| 2 ^ j) (B := B m) hP ho (by omega) (Nat.or_lt_two_pow l1 (Nat.pow_lt_pow_right (by decide) j1)) (fun i hi => cu_or2.mpr (Or.inl (l3 i hi))) hTB (fun S hS => cu_push_D hSt S hS) pk_us (by rw [pk_un (by omega), pk_us]) K' ?_
        intro bs' f' D ch' hD hch1 hch2 K2
        have hlt := cu_push_lt hSt j2 hD
        have K3 := cu_K_cg (fun S => (cu_push_Qn (T := T) (B := B) (C := C) (n := n) (m := m) (k := j) (D := D) S).symm) K2
        have ecn : cu_cn (cu_Q n (m + 2) (cu_up1 T (m + 1) (T m ||| 2 ^ j)) (cu_up1 (cu_up1 B (m + 1) (B m)) m (B m ||| 2 ^ j)) (cu_up1 (cu_up1 C m (cu_dif (C m) (2 ^ j))) (m + 1) D)) (2 ^ n) = cu_cn (fun S => cu_Qm n m j T B C S ∨ cu_R n (T m ||| 2 ^ j) (B m) D S) (2 ^ n) := cu_cn_cg (fun S _ => cu_push_Qn S)
        refine nm_r (nI_1 s) (ih (m + 2) (s + 1) bs' f' _ _ _ _ _ ch' _ (pk_m1 (m + 1)).symm (cu_push_St hn hSt j2 hD) ?_ K3 (by rw [ecn]; omega) (by rw [ecn]; omega))
        intro e he
        rcases Nat.lt_trichotomy e m with q | q | q
        · rw [cu_up1_n (by omega), cu_up1_n (by omega), cu_up1_n (by omega), cu_up1_n (by omega), cu_up1_n (by omega), pk_un (by omega), pk_un (by omega), pk_un (by omega), hch2 e (by omega), pk_un (by omega)]
          exact hAr e (by omega)
        · subst q
          rw [cu_up1_n (by omega), cu_up1_s, cu_up1_n (by omega), cu_up1_s, pk_un (by omega), pk_us, hch2 e (by omega), pk_us]
          exact ⟨a1, rfl, rfl⟩
        · have : e = m + 1 := by omega
          subst this
          rw [cu_up1_s, cu_up1_n (by omega), cu_up1_s, cu_up1_s, pk_us, pk_un (by omega), pk_us, hch1]
          exact ⟨rfl, rfl, rfl⟩
/-! needed primes -/
theorem cu_nd_lt {w : Nat → Nat} {on n : Nat} : ∀ k, cu_nd w on n k < 2 ^ n
  | 0 => Nat.two_pow_pos n
  | k + 1 => by
    rw [cu_nd]
    split
    · exact Nat.or_lt_two_pow (cu_nd_lt k) (cu_hold_lt _ _ _)
    · exact cu_nd_lt k
/-- a prime is needed: some row on has it alone -/
theorem cu_nd_tb {w : Nat → Nat} {on n i : Nat} : ∀ {k : Nat}, (cu_nd w on n k).testBit i = true ↔ ∃ r, r < k ∧ on.testBit r = true ∧ nI (cu_hold w r n) &&& (nI (cu_hold w r n) - 1) = 0 ∧ (cu_hold w r n).testBit i = true
  | 0 => ⟨fun h => cu_0f h, fun ⟨r, hr, _⟩ => absurd hr (by omega)⟩
  | k + 1 => by
    rw [cu_nd]
    by_cases e : on.testBit k = true ∧ nI (cu_hold w k n) &&& (nI (cu_hold w k n) - 1) = 0
    · rw [if_pos e, Nat.testBit_or, Bool.or_eq_true, cu_nd_tb]
      constructor
      · rintro (⟨r, hr, z⟩ | z)
        · exact ⟨r, by omega, z⟩
        · exact ⟨k, by omega, e.1, e.2, z⟩
      · rintro ⟨r, hr, z1, z2, z3⟩
        rcases Nat.lt_or_ge r k with y | y
        · exact Or.inl ⟨r, y, z1, z2, z3⟩
        · have : r = k := by omega
          subst this; exact Or.inr z3
    · rw [if_neg e, cu_nd_tb]
      constructor
      · rintro ⟨r, hr, z⟩
        exact ⟨r, by omega, z⟩
      · rintro ⟨r, hr, z1, z2, z3⟩
        rcases Nat.lt_or_ge r k with y | y
        · exact ⟨r, y, z1, z2, z3⟩
        · have : r = k := by omega
          subst this; exact absurd ⟨z1, z2⟩ e
theorem cu_single {h i j : Nat} (hh : h < 2 ^ 16) (h1 : nI h &&& (nI h - 1) = 0) (hi : h.testBit i = true) (hj : h.testBit j = true) : i = j := by
  have li := cu_tbl hh hi
  have lj := cu_tbl hh hj
  rcases Nat.lt_trichotomy i j with z | z | z
  · rw [cu_one.mp h1 j i (by omega) z hi] at hj; cases hj
  · exact z
  · rw [cu_one.mp h1 i j (by omega) z hj] at hi; cases hi
theorem cu_nd_sub {w : Nat → Nat} {on n S i : Nat} (hn : n ≤ 16) (hc : cu_cov n w on S) (hi : (cu_nd w on n 16).testBit i = true) : S.testBit i = true := by
  obtain ⟨r, hr, h1, h2, h3⟩ := cu_nd_tb.mp hi
  obtain ⟨j, hj, hs, hw⟩ := hc r h1
  have e := cu_single (cu_2p hn (cu_hold_lt w r n)) h2 h3 (cu_hold_tb.mpr ⟨hj, hw⟩)
  rw [e]; exact hs
theorem cu_all_ok {w : Nat → Nat} {on n st : Nat} (hst : st < 2 ^ n) (hcov : ∀ r, on.testBit r = true → ∃ i, i < n ∧ (w i).testBit r = true) : cu_ok n w on st (2 ^ n - 1) := by
  refine ⟨by have := Nat.two_pow_pos n; omega, fun i hi => ?_, fun r hr => ?_⟩
  · rw [Nat.testBit_two_pow_sub_one]
    exact decide_eq_true (cu_tbl hst hi)
  · obtain ⟨i, hi, hw⟩ := hcov r hr
    exact ⟨i, hi, by rw [Nat.testBit_two_pow_sub_one]; exact decide_eq_true hi, hw⟩
theorem cx_search0 {post : SX → Prop} (hP : cu_Pl n c w a_list a_words) (ho : on < 2 ^ 16) (hst : st < 2 ^ n) (hcov : ∀ r, on.testBit r = true → ∃ i, i < n ∧ (w i).testBit r = true) (h : ∀ (bs f : Nat) (bc : Int32) (tk ba ch : Nat → Int32), cu_best (cu_cost (cu_ln c) n) (cu_ok n w on st) bs → f = cu_cn (fun S => cu_ok n w on st S ∧ cu_ones S = cu_ones bs) (2 ^ n) → post (nI n, nI on, bc, nI bs, nI f, f_current, a_rows, a_words, a_allowed, a_joined, a_list, tk, ba, ch)) : ∀ z : Int32, z = ((1 : Int32) <<< (nI n &&& 31)) - 1 → wpX_ones (fun r_17 => wpX_lengthOf (fun r_18 => ∀ y : Int32, y = (1000 * r_17) + r_18 → wpX_neededSet (fun r_34 => ∀ tk : Nat → Int32, tk = upd a_takenAt 0 (nI st ||| r_34) → ∀ ba : Nat → Int32, ba = upd a_barredAt 0 0 → wpX_open (fun u => match u with | (f_countz, f_onsz, f_bestCostz, f_bestSetz, f_foundz, f_currentz, a_rowsz, a_wordsz, a_allowedz, a_joinedz, a_listz, a_takenAtz, a_barredAtz, a_choicesAtz) => (∃ n73 : Nat, wX_search_73 post n73 0 0 f_countz f_onsz f_bestCostz f_bestSetz f_foundz f_currentz a_rowsz a_wordsz a_allowedz a_joinedz a_listz a_takenAtz a_barredAtz a_choicesAtz)) (nI n, nI on, y, z, 0, f_current, a_rows, a_words, a_allowed, a_joined, a_list, tk, ba, a_choicesAt) 0) (nI n, nI on, y, z, 0, f_current, a_rows, a_words, a_allowed, a_joined, a_list, a_takenAt, a_barredAt, a_choicesAt)) (nI n, nI on, f_bestCost, z, f_found, f_current, a_rows, a_words, a_allowed, a_joined, a_list, a_takenAt, a_barredAt, a_choicesAt) z) z := by
  have hn := hP.1
  have hp := cu_pw hn
  have hpos := Nat.two_pow_pos n
  have e1 : ((1 : Int32) <<< (nI n &&& 31)) - 1 = nI (2 ^ n - 1) := by
    rw [cu_shl1 n (by omega)]
    exact pk_sub (b := 1) (by omega)
  have hall := cu_all_ok hst hcov
  have ha : 2 ^ n - 1 < 2 ^ 16 := by omega
  refine nm_r e1 (cx_ones ha (cx_lengthOf hP ha (nm_r (e' := nI (cu_cost (cu_ln c) n (2 ^ n - 1))) (cu_1000 _ _) (cx_neededSet hP ho ?_))))
  rw [cu_or]
  refine nm_e (nm_e ?_)
  have hT : st ||| cu_nd w on n 16 < 2 ^ n := Nat.or_lt_two_pow hst (cu_nd_lt 16)
  have hN : ∀ S, cu_ok n w on st S → cu_N n (st ||| cu_nd w on n 16) 0 S := by
    intro S hS
    refine ⟨hS.1, fun i hi => ?_, fun i hi => cu_0f hi⟩
    rw [Nat.testBit_or, Bool.or_eq_true] at hi
    rcases hi with z | z
    · exact hS.2.1 i z
    · exact cu_nd_sub hn hS.2.2 z
  have K0 : cu_K n (cu_cost (cu_ln c) n) (cu_ok n w on st) (fun S => False ∨ cu_N n (st ||| cu_nd w on n 16) 0 S) (2 ^ n - 1) 0 := by
    refine ⟨hall, fun S hS hq => absurd (Or.inr (hN S hS)) hq, ?_, fun _ => rfl⟩
    exact (cu_cn_0 (fun S _ hS => hS.2.1 (Or.inr (hN S hS.1)))).symm
  refine cx_open (d := 0) (st := st) hP ho (by decide) hT (fun i hi => by rw [Nat.testBit_or, hi]; rfl) (fun i hi => cu_0f hi) (fun S _ z => z) pk_us pk_us K0 ?_
  intro bs' f' C ch hC hch _ K
  try dsimp only
  have hQ : ∀ S, (False ∨ cu_R n (st ||| cu_nd w on n 16) 0 C S) ↔ cu_Q n 1 (fun _ => st ||| cu_nd w on n 16) (fun _ => 0) (fun _ => C) S := by
    intro S
    constructor
    · rintro (z | z)
      · exact z.elim
      · exact ⟨0, by omega, z⟩
    · rintro ⟨e, he, z⟩
      exact Or.inr z
  have K1 := cu_K_cg hQ K
  have hcn : cu_cn (cu_Q n 1 (fun _ => st ||| cu_nd w on n 16) (fun _ => 0) (fun _ => C)) (2 ^ n) < cu_cn (fun _ => True) (2 ^ n) := by
    refine cu_cn_lt (k := st ||| cu_nd w on n 16) (fun _ _ _ => trivial) hT ?_ trivial
    rintro ⟨e, he, _, i, hi, hs⟩
    rw [hC.2.1 i hi] at hs; cases hs
  have hcb := cu_cn_b (fun _ => True) (2 ^ n)
  refine ⟨131073, cx_loop hP ho ?_ 131073 1 0 bs' f' _ _ _ _ _ ch 0 (by decide) ?_ ?_ K1 (by omega) (by omega)⟩
  · intro bs f tk ba ch' K2
    refine h bs f _ tk ba ch' ⟨K2.1, fun S hS => K2.2.1 S hS (fun z => z)⟩ ?_
    rw [K2.2.2.1]
    exact cu_cn_cg (fun S _ => ⟨fun z => ⟨z.1, z.2.2⟩, fun z => ⟨z.1, fun q => q, z.2⟩⟩)
  · refine ⟨fun e he => ⟨hT, hpos, fun i hi => by rw [Nat.testBit_or, hi]; rfl, fun i hi => cu_0f hi, hC, by omega⟩, fun g hg e he => by omega⟩
  · intro e he
    have : e = 0 := by omega
    subst this
    exact ⟨pk_us, pk_us, hch⟩
end
end
section
/-! the reference's small methods, and its work -/
section
variable {g_count : Int32} {b_how b_primes b_fits b_rows : Nat → Int32} {n on : Nat} {w c : Nat → Nat}
theorem cy_digit {post : Int32 → Prop} {c b : Nat} (hc : c < 81) (hb : b < 4) (h : post (nI (cu_dg c b))) : wpY_digit post (g_count, b_how, b_primes, b_fits, b_rows) (nI c) (nI b) := by
  unfold wpY_digit
  have hb4 : b = 0 ∨ b = 1 ∨ b = 2 ∨ b = 3 := by omega
  rcases hb4 with rfl | rfl | rfl | rfl
  · refine br_t rfl ⟨by decide, ?_⟩
    have e : nI c / 27 = nI (cu_dg c 0) := by
      rw [show nI c / 27 = nI (c / 27) from pk_div (d := 27) (by omega) (by decide) (by decide)]
      unfold cu_dg
      rw [Nat.mod_eq_of_lt (a := c / 3 ^ (3 - 0)) (by show c / 27 < 3; omega)]
    rw [e]; exact h
  · refine br_f (by decide) (br_t rfl ⟨by decide, by decide, ?_⟩)
    have e : nI c / 9 - nI c / 9 / 3 * 3 = nI (cu_dg c 1) := by
      rw [show nI c / 9 = nI (c / 9) from pk_div (d := 9) (by omega) (by decide) (by decide)]
      exact pk_rem (d := 3) (by omega) (by decide) (by decide)
    rw [e]; exact h
  · refine br_f (by decide) (br_f (by decide) (br_t rfl ⟨by decide, by decide, ?_⟩))
    have e : nI c / 3 - nI c / 3 / 3 * 3 = nI (cu_dg c 2) := by
      rw [show nI c / 3 = nI (c / 3) from pk_div (d := 3) (by omega) (by decide) (by decide)]
      exact pk_rem (d := 3) (by omega) (by decide) (by decide)
    rw [e]; exact h
  · refine br_f (by decide) (br_f (by decide) (br_f (by decide) ⟨by decide, ?_⟩))
    have e : nI c - nI c / 3 * 3 = nI (cu_dg c 3) := by
      rw [show nI c - nI c / 3 * 3 = nI (c % 3) from pk_rem (d := 3) (by omega) (by decide) (by decide)]
      unfold cu_dg
      rw [show c / 3 ^ (3 - 3) = c from Nat.div_one c]
    rw [e]; exact h
theorem cu_dg2' (c b : Nat) : (2 : Int32) ≤ nI (cu_dg c b) ↔ cu_dg c b = 2 := by
  have := cu_dg_lt c b
  exact (nI_leI (a := 2) (by decide) (by omega)).trans (by omega)
theorem cy_has {post : Int32 → Prop} {c r : Nat} (hc : c < 81) (hr : r < 16) (h : post (nI (cu_hs c r).toNat)) : wpY_has post (g_count, b_how, b_primes, b_fits, b_rows) (nI c) (nI r) := by
  unfold wpY_has
  refine cu_scan (fun n b => wY_has_2 post (nI c) (nI r) g_count b_how b_primes b_fits b_rows n (nI b)) (fun b => cu_dg c b == 2 || cu_dg c b == (r.testBit (3 - b)).toNat) 4 ?_ ?_ ?_
  · intro n hq
    refine cu_ex 4 ?_
    have e : cu_hs c r = true := cu_all_iff.mpr hq
    rw [e] at h
    exact h
  · intro n b hb _ hq
    refine cu_go 4 hb (cy_digit hc hb ?_)
    have e : cu_hs c r = false := cu_all_f hb hq
    rw [e] at h
    simp only [Bool.or_eq_false_iff, beq_eq_false_iff_ne] at hq
    refine br_f (fun z => hq.1 ((cu_dg2' c b).mp z)) (br_f (fun z => hq.2 ?_) h)
    rw [cu_3s hb, cu_bit (by omega) (by omega)] at z
    exact (nI_eq (by have := cu_dg_lt c b; omega) (by cases r.testBit (3 - b) <;> decide)).mp z
  · intro n b hb hq ih
    refine cu_go 4 hb (cy_digit hc hb ?_)
    refine br_c (fun _ => nm_r (nI_1 b) ih) (fun z => br_t ?_ (nm_r (nI_1 b) ih))
    rw [cu_3s hb, cu_bit (by omega) (by omega)]
    simp only [Bool.or_eq_true, beq_iff_eq] at hq
    rcases hq with q | q
    · exact absurd ((cu_dg2' c b).mpr q) z
    · rw [q]
theorem cu_b01 {b : Bool} : nI b.toNat = 0 ↔ ¬ b = true := by cases b <;> decide
theorem cy_rowsOf {post : Int32 → Prop} {c : Nat} (hc : c < 81) (h : post (nI (cu_wd c))) : wpY_rowsOf post (g_count, b_how, b_primes, b_fits, b_rows) (nI c) := by
  unfold wpY_rowsOf
  refine cu_fold (fun n i s => wY_rowsOf_4 post (nI c) g_count b_how b_primes b_fits b_rows n s (nI i)) (fun i => nI (cu_mk (cu_hs c) i)) 16 ?_ ?_
  · intro n
    exact cu_ex 16 h
  · intro n i hi ih
    refine cu_go 16 hi (cy_has hc hi ?_)
    refine cu_if cu_b01 (fun z => ?_) (fun z => ?_)
    · rw [← cu_mk_no (p := cu_hs c) (Bool.eq_false_iff.mpr z)] at ih
      exact nm_r (nI_1 i) ih
    · have z' : cu_hs c i = true := Classical.not_not.mp z
      refine nm_r (e' := nI (cu_mk (cu_hs c) (i + 1))) ?_ (nm_r (nI_1 i) ih)
      rw [cu_shl1 i (by omega), cu_or, cu_mk_or z']
theorem cu_k14 : ∀ c, c < 81 → cu_sum (fun b => if cu_dg c b = 2 then 0 else 1) 4 = 4 - cu_fb c := by decide +kernel
theorem cy_length {post : Int32 → Prop} {c : Nat} (hc : c < 81) (h : post (nI (4 - cu_fb c))) : wpY_length post (g_count, b_how, b_primes, b_fits, b_rows) (nI c) := by
  unfold wpY_length
  refine cu_fold (fun n i s => wY_length_4 post (nI c) g_count b_how b_primes b_fits b_rows n s (nI i)) (fun i => nI (cu_sum (fun b => if cu_dg c b = 2 then 0 else 1) i)) 4 ?_ ?_
  · intro n
    refine cu_ex 4 ?_
    try dsimp only
    rw [cu_k14 c hc]
    exact h
  · intro n i hi ih
    refine cu_go 4 hi (cy_digit hc hi ?_)
    refine cu_if (cu_dg2' c i) (fun z => ?_) (fun z => ?_)
    · rw [cu_sum, if_pos z] at ih
      exact nm_r (nI_1 i) ih
    · refine nm_r (e' := nI (cu_sum (fun b => if cu_dg c b = 2 then 0 else 1) (i + 1))) ?_ (nm_r (nI_1 i) ih)
      rw [cu_sum, if_neg z]
      exact nI_1 _
theorem cy_badRow_0 {post : Int32 → Prop} {r : Nat} (hr : r < 16) (h : post 0) : wpY_badRow post (g_count, b_how, b_primes, b_fits, b_rows) (nI r) := by
  unfold wpY_badRow
  exact br_f (nI_pos (by omega)) (br_t (nI_le (b := 15) (by omega) (by decide)) h)
theorem cu_big {x : Int32} {N : Nat} (hN : N + 1 < 2 ^ 31) (hx : x < 0 ∨ nI (N + 1) ≤ x) (z : ¬ x < 0) : ¬ x ≤ nI N := by
  intro y
  have h1 := Int32.le_iff_toInt_le.mp (hx.resolve_left z)
  have h2 := Int32.le_iff_toInt_le.mp y
  rw [nI_toInt (by omega)] at h1 h2
  omega
theorem cy_badRow_1 {post : Int32 → Prop} {x : Int32} (hx : x < 0 ∨ nI 16 ≤ x) (h : post 1) : wpY_badRow post (g_count, b_how, b_primes, b_fits, b_rows) x := by
  unfold wpY_badRow
  exact br_c (fun _ => h) (fun z => br_f (cu_big (N := 15) (by decide) hx z) h)
theorem cy_badCube_0 {post : Int32 → Prop} {r : Nat} (hr : r < 81) (h : post 0) : wpY_badCube post (g_count, b_how, b_primes, b_fits, b_rows) (nI r) := by
  unfold wpY_badCube
  exact br_f (nI_pos (by omega)) (br_t (nI_le (b := 80) (by omega) (by decide)) h)
theorem cy_badCube_1 {post : Int32 → Prop} {x : Int32} (hx : x < 0 ∨ nI 81 ≤ x) (h : post 1) : wpY_badCube post (g_count, b_how, b_primes, b_fits, b_rows) x := by
  unfold wpY_badCube
  exact br_c (fun _ => h) (fun z => br_f (cu_big (N := 80) (by decide) hx z) h)
theorem cy_ones {post : Int32 → Prop} {m : Nat} (hm : m < 2 ^ 16) (h : post (nI (cu_ones m))) : wpY_ones post (g_count, b_how, b_primes, b_fits, b_rows) (nI m) := by
  unfold wpY_ones
  refine cu_fold (fun n i s => wY_ones_4 post (nI m) g_count b_how b_primes b_fits b_rows n s (nI i)) (fun i => nI (cu_sum (fun k => (m.testBit k).toNat) i)) 16 ?_ ?_
  · intro n
    exact cu_ex 16 h
  · intro n i hi ih
    refine cu_go 16 hi (nm_r (e' := nI (cu_sum (fun k => (m.testBit k).toNat) (i + 1))) ?_ (nm_r (nI_1 i) ih))
    rw [cu_bit (cu_p31 hm) (by omega), cu_sum, nI_add]
def cu_th (h : Nat → Int32) (x : Int32) (k : Nat) : Nat := cu_mk (fun r => decide (h r = x)) k
theorem cy_those {post : Int32 → Prop} {x : Int32} (h : post (nI (cu_th b_how x 16))) : wpY_those post (g_count, b_how, b_primes, b_fits, b_rows) x := by
  unfold wpY_those
  refine cu_fold (fun n i s => wY_those_4 post x g_count b_how b_primes b_fits b_rows n s (nI i)) (fun i => nI (cu_th b_how x i)) 16 ?_ ?_
  · intro n
    exact cu_ex 16 h
  · intro n i hi ih
    refine cu_go 16 hi (And.intro (vp_in_nI hi (by decide)) ?_)
    rw [nI_clamp (by omega)]
    refine br_c (fun z => ?_) (fun z => ?_)
    · refine nm_r (e' := nI (cu_th b_how x (i + 1))) ?_ (nm_r (nI_1 i) ih)
      rw [cu_shl1 i (by omega), cu_or]
      exact congrArg nI (cu_mk_or (p := fun r => decide (b_how r = x)) (decide_eq_true z))
    · have e : cu_th b_how x i = cu_th b_how x (i + 1) := cu_mk_no (p := fun r => decide (b_how r = x)) (decide_eq_false z)
      rw [← e] at ih
      exact nm_r (nI_1 i) ih
theorem cu_th_lt (h : Nat → Int32) (x : Int32) : cu_th h x 16 < 2 ^ 16 := cu_mk_lt _ _
theorem cu_off {h : Nat → Int32} {c : Nat} : (nI (cu_wd c) &&& nI (cu_th h 0 16) = 0) ↔ cu_A (cu_av h) c = true := by
  rw [nx_and]
  refine (nI_eq (b := 0) (Nat.lt_of_lt_of_le (Nat.and_lt_two_pow _ (cu_th_lt h 0)) (by decide)) (by decide)).trans ?_
  rw [cu_disj, cu_A_wd]
  have e : ∀ r, r < 16 → ((cu_th h 0 16).testBit r = false ↔ (cu_av h).testBit r = true) := by
    intro r hr
    unfold cu_th
    rw [cu_mk_tb, decide_eq_true hr, Bool.true_and, cu_av_tb hr, decide_eq_false_iff_not, decide_eq_true_iff]
  constructor
  · intro z r hr
    exact (e r (cu_tbl (cu_wd_lt c) hr)).mp (z r hr)
  · intro z r hr
    exact (e r (cu_tbl (cu_wd_lt c) hr)).mpr (z r hr)
/-- the flag of a prime while the greater cubes are tried -/
def cu_pf (m c j : Nat) : Bool := cu_A m c && cu_all (fun d => d == c || !cu_A m d || !(cu_wd c &&& cu_wd d == cu_wd c)) j
theorem cu_pf_end {m c : Nat} (hc : c < 81) : cu_pf m c 81 = cu_P m c := by
  apply Bool.eq_iff_iff.mpr
  rw [cu_P_ref hc]
  unfold cu_pf
  rw [Bool.and_eq_true, cu_all_iff]
  constructor
  · rintro ⟨h1, h2⟩
    refine ⟨h1, fun d hd hne hA hs => ?_⟩
    have := h2 d hd
    rw [hA, hs, beq_eq_false_iff_ne.mpr hne, beq_self_eq_true] at this
    cases this
  · rintro ⟨h1, h2⟩
    refine ⟨h1, fun d hd => ?_⟩
    by_cases e : d = c
    · rw [e, beq_self_eq_true]; rfl
    · cases eA : cu_A m d
      · rw [Bool.not_false, Bool.or_true, Bool.true_or]
      · have := h2 d hd e eA
        rw [beq_eq_false_iff_ne.mpr this, Bool.not_false, Bool.or_true]
theorem cu_pf_s {m c j : Nat} (h : (j == c || !cu_A m j || !(cu_wd c &&& cu_wd j == cu_wd c)) = true) : cu_pf m c (j + 1) = cu_pf m c j := by
  unfold cu_pf
  rw [cu_all, h, Bool.and_true]
theorem cu_pf_n {m c j : Nat} (h : (j == c || !cu_A m j || !(cu_wd c &&& cu_wd j == cu_wd c)) = false) : cu_pf m c (j + 1) = false := by
  unfold cu_pf
  rw [cu_all, h, Bool.and_false, Bool.and_false]
theorem cy_w65 {post : SY → Prop} {J : Int32 → Int32 → (Nat → Int32) → (Nat → Int32) → (Nat → Int32) → (Nat → Int32) → Prop} {m i : Nat} (hi : i < 81) (hR : cu_Wd b_rows) (hF : ∀ c, c < 81 → b_fits c = nI (cu_A m c).toNat) (h0 : cu_P m i = false → J (nI (i + 1)) g_count b_how b_primes b_fits b_rows) (h1 : cu_P m i = true → (∀ x : Int32, x = nI (i + 1) → vp_in g_count 81 ∧ ∀ a : Nat → Int32, a = upd b_primes g_count.toNatClampNeg (nI i) → ∀ k : Int32, k = g_count + 1 → J x k b_how a b_fits b_rows)) : ∃ q, wY_work_65 post J (nI i) g_count b_how b_primes b_fits b_rows q (b_fits (nI i).toNatClampNeg) 0 := by
  have e0 : b_fits (nI i).toNatClampNeg = nI (cu_pf m i 0).toNat := by
    rw [nI_clamp (by omega), hF i hi]
    unfold cu_pf
    rw [cu_all, Bool.and_true]
  rw [e0]
  refine cu_fold (fun q j s => wY_work_65 post J (nI i) g_count b_how b_primes b_fits b_rows q s (nI j)) (fun j => nI (cu_pf m i j).toNat) 81 ?_ ?_
  · intro q
    refine cu_ex 81 ?_
    try dsimp only
    rw [cu_pf_end hi]
    refine cu_if cu_t0 (fun z => nm_r (nI_1 i) (h0 z)) (fun z => ?_)
    obtain ⟨k1, k2⟩ := h1 (Bool.not_eq_false _ ▸ z) _ rfl
    exact ⟨k1, fun a ea k ek => nm_r (nI_1 i) (k2 a ea k ek)⟩
  · intro q j hj ih
    refine cu_go 81 hj ?_
    refine cu_if (nI_eq (by omega) (by omega)) (fun z => ?_) (fun z => ?_)
    · rw [cu_pf_s (by rw [z, beq_self_eq_true]; rfl)] at ih
      exact nm_r (nI_1 j) ih
    · refine And.intro (vp_in_nI hj (by decide)) ?_
      rw [nI_clamp (by omega), nI_clamp (by omega), hF j hj, hR i hi, hR j hj]
      refine cu_if cu_t0 (fun y => ?_) (fun y => ?_)
      · rw [cu_pf_s (by rw [y, Bool.not_false, Bool.or_true, Bool.true_or])] at ih
        exact nm_r (nI_1 j) ih
      · have y' : cu_A m j = true := by
          cases e : cu_A m j
          · exact absurd e y
          · rfl
        refine And.intro (vp_in_nI hi (by decide)) (And.intro (vp_in_nI hj (by decide)) (And.intro (vp_in_nI hi (by decide)) ?_))
        have l1 := cu_wd_lt i
        rw [nx_and]
        refine cu_if (nI_eq (Nat.lt_of_lt_of_le (Nat.and_lt_two_pow _ (cu_wd_lt j)) (by decide)) (by omega)) (fun x => ?_) (fun x => ?_)
        · rw [cu_pf_n (by rw [beq_eq_false_iff_ne.mpr z, y', x, beq_self_eq_true]; rfl)] at ih
          exact nm_r (nI_1 j) ih
        · rw [cu_pf_s (by rw [beq_eq_false_iff_ne.mpr x, Bool.not_false, Bool.or_true])] at ih
          exact nm_r (nI_1 j) ih
theorem cy_w49 {post : SY → Prop} {m : Nat} (hm : m < 2 ^ 16) (hR : cu_Wd b_rows) (hF : ∀ c, c < 81 → b_fits c = nI (cu_A m c).toNat) (h : post (nI (cu_n m), b_how, cu_li b_primes m 81, b_fits, b_rows)) : ∃ q, wY_work_49 post q 0 0 b_how b_primes b_fits b_rows := by
  refine cu_fold (fun q i (s : Int32 × (Nat → Int32)) => wY_work_49 post q (nI i) s.1 b_how s.2 b_fits b_rows) (fun i => (nI (cu_L m i).length, cu_li b_primes m i)) 81 ?_ ?_
  · intro q
    exact cu_ex 81 h
  · intro q i hi ih
    have hl := cu_L_mono (m := m) (N := i) (M := 81) (by omega)
    have h15 := cu_n_15 hm
    unfold cu_n at h15
    refine cu_go 81 hi (And.intro (vp_in_nI hi (by decide)) (nm_e ?_))
    refine cy_w65 hi hR hF (fun z => ?_) (fun z => ?_)
    · rw [cu_L_f z, cu_li_f b_primes z] at ih
      exact ih
    · intro x hx
      refine ⟨vp_in_nI (by omega) (by decide), ?_⟩
      try dsimp only
      rw [nI_clamp (by omega)]
      refine nm_r (cu_li_t b_primes z) (nm_r (e' := nI (cu_L m (i + 1)).length) ?_ ?_)
      · rw [cu_L_t z, List.length_append, nI_1]
        rfl
      · rw [hx]
        exact ih
theorem cy_work {post : SY → Prop} (hR : cu_Wd b_rows) (h : ∀ fi pr : Nat → Int32, (∀ i, i < cu_n (cu_av b_how) → pr i = nI (cu_c (cu_av b_how) i)) → post (nI (cu_n (cu_av b_how)), b_how, pr, fi, b_rows)) : wpY_work post (g_count, b_how, b_primes, b_fits, b_rows) := by
  unfold wpY_work
  refine cy_those ?_
  have e0 : (fun c => if c < 0 then nI (cu_A (cu_av b_how) c).toNat else b_fits c) = b_fits := funext fun c => if_neg (by omega)
  have key := cu_fold (fun q i s => wY_work_8 post (nI (cu_th b_how 0 16)) g_count q (nI i) b_how b_primes s b_rows) (fun i => fun c => if c < i then nI (cu_A (cu_av b_how) c).toNat else b_fits c) 81 ?_ ?_
  · try dsimp only at key
    rw [e0] at key
    exact key
  · intro q
    refine cu_ex 81 ?_
    refine cy_w49 (m := cu_av b_how) (cu_av_lt _) hR (fun c hc => if_pos hc) (h _ _ (fun i hi => if_pos hi))
  · intro q i hi ih
    have es : ∀ x : Int32, x = nI (cu_A (cu_av b_how) i).toNat → upd (fun c => if c < i then nI (cu_A (cu_av b_how) c).toNat else b_fits c) i x = fun c => if c < i + 1 then nI (cu_A (cu_av b_how) c).toNat else b_fits c := by
      intro x hx
      funext c
      by_cases q : c = i
      · rw [q, pk_us, if_pos (by omega)]
        exact hx
      · rw [pk_un q]
        by_cases y : c < i
        · rw [if_pos y, if_pos (by omega)]
        · rw [if_neg y, if_neg (by omega)]
    refine cu_go 81 hi (And.intro (vp_in_nI hi (by decide)) ?_)
    rw [nI_clamp (by omega), hR i hi]
    refine cu_if cu_off (fun z => And.intro (vp_in_nI hi (by decide)) ?_) (fun z => And.intro (vp_in_nI hi (by decide)) ?_)
    · exact nm_r (es _ (by rw [z]; rfl)) (nm_r (nI_1 i) ih)
    · exact nm_r (es _ (by rw [Bool.eq_false_iff.mpr z]; rfl)) (nm_r (nI_1 i) ih)
end
end
section
/-! the reference's covers and its search -/
section
variable {g_count : Int32} {b_how b_primes b_fits b_rows : Nat → Int32} {n : Nat} {w c : Nat → Nat}
theorem cy_with {post : Int32 → SY → Prop} {r : Nat} (hP : cu_Pl n c w b_primes b_rows) (hr : r < 16) (h : post (nI (cu_hold w r n)) (nI n, b_how, b_primes, b_fits, b_rows)) : ∃ q, wY_primesWith_18 post (nI r) (nI n) b_how b_primes b_fits b_rows q 0 0 := by
  have hn := hP.1
  refine cu_fold (fun q i s => wY_primesWith_18 post (nI r) (nI n) b_how b_primes b_fits b_rows q s (nI i)) (fun i => nI (cu_hold w r i)) n ?_ ?_
  · intro q
    exact cu_ex n h
  · intro q i hi ih
    obtain ⟨e1, e2, e3, e4⟩ := hP.2 i hi
    refine cu_go n hi (And.intro (vp_in_nI (by omega) (by decide)) ?_) rfl (by omega)
    rw [nI_clamp (by omega), e1, nI_clamp (by omega), e4]
    refine And.intro (vp_in_nI e2 (by decide)) ?_
    refine cu_ib (cu_bit1 (cu_p31 (cu_Pl_w hP hi)) (by omega)) (fun z => ?_) (fun z => ?_)
    · refine nm_r (e' := nI (cu_hold w r (i + 1))) ?_ (nm_r (nI_1 i) ih)
      rw [cu_shl1 i (by omega), cu_or]
      exact congrArg nI (cu_mk_or (p := fun i => (w i).testBit r) z)
    · have e : cu_hold w r i = cu_hold w r (i + 1) := cu_mk_no (p := fun i => (w i).testBit r) z
      rw [← e] at ih
      exact nm_r (nI_1 i) ih
theorem cy_cover {post : Int32 → Prop} {S : Nat} (hP : cu_Pl n c w b_primes b_rows) (hS : S < 2 ^ 16) (h1 : cu_cov n w (cu_on b_how) S → post 1) (h0 : ¬ cu_cov n w (cu_on b_how) S → post 0) : wpY_cover post (nI n, b_how, b_primes, b_fits, b_rows) (nI S) := by
  unfold wpY_cover
  have hn := hP.1
  refine cu_fold (fun q i s => wY_cover_4 post (nI S) (nI n) b_how b_primes b_fits b_rows q s (nI i)) (fun i => nI (cu_got w S i)) n ?_ ?_
  · intro q
    refine cu_ex n (cy_those ?_)
    have e : cu_th b_how 1 16 = cu_on b_how := rfl
    rw [e, nx_and]
    have ho := cu_on_lt b_how
    refine cu_if ((nI_eq (Nat.lt_of_lt_of_le (Nat.and_lt_two_pow _ ho) (by decide)) (by omega)).trans cu_got_on) h1 h0
  · intro q i hi ih
    obtain ⟨e1, e2, e3, e4⟩ := hP.2 i hi
    refine cu_go n hi ?_ rfl (by omega)
    refine cu_ib (cu_bit1 (cu_p31 hS) (by omega)) (fun z => ?_) (fun z => ?_)
    · refine And.intro (vp_in_nI (by omega) (by decide)) ?_
      rw [nI_clamp (by omega), e1, nI_clamp (by omega), e4]
      refine And.intro (vp_in_nI e2 (by decide)) ?_
      refine nm_r (e' := nI (cu_got w S (i + 1))) ?_ (nm_r (nI_1 i) ih)
      rw [cu_or, cu_got, if_pos z]
    · have e : cu_got w S i = cu_got w S (i + 1) := by rw [cu_got, if_neg (by rw [z]; decide)]
      rw [← e] at ih
      exact nm_r (nI_1 i) ih
theorem cy_sum {post : Int32 → Prop} {S : Nat} (hP : cu_Pl n c w b_primes b_rows) (hS : S < 2 ^ 16) (h : post (nI (cu_len (cu_ln c) S n))) : wpY_sum post (nI n, b_how, b_primes, b_fits, b_rows) (nI S) := by
  unfold wpY_sum
  have hn := hP.1
  refine cu_fold (fun q i s => wY_sum_4 post (nI S) (nI n) b_how b_primes b_fits b_rows q s (nI i)) (fun i => nI (cu_len (cu_ln c) S i)) n ?_ ?_
  · intro q
    exact cu_ex n h
  · intro q i hi ih
    obtain ⟨e1, e2, e3, e4⟩ := hP.2 i hi
    refine cu_go n hi ?_ rfl (by omega)
    refine cu_ib (cu_bit1 (cu_p31 hS) (by omega)) (fun z => ?_) (fun z => ?_)
    · refine And.intro (vp_in_nI (by omega) (by decide)) ?_
      rw [nI_clamp (by omega), e1]
      refine cy_length e2 ?_
      refine nm_r (e' := nI (cu_len (cu_ln c) S (i + 1))) ?_ (nm_r (nI_1 i) ih)
      rw [nI_add, cu_len, cu_len, cu_sum, if_pos z]
      rfl
    · have e : cu_len (cu_ln c) S i = cu_len (cu_ln c) S (i + 1) := by rw [cu_len, cu_len, cu_sum, if_neg (by rw [z]; decide)]; rfl
      rw [← e] at ih
      exact nm_r (nI_1 i) ih
def cu_yn (w : Nat → Nat) (on n i : Nat) : Bool := !(cu_unc w on (cu_dif (2 ^ n - 1) (2 ^ i)) n == 0)
theorem cu_yn_iff {w : Nat → Nat} {on n i : Nat} : cu_yn w on n i = true ↔ ¬ cu_cov n w on (cu_dif (2 ^ n - 1) (2 ^ i)) := by
  unfold cu_yn
  rw [Bool.not_eq_true', beq_eq_false_iff_ne, ← cu_unc_0]
theorem cu_nd_yn {w : Nat → Nat} {on n : Nat} (hn : n ≤ 16) (ho : on < 2 ^ 16) (hcov : ∀ r, on.testBit r = true → ∃ i, i < n ∧ (w i).testBit r = true) : cu_mk (cu_yn w on n) n = cu_nd w on n 16 := by
  apply Nat.eq_of_testBit_eq
  intro i
  apply Bool.eq_iff_iff.mpr
  rw [cu_mk_tb, Bool.and_eq_true, decide_eq_true_iff, cu_yn_iff, cu_nd_tb]
  have hbit : ∀ j, (cu_dif (2 ^ n - 1) (2 ^ i)).testBit j = true ↔ j < n ∧ j ≠ i := by
    intro j
    rw [cu_dif2, Nat.testBit_two_pow_sub_one, decide_eq_true_iff]
  constructor
  · rintro ⟨hi, hc⟩
    have : ∃ r, on.testBit r = true ∧ ∀ j, j < n → j ≠ i → (w j).testBit r = false := by
      apply Classical.byContradiction
      intro hne
      apply hc
      intro r hr
      apply Classical.byContradiction
      intro hno
      apply hne
      refine ⟨r, hr, fun j hj hji => ?_⟩
      cases e : (w j).testBit r
      · rfl
      · exact absurd ⟨j, hj, (hbit j).mpr ⟨hj, hji⟩, e⟩ hno
    obtain ⟨r, hr, hall⟩ := this
    have honly : ∀ j, (cu_hold w r n).testBit j = true → j = i := by
      intro j hj
      obtain ⟨h1, h2⟩ := cu_hold_tb.mp hj
      apply Classical.byContradiction
      intro hne
      rw [hall j h1 hne] at h2; cases h2
    refine ⟨r, cu_tbl ho hr, hr, cu_one.mpr (fun a b _ hba hb => ?_), ?_⟩
    · cases e : (cu_hold w r n).testBit a
      · rfl
      · have := honly a e
        have := honly b hb
        omega
    · obtain ⟨j, hj, hw⟩ := hcov r hr
      have hh : (cu_hold w r n).testBit j = true := cu_hold_tb.mpr ⟨hj, hw⟩
      rw [honly j hh] at hh
      exact hh
  · rintro ⟨r, hr, h1, h2, h3⟩
    refine ⟨(cu_hold_tb.mp h3).1, fun hc => ?_⟩
    obtain ⟨j, hj, hs, hw⟩ := hc r h1
    have e := cu_single (cu_2p hn (cu_hold_lt w r n)) h2 h3 (cu_hold_tb.mpr ⟨hj, hw⟩)
    exact ((hbit j).mp hs).2 e.symm
theorem cy_needed {post : Int32 → SY → Prop} (hP : cu_Pl n c w b_primes b_rows) (h : post (nI (cu_mk (cu_yn w (cu_on b_how) n) n)) (nI n, b_how, b_primes, b_fits, b_rows)) : ∃ q, wY_needed_17 post (nI (2 ^ n - 1)) (nI n) b_how b_primes b_fits b_rows q 0 0 := by
  have hn := hP.1
  have hp := cu_pw hn
  refine cu_fold (fun q i s => wY_needed_17 post (nI (2 ^ n - 1)) (nI n) b_how b_primes b_fits b_rows q s (nI i)) (fun i => nI (cu_mk (cu_yn w (cu_on b_how) n) i)) n ?_ ?_
  · intro q
    exact cu_ex n h
  · intro q i hi ih
    refine cu_go n hi ?_ rfl (by omega)
    rw [cu_shl1 i (by omega), cu_not]
    refine cy_cover hP (cu_dif_lt _ (by omega)) (fun z => ?_) (fun z => ?_)
    · refine br_f (by decide) ?_
      have e : cu_yn w (cu_on b_how) n i = false := Bool.eq_false_iff.mpr (fun k => cu_yn_iff.mp k z)
      rw [← cu_mk_no e] at ih
      exact nm_r (nI_1 i) ih
    · refine br_t rfl ?_
      refine nm_r (e' := nI (cu_mk (cu_yn w (cu_on b_how) n) (i + 1))) ?_ (nm_r (nI_1 i) ih)
      rw [cu_or, cu_mk_or (cu_yn_iff.mpr z)]
theorem cy_s38 {post : Int32 → Prop} {J : Int32 → Int32 → Prop} {x1 : Int32} {i : Nat} {x2 : Int32} (hP : cu_Pl n c w b_primes b_rows) (hi : i < 2 ^ 16) (h2 : x2 < 0 ∨ ∃ t, t < 2 ^ 16 ∧ x2 = nI t ∧ ¬ cu_ones t < cu_ones i) (hold : ¬ cu_cov n w (cu_on b_how) i → J x2 (nI (i + 1))) (hkeep : ∀ t, x2 = nI t → t < 2 ^ 16 → cu_cov n w (cu_on b_how) i → cu_cost (cu_ln c) n t ≤ cu_cost (cu_ln c) n i → J x2 (nI (i + 1))) (hnew : cu_cov n w (cu_on b_how) i → (∀ t, x2 = nI t → t < 2 ^ 16 → cu_cost (cu_ln c) n i < cu_cost (cu_ln c) n t) → J (nI i) (nI (i + 1))) : wY_search_38 post J x1 x2 (nI i) (nI n) b_how b_primes b_fits b_rows := by
  unfold wY_search_38
  have hn := hP.1
  refine cy_cover hP hi (fun z => ?_) (fun z => br_t rfl (nm_r (nI_1 i) (hold z)))
  refine br_f (by decide) ?_
  refine br_c (fun y => ?_) (fun y => ?_)
  · unfold wY_search_76 wY_search_81
    refine br_f (by decide) (nm_r (nI_1 i) (hnew z (fun t ht h16 => ?_)))
    rw [ht] at y
    exact absurd y (nI_pos (cu_p31 h16))
  · rcases h2 with q | ⟨t, ht, e, hge⟩
    · exact absurd q y
    subst e
    have o1 := cu_ones_16 i
    have o2 := cu_ones_16 t
    have inj : ∀ t', nI t = nI t' → t' < 2 ^ 16 → t' = t := fun t' h1 h2 => ((nI_eq (cu_p31 ht) (cu_p31 h2)).mp h1).symm
    refine cy_ones hi (cy_ones ht ?_)
    refine cu_if (nI_ltI (by omega) (by omega)) (fun x => ?_) (fun x => ?_)
    · unfold wY_search_76 wY_search_81
      refine br_f (by decide) (nm_r (nI_1 i) (hnew z (fun t' h1 h2 => ?_)))
      rw [inj t' h1 h2]
      exact cu_mon_c c hn _ _ x
    · have l1 := cu_len_le (l := cu_ln c) (n := n) (fun i _ => cu_ln4 c i) i (Nat.le_refl n)
      have l2 := cu_len_le (l := cu_ln c) (n := n) (fun i _ => cu_ln4 c i) t (Nat.le_refl n)
      refine cy_sum hP hi (cy_sum hP ht ?_)
      refine cu_if (nI_leI (by omega) (by omega)) (fun v => ?_) (fun v => ?_)
      · unfold wY_search_81
        refine br_t rfl (nm_r (nI_1 i) (hkeep t rfl ht z ?_))
        unfold cu_cost
        omega
      · unfold wY_search_76 wY_search_81
        refine br_f (by decide) (nm_r (nI_1 i) (hnew z (fun t' h1 h2 => ?_)))
        rw [inj t' h1 h2]
        unfold cu_cost
        omega
def cu_sI (cost : Nat → Nat) (ok : Nat → Prop) (i : Nat) (s : Int32) : Prop := (s = -1 ∧ ∀ t, t < i → ¬ ok t) ∨ ∃ t0, t0 < i ∧ s = nI t0 ∧ ok t0 ∧ ∀ t, t < i → ok t → cu_ble cost t0 t
theorem cu_sI_skip {cost : Nat → Nat} {ok : Nat → Prop} {i : Nat} {s : Int32} (h : cu_sI cost ok i s) (hn : ¬ ok i) : cu_sI cost ok (i + 1) s := by
  rcases h with ⟨h1, h2⟩ | ⟨t0, h1, h2, h3, h4⟩
  · refine Or.inl ⟨h1, fun t ht => ?_⟩
    rcases Nat.lt_or_ge t i with z | z
    · exact h2 t z
    · have : t = i := by omega
      subst this; exact hn
  · refine Or.inr ⟨t0, by omega, h2, h3, fun t ht hok => ?_⟩
    rcases Nat.lt_or_ge t i with z | z
    · exact h4 t z hok
    · have : t = i := by omega
      subst this; exact absurd hok hn
theorem cy_search {post : Int32 → Prop} {st : Nat} (hP : cu_Pl n c w b_primes b_rows) (hst : st < 2 ^ n) (hcov : ∀ r, (cu_on b_how).testBit r = true → ∃ i, i < n ∧ (w i).testBit r = true) (h : ∀ bs, cu_best (cu_cost (cu_ln c) n) (cu_ok n w (cu_on b_how) st) bs → post (nI bs)) : wpY_search post (nI n, b_how, b_primes, b_fits, b_rows) (nI st) := by
  unfold wpY_search
  have hn := hP.1
  have hp := cu_pw hn
  have hm := cu_mon_c c hn
  have e1 : (1 : Int32) <<< (nI n &&& 31) = nI (2 ^ n) := cu_shl1 n (by omega)
  have hok : ∀ t, cu_ok n w (cu_on b_how) st t → t < 2 ^ n := fun t z => z.1
  refine loop_0 (fun q i (s : Int32) => wY_search_4 post (nI st) (nI n) b_how b_primes b_fits b_rows q s (nI i)) (fun i s => i ≤ 2 ^ n ∧ cu_sI (cu_cost (cu_ln c) n) (cu_ok n w (cu_on b_how) st) i s) (2 ^ n) (-1) ⟨Nat.zero_le _, Or.inl ⟨rfl, fun t ht => absurd ht (by omega)⟩⟩ ?_ ?_
  · rintro q s ⟨_, hI⟩
    refine br_t (by rw [e1]; exact Int32.le_refl _) ?_
    have hall := cu_all_ok hst hcov
    have hpos := Nat.two_pow_pos n
    rcases hI with ⟨h1, h2⟩ | ⟨t0, h1, h2, h3, h4⟩
    · exact absurd hall (h2 _ (by omega))
    · rw [h2]
      exact h t0 ⟨h3, fun S hS => h4 S (hok S hS) hS⟩
  · rintro q i s hi ⟨_, hI⟩ ih
    have hi16 : i < 2 ^ 16 := by omega
    refine br_f (by rw [e1]; exact nI_ge hi (by omega)) ?_
    rw [nx_and]
    have es : (nI (i &&& st) = nI st) ↔ ∀ k, st.testBit k = true → i.testBit k = true := (nI_eq (Nat.lt_of_lt_of_le (Nat.and_lt_two_pow _ hst) (by omega)) (by omega)).trans cu_subset
    refine cu_if es (fun z => ?_) (fun z => nm_r (nI_1 i) (ih s ⟨by omega, cu_sI_skip hI (fun k => z k.2.1)⟩))
    rcases hI with ⟨h1, h2⟩ | ⟨t0, h1, h2, h3, h4⟩
    · subst h1
      refine br_t (by decide) (cy_s38 hP hi16 (Or.inl (by decide)) (fun y => ?_) (fun t ht h16 => ?_) (fun y _ => ?_))
      · exact ih _ ⟨by omega, cu_sI_skip (Or.inl ⟨rfl, h2⟩) (fun k => y k.2.2)⟩
      · have := nI_pos (cu_p31 h16)
        rw [← ht] at this
        exact absurd (by decide) this
      · refine ih _ ⟨by omega, Or.inr ⟨i, by omega, rfl, ⟨hi, z, y⟩, fun t ht hok' => ?_⟩⟩
        rcases Nat.lt_or_ge t i with x | x
        · exact absurd hok' (h2 t x)
        · have : t = i := by omega
          subst this; exact cu_ble_rf
    · subst h2
      have ht16 : t0 < 2 ^ 16 := by omega
      have o1 := cu_ones_16 i
      have o2 := cu_ones_16 t0
      have keep : cu_ble (cu_cost (cu_ln c) n) t0 i → cu_sI (cu_cost (cu_ln c) n) (cu_ok n w (cu_on b_how) st) (i + 1) (nI t0) := by
        intro hb
        refine Or.inr ⟨t0, by omega, rfl, h3, fun t ht hok' => ?_⟩
        rcases Nat.lt_or_ge t i with x | x
        · exact h4 t x hok'
        · have : t = i := by omega
          subst this; exact hb
      refine br_f (nI_pos (cu_p31 ht16)) (cy_ones hi16 (cy_ones ht16 ?_))
      refine cu_if (nI_ltI (by omega) (by omega)) (fun y => ?_) (fun y => ?_)
      · exact nm_r (nI_1 i) (ih _ ⟨by omega, keep (Or.inl (hm _ _ y))⟩)
      · have inj : ∀ t', nI t0 = nI t' → t' < 2 ^ 16 → t' = t0 := fun t' h1 h2 => ((nI_eq (cu_p31 ht16) (cu_p31 h2)).mp h1).symm
        refine cy_s38 hP hi16 (Or.inr ⟨t0, ht16, rfl, y⟩) (fun x => ?_) (fun t ht h16 x hc => ?_) (fun x hc => ?_)
        · exact ih _ ⟨by omega, cu_sI_skip (Or.inr ⟨t0, h1, rfl, h3, h4⟩) (fun k => x k.2.2)⟩
        · rw [inj t ht h16] at hc
          refine ih _ ⟨by omega, keep ?_⟩
          unfold cu_ble
          omega
        · refine ih _ ⟨by omega, Or.inr ⟨i, by omega, rfl, ⟨hi, z, x⟩, fun t ht hok' => ?_⟩⟩
          rcases Nat.lt_or_ge t i with v | v
          · exact cu_ble_tr (Or.inl (hc t0 rfl ht16)) (h4 t v hok')
          · have : t = i := by omega
            subst this; exact cu_ble_rf
theorem cy_short {post : Int32 → SY → Prop} {bs : Nat} (hP : cu_Pl n c w b_primes b_rows) (hb : bs < 2 ^ 16) (h : post (nI (cu_cn (fun S => cu_cov n w (cu_on b_how) S ∧ cu_ones S = cu_ones bs) (2 ^ n))) (nI n, b_how, b_primes, b_fits, b_rows)) : ∃ q, wY_shortest_14 post (nI bs) (nI n) b_how b_primes b_fits b_rows q 0 0 := by
  have hn := hP.1
  have hp := cu_pw hn
  have e1 : (1 : Int32) <<< (nI n &&& 31) = nI (2 ^ n) := cu_shl1 n (by omega)
  refine cu_fold (fun q i s => wY_shortest_14 post (nI bs) (nI n) b_how b_primes b_fits b_rows q s (nI i)) (fun i => nI (cu_cn (fun S => cu_cov n w (cu_on b_how) S ∧ cu_ones S = cu_ones bs) i)) (2 ^ n) ?_ ?_
  · intro q
    exact br_t (by rw [e1]; exact Int32.le_refl _) h
  · intro q i hi ih
    have o1 := cu_ones_16 i
    have o2 := cu_ones_16 bs
    have hi16 : i < 2 ^ 16 := by omega
    refine br_f (by rw [e1]; exact nI_ge hi (by omega)) (cy_ones hi16 (cy_ones hb ?_))
    have e0 : ¬ (cu_cov n w (cu_on b_how) i ∧ cu_ones i = cu_ones bs) → cu_cn (fun S => cu_cov n w (cu_on b_how) S ∧ cu_ones S = cu_ones bs) (i + 1) = cu_cn (fun S => cu_cov n w (cu_on b_how) S ∧ cu_ones S = cu_ones bs) i := by
      intro z
      unfold cu_cn
      rw [cu_sum, cu_ind_f z]
      rfl
    refine cu_if (nI_eq (by omega) (by omega)) (fun z => ?_) (fun z => ?_)
    · refine cy_cover hP hi16 (fun y => br_f (by decide) ?_) (fun y => br_t rfl ?_)
      · refine nm_r (e' := nI (cu_cn (fun S => cu_cov n w (cu_on b_how) S ∧ cu_ones S = cu_ones bs) (i + 1))) ?_ (nm_r (nI_1 i) ih)
        unfold cu_cn
        rw [cu_sum, cu_ind_t ⟨y, z⟩]
        exact nI_1 _
      · rw [e0 (fun k => y k.1)] at ih
        exact nm_r (nI_1 i) ih
    · rw [e0 (fun k => z k.2)] at ih
      exact nm_r (nI_1 i) ih
end
end
section
/-! the relation; the constructors; the methods that only read or write the rows -/
def cu_012 (h : Nat → Int32) : Prop := ∀ r, r < 16 → h r = 0 ∨ h r = 1 ∨ h r = 2
/-- the same rows, each 0, 1 or 2; both tables of words; what is kept is right while 'current' stands -/
def i_Rel (_ : Nat) (u : SX) (v : SY) : Prop := match u, v with
  | (f_count, f_ons, f_bestCost, f_bestSet, f_found, f_current, a_rows, a_words, a_allowed, a_joined, a_list, a_takenAt, a_barredAt, a_choicesAt), (g_count, b_how, b_primes, b_fits, b_rows) => a_rows = b_how ∧ cu_012 a_rows ∧ cu_Wd a_words ∧ cu_Wd b_rows ∧ (¬ f_current = 0 → cu_Ca a_rows f_count f_ons a_allowed a_list)
theorem i_up {k : Nat} {u : SX} {v : SY} (h : i_Rel k u v) : i_Rel (k + 3) u v := h
section
variable {f_count f_ons f_bestCost f_bestSet f_found f_current : Int32} {a_rows a_words a_allowed a_joined a_list a_takenAt a_barredAt a_choicesAt : Nat → Int32} {g_count : Int32} {b_how b_primes b_fits b_rows : Nat → Int32} {k : Nat}
theorem cu_mkR (h1 : cu_012 a_rows) (h2 : cu_Wd a_words) (h3 : cu_Wd b_rows) (h4 : ¬ f_current = 0 → cu_Ca a_rows f_count f_ons a_allowed a_list) : i_Rel k (f_count, f_ons, f_bestCost, f_bestSet, f_found, f_current, a_rows, a_words, a_allowed, a_joined, a_list, a_takenAt, a_barredAt, a_choicesAt) (g_count, a_rows, b_primes, b_fits, b_rows) := ⟨rfl, h1, h2, h3, h4⟩
theorem cu_mk0 (h1 : cu_012 a_rows) (h2 : cu_Wd a_words) (h3 : cu_Wd b_rows) : i_Rel k (f_count, f_ons, f_bestCost, f_bestSet, f_found, 0, a_rows, a_words, a_allowed, a_joined, a_list, a_takenAt, a_barredAt, a_choicesAt) (g_count, a_rows, b_primes, b_fits, b_rows) := ⟨rfl, h1, h2, h3, fun z => absurd rfl z⟩
end
theorem cu_el {k : Nat} {u : SX} {v : SY} {P : SX → SY → Prop} (I : i_Rel k u v) (h : ∀ (f_count f_ons f_bestCost f_bestSet f_found f_current : Int32) (a_rows a_words a_allowed a_joined a_list a_takenAt a_barredAt a_choicesAt : Nat → Int32) (g_count : Int32) (b_primes b_fits b_rows : Nat → Int32), cu_012 a_rows → cu_Wd a_words → cu_Wd b_rows → (¬ f_current = 0 → cu_Ca a_rows f_count f_ons a_allowed a_list) → P (f_count, f_ons, f_bestCost, f_bestSet, f_found, f_current, a_rows, a_words, a_allowed, a_joined, a_list, a_takenAt, a_barredAt, a_choicesAt) (g_count, a_rows, b_primes, b_fits, b_rows)) : P u v := by
  obtain ⟨f_count, f_ons, f_bestCost, f_bestSet, f_found, f_current, a_rows, a_words, a_allowed, a_joined, a_list, a_takenAt, a_barredAt, a_choicesAt⟩ := u
  obtain ⟨g_count, b_how, b_primes, b_fits, b_rows⟩ := v
  obtain ⟨h0, h1, h2, h3, h4⟩ := I
  subst h0
  exact h _ _ _ _ _ _ _ _ _ _ _ _ _ _ _ _ _ _ h1 h2 h3 h4
/-! constructors -/
def cu_w2 (c r : Nat) : Nat → Int32 := fun d => if d < c then nI (cu_wd d) else if d = c then nI (cu_mk (cu_hs c) r) else 0
theorem cu_w2_c {c r : Nat} : cu_w2 c r c = nI (cu_mk (cu_hs c) r) := by
  unfold cu_w2
  rw [if_neg (by omega), if_pos rfl]
theorem cu_w2_t {c r : Nat} (h : cu_hs c r = true) : upd (cu_w2 c r) c (nI (cu_mk (cu_hs c) (r + 1))) = cu_w2 c (r + 1) := by
  funext d
  by_cases q : d = c
  · rw [q, pk_us, cu_w2_c]
  · rw [pk_un q]
    unfold cu_w2
    by_cases y : d < c
    · rw [if_pos y, if_pos y]
    · rw [if_neg y, if_neg y, if_neg q, if_neg q]
theorem cu_w2_f {c r : Nat} (h : cu_hs c r = false) : cu_w2 c (r + 1) = cu_w2 c r := by
  unfold cu_w2
  rw [← cu_mk_no h]
theorem cu_w2_n {c : Nat} : cu_w2 c 16 = cu_w2 (c + 1) 0 := by
  funext d
  unfold cu_w2
  by_cases y : d < c
  · rw [if_pos y, if_pos (by omega)]
  · by_cases q : d = c
    · rw [if_neg y, if_pos q, if_pos (by omega), q]
      rfl
    · rw [if_neg y, if_neg q, if_neg (by omega)]
      by_cases e : d = c + 1
      · rw [if_pos e]; rfl
      · rw [if_neg e]
theorem cu_w2_0 : cu_w2 0 0 = fun _ => 0 := by
  funext d
  unfold cu_w2
  rw [if_neg (by omega)]
  by_cases e : d = 0
  · rw [if_pos e]; rfl
  · rw [if_neg e]
theorem cu_w2_end : cu_Wd (cu_w2 81 0) := by
  intro c hc
  unfold cu_w2
  rw [if_pos hc]
section
variable {f_count f_ons f_bestCost f_bestSet f_found f_current : Int32} {a_rows a_words a_allowed a_joined a_list a_takenAt a_barredAt a_choicesAt : Nat → Int32} {g_count : Int32} {b_how b_primes b_fits b_rows : Nat → Int32}
theorem cx_i78 {post : SX → Prop} {J : Int32 → (Nat → Int32) → (Nat → Int32) → (Nat → Int32) → (Nat → Int32) → (Nat → Int32) → (Nat → Int32) → (Nat → Int32) → (Nat → Int32) → Prop} {i : Nat} (hi : i < 81) (h : J (nI (i + 1)) a_rows (cu_w2 (i + 1) 0) a_allowed a_joined a_list a_takenAt a_barredAt a_choicesAt) : ∃ q, wX_init_78 post J (nI i) f_count f_ons f_bestCost f_bestSet f_found f_current q 0 a_rows (cu_w2 i 0) a_allowed a_joined a_list a_takenAt a_barredAt a_choicesAt := by
  refine cu_fold (fun q r s => wX_init_78 post J (nI i) f_count f_ons f_bestCost f_bestSet f_found f_current q (nI r) a_rows s a_allowed a_joined a_list a_takenAt a_barredAt a_choicesAt) (fun r => cu_w2 i r) 16 ?_ ?_
  · intro q
    refine cu_ex 16 (nm_r (nI_1 i) ?_)
    rw [cu_w2_n]
    exact h
  · intro q r hr ih
    refine cu_go 16 hr (cx_asks hi hr ?_)
    refine cu_if cu_t0 (fun z => ?_) (fun z => ?_)
    · rw [cu_w2_f z] at ih
      exact nm_r (nI_1 r) ih
    · have z' : cu_hs i r = true := by
        cases e : cu_hs i r
        · exact absurd e z
        · rfl
      refine And.intro (vp_in_nI hi (by decide)) (And.intro (vp_in_nI hi (by decide)) ?_)
      rw [nI_clamp (by omega), cu_w2_c, cu_shl1 r (by omega), cu_or, cu_mk_or z']
      exact nm_r (cu_w2_t z') (nm_r (nI_1 r) ih)
theorem cx_init {post : SX → Prop} (h : ∀ W : Nat → Int32, cu_Wd W → post (0, 0, 0, 0, 0, 0, fun _ => 0, W, fun _ => 0, fun _ => 0, fun _ => 0, fun _ => 0, fun _ => 0, fun _ => 0)) : wpX_init post := by
  unfold wpX_init
  have key := cu_fold (fun q i s => wX_init_70 post 0 0 0 0 0 0 q (nI i) (fun _ => 0) s (fun _ => 0) (fun _ => 0) (fun _ => 0) (fun _ => 0) (fun _ => 0) (fun _ => 0)) (fun i => cu_w2 i 0) 81 ?_ ?_
  · try dsimp only at key
    rw [cu_w2_0] at key
    exact key
  · intro q
    exact cu_ex 81 (h _ cu_w2_end)
  · intro q i hi ih
    exact cu_go 81 hi (cx_i78 hi ih)
theorem cy_init {post : SY → Prop} (h : ∀ W : Nat → Int32, cu_Wd W → post (0, fun _ => 0, fun _ => 0, fun _ => 0, W)) : wpY_init post := by
  unfold wpY_init
  have key := cu_fold (fun q i s => wY_init_38 post 0 q (nI i) (fun _ => 0) (fun _ => 0) (fun _ => 0) s) (fun i => fun c => if c < i then nI (cu_wd c) else 0) 81 ?_ ?_
  · have e : (fun c => if c < 0 then nI (cu_wd c) else 0) = fun _ => 0 := funext fun c => if_neg (by omega)
    try dsimp only at key
    rw [e] at key
    exact key
  · intro q
    exact cu_ex 81 (h _ (fun c hc => if_pos hc))
  · intro q i hi ih
    refine cu_go 81 hi (cy_rowsOf hi ?_)
    refine And.intro (vp_in_nI hi (by decide)) ?_
    rw [nI_clamp (by omega)]
    have es : upd (fun c => if c < i then nI (cu_wd c) else 0) i (nI (cu_wd i)) = fun c => if c < i + 1 then nI (cu_wd c) else 0 := by
      funext c
      by_cases q : c = i
      · rw [q, pk_us, if_pos (by omega)]
      · rw [pk_un q]
        by_cases y : c < i
        · rw [if_pos y, if_pos (by omega)]
        · rw [if_neg y, if_neg (by omega)]
    exact nm_r es (nm_r (nI_1 i) ih)
end
theorem i_vc0 : wpX_init (fun u => wpY_init (fun v => i_Rel 0 u v)) :=
  cx_init (fun _ hW => cy_init (fun _ hV => cu_mk0 (fun _ _ => Or.inl rfl) hW hV))
theorem cu_012_upd {h : Nat → Int32} {j : Nat} {x : Int32} (hh : cu_012 h) (hx : x = 0 ∨ x = 1 ∨ x = 2) : cu_012 (upd h j x) := by
  intro r hr
  by_cases e : r = j
  · rw [e, pk_us]; exact hx
  · rw [pk_un e]; exact hh r hr
theorem cu_how {x : Int32} (h0 : ¬ x < 0) (h2 : x ≤ 2) : x = 0 ∨ x = 1 ∨ x = 2 := by
  obtain ⟨j, hj, rfl⟩ := nI_of2 (n := 2) (by decide) h0 h2
  have : j = 0 ∨ j = 1 ∨ j = 2 := by omega
  rcases this with rfl | rfl | rfl
  · exact Or.inl rfl
  · exact Or.inr (Or.inl rfl)
  · exact Or.inr (Or.inr rfl)
theorem i_vc_set {k : Nat} {u : SX} {v : SY} (I : i_Rel k u v) (hk : k + 3 ≤ 1536) (v1 : Int32) (v2 : Int32) : wpX_set (fun r u' => wpY_set (fun r' v' => r' = r ∧ i_Rel (k + 3) u' v') v v1 v2) u v1 v2 := by
  refine cu_el (P := fun u v => wpX_set (fun r u' => wpY_set (fun r' v' => r' = r ∧ i_Rel (k + 3) u' v') v v1 v2) u v1 v2) I ?_
  intro f_count f_ons f_bestCost f_bestSet f_found f_current a_rows a_words a_allowed a_joined a_list a_takenAt a_barredAt a_choicesAt g_count b_primes b_fits b_rows h1 h2 h3 h4
  unfold wpX_set wpY_set
  rcases pk_ix v1 (n := 16) (by decide) with hx | hx | ⟨j, hj, rfl⟩
  · exact cx_isRow_f (Or.inl hx) (br_t rfl (cy_badRow_1 (Or.inl hx) (br_f (by decide) ⟨rfl, cu_mkR h1 h2 h3 h4⟩)))
  · exact cx_isRow_f (Or.inr hx) (br_t rfl (cy_badRow_1 (Or.inr hx) (br_f (by decide) ⟨rfl, cu_mkR h1 h2 h3 h4⟩)))
  · refine cx_isRow_t hj (br_f (by decide) ?_)
    refine br_c (fun z => cy_badRow_0 hj (br_t rfl (br_t z ⟨rfl, cu_mkR h1 h2 h3 h4⟩))) (fun z => ?_)
    refine br_c (fun y => ?_) (fun y => cy_badRow_0 hj (br_t rfl (br_f z (br_f y ⟨rfl, cu_mkR h1 h2 h3 h4⟩))))
    have hin := vp_in_nI (N := 16) hj (by decide)
    refine And.intro hin (nm_e (And.intro hin (nm_e ?_)))
    refine cy_badRow_0 hj (br_t rfl (br_f z (br_t y ?_)))
    exact And.intro hin (nm_e (And.intro hin (nm_e ⟨rfl, cu_mk0 (cu_012_upd h1 (cu_how z y)) h2 h3⟩)))
theorem i_vc_row {k : Nat} {u : SX} {v : SY} (I : i_Rel k u v) (hk : k + 3 ≤ 1536) (v1 : Int32) : wpX_row (fun r => wpY_row (fun r' => r' = r ∧ i_Rel (k + 3) u v) v v1) u v1 := by
  refine cu_el (P := fun u v => wpX_row (fun r => wpY_row (fun r' => r' = r ∧ i_Rel (k + 3) u v) v v1) u v1) I ?_
  intro f_count f_ons f_bestCost f_bestSet f_found f_current a_rows a_words a_allowed a_joined a_list a_takenAt a_barredAt a_choicesAt g_count b_primes b_fits b_rows h1 h2 h3 h4
  unfold wpX_row wpY_row
  rcases pk_ix v1 (n := 16) (by decide) with hx | hx | ⟨j, hj, rfl⟩
  · exact cx_isRow_f (Or.inl hx) (br_t rfl (cy_badRow_1 (Or.inl hx) (br_f (by decide) ⟨rfl, cu_mkR h1 h2 h3 h4⟩)))
  · exact cx_isRow_f (Or.inr hx) (br_t rfl (cy_badRow_1 (Or.inr hx) (br_f (by decide) ⟨rfl, cu_mkR h1 h2 h3 h4⟩)))
  · have hin := vp_in_nI (N := 16) hj (by decide)
    exact cx_isRow_t hj (br_f (by decide) (And.intro hin (cy_badRow_0 hj (br_t rfl (And.intro hin ⟨rfl, cu_mkR h1 h2 h3 h4⟩)))))
theorem i_vc_size {k : Nat} {u : SX} {v : SY} (I : i_Rel k u v) (hk : k + 3 ≤ 1536) (v1 : Int32) : wpX_size (fun r => wpY_size (fun r' => r' = r ∧ i_Rel (k + 3) u v) v v1) u v1 := by
  refine cu_el (P := fun u v => wpX_size (fun r => wpY_size (fun r' => r' = r ∧ i_Rel (k + 3) u v) v v1) u v1) I ?_
  intro f_count f_ons f_bestCost f_bestSet f_found f_current a_rows a_words a_allowed a_joined a_list a_takenAt a_barredAt a_choicesAt g_count b_primes b_fits b_rows h1 h2 h3 h4
  unfold wpX_size wpY_size
  rcases pk_ix v1 (n := 81) (by decide) with hx | hx | ⟨j, hj, rfl⟩
  · exact cx_isCube_f (Or.inl hx) (br_t rfl (cy_badCube_1 (Or.inl hx) (br_f (by decide) ⟨rfl, cu_mkR h1 h2 h3 h4⟩)))
  · exact cx_isCube_f (Or.inr hx) (br_t rfl (cy_badCube_1 (Or.inr hx) (br_f (by decide) ⟨rfl, cu_mkR h1 h2 h3 h4⟩)))
  · have hin := vp_in_nI (N := 81) hj (by decide)
    have hw := cu_wd_lt j
    refine cx_isCube_t hj (br_f (by decide) (And.intro hin ?_))
    rw [nI_clamp (by omega), h2 j hj]
    refine cx_ones hw (cy_badCube_0 hj (br_t rfl (And.intro hin ?_)))
    rw [h3 j hj]
    exact cy_ones hw ⟨rfl, cu_mkR h1 h2 h3 h4⟩
end
section
/-! fill, load, invert, free -/
def cu_fl (h : Nat → Int32) (c : Nat) (x : Int32) (i : Nat) : Nat → Int32 := fun r => if r < i ∧ cu_hs c r = true then x else h r
def cu_fn (h : Nat → Int32) (c : Nat) (x : Int32) (i : Nat) : Nat := cu_sum (fun r => if cu_hs c r = true ∧ ¬ h r = x then 1 else 0) i
theorem cu_fl_i {h : Nat → Int32} {c i : Nat} {x : Int32} : cu_fl h c x i i = h i := if_neg (by omega)
theorem cu_fl_t {h : Nat → Int32} {c i : Nat} {x : Int32} (hs : cu_hs c i = true) : upd (cu_fl h c x i) i x = cu_fl h c x (i + 1) := by
  funext r
  by_cases q : r = i
  · rw [q, pk_us]
    unfold cu_fl
    rw [if_pos ⟨by omega, hs⟩]
  · rw [pk_un q]
    unfold cu_fl
    by_cases y : r < i ∧ cu_hs c r = true
    · rw [if_pos y, if_pos ⟨by omega, y.2⟩]
    · rw [if_neg y, if_neg (fun z => y ⟨by omega, z.2⟩)]
theorem cu_fl_f {h : Nat → Int32} {c i : Nat} {x : Int32} (hs : cu_hs c i = false ∨ h i = x) : cu_fl h c x (i + 1) = cu_fl h c x i := by
  funext r
  unfold cu_fl
  by_cases y : r < i ∧ cu_hs c r = true
  · rw [if_pos y, if_pos ⟨by omega, y.2⟩]
  · rw [if_neg y]
    by_cases z : r < i + 1 ∧ cu_hs c r = true
    · have e : r = i := by
        rcases Nat.lt_or_ge r i with q | q
        · exact absurd ⟨q, z.2⟩ y
        · omega
      subst e
      rw [if_pos z]
      rcases hs with q | q
      · rw [z.2] at q; cases q
      · exact q.symm
    · rw [if_neg z]
theorem cu_fl_0 {h : Nat → Int32} {c : Nat} {x : Int32} : cu_fl h c x 0 = h := funext fun r => if_neg (by omega)
theorem cu_fl_012 {h : Nat → Int32} {c i : Nat} {x : Int32} (hh : cu_012 h) (hx : x = 0 ∨ x = 1 ∨ x = 2) : cu_012 (cu_fl h c x i) := by
  intro r hr
  unfold cu_fl
  split
  · exact hx
  · exact hh r hr
theorem cu_fn_1 {h : Nat → Int32} {c i : Nat} {x : Int32} (hs : cu_hs c i = true) (hx : ¬ h i = x) : cu_fn h c x (i + 1) = cu_fn h c x i + 1 := by
  unfold cu_fn
  rw [cu_sum, if_pos ⟨hs, hx⟩]
theorem cu_fn_0 {h : Nat → Int32} {c i : Nat} {x : Int32} (hs : cu_hs c i = false ∨ h i = x) : cu_fn h c x (i + 1) = cu_fn h c x i := by
  unfold cu_fn
  rw [cu_sum, if_neg]
  · rfl
  · rintro ⟨a, b⟩
    rcases hs with q | q
    · rw [a] at q; cases q
    · exact b q
section
variable {f_count f_ons f_bestCost f_bestSet f_found f_current : Int32} {a_rows a_words a_allowed a_joined a_list a_takenAt a_barredAt a_choicesAt : Nat → Int32} {g_count : Int32} {b_how b_primes b_fits b_rows : Nat → Int32}
theorem cx_fill {post : Int32 → SX → Prop} {c : Nat} {x : Int32} (hc : c < 81) (hW : cu_Wd a_words) (h : post (nI (cu_fn a_rows c x 16)) (f_count, f_ons, f_bestCost, f_bestSet, f_found, 0, cu_fl a_rows c x 16, a_words, a_allowed, a_joined, a_list, a_takenAt, a_barredAt, a_choicesAt)) : ∃ q, wX_fill_26 post (nI c) x f_count f_ons f_bestCost f_bestSet f_found f_current q 0 0 a_rows a_words a_allowed a_joined a_list a_takenAt a_barredAt a_choicesAt := by
  have key := cu_fold (fun q i (s : Int32 × (Nat → Int32)) => wX_fill_26 post (nI c) x f_count f_ons f_bestCost f_bestSet f_found f_current q s.1 (nI i) s.2 a_words a_allowed a_joined a_list a_takenAt a_barredAt a_choicesAt) (fun i => (nI (cu_fn a_rows c x i), cu_fl a_rows c x i)) 16 ?_ ?_
  · try dsimp only at key
    rw [cu_fl_0] at key
    exact key
  · intro q
    exact cu_ex 16 h
  · intro q i hi ih
    refine cu_go 16 hi (And.intro (vp_in_nI hc (by decide)) ?_)
    rw [nI_clamp (by omega), hW c hc]
    have eb : ((nI (cu_wd c) >>> (nI i &&& 31)) &&& 1 = 1) ↔ cu_hs c i = true := by
      rw [cu_bit1 (cu_p31 (cu_wd_lt c)) (by omega), cu_wd_tb hi]
    refine cu_ib eb (fun z => ?_) (fun z => ?_)
    · refine And.intro (vp_in_nI hi (by decide)) ?_
      rw [nI_clamp (by omega)]
      try dsimp only
      rw [cu_fl_i]
      refine br_c (fun y => ?_) (fun y => ?_)
      · unfold wX_fill_65
        rw [nI_clamp (by omega)]
        rw [cu_fn_0 (Or.inr y)] at ih
        exact nm_r (nI_add _ 0) (And.intro (vp_in_nI hi (by decide)) (nm_r (cu_fl_t z) (nm_r (nI_1 i) ih)))
      · unfold wX_fill_65
        rw [nI_clamp (by omega)]
        rw [cu_fn_1 z y] at ih
        exact nm_r (nI_1 _) (And.intro (vp_in_nI hi (by decide)) (nm_r (cu_fl_t z) (nm_r (nI_1 i) ih)))
    · rw [cu_fn_0 (Or.inl z), cu_fl_f (Or.inl z)] at ih
      exact nm_r (nI_1 i) ih
theorem cy_fill {post : Int32 → SY → Prop} {c : Nat} {x : Int32} (hc : c < 81) (h : post (nI (cu_fn b_how c x 16)) (g_count, cu_fl b_how c x 16, b_primes, b_fits, b_rows)) : ∃ q, wY_fill_27 post (nI c) x g_count q 0 0 b_how b_primes b_fits b_rows := by
  have key := cu_fold (fun q i (s : Int32 × (Nat → Int32)) => wY_fill_27 post (nI c) x g_count q s.1 (nI i) s.2 b_primes b_fits b_rows) (fun i => (nI (cu_fn b_how c x i), cu_fl b_how c x i)) 16 ?_ ?_
  · try dsimp only at key
    rw [cu_fl_0] at key
    exact key
  · intro q
    exact cu_ex 16 h
  · intro q i hi ih
    refine cu_go 16 hi (cy_has hc hi ?_)
    refine cu_if cu_t0 (fun z => ?_) (fun z => ?_)
    · rw [cu_fn_0 (Or.inl z), cu_fl_f (Or.inl z)] at ih
      exact nm_r (nI_1 i) ih
    · have z' : cu_hs c i = true := by
        cases e : cu_hs c i
        · exact absurd e z
        · rfl
      refine And.intro (vp_in_nI hi (by decide)) ?_
      rw [nI_clamp (by omega)]
      try dsimp only
      rw [cu_fl_i]
      refine br_c (fun y => ?_) (fun y => ?_)
      · rw [cu_fn_0 (Or.inr y), cu_fl_f (Or.inr y)] at ih
        exact nm_r (nI_1 i) ih
      · rw [cu_fn_1 z' y] at ih
        exact And.intro (vp_in_nI hi (by decide)) (nm_r (cu_fl_t z') (nm_r (nI_1 _) (nm_r (nI_1 i) ih)))
end
theorem i_vc_fill {k : Nat} {u : SX} {v : SY} (I : i_Rel k u v) (hk : k + 3 ≤ 1536) (v1 : Int32) (v2 : Int32) : wpX_fill (fun r u' => wpY_fill (fun r' v' => r' = r ∧ i_Rel (k + 3) u' v') v v1 v2) u v1 v2 := by
  refine cu_el (P := fun u v => wpX_fill (fun r u' => wpY_fill (fun r' v' => r' = r ∧ i_Rel (k + 3) u' v') v v1 v2) u v1 v2) I ?_
  intro f_count f_ons f_bestCost f_bestSet f_found f_current a_rows a_words a_allowed a_joined a_list a_takenAt a_barredAt a_choicesAt g_count b_primes b_fits b_rows h1 h2 h3 h4
  unfold wpX_fill wpY_fill
  rcases pk_ix v1 (n := 81) (by decide) with hx | hx | ⟨j, hj, rfl⟩
  · exact cx_isCube_f (Or.inl hx) (br_t rfl (cy_badCube_1 (Or.inl hx) (br_f (by decide) ⟨rfl, cu_mkR h1 h2 h3 h4⟩)))
  · exact cx_isCube_f (Or.inr hx) (br_t rfl (cy_badCube_1 (Or.inr hx) (br_f (by decide) ⟨rfl, cu_mkR h1 h2 h3 h4⟩)))
  · refine cx_isCube_t hj (br_f (by decide) ?_)
    refine br_c (fun z => cy_badCube_0 hj (br_t rfl (br_t z ⟨rfl, cu_mkR h1 h2 h3 h4⟩))) (fun z => ?_)
    refine br_c (fun y => ?_) (fun y => cy_badCube_0 hj (br_t rfl (br_f z (br_f y ⟨rfl, cu_mkR h1 h2 h3 h4⟩))))
    refine cx_fill hj h2 ?_
    refine cy_badCube_0 hj (br_t rfl (br_f z (br_t y ?_)))
    exact cy_fill hj ⟨rfl, cu_mk0 (cu_fl_012 h1 (cu_how z y)) h2 h3⟩
/-! load -/
def cu_lv (a b r : Nat) : Int32 := if a.testBit r = true then 1 else if b.testBit r = true then 2 else 0
def cu_ld (h : Nat → Int32) (a b i : Nat) : Nat → Int32 := fun r => if r < i then cu_lv a b r else h r
theorem cu_ld_t {h : Nat → Int32} {a b i : Nat} : upd (cu_ld h a b i) i (cu_lv a b i) = cu_ld h a b (i + 1) := by
  funext r
  by_cases q : r = i
  · rw [q, pk_us]
    unfold cu_ld
    rw [if_pos (by omega)]
  · rw [pk_un q]
    unfold cu_ld
    by_cases y : r < i
    · rw [if_pos y, if_pos (by omega)]
    · rw [if_neg y, if_neg (by omega)]
theorem cu_ld_0 {h : Nat → Int32} {a b : Nat} : cu_ld h a b 0 = h := funext fun r => if_neg (by omega)
theorem cu_lv_012 (a b r : Nat) : cu_lv a b r = 0 ∨ cu_lv a b r = 1 ∨ cu_lv a b r = 2 := by
  unfold cu_lv
  split
  · exact Or.inr (Or.inl rfl)
  · split
    · exact Or.inr (Or.inr rfl)
    · exact Or.inl rfl
theorem cu_ld_012 {h : Nat → Int32} {a b : Nat} : cu_012 (cu_ld h a b 16) := by
  intro r hr
  unfold cu_ld
  rw [if_pos hr]
  exact cu_lv_012 a b r
theorem cu_ld_rn {h : Nat → Int32} {a b : Nat} : cu_rn (cu_ld h a b 16) 16 = cu_ones a := by
  unfold cu_rn cu_ones
  apply cu_sum_cg
  intro r hr
  unfold cu_ld cu_lv
  rw [if_pos hr]
  cases e : a.testBit r
  · rw [if_neg (by decide : ¬ false = true)]
    by_cases q : b.testBit r = true
    · rw [if_pos q]; exact if_neg (by decide)
    · rw [if_neg q]; exact if_neg (by decide)
  · rw [if_pos rfl, if_pos rfl]
    rfl
section
variable {f_count f_ons f_bestCost f_bestSet f_found f_current : Int32} {a_rows a_words a_allowed a_joined a_list a_takenAt a_barredAt a_choicesAt : Nat → Int32} {g_count : Int32} {b_how b_primes b_fits b_rows : Nat → Int32}
theorem cx_load {post : Int32 → SX → Prop} {a b : Nat} (ha : a < 2 ^ 16) (hb : b < 2 ^ 16) (h : post (nI (cu_ones a)) (f_count, f_ons, f_bestCost, f_bestSet, f_found, 0, cu_ld a_rows a b 16, a_words, a_allowed, a_joined, a_list, a_takenAt, a_barredAt, a_choicesAt)) : ∃ q, wX_load_27 post (nI a) (nI b) f_count f_ons f_bestCost f_bestSet f_found f_current q 0 a_rows a_words a_allowed a_joined a_list a_takenAt a_barredAt a_choicesAt := by
  have key := cu_fold (fun q i (s : Nat → Int32) => wX_load_27 post (nI a) (nI b) f_count f_ons f_bestCost f_bestSet f_found f_current q (nI i) s a_words a_allowed a_joined a_list a_takenAt a_barredAt a_choicesAt) (fun i => cu_ld a_rows a b i) 16 ?_ ?_
  · try dsimp only at key
    rw [cu_ld_0] at key
    exact key
  · intro q
    refine cu_ex 16 (cx_onRows ?_)
    rw [cu_ld_rn]
    exact h
  · intro q i hi ih
    have e47 : ∀ z0 : Int32, z0 = (if b.testBit i = true then 2 else 0) → wX_load_47 post (wX_load_27 post (nI a) (nI b) f_count f_ons f_bestCost f_bestSet f_found f_current q) (nI a) (nI b) (nI i) z0 f_count f_ons f_bestCost f_bestSet f_found f_current (cu_ld a_rows a b i) a_words a_allowed a_joined a_list a_takenAt a_barredAt a_choicesAt := by
      intro z0 hz
      unfold wX_load_47
      rw [nI_clamp (by omega)]
      refine cu_ib (cu_bit1 (cu_p31 ha) (by omega)) (fun z => ?_) (fun z => ?_)
      · refine And.intro (vp_in_nI hi (by decide)) ?_
        have e : (1 : Int32) = cu_lv a b i := by unfold cu_lv; rw [if_pos z]
        rw [e]
        exact nm_r cu_ld_t (nm_r (e' := nI (i + 1)) (by rw [← e]; exact nI_1 i) ih)
      · refine And.intro (vp_in_nI hi (by decide)) ?_
        have e : z0 = cu_lv a b i := by
          unfold cu_lv
          rw [if_neg (by rw [z]; decide), hz]
        rw [e]
        exact nm_r cu_ld_t (nm_r (nI_1 i) ih)
    refine cu_go 16 hi ?_
    refine cu_ib (cu_bit1 (cu_p31 hb) (by omega)) (fun z => ?_) (fun z => ?_)
    · exact e47 2 (by rw [if_pos z])
    · exact e47 0 (by rw [if_neg (by rw [z]; decide)])
theorem cy_load {post : Int32 → SY → Prop} {a b : Nat} (ha : a < 2 ^ 16) (hb : b < 2 ^ 16) (h : post (nI (cu_ones a)) (g_count, cu_ld b_how a b 16, b_primes, b_fits, b_rows)) : ∃ q, wY_load_27 post (nI a) (nI b) g_count q 0 b_how b_primes b_fits b_rows := by
  have key := cu_fold (fun q i (s : Nat → Int32) => wY_load_27 post (nI a) (nI b) g_count q (nI i) s b_primes b_fits b_rows) (fun i => cu_ld b_how a b i) 16 ?_ ?_
  · try dsimp only at key
    rw [cu_ld_0] at key
    exact key
  · intro q
    exact cu_ex 16 (cy_ones ha h)
  · intro q i hi ih
    refine cu_go 16 hi ?_
    rw [nI_clamp (by omega)]
    refine cu_ib (cu_bit1 (cu_p31 ha) (by omega)) (fun z => ?_) (fun z => ?_)
    · refine And.intro (vp_in_nI hi (by decide)) ?_
      have e : upd (cu_ld b_how a b i) i 1 = cu_ld b_how a b (i + 1) := by
        rw [← cu_ld_t]
        unfold cu_lv
        rw [if_pos z]
      exact nm_r e (nm_r (nI_1 i) ih)
    · refine And.intro (vp_in_nI hi (by decide)) ?_
      have e : upd (cu_ld b_how a b i) i (2 * ((nI b >>> (nI i &&& 31)) &&& 1)) = cu_ld b_how a b (i + 1) := by
        rw [← cu_ld_t, cu_bit (cu_p31 hb) (by omega)]
        unfold cu_lv
        rw [if_neg (by rw [z]; decide)]
        cases b.testBit i <;> rfl
      exact nm_r e (nm_r (nI_1 i) ih)
end
theorem i_vc_load {k : Nat} {u : SX} {v : SY} (I : i_Rel k u v) (hk : k + 3 ≤ 1536) (v1 : Int32) (v2 : Int32) : wpX_load (fun r u' => wpY_load (fun r' v' => r' = r ∧ i_Rel (k + 3) u' v') v v1 v2) u v1 v2 := by
  refine cu_el (P := fun u v => wpX_load (fun r u' => wpY_load (fun r' v' => r' = r ∧ i_Rel (k + 3) u' v') v v1 v2) u v1 v2) I ?_
  intro f_count f_ons f_bestCost f_bestSet f_found f_current a_rows a_words a_allowed a_joined a_list a_takenAt a_barredAt a_choicesAt g_count b_primes b_fits b_rows h1 h2 h3 h4
  unfold wpX_load wpY_load
  refine br_c (fun z => br_t z ⟨rfl, cu_mkR h1 h2 h3 h4⟩) (fun z => ?_)
  refine br_c (fun y => ?_) (fun y => br_f z (br_f y ⟨rfl, cu_mkR h1 h2 h3 h4⟩))
  refine br_c (fun z2 => br_f z (br_t y (br_t z2 ⟨rfl, cu_mkR h1 h2 h3 h4⟩))) (fun z2 => ?_)
  refine br_c (fun y2 => ?_) (fun y2 => br_f z (br_t y (br_f z2 (br_f y2 ⟨rfl, cu_mkR h1 h2 h3 h4⟩))))
  obtain ⟨a, ha, rfl⟩ := nI_of2 (n := 65535) (by decide) z y
  obtain ⟨b, hb, rfl⟩ := nI_of2 (n := 65535) (by decide) z2 y2
  refine cx_load (by omega) (by omega) ?_
  refine br_f z (br_t y (br_f z2 (br_t y2 ?_)))
  exact cy_load (by omega) (by omega) ⟨rfl, cu_mk0 cu_ld_012 h2 h3⟩
/-! invert -/
def cu_iv (h : Nat → Int32) (r : Nat) : Int32 := if h r = 2 then 2 else 1 - h r
def cu_in (h : Nat → Int32) (i : Nat) : Nat → Int32 := fun r => if r < i then cu_iv h r else h r
theorem cu_in_i {h : Nat → Int32} {i : Nat} : cu_in h i i = h i := if_neg (by omega)
theorem cu_in_t {h : Nat → Int32} {i : Nat} : upd (cu_in h i) i (cu_iv h i) = cu_in h (i + 1) := by
  funext r
  by_cases q : r = i
  · rw [q, pk_us]
    unfold cu_in
    rw [if_pos (by omega)]
  · rw [pk_un q]
    unfold cu_in
    by_cases y : r < i
    · rw [if_pos y, if_pos (by omega)]
    · rw [if_neg y, if_neg (by omega)]
theorem cu_in_2 {h : Nat → Int32} {i : Nat} (h2 : h i = 2) : cu_in h (i + 1) = cu_in h i := by
  rw [← cu_in_t]
  funext r
  by_cases q : r = i
  · rw [q, pk_us, cu_in_i]
    unfold cu_iv
    rw [if_pos h2, h2]
  · rw [pk_un q]
theorem cu_in_0 {h : Nat → Int32} : cu_in h 0 = h := funext fun r => if_neg (by omega)
theorem cu_in_012 {h : Nat → Int32} (hh : cu_012 h) : cu_012 (cu_in h 16) := by
  intro r hr
  unfold cu_in cu_iv
  rw [if_pos hr]
  rcases hh r hr with e | e | e <;> rw [e]
  · exact Or.inr (Or.inl rfl)
  · exact Or.inl rfl
  · exact Or.inr (Or.inr rfl)
theorem cu_in_rn {h : Nat → Int32} : cu_rn (cu_in h 16) 16 = cu_rn (cu_iv h) 16 := by
  unfold cu_rn
  apply cu_sum_cg
  intro r hr
  unfold cu_in
  rw [if_pos hr]
section
variable {f_count f_ons f_bestCost f_bestSet f_found f_current : Int32} {a_rows a_words a_allowed a_joined a_list a_takenAt a_barredAt a_choicesAt : Nat → Int32} {g_count : Int32} {b_how b_primes b_fits b_rows : Nat → Int32}
theorem cx_invert {post : Int32 → SX → Prop} (h : post (nI (cu_rn (cu_iv a_rows) 16)) (f_count, f_ons, f_bestCost, f_bestSet, f_found, 0, cu_in a_rows 16, a_words, a_allowed, a_joined, a_list, a_takenAt, a_barredAt, a_choicesAt)) : wpX_invert post (f_count, f_ons, f_bestCost, f_bestSet, f_found, f_current, a_rows, a_words, a_allowed, a_joined, a_list, a_takenAt, a_barredAt, a_choicesAt) := by
  unfold wpX_invert
  have key := cu_fold (fun q i (s : Nat → Int32) => wX_invert_2 post f_count f_ons f_bestCost f_bestSet f_found f_current q (nI i) s a_words a_allowed a_joined a_list a_takenAt a_barredAt a_choicesAt) (fun i => cu_in a_rows i) 16 ?_ ?_
  · try dsimp only at key
    rw [cu_in_0] at key
    exact key
  · intro q
    refine cu_ex 16 (cx_onRows ?_)
    rw [cu_in_rn]
    exact h
  · intro q i hi ih
    refine cu_go 16 hi (And.intro (vp_in_nI hi (by decide)) ?_)
    rw [nI_clamp (by omega)]
    try dsimp only
    rw [cu_in_i]
    refine br_c (fun z => ?_) (fun z => ?_)
    · refine And.intro (vp_in_nI hi (by decide)) (nm_r (e' := cu_in a_rows (i + 1)) ?_ (nm_r (nI_1 i) ih))
      rw [← cu_in_t]
      unfold cu_iv
      rw [if_pos z]
    · refine And.intro (vp_in_nI hi (by decide)) (And.intro (vp_in_nI hi (by decide)) (nm_r (e' := cu_in a_rows (i + 1)) ?_ (nm_r (nI_1 i) ih)))
      rw [← cu_in_t]
      unfold cu_iv
      rw [if_neg z]
theorem cy_invert {post : Int32 → SY → Prop} (hh : cu_012 b_how) (h : post (nI (cu_rn (cu_iv b_how) 16)) (g_count, cu_in b_how 16, b_primes, b_fits, b_rows)) : wpY_invert post (g_count, b_how, b_primes, b_fits, b_rows) := by
  unfold wpY_invert
  have key := cu_fold (fun q i (s : Int32 × (Nat → Int32)) => wY_invert_4 post g_count q s.1 (nI i) s.2 b_primes b_fits b_rows) (fun i => (nI (cu_rn (cu_iv b_how) i), cu_in b_how i)) 16 ?_ ?_
  · try dsimp only at key
    rw [cu_in_0] at key
    exact key
  · intro q
    exact cu_ex 16 h
  · intro q i hi ih
    have e34 : wY_invert_34 post (wY_invert_4 post g_count q) (nI (cu_rn (cu_iv b_how) i)) (nI i) g_count (cu_in b_how (i + 1)) b_primes b_fits b_rows := by
      unfold wY_invert_34
      rw [nI_clamp (by omega)]
      have e : cu_in b_how (i + 1) i = cu_iv b_how i := if_pos (by omega)
      rw [e]
      refine And.intro (vp_in_nI hi (by decide)) ?_
      refine br_c (fun z => ?_) (fun z => ?_)
      · have e2 : cu_rn (cu_iv b_how) (i + 1) = cu_rn (cu_iv b_how) i + 1 := by
          unfold cu_rn
          rw [cu_sum, if_pos z]
        rw [e2] at ih
        exact nm_r (nI_1 _) (nm_r (nI_1 i) ih)
      · have e2 : cu_rn (cu_iv b_how) (i + 1) = cu_rn (cu_iv b_how) i := by
          unfold cu_rn
          rw [cu_sum, if_neg z]
          rfl
        rw [e2] at ih
        exact nm_r (nI_1 i) ih
    refine cu_go 16 hi (And.intro (vp_in_nI hi (by decide)) ?_)
    rw [nI_clamp (by omega)]
    try dsimp only
    rw [cu_in_i]
    have h2 : (2 : Int32) ≤ b_how i ↔ b_how i = 2 := by
      rcases hh i hi with e | e | e <;> rw [e] <;> decide
    refine cu_if h2 (fun z => ?_) (fun z => ?_)
    · rw [cu_in_2 z] at e34
      exact e34
    · refine And.intro (vp_in_nI hi (by decide)) (And.intro (vp_in_nI hi (by decide)) (nm_r (e' := cu_in b_how (i + 1)) ?_ e34))
      rw [← cu_in_t]
      unfold cu_iv
      rw [if_neg z]
end
theorem i_vc_invert {k : Nat} {u : SX} {v : SY} (I : i_Rel k u v) (hk : k + 3 ≤ 1536) : wpX_invert (fun r u' => wpY_invert (fun r' v' => r' = r ∧ i_Rel (k + 3) u' v') v) u := by
  refine cu_el (P := fun u v => wpX_invert (fun r u' => wpY_invert (fun r' v' => r' = r ∧ i_Rel (k + 3) u' v') v) u) I ?_
  intro f_count f_ons f_bestCost f_bestSet f_found f_current a_rows a_words a_allowed a_joined a_list a_takenAt a_barredAt a_choicesAt g_count b_primes b_fits b_rows h1 h2 h3 h4
  exact cx_invert (cy_invert h1 ⟨rfl, cu_mk0 (cu_in_012 h1) h2 h3⟩)
/-! free -/
def cu_fq (h : Nat → Int32) (b r : Nat) : Bool := !(decide (h r = 1) && decide (h (r ^^^ b) = 0))
theorem cu_xor16 {r b : Nat} (hr : r < 16) (hb : b < 16) : r ^^^ b < 16 := Nat.xor_lt_two_pow (n := 4) hr hb
theorem cu_8k : ∀ k, k < 4 → (8 : Int32) >>> (nI k &&& 31) = nI (8 / 2 ^ k) ∧ 8 / 2 ^ k < 16 := by decide +kernel
section
variable {f_count f_ons f_bestCost f_bestSet f_found f_current : Int32} {a_rows a_words a_allowed a_joined a_list a_takenAt a_barredAt a_choicesAt : Nat → Int32} {g_count : Int32} {b_how b_primes b_fits b_rows : Nat → Int32}
theorem cx_free18 {post : Int32 → Prop} {b : Nat} (hb : b < 16) (h : post (nI (cu_all (cu_fq a_rows b) 16).toNat)) : ∃ q, wX_free_18 post (nI b) f_count f_ons f_bestCost f_bestSet f_found f_current a_rows a_words a_allowed a_joined a_list a_takenAt a_barredAt a_choicesAt q 0 := by
  refine cu_scan (fun q r => wX_free_18 post (nI b) f_count f_ons f_bestCost f_bestSet f_found f_current a_rows a_words a_allowed a_joined a_list a_takenAt a_barredAt a_choicesAt q (nI r)) (cu_fq a_rows b) 16 ?_ ?_ ?_
  · intro q hq
    rw [cu_all_iff.mpr hq] at h
    exact cu_ex 16 h
  · intro q r hr _ hq
    rw [cu_all_f hr hq] at h
    have hx := cu_xor16 hr hb
    unfold cu_fq at hq
    simp only [Bool.not_eq_false', Bool.and_eq_true, decide_eq_true_eq] at hq
    refine cu_go 16 hr (nm_r (nx_xor _ _) (And.intro (vp_in_nI hr (by decide)) ?_))
    rw [nI_clamp (by omega), nI_clamp (by omega)]
    exact br_t hq.1 (And.intro (vp_in_nI hx (by decide)) (br_t hq.2 h))
  · intro q r hr hq ih
    have hx := cu_xor16 hr hb
    unfold cu_fq at hq
    simp only [Bool.not_eq_true', Bool.and_eq_false_iff, decide_eq_false_iff_not] at hq
    refine cu_go 16 hr (nm_r (nx_xor _ _) (And.intro (vp_in_nI hr (by decide)) ?_))
    rw [nI_clamp (by omega), nI_clamp (by omega)]
    refine br_c (fun z => And.intro (vp_in_nI hx (by decide)) ?_) (fun z => nm_r (nI_1 r) ih)
    exact br_f (hq.resolve_left (fun k => k z)) (nm_r (nI_1 r) ih)
theorem cy_free13 {post : Int32 → Prop} {k : Nat} (hk : k < 4) (h : post (nI (cu_all (cu_fq b_how (8 / 2 ^ k)) 16).toNat)) : ∃ q, wY_free_13 post (nI k) g_count b_how b_primes b_fits b_rows q 0 := by
  obtain ⟨e8, hb⟩ := cu_8k k hk
  refine cu_scan (fun q r => wY_free_13 post (nI k) g_count b_how b_primes b_fits b_rows q (nI r)) (cu_fq b_how (8 / 2 ^ k)) 16 ?_ ?_ ?_
  · intro q hq
    rw [cu_all_iff.mpr hq] at h
    exact cu_ex 16 h
  · intro q r hr _ hq
    rw [cu_all_f hr hq] at h
    have hx := cu_xor16 hr hb
    unfold cu_fq at hq
    simp only [Bool.not_eq_false', Bool.and_eq_true, decide_eq_true_eq] at hq
    refine cu_go 16 hr (nm_r (e' := nI (r ^^^ (8 / 2 ^ k))) (by rw [e8]; exact nx_xor _ _) (And.intro (vp_in_nI hr (by decide)) ?_))
    rw [nI_clamp (by omega), nI_clamp (by omega)]
    exact br_t hq.1 (And.intro (vp_in_nI hx (by decide)) (br_t hq.2 h))
  · intro q r hr hq ih
    have hx := cu_xor16 hr hb
    unfold cu_fq at hq
    simp only [Bool.not_eq_true', Bool.and_eq_false_iff, decide_eq_false_iff_not] at hq
    refine cu_go 16 hr (nm_r (e' := nI (r ^^^ (8 / 2 ^ k))) (by rw [e8]; exact nx_xor _ _) (And.intro (vp_in_nI hr (by decide)) ?_))
    rw [nI_clamp (by omega), nI_clamp (by omega)]
    refine br_c (fun z => And.intro (vp_in_nI hx (by decide)) ?_) (fun z => nm_r (nI_1 r) ih)
    exact br_f (hq.resolve_left (fun k => k z)) (nm_r (nI_1 r) ih)
end
theorem i_vc_free {k : Nat} {u : SX} {v : SY} (I : i_Rel k u v) (hk : k + 3 ≤ 1536) (v1 : Int32) : wpX_free (fun r => wpY_free (fun r' => r' = r ∧ i_Rel (k + 3) u v) v v1) u v1 := by
  refine cu_el (P := fun u v => wpX_free (fun r => wpY_free (fun r' => r' = r ∧ i_Rel (k + 3) u v) v v1) u v1) I ?_
  intro f_count f_ons f_bestCost f_bestSet f_found f_current a_rows a_words a_allowed a_joined a_list a_takenAt a_barredAt a_choicesAt g_count b_primes b_fits b_rows h1 h2 h3 h4
  unfold wpX_free wpY_free
  rcases pk_ix v1 (n := 4) (by decide) with hx | hx | ⟨j, hj, rfl⟩
  · exact br_t hx (br_t hx ⟨rfl, cu_mkR h1 h2 h3 h4⟩)
  · refine br_c (fun z => br_t z ⟨rfl, cu_mkR h1 h2 h3 h4⟩) (fun z => ?_)
    have h43 : ¬ v1 ≤ 3 := cu_big (N := 3) (by decide) (Or.inr hx) z
    have h44 : ¬ v1 < 4 := Int32.not_lt.mpr hx
    exact br_f h44 (br_f z (br_f h43 ⟨rfl, cu_mkR h1 h2 h3 h4⟩))
  · obtain ⟨e8, hb⟩ := cu_8k j hj
    have hz : ¬ nI j < 0 := nI_pos (by omega)
    refine br_f hz (br_t (nI_lt (b := 4) hj (by decide)) (nm_r e8 ?_))
    refine cx_free18 hb ?_
    exact br_f hz (br_t (nI_le (b := 3) (by omega) (by decide)) (cy_free13 hj ⟨rfl, cu_mkR h1 h2 h3 h4⟩))
end
section
/-! the methods over the primes and the search -/
/-- words of the primes -/
def cu_w (h : Nat → Int32) : Nat → Nat := fun i => cu_wd (cu_c (cu_av h) i)
theorem cu_hcov (h : Nat → Int32) : ∀ r, (cu_on h).testBit r = true → ∃ i, i < cu_n (cu_av h) ∧ (cu_w h i).testBit r = true := by
  intro r hr
  have hr16 := cu_tbl (cu_on_lt h) hr
  rw [cu_on_tb hr16, decide_eq_true_eq] at hr
  have ha : (cu_av h).testBit r = true := by
    rw [cu_av_tb hr16, decide_eq_true_eq, hr]
    decide
  obtain ⟨c, hc, hP, hw⟩ := cu_P_has hr16 ha
  obtain ⟨i, hi, e⟩ := cu_c_has hc hP
  refine ⟨i, hi, ?_⟩
  unfold cu_w
  rw [e]
  exact hw
section
variable {f_count f_ons f_bestCost f_bestSet f_found f_current : Int32} {a_rows a_words a_allowed a_joined a_list a_takenAt a_barredAt a_choicesAt : Nat → Int32} {g_count : Int32} {b_how b_primes b_fits b_rows : Nat → Int32}
theorem cu_PlY {pr : Nat → Int32} (hR : cu_Wd b_rows) (hpr : ∀ i, i < cu_n (cu_av b_how) → pr i = nI (cu_c (cu_av b_how) i)) : cu_Pl (cu_n (cu_av b_how)) (cu_c (cu_av b_how)) (cu_w b_how) pr b_rows := by
  have h15 := cu_n_15 (cu_av_lt b_how)
  refine ⟨by omega, fun i hi => ?_⟩
  obtain ⟨c1, c2⟩ := cu_c_mem hi
  exact ⟨hpr i hi, c1, rfl, hR _ c1⟩
theorem cu_PlX {fc fo : Int32} {al li : Nat → Int32} (hW : cu_Wd a_words) (hC : cu_Ca a_rows fc fo al li) : cu_Pl (cu_n (cu_av a_rows)) (cu_c (cu_av a_rows)) (cu_w a_rows) li a_words := cu_Ca_Pl hW hC
theorem cx_search {post : SX → Prop} {st : Nat} (hW : cu_Wd a_words) (hc : ¬ f_current = 0 → cu_Ca a_rows f_count f_ons a_allowed a_list) (hst : st < 2 ^ cu_n (cu_av a_rows)) (h : ∀ (fc fo fu bc : Int32) (al jn li tk ba ch : Nat → Int32) (bs f : Nat), ¬ fu = 0 → cu_Ca a_rows fc fo al li → cu_best (cu_cost (cu_ln (cu_c (cu_av a_rows))) (cu_n (cu_av a_rows))) (cu_ok (cu_n (cu_av a_rows)) (cu_w a_rows) (cu_on a_rows) st) bs → f = cu_cn (fun S => cu_ok (cu_n (cu_av a_rows)) (cu_w a_rows) (cu_on a_rows) st S ∧ cu_ones S = cu_ones bs) (2 ^ cu_n (cu_av a_rows)) → post (fc, fo, bc, nI bs, nI f, fu, a_rows, a_words, al, jn, li, tk, ba, ch)) : wpX_search post (f_count, f_ons, f_bestCost, f_bestSet, f_found, f_current, a_rows, a_words, a_allowed, a_joined, a_list, a_takenAt, a_barredAt, a_choicesAt) (nI st) := by
  unfold wpX_search
  refine cx_refresh hW hc (fun fc fo fu al jn li hu hC => ?_)
  obtain ⟨e1, e2, e3, e4⟩ := hC
  subst e1
  subst e2
  have hC : cu_Ca a_rows (nI (cu_n (cu_av a_rows))) (nI (cu_on a_rows)) al li := ⟨rfl, rfl, e3, e4⟩
  exact cx_search0 (cu_PlX hW hC) (cu_on_lt _) hst (cu_hcov _) (fun bs f bc tk ba ch hb hf => h _ _ _ _ _ _ _ _ _ _ bs f hu hC hb hf)
end
theorem i_vc_allowed {k : Nat} {u : SX} {v : SY} (I : i_Rel k u v) (hk : k + 3 ≤ 1536) (v1 : Int32) : wpX_allowed (fun r u' => wpY_allowed (fun r' => r' = r ∧ i_Rel (k + 3) u' v) v v1) u v1 := by
  refine cu_el (P := fun u v => wpX_allowed (fun r u' => wpY_allowed (fun r' => r' = r ∧ i_Rel (k + 3) u' v) v v1) u v1) I ?_
  intro f_count f_ons f_bestCost f_bestSet f_found f_current a_rows a_words a_allowed a_joined a_list a_takenAt a_barredAt a_choicesAt g_count b_primes b_fits b_rows h1 h2 h3 h4
  unfold wpX_allowed wpY_allowed
  rcases pk_ix v1 (n := 81) (by decide) with hx | hx | ⟨j, hj, rfl⟩
  · exact cx_isCube_f (Or.inl hx) (br_t rfl (cy_badCube_1 (Or.inl hx) (br_f (by decide) ⟨rfl, cu_mkR h1 h2 h3 h4⟩)))
  · exact cx_isCube_f (Or.inr hx) (br_t rfl (cy_badCube_1 (Or.inr hx) (br_f (by decide) ⟨rfl, cu_mkR h1 h2 h3 h4⟩)))
  · have hin := vp_in_nI (N := 81) hj (by decide)
    refine cx_isCube_t hj (br_f (by decide) ?_)
    refine cx_refresh h2 h4 (fun fc fo fu al jn li hu hC => ?_)
    refine And.intro hin ?_
    have ea := hC.2.2.1 j hj
    rw [nI_clamp (by omega), ea]
    refine cu_if cu_t0 (fun z => ?_) (fun z => ?_)
    · refine cy_badCube_0 hj (br_t rfl (And.intro hin ?_))
      rw [h3 j hj]
      refine cy_those (br_f (fun q => ?_) ⟨rfl, cu_mkR h1 h2 h3 (fun _ => hC)⟩)
      rw [cu_off.mp q] at z; cases z
    · refine cy_badCube_0 hj (br_t rfl (And.intro hin ?_))
      rw [h3 j hj]
      refine cy_those (br_t (cu_off.mpr ?_) ⟨rfl, cu_mkR h1 h2 h3 (fun _ => hC)⟩)
      cases e : cu_A (cu_av a_rows) j
      · exact absurd e z
      · rfl
theorem i_vc_primes {k : Nat} {u : SX} {v : SY} (I : i_Rel k u v) (hk : k + 3 ≤ 1536) : wpX_primes (fun r u' => wpY_primes (fun r' v' => r' = r ∧ i_Rel (k + 3) u' v') v) u := by
  refine cu_el (P := fun u v => wpX_primes (fun r u' => wpY_primes (fun r' v' => r' = r ∧ i_Rel (k + 3) u' v') v) u) I ?_
  intro f_count f_ons f_bestCost f_bestSet f_found f_current a_rows a_words a_allowed a_joined a_list a_takenAt a_barredAt a_choicesAt g_count b_primes b_fits b_rows h1 h2 h3 h4
  unfold wpX_primes wpY_primes
  refine cx_refresh h2 h4 (fun fc fo fu al jn li hu hC => ?_)
  exact cy_work h3 (fun fi pr hpr => ⟨hC.1.symm, cu_mkR h1 h2 h3 (fun _ => hC)⟩)
theorem i_vc_prime {k : Nat} {u : SX} {v : SY} (I : i_Rel k u v) (hk : k + 3 ≤ 1536) (v1 : Int32) : wpX_prime (fun r u' => wpY_prime (fun r' v' => r' = r ∧ i_Rel (k + 3) u' v') v v1) u v1 := by
  refine cu_el (P := fun u v => wpX_prime (fun r u' => wpY_prime (fun r' v' => r' = r ∧ i_Rel (k + 3) u' v') v v1) u v1) I ?_
  intro f_count f_ons f_bestCost f_bestSet f_found f_current a_rows a_words a_allowed a_joined a_list a_takenAt a_barredAt a_choicesAt g_count b_primes b_fits b_rows h1 h2 h3 h4
  unfold wpX_prime wpY_prime
  refine cx_refresh h2 h4 (fun fc fo fu al jn li hu hC => ?_)
  obtain ⟨e1, e2, e3, e4⟩ := hC
  subst e1
  have hC : cu_Ca a_rows (nI (cu_n (cu_av a_rows))) fo al li := ⟨rfl, e2, e3, e4⟩
  have h15 := cu_n_15 (cu_av_lt a_rows)
  refine br_c (fun z => cy_work h3 (fun fi pr hpr => br_t z ⟨rfl, cu_mkR h1 h2 h3 (fun _ => hC)⟩)) (fun z => ?_)
  refine br_c (fun y => cy_work h3 (fun fi pr hpr => br_f z (br_t y ⟨rfl, cu_mkR h1 h2 h3 (fun _ => hC)⟩))) (fun y => ?_)
  obtain ⟨j, hj, rfl⟩ := nI_of z
  have hjn : j < cu_n (cu_av a_rows) := by
    rw [nI_leI (by omega) hj] at y
    omega
  refine And.intro (vp_in_nI (by omega) (by decide)) ?_
  refine cy_work h3 (fun fi pr hpr => br_f z (br_f y (br_t (nI_le (b := 80) (by omega) (by decide)) (And.intro (vp_in_nI (by omega) (by decide)) ⟨?_, cu_mkR h1 h2 h3 (fun _ => hC)⟩))))
  rw [nI_clamp hj, hpr j hjn, e4 j hjn]
theorem i_vc_primesWith {k : Nat} {u : SX} {v : SY} (I : i_Rel k u v) (hk : k + 3 ≤ 1536) (v1 : Int32) : wpX_primesWith (fun r u' => wpY_primesWith (fun r' v' => r' = r ∧ i_Rel (k + 3) u' v') v v1) u v1 := by
  refine cu_el (P := fun u v => wpX_primesWith (fun r u' => wpY_primesWith (fun r' v' => r' = r ∧ i_Rel (k + 3) u' v') v v1) u v1) I ?_
  intro f_count f_ons f_bestCost f_bestSet f_found f_current a_rows a_words a_allowed a_joined a_list a_takenAt a_barredAt a_choicesAt g_count b_primes b_fits b_rows h1 h2 h3 h4
  unfold wpX_primesWith wpY_primesWith
  rcases pk_ix v1 (n := 16) (by decide) with hx | hx | ⟨j, hj, rfl⟩
  · exact cx_isRow_f (Or.inl hx) (br_t rfl (cy_badRow_1 (Or.inl hx) (br_f (by decide) ⟨rfl, cu_mkR h1 h2 h3 h4⟩)))
  · exact cx_isRow_f (Or.inr hx) (br_t rfl (cy_badRow_1 (Or.inr hx) (br_f (by decide) ⟨rfl, cu_mkR h1 h2 h3 h4⟩)))
  · refine cx_isRow_t hj (br_f (by decide) ?_)
    refine cx_refresh h2 h4 (fun fc fo fu al jn li hu hC => ?_)
    obtain ⟨e1, e2, e3, e4⟩ := hC
    subst e1
    have hC : cu_Ca a_rows (nI (cu_n (cu_av a_rows))) fo al li := ⟨rfl, e2, e3, e4⟩
    refine cx_holders (cu_PlX h2 hC) hj ?_
    refine cy_badRow_0 hj (br_t rfl (cy_work h3 (fun fi pr hpr => ?_)))
    exact cy_with (cu_PlY h3 hpr) hj ⟨rfl, cu_mkR h1 h2 h3 (fun _ => hC)⟩
theorem i_vc_needed {k : Nat} {u : SX} {v : SY} (I : i_Rel k u v) (hk : k + 3 ≤ 1536) : wpX_needed (fun r u' => wpY_needed (fun r' v' => r' = r ∧ i_Rel (k + 3) u' v') v) u := by
  refine cu_el (P := fun u v => wpX_needed (fun r u' => wpY_needed (fun r' v' => r' = r ∧ i_Rel (k + 3) u' v') v) u) I ?_
  intro f_count f_ons f_bestCost f_bestSet f_found f_current a_rows a_words a_allowed a_joined a_list a_takenAt a_barredAt a_choicesAt g_count b_primes b_fits b_rows h1 h2 h3 h4
  unfold wpX_needed wpY_needed
  refine cx_refresh h2 h4 (fun fc fo fu al jn li hu hC => ?_)
  obtain ⟨e1, e2, e3, e4⟩ := hC
  subst e1
  subst e2
  have hC : cu_Ca a_rows (nI (cu_n (cu_av a_rows))) (nI (cu_on a_rows)) al li := ⟨rfl, rfl, e3, e4⟩
  have h15 := cu_n_15 (cu_av_lt a_rows)
  have hpos := Nat.two_pow_pos (cu_n (cu_av a_rows))
  refine cx_neededSet (cu_PlX h2 hC) (cu_on_lt _) ?_
  refine cy_work h3 (fun fi pr hpr => ?_)
  refine nm_r (e' := nI (2 ^ cu_n (cu_av a_rows) - 1)) ?_ ?_
  · rw [cu_shl1 _ (by omega)]
    exact pk_sub (b := 1) (by omega)
  · exact cy_needed (cu_PlY h3 hpr) ⟨congrArg nI (cu_nd_yn (by omega) (cu_on_lt _) (cu_hcov _)), cu_mkR h1 h2 h3 (fun _ => hC)⟩
theorem i_vc_best {k : Nat} {u : SX} {v : SY} (I : i_Rel k u v) (hk : k + 3 ≤ 1536) : wpX_best (fun r u' => wpY_best (fun r' v' => r' = r ∧ i_Rel (k + 3) u' v') v) u := by
  refine cu_el (P := fun u v => wpX_best (fun r u' => wpY_best (fun r' v' => r' = r ∧ i_Rel (k + 3) u' v') v) u) I ?_
  intro f_count f_ons f_bestCost f_bestSet f_found f_current a_rows a_words a_allowed a_joined a_list a_takenAt a_barredAt a_choicesAt g_count b_primes b_fits b_rows h1 h2 h3 h4
  unfold wpX_best wpY_best
  have h15 := cu_n_15 (cu_av_lt a_rows)
  have hpos := Nat.two_pow_pos (cu_n (cu_av a_rows))
  refine cx_search (st := 0) h2 h4 hpos (fun fc fo fu bc al jn li tk ba ch bs f hu hC hb hf => ?_)
  have hb16 : bs < 2 ^ 16 := cu_2p (by omega) hb.1.1
  refine cx_ones hb16 (cy_work h3 (fun fi pr hpr => ?_))
  refine cy_search (st := 0) (cu_PlY h3 hpr) hpos (cu_hcov _) (fun bs' hb' => ?_)
  rw [cu_best_u hb' hb]
  exact cy_ones hb16 ⟨rfl, cu_mkR h1 h2 h3 (fun _ => hC)⟩
theorem i_vc_bestLength {k : Nat} {u : SX} {v : SY} (I : i_Rel k u v) (hk : k + 3 ≤ 1536) : wpX_bestLength (fun r u' => wpY_bestLength (fun r' v' => r' = r ∧ i_Rel (k + 3) u' v') v) u := by
  refine cu_el (P := fun u v => wpX_bestLength (fun r u' => wpY_bestLength (fun r' v' => r' = r ∧ i_Rel (k + 3) u' v') v) u) I ?_
  intro f_count f_ons f_bestCost f_bestSet f_found f_current a_rows a_words a_allowed a_joined a_list a_takenAt a_barredAt a_choicesAt g_count b_primes b_fits b_rows h1 h2 h3 h4
  unfold wpX_bestLength wpY_bestLength
  have h15 := cu_n_15 (cu_av_lt a_rows)
  have hpos := Nat.two_pow_pos (cu_n (cu_av a_rows))
  refine cx_search (st := 0) h2 h4 hpos (fun fc fo fu bc al jn li tk ba ch bs f hu hC hb hf => ?_)
  have hb16 : bs < 2 ^ 16 := cu_2p (by omega) hb.1.1
  obtain ⟨e1, e2, e3, e4⟩ := hC
  subst e1
  have hC : cu_Ca a_rows (nI (cu_n (cu_av a_rows))) fo al li := ⟨rfl, e2, e3, e4⟩
  refine cx_lengthOf (cu_PlX h2 hC) hb16 (cy_work h3 (fun fi pr hpr => ?_))
  refine cy_search (st := 0) (cu_PlY h3 hpr) hpos (cu_hcov _) (fun bs' hb' => ?_)
  rw [cu_best_u hb' hb]
  exact cy_sum (cu_PlY h3 hpr) hb16 ⟨rfl, cu_mkR h1 h2 h3 (fun _ => hC)⟩
theorem i_vc_bestCover {k : Nat} {u : SX} {v : SY} (I : i_Rel k u v) (hk : k + 3 ≤ 1536) : wpX_bestCover (fun r u' => wpY_bestCover (fun r' v' => r' = r ∧ i_Rel (k + 3) u' v') v) u := by
  refine cu_el (P := fun u v => wpX_bestCover (fun r u' => wpY_bestCover (fun r' v' => r' = r ∧ i_Rel (k + 3) u' v') v) u) I ?_
  intro f_count f_ons f_bestCost f_bestSet f_found f_current a_rows a_words a_allowed a_joined a_list a_takenAt a_barredAt a_choicesAt g_count b_primes b_fits b_rows h1 h2 h3 h4
  unfold wpX_bestCover wpY_bestCover
  have hpos := Nat.two_pow_pos (cu_n (cu_av a_rows))
  refine cx_search (st := 0) h2 h4 hpos (fun fc fo fu bc al jn li tk ba ch bs f hu hC hb hf => ?_)
  refine cy_work h3 (fun fi pr hpr => ?_)
  refine cy_search (st := 0) (cu_PlY h3 hpr) hpos (cu_hcov _) (fun bs' hb' => ?_)
  rw [cu_best_u hb' hb]
  exact ⟨rfl, cu_mkR h1 h2 h3 (fun _ => hC)⟩
theorem i_vc_covers {k : Nat} {u : SX} {v : SY} (I : i_Rel k u v) (hk : k + 3 ≤ 1536) (v1 : Int32) : wpX_covers (fun r u' => wpY_covers (fun r' v' => r' = r ∧ i_Rel (k + 3) u' v') v v1) u v1 := by
  refine cu_el (P := fun u v => wpX_covers (fun r u' => wpY_covers (fun r' v' => r' = r ∧ i_Rel (k + 3) u' v') v v1) u v1) I ?_
  intro f_count f_ons f_bestCost f_bestSet f_found f_current a_rows a_words a_allowed a_joined a_list a_takenAt a_barredAt a_choicesAt g_count b_primes b_fits b_rows h1 h2 h3 h4
  unfold wpX_covers wpY_covers
  have h15 := cu_n_15 (cu_av_lt a_rows)
  have hp := cu_pw (n := cu_n (cu_av a_rows)) (by omega)
  refine cx_refresh h2 h4 (fun fc fo fu al jn li hu hC => ?_)
  obtain ⟨e1, e2, e3, e4⟩ := hC
  subst e1
  subst e2
  have hC : cu_Ca a_rows (nI (cu_n (cu_av a_rows))) (nI (cu_on a_rows)) al li := ⟨rfl, rfl, e3, e4⟩
  refine br_c (fun z => cy_work h3 (fun fi pr hpr => br_t z ⟨rfl, cu_mkR h1 h2 h3 (fun _ => hC)⟩)) (fun z => ?_)
  refine br_c (fun y => ?_) (fun y => cy_work h3 (fun fi pr hpr => br_f z (br_f y ⟨rfl, cu_mkR h1 h2 h3 (fun _ => hC)⟩)))
  obtain ⟨S, hS, rfl⟩ := nI_of z
  have y' := y
  rw [cu_shl1 _ (by omega), nI_ltI hS (by omega)] at y'
  have hS16 : S < 2 ^ 16 := by omega
  refine cx_uncovered (cu_PlX h2 hC) hS16 ?_
  have hl := cu_unc_lt (w := cu_w a_rows) (S := S) (cu_on_lt a_rows) (cu_n (cu_av a_rows))
  refine cu_if ((nI_eq (b := 0) (by omega) (by decide)).trans cu_unc_0) (fun x => ?_) (fun x => ?_)
  · refine cy_work h3 (fun fi pr hpr => br_f z (br_t y (cy_cover (cu_PlY h3 hpr) hS16 (fun _ => ?_) (fun q => absurd x q))))
    exact br_f (by decide) ⟨rfl, cu_mkR h1 h2 h3 (fun _ => hC)⟩
  · refine cy_work h3 (fun fi pr hpr => br_f z (br_t y (cy_cover (cu_PlY h3 hpr) hS16 (fun q => absurd q x) (fun _ => ?_))))
    exact br_t rfl ⟨rfl, cu_mkR h1 h2 h3 (fun _ => hC)⟩
theorem i_vc_shortest {k : Nat} {u : SX} {v : SY} (I : i_Rel k u v) (hk : k + 3 ≤ 1536) : wpX_shortest (fun r u' => wpY_shortest (fun r' v' => r' = r ∧ i_Rel (k + 3) u' v') v) u := by
  refine cu_el (P := fun u v => wpX_shortest (fun r u' => wpY_shortest (fun r' v' => r' = r ∧ i_Rel (k + 3) u' v') v) u) I ?_
  intro f_count f_ons f_bestCost f_bestSet f_found f_current a_rows a_words a_allowed a_joined a_list a_takenAt a_barredAt a_choicesAt g_count b_primes b_fits b_rows h1 h2 h3 h4
  unfold wpX_shortest wpY_shortest
  have h15 := cu_n_15 (cu_av_lt a_rows)
  have hpos := Nat.two_pow_pos (cu_n (cu_av a_rows))
  refine cx_search (st := 0) h2 h4 hpos (fun fc fo fu bc al jn li tk ba ch bs f hu hC hb hf => ?_)
  have hb16 : bs < 2 ^ 16 := cu_2p (by omega) hb.1.1
  refine cy_work h3 (fun fi pr hpr => ?_)
  refine cy_search (st := 0) (cu_PlY h3 hpr) hpos (cu_hcov _) (fun bs' hb' => ?_)
  rw [cu_best_u hb' hb]
  refine cy_short (cu_PlY h3 hpr) hb16 ⟨?_, cu_mkR h1 h2 h3 (fun _ => hC)⟩
  rw [hf]
  refine congrArg nI (cu_cn_cg (fun S hS => ?_))
  exact ⟨fun z => ⟨⟨hS, fun i hi => cu_0f hi, z.1⟩, z.2⟩, fun z => ⟨z.1.2.2, z.2⟩⟩
theorem i_vc_bestWith {k : Nat} {u : SX} {v : SY} (I : i_Rel k u v) (hk : k + 3 ≤ 1536) (v1 : Int32) : wpX_bestWith (fun r u' => wpY_bestWith (fun r' v' => r' = r ∧ i_Rel (k + 3) u' v') v v1) u v1 := by
  refine cu_el (P := fun u v => wpX_bestWith (fun r u' => wpY_bestWith (fun r' v' => r' = r ∧ i_Rel (k + 3) u' v') v v1) u v1) I ?_
  intro f_count f_ons f_bestCost f_bestSet f_found f_current a_rows a_words a_allowed a_joined a_list a_takenAt a_barredAt a_choicesAt g_count b_primes b_fits b_rows h1 h2 h3 h4
  unfold wpX_bestWith wpY_bestWith
  have h15 := cu_n_15 (cu_av_lt a_rows)
  refine cx_refresh h2 h4 (fun fc fo fu al jn li hu hC => ?_)
  obtain ⟨e1, e2, e3, e4⟩ := hC
  subst e1
  have hC : cu_Ca a_rows (nI (cu_n (cu_av a_rows))) fo al li := ⟨rfl, e2, e3, e4⟩
  refine br_c (fun z => cy_work h3 (fun fi pr hpr => br_t z ⟨rfl, cu_mkR h1 h2 h3 (fun _ => hC)⟩)) (fun z => ?_)
  refine br_c (fun y => ?_) (fun y => cy_work h3 (fun fi pr hpr => br_f z (br_f y ⟨rfl, cu_mkR h1 h2 h3 (fun _ => hC)⟩)))
  obtain ⟨j, hj, rfl⟩ := nI_of z
  have y' := y
  rw [nI_ltI hj (by omega)] at y'
  have hst : (2 : Nat) ^ j < 2 ^ cu_n (cu_av a_rows) := Nat.pow_lt_pow_right (by decide) y'
  have e1 : (1 : Int32) <<< (nI j &&& 31) = nI (2 ^ j) := cu_shl1 j (by omega)
  rw [e1]
  refine cx_search (st := 2 ^ j) h2 (fun _ => hC) hst (fun fc' fo' fu' bc al' jn' li' tk ba ch bs f hu' hC' hb hf => ?_)
  have hb16 : bs < 2 ^ 16 := cu_2p (by omega) hb.1.1
  refine cx_ones hb16 (cy_work h3 (fun fi pr hpr => br_f z (br_t y ?_)))
  refine cy_search (st := 2 ^ j) (cu_PlY h3 hpr) hst (cu_hcov _) (fun bs' hb' => ?_)
  rw [cu_best_u hb' hb]
  exact br_t (nI_pos' (cu_p31 hb16)) (cy_ones hb16 ⟨rfl, cu_mkR h1 h2 h3 (fun _ => hC')⟩)
end

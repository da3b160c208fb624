section
/-! rows of kit/rows (starting texts): stores, numbers, shifts -/
theorem pk_us {f : Nat → Int32} {k : Nat} {x : Int32} : upd f k x k = x := if_pos rfl
theorem pk_un {f : Nat → Int32} {k j : Nat} {x : Int32} (h : j ≠ k) : upd f k x j = f j := if_neg h
theorem pk_uLs {f : Nat → Int64} {k : Nat} {x : Int64} : vp_updL f k x k = x := if_pos rfl
theorem pk_uLn {f : Nat → Int64} {k j : Nat} {x : Int64} (h : j ≠ k) : vp_updL f k x j = f j := if_neg h
theorem pk_sub {a b : Nat} (h : b ≤ a) : nI a - nI b = nI (a - b) := by
  obtain ⟨c, rfl⟩ : ∃ c, a = c + b := ⟨a - b, by omega⟩
  rw [← nI_add, Int32.add_sub_cancel, Nat.add_sub_cancel]
theorem pk_m1 (n : Nat) : nI (n + 1) + (-1) = nI n := by
  rw [← nI_1, Int32.add_assoc, show (1 : Int32) + (-1) = 0 from rfl, Int32.add_zero]
theorem pk_mul (a b : Nat) : nI a * nI b = nI (a * b) := (Int32.ofNat_mul a b).symm
theorem pk_div {a d : Nat} (ha : a < 2 ^ 31) (h0 : 0 < d) (hd : d < 2 ^ 31) : nI a / nI d = nI (a / d) := by
  apply Int32.toInt_inj.mp
  rw [lg_idiv_nonneg (by rw [nI_toInt ha]; omega) (by rw [nI_toInt hd]; omega), nI_toInt ha, nI_toInt hd, nI_toInt (Nat.lt_of_le_of_lt (Nat.div_le_self a d) ha)]
  first | rfl | exact (Int.natCast_ediv _ _).symm
theorem pk_rem {a d : Nat} (ha : a < 2 ^ 31) (h0 : 0 < d) (hd : d < 2 ^ 31) : nI a - nI a / nI d * nI d = nI (a % d) := by
  rw [pk_div ha h0 hd, pk_mul, pk_sub (Nat.div_mul_le_self a d)]
  exact congrArg nI (by have := Nat.div_add_mod' a d; omega)
theorem pk_sub_toInt {a b : Nat} (ha : a < 2 ^ 30) (hb : b < 2 ^ 30) : (nI a - nI b).toInt = (a : Int) - b := by
  rw [Int32.toInt_sub, nI_toInt (by omega), nI_toInt (by omega)]
  exact Int.bmod_eq_of_le (by omega) (by omega)
theorem pk_sneg {a b : Nat} (hb : b < 2 ^ 30) (h : a < b) : nI a - nI b < 0 := by
  rw [Int32.lt_iff_toInt_lt, pk_sub_toInt (by omega) hb, show (0 : Int32).toInt = 0 from by decide]
  omega
theorem pk_ix (x : Int32) {n : Nat} (hn : n < 2 ^ 31) : x < 0 ∨ nI n ≤ x ∨ ∃ j : Nat, j < n ∧ x = nI j := by
  by_cases h : x < 0
  · exact Or.inl h
  · obtain ⟨j, hj, rfl⟩ := nI_of h
    by_cases h2 : j < n
    · exact Or.inr (Or.inr ⟨j, h2, rfl⟩)
    · exact Or.inr (Or.inl (nI_le (by omega) hj))
theorem pk_le {x y : Int32} {A B : Prop} (a b : Nat) (f : a ≤ b → A) (g : b < a → B) (hx : x = nI a := by rfl) (hy : y = nI b := by rfl) (ha : a < 2 ^ 31 := by omega) (hb : b < 2 ^ 31 := by omega) : (x ≤ y → A) ∧ (¬ x ≤ y → B) := by
  subst hx hy
  rw [nI_leI ha hb]
  exact ⟨f, fun z => g (by omega)⟩
theorem pk_lt {x y : Int32} {A B : Prop} (a b : Nat) (f : a < b → A) (g : b ≤ a → B) (hx : x = nI a := by rfl) (hy : y = nI b := by rfl) (ha : a < 2 ^ 31 := by omega) (hb : b < 2 ^ 31 := by omega) : (x < y → A) ∧ (¬ x < y → B) := by
  subst hx hy
  rw [nI_ltI ha hb]
  exact ⟨f, fun z => g (by omega)⟩
theorem pk_eq {x y : Int32} {A B : Prop} (a b : Nat) (f : a = b → A) (g : a ≠ b → B) (hx : x = nI a := by rfl) (hy : y = nI b := by rfl) (ha : a < 2 ^ 31 := by omega) (hb : b < 2 ^ 31 := by omega) : (x = y → A) ∧ (¬ x = y → B) := by
  subst hx hy
  rw [nI_eq ha hb]
  exact ⟨f, g⟩
theorem pk_in {x : Int32} (n N : Nat) (h : n < N) (hx : x = nI n := by rfl) (hN : N < 2 ^ 31 := by omega) : vp_in x N := by
  subst hx
  exact vp_in_nI h hN
theorem pk_cl {x : Int32} (n : Nat) (hx : x = nI n := by rfl) (h : n < 2 ^ 31 := by omega) : x.toNatClampNeg = n := by
  subst hx
  exact nI_clamp h
theorem pk_tn {n : Nat} (h : n < 2 ^ 32) : (nI n).toBitVec.toNat = n := Nat.mod_eq_of_lt h
theorem pk_and (x : Int32) {m : Int32} (k : Nat) (hm : m.toBitVec.toNat = 2 ^ k - 1) : x &&& m = nI (x.toBitVec.toNat % 2 ^ k) := by
  apply Int32.toBitVec_inj.mp
  apply BitVec.eq_of_toNat_eq
  rw [Int32.toBitVec_and, BitVec.toNat_and, hm, Nat.and_two_pow_sub_one_eq_mod]
  show _ = (BitVec.ofNat 32 _).toNat
  rw [BitVec.toNat_ofNat]
  exact (Nat.mod_eq_of_lt (Nat.lt_of_le_of_lt (Nat.mod_le _ _) x.toBitVec.isLt)).symm
theorem pk_andN {n : Nat} (h : n < 2 ^ 32) {m : Int32} (k : Nat) (hm : m.toBitVec.toNat = 2 ^ k - 1) : nI n &&& m = nI (n % 2 ^ k) := by
  rw [pk_and _ k hm, pk_tn h]
theorem pk_andE (x : Int32) {m : Int32} (k : Nat) (hm : m.toBitVec.toNat = 2 ^ k - 1) : ∃ j : Nat, j < 2 ^ k ∧ x &&& m = nI j := ⟨_, Nat.mod_lt _ (Nat.two_pow_pos k), pk_and x k hm⟩
theorem pk_andIn (x : Int32) {m : Int32} (k : Nat) (hm : m.toBitVec.toNat = 2 ^ k - 1) (hk : k ≤ 30) : vp_in (x &&& m) (2 ^ k) := by
  obtain ⟨j, hj, e⟩ := pk_andE x k hm
  rw [e]
  exact vp_in_nI hj (Nat.lt_of_le_of_lt (Nat.pow_le_pow_right (by decide) hk) (by decide))
theorem pk_shl (a s : Int32) (k : Nat) (hs : (s.toBitVec.smod 32).toNat = k) : (a <<< s).toBitVec.toNat = a.toBitVec.toNat * 2 ^ k % 2 ^ 32 := by
  show (a.toBitVec <<< (s.toBitVec.smod 32).toNat).toNat = _
  rw [hs, BitVec.toNat_shiftLeft, Nat.shiftLeft_eq]
theorem pk_shlN {n : Nat} (s : Int32) (k : Nat) (hs : (s.toBitVec.smod 32).toNat = k) (h : n * 2 ^ k < 2 ^ 32) : nI n <<< s = nI (n * 2 ^ k) := by
  apply Int32.toBitVec_inj.mp
  apply BitVec.eq_of_toNat_eq
  have hn : n < 2 ^ 32 := Nat.lt_of_le_of_lt (Nat.le_mul_of_pos_right n (Nat.two_pow_pos k)) h
  rw [pk_shl _ _ k hs, pk_tn hn, pk_tn h, Nat.mod_eq_of_lt h]
theorem pk_shr (a s : Int32) (k : Nat) (hs : (s.toBitVec.smod 32).toNat = k) : (a >>> s).toInt = a.toInt >>> k := by
  show (a.toBitVec.sshiftRight (s.toBitVec.smod 32).toNat).toInt = _
  rw [hs, BitVec.toInt_sshiftRight]
  rfl
theorem pk_shrN {n : Nat} (h : n < 2 ^ 31) (s : Int32) (k : Nat) (hs : (s.toBitVec.smod 32).toNat = k) : nI n >>> s = nI (n / 2 ^ k) := by
  apply Int32.toInt_inj.mp
  have h2 : n / 2 ^ k ≤ n := Nat.div_le_self _ _
  rw [pk_shr _ _ k hs, nI_toInt h, nI_toInt (by omega), Int.shiftRight_eq_div_pow]
  rfl
theorem pk_ushr (x s : Int32) (k : Nat) (hs : ((s.toUInt32 &&& Int32.toUInt32 31).toBitVec % 32).toNat = k) : (x.toUInt32 >>> (s.toUInt32 &&& Int32.toUInt32 31)).toInt32.toBitVec.toNat = x.toBitVec.toNat / 2 ^ k := by
  have e : (x.toUInt32 >>> (s.toUInt32 &&& Int32.toUInt32 31)).toInt32.toBitVec = x.toBitVec >>> k := by
    rw [← hs]
    exact UInt32.toBitVec_shiftRight _ _
  rw [e, BitVec.toNat_ushiftRight, Nat.shiftRight_eq_div_pow]
theorem pk_ushrN {n : Nat} (hn : n < 2 ^ 32) (s : Int32) (k : Nat) (hs : ((s.toUInt32 &&& Int32.toUInt32 31).toBitVec % 32).toNat = k) : ((nI n).toUInt32 >>> (s.toUInt32 &&& Int32.toUInt32 31)).toInt32 = nI (n / 2 ^ k) := by
  apply Int32.toBitVec_inj.mp
  apply BitVec.eq_of_toNat_eq
  rw [pk_ushr _ s k hs, pk_tn hn, pk_tn (Nat.lt_of_le_of_lt (Nat.div_le_self _ _) hn)]
theorem s_l : ∀ n, n < 32 → ((nI n &&& 31).toBitVec.smod 32).toNat = n := by decide +kernel
theorem ts_nf {x : Bool} (h : ¬ x = false) : x = true := by cases x <;> first | rfl | exact absurd rfl h
theorem ts_nt {x : Bool} (h : ¬ x = true) : x = false := by cases x <;> first | rfl | exact absurd rfl h
/-! ===== lN n to 2^64: shifts, and, or, masks, one bit ===== -/
theorem wb_tb (n : Nat) : (lN n).toBitVec = BitVec.ofNat 64 n := rfl
theorem wb_inj {a b : Int64} (h : a.toBitVec = b.toBitVec) : a = b := Int64.toBitVec_inj.mp h
theorem wb_tn {n : Nat} (h : n < 2 ^ 64) : (lN n).toBitVec.toNat = n := by rw [wb_tb, BitVec.toNat_ofNat, Nat.mod_eq_of_lt h]
theorem wb_of (x : Int64) : ∃ n, n < 2 ^ 64 ∧ x = lN n := ⟨x.toBitVec.toNat, x.toBitVec.isLt, wb_inj (by rw [wb_tb]; simp)⟩
theorem wb_of32 (x : Int32) : ∃ n, n < 2 ^ 32 ∧ x = nI n := ⟨x.toBitVec.toNat, x.toBitVec.isLt, Int32.toBitVec_inj.mp (by show _ = BitVec.ofNat 32 _; simp)⟩
theorem wb_c : ∀ k, k < 64 → ((nI k).toInt64 &&& 63) = lN k := by decide +kernel
theorem wb_cu : ∀ k, k < 64 → ((nI k).toInt64.toUInt64 &&& Int64.toUInt64 63) = UInt64.ofNat k := by decide +kernel
theorem wb_sm : ∀ k, k < 64 → (BitVec.ofNat 64 k).smod 64 = BitVec.ofNat 64 k := by decide +kernel
theorem wb_pw {a b : Nat} (h : a ≤ b) : 2 ^ b = 2 ^ a * 2 ^ (b - a) := by rw [← Nat.pow_add]; congr 1; omega
theorem wb_lt2 {a b : Nat} (h : a < b) : 2 ^ a < 2 ^ b := Nat.pow_lt_pow_right (by decide) h
theorem wb_mod (n : Nat) : lN n = lN (n % 2 ^ 64) := wb_inj (by rw [wb_tb, wb_tb]; apply BitVec.eq_of_toNat_eq; rw [BitVec.toNat_ofNat, BitVec.toNat_ofNat, Nat.mod_mod])
theorem wb_shr {n k : Nat} (hn : n < 2 ^ 64) (hk : k < 64) : ((lN n).toUInt64 >>> ((nI k).toInt64.toUInt64 &&& Int64.toUInt64 63)).toInt64 = lN (n / 2 ^ k) := by
  rw [wb_cu k hk]
  apply wb_inj
  apply BitVec.eq_of_toNat_eq
  show ((lN n).toUInt64 >>> UInt64.ofNat k).toNat = (BitVec.ofNat 64 _).toNat
  have h1 : (UInt64.ofNat k).toNat = k := by
    show (BitVec.ofNat 64 k).toNat = k
    rw [BitVec.toNat_ofNat, Nat.mod_eq_of_lt (by omega)]
  have h2 : (lN n).toUInt64.toNat = n := wb_tn hn
  rw [UInt64.toNat_shiftRight, h1, h2, Nat.mod_eq_of_lt hk, Nat.shiftRight_eq_div_pow, BitVec.toNat_ofNat, Nat.mod_eq_of_lt (Nat.lt_of_le_of_lt (Nat.div_le_self _ _) hn)]
theorem wb_shl (n : Nat) {k : Nat} (hk : k < 64) : lN n <<< ((nI k).toInt64 &&& 63) = lN (n * 2 ^ k) := by
  rw [wb_c k hk]
  apply wb_inj
  rw [Int64.toBitVec_shiftLeft, wb_tb, wb_tb, wb_tb, wb_sm k hk]
  apply BitVec.eq_of_toNat_eq
  rw [BitVec.shiftLeft_eq', BitVec.toNat_shiftLeft, BitVec.toNat_ofNat, BitVec.toNat_ofNat, BitVec.toNat_ofNat, Nat.mod_eq_of_lt (show k < 2 ^ 64 by omega), Nat.shiftLeft_eq, Nat.mul_mod, Nat.mod_mod, ← Nat.mul_mod]
theorem wb_and {a b : Nat} (ha : a < 2 ^ 64) (hb : b < 2 ^ 64) : lN a &&& lN b = lN (a &&& b) := by
  apply wb_inj
  rw [Int64.toBitVec_and, wb_tb, wb_tb, wb_tb]
  apply BitVec.eq_of_toNat_eq
  rw [BitVec.toNat_and, BitVec.toNat_ofNat, BitVec.toNat_ofNat, BitVec.toNat_ofNat, Nat.mod_eq_of_lt ha, Nat.mod_eq_of_lt hb, Nat.mod_eq_of_lt (Nat.and_lt_two_pow _ hb)]
theorem wb_or {a b : Nat} (ha : a < 2 ^ 64) (hb : b < 2 ^ 64) : lN a ||| lN b = lN (a ||| b) := by
  apply wb_inj
  rw [Int64.toBitVec_or, wb_tb, wb_tb, wb_tb]
  apply BitVec.eq_of_toNat_eq
  rw [BitVec.toNat_or, BitVec.toNat_ofNat, BitVec.toNat_ofNat, BitVec.toNat_ofNat, Nat.mod_eq_of_lt ha, Nat.mod_eq_of_lt hb, Nat.mod_eq_of_lt (Nat.or_lt_two_pow ha hb)]
theorem wb_mask {n k : Nat} (hn : n < 2 ^ 64) (hk : k < 64) : lN n &&& lN (2 ^ k - 1) = lN (n % 2 ^ k) := by
  rw [wb_and hn (by have := wb_lt2 hk; omega), Nat.and_two_pow_sub_one_eq_mod]
theorem wb_a1 {n : Nat} (hn : n < 2 ^ 64) : lN n &&& 1 = lN (n % 2) := wb_mask (k := 1) hn (by decide)
theorem wb_bit {n k : Nat} (hn : n < 2 ^ 64) (hk : k < 64) : ((lN n).toUInt64 >>> ((nI k).toInt64.toUInt64 &&& Int64.toUInt64 63)).toInt64 &&& 1 = lN (n / 2 ^ k % 2) := by
  rw [wb_shr hn hk, wb_a1 (Nat.lt_of_le_of_lt (Nat.div_le_self _ _) hn)]
end
section
/-! ===== Int64 by its bits; counting; the count of ones; the lowest bit ===== -/
def sd_b (w : Int64) (i : Nat) : Bool := w.toBitVec.getLsbD i
theorem sd_ext {x y : Int64} (h : ∀ i, i < 64 → sd_b x i = sd_b y i) : x = y := Int64.toBitVec_inj.mp (BitVec.eq_of_getLsbD_eq (fun i hi => h i hi))
theorem sd_or (x y : Int64) (i : Nat) : sd_b (x ||| y) i = (sd_b x i || sd_b y i) := by unfold sd_b; rw [Int64.toBitVec_or, BitVec.getLsbD_or]
theorem sd_and (x y : Int64) (i : Nat) : sd_b (x &&& y) i = (sd_b x i && sd_b y i) := by unfold sd_b; rw [Int64.toBitVec_and, BitVec.getLsbD_and]
theorem sd_xor (x y : Int64) (i : Nat) : sd_b (x ^^^ y) i = (sd_b x i ^^ sd_b y i) := by unfold sd_b; rw [Int64.toBitVec_xor, BitVec.getLsbD_xor]
theorem sd_m1 : ∀ i, i < 64 → sd_b (-1) i = true := by decide +kernel
theorem sd_0 (i : Nat) : sd_b 0 i = false := BitVec.getLsbD_zero
theorem sd_not (x : Int64) {i : Nat} (hi : i < 64) : sd_b (x ^^^ (-1)) i = !(sd_b x i) := by
  rw [sd_xor, sd_m1 i hi]; cases sd_b x i <;> rfl
theorem sd_lN (n : Nat) {i : Nat} (hi : i < 64) : sd_b (lN n) i = n.testBit i := by
  unfold sd_b
  rw [wb_tb, BitVec.getLsbD_ofNat, decide_eq_true hi, Bool.true_and]
/-- a bit as a number -/
def sd_i : Bool → Int32
  | true => 1
  | false => 0
def sd_l : Bool → Int64
  | true => 1
  | false => 0
theorem sd_i_inj : ∀ a b : Bool, sd_i a = sd_i b → a = b := by decide
theorem sd_i_1 : ∀ a : Bool, sd_i a = 1 ↔ a = true := by decide
theorem sd_l_1 : ∀ a : Bool, sd_l a = 1 ↔ a = true := by decide
theorem sd_l_i : ∀ a : Bool, (sd_l a).toInt32 = sd_i a := by decide
theorem sd_i_nI (n : Nat) : nI (n % 2) = sd_i (decide (n % 2 = 1)) := by
  rcases Nat.mod_two_eq_zero_or_one n with h | h <;> rw [h] <;> decide
theorem sd_l_lN (n : Nat) : lN (n % 2) = sd_l (decide (n % 2 = 1)) := by
  rcases Nat.mod_two_eq_zero_or_one n with h | h <;> rw [h] <;> decide
theorem sd_bit (w : Int64) {f : Nat} (hf : f < 64) : ((w.toUInt64 >>> ((nI f).toInt64.toUInt64 &&& Int64.toUInt64 63)).toInt64 &&& 1) = sd_l (sd_b w f) := by
  obtain ⟨n, hn, rfl⟩ := wb_of w
  rw [wb_bit hn hf, sd_lN n hf, Nat.testBit_eq_decide_div_mod_eq, sd_l_lN]
theorem sd_pos (w : Int64) : 0 ≤ w ↔ sd_b w 63 = false := by
  have e : sd_b w 63 = decide (w.toInt < 0) := by
    have h := BitVec.msb_eq_toInt (x := w.toBitVec)
    rw [BitVec.msb_eq_getLsbD_last] at h
    exact h
  have z : (0 : Int64).toInt = 0 := by decide
  rw [Int64.le_iff_toInt_le, e, z, decide_eq_false_iff_not]
  omega
theorem sd_two {k f : Nat} (hk : k < 64) (hf : f < 64) : sd_b ((1 : Int64) <<< ((nI k).toInt64 &&& 63)) f = decide (k = f) := by
  have e : (1 : Int64) <<< ((nI k).toInt64 &&& 63) = lN (2 ^ k) := by
    have h := wb_shl 1 hk
    rw [Nat.one_mul] at h
    exact h
  rw [e, sd_lN _ hf, Nat.testBit_two_pow]
/-- a shifted int's lowest bit -/
theorem sd_sh {p i : Nat} (hp : p < 2 ^ 31) (hi : i < 32) : (nI p >>> (nI i &&& 31)) &&& 1 = sd_i (p.testBit i) := by
  have hd : p / 2 ^ i ≤ p := Nat.div_le_self _ _
  rw [pk_shrN hp _ i (s_l i hi), pk_andN (by omega) 1 (by decide), Nat.testBit_eq_decide_div_mod_eq]
  exact sd_i_nI _
theorem sd_stuck (w : Int64) {l f : Nat} (hl : l < 21) (hf : f < 64) : sd_b ((w &&& (((1 : Int64) <<< ((2 * nI l).toInt64 &&& 63)) ^^^ (-1))) ||| ((1 : Int64) <<< (((2 * nI l) + 1).toInt64 &&& 63))) f = if f / 2 = l then (f % 2 == 1) else sd_b w f := by
  have e1 : (2 : Int32) * nI l = nI (2 * l) := pk_mul 2 l
  have e2 : (2 : Int32) * nI l + 1 = nI (2 * l + 1) := by rw [e1, nI_1]
  rw [e2, e1, sd_or, sd_and, sd_not _ hf, sd_two (by omega) hf, sd_two (by omega) hf]
  by_cases h : f / 2 = l
  · rw [if_pos h]
    rcases Nat.mod_two_eq_zero_or_one f with z | z
    · rw [decide_eq_true (show 2 * l = f by omega), decide_eq_false (show ¬ 2 * l + 1 = f by omega), z]
      cases sd_b w f <;> rfl
    · rw [decide_eq_false (show ¬ 2 * l = f by omega), decide_eq_true (show 2 * l + 1 = f by omega), z]
      cases sd_b w f <;> rfl
  · rw [if_neg h, decide_eq_false (show ¬ 2 * l = f by omega), decide_eq_false (show ¬ 2 * l + 1 = f by omega)]
    cases sd_b w f <;> rfl
/-! counting -/
def sd_cn (P : Nat → Bool) : Nat → Nat
  | 0 => 0
  | n + 1 => sd_cn P n + (P n).toNat
theorem sd_cn_le (P : Nat → Bool) : ∀ n, sd_cn P n ≤ n := by
  intro n
  induction n with
  | zero => exact Nat.le_refl _
  | succ n ih =>
    have h : (P n).toNat ≤ 1 := Bool.toNat_le _
    show sd_cn P n + (P n).toNat ≤ n + 1
    omega
theorem sd_cn_t {P : Nat → Bool} {n : Nat} (h : P n = true) : sd_cn P (n + 1) = sd_cn P n + 1 := by
  show sd_cn P n + (P n).toNat = _
  rw [h]; rfl
theorem sd_cn_f {P : Nat → Bool} {n : Nat} (h : P n = false) : sd_cn P (n + 1) = sd_cn P n := by
  show sd_cn P n + (P n).toNat = _
  rw [h]; rfl
theorem sd_cn_congr {P Q : Nat → Bool} : ∀ n, (∀ i, i < n → P i = Q i) → sd_cn P n = sd_cn Q n := by
  intro n
  induction n with
  | zero => intro _; rfl
  | succ n ih =>
    intro h
    show sd_cn P n + (P n).toNat = sd_cn Q n + (Q n).toNat
    rw [ih (fun i hi => h i (by omega)), h n (by omega)]
theorem sd_cn_add (P : Nat → Bool) (m : Nat) : ∀ n, sd_cn P (m + n) = sd_cn P m + sd_cn (fun i => P (m + i)) n := by
  intro n
  induction n with
  | zero => rfl
  | succ n ih =>
    show sd_cn P (m + n) + (P (m + n)).toNat = sd_cn P m + (sd_cn (fun i => P (m + i)) n + (P (m + n)).toNat)
    omega
theorem sd_cn_0 : ∀ n, sd_cn (fun _ => false) n = 0 := by
  intro n
  induction n with
  | zero => rfl
  | succ n ih => rw [sd_cn_f rfl, ih]
theorem sd_cn_all : ∀ n, sd_cn (fun _ => true) n = n := by
  intro n
  induction n with
  | zero => rfl
  | succ n ih => rw [sd_cn_t rfl, ih]
/-- what stands below m alone -/
theorem sd_cn_cut {P Q : Nat → Bool} {m n : Nat} (hm : m ≤ n) (hl : ∀ i, i < m → P i = Q i) (hg : ∀ i, m ≤ i → i < n → P i = false) : sd_cn P n = sd_cn Q m := by
  obtain ⟨k, rfl⟩ : ∃ k, n = m + k := ⟨n - m, by omega⟩
  rw [sd_cn_add, sd_cn_congr m hl, sd_cn_congr (Q := fun _ => false) k (fun i hi => hg (m + i) (by omega) (by omega)), sd_cn_0, Nat.add_zero]
/-! ones, byte by byte -/
def sd_gl : List Nat → Nat
  | [] => 0
  | a :: t => a + 256 * sd_gl t
def sd_ms (m : Nat) : List Nat → Nat
  | [] => 0
  | _ :: t => m + 256 * sd_ms m t
def sd_T1 (a : Nat) : Nat := a - ((a / 2) &&& 85)
def sd_T2 (a : Nat) : Nat := (a &&& 51) + ((a / 4) &&& 51)
def sd_T3 (a : Nat) : Nat := (a + a / 16) &&& 15
theorem sd_tbg {a : Nat} (ha : a < 256) (b j : Nat) : (a + 256 * b).testBit j = if j < 8 then a.testBit j else b.testBit (j - 8) := by
  rw [Nat.add_comm]
  exact Nat.testBit_two_pow_mul_add b (i := 8) ha j
theorem sd_gand {a m : Nat} (ha : a < 256) (hm : m < 256) (b c : Nat) : (a + 256 * b) &&& (m + 256 * c) = (a &&& m) + 256 * (b &&& c) := by
  apply Nat.eq_of_testBit_eq
  intro j
  rw [Nat.testBit_and, sd_tbg ha, sd_tbg hm, sd_tbg (Nat.lt_of_le_of_lt Nat.and_le_left ha)]
  by_cases h : j < 8
  · rw [if_pos h, if_pos h, if_pos h, Nat.testBit_and]
  · rw [if_neg h, if_neg h, if_neg h, Nat.testBit_and]
theorem sd_m85 : ∀ a, a < 256 → ∀ c, c < 2 → (a / 2 + 128 * c) &&& 85 = (a / 2) &&& 85 := by decide +kernel
theorem sd_m51 : ∀ a, a < 256 → ∀ c, c < 4 → (a / 4 + 64 * c) &&& 51 = (a / 4) &&& 51 := by decide +kernel
theorem sd_g1 {a : Nat} (ha : a < 256) (b c : Nat) : ((a + 256 * b) / 2) &&& (85 + 256 * c) = ((a / 2) &&& 85) + 256 * ((b / 2) &&& c) := by
  have e : (a + 256 * b) / 2 = (a / 2 + 128 * (b % 2)) + 256 * (b / 2) := by omega
  rw [e, sd_gand (by omega) (by decide), sd_m85 a ha _ (by omega)]
theorem sd_g2 {a : Nat} (ha : a < 256) (b c : Nat) : ((a + 256 * b) / 4) &&& (51 + 256 * c) = ((a / 4) &&& 51) + 256 * ((b / 4) &&& c) := by
  have e : (a + 256 * b) / 4 = (a / 4 + 64 * (b % 4)) + 256 * (b / 4) := by omega
  rw [e, sd_gand (by omega) (by decide), sd_m51 a ha _ (by omega)]
theorem sd_s1 : ∀ t : List Nat, (∀ a, a ∈ t → a < 256) → sd_gl t - ((sd_gl t / 2) &&& sd_ms 85 t) = sd_gl (t.map sd_T1) ∧ ((sd_gl t / 2) &&& sd_ms 85 t) ≤ sd_gl t := by
  intro t
  induction t with
  | nil => intro _; exact ⟨rfl, Nat.le_refl _⟩
  | cons a t ih =>
    intro h
    have ha : a < 256 := h a List.mem_cons_self
    obtain ⟨i1, i2⟩ := ih (fun x hx => h x (List.mem_cons_of_mem _ hx))
    have e : ((sd_gl (a :: t)) / 2 &&& sd_ms 85 (a :: t)) = ((a / 2) &&& 85) + 256 * ((sd_gl t / 2) &&& sd_ms 85 t) := sd_g1 ha _ _
    have hl : (a / 2) &&& 85 ≤ a := Nat.le_trans Nat.and_le_left (Nat.div_le_self _ _)
    have eg : sd_gl (a :: t) = a + 256 * sd_gl t := rfl
    have em : sd_gl ((a :: t).map sd_T1) = (a - ((a / 2) &&& 85)) + 256 * sd_gl (t.map sd_T1) := rfl
    rw [e, em, ← i1, eg]
    generalize (a / 2) &&& 85 = u at *
    generalize (sd_gl t / 2) &&& sd_ms 85 t = v at *
    constructor <;> omega
theorem sd_s2 : ∀ t : List Nat, (∀ a, a ∈ t → a < 256) → (sd_gl t &&& sd_ms 51 t) + ((sd_gl t / 4) &&& sd_ms 51 t) = sd_gl (t.map sd_T2) := by
  intro t
  induction t with
  | nil => intro _; rfl
  | cons a t ih =>
    intro h
    have ha : a < 256 := h a List.mem_cons_self
    have i1 := ih (fun x hx => h x (List.mem_cons_of_mem _ hx))
    have e : ((sd_gl (a :: t)) / 4 &&& sd_ms 51 (a :: t)) = ((a / 4) &&& 51) + 256 * ((sd_gl t / 4) &&& sd_ms 51 t) := sd_g2 ha _ _
    have e' : ((sd_gl (a :: t)) &&& sd_ms 51 (a :: t)) = (a &&& 51) + 256 * (sd_gl t &&& sd_ms 51 t) := sd_gand ha (by decide) _ _
    have em : sd_gl ((a :: t).map sd_T2) = ((a &&& 51) + ((a / 4) &&& 51)) + 256 * sd_gl (t.map sd_T2) := rfl
    rw [e, e', em, ← i1]
    omega
def sd_nib (t : List Nat) : Prop := ∀ a, a ∈ t → a % 16 ≤ 4 ∧ a / 16 ≤ 4
theorem sd_s3 : ∀ t : List Nat, sd_nib t → (sd_gl t + sd_gl t / 16) &&& sd_ms 15 t = sd_gl (t.map sd_T3) ∧ sd_gl t % 16 ≤ 4 := by
  intro t
  induction t with
  | nil => intro _; exact ⟨rfl, by decide⟩
  | cons a t ih =>
    intro h
    have ha := h a List.mem_cons_self
    obtain ⟨i1, i2⟩ := ih (fun x hx => h x (List.mem_cons_of_mem _ hx))
    have eg : sd_gl (a :: t) = a + 256 * sd_gl t := rfl
    have em : sd_gl ((a :: t).map sd_T3) = ((a + a / 16) &&& 15) + 256 * sd_gl (t.map sd_T3) := rfl
    have es : sd_ms 15 (a :: t) = 15 + 256 * sd_ms 15 t := rfl
    have ee : sd_gl (a :: t) + sd_gl (a :: t) / 16 = (a + a / 16 + 16 * (sd_gl t % 16)) + 256 * (sd_gl t + sd_gl t / 16) := by rw [eg]; omega
    refine ⟨?_, by rw [eg]; omega⟩
    rw [ee, es, em, sd_gand (by omega) (by decide), i1]
    have f1 : (a + a / 16 + 16 * (sd_gl t % 16)) &&& 15 = (a + a / 16 + 16 * (sd_gl t % 16)) % 16 := Nat.and_two_pow_sub_one_eq_mod _ 4
    have f2 : (a + a / 16) &&& 15 = (a + a / 16) % 16 := Nat.and_two_pow_sub_one_eq_mod _ 4
    rw [f1, f2]
    omega
theorem sd_byte : ∀ a, a < 256 → sd_T1 a < 256 ∧ sd_T2 (sd_T1 a) % 16 ≤ 4 ∧ sd_T2 (sd_T1 a) / 16 ≤ 4 ∧ sd_T3 (sd_T2 (sd_T1 a)) = sd_cn (fun i => a.testBit i) 8 := by decide +kernel
theorem sd_cng {a : Nat} (ha : a < 256) (b m : Nat) : sd_cn (fun i => (a + 256 * b).testBit i) (8 + m) = sd_cn (fun i => a.testBit i) 8 + sd_cn (fun i => b.testBit i) m := by
  rw [sd_cn_add]
  rw [sd_cn_congr (Q := fun i => a.testBit i) 8 (fun i hi => by show (a + 256 * b).testBit i = _; rw [sd_tbg ha, if_pos hi])]
  rw [sd_cn_congr (Q := fun i => b.testBit i) m (fun i _ => by show (a + 256 * b).testBit (8 + i) = _; rw [sd_tbg ha, if_neg (by omega), Nat.add_sub_cancel_left])]
theorem sd_mulhi {c0 c1 c2 c3 c4 c5 c6 c7 : Nat} (h0 : c0 ≤ 8) (h1 : c1 ≤ 8) (h2 : c2 ≤ 8) (h3 : c3 ≤ 8) (h4 : c4 ≤ 8) (h5 : c5 ≤ 8) (h6 : c6 ≤ 8) (h7 : c7 ≤ 8) : sd_gl [c0, c1, c2, c3, c4, c5, c6, c7] * 72340172838076673 % 2 ^ 64 / 2 ^ 56 = c0 + (c1 + (c2 + (c3 + (c4 + (c5 + (c6 + c7)))))) := by
  have e : sd_gl [c0, c1, c2, c3, c4, c5, c6, c7] * 72340172838076673 = (c0 + 256 * (c0 + c1) + 65536 * (c0 + c1 + c2) + 16777216 * (c0 + c1 + c2 + c3) + 4294967296 * (c0 + c1 + c2 + c3 + c4) + 1099511627776 * (c0 + c1 + c2 + c3 + c4 + c5) + 281474976710656 * (c0 + c1 + c2 + c3 + c4 + c5 + c6) + 2 ^ 56 * (c0 + (c1 + (c2 + (c3 + (c4 + (c5 + (c6 + c7)))))))) + 2 ^ 64 * ((c1 + c2 + c3 + c4 + c5 + c6 + c7) + 256 * (c2 + c3 + c4 + c5 + c6 + c7) + 65536 * (c3 + c4 + c5 + c6 + c7) + 16777216 * (c4 + c5 + c6 + c7) + 4294967296 * (c5 + c6 + c7) + 1099511627776 * (c6 + c7) + 281474976710656 * c7) := by
    simp only [sd_gl]
    omega
  rw [e, Nat.add_mul_mod_self_left, Nat.mod_eq_of_lt (by omega), Nat.add_mul_div_left _ _ (by decide), Nat.div_eq_of_lt (by omega), Nat.zero_add]
theorem sd_gl64 {y0 y1 y2 y3 y4 y5 y6 y7 : Nat} (h0 : y0 < 256) (h1 : y1 < 256) (h2 : y2 < 256) (h3 : y3 < 256) (h4 : y4 < 256) (h5 : y5 < 256) (h6 : y6 < 256) (h7 : y7 < 256) : sd_gl [y0, y1, y2, y3, y4, y5, y6, y7] < 2 ^ 64 := by
  simp only [sd_gl]
  omega
theorem sd_gl63 {y0 y1 y2 y3 y4 y5 y6 y7 : Nat} (h0 : y0 % 16 ≤ 4 ∧ y0 / 16 ≤ 4) (h1 : y1 % 16 ≤ 4 ∧ y1 / 16 ≤ 4) (h2 : y2 % 16 ≤ 4 ∧ y2 / 16 ≤ 4) (h3 : y3 % 16 ≤ 4 ∧ y3 / 16 ≤ 4) (h4 : y4 % 16 ≤ 4 ∧ y4 / 16 ≤ 4) (h5 : y5 % 16 ≤ 4 ∧ y5 / 16 ≤ 4) (h6 : y6 % 16 ≤ 4 ∧ y6 / 16 ≤ 4) (h7 : y7 % 16 ≤ 4 ∧ y7 / 16 ≤ 4) : sd_gl [y0, y1, y2, y3, y4, y5, y6, y7] < 2 ^ 63 := by
  have a0 : y0 ≤ 68 := by omega
  have a1 : y1 ≤ 68 := by omega
  have a2 : y2 ≤ 68 := by omega
  have a3 : y3 ≤ 68 := by omega
  have a4 : y4 ≤ 68 := by omega
  have a5 : y5 ≤ 68 := by omega
  have a6 : y6 ≤ 68 := by omega
  have a7 : y7 ≤ 68 := by omega
  clear h0 h1 h2 h3 h4 h5 h6 h7
  simp only [sd_gl]
  omega
theorem sd_sum64 {x : Nat} (h : x < 2 ^ 63) : x + x / 16 < 2 ^ 64 := by omega
theorem sd_le256 {x : Nat} (h : x ≤ 8) : x < 256 := by omega
theorem sd_ms85 (y0 y1 y2 y3 y4 y5 y6 y7 : Nat) : sd_ms 85 [y0, y1, y2, y3, y4, y5, y6, y7] = 6148914691236517205 := by
  simp only [sd_ms]
theorem sd_ms51 (y0 y1 y2 y3 y4 y5 y6 y7 : Nat) : sd_ms 51 [y0, y1, y2, y3, y4, y5, y6, y7] = 3689348814741910323 := by
  simp only [sd_ms]
theorem sd_ms15 (y0 y1 y2 y3 y4 y5 y6 y7 : Nat) : sd_ms 15 [y0, y1, y2, y3, y4, y5, y6, y7] = 1085102592571150095 := by
  simp only [sd_ms]
theorem sd_gl8 (y0 y1 y2 y3 y4 y5 y6 y7 : Nat) : sd_gl [y0, y1, y2, y3, y4, y5, y6, y7] = y0 + 256 * (y1 + 256 * (y2 + 256 * (y3 + 256 * (y4 + 256 * (y5 + 256 * (y6 + 256 * y7)))))) := by
  simp only [sd_gl, Nat.mul_zero, Nat.add_zero]
theorem sd_pop {n : Nat} (hn : n < 2 ^ 64) : ∃ x1 x2 x3 : Nat, n - ((n / 2) &&& 6148914691236517205) = x1 ∧ ((n / 2) &&& 6148914691236517205) ≤ n ∧ x1 < 2 ^ 64 ∧ (x1 &&& 3689348814741910323) + ((x1 / 4) &&& 3689348814741910323) = x2 ∧ x2 < 2 ^ 64 ∧ (x2 + x2 / 16) < 2 ^ 64 ∧ (x2 + x2 / 16) &&& 1085102592571150095 = x3 ∧ x3 < 2 ^ 64 ∧ x3 * 72340172838076673 % 2 ^ 64 / 2 ^ 56 = sd_cn (fun i => n.testBit i) 64 := by
  obtain ⟨y0, y1, y2, y3, y4, y5, y6, y7, h0, h1, h2, h3, h4, h5, h6, h7, e⟩ : ∃ y0 y1 y2 y3 y4 y5 y6 y7 : Nat, y0 < 256 ∧ y1 < 256 ∧ y2 < 256 ∧ y3 < 256 ∧ y4 < 256 ∧ y5 < 256 ∧ y6 < 256 ∧ y7 < 256 ∧ n = y0 + 256 * (y1 + 256 * (y2 + 256 * (y3 + 256 * (y4 + 256 * (y5 + 256 * (y6 + 256 * y7)))))) := by
    refine ⟨n % 256, n / 256 % 256, n / 65536 % 256, n / 16777216 % 256, n / 4294967296 % 256, n / 1099511627776 % 256, n / 281474976710656 % 256, n / 72057594037927936 % 256, ?_, ?_, ?_, ?_, ?_, ?_, ?_, ?_, ?_⟩ <;> omega
  have eg : n = sd_gl [y0, y1, y2, y3, y4, y5, y6, y7] := e.trans (sd_gl8 _ _ _ _ _ _ _ _).symm
  have hall : ∀ a, a ∈ [y0, y1, y2, y3, y4, y5, y6, y7] → a < 256 := by
    intro a ha
    simp only [List.mem_cons, List.not_mem_nil, or_false] at ha
    rcases ha with rfl | rfl | rfl | rfl | rfl | rfl | rfl | rfl <;> assumption
  obtain ⟨s1, s1'⟩ := sd_s1 _ hall
  rw [sd_ms85] at s1 s1'
  have b1 := sd_byte _ h0
  have b2 := sd_byte _ h1
  have b3 := sd_byte _ h2
  have b4 := sd_byte _ h3
  have b5 := sd_byte _ h4
  have b6 := sd_byte _ h5
  have b7 := sd_byte _ h6
  have b8 := sd_byte _ h7
  have hall1 : ∀ a, a ∈ [sd_T1 y0, sd_T1 y1, sd_T1 y2, sd_T1 y3, sd_T1 y4, sd_T1 y5, sd_T1 y6, sd_T1 y7] → a < 256 := by
    intro a ha
    simp only [List.mem_cons, List.not_mem_nil, or_false] at ha
    rcases ha with rfl | rfl | rfl | rfl | rfl | rfl | rfl | rfl
    · exact b1.1
    · exact b2.1
    · exact b3.1
    · exact b4.1
    · exact b5.1
    · exact b6.1
    · exact b7.1
    · exact b8.1
  have s2 := sd_s2 _ hall1
  rw [sd_ms51] at s2
  have hn2 : sd_nib [sd_T2 (sd_T1 y0), sd_T2 (sd_T1 y1), sd_T2 (sd_T1 y2), sd_T2 (sd_T1 y3), sd_T2 (sd_T1 y4), sd_T2 (sd_T1 y5), sd_T2 (sd_T1 y6), sd_T2 (sd_T1 y7)] := by
    intro a ha
    simp only [List.mem_cons, List.not_mem_nil, or_false] at ha
    rcases ha with rfl | rfl | rfl | rfl | rfl | rfl | rfl | rfl
    · exact ⟨b1.2.1, b1.2.2.1⟩
    · exact ⟨b2.2.1, b2.2.2.1⟩
    · exact ⟨b3.2.1, b3.2.2.1⟩
    · exact ⟨b4.2.1, b4.2.2.1⟩
    · exact ⟨b5.2.1, b5.2.2.1⟩
    · exact ⟨b6.2.1, b6.2.2.1⟩
    · exact ⟨b7.2.1, b7.2.2.1⟩
    · exact ⟨b8.2.1, b8.2.2.1⟩
  obtain ⟨s3, _⟩ := sd_s3 _ hn2
  rw [sd_ms15] at s3
  have h63 := sd_gl63 ⟨b1.2.1, b1.2.2.1⟩ ⟨b2.2.1, b2.2.2.1⟩ ⟨b3.2.1, b3.2.2.1⟩ ⟨b4.2.1, b4.2.2.1⟩ ⟨b5.2.1, b5.2.2.1⟩ ⟨b6.2.1, b6.2.2.1⟩ ⟨b7.2.1, b7.2.2.1⟩ ⟨b8.2.1, b8.2.2.1⟩
  have c1 := sd_cn_le (fun i => y0.testBit i) 8
  have c2 := sd_cn_le (fun i => y1.testBit i) 8
  have c3 := sd_cn_le (fun i => y2.testBit i) 8
  have c4 := sd_cn_le (fun i => y3.testBit i) 8
  have c5 := sd_cn_le (fun i => y4.testBit i) 8
  have c6 := sd_cn_le (fun i => y5.testBit i) 8
  have c7 := sd_cn_le (fun i => y6.testBit i) 8
  have c8 := sd_cn_le (fun i => y7.testBit i) 8
  refine ⟨sd_gl [sd_T1 y0, sd_T1 y1, sd_T1 y2, sd_T1 y3, sd_T1 y4, sd_T1 y5, sd_T1 y6, sd_T1 y7], sd_gl [sd_T2 (sd_T1 y0), sd_T2 (sd_T1 y1), sd_T2 (sd_T1 y2), sd_T2 (sd_T1 y3), sd_T2 (sd_T1 y4), sd_T2 (sd_T1 y5), sd_T2 (sd_T1 y6), sd_T2 (sd_T1 y7)], sd_gl [sd_cn (fun i => y0.testBit i) 8, sd_cn (fun i => y1.testBit i) 8, sd_cn (fun i => y2.testBit i) 8, sd_cn (fun i => y3.testBit i) 8, sd_cn (fun i => y4.testBit i) 8, sd_cn (fun i => y5.testBit i) 8, sd_cn (fun i => y6.testBit i) 8, sd_cn (fun i => y7.testBit i) 8], ?_, ?_, ?_, ?_, ?_, ?_, ?_, ?_, ?_⟩
  · rw [eg]; exact s1
  · rw [eg]; exact s1'
  · exact sd_gl64 b1.1 b2.1 b3.1 b4.1 b5.1 b6.1 b7.1 b8.1
  · exact s2
  · exact Nat.lt_trans h63 (by decide)
  · exact sd_sum64 h63
  · rw [← b1.2.2.2, ← b2.2.2.2, ← b3.2.2.2, ← b4.2.2.2, ← b5.2.2.2, ← b6.2.2.2, ← b7.2.2.2, ← b8.2.2.2]
    exact s3
  · exact sd_gl64 (sd_le256 c1) (sd_le256 c2) (sd_le256 c3) (sd_le256 c4) (sd_le256 c5) (sd_le256 c6) (sd_le256 c7) (sd_le256 c8)
  · rw [sd_mulhi c1 c2 c3 c4 c5 c6 c7 c8, e]
    have g7 := sd_cng h6 y7 8
    have g6 := sd_cng h5 (y6 + 256 * y7) 16
    have g5 := sd_cng h4 (y5 + 256 * (y6 + 256 * y7)) 24
    have g4 := sd_cng h3 (y4 + 256 * (y5 + 256 * (y6 + 256 * y7))) 32
    have g3 := sd_cng h2 (y3 + 256 * (y4 + 256 * (y5 + 256 * (y6 + 256 * y7)))) 40
    have g2 := sd_cng h1 (y2 + 256 * (y3 + 256 * (y4 + 256 * (y5 + 256 * (y6 + 256 * y7))))) 48
    have g1 := sd_cng h0 (y1 + 256 * (y2 + 256 * (y3 + 256 * (y4 + 256 * (y5 + 256 * (y6 + 256 * y7)))))) 56
    rw [g1, g2, g3, g4, g5, g6, g7]
theorem sd_onesN {n : Nat} (hn : n < 2 ^ 64) {post : Int32 → Prop} (h : post (nI (sd_cn (fun i => n.testBit i) 64))) : wpX_ones post (lN n) := by
  obtain ⟨x1, x2, x3, e1, l1, k1, e2, k2, k2', e3, k3, e4⟩ := sd_pop hn
  unfold wpX_ones
  have a1 : ((lN n).toUInt64 >>> ((1 : Int32).toInt64.toUInt64 &&& Int64.toUInt64 63)).toInt64 = lN (n / 2) := wb_shr (k := 1) hn (by decide)
  have m1 : lN (n / 2) &&& 6148914691236517205 = lN (n / 2 &&& 6148914691236517205) := wb_and (b := 6148914691236517205) (by omega) (by decide)
  refine nm_r (e' := lN x1) (by rw [a1, m1, lN_sub l1, e1]) ?_
  have a2 : ((lN x1).toUInt64 >>> ((2 : Int32).toInt64.toUInt64 &&& Int64.toUInt64 63)).toInt64 = lN (x1 / 4) := wb_shr (k := 2) k1 (by decide)
  have m2 : lN (x1 / 4) &&& 3689348814741910323 = lN (x1 / 4 &&& 3689348814741910323) := wb_and (b := 3689348814741910323) (by omega) (by decide)
  have m2' : lN x1 &&& 3689348814741910323 = lN (x1 &&& 3689348814741910323) := wb_and (b := 3689348814741910323) (by omega) (by decide)
  refine nm_r (e' := lN x2) (by rw [a2, m2, m2', lN_add, e2]) ?_
  have a3 : ((lN x2).toUInt64 >>> ((4 : Int32).toInt64.toUInt64 &&& Int64.toUInt64 63)).toInt64 = lN (x2 / 16) := wb_shr (k := 4) k2 (by decide)
  have m3 : lN (x2 + x2 / 16) &&& 1085102592571150095 = lN ((x2 + x2 / 16) &&& 1085102592571150095) := wb_and (b := 1085102592571150095) k2' (by decide)
  refine nm_r (e' := lN x3) (by rw [a3, lN_add, m3, e3]) ?_
  have a4 : lN x3 * 72340172838076673 = lN (x3 * 72340172838076673 % 2 ^ 64) := by
    rw [← wb_mod]
    exact lN_mul x3 72340172838076673
  have a5 : ((lN (x3 * 72340172838076673 % 2 ^ 64)).toUInt64 >>> ((56 : Int32).toInt64.toUInt64 &&& Int64.toUInt64 63)).toInt64 = lN (x3 * 72340172838076673 % 2 ^ 64 / 2 ^ 56) := wb_shr (k := 56) (Nat.mod_lt _ (by decide)) (by decide)
  rw [a4, a5, e4, lN_i]
  exact h
theorem sd_ones {w : Int64} {post : Int32 → Prop} (h : post (nI (sd_cn (sd_b w) 64))) : wpX_ones post w := by
  obtain ⟨n, hn, rfl⟩ := wb_of w
  refine sd_onesN hn ?_
  rw [← sd_cn_congr 64 (fun i hi => sd_lN n hi)]
  exact h
/-- ones of the bits below m -/
theorem sd_onesC {w : Int64} {post : Int32 → Prop} {P : Nat → Bool} {m : Nat} (hm : m ≤ 64) (hl : ∀ i, i < m → sd_b w i = P i) (hg : ∀ i, m ≤ i → i < 64 → sd_b w i = false) (h : post (nI (sd_cn P m))) : wpX_ones post w :=
  sd_ones (by rw [sd_cn_cut hm hl hg]; exact h)
theorem sd_lowest {w : Int64} {post : Int32 → Prop} {e : Nat} (he : e < 64) (h1 : sd_b w e = true) (h0 : ∀ j, j < e → sd_b w j = false) (h : post (nI e)) : wpX_lowest post w := by
  have hx : w &&& (-w) = lN (2 ^ e) := by
    apply sd_ext
    intro i hi
    rw [sd_and, sd_lN _ hi, Nat.testBit_two_pow]
    have hneg : sd_b (-w) i = (sd_b w i ^^ (decide (i < 64) && decide (∃ j, j < i ∧ sd_b w j = true))) := by
      unfold sd_b
      rw [Int64.toBitVec_neg, BitVec.getLsbD_neg]
    rw [hneg, decide_eq_true hi, Bool.true_and]
    rcases Nat.lt_trichotomy i e with z | z | z
    · rw [h0 i z, decide_eq_false (show ¬ e = i by omega)]; rfl
    · subst z
      rw [h1, decide_eq_true (show i = i from rfl), decide_eq_false]
      · rfl
      · rintro ⟨j, hj, hb⟩
        rw [h0 j hj] at hb
        exact absurd hb (by decide)
    · rw [decide_eq_true (show ∃ j, j < i ∧ sd_b w j = true from ⟨e, z, h1⟩), decide_eq_false (show ¬ e = i by omega)]
      cases sd_b w i <;> rfl
  unfold wpX_lowest
  refine nm_r hx ?_
  have hp : 0 < 2 ^ e := Nat.two_pow_pos e
  have hs : lN (2 ^ e) - 1 = lN (2 ^ e - 1) := lN_sub (b := 1) hp
  rw [hs]
  refine sd_onesC (P := fun _ => true) (m := e) (by omega) ?_ ?_ ?_
  · intro i hi
    rw [sd_lN _ (by omega), Nat.testBit_two_pow_sub_one, decide_eq_true hi]
  · intro i hi hi'
    rw [sd_lN _ (by omega), Nat.testBit_two_pow_sub_one, decide_eq_false (by omega)]
  · rw [sd_cn_all]
    exact h
end
section
/-! ===== the circuit, pure ===== -/
def sd_ga (k : Int32) (x y : Bool) : Bool := if k = 0 then (x && y) else if k = 1 then (x || y) else if k = 2 then (x ^^ y) else if k = 3 then !(x && y) else if k = 4 then !(x || y) else !x
def sd_tb (kd fs sn : Nat → Int32) (f : Nat) (s : Nat → Bool) : Nat → Nat → Bool
  | 0, _ => false
  | n + 1, l => if l = n then (if f / 2 = n then (f % 2 == 1) else if n < 7 then s n else sd_ga (kd (n - 7)) (sd_tb kd fs sn f s n (fs (n - 7)).toNatClampNeg) (sd_tb kd fs sn f s n (sn (n - 7)).toNatClampNeg)) else sd_tb kd fs sn f s n l
/-- the value of line l in the circuit with fault f (63: none) -/
def sd_tv (kd fs sn : Nat → Int32) (f : Nat) (s : Nat → Bool) (l : Nat) : Bool := sd_tb kd fs sn f s (l + 1) l
theorem sd_tb_lt {kd fs sn : Nat → Int32} {f : Nat} {s : Nat → Bool} : ∀ n l, l < n → sd_tb kd fs sn f s n l = sd_tv kd fs sn f s l := by
  intro n
  induction n with
  | zero => intro l h; omega
  | succ n ih =>
    intro l h
    by_cases e : l = n
    · subst e; rfl
    · rw [sd_tb, if_neg e]
      exact ih l (by omega)
theorem sd_tv_lo {kd fs sn : Nat → Int32} {f : Nat} {s : Nat → Bool} {l : Nat} (h : l < 7) : sd_tv kd fs sn f s l = if f / 2 = l then (f % 2 == 1) else s l := by
  unfold sd_tv
  rw [sd_tb, if_pos rfl, if_pos h]
theorem sd_tv_hi {kd fs sn : Nat → Int32} {f : Nat} {s : Nat → Bool} {g i j : Nat} (hi : i < 7 + g) (hj : j < 7 + g) (ei : (fs g).toNatClampNeg = i) (ej : (sn g).toNatClampNeg = j) : sd_tv kd fs sn f s (7 + g) = if f / 2 = 7 + g then (f % 2 == 1) else sd_ga (kd g) (sd_tv kd fs sn f s i) (sd_tv kd fs sn f s j) := by
  have e : 7 + g - 7 = g := by omega
  unfold sd_tv
  rw [sd_tb, if_pos rfl, if_neg (show ¬ 7 + g < 7 by omega), e, ei, ej, sd_tb_lt (7 + g) i hi, sd_tb_lt (7 + g) j hj]
  rfl
/-- the inputs (0 .. 3) and states (4 .. 6) ahead of cycle c -/
def sd_st (kd fs sn fe : Nat → Int32) (f p : Nat) : Nat → Nat → Bool
  | 0, k => p.testBit k
  | c + 1, k => if k < 4 then p.testBit k else sd_tv kd fs sn f (sd_st kd fs sn fe f p c) (fe (k - 4)).toNatClampNeg
theorem sd_st_lo {kd fs sn fe : Nat → Int32} {f p : Nat} (c : Nat) {k : Nat} (h : k < 4) : sd_st kd fs sn fe f p c k = p.testBit k := by
  cases c with
  | zero => rfl
  | succ c => rw [sd_st, if_pos h]
theorem sd_st_hi {kd fs sn fe : Nat → Int32} {f p c k : Nat} : sd_st kd fs sn fe f p (c + 1) (4 + k) = sd_tv kd fs sn f (sd_st kd fs sn fe f p c) (fe k).toNatClampNeg := by
  rw [sd_st, if_neg (show ¬ 4 + k < 4 by omega), show 4 + k - 4 = k by omega]
/-- answer bit b after c + 1 cycles -/
def sd_an (kd fs sn fe ou : Nat → Int32) (f p c b : Nat) : Bool := sd_tv kd fs sn f (sd_st kd fs sn fe f p c) (if b < 3 then fe b else ou (b - 3)).toNatClampNeg
def sd_p5 (b0 b1 b2 b3 b4 : Bool) : Int32 := (((sd_i b0 + 2 * sd_i b1) + 4 * sd_i b2) + 8 * sd_i b3) + 16 * sd_i b4
def sd_pk (a : Nat → Bool) : Int32 := sd_p5 (a 0) (a 1) (a 2) (a 3) (a 4)
/-- the answer after c cycles -/
def sd_rn (kd fs sn fe ou : Nat → Int32) (f p : Nat) : Nat → Int32
  | 0 => 0
  | c + 1 => sd_pk (sd_an kd fs sn fe ou f p c)
theorem sd_p0 : ∀ b0 b1 b2 b3 b4 : Bool, (sd_p5 b0 b1 b2 b3 b4 >>> (nI 0 &&& 31)) &&& 1 = sd_i b0 := by decide
theorem sd_p1 : ∀ b0 b1 b2 b3 b4 : Bool, (sd_p5 b0 b1 b2 b3 b4 >>> (nI 1 &&& 31)) &&& 1 = sd_i b1 := by decide
theorem sd_p2 : ∀ b0 b1 b2 b3 b4 : Bool, (sd_p5 b0 b1 b2 b3 b4 >>> (nI 2 &&& 31)) &&& 1 = sd_i b2 := by decide
theorem sd_p3 : ∀ b0 b1 b2 b3 b4 : Bool, (sd_p5 b0 b1 b2 b3 b4 >>> (nI 3 &&& 31)) &&& 1 = sd_i b3 := by decide
theorem sd_p4 : ∀ b0 b1 b2 b3 b4 : Bool, (sd_p5 b0 b1 b2 b3 b4 >>> (nI 4 &&& 31)) &&& 1 = sd_i b4 := by decide
theorem sd_pkb (a : Nat → Bool) {b : Nat} (hb : b < 5) : (sd_pk a >>> (nI b &&& 31)) &&& 1 = sd_i (a b) := by
  rcases (show b = 0 ∨ b = 1 ∨ b = 2 ∨ b = 3 ∨ b = 4 by omega) with rfl | rfl | rfl | rfl | rfl
  · exact sd_p0 _ _ _ _ _
  · exact sd_p1 _ _ _ _ _
  · exact sd_p2 _ _ _ _ _
  · exact sd_p3 _ _ _ _ _
  · exact sd_p4 _ _ _ _ _
theorem sd_pk_eq (a a' : Nat → Bool) : sd_pk a = sd_pk a' ↔ ∀ b, b < 5 → a b = a' b := by
  constructor
  · intro h b hb
    apply sd_i_inj
    rw [← sd_pkb a hb, ← sd_pkb a' hb, h]
  · intro h
    unfold sd_pk
    rw [h 0 (by decide), h 1 (by decide), h 2 (by decide), h 3 (by decide), h 4 (by decide)]
theorem sd_p_pos : ∀ b0 b1 b2 b3 b4 : Bool, ¬ sd_p5 b0 b1 b2 b3 b4 < 0 := by decide
theorem sd_pk_pos (a : Nat → Bool) : ¬ sd_pk a < 0 := sd_p_pos _ _ _ _ _
theorem sd_rn_pos {kd fs sn fe ou : Nat → Int32} {f p c : Nat} : ¬ sd_rn kd fs sn fe ou f p (c + 1) < 0 := sd_pk_pos _
theorem sd_rn_eq {kd fs sn fe ou : Nat → Int32} {f g p c : Nat} : sd_rn kd fs sn fe ou f p (c + 1) = sd_rn kd fs sn fe ou g p (c + 1) ↔ ∀ b, b < 5 → sd_an kd fs sn fe ou f p c b = sd_an kd fs sn fe ou g p c b := sd_pk_eq _ _
/-- a circuit whose links are within -/
def sd_C (G : Nat) (fs sn fe ou : Nat → Int32) : Prop := G ≤ 14 ∧ (∀ g, g < G → ∃ j, j < 7 + g ∧ fs g = nI j) ∧ (∀ g, g < G → ∃ j, j < 7 + g ∧ sn g = nI j) ∧ (∀ k, k < 3 → ∃ j, j < 7 + G ∧ fe k = nI j) ∧ (∀ k, k < 2 → ∃ j, j < 7 + G ∧ ou k = nI j)
/-- the fault as the reference writes it -/
def sd_fc (f : Nat) : Int32 := if f = 63 then -1 else nI f
theorem sd_fc_n {f : Nat} (h : f < 63) : nI f = sd_fc f := by unfold sd_fc; rw [if_neg (by omega)]
theorem sd_fc_h : (-1 : Int32) = sd_fc 63 := by unfold sd_fc; rw [if_pos rfl]
/-- the noted observations are within -/
def sd_O (pt cy : Nat → Int32) (n : Nat) : Prop := ∀ i, i < n → ∃ p c, p < 128 ∧ c < 4 ∧ pt i = nI p ∧ cy i = nI (c + 1)
def sd_EX (kd fs sn fe ou pt cy aw : Nat → Int32) (f n : Nat) : Prop := ∀ i, i < n → sd_rn kd fs sn fe ou f (pt i).toNatClampNeg (cy i).toNatClampNeg = aw i
def sd_AL (kd fs sn fe ou : Nat → Int32) (f g : Nat) : Prop := ∀ p, p < 128 → sd_rn kd fs sn fe ou f p 1 = sd_rn kd fs sn fe ou g p 1
theorem sd_AL_s {kd fs sn fe ou : Nat → Int32} {f g : Nat} (h : sd_AL kd fs sn fe ou f g) : sd_AL kd fs sn fe ou g f := fun p hp => (h p hp).symm
theorem sd_AL_r {kd fs sn fe ou : Nat → Int32} {f : Nat} : sd_AL kd fs sn fe ou f f := fun _ _ => rfl
theorem sd_AL_t {kd fs sn fe ou : Nat → Int32} {f g h : Nat} (a : sd_AL kd fs sn fe ou f g) (b : sd_AL kd fs sn fe ou g h) : sd_AL kd fs sn fe ou f h := fun p hp => (a p hp).trans (b p hp)
/-- a Prop as a Bool -/
noncomputable def sd_d (P : Prop) : Bool := @decide P (Classical.propDecidable P)
theorem sd_d_t {P : Prop} (h : P) : sd_d P = true := by unfold sd_d; exact @decide_eq_true P (Classical.propDecidable P) h
theorem sd_d_f {P : Prop} (h : ¬ P) : sd_d P = false := by unfold sd_d; exact @decide_eq_false P (Classical.propDecidable P) h
theorem sd_d_iff {P : Prop} {b : Bool} (h : b = true ↔ P) : b = sd_d P := by
  by_cases e : P
  · rw [sd_d_t e]; exact h.mpr e
  · rw [sd_d_f e]
    cases b with
    | false => rfl
    | true => exact absurd (h.mp rfl) e
end
section
/-! ===== X: combine, stuck, settle, runAll, answerOf ===== -/
theorem sd_xcomb {post : Int64 → Prop} {k : Int32} {a b : Int64} (h : ∀ w, (∀ f, f < 64 → sd_b w f = sd_ga k (sd_b a f) (sd_b b f)) → post w) : wpX_combine post k a b := by
  unfold wpX_combine
  refine br_c (fun e => h _ fun f hf => ?_) fun n0 => br_c (fun e => h _ fun f hf => ?_) fun n1 => br_c (fun e => h _ fun f hf => ?_) fun n2 => br_c (fun e => h _ fun f hf => ?_) fun n3 => br_c (fun e => h _ fun f hf => ?_) fun n4 => h _ fun f hf => ?_
  · unfold sd_ga; rw [if_pos e, sd_and]
  · unfold sd_ga; rw [if_neg n0, if_pos e, sd_or]
  · unfold sd_ga; rw [if_neg n0, if_neg n1, if_pos e, sd_xor]
  · unfold sd_ga; rw [if_neg n0, if_neg n1, if_neg n2, if_pos e, sd_not _ hf, sd_and]
  · unfold sd_ga; rw [if_neg n0, if_neg n1, if_neg n2, if_neg n3, if_pos e, sd_not _ hf, sd_or]
  · unfold sd_ga; rw [if_neg n0, if_neg n1, if_neg n2, if_neg n3, if_neg n4, sd_not _ hf]
theorem sd_xstuck {post : Int64 → Prop} {l : Nat} {w : Int64} (hl : l < 21) (h : ∀ r, (∀ f, f < 64 → sd_b r f = if f / 2 = l then (f % 2 == 1) else sd_b w f) → post r) : wpX_stuck post (nI l) w := h _ (fun _ hf => sd_stuck w hl hf)
/-- the words of the lines below n, for inputs S f -/
def sd_W (kd fs sn : Nat → Int32) (S : Nat → Nat → Bool) (wo : Nat → Int64) (n : Nat) : Prop := ∀ l, l < n → ∀ f, f < 64 → sd_b (wo l) f = sd_tv kd fs sn f (S f) l
theorem sd_W_put {kd fs sn : Nat → Int32} {S : Nat → Nat → Bool} {wo : Nat → Int64} {n : Nat} {r : Int64} (h : sd_W kd fs sn S wo n) (hr : ∀ f, f < 64 → sd_b r f = sd_tv kd fs sn f (S f) n) : sd_W kd fs sn S (vp_updL wo n r) (n + 1) := by
  intro l hl f hf
  by_cases e : l = n
  · subst e; rw [pk_uLs]; exact hr f hf
  · rw [pk_uLn e]; exact h l (by omega) f hf
section
variable {G : Nat} {dv nt : Int32} {lf lh : Int64} {gr : Int32} {kd fs sn fe ou : Nat → Int32} {wo sa aa lk : Nat → Int64}
theorem sd_x76 {post : SX → Prop} {S : Nat → Nat → Bool} (C : sd_C G fs sn fe ou) (K : ∀ wo', sd_W kd fs sn S wo' (7 + G) → post (nI G, dv, nt, lf, lh, gr, kd, fs, sn, fe, ou, wo', sa, aa, lk)) : ∀ d g, g + d = G → ∀ wo, sd_W kd fs sn S wo (7 + g) → ∀ n, d < n → wX_settle_76 post (nI G) dv nt lf lh gr n (nI g) kd fs sn fe ou wo sa aa lk := by
  have hG := C.1
  intro d
  induction d with
  | zero =>
    intro g hg wo hW n hn
    obtain ⟨m, rfl⟩ : ∃ m, n = m + 1 := ⟨n - 1, by omega⟩
    have e : g = G := by omega
    subst e
    exact br_t (nI_le (by omega) (by omega)) (K _ hW)
  | succ d ih =>
    intro g hg wo hW n hn
    obtain ⟨m, rfl⟩ : ∃ m, n = m + 1 := ⟨n - 1, by omega⟩
    obtain ⟨i, hi, ei⟩ := C.2.1 g (by omega)
    obtain ⟨j, hj, ej⟩ := C.2.2.1 g (by omega)
    have hc : (nI g).toNatClampNeg = g := nI_clamp (by omega)
    have hin : vp_in (nI g) 14 := vp_in_nI (by omega) (by decide)
    have ci : (nI i).toNatClampNeg = i := nI_clamp (by omega)
    have cj : (nI j).toNatClampNeg = j := nI_clamp (by omega)
    have e7 : (7 : Int32) + nI g = nI (7 + g) := nI_add 7 g
    refine br_f (nI_ge (by omega) (by omega)) ⟨hin, hin, ?_, hin, ?_, ?_⟩
    · rw [hc, ei]; exact vp_in_nI (by omega) (by decide)
    · rw [hc, ej]; exact vp_in_nI (by omega) (by decide)
    · rw [hc, ei, ej, ci, cj]
      refine sd_xcomb fun r hr => ?_
      rw [e7]
      refine sd_xstuck (by omega) fun q hq => ⟨vp_in_nI (by omega) (by decide), ?_⟩
      refine nm_r (e' := vp_updL wo (7 + g) q) (by rw [nI_clamp (by omega)]) (nm_r (nI_1 g) ?_)
      refine ih (g + 1) (by omega) _ ?_ m (by omega)
      refine sd_W_put hW fun f hf => ?_
      rw [hq f hf, hr f hf, hW i hi f hf, hW j hj f hf, sd_tv_hi hi hj (by rw [ei, ci]) (by rw [ej, cj])]
theorem sd_x43 {post : SX → Prop} {S : Nat → Nat → Bool} (C : sd_C G fs sn fe ou) (hS : ∀ k, k < 3 → ∀ f, f < 64 → sd_b (sa k) f = S f (4 + k)) (K : ∀ wo', sd_W kd fs sn S wo' (7 + G) → post (nI G, dv, nt, lf, lh, gr, kd, fs, sn, fe, ou, wo', sa, aa, lk)) : ∀ d k, k + d = 3 → ∀ wo, sd_W kd fs sn S wo (4 + k) → ∀ n, d < n → wX_settle_43 post (nI G) dv nt lf lh gr n (nI k) kd fs sn fe ou wo sa aa lk := by
  intro d
  induction d with
  | zero =>
    intro k hk wo hW n hn
    obtain ⟨m, rfl⟩ : ∃ m, n = m + 1 := ⟨n - 1, by omega⟩
    have e : k = 3 := by omega
    subst e
    exact br_t (by decide) ⟨G + 1, sd_x76 C K G 0 (by omega) wo hW (G + 1) (by omega)⟩
  | succ d ih =>
    intro k hk wo hW n hn
    obtain ⟨m, rfl⟩ : ∃ m, n = m + 1 := ⟨n - 1, by omega⟩
    have hc : (nI k).toNatClampNeg = k := nI_clamp (by omega)
    have e4 : (4 : Int32) + nI k = nI (4 + k) := nI_add 4 k
    refine br_f (nI_ge (b := 3) (by omega) (by omega)) ⟨vp_in_nI (by omega) (by decide), ?_⟩
    rw [e4, hc]
    refine sd_xstuck (by omega) fun q hq => ⟨vp_in_nI (by omega) (by decide), ?_⟩
    refine nm_r (e' := vp_updL wo (4 + k) q) (by rw [nI_clamp (by omega)]) (nm_r (nI_1 k) ?_)
    refine ih (k + 1) (by omega) _ ?_ m (by omega)
    refine sd_W_put hW fun f hf => ?_
    rw [hq f hf, hS k (by omega) f hf, sd_tv_lo (by omega)]
theorem sd_x2 {post : SX → Prop} {S : Nat → Nat → Bool} {p : Nat} (C : sd_C G fs sn fe ou) (hp : p < 128) (hS : ∀ k, k < 3 → ∀ f, f < 64 → sd_b (sa k) f = S f (4 + k)) (hI : ∀ i, i < 4 → ∀ f, f < 64 → S f i = p.testBit i) (K : ∀ wo', sd_W kd fs sn S wo' (7 + G) → post (nI G, dv, nt, lf, lh, gr, kd, fs, sn, fe, ou, wo', sa, aa, lk)) : ∀ d i, i + d = 4 → ∀ wo, sd_W kd fs sn S wo i → ∀ n, d < n → wX_settle_2 post (nI p) (nI G) dv nt lf lh gr n (nI i) kd fs sn fe ou wo sa aa lk := by
  intro d
  induction d with
  | zero =>
    intro i hi wo hW n hn
    obtain ⟨m, rfl⟩ : ∃ m, n = m + 1 := ⟨n - 1, by omega⟩
    have e : i = 4 := by omega
    subst e
    exact br_t (by decide) ⟨4, sd_x43 C hS K 3 0 (by omega) wo hW 4 (by omega)⟩
  | succ d ih =>
    intro i hi wo hW n hn
    obtain ⟨m, rfl⟩ : ∃ m, n = m + 1 := ⟨n - 1, by omega⟩
    have hc : (nI i).toNatClampNeg = i := nI_clamp (by omega)
    have key : ∀ z : Int64, (∀ f, f < 64 → sd_b z f = p.testBit i) → wX_settle_23 post (wX_settle_2 post (nI p) (nI G) dv nt lf lh gr m) (nI p) (nI i) z (nI G) dv nt lf lh gr kd fs sn fe ou wo sa aa lk := by
      intro z hz
      refine sd_xstuck (by omega) fun q hq => ⟨vp_in_nI (by omega) (by decide), ?_⟩
      refine nm_r (e' := vp_updL wo i q) (by rw [hc]) (nm_r (nI_1 i) ?_)
      refine ih (i + 1) (by omega) _ ?_ m (by omega)
      refine sd_W_put hW fun f hf => ?_
      rw [hq f hf, hz f hf, sd_tv_lo (by omega), hI i (by omega) f hf]
    refine br_f (nI_ge (b := 4) (by omega) (by omega)) ?_
    rw [sd_sh (by omega) (by omega)]
    refine br_c (fun h => key _ fun f hf => ?_) (fun h => key _ fun f hf => ?_)
    · rw [sd_i_1] at h
      rw [h, sd_m1 f hf]
    · rw [sd_i_1] at h
      rw [ts_nt h, sd_0]
theorem sd_xsettle {post : SX → Prop} {S : Nat → Nat → Bool} {p : Nat} (C : sd_C G fs sn fe ou) (hp : p < 128) (hS : ∀ k, k < 3 → ∀ f, f < 64 → sd_b (sa k) f = S f (4 + k)) (hI : ∀ i, i < 4 → ∀ f, f < 64 → S f i = p.testBit i) (K : ∀ wo', sd_W kd fs sn S wo' (7 + G) → post (nI G, dv, nt, lf, lh, gr, kd, fs, sn, fe, ou, wo', sa, aa, lk)) : wpX_settle post (nI G, dv, nt, lf, lh, gr, kd, fs, sn, fe, ou, wo, sa, aa, lk) (nI p) :=
  ⟨5, sd_x2 C hp hS hI K 4 0 (by omega) wo (fun l hl => absurd hl (by omega)) 5 (by omega)⟩
/-- the answers after c + 1 cycles -/
def sd_A (kd fs sn fe ou : Nat → Int32) (p c : Nat) (aa : Nat → Int64) (n : Nat) : Prop := ∀ b, b < n → ∀ f, f < 64 → sd_b (aa b) f = sd_an kd fs sn fe ou f p c b
theorem sd_A_put {kd fs sn fe ou : Nat → Int32} {p c n : Nat} {aa : Nat → Int64} {r : Int64} (h : sd_A kd fs sn fe ou p c aa n) (hr : ∀ f, f < 64 → sd_b r f = sd_an kd fs sn fe ou f p c n) : sd_A kd fs sn fe ou p c (vp_updL aa n r) (n + 1) := by
  intro l hl f hf
  by_cases e : l = n
  · subst e; rw [pk_uLs]; exact hr f hf
  · rw [pk_uLn e]; exact h l (by omega) f hf
theorem sd_x91 {post : SX → Prop} {p c : Nat} (C : sd_C G fs sn fe ou) (hS : ∀ k, k < 3 → ∀ f, f < 64 → sd_b (sa k) f = sd_st kd fs sn fe f p (c + 1) (4 + k)) (hW : sd_W kd fs sn (fun f => sd_st kd fs sn fe f p c) wo (7 + G)) (K : ∀ aa', sd_A kd fs sn fe ou p c aa' 5 → post (nI G, dv, nt, lf, lh, gr, kd, fs, sn, fe, ou, wo, sa, aa', lk)) : ∀ d k, k + d = 3 → ∀ aa, sd_A kd fs sn fe ou p c aa k → ∀ n, d < n → wX_runAll_91 post (nI G) dv nt lf lh gr n (nI k) kd fs sn fe ou wo sa aa lk := by
  have hG := C.1
  intro d
  induction d with
  | zero =>
    intro k hk aa hA n hn
    obtain ⟨m, rfl⟩ : ∃ m, n = m + 1 := ⟨n - 1, by omega⟩
    have e : k = 3 := by omega
    subst e
    obtain ⟨i, hi, ei⟩ := C.2.2.2.2 0 (by omega)
    obtain ⟨j, hj, ej⟩ := C.2.2.2.2 1 (by omega)
    have ci : (ou 0).toNatClampNeg = i := by rw [ei]; exact nI_clamp (by omega)
    have cj : (ou 1).toNatClampNeg = j := by rw [ej]; exact nI_clamp (by omega)
    have h3 : sd_A kd fs sn fe ou p c (vp_updL aa 3 (wo (ou 0).toNatClampNeg)) 4 := sd_A_put hA fun f hf => by
      rw [ci, hW i hi f hf]
      show _ = sd_tv kd fs sn f (sd_st kd fs sn fe f p c) (ou 0).toNatClampNeg
      rw [ci]
    have h4 : sd_A kd fs sn fe ou p c (vp_updL (vp_updL aa 3 (wo (ou 0).toNatClampNeg)) 4 (wo (ou 1).toNatClampNeg)) 5 := sd_A_put h3 fun f hf => by
      rw [cj, hW j hj f hf]
      show _ = sd_tv kd fs sn f (sd_st kd fs sn fe f p c) (ou 1).toNatClampNeg
      rw [cj]
    refine br_t (by decide) ⟨by rw [ei]; exact vp_in_nI (by omega) (by decide), nm_e ⟨by rw [ej]; exact vp_in_nI (by omega) (by decide), nm_e (K _ h4)⟩⟩
  | succ d ih =>
    intro k hk aa hA n hn
    obtain ⟨m, rfl⟩ : ∃ m, n = m + 1 := ⟨n - 1, by omega⟩
    have hc : (nI k).toNatClampNeg = k := nI_clamp (by omega)
    refine br_f (nI_ge (b := 3) (by omega) (by omega)) ⟨vp_in_nI (by omega) (by decide), vp_in_nI (by omega) (by decide), ?_⟩
    refine nm_r (e' := vp_updL aa k (sa k)) (by rw [hc]) (nm_r (nI_1 k) ?_)
    refine ih (k + 1) (by omega) _ ?_ m (by omega)
    refine sd_A_put hA fun f hf => ?_
    rw [hS k (by omega) f hf, sd_st_hi]
    unfold sd_an
    rw [if_pos (show k < 3 by omega)]
theorem sd_x52 {post : SX → Prop} {J : Int32 → Int32 → Int32 → Int32 → Int64 → Int64 → Int32 → (Nat → Int32) → (Nat → Int32) → (Nat → Int32) → (Nat → Int32) → (Nat → Int32) → (Nat → Int64) → (Nat → Int64) → (Nat → Int64) → (Nat → Int64) → Prop} {x1 x2 : Int32} {i p c : Nat} (C : sd_C G fs sn fe ou) (hW : sd_W kd fs sn (fun f => sd_st kd fs sn fe f p c) wo (7 + G)) (K : ∀ sa', (∀ k, k < 3 → ∀ f, f < 64 → sd_b (sa' k) f = sd_st kd fs sn fe f p (c + 1) (4 + k)) → J (nI (i + 1)) (nI G) dv nt lf lh gr kd fs sn fe ou wo sa' aa lk) : ∀ d k, k + d = 3 → ∀ sa, (∀ j, j < k → ∀ f, f < 64 → sd_b (sa j) f = sd_st kd fs sn fe f p (c + 1) (4 + j)) → ∀ n, d < n → wX_runAll_52 post J x1 x2 (nI i) (nI G) dv nt lf lh gr n (nI k) kd fs sn fe ou wo sa aa lk := by
  have hG := C.1
  intro d
  induction d with
  | zero =>
    intro k hk sa hA n hn
    obtain ⟨m, rfl⟩ : ∃ m, n = m + 1 := ⟨n - 1, by omega⟩
    have e : k = 3 := by omega
    subst e
    exact br_t (by decide) (nm_r (nI_1 i) (K _ hA))
  | succ d ih =>
    intro k hk sa hA n hn
    obtain ⟨m, rfl⟩ : ∃ m, n = m + 1 := ⟨n - 1, by omega⟩
    have hc : (nI k).toNatClampNeg = k := nI_clamp (by omega)
    obtain ⟨j, hj, ej⟩ := C.2.2.2.1 k (by omega)
    have cj : (fe k).toNatClampNeg = j := by rw [ej]; exact nI_clamp (by omega)
    refine br_f (nI_ge (b := 3) (by omega) (by omega)) ⟨vp_in_nI (by omega) (by decide), by rw [hc, ej]; exact vp_in_nI (by omega) (by decide), vp_in_nI (by omega) (by decide), ?_⟩
    refine nm_r (e' := vp_updL sa k (wo (fe k).toNatClampNeg)) (by rw [hc]) (nm_r (nI_1 k) ?_)
    refine ih (k + 1) (by omega) _ ?_ m (by omega)
    intro l hl f hf
    by_cases e : l = k
    · subst e
      rw [pk_uLs, sd_st_hi, cj]
      exact hW j hj f hf
    · rw [pk_uLn e]; exact hA l (by omega) f hf
theorem sd_x39 {post : SX → Prop} {p c : Nat} (C : sd_C G fs sn fe ou) (hp : p < 128) (hc : c < 4) (K : ∀ wo' sa' aa', sd_A kd fs sn fe ou p c aa' 5 → post (nI G, dv, nt, lf, lh, gr, kd, fs, sn, fe, ou, wo', sa', aa', lk)) : ∀ d i, i + d = c + 1 → ∀ wo sa, (∀ k, k < 3 → ∀ f, f < 64 → sd_b (sa k) f = sd_st kd fs sn fe f p i (4 + k)) → (∀ i', i = i' + 1 → sd_W kd fs sn (fun f => sd_st kd fs sn fe f p i') wo (7 + G)) → ∀ n, d < n → wX_runAll_39 post (nI p) (nI (c + 1)) n (nI i) (nI G) dv nt lf lh gr kd fs sn fe ou wo sa aa lk := by
  intro d
  induction d with
  | zero =>
    intro i hi wo sa hS hW n hn
    obtain ⟨m, rfl⟩ : ∃ m, n = m + 1 := ⟨n - 1, by omega⟩
    have e : i = c + 1 := by omega
    subst e
    refine br_t (nI_le (by omega) (by omega)) ⟨4, ?_⟩
    exact sd_x91 C hS (hW c rfl) (K wo sa) 3 0 (by omega) aa (fun l hl => absurd hl (by omega)) 4 (by omega)
  | succ d ih =>
    intro i hi wo sa hS hW n hn
    obtain ⟨m, rfl⟩ : ∃ m, n = m + 1 := ⟨n - 1, by omega⟩
    refine br_f (nI_ge (by omega) (by omega)) ?_
    refine sd_xsettle (S := fun f => sd_st kd fs sn fe f p i) C hp hS (fun k hk f _ => sd_st_lo i hk) fun wo' hW' => ?_
    refine Exists.intro 4 ?_
    refine sd_x52 C hW' (fun sa' hS' => ?_) 3 0 (by omega) sa (fun l hl => absurd hl (by omega)) 4 (by omega)
    refine ih (i + 1) (by omega) wo' sa' hS' (fun i' hi' => ?_) m (by omega)
    have e : i' = i := by omega
    subst e
    exact hW'
theorem sd_xr2 {post : SX → Prop} {p c : Nat} (C : sd_C G fs sn fe ou) (hp : p < 128) (hc : c < 4) (K : ∀ wo' sa' aa', sd_A kd fs sn fe ou p c aa' 5 → post (nI G, dv, nt, lf, lh, gr, kd, fs, sn, fe, ou, wo', sa', aa', lk)) : ∀ d k, k + d = 3 → ∀ sa, (∀ j, j < k → ∀ f, f < 64 → sd_b (sa j) f = p.testBit (4 + j)) → ∀ n, d < n → wX_runAll_2 post (nI p) (nI (c + 1)) (nI G) dv nt lf lh gr n (nI k) kd fs sn fe ou wo sa aa lk := by
  intro d
  induction d with
  | zero =>
    intro k hk sa hA n hn
    obtain ⟨m, rfl⟩ : ∃ m, n = m + 1 := ⟨n - 1, by omega⟩
    have e : k = 3 := by omega
    subst e
    refine br_t (by decide) ⟨c + 2, ?_⟩
    exact sd_x39 C hp hc K (c + 1) 0 (by omega) wo sa hA (fun i' hi' => absurd hi' (by omega)) (c + 2) (by omega)
  | succ d ih =>
    intro k hk sa hA n hn
    obtain ⟨m, rfl⟩ : ∃ m, n = m + 1 := ⟨n - 1, by omega⟩
    have hcl : (nI k).toNatClampNeg = k := nI_clamp (by omega)
    have e4 : (4 : Int32) + nI k = nI (4 + k) := nI_add 4 k
    have key : ∀ z : Int64, (∀ f, f < 64 → sd_b z f = p.testBit (4 + k)) → ∀ j, j < k + 1 → ∀ f, f < 64 → sd_b (vp_updL sa k z j) f = p.testBit (4 + j) := by
      intro z hz l hl f hf
      by_cases e : l = k
      · subst e; rw [pk_uLs]; exact hz f hf
      · rw [pk_uLn e]; exact hA l (by omega) f hf
    refine br_f (nI_ge (b := 3) (by omega) (by omega)) ?_
    rw [e4, sd_sh (by omega) (by omega)]
    refine br_c (fun h => ⟨vp_in_nI (by omega) (by decide), ?_⟩) (fun h => ⟨vp_in_nI (by omega) (by decide), ?_⟩)
    · rw [sd_i_1] at h
      refine nm_r (e' := vp_updL sa k (-1)) (by rw [hcl]) (nm_r (nI_1 k) ?_)
      exact ih (k + 1) (by omega) _ (key _ fun f hf => by rw [h, sd_m1 f hf]) m (by omega)
    · rw [sd_i_1] at h
      refine nm_r (e' := vp_updL sa k 0) (by rw [hcl]) (nm_r (nI_1 k) ?_)
      exact ih (k + 1) (by omega) _ (key _ fun f hf => by rw [ts_nt h, sd_0]) m (by omega)
theorem sd_xrun {post : SX → Prop} {p c : Nat} (C : sd_C G fs sn fe ou) (hp : p < 128) (hc : c < 4) (K : ∀ wo' sa' aa', sd_A kd fs sn fe ou p c aa' 5 → post (nI G, dv, nt, lf, lh, gr, kd, fs, sn, fe, ou, wo', sa', aa', lk)) : wpX_runAll post (nI G, dv, nt, lf, lh, gr, kd, fs, sn, fe, ou, wo, sa, aa, lk) (nI p) (nI (c + 1)) :=
  ⟨4, sd_xr2 C hp hc K 3 0 (by omega) sa (fun l hl => absurd hl (by omega)) 4 (by omega)⟩
def sd_sm (a : Nat → Bool) : Nat → Int32
  | 0 => 0
  | b + 1 => sd_sm a b + (sd_i (a b) <<< (nI b &&& 31))
theorem sd_sm5' : ∀ b0 b1 b2 b3 b4 : Bool, ((((0 + (sd_i b0 <<< (nI 0 &&& 31))) + (sd_i b1 <<< (nI 1 &&& 31))) + (sd_i b2 <<< (nI 2 &&& 31))) + (sd_i b3 <<< (nI 3 &&& 31))) + (sd_i b4 <<< (nI 4 &&& 31)) = sd_p5 b0 b1 b2 b3 b4 := by decide
theorem sd_sm5 (a : Nat → Bool) : sd_sm a 5 = sd_pk a := sd_sm5' _ _ _ _ _
theorem sd_xans4 {post : Int32 → Prop} {a : Nat → Bool} {f : Nat} (hf : f < 64) (hA : ∀ b, b < 5 → sd_b (aa b) f = a b) (K : post (sd_pk a)) : ∀ d b, b + d = 5 → ∀ n, d < n → wX_answerOf_4 post (nI f) (nI G) dv nt lf lh gr kd fs sn fe ou wo sa aa lk n (sd_sm a b) (nI b) := by
  intro d
  induction d with
  | zero =>
    intro b hb n hn
    obtain ⟨m, rfl⟩ : ∃ m, n = m + 1 := ⟨n - 1, by omega⟩
    have e : b = 5 := by omega
    subst e
    refine br_t (by decide) ?_
    rw [sd_sm5]
    exact K
  | succ d ih =>
    intro b hb n hn
    obtain ⟨m, rfl⟩ : ∃ m, n = m + 1 := ⟨n - 1, by omega⟩
    have hc : (nI b).toNatClampNeg = b := nI_clamp (by omega)
    refine br_f (nI_ge (b := 5) (by omega) (by omega)) ⟨vp_in_nI (by omega) (by decide), ?_⟩
    refine nm_r (e' := sd_sm a (b + 1)) ?_ (nm_r (nI_1 b) (ih (b + 1) (by omega) m (by omega)))
    rw [hc, sd_bit _ hf, hA b (by omega), sd_l_i]
    rfl
theorem sd_xans {post : Int32 → Prop} {f p c : Nat} (hf : f < 64) (hA : sd_A kd fs sn fe ou p c aa 5) (K : post (sd_rn kd fs sn fe ou f p (c + 1))) : wpX_answerOf post (nI G, dv, nt, lf, lh, gr, kd, fs, sn, fe, ou, wo, sa, aa, lk) (nI f) :=
  ⟨6, sd_xans4 (a := sd_an kd fs sn fe ou f p c) hf (fun b hb => hA b hb f hf) K 5 0 (by omega) 6 (by omega)⟩
end
end
section
/-! ===== Y: gateValue, settle, run ===== -/
theorem sd_iand : ∀ x y : Bool, sd_i x &&& sd_i y = sd_i (x && y) := by decide
theorem sd_ior : ∀ x y : Bool, sd_i x ||| sd_i y = sd_i (x || y) := by decide
theorem sd_ixor : ∀ x y : Bool, sd_i x ^^^ sd_i y = sd_i (x ^^ y) := by decide
theorem sd_inot : ∀ x : Bool, 1 - sd_i x = sd_i (!x) := by decide
def sd_V (kd fs sn : Nat → Int32) (f : Nat) (s : Nat → Bool) (vl : Nat → Int32) (n : Nat) : Prop := ∀ l, l < n → vl l = sd_i (sd_tv kd fs sn f s l)
theorem sd_V_put {kd fs sn : Nat → Int32} {f : Nat} {s : Nat → Bool} {vl : Nat → Int32} {n : Nat} {b : Bool} (h : sd_V kd fs sn f s vl n) (hb : b = sd_tv kd fs sn f s n) : sd_V kd fs sn f s (upd vl n (sd_i b)) (n + 1) := by
  intro l hl
  by_cases e : l = n
  · subst e; rw [pk_us, hb]
  · rw [pk_un e]; exact h l (by omega)
section
variable {G : Nat} {dv nt : Int32} {kd fs sn fe ou pt cy aw vl : Nat → Int32}
theorem sd_ylc {post : Int32 → Prop} (h : post (nI (7 + G))) : wpY_lineCount post (nI G, dv, nt, kd, fs, sn, fe, ou, pt, cy, aw, vl) := by
  have e : (7 : Int32) + nI G = nI (7 + G) := nI_add 7 G
  show post (7 + nI G)
  rw [e]; exact h
theorem sd_ygv {post : Int32 → Prop} {g i j : Nat} {x y : Bool} (hg : g < 14) (hi : i < 21) (hj : j < 21) (ei : fs g = nI i) (ej : sn g = nI j) (ex : vl i = sd_i x) (ey : vl j = sd_i y) (K : post (sd_i (sd_ga (kd g) x y))) : wpY_gateValue post (nI G, dv, nt, kd, fs, sn, fe, ou, pt, cy, aw, vl) (nI g) := by
  have hc : (nI g).toNatClampNeg = g := nI_clamp (by omega)
  have ci : (nI i).toNatClampNeg = i := nI_clamp (by omega)
  have cj : (nI j).toNatClampNeg = j := nI_clamp (by omega)
  have hin : vp_in (nI g) 14 := vp_in_nI hg (by decide)
  unfold wpY_gateValue
  dsimp only
  rw [hc, ei, ej, ci, cj]
  refine ⟨hin, vp_in_nI hi (by decide), nm_r ex ⟨hin, vp_in_nI hj (by decide), nm_r ey ⟨hin, ?_⟩⟩⟩
  unfold sd_ga at K
  refine br_c (fun e => ?_) fun n0 => ⟨hin, br_c (fun e => ?_) fun n1 => ⟨hin, br_c (fun e => ?_) fun n2 => ⟨hin, br_c (fun e => ?_) fun n3 => ⟨hin, br_c (fun e => ?_) fun n4 => ?_⟩⟩⟩⟩
  · rw [if_pos e] at K
    rw [sd_iand]; exact K
  · rw [if_neg n0, if_pos e] at K
    rw [sd_ior]; exact K
  · rw [if_neg n0, if_neg n1, if_pos e] at K
    rw [sd_ixor]; exact K
  · rw [if_neg n0, if_neg n1, if_neg n2, if_pos e] at K
    rw [sd_iand, sd_inot]; exact K
  · rw [if_neg n0, if_neg n1, if_neg n2, if_neg n3, if_pos e] at K
    rw [sd_ior, sd_inot]; exact K
  · rw [if_neg n0, if_neg n1, if_neg n2, if_neg n3, if_neg n4] at K
    rw [sd_inot]; exact K
theorem sd_y70 {post : SY → Prop} {J : Int32 → (Nat → Int32) → (Nat → Int32) → (Nat → Int32) → (Nat → Int32) → (Nat → Int32) → (Nat → Int32) → (Nat → Int32) → (Nat → Int32) → (Nat → Int32) → Prop} {f l : Nat} {x2 x3 : Int32} {b : Bool} (hf : f < 64) (hl : l < 21) (K : J (nI (l + 1)) kd fs sn fe ou pt cy aw (upd vl l (sd_i (if f / 2 = l then (f % 2 == 1) else b)))) : wY_settle_70 post J (sd_fc f) x2 x3 (nI l) (sd_i b) (nI G) dv nt kd fs sn fe ou pt cy aw vl := by
  have hc : (nI l).toNatClampNeg = l := nI_clamp (by omega)
  have hin : vp_in (nI l) 21 := vp_in_nI hl (by decide)
  by_cases h63 : f = 63
  · subst h63
    rw [if_neg (by omega)] at K
    rw [← sd_fc_h]
    exact br_t (by decide) ⟨hin, nm_r (e' := upd vl l (sd_i b)) (by rw [hc]) (nm_r (nI_1 l) K)⟩
  · rw [← sd_fc_n (by omega)]
    have ed : nI f / 2 = nI (f / 2) := pk_div (d := 2) (by omega) (by decide) (by decide)
    have er : nI f - nI f / 2 * 2 = nI (f % 2) := pk_rem (d := 2) (by omega) (by decide) (by decide)
    refine br_f (nI_pos (by omega)) ⟨by decide, ?_⟩
    by_cases h : f / 2 = l
    · rw [if_pos h] at K
      refine br_t (by rw [ed, h]) ⟨by decide, nm_r (e' := sd_i (f % 2 == 1)) ?_ ⟨hin, nm_r (e' := upd vl l (sd_i (f % 2 == 1))) (by rw [hc]) (nm_r (nI_1 l) K)⟩⟩
      rw [er]
      rcases Nat.mod_two_eq_zero_or_one f with z | z <;> rw [z] <;> decide
    · rw [if_neg h] at K
      refine br_f ?_ ⟨hin, nm_r (e' := upd vl l (sd_i b)) (by rw [hc]) (nm_r (nI_1 l) K)⟩
      rw [ed, nI_eq (by omega) (by omega)]
      exact h
theorem sd_y3 {post : SY → Prop} {f p : Nat} {s : Nat → Bool} {x3 : Int32} (C : sd_C G fs sn fe ou) (hf : f < 64) (hp : p < 128) (hI : ∀ i, i < 4 → s i = p.testBit i) (hX : ∀ k, k < 3 → (x3 >>> (nI k &&& 31)) &&& 1 = sd_i (s (4 + k))) (K : ∀ vl', sd_V kd fs sn f s vl' (7 + G) → post (nI G, dv, nt, kd, fs, sn, fe, ou, pt, cy, aw, vl')) : ∀ d l, l + d = 7 + G → ∀ vl, sd_V kd fs sn f s vl l → ∀ n, d < n → wY_settle_3 post (sd_fc f) (nI p &&& 15) x3 (nI G) dv nt n (nI l) kd fs sn fe ou pt cy aw vl := by
  have hG := C.1
  intro d
  induction d with
  | zero =>
    intro l hl vl hV n hn
    obtain ⟨m, rfl⟩ : ∃ m, n = m + 1 := ⟨n - 1, by omega⟩
    have e : l = 7 + G := by omega
    subst e
    rw [wY_settle_3]
    refine sd_ylc ?_
    exact br_t (nI_le (by omega) (by omega)) (K _ hV)
  | succ d ih =>
    intro l hl vl hV n hn
    obtain ⟨m, rfl⟩ : ∃ m, n = m + 1 := ⟨n - 1, by omega⟩
    have key : ∀ b : Bool, (if f / 2 = l then (f % 2 == 1) else b) = sd_tv kd fs sn f s l → wY_settle_70 post (wY_settle_3 post (sd_fc f) (nI p &&& 15) x3 (nI G) dv nt m) (sd_fc f) (nI p &&& 15) x3 (nI l) (sd_i b) (nI G) dv nt kd fs sn fe ou pt cy aw vl := by
      intro b hb
      refine sd_y70 hf (by omega) ?_
      exact ih (l + 1) (by omega) _ (sd_V_put hV hb) m (by omega)
    rw [wY_settle_3]
    refine sd_ylc ?_
    refine br_f (nI_ge (by omega) (by omega)) (br_f (nI_ge (b := 21) (by omega) (by omega)) ?_)
    by_cases h4 : l < 4
    · refine br_f (nI_ge (b := 4) h4 (by omega)) (nm_r (e' := sd_i (s l)) ?_ (key _ ?_))
      · have e15 : nI p &&& 15 = nI (p % 16) := pk_andN (by omega) 4 (by decide)
        have et : (p % 16).testBit l = p.testBit l := by
          rw [show (16 : Nat) = 2 ^ 4 from rfl, Nat.testBit_mod_two_pow, decide_eq_true h4, Bool.true_and]
        rw [e15, sd_sh (by omega) (by omega), et, hI l h4]
      · rw [sd_tv_lo (by omega)]
    · by_cases h7 : l < 7
      · obtain ⟨k, rfl⟩ : ∃ k, l = 4 + k := ⟨l - 4, by omega⟩
        have e4 : nI (4 + k) - 4 = nI k := by
          have h := pk_sub (a := 4 + k) (b := 4) (by omega)
          rw [Nat.add_sub_cancel_left] at h
          exact h
        refine br_t (nI_le (a := 4) (by omega) (by omega)) (br_f (nI_ge (b := 7) h7 (by omega)) (nm_r (e' := sd_i (s (4 + k))) ?_ (key _ ?_)))
        · rw [e4]; exact hX k (by omega)
        · rw [sd_tv_lo (by omega)]
      · obtain ⟨g, rfl⟩ : ∃ g, l = 7 + g := ⟨l - 7, by omega⟩
        have e7 : nI (7 + g) - 7 = nI g := by
          have h := pk_sub (a := 7 + g) (b := 7) (by omega)
          rw [Nat.add_sub_cancel_left] at h
          exact h
        obtain ⟨i, hi, ei⟩ := C.2.1 g (by omega)
        obtain ⟨j, hj, ej⟩ := C.2.2.1 g (by omega)
        have ci : (fs g).toNatClampNeg = i := by rw [ei]; exact nI_clamp (by omega)
        have cj : (sn g).toNatClampNeg = j := by rw [ej]; exact nI_clamp (by omega)
        refine br_t (nI_le (a := 4) (by omega) (by omega)) (br_t (nI_le (a := 7) (by omega) (by omega)) ?_)
        rw [e7]
        refine sd_ygv (by omega) (by omega) (by omega) ei ej (hV i hi) (hV j hj) ?_
        exact key _ (sd_tv_hi hi hj ci cj).symm
theorem sd_ysettle {post : SY → Prop} {f p : Nat} {s : Nat → Bool} {x3 : Int32} (C : sd_C G fs sn fe ou) (hf : f < 64) (hp : p < 128) (hI : ∀ i, i < 4 → s i = p.testBit i) (hX : ∀ k, k < 3 → (x3 >>> (nI k &&& 31)) &&& 1 = sd_i (s (4 + k))) (K : ∀ vl', sd_V kd fs sn f s vl' (7 + G) → post (nI G, dv, nt, kd, fs, sn, fe, ou, pt, cy, aw, vl')) : wpY_settle post (nI G, dv, nt, kd, fs, sn, fe, ou, pt, cy, aw, vl) (sd_fc f) (nI p &&& 15) x3 :=
  ⟨8 + G, sd_y3 C hf hp hI hX K (7 + G) 0 (by omega) vl (fun l hl => absurd hl (by omega)) (8 + G) (by omega)⟩
theorem sd_q0 : ∀ a b c : Bool, (((sd_i a + 2 * sd_i b) + 4 * sd_i c) >>> (nI 0 &&& 31)) &&& 1 = sd_i a := by decide
theorem sd_q1 : ∀ a b c : Bool, (((sd_i a + 2 * sd_i b) + 4 * sd_i c) >>> (nI 1 &&& 31)) &&& 1 = sd_i b := by decide
theorem sd_q2 : ∀ a b c : Bool, (((sd_i a + 2 * sd_i b) + 4 * sd_i c) >>> (nI 2 &&& 31)) &&& 1 = sd_i c := by decide
theorem sd_y11 {post : Int32 → SY → Prop} {f p c : Nat} (C : sd_C G fs sn fe ou) (hf : f < 64) (hp : p < 128) (hc : c < 2 ^ 30) (K : ∀ vl', post (sd_rn kd fs sn fe ou f p c) (nI G, dv, nt, kd, fs, sn, fe, ou, pt, cy, aw, vl')) : ∀ d i, i + d = c → ∀ vl x4, (∀ k, k < 3 → (x4 >>> (nI k &&& 31)) &&& 1 = sd_i (sd_st kd fs sn fe f p i (4 + k))) → ∀ n, d < n → wY_run_11 post (sd_fc f) (nI p) (nI c) n x4 (sd_rn kd fs sn fe ou f p i) (nI i) (nI G) dv nt kd fs sn fe ou pt cy aw vl := by
  have hG := C.1
  intro d
  induction d with
  | zero =>
    intro i hi vl x4 hX n hn
    obtain ⟨m, rfl⟩ : ∃ m, n = m + 1 := ⟨n - 1, by omega⟩
    have e : i = c := by omega
    subst e
    exact br_t (nI_le (by omega) (by omega)) (K vl)
  | succ d ih =>
    intro i hi vl x4 hX n hn
    obtain ⟨m, rfl⟩ : ∃ m, n = m + 1 := ⟨n - 1, by omega⟩
    refine br_f (nI_ge (by omega) (by omega)) ?_
    refine sd_ysettle (s := sd_st kd fs sn fe f p i) C hf hp (fun k hk => sd_st_lo i hk) hX fun vl' hV => ?_
    obtain ⟨j0, hj0, e0⟩ := C.2.2.2.1 0 (by omega)
    obtain ⟨j1, hj1, e1⟩ := C.2.2.2.1 1 (by omega)
    obtain ⟨j2, hj2, e2⟩ := C.2.2.2.1 2 (by omega)
    obtain ⟨j3, hj3, e3⟩ := C.2.2.2.2 0 (by omega)
    obtain ⟨j4, hj4, e4⟩ := C.2.2.2.2 1 (by omega)
    have c0 : (fe 0).toNatClampNeg = j0 := by rw [e0]; exact nI_clamp (by omega)
    have c1 : (fe 1).toNatClampNeg = j1 := by rw [e1]; exact nI_clamp (by omega)
    have c2 : (fe 2).toNatClampNeg = j2 := by rw [e2]; exact nI_clamp (by omega)
    have c3 : (ou 0).toNatClampNeg = j3 := by rw [e3]; exact nI_clamp (by omega)
    have c4 : (ou 1).toNatClampNeg = j4 := by rw [e4]; exact nI_clamp (by omega)
    have a0 : vl' (fe 0).toNatClampNeg = sd_i (sd_an kd fs sn fe ou f p i 0) := by
      show _ = sd_i (sd_tv kd fs sn f (sd_st kd fs sn fe f p i) (fe 0).toNatClampNeg)
      rw [c0]; exact hV j0 hj0
    have a1 : vl' (fe 1).toNatClampNeg = sd_i (sd_an kd fs sn fe ou f p i 1) := by
      show _ = sd_i (sd_tv kd fs sn f (sd_st kd fs sn fe f p i) (fe 1).toNatClampNeg)
      rw [c1]; exact hV j1 hj1
    have a2 : vl' (fe 2).toNatClampNeg = sd_i (sd_an kd fs sn fe ou f p i 2) := by
      show _ = sd_i (sd_tv kd fs sn f (sd_st kd fs sn fe f p i) (fe 2).toNatClampNeg)
      rw [c2]; exact hV j2 hj2
    have a3 : vl' (ou 0).toNatClampNeg = sd_i (sd_an kd fs sn fe ou f p i 3) := by
      show _ = sd_i (sd_tv kd fs sn f (sd_st kd fs sn fe f p i) (ou 0).toNatClampNeg)
      rw [c3]; exact hV j3 hj3
    have a4 : vl' (ou 1).toNatClampNeg = sd_i (sd_an kd fs sn fe ou f p i 4) := by
      show _ = sd_i (sd_tv kd fs sn f (sd_st kd fs sn fe f p i) (ou 1).toNatClampNeg)
      rw [c4]; exact hV j4 hj4
    have v0 : vp_in (fe 0) 21 := by rw [e0]; exact vp_in_nI (by omega) (by decide)
    have v1 : vp_in (fe 1) 21 := by rw [e1]; exact vp_in_nI (by omega) (by decide)
    have v2 : vp_in (fe 2) 21 := by rw [e2]; exact vp_in_nI (by omega) (by decide)
    have v3 : vp_in (ou 0) 21 := by rw [e3]; exact vp_in_nI (by omega) (by decide)
    have v4 : vp_in (ou 1) 21 := by rw [e4]; exact vp_in_nI (by omega) (by decide)
    refine ⟨v0, v1, v2, nm_r (e' := (sd_i (sd_an kd fs sn fe ou f p i 0) + 2 * sd_i (sd_an kd fs sn fe ou f p i 1)) + 4 * sd_i (sd_an kd fs sn fe ou f p i 2)) (by rw [a0, a1, a2]) ⟨v3, v4, nm_r (e' := sd_rn kd fs sn fe ou f p (i + 1)) (by rw [a3, a4]; rfl) (nm_r (nI_1 i) ?_)⟩⟩
    refine ih (i + 1) (by omega) vl' _ (fun k hk => ?_) m (by omega)
    rw [sd_st_hi]
    rcases (show k = 0 ∨ k = 1 ∨ k = 2 by omega) with rfl | rfl | rfl
    · exact sd_q0 _ _ _
    · exact sd_q1 _ _ _
    · exact sd_q2 _ _ _
theorem sd_yrun {post : Int32 → SY → Prop} {f p c : Nat} (C : sd_C G fs sn fe ou) (hf : f < 64) (hp : p < 128) (hc : c < 2 ^ 30) (K : ∀ vl', post (sd_rn kd fs sn fe ou f p c) (nI G, dv, nt, kd, fs, sn, fe, ou, pt, cy, aw, vl')) : wpY_run post (nI G, dv, nt, kd, fs, sn, fe, ou, pt, cy, aw, vl) (sd_fc f) (nI p) (nI c) := by
  have e : nI p >>> ((4 : Int32) &&& 31) = nI (p / 16) := pk_shrN (by omega) _ 4 (by decide)
  refine nm_r e ⟨c + 1, ?_⟩
  refine sd_y11 C hf hp hc K c 0 (by omega) vl _ (fun k hk => ?_) (c + 1) (by omega)
  rw [sd_sh (by omega) (by omega)]
  show _ = sd_i (p.testBit (4 + k))
  rw [show p / 16 = p >>> 4 from by rw [Nat.shiftRight_eq_div_pow], Nat.testBit_shiftRight]
end
end
section
/-! ===== Y: explains, alike, earliest, possible ===== -/
theorem sd_2m (m : Nat) : (2 : Int32) * nI m = nI (2 * m) := pk_mul 2 m
theorem sd_2ge {m g : Nat} (h : g < 2 * m) (hm : m < 2 ^ 20) : ¬ (2 : Int32) * nI m ≤ nI g := by
  rw [sd_2m]; exact nI_ge h (by omega)
theorem sd_2le {m g : Nat} (h : 2 * m ≤ g) (hg : g < 2 ^ 20) : (2 : Int32) * nI m ≤ nI g := by
  rw [sd_2m]; exact nI_le h (by omega)
section
variable {G N : Nat} {dv nt : Int32} {kd fs sn fe ou pt cy aw vl : Nat → Int32}
theorem sd_yrE {post : Int32 → SY → Prop} {f p c : Nat} {x : Int32} (C : sd_C G fs sn fe ou) (ex : x = sd_fc f) (hf : f < 64) (hp : p < 128) (hc : c < 2 ^ 30) (K : ∀ vl', post (sd_rn kd fs sn fe ou f p c) (nI G, dv, nt, kd, fs, sn, fe, ou, pt, cy, aw, vl')) : wpY_run post (nI G, dv, nt, kd, fs, sn, fe, ou, pt, cy, aw, vl) x (nI p) (nI c) := by
  subst ex
  exact sd_yrun C hf hp hc K
theorem sd_ye2 {post : Int32 → SY → Prop} {f : Nat} (C : sd_C G fs sn fe ou) (hf : f < 64) (hN : N ≤ 20) (O : sd_O pt cy N) (K1 : sd_EX kd fs sn fe ou pt cy aw f N → ∀ vl', post 1 (nI G, dv, nI N, kd, fs, sn, fe, ou, pt, cy, aw, vl')) (K0 : ¬ sd_EX kd fs sn fe ou pt cy aw f N → ∀ vl', post 0 (nI G, dv, nI N, kd, fs, sn, fe, ou, pt, cy, aw, vl')) : ∀ d i, i + d = N → sd_EX kd fs sn fe ou pt cy aw f i → ∀ vl n, d < n → wY_explains_2 post (sd_fc f) n (nI i) (nI G) dv (nI N) kd fs sn fe ou pt cy aw vl := by
  intro d
  induction d with
  | zero =>
    intro i hi hE vl n hn
    obtain ⟨m, rfl⟩ : ∃ m, n = m + 1 := ⟨n - 1, by omega⟩
    have e : i = N := by omega
    subst e
    exact br_t (nI_le (by omega) (by omega)) (K1 hE vl)
  | succ d ih =>
    intro i hi hE vl n hn
    obtain ⟨m, rfl⟩ : ∃ m, n = m + 1 := ⟨n - 1, by omega⟩
    obtain ⟨p, c, hp, hc, ep, ec⟩ := O i (by omega)
    have hcl : (nI i).toNatClampNeg = i := nI_clamp (by omega)
    have cp : (pt i).toNatClampNeg = p := by rw [ep]; exact nI_clamp (by omega)
    have cc : (cy i).toNatClampNeg = c + 1 := by rw [ec]; exact nI_clamp (by omega)
    have hin : vp_in (nI i) 20 := vp_in_nI (by omega) (by decide)
    refine br_f (nI_ge (by omega) (by omega)) (br_f (nI_ge (b := 20) (by omega) (by omega)) ⟨hin, hin, ?_⟩)
    rw [hcl, ep, ec]
    refine sd_yrun C hf hp (by omega) fun vl' => ⟨hin, br_c (fun h => nm_r (nI_1 i) ?_) (fun h => K0 (fun E => h ?_) vl')⟩
    · refine ih (i + 1) (by omega) (fun j hj => ?_) vl' m (by omega)
      by_cases e : j = i
      · subst e; rw [cp, cc]; exact h
      · exact hE j (by omega)
    · have t := E i (by omega)
      rw [cp, cc] at t
      exact t
theorem sd_yex {post : Int32 → SY → Prop} {f : Nat} {x : Int32} (C : sd_C G fs sn fe ou) (ex : x = sd_fc f) (hf : f < 64) (hN : N ≤ 20) (O : sd_O pt cy N) (K1 : sd_EX kd fs sn fe ou pt cy aw f N → ∀ vl', post 1 (nI G, dv, nI N, kd, fs, sn, fe, ou, pt, cy, aw, vl')) (K0 : ¬ sd_EX kd fs sn fe ou pt cy aw f N → ∀ vl', post 0 (nI G, dv, nI N, kd, fs, sn, fe, ou, pt, cy, aw, vl')) : wpY_explains post (nI G, dv, nI N, kd, fs, sn, fe, ou, pt, cy, aw, vl) x := by
  subst ex
  exact ⟨N + 1, sd_ye2 C hf hN O K1 K0 N 0 (by omega) (fun j hj => absurd hj (by omega)) vl (N + 1) (by omega)⟩
theorem sd_ya2 {post : Int32 → SY → Prop} {f g : Nat} (C : sd_C G fs sn fe ou) (hf : f < 64) (hg : g < 64) (K1 : sd_AL kd fs sn fe ou f g → ∀ vl', post 1 (nI G, dv, nt, kd, fs, sn, fe, ou, pt, cy, aw, vl')) (K0 : ¬ sd_AL kd fs sn fe ou f g → ∀ vl', post 0 (nI G, dv, nt, kd, fs, sn, fe, ou, pt, cy, aw, vl')) : ∀ d p, p + d = 128 → (∀ q, q < p → sd_rn kd fs sn fe ou f q 1 = sd_rn kd fs sn fe ou g q 1) → ∀ vl n, d < n → wY_alike_2 post (sd_fc f) (sd_fc g) n (nI p) (nI G) dv nt kd fs sn fe ou pt cy aw vl := by
  intro d
  induction d with
  | zero =>
    intro p hp hE vl n hn
    obtain ⟨m, rfl⟩ : ∃ m, n = m + 1 := ⟨n - 1, by omega⟩
    have e : p = 128 := by omega
    subst e
    exact br_t (by decide) (K1 hE vl)
  | succ d ih =>
    intro p hp hE vl n hn
    obtain ⟨m, rfl⟩ : ∃ m, n = m + 1 := ⟨n - 1, by omega⟩
    refine br_f (nI_ge (b := 128) (by omega) (by omega)) ?_
    refine sd_yrun (c := 1) C hf (by omega) (by decide) fun vl1 => ?_
    refine sd_yrun (c := 1) C hg (by omega) (by decide) fun vl2 => ?_
    refine br_c (fun h => nm_r (nI_1 p) ?_) (fun h => K0 (fun E => h (E p (by omega))) vl2)
    refine ih (p + 1) (by omega) (fun q hq => ?_) vl2 m (by omega)
    by_cases e : q = p
    · subst e; exact h
    · exact hE q (by omega)
theorem sd_yal {post : Int32 → SY → Prop} {f g : Nat} {x y : Int32} (C : sd_C G fs sn fe ou) (ex : x = sd_fc f) (ey : y = sd_fc g) (hf : f < 64) (hg : g < 64) (K1 : sd_AL kd fs sn fe ou f g → ∀ vl', post 1 (nI G, dv, nt, kd, fs, sn, fe, ou, pt, cy, aw, vl')) (K0 : ¬ sd_AL kd fs sn fe ou f g → ∀ vl', post 0 (nI G, dv, nt, kd, fs, sn, fe, ou, pt, cy, aw, vl')) : wpY_alike post (nI G, dv, nt, kd, fs, sn, fe, ou, pt, cy, aw, vl) x y := by
  subst ex ey
  exact ⟨129, sd_ya2 C hf hg K1 K0 128 0 (by omega) (fun j hj => absurd hj (by omega)) vl 129 (by omega)⟩
/-- f is the first of those alike to it -/
def sd_LE (kd fs sn fe ou : Nat → Int32) (e f : Nat) : Prop := e ≤ f ∧ sd_AL kd fs sn fe ou e f ∧ ∀ j, j < e → ¬ sd_AL kd fs sn fe ou j f
theorem sd_yea2 {post : Int32 → SY → Prop} {f : Nat} (C : sd_C G fs sn fe ou) (hf : f < 63) (K : ∀ e, sd_LE kd fs sn fe ou e f → ∀ vl', post (nI e) (nI G, dv, nt, kd, fs, sn, fe, ou, pt, cy, aw, vl')) : ∀ d i, i + d = f → (∀ j, j < i → ¬ sd_AL kd fs sn fe ou j f) → ∀ vl n, d < n → wY_earliest_2 post (nI f) n (nI i) (nI G) dv nt kd fs sn fe ou pt cy aw vl := by
  intro d
  induction d with
  | zero =>
    intro i hi hE vl n hn
    obtain ⟨m, rfl⟩ : ∃ m, n = m + 1 := ⟨n - 1, by omega⟩
    have e : i = f := by omega
    subst e
    exact br_t (nI_le (by omega) (by omega)) (K i ⟨Nat.le_refl _, sd_AL_r, hE⟩ vl)
  | succ d ih =>
    intro i hi hE vl n hn
    obtain ⟨m, rfl⟩ : ∃ m, n = m + 1 := ⟨n - 1, by omega⟩
    refine br_f (nI_ge (by omega) (by omega)) ?_
    refine sd_yal C (sd_fc_n (by omega)) (sd_fc_n hf) (by omega) (by omega) (fun h vl' => ?_) (fun h vl' => ?_)
    · exact br_f (by decide) (K i ⟨by omega, h, hE⟩ vl')
    · refine br_t rfl (nm_r (nI_1 i) ?_)
      refine ih (i + 1) (by omega) (fun j hj => ?_) vl' m (by omega)
      by_cases e : j = i
      · subst e; exact h
      · exact hE j (by omega)
theorem sd_yea {post : Int32 → SY → Prop} {f : Nat} (C : sd_C G fs sn fe ou) (hf : f < 63) (K : ∀ e, sd_LE kd fs sn fe ou e f → ∀ vl', post (nI e) (nI G, dv, nt, kd, fs, sn, fe, ou, pt, cy, aw, vl')) : wpY_earliest post (nI G, dv, nt, kd, fs, sn, fe, ou, pt, cy, aw, vl) (nI f) :=
  ⟨f + 1, sd_yea2 C hf K f 0 (by omega) (fun j hj => absurd hj (by omega)) vl (f + 1) (by omega)⟩
theorem sd_LE_u {kd fs sn fe ou : Nat → Int32} {e e' f : Nat} (h : sd_LE kd fs sn fe ou e f) (h' : sd_LE kd fs sn fe ou e' f) : e = e' := by
  rcases Nat.lt_trichotomy e e' with z | z | z
  · exact absurd h.2.1 (h'.2.2 e z)
  · exact z
  · exact absurd h'.2.1 (h.2.2 e' z)
theorem sd_LE_ex (kd fs sn fe ou : Nat → Int32) (f : Nat) : ∃ e, sd_LE kd fs sn fe ou e f := by
  have key : ∀ d i, i + d = f → (∀ j, j < i → ¬ sd_AL kd fs sn fe ou j f) → ∃ e, sd_LE kd fs sn fe ou e f := by
    intro d
    induction d with
    | zero =>
      intro i hi hE
      have e : i = f := by omega
      subst e
      exact ⟨i, Nat.le_refl _, sd_AL_r, hE⟩
    | succ d ih =>
      intro i hi hE
      by_cases h : sd_AL kd fs sn fe ou i f
      · exact ⟨i, by omega, h, hE⟩
      · refine ih (i + 1) (by omega) fun j hj => ?_
        by_cases e : j = i
        · subst e; exact h
        · exact hE j (by omega)
  exact key f 0 (by omega) (fun j hj => absurd hj (by omega))
/-- a fault alike to f explains what was noted -/
def sd_PO (G N : Nat) (kd fs sn fe ou pt cy aw : Nat → Int32) (f : Nat) : Prop := ∃ g, f ≤ g ∧ g < 2 * (7 + G) ∧ sd_EX kd fs sn fe ou pt cy aw g N ∧ sd_AL kd fs sn fe ou f g
theorem sd_ypo2 {post : Int32 → SY → Prop} {f : Nat} (C : sd_C G fs sn fe ou) (hf : f < 2 * (7 + G)) (hN : N ≤ 20) (O : sd_O pt cy N) (K1 : sd_PO G N kd fs sn fe ou pt cy aw f → ∀ vl', post 1 (nI G, dv, nI N, kd, fs, sn, fe, ou, pt, cy, aw, vl')) (K0 : ¬ sd_PO G N kd fs sn fe ou pt cy aw f → ∀ vl', post 0 (nI G, dv, nI N, kd, fs, sn, fe, ou, pt, cy, aw, vl')) : ∀ d g, g + d = 2 * (7 + G) → f ≤ g → (∀ h, f ≤ h → h < g → ¬ (sd_EX kd fs sn fe ou pt cy aw h N ∧ sd_AL kd fs sn fe ou f h)) → ∀ vl n, d < n → wY_possible_2 post (nI f) n (nI g) (nI G) dv (nI N) kd fs sn fe ou pt cy aw vl := by
  have hG := C.1
  intro d
  induction d with
  | zero =>
    intro g hg hfg hE vl n hn
    obtain ⟨m, rfl⟩ : ∃ m, n = m + 1 := ⟨n - 1, by omega⟩
    rw [wY_possible_2]
    refine sd_ylc ?_
    refine br_t (sd_2le (by omega) (by omega)) (K0 ?_ vl)
    rintro ⟨h, h1, h2, h3, h4⟩
    exact hE h h1 (by omega) ⟨h3, h4⟩
  | succ d ih =>
    intro g hg hfg hE vl n hn
    obtain ⟨m, rfl⟩ : ∃ m, n = m + 1 := ⟨n - 1, by omega⟩
    have next : ¬ (sd_EX kd fs sn fe ou pt cy aw g N ∧ sd_AL kd fs sn fe ou f g) → ∀ vl', wY_possible_2 post (nI f) m (nI (g + 1)) (nI G) dv (nI N) kd fs sn fe ou pt cy aw vl' := by
      intro hx vl'
      refine ih (g + 1) (by omega) (by omega) (fun h h1 h2 => ?_) vl' m (by omega)
      by_cases e : h = g
      · subst e; exact hx
      · exact hE h h1 (by omega)
    rw [wY_possible_2]
    refine sd_ylc ?_
    refine br_f (sd_2ge (by omega) (by omega)) ?_
    refine sd_yex C (sd_fc_n (by omega)) (by omega) hN O (fun h vl' => ?_) (fun h vl' => ?_)
    · refine br_f (by decide) ?_
      refine sd_yal C (sd_fc_n (by omega)) (sd_fc_n (by omega)) (by omega) (by omega) (fun h2 vl2 => ?_) (fun h2 vl2 => ?_)
      · exact br_f (by decide) (K1 ⟨g, hfg, by omega, h, h2⟩ vl2)
      · exact br_t rfl (nm_r (nI_1 g) (next (fun z => h2 z.2) vl2))
    · exact br_t rfl (nm_r (nI_1 g) (next (fun z => h z.1) vl'))
theorem sd_ypo {post : Int32 → SY → Prop} {f : Nat} (C : sd_C G fs sn fe ou) (hf : f < 2 * (7 + G)) (hN : N ≤ 20) (O : sd_O pt cy N) (K1 : sd_PO G N kd fs sn fe ou pt cy aw f → ∀ vl', post 1 (nI G, dv, nI N, kd, fs, sn, fe, ou, pt, cy, aw, vl')) (K0 : ¬ sd_PO G N kd fs sn fe ou pt cy aw f → ∀ vl', post 0 (nI G, dv, nI N, kd, fs, sn, fe, ou, pt, cy, aw, vl')) : wpY_possible post (nI G, dv, nI N, kd, fs, sn, fe, ou, pt, cy, aw, vl) (nI f) :=
  ⟨43, sd_ypo2 C hf hN O K1 K0 (2 * (7 + G) - f) f (by omega) (Nat.le_refl _) (fun h h1 h2 => absurd h2 (by omega)) vl 43 (by have := C.1; omega)⟩
end
end
section
/-! ===== Y: the methods that count or search over the faults ===== -/
/-- the i-th of those in P (x: the number that is sought, b: those before f) -/
def sd_cf (P : Nat → Bool) (x : Int32) : Nat → Nat → Int32 → Int32
  | 0, _, _ => -1
  | d + 1, f, b => if P f = true then (if b = x then nI f else sd_cf P x d (f + 1) (b + 1)) else sd_cf P x d (f + 1) b
/-- the first p with P -/
noncomputable def sd_np (P : Nat → Prop) : Nat → Nat → Int32
  | 0, _ => -1
  | d + 1, p => if sd_d (P p) = true then nI p else sd_np P d (p + 1)
theorem sd_np_t {P : Nat → Prop} {d p : Nat} (h : P p) : sd_np P (d + 1) p = nI p := by rw [sd_np, if_pos (sd_d_t h)]
theorem sd_np_f {P : Nat → Prop} {d p : Nat} (h : ¬ P p) : sd_np P (d + 1) p = sd_np P d (p + 1) := by
  rw [sd_np, if_neg (by rw [sd_d_f h]; decide)]
/-- pattern p tells two candidates apart -/
def sd_SP (G N : Nat) (kd fs sn fe ou pt cy aw : Nat → Int32) (p : Nat) : Prop := ∃ f g, f < 2 * (7 + G) ∧ g < 2 * (7 + G) ∧ sd_EX kd fs sn fe ou pt cy aw f N ∧ sd_EX kd fs sn fe ou pt cy aw g N ∧ ¬ sd_rn kd fs sn fe ou f p 1 = sd_rn kd fs sn fe ou g p 1
section
variable {G N : Nat} {dv nt : Int32} {kd fs sn fe ou pt cy aw vl : Nat → Int32}
theorem sd_ycs4 {post : Int32 → SY → Prop} {P : Nat → Bool} (C : sd_C G fs sn fe ou) (hN : N ≤ 20) (O : sd_O pt cy N) (hP : ∀ f, f < 2 * (7 + G) → (P f = true ↔ sd_EX kd fs sn fe ou pt cy aw f N)) (K : ∀ vl', post (nI (sd_cn P (2 * (7 + G)))) (nI G, dv, nI N, kd, fs, sn, fe, ou, pt, cy, aw, vl')) : ∀ d f, f + d = 2 * (7 + G) → ∀ vl n, d < n → wY_candidates_4 post n (nI (sd_cn P f)) (nI f) (nI G) dv (nI N) kd fs sn fe ou pt cy aw vl := by
  have hG := C.1
  intro d
  induction d with
  | zero =>
    intro f hf vl n hn
    obtain ⟨m, rfl⟩ : ∃ m, n = m + 1 := ⟨n - 1, by omega⟩
    have e : f = 2 * (7 + G) := by omega
    subst e
    rw [wY_candidates_4]
    refine sd_ylc ?_
    exact br_t (sd_2le (by omega) (by omega)) (K vl)
  | succ d ih =>
    intro f hf vl n hn
    obtain ⟨m, rfl⟩ : ∃ m, n = m + 1 := ⟨n - 1, by omega⟩
    rw [wY_candidates_4]
    refine sd_ylc ?_
    refine br_f (sd_2ge (by omega) (by omega)) ?_
    refine sd_yex C (sd_fc_n (by omega)) (by omega) hN O (fun h vl' => ?_) (fun h vl' => ?_)
    · have e := sd_cn_t ((hP f (by omega)).mpr h)
      exact br_f (by decide) (nm_r (e' := nI (sd_cn P (f + 1))) (by rw [e, nI_1]) (nm_r (nI_1 f) (ih (f + 1) (by omega) vl' m (by omega))))
    · have e := sd_cn_f (ts_nt (fun z => h ((hP f (by omega)).mp z)))
      have t := ih (f + 1) (by omega) vl' m (by omega)
      rw [e] at t
      exact br_t rfl (nm_r (nI_1 f) t)
theorem sd_ycs {post : Int32 → SY → Prop} {P : Nat → Bool} (C : sd_C G fs sn fe ou) (hN : N ≤ 20) (O : sd_O pt cy N) (hP : ∀ f, f < 2 * (7 + G) → (P f = true ↔ sd_EX kd fs sn fe ou pt cy aw f N)) (K : ∀ vl', post (nI (sd_cn P (2 * (7 + G)))) (nI G, dv, nI N, kd, fs, sn, fe, ou, pt, cy, aw, vl')) : wpY_candidates post (nI G, dv, nI N, kd, fs, sn, fe, ou, pt, cy, aw, vl) :=
  ⟨43, sd_ycs4 C hN O hP K (2 * (7 + G)) 0 (by omega) vl 43 (by have := C.1; omega)⟩
theorem sd_yca4 {post : Int32 → SY → Prop} {P : Nat → Bool} {x : Int32} (C : sd_C G fs sn fe ou) (hN : N ≤ 20) (O : sd_O pt cy N) (hP : ∀ f, f < 2 * (7 + G) → (P f = true ↔ sd_EX kd fs sn fe ou pt cy aw f N)) : ∀ d f b, f + d = 2 * (7 + G) → (∀ vl', post (sd_cf P x d f b) (nI G, dv, nI N, kd, fs, sn, fe, ou, pt, cy, aw, vl')) → ∀ vl n, d < n → wY_candidate_4 post x n b (nI f) (nI G) dv (nI N) kd fs sn fe ou pt cy aw vl := by
  have hG := C.1
  intro d
  induction d with
  | zero =>
    intro f b hf K vl n hn
    obtain ⟨m, rfl⟩ : ∃ m, n = m + 1 := ⟨n - 1, by omega⟩
    rw [wY_candidate_4]
    refine sd_ylc ?_
    exact br_t (sd_2le (by omega) (by omega)) (K vl)
  | succ d ih =>
    intro f b hf K vl n hn
    obtain ⟨m, rfl⟩ : ∃ m, n = m + 1 := ⟨n - 1, by omega⟩
    rw [sd_cf] at K
    rw [wY_candidate_4]
    refine sd_ylc ?_
    refine br_f (sd_2ge (by omega) (by omega)) ?_
    refine sd_yex C (sd_fc_n (by omega)) (by omega) hN O (fun h vl' => ?_) (fun h vl' => ?_)
    · rw [if_pos ((hP f (by omega)).mpr h)] at K
      refine br_f (by decide) (br_c (fun e => ?_) (fun e => ?_))
      · rw [if_pos e] at K
        exact K vl'
      · rw [if_neg e] at K
        exact nm_e (nm_r (nI_1 f) (ih (f + 1) (b + 1) (by omega) K vl' m (by omega)))
    · rw [if_neg (fun z => h ((hP f (by omega)).mp z))] at K
      exact br_t rfl (nm_r (nI_1 f) (ih (f + 1) b (by omega) K vl' m (by omega)))
theorem sd_yca {post : Int32 → SY → Prop} {P : Nat → Bool} {x : Int32} (C : sd_C G fs sn fe ou) (hN : N ≤ 20) (O : sd_O pt cy N) (hP : ∀ f, f < 2 * (7 + G) → (P f = true ↔ sd_EX kd fs sn fe ou pt cy aw f N)) (K : ∀ vl', post (sd_cf P x (2 * (7 + G)) 0 0) (nI G, dv, nI N, kd, fs, sn, fe, ou, pt, cy, aw, vl')) : wpY_candidate post (nI G, dv, nI N, kd, fs, sn, fe, ou, pt, cy, aw, vl) x :=
  ⟨43, sd_yca4 C hN O hP (2 * (7 + G)) 0 0 (by omega) K vl 43 (by have := C.1; omega)⟩
theorem sd_yn13 {post : Int32 → SY → Prop} {J : Int32 → Int32 → Int32 → Int32 → (Nat → Int32) → (Nat → Int32) → (Nat → Int32) → (Nat → Int32) → (Nat → Int32) → (Nat → Int32) → (Nat → Int32) → (Nat → Int32) → (Nat → Int32) → Prop} {p : Nat} (C : sd_C G fs sn fe ou) (hp : p < 128) (hN : N ≤ 20) (O : sd_O pt cy N) (K1 : sd_SP G N kd fs sn fe ou pt cy aw p → ∀ vl', post (nI p) (nI G, dv, nI N, kd, fs, sn, fe, ou, pt, cy, aw, vl')) (K0 : ¬ sd_SP G N kd fs sn fe ou pt cy aw p → ∀ vl', J (nI (p + 1)) (nI G) dv (nI N) kd fs sn fe ou pt cy aw vl') : ∀ d f, f + d = 2 * (7 + G) → ∀ x2, ((x2 = -1 ∧ ∀ h, h < f → ¬ sd_EX kd fs sn fe ou pt cy aw h N) ∨ (∃ g, g < f ∧ sd_EX kd fs sn fe ou pt cy aw g N ∧ x2 = sd_rn kd fs sn fe ou g p 1 ∧ ∀ h, h < f → sd_EX kd fs sn fe ou pt cy aw h N → sd_rn kd fs sn fe ou h p 1 = x2)) → ∀ vl n, d < n → wY_nextPattern_13 post J (nI p) n x2 (nI f) (nI G) dv (nI N) kd fs sn fe ou pt cy aw vl := by
  have hG := C.1
  intro d
  induction d with
  | zero =>
    intro f hf x2 hI vl n hn
    obtain ⟨m, rfl⟩ : ∃ m, n = m + 1 := ⟨n - 1, by omega⟩
    rw [wY_nextPattern_13]
    refine sd_ylc ?_
    refine br_t (sd_2le (by omega) (by omega)) (nm_r (nI_1 p) (K0 ?_ vl))
    rintro ⟨a, b, ha, hb, ea, eb, hne⟩
    rcases hI with ⟨_, h⟩ | ⟨g, _, _, _, h⟩
    · exact h a (by omega) ea
    · exact hne ((h a (by omega) ea).trans (h b (by omega) eb).symm)
  | succ d ih =>
    intro f hf x2 hI vl n hn
    obtain ⟨m, rfl⟩ : ∃ m, n = m + 1 := ⟨n - 1, by omega⟩
    rw [wY_nextPattern_13]
    refine sd_ylc ?_
    refine br_f (sd_2ge (by omega) (by omega)) ?_
    refine sd_yex C (sd_fc_n (by omega)) (by omega) hN O (fun h vl' => ?_) (fun h vl' => ?_)
    · refine br_f (by decide) ?_
      refine sd_yrE (c := 1) C (sd_fc_n (by omega)) (by omega) hp (by decide) fun vl2 => ?_
      rcases hI with ⟨e, hh⟩ | ⟨g, hg, eg, e, hh⟩
      · subst e
        refine br_t (by decide) (nm_r (nI_1 f) ?_)
        refine ih (f + 1) (by omega) _ (Or.inr ⟨f, by omega, h, rfl, fun k hk ek => ?_⟩) vl2 m (by omega)
        by_cases z : k = f
        · subst z; rfl
        · exact absurd ek (hh k (by omega))
      · refine br_f (by rw [e]; exact sd_rn_pos) (br_c (fun q => nm_r (nI_1 f) ?_) (fun q => ?_))
        · refine ih (f + 1) (by omega) _ (Or.inr ⟨f, by omega, h, rfl, fun k hk ek => ?_⟩) vl2 m (by omega)
          by_cases z : k = f
          · subst z; rfl
          · exact (hh k (by omega) ek).trans q.symm
        · refine K1 ⟨f, g, by omega, by omega, h, eg, fun z => q ?_⟩ vl2
          rw [z, e]
    · refine br_t rfl (nm_r (nI_1 f) ?_)
      refine ih (f + 1) (by omega) x2 ?_ vl' m (by omega)
      rcases hI with ⟨e, hh⟩ | ⟨g, hg, eg, e, hh⟩
      · refine Or.inl ⟨e, fun k hk => ?_⟩
        by_cases z : k = f
        · subst z; exact h
        · exact hh k (by omega)
      · refine Or.inr ⟨g, by omega, eg, e, fun k hk ek => ?_⟩
        by_cases z : k = f
        · subst z; exact absurd ek h
        · exact hh k (by omega) ek
theorem sd_yn2 {post : Int32 → SY → Prop} (C : sd_C G fs sn fe ou) (hN : N ≤ 20) (O : sd_O pt cy N) : ∀ d p, p + d = 128 → (∀ vl', post (sd_np (sd_SP G N kd fs sn fe ou pt cy aw) d p) (nI G, dv, nI N, kd, fs, sn, fe, ou, pt, cy, aw, vl')) → ∀ vl n, d < n → wY_nextPattern_2 post n (nI p) (nI G) dv (nI N) kd fs sn fe ou pt cy aw vl := by
  have hG := C.1
  intro d
  induction d with
  | zero =>
    intro p hp K vl n hn
    obtain ⟨m, rfl⟩ : ∃ m, n = m + 1 := ⟨n - 1, by omega⟩
    have e : p = 128 := by omega
    subst e
    exact br_t (by decide) (K vl)
  | succ d ih =>
    intro p hp K vl n hn
    obtain ⟨m, rfl⟩ : ∃ m, n = m + 1 := ⟨n - 1, by omega⟩
    refine br_f (nI_ge (b := 128) (by omega) (by omega)) (Exists.intro 43 ?_)
    refine sd_yn13 C (by omega) hN O (fun h vl' => ?_) (fun h vl' => ?_) (2 * (7 + G)) 0 (by omega) (-1) (Or.inl ⟨rfl, fun k hk => absurd hk (by omega)⟩) vl 43 (by omega)
    · have t := K vl'
      rw [sd_np_t h] at t
      exact t
    · refine ih (p + 1) (by omega) (fun vl2 => ?_) vl' m (by omega)
      have t := K vl2
      rw [sd_np_f h] at t
      exact t
theorem sd_ynp {post : Int32 → SY → Prop} (C : sd_C G fs sn fe ou) (hN : N ≤ 20) (O : sd_O pt cy N) (K : ∀ vl', post (sd_np (sd_SP G N kd fs sn fe ou pt cy aw) 128 0) (nI G, dv, nI N, kd, fs, sn, fe, ou, pt, cy, aw, vl')) : wpY_nextPattern post (nI G, dv, nI N, kd, fs, sn, fe, ou, pt, cy, aw, vl) :=
  ⟨129, sd_yn2 C hN O 128 0 (by omega) K vl 129 (by omega)⟩
theorem sd_yd35 {post : Int32 → SY → Prop} {P : Nat → Bool} {p c : Nat} (C : sd_C G fs sn fe ou) (hp : p < 128) (hc : c < 2 ^ 30) (hP : ∀ f, f < 2 * (7 + G) → (P f = true ↔ ¬ sd_rn kd fs sn fe ou f p c = sd_rn kd fs sn fe ou 63 p c)) (K : ∀ vl', post (nI (sd_cn P (2 * (7 + G)))) (nI G, dv, nt, kd, fs, sn, fe, ou, pt, cy, aw, vl')) : ∀ d f, f + d = 2 * (7 + G) → ∀ vl n, d < n → wY_detected_35 post (nI p) (nI c) (sd_rn kd fs sn fe ou 63 p c) n (nI (sd_cn P f)) (nI f) (nI G) dv nt kd fs sn fe ou pt cy aw vl := by
  have hG := C.1
  intro d
  induction d with
  | zero =>
    intro f hf vl n hn
    obtain ⟨m, rfl⟩ : ∃ m, n = m + 1 := ⟨n - 1, by omega⟩
    have e : f = 2 * (7 + G) := by omega
    subst e
    rw [wY_detected_35]
    refine sd_ylc ?_
    exact br_t (sd_2le (by omega) (by omega)) (K vl)
  | succ d ih =>
    intro f hf vl n hn
    obtain ⟨m, rfl⟩ : ∃ m, n = m + 1 := ⟨n - 1, by omega⟩
    rw [wY_detected_35]
    refine sd_ylc ?_
    refine br_f (sd_2ge (by omega) (by omega)) ?_
    refine sd_yrE C (sd_fc_n (by omega)) (by omega) hp hc fun vl' => ?_
    refine br_c (fun h => ?_) (fun h => ?_)
    · have e := sd_cn_f (ts_nt (fun z => (hP f (by omega)).mp z h))
      have t := ih (f + 1) (by omega) vl' m (by omega)
      rw [e] at t
      exact nm_r (nI_1 f) t
    · have e := sd_cn_t ((hP f (by omega)).mpr h)
      exact nm_r (e' := nI (sd_cn P (f + 1))) (by rw [e, nI_1]) (nm_r (nI_1 f) (ih (f + 1) (by omega) vl' m (by omega)))
theorem sd_yh4 {post : Int32 → SY → Prop} {P : Nat → Bool} (C : sd_C G fs sn fe ou) (hP : ∀ f, f < 2 * (7 + G) → (P f = true ↔ sd_AL kd fs sn fe ou f 63)) (K : ∀ vl', post (nI (sd_cn P (2 * (7 + G)))) (nI G, dv, nt, kd, fs, sn, fe, ou, pt, cy, aw, vl')) : ∀ d f, f + d = 2 * (7 + G) → ∀ vl n, d < n → wY_hidden_4 post n (nI (sd_cn P f)) (nI f) (nI G) dv nt kd fs sn fe ou pt cy aw vl := by
  have hG := C.1
  intro d
  induction d with
  | zero =>
    intro f hf vl n hn
    obtain ⟨m, rfl⟩ : ∃ m, n = m + 1 := ⟨n - 1, by omega⟩
    have e : f = 2 * (7 + G) := by omega
    subst e
    rw [wY_hidden_4]
    refine sd_ylc ?_
    exact br_t (sd_2le (by omega) (by omega)) (K vl)
  | succ d ih =>
    intro f hf vl n hn
    obtain ⟨m, rfl⟩ : ∃ m, n = m + 1 := ⟨n - 1, by omega⟩
    rw [wY_hidden_4]
    refine sd_ylc ?_
    refine br_f (sd_2ge (by omega) (by omega)) ?_
    refine sd_yal C (sd_fc_n (by omega)) sd_fc_h (by omega) (by decide) (fun h vl' => ?_) (fun h vl' => ?_)
    · have e := sd_cn_t ((hP f (by omega)).mpr h)
      exact br_f (by decide) (nm_r (e' := nI (sd_cn P (f + 1))) (by rw [e, nI_1]) (nm_r (nI_1 f) (ih (f + 1) (by omega) vl' m (by omega))))
    · have e := sd_cn_f (ts_nt (fun z => h ((hP f (by omega)).mp z)))
      have t := ih (f + 1) (by omega) vl' m (by omega)
      rw [e] at t
      exact br_t rfl (nm_r (nI_1 f) t)
theorem sd_yhi {post : Int32 → SY → Prop} {P : Nat → Bool} (C : sd_C G fs sn fe ou) (hP : ∀ f, f < 2 * (7 + G) → (P f = true ↔ sd_AL kd fs sn fe ou f 63)) (K : ∀ vl', post (nI (sd_cn P (2 * (7 + G)))) (nI G, dv, nt, kd, fs, sn, fe, ou, pt, cy, aw, vl')) : wpY_hidden post (nI G, dv, nt, kd, fs, sn, fe, ou, pt, cy, aw, vl) :=
  ⟨43, sd_yh4 C hP K (2 * (7 + G)) 0 (by omega) vl 43 (by have := C.1; omega)⟩
theorem sd_yg4 {post : Int32 → SY → Prop} {P : Nat → Bool} (C : sd_C G fs sn fe ou) (hP : ∀ f, f < 2 * (7 + G) → (P f = true ↔ sd_LE kd fs sn fe ou f f)) (K : ∀ vl', post (nI (sd_cn P (2 * (7 + G)))) (nI G, dv, nt, kd, fs, sn, fe, ou, pt, cy, aw, vl')) : ∀ d f, f + d = 2 * (7 + G) → ∀ vl n, d < n → wY_groups_4 post n (nI (sd_cn P f)) (nI f) (nI G) dv nt kd fs sn fe ou pt cy aw vl := by
  have hG := C.1
  intro d
  induction d with
  | zero =>
    intro f hf vl n hn
    obtain ⟨m, rfl⟩ : ∃ m, n = m + 1 := ⟨n - 1, by omega⟩
    have e : f = 2 * (7 + G) := by omega
    subst e
    rw [wY_groups_4]
    refine sd_ylc ?_
    exact br_t (sd_2le (by omega) (by omega)) (K vl)
  | succ d ih =>
    intro f hf vl n hn
    obtain ⟨m, rfl⟩ : ∃ m, n = m + 1 := ⟨n - 1, by omega⟩
    rw [wY_groups_4]
    refine sd_ylc ?_
    refine br_f (sd_2ge (by omega) (by omega)) ?_
    refine sd_yea C (by omega) fun x hx vl' => ?_
    have hxf := hx.1
    by_cases h : x = f
    · subst h
      have e := sd_cn_t ((hP x (by omega)).mpr hx)
      exact br_t rfl (nm_r (e' := nI (sd_cn P (x + 1))) (by rw [e, nI_1]) (nm_r (nI_1 x) (ih (x + 1) (by omega) vl' m (by omega))))
    · have e := sd_cn_f (ts_nt (fun z => h (sd_LE_u hx ((hP f (by omega)).mp z))))
      have t := ih (f + 1) (by omega) vl' m (by omega)
      rw [e] at t
      exact br_f (by rw [nI_eq (by omega) (by omega)]; exact h) (nm_r (nI_1 f) t)
theorem sd_ygr {post : Int32 → SY → Prop} {P : Nat → Bool} (C : sd_C G fs sn fe ou) (hP : ∀ f, f < 2 * (7 + G) → (P f = true ↔ sd_LE kd fs sn fe ou f f)) (K : ∀ vl', post (nI (sd_cn P (2 * (7 + G)))) (nI G, dv, nt, kd, fs, sn, fe, ou, pt, cy, aw, vl')) : wpY_groups post (nI G, dv, nt, kd, fs, sn, fe, ou, pt, cy, aw, vl) :=
  ⟨43, sd_yg4 C hP K (2 * (7 + G)) 0 (by omega) vl 43 (by have := C.1; omega)⟩
theorem sd_yk4 {post : Int32 → SY → Prop} {P : Nat → Bool} (C : sd_C G fs sn fe ou) (hN : N ≤ 20) (O : sd_O pt cy N) (hP : ∀ f, f < 2 * (7 + G) → (P f = true ↔ (sd_LE kd fs sn fe ou f f ∧ sd_PO G N kd fs sn fe ou pt cy aw f))) (K : ∀ vl', post (nI (sd_cn P (2 * (7 + G)))) (nI G, dv, nI N, kd, fs, sn, fe, ou, pt, cy, aw, vl')) : ∀ d f, f + d = 2 * (7 + G) → ∀ vl n, d < n → wY_candidateGroups_4 post n (nI (sd_cn P f)) (nI f) (nI G) dv (nI N) kd fs sn fe ou pt cy aw vl := by
  have hG := C.1
  intro d
  induction d with
  | zero =>
    intro f hf vl n hn
    obtain ⟨m, rfl⟩ : ∃ m, n = m + 1 := ⟨n - 1, by omega⟩
    have e : f = 2 * (7 + G) := by omega
    subst e
    rw [wY_candidateGroups_4]
    refine sd_ylc ?_
    exact br_t (sd_2le (by omega) (by omega)) (K vl)
  | succ d ih =>
    intro f hf vl n hn
    obtain ⟨m, rfl⟩ : ∃ m, n = m + 1 := ⟨n - 1, by omega⟩
    rw [wY_candidateGroups_4]
    refine sd_ylc ?_
    refine br_f (sd_2ge (by omega) (by omega)) ?_
    refine sd_yea C (by omega) fun x hx vl' => ?_
    have hxf := hx.1
    by_cases h : x = f
    · subst h
      refine br_t rfl ?_
      refine sd_ypo C (by omega) hN O (fun q vl2 => ?_) (fun q vl2 => ?_)
      · have e := sd_cn_t ((hP x (by omega)).mpr ⟨hx, q⟩)
        exact br_f (by decide) (nm_r (e' := nI (sd_cn P (x + 1))) (by rw [e, nI_1]) (nm_r (nI_1 x) (ih (x + 1) (by omega) vl2 m (by omega))))
      · have e := sd_cn_f (ts_nt (fun z => q ((hP x (by omega)).mp z).2))
        have t := ih (x + 1) (by omega) vl2 m (by omega)
        rw [e] at t
        exact br_t rfl (nm_r (nI_1 x) t)
    · have e := sd_cn_f (ts_nt (fun z => h (sd_LE_u hx ((hP f (by omega)).mp z).1)))
      have t := ih (f + 1) (by omega) vl' m (by omega)
      rw [e] at t
      exact br_f (by rw [nI_eq (by omega) (by omega)]; exact h) (nm_r (nI_1 f) t)
theorem sd_ykg {post : Int32 → SY → Prop} {P : Nat → Bool} (C : sd_C G fs sn fe ou) (hN : N ≤ 20) (O : sd_O pt cy N) (hP : ∀ f, f < 2 * (7 + G) → (P f = true ↔ (sd_LE kd fs sn fe ou f f ∧ sd_PO G N kd fs sn fe ou pt cy aw f))) (K : ∀ vl', post (nI (sd_cn P (2 * (7 + G)))) (nI G, dv, nI N, kd, fs, sn, fe, ou, pt, cy, aw, vl')) : wpY_candidateGroups post (nI G, dv, nI N, kd, fs, sn, fe, ou, pt, cy, aw, vl) :=
  ⟨43, sd_yk4 C hN O hP K (2 * (7 + G)) 0 (by omega) vl 43 (by have := C.1; omega)⟩
end
end
section
/-! ===== X: faults, candidates, candidate, nextPattern, detected ===== -/
theorem sd_7 (G : Nat) : (7 : Int32) + nI G = nI (7 + G) := nI_add 7 G
theorem sd_xge {G g : Nat} (h : g < 2 * (7 + G)) (hG : G ≤ 14) : ¬ (2 : Int32) * (7 + nI G) ≤ nI g := by
  rw [sd_7]; exact sd_2ge h (by omega)
theorem sd_xle {G g : Nat} (h : 2 * (7 + G) ≤ g) (hg : g < 2 ^ 20) : (2 : Int32) * (7 + nI G) ≤ nI g := by
  rw [sd_7]; exact sd_2le h hg
theorem sd_ne {x y : Int64} (h : ¬ x = y) : ∃ f, f < 64 ∧ ¬ sd_b x f = sd_b y f := by
  apply Classical.byContradiction
  intro hn
  apply h
  apply sd_ext
  intro i hi
  apply Classical.byContradiction
  intro hb
  exact hn ⟨i, hi, hb⟩
theorem sd_ne0 {x : Int64} (h : ¬ x = 0) : ∃ f, f < 64 ∧ sd_b x f = true := by
  obtain ⟨f, hf, hb⟩ := sd_ne h
  rw [sd_0] at hb
  exact ⟨f, hf, ts_nf hb⟩
section
variable {G N : Nat} {dv nt : Int32} {lf lh : Int64} {gr : Int32} {kd fs sn fe ou pt cy aw : Nat → Int32} {wo sa aa lk : Nat → Int64}
theorem sd_xfl {post : Int64 → Prop} (hG : G ≤ 14) (K : ∀ m, (∀ i, i < 64 → sd_b m i = decide (i < 2 * (7 + G))) → post m) : wpX_faults post (nI G, dv, nt, lf, lh, gr, kd, fs, sn, fe, ou, wo, sa, aa, lk) := by
  have e : (2 : Int32) * (7 + nI G) = nI (2 * (7 + G)) := by rw [sd_7]; exact sd_2m _
  have s : (1 : Int64) <<< ((nI (2 * (7 + G))).toInt64 &&& 63) = lN (2 ^ (2 * (7 + G))) := by
    have h := wb_shl 1 (k := 2 * (7 + G)) (by omega)
    rw [Nat.one_mul] at h
    exact h
  have t : lN (2 ^ (2 * (7 + G))) - 1 = lN (2 ^ (2 * (7 + G)) - 1) := lN_sub (b := 1) (Nat.two_pow_pos _)
  show post (((1 : Int64) <<< ((2 * (7 + nI G)).toInt64 &&& 63)) - 1)
  rw [e, s, t]
  exact K _ fun i hi => by rw [sd_lN _ hi, Nat.testBit_two_pow_sub_one]
/-- ones of a word under the mask of the faults -/
theorem sd_xon {post : Int32 → Prop} {P : Nat → Bool} {w m : Int64} (hG : G ≤ 14) (hm : ∀ i, i < 64 → sd_b m i = decide (i < 2 * (7 + G))) (hw : ∀ f, f < 2 * (7 + G) → sd_b w f = P f) (K : post (nI (sd_cn P (2 * (7 + G))))) : wpX_ones post (w &&& m) := by
  refine sd_onesC (m := 2 * (7 + G)) (by omega) (fun i hi => ?_) (fun i h1 h2 => ?_) K
  · rw [sd_and, hm i (by omega), decide_eq_true hi, Bool.and_true, hw i hi]
  · rw [sd_and, hm i h2, decide_eq_false (by omega), Bool.and_false]
theorem sd_xcs {post : Int32 → Prop} (hG : G ≤ 14) (K : post (nI (sd_cn (sd_b lf) (2 * (7 + G))))) : wpX_candidates post (nI G, dv, nt, lf, lh, gr, kd, fs, sn, fe, ou, wo, sa, aa, lk) := by
  unfold wpX_candidates
  refine sd_xfl hG fun m hm => ?_
  exact sd_xon hG hm (fun _ _ => rfl) K
theorem sd_xca15 {post : Int32 → Prop} {x : Int32} (hG : G ≤ 14) : ∀ d f b, f + d = 2 * (7 + G) → post (sd_cf (sd_b lf) x d f b) → ∀ n, d < n → wX_candidate_15 post (nI (2 * (7 + G))) (nI G) dv nt lf lh gr kd fs sn fe ou wo sa aa lk n (x - b) (nI f) := by
  intro d
  induction d with
  | zero =>
    intro f b hf K n hn
    obtain ⟨m, rfl⟩ : ∃ m, n = m + 1 := ⟨n - 1, by omega⟩
    exact br_t (nI_le (by omega) (by omega)) K
  | succ d ih =>
    intro f b hf K n hn
    obtain ⟨m, rfl⟩ : ∃ m, n = m + 1 := ⟨n - 1, by omega⟩
    rw [sd_cf] at K
    refine br_f (nI_ge (by omega) (by omega)) ?_
    rw [sd_bit _ (by omega), sd_l_1]
    refine br_c (fun h => ?_) (fun h => ?_)
    · rw [if_pos h] at K
      refine br_c (fun e => ?_) (fun e => ?_)
      · rw [Int32.sub_eq_iff_eq_add, Int32.zero_add] at e
        rw [if_pos e.symm] at K
        exact K
      · rw [Int32.sub_eq_iff_eq_add, Int32.zero_add] at e
        rw [if_neg (fun z => e z.symm)] at K
        refine nm_r (e' := x - (b + 1)) ?_ (nm_r (nI_1 f) (ih (f + 1) (b + 1) (by omega) K m (by omega)))
        rw [Int32.add_neg_eq_sub, Int32.sub_sub]
    · rw [if_neg h] at K
      exact nm_r (nI_1 f) (ih (f + 1) b (by omega) K m (by omega))
theorem sd_xca {post : Int32 → Prop} {x : Int32} (hG : G ≤ 14) (K : post (sd_cf (sd_b lf) x (2 * (7 + G)) 0 0)) : wpX_candidate post (nI G, dv, nt, lf, lh, gr, kd, fs, sn, fe, ou, wo, sa, aa, lk) x := by
  have e : (2 : Int32) * (7 + nI G) = nI (2 * (7 + G)) := by rw [sd_7]; exact sd_2m _
  have t := sd_xca15 (dv := dv) (nt := nt) (lh := lh) (gr := gr) (kd := kd) (fs := fs) (sn := sn) (fe := fe) (ou := ou) (wo := wo) (sa := sa) (aa := aa) (lk := lk) (post := post) hG (2 * (7 + G)) 0 0 (by omega) K 43 (by omega)
  rw [Int32.sub_zero] at t
  exact nm_r e ⟨43, t⟩
theorem sd_xn28 {post : Int32 → SX → Prop} {J : Int32 → Int32 → Int32 → Int32 → Int64 → Int64 → Int32 → (Nat → Int32) → (Nat → Int32) → (Nat → Int32) → (Nat → Int32) → (Nat → Int32) → (Nat → Int64) → (Nat → Int64) → (Nat → Int64) → (Nat → Int64) → Prop} {w : Int64} {p : Nat} (hA : sd_A kd fs sn fe ou p 0 aa 5) (hG : G ≤ 14) (hw : ∀ f, f < 64 → (sd_b w f = true ↔ (f < 2 * (7 + G) ∧ sd_EX kd fs sn fe ou pt cy aw f N))) (K1 : sd_SP G N kd fs sn fe ou pt cy aw p → post (nI p) (nI G, dv, nt, lf, lh, gr, kd, fs, sn, fe, ou, wo, sa, aa, lk)) (K0 : ¬ sd_SP G N kd fs sn fe ou pt cy aw p → J (nI (p + 1)) (nI G) dv nt lf lh gr kd fs sn fe ou wo sa aa lk) : ∀ d b, b + d = 5 → (∀ b', b' < b → ∀ f g, f < 64 → g < 64 → sd_b w f = true → sd_b w g = true → sd_an kd fs sn fe ou f p 0 b' = sd_an kd fs sn fe ou g p 0 b') → ∀ n, d < n → wX_nextPattern_28 post J w (nI p) (nI G) dv nt lf lh gr kd fs sn fe ou wo sa aa lk n (nI b) := by
  intro d
  induction d with
  | zero =>
    intro b hb hI n hn
    obtain ⟨m, rfl⟩ : ∃ m, n = m + 1 := ⟨n - 1, by omega⟩
    have e : b = 5 := by omega
    subst e
    refine br_t (by decide) (nm_r (nI_1 p) (K0 ?_))
    rintro ⟨f, g, hf, hg, ef, eg, hne⟩
    apply hne
    rw [sd_rn_eq]
    intro b' hb'
    exact hI b' hb' f g (by omega) (by omega) ((hw f (by omega)).mpr ⟨hf, ef⟩) ((hw g (by omega)).mpr ⟨hg, eg⟩)
  | succ d ih =>
    intro b hb hI n hn
    obtain ⟨m, rfl⟩ : ∃ m, n = m + 1 := ⟨n - 1, by omega⟩
    have hc : (nI b).toNatClampNeg = b := nI_clamp (by omega)
    have next : (∀ f g, f < 64 → g < 64 → sd_b w f = true → sd_b w g = true → sd_an kd fs sn fe ou f p 0 b = sd_an kd fs sn fe ou g p 0 b) → wX_nextPattern_28 post J w (nI p) (nI G) dv nt lf lh gr kd fs sn fe ou wo sa aa lk m (nI (b + 1)) := by
      intro h
      refine ih (b + 1) (by omega) (fun b' hb' => ?_) m (by omega)
      by_cases e : b' = b
      · subst e; exact h
      · exact hI b' (by omega)
    refine br_f (nI_ge (b := 5) (by omega) (by omega)) ⟨vp_in_nI (by omega) (by decide), nm_r (e' := aa b &&& w) (by rw [hc]) ?_⟩
    have hbit : ∀ f, f < 64 → sd_b (aa b &&& w) f = (sd_an kd fs sn fe ou f p 0 b && sd_b w f) := by
      intro f hf
      rw [sd_and, hA b (by omega) f hf]
    refine br_c (fun h0 => nm_r (nI_1 b) (next fun f g hf hg wf wg => ?_)) (fun h0 => br_c (fun h1 => nm_r (nI_1 b) (next fun f g hf hg wf wg => ?_)) (fun h1 => K1 ?_))
    · have a := hbit f hf
      have c := hbit g hg
      rw [h0, sd_0, wf, Bool.and_true] at a
      rw [h0, sd_0, wg, Bool.and_true] at c
      rw [← a, ← c]
    · have a := hbit f hf
      have c := hbit g hg
      rw [h1, wf, Bool.and_true] at a
      rw [h1, wg, Bool.and_true] at c
      rw [← a, ← c]
    · obtain ⟨f, hf, f1⟩ := sd_ne0 h0
      obtain ⟨g, hg, g1⟩ := sd_ne h1
      rw [hbit f hf, Bool.and_eq_true] at f1
      rw [hbit g hg] at g1
      have gw : sd_b w g = true := by
        apply ts_nf
        intro z
        apply g1
        rw [z, Bool.and_false]
      rw [gw, Bool.and_true] at g1
      have wf := (hw f hf).mp f1.2
      have wg := (hw g hg).mp gw
      refine ⟨f, g, wf.1, wg.1, wf.2, wg.2, fun z => ?_⟩
      rw [sd_rn_eq] at z
      apply g1
      rw [← z b (by omega)]
      exact f1.1
theorem sd_xn12 {post : Int32 → SX → Prop} {w : Int64} (C : sd_C G fs sn fe ou) (hw : ∀ f, f < 64 → (sd_b w f = true ↔ (f < 2 * (7 + G) ∧ sd_EX kd fs sn fe ou pt cy aw f N))) : ∀ d p, p + d = 128 → (∀ wo' sa' aa', post (sd_np (sd_SP G N kd fs sn fe ou pt cy aw) d p) (nI G, dv, nt, lf, lh, gr, kd, fs, sn, fe, ou, wo', sa', aa', lk)) → ∀ wo sa aa n, d < n → wX_nextPattern_12 post w n (nI p) (nI G) dv nt lf lh gr kd fs sn fe ou wo sa aa lk := by
  have hG := C.1
  intro d
  induction d with
  | zero =>
    intro p hp K wo sa aa n hn
    obtain ⟨m, rfl⟩ : ∃ m, n = m + 1 := ⟨n - 1, by omega⟩
    have e : p = 128 := by omega
    subst e
    exact br_t (by decide) (K wo sa aa)
  | succ d ih =>
    intro p hp K wo sa aa n hn
    obtain ⟨m, rfl⟩ : ∃ m, n = m + 1 := ⟨n - 1, by omega⟩
    refine br_f (nI_ge (b := 128) (by omega) (by omega)) ?_
    refine sd_xrun (c := 0) C (by omega) (by decide) fun wo' sa' aa' hA => ?_
    refine Exists.intro 6 ?_
    refine sd_xn28 hA hG hw (fun h => ?_) (fun h => ?_) 5 0 (by omega) (fun b' hb' => absurd hb' (by omega)) 6 (by omega)
    · have t := K wo' sa' aa'
      rw [sd_np_t h] at t
      exact t
    · refine ih (p + 1) (by omega) (fun wo2 sa2 aa2 => ?_) wo' sa' aa' m (by omega)
      have t := K wo2 sa2 aa2
      rw [sd_np_f h] at t
      exact t
theorem sd_xnp {post : Int32 → SX → Prop} (C : sd_C G fs sn fe ou) (hL : ∀ f, f < 2 * (7 + G) → (sd_b lf f = true ↔ sd_EX kd fs sn fe ou pt cy aw f N)) (K : ∀ wo' sa' aa', post (sd_np (sd_SP G N kd fs sn fe ou pt cy aw) 128 0) (nI G, dv, nt, lf, lh, gr, kd, fs, sn, fe, ou, wo', sa', aa', lk)) : wpX_nextPattern post (nI G, dv, nt, lf, lh, gr, kd, fs, sn, fe, ou, wo, sa, aa, lk) := by
  have hG := C.1
  unfold wpX_nextPattern
  refine sd_xfl hG fun q hq => nm_e (Exists.intro 129 ?_)
  refine sd_xn12 C (fun f hf => ?_) 128 0 (by omega) K wo sa aa 129 (by omega)
  rw [sd_and, hq f hf, Bool.and_eq_true, decide_eq_true_iff]
  constructor
  · rintro ⟨a, b⟩; exact ⟨b, (hL f b).mp a⟩
  · rintro ⟨a, b⟩; exact ⟨(hL f a).mpr b, a⟩
theorem sd_xd30 {post : Int32 → SX → Prop} {P : Nat → Bool} {p c : Nat} (hG : G ≤ 14) (hA : sd_A kd fs sn fe ou p c aa 5) (hP : ∀ f, f < 2 * (7 + G) → (P f = true ↔ ¬ sd_rn kd fs sn fe ou f p (c + 1) = sd_rn kd fs sn fe ou 63 p (c + 1))) (K : post (nI (sd_cn P (2 * (7 + G)))) (nI G, dv, nt, lf, lh, gr, kd, fs, sn, fe, ou, wo, sa, aa, lk)) : ∀ d b, b + d = 5 → ∀ x3, (∀ f, f < 64 → (sd_b x3 f = false ↔ ∀ b', b' < b → sd_an kd fs sn fe ou f p c b' = sd_an kd fs sn fe ou 63 p c b')) → ∀ n, d < n → wX_detected_30 post (nI G) dv nt lf lh gr kd fs sn fe ou wo sa aa lk n x3 (nI b) := by
  intro d
  induction d with
  | zero =>
    intro b hb x3 hI n hn
    obtain ⟨m, rfl⟩ : ∃ m, n = m + 1 := ⟨n - 1, by omega⟩
    have e : b = 5 := by omega
    subst e
    refine br_t (by decide) ?_
    refine sd_xfl hG fun q hq => ?_
    refine sd_xon hG hq (fun f hf => ?_) K
    have a := hI f (by omega)
    rw [← sd_rn_eq] at a
    have c' := hP f hf
    by_cases z : sd_rn kd fs sn fe ou f p (c + 1) = sd_rn kd fs sn fe ou 63 p (c + 1)
    · rw [a.mpr z, ts_nt (fun y => c'.mp y z)]
    · rw [c'.mpr z, ts_nf (fun y => z (a.mp y))]
  | succ d ih =>
    intro b hb x3 hI n hn
    obtain ⟨m, rfl⟩ : ∃ m, n = m + 1 := ⟨n - 1, by omega⟩
    have hc : (nI b).toNatClampNeg = b := nI_clamp (by omega)
    have hin : vp_in (nI b) 5 := vp_in_nI (by omega) (by decide)
    have next : ∀ y : Int64, (∀ f, f < 64 → sd_b y f = (sd_b x3 f || !(sd_an kd fs sn fe ou f p c b == sd_an kd fs sn fe ou 63 p c b))) → wX_detected_30 post (nI G) dv nt lf lh gr kd fs sn fe ou wo sa aa lk m y (nI (b + 1)) := by
      intro y hy
      refine ih (b + 1) (by omega) y (fun f hf => ?_) m (by omega)
      rw [hy f hf, Bool.or_eq_false_iff, hI f hf, Bool.not_eq_false', beq_iff_eq]
      constructor
      · rintro ⟨h1, h2⟩ b' hb'
        by_cases e : b' = b
        · subst e; exact h2
        · exact h1 b' (by omega)
      · intro h
        exact ⟨fun b' hb' => h b' (by omega), h b (by omega)⟩
    refine br_f (nI_ge (b := 5) (by omega) (by omega)) ⟨hin, ?_⟩
    rw [hc, sd_pos, hA b (by omega) 63 (by decide)]
    refine br_c (fun h => ⟨hin, nm_e (nm_r (nI_1 b) (next _ fun f hf => ?_))⟩) (fun h => ⟨hin, nm_e (nm_r (nI_1 b) (next _ fun f hf => ?_))⟩)
    · rw [sd_or, hA b (by omega) f hf, h]
      cases sd_an kd fs sn fe ou f p c b <;> rfl
    · rw [sd_or, sd_not _ hf, hA b (by omega) f hf, ts_nf h]
      cases sd_an kd fs sn fe ou f p c b <;> rfl
end
end
section
/-! ===== X: split, group, groupsWith ===== -/
def sd_AP (kd fs sn fe ou : Nat → Int32) (p b f g : Nat) : Prop := (∀ q, q < p → ∀ b', b' < 5 → sd_an kd fs sn fe ou f q 0 b' = sd_an kd fs sn fe ou g q 0 b') ∧ ∀ b', b' < b → sd_an kd fs sn fe ou f p 0 b' = sd_an kd fs sn fe ou g p 0 b'
theorem sd_AP_s {kd fs sn fe ou : Nat → Int32} {p b f g : Nat} : sd_AP kd fs sn fe ou p (b + 1) f g ↔ (sd_AP kd fs sn fe ou p b f g ∧ sd_an kd fs sn fe ou f p 0 b = sd_an kd fs sn fe ou g p 0 b) := by
  constructor
  · rintro ⟨h1, h2⟩
    exact ⟨⟨h1, fun b' hb' => h2 b' (by omega)⟩, h2 b (by omega)⟩
  · rintro ⟨⟨h1, h2⟩, h3⟩
    refine ⟨h1, fun b' hb' => ?_⟩
    by_cases e : b' = b
    · subst e; exact h3
    · exact h2 b' (by omega)
theorem sd_AP_n {kd fs sn fe ou : Nat → Int32} {p f g : Nat} : sd_AP kd fs sn fe ou p 5 f g ↔ sd_AP kd fs sn fe ou (p + 1) 0 f g := by
  constructor
  · rintro ⟨h1, h2⟩
    refine ⟨fun q hq => ?_, fun b' hb' => absurd hb' (by omega)⟩
    by_cases e : q = p
    · subst e; exact h2
    · exact h1 q (by omega)
  · rintro ⟨h1, _⟩
    exact ⟨fun q hq => h1 q (by omega), h1 p (by omega)⟩
theorem sd_AP_0 {kd fs sn fe ou : Nat → Int32} {f g : Nat} : sd_AP kd fs sn fe ou 0 0 f g := ⟨fun q hq => absurd hq (by omega), fun b' hb' => absurd hb' (by omega)⟩
theorem sd_AP_A {kd fs sn fe ou : Nat → Int32} {f g : Nat} : sd_AP kd fs sn fe ou 128 0 f g ↔ sd_AL kd fs sn fe ou f g := by
  constructor
  · rintro ⟨h1, _⟩ q hq
    exact sd_rn_eq.mpr (h1 q hq)
  · intro h
    exact ⟨fun q hq => sd_rn_eq.mp (h q hq), fun b' hb' => absurd hb' (by omega)⟩
def sd_GI (G : Nat) (kd fs sn fe ou : Nat → Int32) (p b : Nat) (lh : Int64) (lk : Nat → Int64) : Prop := (∀ f, f < 2 * (7 + G) → ∀ g, g < 64 → (sd_b (lk f) g = true ↔ (g < 2 * (7 + G) ∧ sd_AP kd fs sn fe ou p b f g))) ∧ (∀ g, g < 64 → (sd_b lh g = true ↔ sd_AP kd fs sn fe ou p b 63 g))
/-- like and likeHealthy hold who is alike -/
def sd_GR (G : Nat) (kd fs sn fe ou : Nat → Int32) (lh : Int64) (lk : Nat → Int64) : Prop := (∀ f, f < 2 * (7 + G) → ∀ g, g < 64 → (sd_b (lk f) g = true ↔ (g < 2 * (7 + G) ∧ sd_AL kd fs sn fe ou f g))) ∧ (∀ g, g < 64 → (sd_b lh g = true ↔ sd_AL kd fs sn fe ou 63 g))
theorem sd_GI_R {G : Nat} {kd fs sn fe ou : Nat → Int32} {lh : Int64} {lk : Nat → Int64} (h : sd_GI G kd fs sn fe ou 128 0 lh lk) : sd_GR G kd fs sn fe ou lh lk := by
  refine ⟨fun f hf g hg => ?_, fun g hg => ?_⟩
  · rw [h.1 f hf g hg, sd_AP_A]
  · rw [h.2 g hg, sd_AP_A]
theorem sd_GI_n {G : Nat} {kd fs sn fe ou : Nat → Int32} {p : Nat} {lh : Int64} {lk : Nat → Int64} (h : sd_GI G kd fs sn fe ou p 5 lh lk) : sd_GI G kd fs sn fe ou (p + 1) 0 lh lk := by
  refine ⟨fun f hf g hg => ?_, fun g hg => ?_⟩
  · rw [h.1 f hf g hg, sd_AP_n]
  · rw [h.2 g hg, sd_AP_n]
section
variable {G N : Nat} {dv nt : Int32} {lf lh : Int64} {gr : Int32} {kd fs sn fe ou pt cy aw : Nat → Int32} {wo sa aa lk : Nat → Int64}
theorem sd_xs2 {post : SX → Prop} {w : Int64} {lk0 : Nat → Int64} (hG : G ≤ 14) (K : ∀ lh' lk', (∀ f, f < 2 * (7 + G) → ∀ g, g < 64 → sd_b (lk' f) g = (sd_b (lk0 f) g && (sd_b w f == sd_b w g))) → (∀ g, g < 64 → sd_b lh' g = (sd_b lh g && (sd_b w 63 == sd_b w g))) → post (nI G, dv, nt, lf, lh', gr, kd, fs, sn, fe, ou, wo, sa, aa, lk')) : ∀ d f, f + d = 2 * (7 + G) → ∀ lk, (∀ h, h < f → ∀ g, g < 64 → sd_b (lk h) g = (sd_b (lk0 h) g && (sd_b w h == sd_b w g))) → (∀ h, f ≤ h → lk h = lk0 h) → ∀ n, d < n → wX_split_2 post w (nI G) dv nt lf lh gr n (nI f) kd fs sn fe ou wo sa aa lk := by
  intro d
  induction d with
  | zero =>
    intro f hf lk h1 h2 n hn
    obtain ⟨m, rfl⟩ : ∃ m, n = m + 1 := ⟨n - 1, by omega⟩
    have e : f = 2 * (7 + G) := by omega
    subst e
    refine br_t (sd_xle (by omega) (by omega)) ?_
    rw [sd_pos]
    refine br_c (fun h => nm_e (K _ _ h1 fun g hg => ?_)) (fun h => nm_e (K _ _ h1 fun g hg => ?_))
    · rw [sd_and, sd_not _ hg, h]
      cases sd_b w g <;> rfl
    · rw [sd_and, ts_nf h]
      cases sd_b w g <;> rfl
  | succ d ih =>
    intro f hf lk h1 h2 n hn
    obtain ⟨m, rfl⟩ : ∃ m, n = m + 1 := ⟨n - 1, by omega⟩
    have hc : (nI f).toNatClampNeg = f := nI_clamp (by omega)
    have hin : vp_in (nI f) 42 := vp_in_nI (by omega) (by decide)
    have next : ∀ z : Int64, (∀ g, g < 64 → sd_b z g = (sd_b (lk0 f) g && (sd_b w f == sd_b w g))) → wX_split_2 post w (nI G) dv nt lf lh gr m (nI (f + 1)) kd fs sn fe ou wo sa aa (vp_updL lk f z) := by
      intro z hz
      refine ih (f + 1) (by omega) _ (fun h hh g hg => ?_) (fun h hh => ?_) m (by omega)
      · by_cases e : h = f
        · subst e; rw [pk_uLs]; exact hz g hg
        · rw [pk_uLn e]; exact h1 h (by omega) g hg
      · rw [pk_uLn (by omega)]; exact h2 h (by omega)
    refine br_f (sd_xge (by omega) hG) ⟨hin, ?_⟩
    rw [sd_bit _ (by omega), sd_l_1, hc, h2 f (Nat.le_refl _)]
    refine br_c (fun h => ⟨hin, nm_e (nm_r (nI_1 f) (next _ fun g hg => ?_))⟩) (fun h => ⟨hin, nm_e (nm_r (nI_1 f) (next _ fun g hg => ?_))⟩)
    · rw [sd_and, h]
      cases sd_b w g <;> rfl
    · rw [sd_and, sd_not _ hg, ts_nt h]
      cases sd_b w g <;> rfl
theorem sd_xsp {post : SX → Prop} {w : Int64} (hG : G ≤ 14) (K : ∀ lh' lk', (∀ f, f < 2 * (7 + G) → ∀ g, g < 64 → sd_b (lk' f) g = (sd_b (lk f) g && (sd_b w f == sd_b w g))) → (∀ g, g < 64 → sd_b lh' g = (sd_b lh g && (sd_b w 63 == sd_b w g))) → post (nI G, dv, nt, lf, lh', gr, kd, fs, sn, fe, ou, wo, sa, aa, lk')) : wpX_split post (nI G, dv, nt, lf, lh, gr, kd, fs, sn, fe, ou, wo, sa, aa, lk) w :=
  ⟨43, sd_xs2 hG K (2 * (7 + G)) 0 (by omega) lk (fun h hh => absurd hh (by omega)) (fun _ _ => rfl) 43 (by omega)⟩
theorem sd_x61 {post : SX → Prop} {J : Int32 → Int32 → Int32 → Int32 → Int64 → Int64 → Int32 → (Nat → Int32) → (Nat → Int32) → (Nat → Int32) → (Nat → Int32) → (Nat → Int32) → (Nat → Int64) → (Nat → Int64) → (Nat → Int64) → (Nat → Int64) → Prop} {p : Nat} (hG : G ≤ 14) (hA : sd_A kd fs sn fe ou p 0 aa 5) (K : ∀ lh' lk', sd_GI G kd fs sn fe ou (p + 1) 0 lh' lk' → J (nI (p + 1)) (nI G) dv nt lf lh' gr kd fs sn fe ou wo sa aa lk') : ∀ d b, b + d = 5 → ∀ lh lk, sd_GI G kd fs sn fe ou p b lh lk → ∀ n, d < n → wX_group_61 post J (nI p) n (nI b) (nI G) dv nt lf lh gr kd fs sn fe ou wo sa aa lk := by
  intro d
  induction d with
  | zero =>
    intro b hb lh lk hI n hn
    obtain ⟨m, rfl⟩ : ∃ m, n = m + 1 := ⟨n - 1, by omega⟩
    have e : b = 5 := by omega
    subst e
    exact br_t (by decide) (nm_r (nI_1 p) (K _ _ (sd_GI_n hI)))
  | succ d ih =>
    intro b hb lh lk hI n hn
    obtain ⟨m, rfl⟩ : ∃ m, n = m + 1 := ⟨n - 1, by omega⟩
    have hc : (nI b).toNatClampNeg = b := nI_clamp (by omega)
    refine br_f (nI_ge (b := 5) (by omega) (by omega)) ⟨vp_in_nI (by omega) (by decide), ?_⟩
    rw [hc]
    refine sd_xsp hG fun lh' lk' h1 h2 => nm_r (nI_1 b) ?_
    refine ih (b + 1) (by omega) lh' lk' ⟨fun f hf g hg => ?_, fun g hg => ?_⟩ m (by omega)
    · rw [h1 f hf g hg, Bool.and_eq_true, hI.1 f hf g hg, beq_iff_eq, hA b (by omega) f (by omega), hA b (by omega) g hg, sd_AP_s, and_assoc]
    · rw [h2 g hg, Bool.and_eq_true, hI.2 g hg, beq_iff_eq, hA b (by omega) 63 (by decide), hA b (by omega) g hg, sd_AP_s]
theorem sd_x46 {post : SX → Prop} (C : sd_C G fs sn fe ou) (K : ∀ lh' wo' sa' aa' lk', sd_GR G kd fs sn fe ou lh' lk' → post (nI G, dv, nt, lf, lh', gr, kd, fs, sn, fe, ou, wo', sa', aa', lk')) : ∀ d p, p + d = 128 → ∀ lh wo sa aa lk, sd_GI G kd fs sn fe ou p 0 lh lk → ∀ n, d < n → wX_group_46 post n (nI p) (nI G) dv nt lf lh gr kd fs sn fe ou wo sa aa lk := by
  have hG := C.1
  intro d
  induction d with
  | zero =>
    intro p hp lh wo sa aa lk hI n hn
    obtain ⟨m, rfl⟩ : ∃ m, n = m + 1 := ⟨n - 1, by omega⟩
    have e : p = 128 := by omega
    subst e
    exact br_t (by decide) (K _ _ _ _ _ (sd_GI_R hI))
  | succ d ih =>
    intro p hp lh wo sa aa lk hI n hn
    obtain ⟨m, rfl⟩ : ∃ m, n = m + 1 := ⟨n - 1, by omega⟩
    refine br_f (nI_ge (b := 128) (by omega) (by omega)) ?_
    refine sd_xrun (c := 0) C (by omega) (by decide) fun wo' sa' aa' hA => ?_
    refine Exists.intro 6 ?_
    refine sd_x61 hG hA (fun lh' lk' hI' => ?_) 5 0 (by omega) lh lk hI 6 (by omega)
    exact ih (p + 1) (by omega) lh' wo' sa' aa' lk' hI' m (by omega)
theorem sd_x22 {post : SX → Prop} (C : sd_C G fs sn fe ou) (K : ∀ lh' wo' sa' aa' lk', sd_GR G kd fs sn fe ou lh' lk' → post (nI G, dv, nt, lf, lh', gr, kd, fs, sn, fe, ou, wo', sa', aa', lk')) : ∀ d f, f + d = 42 → ∀ lk, (∀ h, h < f → ∀ g, g < 64 → sd_b (lk h) g = decide (g < 2 * (7 + G))) → ∀ n, d < n → wX_group_22 post (nI G) dv nt lf (-1) gr n (nI f) kd fs sn fe ou wo sa aa lk := by
  have hG := C.1
  intro d
  induction d with
  | zero =>
    intro f hf lk hI n hn
    obtain ⟨m, rfl⟩ : ∃ m, n = m + 1 := ⟨n - 1, by omega⟩
    have e : f = 42 := by omega
    subst e
    refine br_t (by decide) ⟨129, ?_⟩
    refine sd_x46 C K 128 0 (by omega) (-1) wo sa aa lk ⟨fun f hf g hg => ?_, fun g hg => ?_⟩ 129 (by omega)
    · rw [hI f (by omega) g hg, decide_eq_true_iff]
      exact ⟨fun h => ⟨h, sd_AP_0⟩, fun h => h.1⟩
    · exact ⟨fun _ => sd_AP_0, fun _ => sd_m1 g hg⟩
  | succ d ih =>
    intro f hf lk hI n hn
    obtain ⟨m, rfl⟩ : ∃ m, n = m + 1 := ⟨n - 1, by omega⟩
    have hc : (nI f).toNatClampNeg = f := nI_clamp (by omega)
    refine br_f (nI_ge (b := 42) (by omega) (by omega)) ?_
    refine sd_xfl hG fun q hq => ⟨vp_in_nI (by omega) (by decide), ?_⟩
    refine nm_r (e' := vp_updL lk f q) (by rw [hc]) (nm_r (nI_1 f) ?_)
    refine ih (f + 1) (by omega) _ (fun h hh g hg => ?_) m (by omega)
    by_cases e : h = f
    · subst e; rw [pk_uLs]; exact hq g hg
    · rw [pk_uLn e]; exact hI h (by omega) g hg
theorem sd_xgr {post : SX → Prop} (C : sd_C G fs sn fe ou) (hg : ¬ gr = 0 → sd_GR G kd fs sn fe ou lh lk) (K : ∀ lh' gr' wo' sa' aa' lk', sd_GR G kd fs sn fe ou lh' lk' → post (nI G, dv, nt, lf, lh', gr', kd, fs, sn, fe, ou, wo', sa', aa', lk')) : wpX_group post (nI G, dv, nt, lf, lh, gr, kd, fs, sn, fe, ou, wo, sa, aa, lk) := by
  refine br_c (fun h => ⟨43, ?_⟩) (fun h => K lh gr wo sa aa lk (hg h))
  exact sd_x22 C (fun lh' wo' sa' aa' lk' hR => K lh' 1 wo' sa' aa' lk' hR) 42 0 (by omega) lk (fun h hh => absurd hh (by omega)) 43 (by omega)
theorem sd_xhi {post : Int32 → SX → Prop} {P : Nat → Bool} (C : sd_C G fs sn fe ou) (hg : ¬ gr = 0 → sd_GR G kd fs sn fe ou lh lk) (hP : ∀ f, f < 2 * (7 + G) → (P f = true ↔ sd_AL kd fs sn fe ou f 63)) (K : ∀ lh' gr' wo' sa' aa' lk', sd_GR G kd fs sn fe ou lh' lk' → post (nI (sd_cn P (2 * (7 + G)))) (nI G, dv, nt, lf, lh', gr', kd, fs, sn, fe, ou, wo', sa', aa', lk')) : wpX_hidden post (nI G, dv, nt, lf, lh, gr, kd, fs, sn, fe, ou, wo, sa, aa, lk) := by
  have hG := C.1
  unfold wpX_hidden
  refine sd_xgr C hg fun lh' gr' wo' sa' aa' lk' hR => ?_
  refine sd_xfl hG fun q hq => ?_
  refine sd_xon hG hq (fun f hf => ?_) (K lh' gr' wo' sa' aa' lk' hR)
  have a := hR.2 f (by omega)
  have b := hP f hf
  by_cases z : sd_AL kd fs sn fe ou f 63
  · rw [a.mpr (sd_AL_s z), b.mpr z]
  · rw [ts_nt (fun y => z (sd_AL_s (a.mp y))), ts_nt (fun y => z (b.mp y))]
/-- lowest of like[f] -/
theorem sd_xlo {post : Int32 → Prop} {f e : Nat} (hG : G ≤ 14) (hR : sd_GR G kd fs sn fe ou lh lk) (hf : f < 2 * (7 + G)) (he : sd_LE kd fs sn fe ou e f) (K : post (nI e)) : wpX_lowest post (lk f) := by
  have h1 := he.1
  refine sd_lowest (e := e) (by omega) ((hR.1 f hf e (by omega)).mpr ⟨by omega, sd_AL_s he.2.1⟩) (fun j hj => ts_nt fun z => ?_) K
  exact he.2.2 j hj (sd_AL_s ((hR.1 f hf j (by omega)).mp z).2)
theorem sd_xw9 {post : Int32 → SX → Prop} {P : Nat → Bool} {w : Int64} (hG : G ≤ 14) (hR : sd_GR G kd fs sn fe ou lh lk) (hP : ∀ f, f < 2 * (7 + G) → (P f = true ↔ (sd_LE kd fs sn fe ou f f ∧ ∃ g, g < 2 * (7 + G) ∧ sd_AL kd fs sn fe ou f g ∧ sd_b w g = true))) (K : post (nI (sd_cn P (2 * (7 + G)))) (nI G, dv, nt, lf, lh, gr, kd, fs, sn, fe, ou, wo, sa, aa, lk)) : ∀ d f, f + d = 2 * (7 + G) → ∀ n, d < n → wX_groupsWith_9 post w (nI G) dv nt lf lh gr kd fs sn fe ou wo sa aa lk n (nI (sd_cn P f)) (nI f) := by
  intro d
  induction d with
  | zero =>
    intro f hf n hn
    obtain ⟨m, rfl⟩ : ∃ m, n = m + 1 := ⟨n - 1, by omega⟩
    have e : f = 2 * (7 + G) := by omega
    subst e
    exact br_t (sd_xle (by omega) (by omega)) K
  | succ d ih =>
    intro f hf n hn
    obtain ⟨m, rfl⟩ : ∃ m, n = m + 1 := ⟨n - 1, by omega⟩
    have hc : (nI f).toNatClampNeg = f := nI_clamp (by omega)
    have hin : vp_in (nI f) 42 := vp_in_nI (by omega) (by decide)
    have t := ih (f + 1) (by omega) m (by omega)
    obtain ⟨x, hx⟩ := sd_LE_ex kd fs sn fe ou f
    have hxf := hx.1
    refine br_f (sd_xge (by omega) hG) ⟨hin, ?_⟩
    rw [hc]
    refine sd_xlo hG hR (by omega) hx ?_
    by_cases h : x = f
    · subst h
      refine br_t rfl ⟨hin, br_c (fun z => ?_) (fun z => ?_)⟩
      · have e := sd_cn_f (P := P) (n := x) (ts_nt fun y => ?_)
        · rw [e] at t
          exact nm_r (nI_1 x) t
        · obtain ⟨g, hg, a1, a2⟩ := ((hP x (by omega)).mp y).2
          have q : sd_b (lk x &&& w) g = true := by
            rw [sd_and, (hR.1 x (by omega) g (by omega)).mpr ⟨hg, a1⟩, a2]
            rfl
          rw [z, sd_0] at q
          exact absurd q (by decide)
      · obtain ⟨g, hg, q⟩ := sd_ne0 z
        rw [sd_and, Bool.and_eq_true] at q
        have a := (hR.1 x (by omega) g hg).mp q.1
        have e := sd_cn_t ((hP x (by omega)).mpr ⟨hx, g, a.1, a.2, q.2⟩)
        exact nm_r (e' := nI (sd_cn P (x + 1))) (by rw [e, nI_1]) (nm_r (nI_1 x) t)
    · have e := sd_cn_f (ts_nt (fun z => h (sd_LE_u hx ((hP f (by omega)).mp z).1)))
      rw [e] at t
      exact br_f (by rw [nI_eq (by omega) (by omega)]; exact h) (nm_r (nI_1 f) t)
theorem sd_xgw {post : Int32 → SX → Prop} {P : Nat → Bool} {w : Int64} (C : sd_C G fs sn fe ou) (hg : ¬ gr = 0 → sd_GR G kd fs sn fe ou lh lk) (hP : ∀ f, f < 2 * (7 + G) → (P f = true ↔ (sd_LE kd fs sn fe ou f f ∧ ∃ g, g < 2 * (7 + G) ∧ sd_AL kd fs sn fe ou f g ∧ sd_b w g = true))) (K : ∀ lh' gr' wo' sa' aa' lk', sd_GR G kd fs sn fe ou lh' lk' → post (nI (sd_cn P (2 * (7 + G)))) (nI G, dv, nt, lf, lh', gr', kd, fs, sn, fe, ou, wo', sa', aa', lk')) : wpX_groupsWith post (nI G, dv, nt, lf, lh, gr, kd, fs, sn, fe, ou, wo, sa, aa, lk) w := by
  have hG := C.1
  unfold wpX_groupsWith
  refine sd_xgr C hg fun lh' gr' wo' sa' aa' lk' hR => ?_
  refine Exists.intro 43 ?_
  exact sd_xw9 hG hR hP (K lh' gr' wo' sa' aa' lk' hR) (2 * (7 + G)) 0 (by omega) 43 (by omega)
end
end
section
/-! ===== the checks of arguments on both sides; the relation ===== -/
theorem sd_d_b {P : Prop} : sd_d P = true ↔ P := by
  constructor
  · intro h
    apply Classical.byContradiction
    intro hn
    rw [sd_d_f hn] at h
    exact absurd h (by decide)
  · exact sd_d_t
section
variable {G N : Nat} {dv nt : Int32} {lf lh : Int64} {gr : Int32} {kd fs sn fe ou pt cy aw vl : Nat → Int32} {wo sa aa lk : Nat → Int64}
theorem sd_xil_t {post : Int32 → Prop} {j : Nat} (hG : G ≤ 14) (hj : j < 7 + G) (K : post 1) : wpX_isLine post (nI G, dv, nt, lf, lh, gr, kd, fs, sn, fe, ou, wo, sa, aa, lk) (nI j) :=
  br_f (nI_pos (by omega)) (br_f (by rw [sd_7]; exact nI_ge hj (by omega)) K)
theorem sd_xil_f {post : Int32 → Prop} {x : Int32} (hG : G ≤ 14) (hx : ¬ ∃ j, j < 7 + G ∧ x = nI j) (K : post 0) : wpX_isLine post (nI G, dv, nt, lf, lh, gr, kd, fs, sn, fe, ou, wo, sa, aa, lk) x := by
  refine br_c (fun _ => K) (fun h0 => br_c (fun _ => K) (fun h1 => ?_))
  obtain ⟨j, hj, rfl⟩ := nI_of h0
  rw [sd_7, nI_leI (by omega) hj] at h1
  exact absurd ⟨j, by omega, rfl⟩ hx
theorem sd_ybl_t {post : Int32 → Prop} {j : Nat} (hG : G ≤ 14) (hj : j < 7 + G) (K : post 0) : wpY_badLine post (nI G, dv, nt, kd, fs, sn, fe, ou, pt, cy, aw, vl) (nI j) := by
  refine br_f (nI_pos (by omega)) (sd_ylc ?_)
  exact br_f (nI_ge hj (by omega)) (br_t (nI_le (b := 20) (by omega) (by decide)) K)
theorem sd_ybl_f {post : Int32 → Prop} {x : Int32} (hG : G ≤ 14) (hx : ¬ ∃ j, j < 7 + G ∧ x = nI j) (K : post 1) : wpY_badLine post (nI G, dv, nt, kd, fs, sn, fe, ou, pt, cy, aw, vl) x := by
  refine br_c (fun _ => K) (fun h0 => sd_ylc ?_)
  refine br_c (fun _ => K) (fun h1 => ?_)
  obtain ⟨j, hj, rfl⟩ := nI_of h0
  rw [nI_leI (by omega) hj] at h1
  exact absurd ⟨j, by omega, rfl⟩ hx
theorem sd_xif_t {post : Int32 → Prop} {j : Nat} (hG : G ≤ 14) (hj : j < 2 * (7 + G)) (K : post 1) : wpX_isFault post (nI G, dv, nt, lf, lh, gr, kd, fs, sn, fe, ou, wo, sa, aa, lk) (nI j) :=
  br_f (nI_pos (by omega)) (br_f (sd_xge hj hG) K)
theorem sd_xif_f {post : Int32 → Prop} {x : Int32} (hG : G ≤ 14) (hx : ¬ ∃ j, j < 2 * (7 + G) ∧ x = nI j) (K : post 0) : wpX_isFault post (nI G, dv, nt, lf, lh, gr, kd, fs, sn, fe, ou, wo, sa, aa, lk) x := by
  refine br_c (fun _ => K) (fun h0 => br_c (fun _ => K) (fun h1 => ?_))
  obtain ⟨j, hj, rfl⟩ := nI_of h0
  rw [sd_7, sd_2m, nI_leI (by omega) hj] at h1
  exact absurd ⟨j, by omega, rfl⟩ hx
theorem sd_ybf_t {post : Int32 → Prop} {j : Nat} (hG : G ≤ 14) (hj : j < 2 * (7 + G)) (K : post 0) : wpY_badFault post (nI G, dv, nt, kd, fs, sn, fe, ou, pt, cy, aw, vl) (nI j) := by
  refine br_f (nI_pos (by omega)) (sd_ylc ?_)
  exact br_t (by rw [sd_2m]; exact nI_lt hj (by omega)) K
theorem sd_ybf_f {post : Int32 → Prop} {x : Int32} (hG : G ≤ 14) (hx : ¬ ∃ j, j < 2 * (7 + G) ∧ x = nI j) (K : post 1) : wpY_badFault post (nI G, dv, nt, kd, fs, sn, fe, ou, pt, cy, aw, vl) x := by
  refine br_c (fun _ => K) (fun h0 => sd_ylc ?_)
  refine br_c (fun h1 => ?_) (fun _ => K)
  obtain ⟨j, hj, rfl⟩ := nI_of h0
  rw [sd_2m, nI_ltI hj (by omega)] at h1
  exact absurd ⟨j, by omega, rfl⟩ hx
theorem sd_xip_t {post : Int32 → Prop} {p : Nat} (hp : p < 128) (K : post 1) : wpX_isPattern post (nI p) :=
  br_f (nI_pos (by omega)) (br_f (nI_nlt (a := 127) (by omega) (by decide)) K)
theorem sd_xip_f {post : Int32 → Prop} {x : Int32} (hx : ¬ ∃ j, j < 128 ∧ x = nI j) (K : post 0) : wpX_isPattern post x := by
  refine br_c (fun _ => K) (fun h0 => br_c (fun _ => K) (fun h1 => ?_))
  obtain ⟨j, hj, rfl⟩ := nI_of h0
  have h2 : ¬ nI 127 < nI j := h1
  rw [nI_ltI (by decide) hj] at h2
  exact absurd ⟨j, by omega, rfl⟩ hx
theorem sd_ybp_t {post : Int32 → Prop} {p : Nat} (hp : p < 128) (K : post 0) : wpY_badPattern post (nI G, dv, nt, kd, fs, sn, fe, ou, pt, cy, aw, vl) (nI p) :=
  br_f (nI_pos (by omega)) (br_t (nI_le (b := 127) (by omega) (by decide)) K)
theorem sd_ybp_f {post : Int32 → Prop} {x : Int32} (hx : ¬ ∃ j, j < 128 ∧ x = nI j) (K : post 1) : wpY_badPattern post (nI G, dv, nt, kd, fs, sn, fe, ou, pt, cy, aw, vl) x := by
  refine br_c (fun _ => K) (fun h0 => br_c (fun h1 => ?_) (fun _ => K))
  obtain ⟨j, hj, rfl⟩ := nI_of h0
  have h2 : nI j ≤ nI 127 := h1
  rw [nI_leI hj (by decide)] at h2
  exact absurd ⟨j, by omega, rfl⟩ hx
theorem sd_cyc {x : Int32} (h1 : ¬ x < 1) (h4 : x ≤ 4) : ∃ j, j < 4 ∧ x = nI (j + 1) := by
  have h0 : ¬ x < 0 := by
    rw [Int32.lt_iff_toInt_lt] at h1 ⊢
    rw [show (1 : Int32).toInt = 1 from by decide] at h1
    rw [show (0 : Int32).toInt = 0 from by decide]
    omega
  obtain ⟨j, hj, rfl⟩ := nI_of h0
  have a1 : ¬ nI j < nI 1 := h1
  have a4 : nI j ≤ nI 4 := h4
  rw [nI_ltI hj (by decide)] at a1
  rw [nI_leI hj (by decide)] at a4
  exact ⟨j - 1, by omega, congrArg nI (by omega)⟩
theorem sd_xic_t {post : Int32 → Prop} {c : Nat} (hc : c < 4) (K : post 1) : wpX_isCycles post (nI (c + 1)) :=
  br_f (nI_nlt (b := 1) (by omega) (by omega)) (br_f (nI_nlt (a := 4) (by omega) (by decide)) K)
theorem sd_xic_f {post : Int32 → Prop} {x : Int32} (hx : ¬ ∃ j, j < 4 ∧ x = nI (j + 1)) (K : post 0) : wpX_isCycles post x :=
  br_c (fun _ => K) (fun h0 => br_c (fun _ => K) (fun h1 => absurd (sd_cyc h0 (Int32.not_lt.mp h1)) hx))
theorem sd_ybc_t {post : Int32 → Prop} {c : Nat} (hc : c < 4) (K : post 0) : wpY_badCycles post (nI G, dv, nt, kd, fs, sn, fe, ou, pt, cy, aw, vl) (nI (c + 1)) :=
  br_f (nI_nlt (b := 1) (by omega) (by omega)) (br_t (nI_le (b := 4) (by omega) (by decide)) K)
theorem sd_ybc_f {post : Int32 → Prop} {x : Int32} (hx : ¬ ∃ j, j < 4 ∧ x = nI (j + 1)) (K : post 1) : wpY_badCycles post (nI G, dv, nt, kd, fs, sn, fe, ou, pt, cy, aw, vl) x :=
  br_c (fun _ => K) (fun h0 => br_c (fun h1 => absurd (sd_cyc h0 h1) hx) (fun _ => K))
end
/-! the relation -/
def sd_D (G : Nat) (dv : Int32) : Prop := ∃ d, (d < 2 * (7 + G) ∨ d = 63) ∧ dv = sd_fc d
def sd_F (G N : Nat) (dv : Int32) (lf lh : Int64) (gr : Int32) (kd fs sn fe ou : Nat → Int32) (lk : Nat → Int64) (pt cy aw : Nat → Int32) : Prop := sd_C G fs sn fe ou ∧ N ≤ 20 ∧ sd_D G dv ∧ sd_O pt cy N ∧ (∀ f, (f < 2 * (7 + G) ∨ f = 63) → (sd_b lf f = true ↔ sd_EX kd fs sn fe ou pt cy aw f N)) ∧ (¬ gr = 0 → sd_GR G kd fs sn fe ou lh lk)
/-- the relation: the same circuit, device and number of observations; left holds what explains them, like (if grouped) who is alike -/
def i_Rel (_ : Nat) (u : SX) (v : SY) : Prop := ∃ (G N : Nat) (dv : Int32) (lf lh : Int64) (gr : Int32) (kd fs sn fe ou : Nat → Int32) (wo sa aa lk : Nat → Int64) (pt cy aw vl : Nat → Int32), sd_F G N dv lf lh gr kd fs sn fe ou lk pt cy aw ∧ u = (nI G, dv, nI N, lf, lh, gr, kd, fs, sn, fe, ou, wo, sa, aa, lk) ∧ v = (nI G, dv, nI N, kd, fs, sn, fe, ou, pt, cy, aw, vl)
theorem sd_in {k G N : Nat} {dv : Int32} {lf lh : Int64} {gr : Int32} {kd fs sn fe ou : Nat → Int32} {wo sa aa lk : Nat → Int64} {pt cy aw vl : Nat → Int32} (F : sd_F G N dv lf lh gr kd fs sn fe ou lk pt cy aw) : i_Rel k (nI G, dv, nI N, lf, lh, gr, kd, fs, sn, fe, ou, wo, sa, aa, lk) (nI G, dv, nI N, kd, fs, sn, fe, ou, pt, cy, aw, vl) :=
  ⟨G, N, dv, lf, lh, gr, kd, fs, sn, fe, ou, wo, sa, aa, lk, pt, cy, aw, vl, F, rfl, rfl⟩
theorem sd_el {P : SX → SY → Prop} {k : Nat} {u : SX} {v : SY} (h : ∀ (G N : Nat) (dv : Int32) (lf lh : Int64) (gr : Int32) (kd fs sn fe ou : Nat → Int32) (wo sa aa lk : Nat → Int64) (pt cy aw vl : Nat → Int32), sd_F G N dv lf lh gr kd fs sn fe ou lk pt cy aw → P (nI G, dv, nI N, lf, lh, gr, kd, fs, sn, fe, ou, wo, sa, aa, lk) (nI G, dv, nI N, kd, fs, sn, fe, ou, pt, cy, aw, vl)) (I : i_Rel k u v) : P u v := by
  obtain ⟨G, N, dv, lf, lh, gr, kd, fs, sn, fe, ou, wo, sa, aa, lk, pt, cy, aw, vl, F, rfl, rfl⟩ := I
  exact h G N dv lf lh gr kd fs sn fe ou wo sa aa lk pt cy aw vl F
theorem i_up {k : Nat} {u : SX} {v : SY} (h : i_Rel k u v) : i_Rel (k + 4) u v := h
theorem sd_EX_0 {kd fs sn fe ou pt cy aw : Nat → Int32} {f : Nat} : sd_EX kd fs sn fe ou pt cy aw f 0 := fun i hi => absurd hi (by omega)
theorem sd_O_0 {pt cy : Nat → Int32} : sd_O pt cy 0 := fun i hi => absurd hi (by omega)
/-- nothing noted -/
theorem sd_Fn {G : Nat} {dv : Int32} {lh : Int64} {gr : Int32} {kd fs sn fe ou : Nat → Int32} {lk : Nat → Int64} {pt cy aw : Nat → Int32} (hG : G ≤ 14) (C : sd_C G fs sn fe ou) (D : sd_D G dv) (hg : ¬ gr = 0 → sd_GR G kd fs sn fe ou lh lk) : sd_F G 0 dv (-1) lh gr kd fs sn fe ou lk pt cy aw :=
  ⟨C, by omega, D, sd_O_0, fun f hf => ⟨fun _ => sd_EX_0, fun _ => sd_m1 f (by omega)⟩, hg⟩
/-- all dropped -/
theorem sd_F0 {G : Nat} {dv : Int32} {lh : Int64} {kd fs sn fe ou : Nat → Int32} {lk : Nat → Int64} {pt cy aw : Nat → Int32} (C : sd_C G fs sn fe ou) (D : sd_D G dv) : sd_F G 0 dv (-1) lh 0 kd fs sn fe ou lk pt cy aw :=
  sd_Fn C.1 C D (fun z => absurd rfl z)
end
section
/-! ===== constructors and the short methods ===== -/
def sd_fi : Nat → Nat → Int32
  | 0 => fun _ => 0
  | k + 1 => upd (sd_fi k) k (nI (4 + k))
theorem sd_fi3 : ∀ k, k < 3 → sd_fi 3 k = nI (4 + k) := by
  intro k hk
  rcases (show k = 0 ∨ k = 1 ∨ k = 2 by omega) with rfl | rfl | rfl <;> rfl
theorem sd_xi {post : SX → Prop} (K : post (0, -1, 0, -1, 0, 0, fun _ => 0, fun _ => 0, fun _ => 0, sd_fi 3, fun _ => 0, fun _ => 0, fun _ => 0, fun _ => 0, fun _ => 0)) : ∀ d k, k + d = 3 → ∀ n, d < n → wX_init_74 post 0 0 0 0 0 0 n (nI k) (fun _ => 0) (fun _ => 0) (fun _ => 0) (sd_fi k) (fun _ => 0) (fun _ => 0) (fun _ => 0) (fun _ => 0) (fun _ => 0) := by
  intro d
  induction d with
  | zero =>
    intro k hk n hn
    obtain ⟨m, rfl⟩ : ∃ m, n = m + 1 := ⟨n - 1, by omega⟩
    have e : k = 3 := by omega
    subst e
    exact br_t (by decide) K
  | succ d ih =>
    intro k hk n hn
    obtain ⟨m, rfl⟩ : ∃ m, n = m + 1 := ⟨n - 1, by omega⟩
    have hc : (nI k).toNatClampNeg = k := nI_clamp (by omega)
    have e4 : (4 : Int32) + nI k = nI (4 + k) := nI_add 4 k
    refine br_f (nI_ge (b := 3) (by omega) (by omega)) ⟨vp_in_nI (by omega) (by decide), ?_⟩
    exact nm_r (e' := sd_fi (k + 1)) (by rw [hc, e4]; rfl) (nm_r (nI_1 k) (ih (k + 1) (by omega) m (by omega)))
theorem sd_yi {post : SY → Prop} (K : post (0, -1, 0, fun _ => 0, fun _ => 0, fun _ => 0, sd_fi 3, fun _ => 0, fun _ => 0, fun _ => 0, fun _ => 0, fun _ => 0)) : ∀ d k, k + d = 3 → ∀ n, d < n → wY_init_81 post 0 (-1) 0 n (nI k) (fun _ => 0) (fun _ => 0) (fun _ => 0) (sd_fi k) (fun _ => 0) (fun _ => 0) (fun _ => 0) (fun _ => 0) (fun _ => 0) := by
  intro d
  induction d with
  | zero =>
    intro k hk n hn
    obtain ⟨m, rfl⟩ : ∃ m, n = m + 1 := ⟨n - 1, by omega⟩
    have e : k = 3 := by omega
    subst e
    exact br_t (by decide) K
  | succ d ih =>
    intro k hk n hn
    obtain ⟨m, rfl⟩ : ∃ m, n = m + 1 := ⟨n - 1, by omega⟩
    have hc : (nI k).toNatClampNeg = k := nI_clamp (by omega)
    have e4 : (4 : Int32) + nI k = nI (4 + k) := nI_add 4 k
    refine br_f (nI_ge (b := 3) (by omega) (by omega)) ⟨vp_in_nI (by omega) (by decide), ?_⟩
    exact nm_r (e' := sd_fi (k + 1)) (by rw [hc, e4]; rfl) (nm_r (nI_1 k) (ih (k + 1) (by omega) m (by omega)))
theorem sd_C0 : sd_C 0 (fun _ => 0) (fun _ => 0) (sd_fi 3) (fun _ => 0) :=
  ⟨by omega, fun g hg => absurd hg (by omega), fun g hg => absurd hg (by omega), fun k hk => ⟨4 + k, by omega, sd_fi3 k hk⟩, fun k hk => ⟨0, by omega, rfl⟩⟩
theorem sd_Dm (G : Nat) : sd_D G (-1) := ⟨63, Or.inr rfl, sd_fc_h⟩
theorem i_vc0 : wpX_init (fun u => wpY_init (fun v => i_Rel 0 u v)) := by
  refine ⟨4, sd_xi ?_ 3 0 (by omega) 4 (by omega)⟩
  refine ⟨4, sd_yi ?_ 3 0 (by omega) 4 (by omega)⟩
  exact sd_in (G := 0) (N := 0) (sd_F0 sd_C0 (sd_Dm 0))
section
variable {k G N : Nat} {dv nt : Int32} {lf lh : Int64} {gr : Int32} {kd fs sn fe ou pt cy aw vl : Nat → Int32} {wo sa aa lk : Nat → Int64}
theorem sd_CG {x y z : Int32} {i j : Nat} (C : sd_C G fs sn fe ou) (hG : G < 14) (hi : i < 7 + G) (hj : j < 7 + G) : sd_C (G + 1) (upd fs G (nI i)) (upd sn G (nI j)) fe ou := by
  refine ⟨by omega, fun g hg => ?_, fun g hg => ?_, fun q hq => ?_, fun q hq => ?_⟩
  · by_cases e : g = G
    · subst e; exact ⟨i, hi, pk_us⟩
    · rw [pk_un e]; exact C.2.1 g (by omega)
  · by_cases e : g = G
    · subst e; exact ⟨j, hj, pk_us⟩
    · rw [pk_un e]; exact C.2.2.1 g (by omega)
  · obtain ⟨a, ha, ea⟩ := C.2.2.2.1 q hq
    exact ⟨a, by omega, ea⟩
  · obtain ⟨a, ha, ea⟩ := C.2.2.2.2 q hq
    exact ⟨a, by omega, ea⟩
theorem sd_DG (D : sd_D G dv) : sd_D (G + 1) dv := by
  obtain ⟨d, hd, e⟩ := D
  exact ⟨d, by omega, e⟩
theorem sd_g85 {v1 v2 v3 z : Int32} {i j : Nat} (C : sd_C G fs sn fe ou) (D : sd_D G dv) (hG : G < 14) (hi : i < 7 + G) (hj : j < 7 + G) (ez : z = nI j) (KY : ∀ Post : Int32 → SY → Prop, wY_gate_83 Post (nI G) z (nI G) (nI G) dv nt (upd kd G v1) (upd fs G (nI i)) sn fe ou pt cy aw vl → wpY_gate Post (nI G, dv, nt, kd, fs, sn, fe, ou, pt, cy, aw, vl) v1 v2 v3) : wX_gate_85 (fun r u' => wpY_gate (fun r' v' => r' = r ∧ i_Rel (k + 4) u' v') (nI G, dv, nt, kd, fs, sn, fe, ou, pt, cy, aw, vl) v1 v2 v3) z (nI G) (nI G) dv nt lf lh gr (upd kd G v1) (upd fs G (nI i)) sn fe ou wo sa aa lk := by
  have hc : (nI G).toNatClampNeg = G := nI_clamp (by omega)
  have hin : vp_in (nI G) 14 := vp_in_nI hG (by decide)
  refine ⟨hin, nm_r (e' := upd sn G z) (by rw [hc]) (nm_r (nI_1 G) ?_)⟩
  show wpY_gate (fun r' v' => r' = (7 + nI (G + 1)) - 1 ∧ i_Rel (k + 4) (nI (G + 1), dv, 0, -1, lh, 0, upd kd G v1, upd fs G (nI i), upd sn G z, fe, ou, wo, sa, aa, lk) v') (nI G, dv, nt, kd, fs, sn, fe, ou, pt, cy, aw, vl) v1 v2 v3
  refine KY _ ?_
  refine ⟨hin, nm_r (e' := upd sn G z) (by rw [hc]) (nm_r (nI_1 G) ⟨?_, ?_⟩)⟩
  · rw [sd_7, sd_7]
    exact (nI_pred (7 + G)).symm
  · subst ez
    exact sd_in (N := 0) (sd_F0 (sd_CG (x := v1) (y := v2) (z := v3) C hG hi hj) (sd_DG D))
theorem sd_g35 {v1 v3 : Int32} {i : Nat} (F : sd_F G N dv lf lh gr kd fs sn fe ou lk pt cy aw) (hi : i < 7 + G) (hb : v1 = 5 ∨ ∃ j, j < 7 + G ∧ v3 = nI j) (KY : ∀ Post : Int32 → SY → Prop, wY_gate_35 Post v1 (nI i) v3 (nI G) dv (nI N) kd fs sn fe ou pt cy aw vl → wpY_gate Post (nI G, dv, nI N, kd, fs, sn, fe, ou, pt, cy, aw, vl) v1 (nI i) v3) : wX_gate_35 (fun r u' => wpY_gate (fun r' v' => r' = r ∧ i_Rel (k + 4) u' v') (nI G, dv, nI N, kd, fs, sn, fe, ou, pt, cy, aw, vl) v1 (nI i) v3) v1 (nI i) v3 (nI G) dv (nI N) lf lh gr kd fs sn fe ou wo sa aa lk := by
  have hG := F.1.1
  by_cases e : G = 14
  · subst e
    exact br_t rfl (KY _ (br_f (by decide) ⟨rfl, sd_in F⟩))
  · have hc : (nI G).toNatClampNeg = G := nI_clamp (by omega)
    have hin : vp_in (nI G) 14 := vp_in_nI (by omega) (by decide)
    have hn : ¬ nI G = 14 := fun z => e ((nI_eq (b := 14) (by omega) (by decide)).mp z)
    have hl : nI G < 14 := nI_lt (b := 14) (by omega) (by decide)
    refine br_f hn ⟨hin, nm_r (e' := upd kd G v1) (by rw [hc]) ⟨hin, nm_r (e' := upd fs G (nI i)) (by rw [hc]) (br_c (fun e5 => ?_) (fun n5 => ?_))⟩⟩
    · refine sd_g85 F.1 F.2.2.1 (by omega) hi hi rfl fun Post h => KY Post ?_
      exact br_t hl ⟨hin, nm_r (e' := upd kd G v1) (by rw [hc]) ⟨hin, nm_r (e' := upd fs G (nI i)) (by rw [hc]) (br_t e5 h)⟩⟩
    · obtain ⟨j, hj, ej⟩ : ∃ j, j < 7 + G ∧ v3 = nI j := hb.resolve_left n5
      refine sd_g85 F.1 F.2.2.1 (by omega) hi hj ej fun Post h => KY Post ?_
      exact br_t hl ⟨hin, nm_r (e' := upd kd G v1) (by rw [hc]) ⟨hin, nm_r (e' := upd fs G (nI i)) (by rw [hc]) (br_f n5 h)⟩⟩
theorem sd_CF {q j : Nat} (C : sd_C G fs sn fe ou) (hj : j < 7 + G) : sd_C G fs sn (upd fe q (nI j)) ou := by
  refine ⟨C.1, C.2.1, C.2.2.1, fun a ha => ?_, C.2.2.2.2⟩
  by_cases e : a = q
  · subst e; exact ⟨j, hj, pk_us⟩
  · rw [pk_un e]; exact C.2.2.2.1 a ha
theorem sd_CO {q j : Nat} (C : sd_C G fs sn fe ou) (hj : j < 7 + G) : sd_C G fs sn fe (upd ou q (nI j)) := by
  refine ⟨C.1, C.2.1, C.2.2.1, C.2.2.2.1, fun a ha => ?_⟩
  by_cases e : a = q
  · subst e; exact ⟨j, hj, pk_us⟩
  · rw [pk_un e]; exact C.2.2.2.2 a ha
end
theorem i_vc_gate {k : Nat} {u : SX} {v : SY} (I : i_Rel k u v) (hk : k + 4 ≤ 2048) (v1 : Int32) (v2 : Int32) (v3 : Int32) : wpX_gate (fun r u' => wpY_gate (fun r' v' => r' = r ∧ i_Rel (k + 4) u' v') v v1 v2 v3) u v1 v2 v3 := by
  refine sd_el (P := fun u v => wpX_gate (fun r u' => wpY_gate (fun r' v' => r' = r ∧ i_Rel (k + 4) u' v') v v1 v2 v3) u v1 v2 v3) ?_ I
  intro G N dv lf lh gr kd fs sn fe ou wo sa aa lk pt cy aw vl F
  have hG := F.1.1
  by_cases h0 : v1 < 0
  · exact br_t h0 (br_t h0 ⟨rfl, sd_in F⟩)
  by_cases h5 : v1 ≤ 5
  · by_cases ha : ∃ j, j < 7 + G ∧ v2 = nI j
    · obtain ⟨i, hi, rfl⟩ := ha
      refine br_f h0 (br_t h5 (sd_xil_t hG hi (br_f (by decide) ?_)))
      by_cases e5 : v1 = 5
      · refine br_t e5 (sd_g35 F hi (Or.inl e5) fun Post h => ?_)
        exact br_f h0 (br_t h5 (sd_ybl_t hG hi (br_t rfl (br_t e5 h))))
      · by_cases hb : ∃ j, j < 7 + G ∧ v3 = nI j
        · obtain ⟨j, hj, rfl⟩ := hb
          refine br_f e5 (sd_xil_t hG hj (br_f (by decide) (sd_g35 F hi (Or.inr ⟨j, hj, rfl⟩) fun Post h => ?_)))
          exact br_f h0 (br_t h5 (sd_ybl_t hG hi (br_t rfl (br_f e5 (sd_ybl_t hG hj (br_t rfl h))))))
        · refine br_f e5 (sd_xil_f hG hb (br_t rfl ?_))
          exact br_f h0 (br_t h5 (sd_ybl_t hG hi (br_t rfl (br_f e5 (sd_ybl_f hG hb (br_f (by decide) ⟨rfl, sd_in F⟩))))))
    · refine br_f h0 (br_t h5 (sd_xil_f hG ha (br_t rfl ?_)))
      exact br_f h0 (br_t h5 (sd_ybl_f hG ha (br_f (by decide) ⟨rfl, sd_in F⟩)))
  · exact br_f h0 (br_f h5 (br_f h0 (br_f h5 ⟨rfl, sd_in F⟩)))
theorem i_vc_feed {k : Nat} {u : SX} {v : SY} (I : i_Rel k u v) (hk : k + 4 ≤ 2048) (v1 : Int32) (v2 : Int32) : wpX_feed (fun r u' => wpY_feed (fun r' v' => r' = r ∧ i_Rel (k + 4) u' v') v v1 v2) u v1 v2 := by
  refine sd_el (P := fun u v => wpX_feed (fun r u' => wpY_feed (fun r' v' => r' = r ∧ i_Rel (k + 4) u' v') v v1 v2) u v1 v2) ?_ I
  intro G N dv lf lh gr kd fs sn fe ou wo sa aa lk pt cy aw vl F
  have hG := F.1.1
  by_cases h0 : v1 < 0
  · exact br_t h0 (br_t h0 ⟨rfl, sd_in F⟩)
  by_cases h2 : v1 ≤ 2
  · obtain ⟨q, hq, rfl⟩ := nI_of2 (M := 2) (n := 2) (by decide) h0 h2
    by_cases ha : ∃ j, j < 7 + G ∧ v2 = nI j
    · obtain ⟨j, hj, rfl⟩ := ha
      have hc : (nI q).toNatClampNeg = q := nI_clamp (by omega)
      have hin : vp_in (nI q) 3 := vp_in_nI (by omega) (by decide)
      refine br_f h0 (br_t h2 (sd_xil_t hG hj (br_f (by decide) ⟨hin, nm_r (e' := fe q) (by rw [hc]) ⟨hin, nm_r (e' := upd fe q (nI j)) (by rw [hc]) ?_⟩⟩)))
      refine br_f h0 (br_t h2 (sd_ybl_t hG hj (br_t rfl ⟨hin, nm_r (e' := fe q) (by rw [hc]) ⟨hin, nm_r (e' := upd fe q (nI j)) (by rw [hc]) ⟨rfl, ?_⟩⟩⟩)))
      exact sd_in (N := 0) (sd_F0 (sd_CF F.1 hj) F.2.2.1)
    · refine br_f h0 (br_t h2 (sd_xil_f hG ha (br_t rfl ?_)))
      exact br_f h0 (br_t h2 (sd_ybl_f hG ha (br_f (by decide) ⟨rfl, sd_in F⟩)))
  · exact br_f h0 (br_f h2 (br_f h0 (br_f h2 ⟨rfl, sd_in F⟩)))
theorem sd_out11 {k G N q : Nat} {dv : Int32} {lf lh : Int64} {gr : Int32} {kd fs sn fe ou : Nat → Int32} {wo sa aa lk : Nat → Int64} {pt cy aw vl : Nat → Int32} {v2 : Int32} (hq : q < 2) (F : sd_F G N dv lf lh gr kd fs sn fe ou lk pt cy aw) : wX_output_11 (fun r u' => wpY_output (fun r' v' => r' = r ∧ i_Rel (k + 4) u' v') (nI G, dv, nI N, kd, fs, sn, fe, ou, pt, cy, aw, vl) (nI q) v2) (nI q) v2 (nI G) dv (nI N) lf lh gr kd fs sn fe ou wo sa aa lk := by
  have hG := F.1.1
  have h0 : ¬ nI q < 0 := nI_pos (by omega)
  have h1 : nI q ≤ 1 := nI_le (b := 1) (by omega) (by decide)
  have hc : (nI q).toNatClampNeg = q := nI_clamp (by omega)
  have hin : vp_in (nI q) 2 := vp_in_nI (by omega) (by decide)
  unfold wX_output_11
  by_cases ha : ∃ j, j < 7 + G ∧ v2 = nI j
  · obtain ⟨j, hj, rfl⟩ := ha
    refine sd_xil_t hG hj (br_f (by decide) ⟨hin, nm_r (e' := ou q) (by rw [hc]) ⟨hin, nm_r (e' := upd ou q (nI j)) (by rw [hc]) ?_⟩⟩)
    refine br_f h0 (br_t h1 (sd_ybl_t hG hj (br_t rfl ⟨hin, nm_r (e' := ou q) (by rw [hc]) ⟨hin, nm_r (e' := upd ou q (nI j)) (by rw [hc]) ⟨rfl, ?_⟩⟩⟩)))
    exact sd_in (N := 0) (sd_F0 (sd_CO F.1 hj) F.2.2.1)
  · refine sd_xil_f hG ha (br_t rfl ?_)
    exact br_f h0 (br_t h1 (sd_ybl_f hG ha (br_f (by decide) ⟨rfl, sd_in F⟩)))
theorem i_vc_output {k : Nat} {u : SX} {v : SY} (I : i_Rel k u v) (hk : k + 4 ≤ 2048) (v1 : Int32) (v2 : Int32) : wpX_output (fun r u' => wpY_output (fun r' v' => r' = r ∧ i_Rel (k + 4) u' v') v v1 v2) u v1 v2 := by
  refine sd_el (P := fun u v => wpX_output (fun r u' => wpY_output (fun r' v' => r' = r ∧ i_Rel (k + 4) u' v') v v1 v2) u v1 v2) ?_ I
  intro G N dv lf lh gr kd fs sn fe ou wo sa aa lk pt cy aw vl F
  by_cases e0 : v1 = nI 0
  · subst e0
    exact br_t rfl (sd_out11 (by omega) F)
  by_cases e1 : v1 = nI 1
  · subst e1
    exact br_f e0 (br_t rfl (sd_out11 (by omega) F))
  refine br_f e0 (br_f e1 (br_c (fun _ => ⟨rfl, sd_in F⟩) (fun h0 => br_c (fun h1 => ?_) (fun _ => ⟨rfl, sd_in F⟩))))
  obtain ⟨q, hq, rfl⟩ := nI_of2 (M := 1) (n := 1) (by decide) h0 h1
  rcases (show q = 0 ∨ q = 1 by omega) with rfl | rfl
  · exact absurd rfl e0
  · exact absurd rfl e1
theorem i_vc_lines {k : Nat} {u : SX} {v : SY} (I : i_Rel k u v) (hk : k + 4 ≤ 2048) : wpX_lines (fun r => wpY_lines (fun r' => r' = r ∧ i_Rel (k + 4) u v) v) u := by
  refine sd_el (P := fun u v => wpX_lines (fun r => wpY_lines (fun r' => r' = r ∧ i_Rel (k + 4) u v) v) u) ?_ I
  intro G N dv lf lh gr kd fs sn fe ou wo sa aa lk pt cy aw vl F
  exact ⟨rfl, sd_in F⟩
theorem i_vc_inject {k : Nat} {u : SX} {v : SY} (I : i_Rel k u v) (hk : k + 4 ≤ 2048) (v1 : Int32) : wpX_inject (fun r u' => wpY_inject (fun r' v' => r' = r ∧ i_Rel (k + 4) u' v') v v1) u v1 := by
  refine sd_el (P := fun u v => wpX_inject (fun r u' => wpY_inject (fun r' v' => r' = r ∧ i_Rel (k + 4) u' v') v v1) u v1) ?_ I
  intro G N dv lf lh gr kd fs sn fe ou wo sa aa lk pt cy aw vl F
  have hG := F.1.1
  by_cases e : v1 = -1
  · subst e
    exact br_t rfl (br_t rfl ⟨rfl, sd_in (N := 0) (sd_F0 F.1 (sd_Dm G))⟩)
  by_cases ha : ∃ j, j < 2 * (7 + G) ∧ v1 = nI j
  · obtain ⟨j, hj, rfl⟩ := ha
    refine br_f e (sd_xif_t hG hj (br_f (by decide) ?_))
    refine br_f e (sd_ybf_t hG hj (br_t rfl ⟨rfl, ?_⟩))
    exact sd_in (N := 0) (sd_F0 F.1 ⟨j, Or.inl hj, sd_fc_n (by omega)⟩)
  · refine br_f e (sd_xif_f hG ha (br_t rfl ?_))
    exact br_f e (sd_ybf_f hG ha (br_f (by decide) ⟨rfl, sd_in F⟩))
theorem i_vc_forget {k : Nat} {u : SX} {v : SY} (I : i_Rel k u v) (hk : k + 4 ≤ 2048) : wpX_forget (fun r u' => wpY_forget (fun r' v' => r' = r ∧ i_Rel (k + 4) u' v') v) u := by
  refine sd_el (P := fun u v => wpX_forget (fun r u' => wpY_forget (fun r' v' => r' = r ∧ i_Rel (k + 4) u' v') v) u) ?_ I
  intro G N dv lf lh gr kd fs sn fe ou wo sa aa lk pt cy aw vl F
  exact ⟨rfl, sd_in (N := 0) (sd_Fn F.1.1 F.1 F.2.2.1 F.2.2.2.2.2)⟩
theorem i_vc_observations {k : Nat} {u : SX} {v : SY} (I : i_Rel k u v) (hk : k + 4 ≤ 2048) : wpX_observations (fun r => wpY_observations (fun r' => r' = r ∧ i_Rel (k + 4) u v) v) u := by
  refine sd_el (P := fun u v => wpX_observations (fun r => wpY_observations (fun r' => r' = r ∧ i_Rel (k + 4) u v) v) u) ?_ I
  intro G N dv lf lh gr kd fs sn fe ou wo sa aa lk pt cy aw vl F
  exact ⟨rfl, sd_in F⟩
end
section
/-! ===== observe, responses, and all that counts ===== -/
theorem sd_EX_put {kd fs sn fe ou pt cy aw : Nat → Int32} {f N p c : Nat} {r : Int32} (hp : p < 128) (hc : c < 4) : sd_EX kd fs sn fe ou (upd pt N (nI p)) (upd cy N (nI (c + 1))) (upd aw N r) f (N + 1) ↔ (sd_EX kd fs sn fe ou pt cy aw f N ∧ sd_rn kd fs sn fe ou f p (c + 1) = r) := by
  constructor
  · intro h
    refine ⟨fun i hi => ?_, ?_⟩
    · have t := h i (by omega)
      rw [pk_un (by omega), pk_un (by omega), pk_un (by omega)] at t
      exact t
    · have t := h N (by omega)
      rw [pk_us, pk_us, pk_us, nI_clamp (by omega), nI_clamp (by omega)] at t
      exact t
  · rintro ⟨h1, h2⟩ i hi
    by_cases e : i = N
    · subst e
      rw [pk_us, pk_us, pk_us, nI_clamp (by omega), nI_clamp (by omega)]
      exact h2
    · rw [pk_un e, pk_un e, pk_un e]
      exact h1 i (by omega)
theorem sd_O_put {pt cy : Nat → Int32} {N p c : Nat} (O : sd_O pt cy N) (hp : p < 128) (hc : c < 4) : sd_O (upd pt N (nI p)) (upd cy N (nI (c + 1))) (N + 1) := by
  intro i hi
  by_cases e : i = N
  · subst e
    exact ⟨p, c, hp, hc, pk_us, pk_us⟩
  · rw [pk_un e, pk_un e]
    exact O i (by omega)
section
variable {k G N : Nat} {dv nt : Int32} {lf lh : Int64} {gr : Int32} {kd fs sn fe ou pt cy aw vl : Nat → Int32} {wo sa aa lk : Nat → Int64}
theorem sd_xo64 {post : Int32 → SX → Prop} {lf0 : Int64} {a : Nat → Bool} {p c : Nat} (hN : N ≤ 20) (hA : sd_A kd fs sn fe ou p c aa 5) (K : ∀ lf', (∀ f, f < 64 → (sd_b lf' f = true ↔ (sd_b lf0 f = true ∧ ∀ b, b < 5 → sd_an kd fs sn fe ou f p c b = a b))) → post (sd_pk a) (nI G, dv, nI (N + 1), lf', lh, gr, kd, fs, sn, fe, ou, wo, sa, aa, lk)) : ∀ d b, b + d = 5 → ∀ lf, (∀ f, f < 64 → (sd_b lf f = true ↔ (sd_b lf0 f = true ∧ ∀ b', b' < b → sd_an kd fs sn fe ou f p c b' = a b'))) → ∀ n, d < n → wX_observe_64 post (sd_pk a) (nI G) dv (nI N) lh gr kd fs sn fe ou wo sa aa lk n (nI b) lf := by
  intro d
  induction d with
  | zero =>
    intro b hb lf hI n hn
    obtain ⟨m, rfl⟩ : ∃ m, n = m + 1 := ⟨n - 1, by omega⟩
    have e : b = 5 := by omega
    subst e
    exact br_t (by decide) (nm_r (nI_1 N) (K lf hI))
  | succ d ih =>
    intro b hb lf hI n hn
    obtain ⟨m, rfl⟩ : ∃ m, n = m + 1 := ⟨n - 1, by omega⟩
    have hc : (nI b).toNatClampNeg = b := nI_clamp (by omega)
    have hin : vp_in (nI b) 5 := vp_in_nI (by omega) (by decide)
    have next : ∀ y : Int64, (∀ f, f < 64 → sd_b y f = (sd_b lf f && (sd_an kd fs sn fe ou f p c b == a b))) → wX_observe_64 post (sd_pk a) (nI G) dv (nI N) lh gr kd fs sn fe ou wo sa aa lk m (nI (b + 1)) y := by
      intro y hy
      refine ih (b + 1) (by omega) y (fun f hf => ?_) m (by omega)
      rw [hy f hf, Bool.and_eq_true, hI f hf, beq_iff_eq]
      constructor
      · rintro ⟨⟨h1, h2⟩, h3⟩
        refine ⟨h1, fun b' hb' => ?_⟩
        by_cases e : b' = b
        · subst e; exact h3
        · exact h2 b' (by omega)
      · rintro ⟨h1, h2⟩
        exact ⟨⟨h1, fun b' hb' => h2 b' (by omega)⟩, h2 b (by omega)⟩
    refine br_f (nI_ge (b := 5) (by omega) (by omega)) ?_
    rw [sd_pkb a (by omega), sd_i_1, hc]
    refine br_c (fun h => ⟨hin, nm_e (nm_r (nI_1 b) (next _ fun f hf => ?_))⟩) (fun h => ⟨hin, nm_e (nm_r (nI_1 b) (next _ fun f hf => ?_))⟩)
    · rw [sd_and, hA b (by omega) f hf, h]
      cases sd_an kd fs sn fe ou f p c b <;> rfl
    · rw [sd_and, sd_not _ hf, hA b (by omega) f hf, ts_nt h]
      cases sd_an kd fs sn fe ou f p c b <;> rfl
theorem sd_xo53 {post : Int32 → SX → Prop} {d p c : Nat} (hd : d < 64) (hN : N ≤ 20) (hA : sd_A kd fs sn fe ou p c aa 5) (K : ∀ lf', (∀ f, f < 64 → (sd_b lf' f = true ↔ (sd_b lf f = true ∧ sd_rn kd fs sn fe ou f p (c + 1) = sd_rn kd fs sn fe ou d p (c + 1)))) → post (sd_rn kd fs sn fe ou d p (c + 1)) (nI G, dv, nI (N + 1), lf', lh, gr, kd, fs, sn, fe, ou, wo, sa, aa, lk)) : wX_observe_53 post (nI d) (nI G) dv (nI N) lf lh gr kd fs sn fe ou wo sa aa lk := by
  unfold wX_observe_53
  refine sd_xans hd hA ?_
  refine Exists.intro 6 ?_
  refine sd_xo64 (a := sd_an kd fs sn fe ou d p c) hN hA (fun lf' h => K lf' fun f hf => ?_) 5 0 (by omega) lf (fun f _ => ⟨fun h => ⟨h, fun b' hb' => absurd hb' (by omega)⟩, fun h => h.1⟩) 6 (by omega)
  rw [h f hf, sd_rn_eq]
end
theorem i_vc_observe {k : Nat} {u : SX} {v : SY} (I : i_Rel k u v) (hk : k + 4 ≤ 2048) (v1 : Int32) (v2 : Int32) : wpX_observe (fun r u' => wpY_observe (fun r' v' => r' = r ∧ i_Rel (k + 4) u' v') v v1 v2) u v1 v2 := by
  refine sd_el (P := fun u v => wpX_observe (fun r u' => wpY_observe (fun r' v' => r' = r ∧ i_Rel (k + 4) u' v') v v1 v2) u v1 v2) ?_ I
  intro G N dv lf lh gr kd fs sn fe ou wo sa aa lk pt cy aw vl F
  obtain ⟨C, hN, D, O, hL, hg⟩ := id F
  have hG := C.1
  unfold wpX_observe wpY_observe
  dsimp only
  by_cases hp : ∃ j, j < 128 ∧ v1 = nI j
  · obtain ⟨p, hp, rfl⟩ := hp
    refine sd_xip_t hp (br_f (by decide) ?_)
    by_cases hc : ∃ j, j < 4 ∧ v2 = nI (j + 1)
    · obtain ⟨c, hc, rfl⟩ := hc
      refine sd_xic_t hc (br_f (by decide) ?_)
      by_cases hN2 : N = 20
      · subst hN2
        refine br_t rfl (sd_ybp_t hp (br_t rfl ?_))
        exact sd_ybc_t hc (br_t rfl (br_f (by decide) ⟨rfl, sd_in F⟩))
      · have hcl : (nI N).toNatClampNeg = N := nI_clamp (by omega)
        have hin : vp_in (nI N) 20 := vp_in_nI (by omega) (by decide)
        refine br_f (fun z => hN2 ((nI_eq (b := 20) (by omega) (by decide)).mp z)) ?_
        refine sd_xrun C hp hc fun wo' sa' aa' hA => ?_
        obtain ⟨d, hd, ed⟩ := D
        have key : wX_observe_53 (fun r u' => wpY_observe (fun r' v' => r' = r ∧ i_Rel (k + 4) u' v') (nI G, dv, nI N, kd, fs, sn, fe, ou, pt, cy, aw, vl) (nI p) (nI (c + 1))) (nI d) (nI G) dv (nI N) lf lh gr kd fs sn fe ou wo' sa' aa' lk := by
          refine sd_xo53 (by omega) hN hA fun lf' hlf => ?_
          unfold wpY_observe
          dsimp only
          refine sd_ybp_t hp (br_t rfl ?_)
          refine sd_ybc_t hc (br_t rfl (br_t (nI_lt (b := 20) (by omega) (by decide)) ⟨hin, nm_r (e' := upd pt N (nI p)) (by rw [hcl]) ⟨hin, nm_r (e' := upd cy N (nI (c + 1))) (by rw [hcl]) ?_⟩⟩))
          refine sd_yrE C ed (by omega) hp (by omega) fun vl' => ?_
          refine ⟨hin, nm_r (e' := upd aw N (sd_rn kd fs sn fe ou d p (c + 1))) (by rw [hcl]) (nm_r (nI_1 N) ⟨hin, ?_, ?_⟩)⟩
          · rw [hcl, pk_us]
          · refine sd_in ⟨C, by omega, ⟨d, hd, ed⟩, sd_O_put O hp hc, fun f hf => ?_, hg⟩
            rw [hlf f (by omega), sd_EX_put hp hc, hL f hf]
        unfold wpY_observe at key
        dsimp only at key
        by_cases h63 : d = 63
        · subst h63
          have e1 : dv = -1 := ed.trans sd_fc_h.symm
          exact br_f (show ¬ (0 : Int32) ≤ dv from by rw [e1]; decide) key
        · have e1 : dv = nI d := ed.trans (sd_fc_n (by omega)).symm
          refine br_t (show (0 : Int32) ≤ dv from by rw [e1]; exact nI_pos' (by omega)) ?_
          subst e1
          exact key
    · refine sd_xic_f hc (br_t rfl ?_)
      refine sd_ybp_t hp (br_t rfl ?_)
      exact sd_ybc_f hc (br_f (by decide) ⟨rfl, sd_in F⟩)
  · refine sd_xip_f hp (br_t rfl ?_)
    exact sd_ybp_f hp (br_f (by decide) ⟨rfl, sd_in F⟩)
theorem i_vc_response {k : Nat} {u : SX} {v : SY} (I : i_Rel k u v) (hk : k + 4 ≤ 2048) (v1 : Int32) (v2 : Int32) : wpX_response (fun r u' => wpY_response (fun r' v' => r' = r ∧ i_Rel (k + 4) u' v') v v1 v2) u v1 v2 := by
  refine sd_el (P := fun u v => wpX_response (fun r u' => wpY_response (fun r' v' => r' = r ∧ i_Rel (k + 4) u' v') v v1 v2) u v1 v2) ?_ I
  intro G N dv lf lh gr kd fs sn fe ou wo sa aa lk pt cy aw vl F
  have C := F.1
  unfold wpX_response wpY_response
  dsimp only
  by_cases hp : ∃ j, j < 128 ∧ v1 = nI j
  · obtain ⟨p, hp, rfl⟩ := hp
    refine sd_xip_t hp (br_f (by decide) ?_)
    by_cases hc : ∃ j, j < 4 ∧ v2 = nI (j + 1)
    · obtain ⟨c, hc, rfl⟩ := hc
      refine sd_xic_t hc (br_f (by decide) ?_)
      refine sd_xrun C hp hc fun wo' sa' aa' hA => ?_
      refine sd_xans (f := 63) (by decide) hA ?_
      refine sd_ybp_t hp (br_t rfl ?_)
      refine sd_ybc_t hc (br_t rfl ?_)
      exact sd_yrE C sd_fc_h (by decide) hp (by omega) fun vl' => ⟨rfl, sd_in F⟩
    · refine sd_xic_f hc (br_t rfl ?_)
      refine sd_ybp_t hp (br_t rfl ?_)
      exact sd_ybc_f hc (br_f (by decide) ⟨rfl, sd_in F⟩)
  · refine sd_xip_f hp (br_t rfl ?_)
    exact sd_ybp_f hp (br_f (by decide) ⟨rfl, sd_in F⟩)
theorem i_vc_responseWith {k : Nat} {u : SX} {v : SY} (I : i_Rel k u v) (hk : k + 4 ≤ 2048) (v1 : Int32) (v2 : Int32) (v3 : Int32) : wpX_responseWith (fun r u' => wpY_responseWith (fun r' v' => r' = r ∧ i_Rel (k + 4) u' v') v v1 v2 v3) u v1 v2 v3 := by
  refine sd_el (P := fun u v => wpX_responseWith (fun r u' => wpY_responseWith (fun r' v' => r' = r ∧ i_Rel (k + 4) u' v') v v1 v2 v3) u v1 v2 v3) ?_ I
  intro G N dv lf lh gr kd fs sn fe ou wo sa aa lk pt cy aw vl F
  have C := F.1
  have hG := C.1
  unfold wpX_responseWith wpY_responseWith
  dsimp only
  by_cases hf : ∃ j, j < 2 * (7 + G) ∧ v1 = nI j
  · obtain ⟨f, hf, rfl⟩ := hf
    refine sd_xif_t hG hf (br_f (by decide) ?_)
    by_cases hp : ∃ j, j < 128 ∧ v2 = nI j
    · obtain ⟨p, hp, rfl⟩ := hp
      refine sd_xip_t hp (br_f (by decide) ?_)
      by_cases hc : ∃ j, j < 4 ∧ v3 = nI (j + 1)
      · obtain ⟨c, hc, rfl⟩ := hc
        refine sd_xic_t hc (br_f (by decide) ?_)
        refine sd_xrun C hp hc fun wo' sa' aa' hA => ?_
        refine sd_xans (f := f) (by omega) hA ?_
        refine sd_ybf_t hG hf (br_t rfl ?_)
        refine sd_ybp_t hp (br_t rfl ?_)
        refine sd_ybc_t hc (br_t rfl ?_)
        exact sd_yrE C (sd_fc_n (by omega)) (by omega) hp (by omega) fun vl' => ⟨rfl, sd_in F⟩
      · refine sd_xic_f hc (br_t rfl ?_)
        refine sd_ybf_t hG hf (br_t rfl ?_)
        refine sd_ybp_t hp (br_t rfl ?_)
        exact sd_ybc_f hc (br_f (by decide) ⟨rfl, sd_in F⟩)
    · refine sd_xip_f hp (br_t rfl ?_)
      refine sd_ybf_t hG hf (br_t rfl ?_)
      exact sd_ybp_f hp (br_f (by decide) ⟨rfl, sd_in F⟩)
  · refine sd_xif_f hG hf (br_t rfl ?_)
    exact sd_ybf_f hG hf (br_f (by decide) ⟨rfl, sd_in F⟩)
theorem i_vc_candidates {k : Nat} {u : SX} {v : SY} (I : i_Rel k u v) (hk : k + 4 ≤ 2048) : wpX_candidates (fun r => wpY_candidates (fun r' v' => r' = r ∧ i_Rel (k + 4) u v') v) u := by
  refine sd_el (P := fun u v => wpX_candidates (fun r => wpY_candidates (fun r' v' => r' = r ∧ i_Rel (k + 4) u v') v) u) ?_ I
  intro G N dv lf lh gr kd fs sn fe ou wo sa aa lk pt cy aw vl F
  obtain ⟨C, hN, D, O, hL, hg⟩ := id F
  refine sd_xcs C.1 ?_
  exact sd_ycs C hN O (fun f hf => hL f (Or.inl hf)) fun vl' => ⟨rfl, sd_in F⟩
theorem i_vc_candidate {k : Nat} {u : SX} {v : SY} (I : i_Rel k u v) (hk : k + 4 ≤ 2048) (v1 : Int32) : wpX_candidate (fun r => wpY_candidate (fun r' v' => r' = r ∧ i_Rel (k + 4) u v') v v1) u v1 := by
  refine sd_el (P := fun u v => wpX_candidate (fun r => wpY_candidate (fun r' v' => r' = r ∧ i_Rel (k + 4) u v') v v1) u v1) ?_ I
  intro G N dv lf lh gr kd fs sn fe ou wo sa aa lk pt cy aw vl F
  obtain ⟨C, hN, D, O, hL, hg⟩ := id F
  refine sd_xca C.1 ?_
  exact sd_yca C hN O (fun f hf => hL f (Or.inl hf)) fun vl' => ⟨rfl, sd_in F⟩
theorem i_vc_healthy {k : Nat} {u : SX} {v : SY} (I : i_Rel k u v) (hk : k + 4 ≤ 2048) : wpX_healthy (fun r => wpY_healthy (fun r' v' => r' = r ∧ i_Rel (k + 4) u v') v) u := by
  refine sd_el (P := fun u v => wpX_healthy (fun r => wpY_healthy (fun r' v' => r' = r ∧ i_Rel (k + 4) u v') v) u) ?_ I
  intro G N dv lf lh gr kd fs sn fe ou wo sa aa lk pt cy aw vl F
  obtain ⟨C, hN, D, O, hL, hg⟩ := id F
  have h63 := hL 63 (Or.inr rfl)
  unfold wpX_healthy wpY_healthy
  dsimp only
  rw [sd_pos]
  refine br_c (fun h => ?_) (fun h => ?_)
  · refine sd_yex C sd_fc_h (by decide) hN O (fun E vl' => ?_) (fun E vl' => br_t rfl ⟨rfl, sd_in F⟩)
    rw [h63.mpr E] at h
    exact absurd h (by decide)
  · refine sd_yex C sd_fc_h (by decide) hN O (fun E vl' => br_f (by decide) ⟨rfl, sd_in F⟩) (fun E vl' => ?_)
    exact absurd (h63.mp (ts_nf h)) E
theorem i_vc_nextPattern {k : Nat} {u : SX} {v : SY} (I : i_Rel k u v) (hk : k + 4 ≤ 2048) : wpX_nextPattern (fun r u' => wpY_nextPattern (fun r' v' => r' = r ∧ i_Rel (k + 4) u' v') v) u := by
  refine sd_el (P := fun u v => wpX_nextPattern (fun r u' => wpY_nextPattern (fun r' v' => r' = r ∧ i_Rel (k + 4) u' v') v) u) ?_ I
  intro G N dv lf lh gr kd fs sn fe ou wo sa aa lk pt cy aw vl F
  obtain ⟨C, hN, D, O, hL, hg⟩ := id F
  refine sd_xnp C (fun f hf => hL f (Or.inl hf)) fun wo' sa' aa' => ?_
  exact sd_ynp C hN O fun vl' => ⟨rfl, sd_in F⟩
theorem i_vc_detected {k : Nat} {u : SX} {v : SY} (I : i_Rel k u v) (hk : k + 4 ≤ 2048) (v1 : Int32) (v2 : Int32) : wpX_detected (fun r u' => wpY_detected (fun r' v' => r' = r ∧ i_Rel (k + 4) u' v') v v1 v2) u v1 v2 := by
  refine sd_el (P := fun u v => wpX_detected (fun r u' => wpY_detected (fun r' v' => r' = r ∧ i_Rel (k + 4) u' v') v v1 v2) u v1 v2) ?_ I
  intro G N dv lf lh gr kd fs sn fe ou wo sa aa lk pt cy aw vl F
  have C := F.1
  have hG := C.1
  unfold wpX_detected wpY_detected
  dsimp only
  by_cases hp : ∃ j, j < 128 ∧ v1 = nI j
  · obtain ⟨p, hp, rfl⟩ := hp
    refine sd_xip_t hp (br_f (by decide) ?_)
    by_cases hc : ∃ j, j < 4 ∧ v2 = nI (j + 1)
    · obtain ⟨c, hc, rfl⟩ := hc
      refine sd_xic_t hc (br_f (by decide) ?_)
      refine sd_xrun C hp hc fun wo' sa' aa' hA => ?_
      refine Exists.intro 6 ?_
      refine sd_xd30 (P := fun f => sd_d (¬ sd_rn kd fs sn fe ou f p (c + 1) = sd_rn kd fs sn fe ou 63 p (c + 1))) hG hA (fun f _ => sd_d_b) ?_ 5 0 (by omega) 0 (fun f _ => ⟨fun _ b' hb' => absurd hb' (by omega), fun _ => sd_0 f⟩) 6 (by omega)
      refine sd_ybp_t hp (br_t rfl ?_)
      refine sd_ybc_t hc (br_t rfl ?_)
      refine sd_yrE C sd_fc_h (by decide) hp (by omega) fun vl' => ?_
      refine Exists.intro 43 ?_
      exact sd_yd35 C hp (by omega) (fun f _ => sd_d_b) (fun vl2 => ⟨rfl, sd_in F⟩) (2 * (7 + G)) 0 (by omega) vl' 43 (by omega)
    · refine sd_xic_f hc (br_t rfl ?_)
      refine sd_ybp_t hp (br_t rfl ?_)
      exact sd_ybc_f hc (br_f (by decide) ⟨rfl, sd_in F⟩)
  · refine sd_xip_f hp (br_t rfl ?_)
    exact sd_ybp_f hp (br_f (by decide) ⟨rfl, sd_in F⟩)
theorem i_vc_hidden {k : Nat} {u : SX} {v : SY} (I : i_Rel k u v) (hk : k + 4 ≤ 2048) : wpX_hidden (fun r u' => wpY_hidden (fun r' v' => r' = r ∧ i_Rel (k + 4) u' v') v) u := by
  refine sd_el (P := fun u v => wpX_hidden (fun r u' => wpY_hidden (fun r' v' => r' = r ∧ i_Rel (k + 4) u' v') v) u) ?_ I
  intro G N dv lf lh gr kd fs sn fe ou wo sa aa lk pt cy aw vl F
  obtain ⟨C, hN, D, O, hL, hg⟩ := id F
  refine sd_xhi (P := fun f => sd_d (sd_AL kd fs sn fe ou f 63)) C hg (fun f _ => sd_d_b) fun lh' gr' wo' sa' aa' lk' hR => ?_
  exact sd_yhi C (fun f _ => sd_d_b) fun vl' => ⟨rfl, sd_in ⟨C, hN, D, O, hL, fun _ => hR⟩⟩
theorem i_vc_leader {k : Nat} {u : SX} {v : SY} (I : i_Rel k u v) (hk : k + 4 ≤ 2048) (v1 : Int32) : wpX_leader (fun r u' => wpY_leader (fun r' v' => r' = r ∧ i_Rel (k + 4) u' v') v v1) u v1 := by
  refine sd_el (P := fun u v => wpX_leader (fun r u' => wpY_leader (fun r' v' => r' = r ∧ i_Rel (k + 4) u' v') v v1) u v1) ?_ I
  intro G N dv lf lh gr kd fs sn fe ou wo sa aa lk pt cy aw vl F
  obtain ⟨C, hN, D, O, hL, hg⟩ := id F
  have hG := C.1
  unfold wpX_leader wpY_leader
  dsimp only
  by_cases hf : ∃ j, j < 2 * (7 + G) ∧ v1 = nI j
  · obtain ⟨f, hf, rfl⟩ := hf
    have hcl : (nI f).toNatClampNeg = f := nI_clamp (by omega)
    obtain ⟨e, he⟩ := sd_LE_ex kd fs sn fe ou f
    refine sd_xif_t hG hf (br_f (by decide) ?_)
    refine sd_xgr C hg fun lh' gr' wo' sa' aa' lk' hR => ⟨vp_in_nI (by omega) (by decide), ?_⟩
    rw [hcl]
    refine sd_xlo hG hR hf he ?_
    refine sd_ybf_t hG hf (br_t rfl ?_)
    refine sd_yea C (by omega) fun e' he' vl' => ⟨?_, sd_in ⟨C, hN, D, O, hL, fun _ => hR⟩⟩
    rw [sd_LE_u he he']
  · refine sd_xif_f hG hf (br_t rfl ?_)
    exact sd_ybf_f hG hf (br_f (by decide) ⟨rfl, sd_in F⟩)
theorem i_vc_groups {k : Nat} {u : SX} {v : SY} (I : i_Rel k u v) (hk : k + 4 ≤ 2048) : wpX_groups (fun r u' => wpY_groups (fun r' v' => r' = r ∧ i_Rel (k + 4) u' v') v) u := by
  refine sd_el (P := fun u v => wpX_groups (fun r u' => wpY_groups (fun r' v' => r' = r ∧ i_Rel (k + 4) u' v') v) u) ?_ I
  intro G N dv lf lh gr kd fs sn fe ou wo sa aa lk pt cy aw vl F
  obtain ⟨C, hN, D, O, hL, hg⟩ := id F
  have hG := C.1
  unfold wpX_groups
  refine sd_xgw (P := fun f => sd_d (sd_LE kd fs sn fe ou f f)) C hg (fun f hf => ?_) fun lh' gr' wo' sa' aa' lk' hR => ?_
  · rw [sd_d_b]
    exact ⟨fun h => ⟨h, f, hf, sd_AL_r, sd_m1 f (by omega)⟩, fun h => h.1⟩
  · exact sd_ygr C (fun f _ => sd_d_b) fun vl' => ⟨rfl, sd_in ⟨C, hN, D, O, hL, fun _ => hR⟩⟩
theorem i_vc_candidateGroups {k : Nat} {u : SX} {v : SY} (I : i_Rel k u v) (hk : k + 4 ≤ 2048) : wpX_candidateGroups (fun r u' => wpY_candidateGroups (fun r' v' => r' = r ∧ i_Rel (k + 4) u' v') v) u := by
  refine sd_el (P := fun u v => wpX_candidateGroups (fun r u' => wpY_candidateGroups (fun r' v' => r' = r ∧ i_Rel (k + 4) u' v') v) u) ?_ I
  intro G N dv lf lh gr kd fs sn fe ou wo sa aa lk pt cy aw vl F
  obtain ⟨C, hN, D, O, hL, hg⟩ := id F
  have hG := C.1
  unfold wpX_candidateGroups
  refine sd_xgw (P := fun f => sd_d (sd_LE kd fs sn fe ou f f ∧ sd_PO G N kd fs sn fe ou pt cy aw f)) C hg (fun f hf => ?_) fun lh' gr' wo' sa' aa' lk' hR => ?_
  · rw [sd_d_b]
    constructor
    · rintro ⟨h, g, h1, h2, h3, h4⟩
      exact ⟨h, g, h2, h4, (hL g (Or.inl h2)).mpr h3⟩
    · rintro ⟨h, g, h2, h4, h3⟩
      refine ⟨h, g, ?_, h2, (hL g (Or.inl h2)).mp h3, h4⟩
      apply Classical.byContradiction
      intro hn
      exact h.2.2 g (by omega) (sd_AL_s h4)
  · exact sd_ykg C hN O (fun f _ => sd_d_b) fun vl' => ⟨rfl, sd_in ⟨C, hN, D, O, hL, fun _ => hR⟩⟩
end

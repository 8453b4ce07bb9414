section
/-! pure rows to paste: stores, nI and lN arithmetic, masks, shifts, narrowing, branches by naturals (pk_le, pk_lt, pk_eq), loops (lp1 .. lp16: the measure of the state; rp1 ..: recursion), negatives. Take what you need -/
theorem pk_us {f : Nat → Int32} {k : Nat} {x : Int32} : upd f k x k = x := if_pos rfl
theorem pk_un {f : Nat → Int32} {k j : Nat} {x : Int32} (h : j ≠ k) : upd f k x j = f j := if_neg h
theorem pk_uLs {f : Nat → Int64} {k : Nat} {x : Int64} : vp_updL f k x k = x := if_pos rfl
theorem pk_uLn {f : Nat → Int64} {k j : Nat} {x : Int64} (h : j ≠ k) : vp_updL f k x j = f j := if_neg h
theorem pk_sub {a b : Nat} (h : b ≤ a) : nI a - nI b = nI (a - b) := by
  obtain ⟨c, rfl⟩ : ∃ c, a = c + b := ⟨a - b, by omega⟩
  rw [← nI_add, Int32.add_sub_cancel, Nat.add_sub_cancel]
theorem pk_m1 (n : Nat) : nI (n + 1) + (-1) = nI n := by
  rw [← nI_1, Int32.add_assoc, show (1 : Int32) + (-1) = 0 from rfl, Int32.add_zero]
theorem pk_mul (a b : Nat) : nI a * nI b = nI (a * b) := (Int32.ofNat_mul a b).symm
theorem pk_div {a d : Nat} (ha : a < 2 ^ 31) (h0 : 0 < d) (hd : d < 2 ^ 31) : nI a / nI d = nI (a / d) := by
  apply Int32.toInt_inj.mp
  rw [lg_idiv_nonneg (by rw [nI_toInt ha]; omega) (by rw [nI_toInt hd]; omega), nI_toInt ha, nI_toInt hd, nI_toInt (Nat.lt_of_le_of_lt (Nat.div_le_self a d) ha)]
  first | rfl | exact (Int.natCast_ediv _ _).symm
theorem pk_rem {a d : Nat} (ha : a < 2 ^ 31) (h0 : 0 < d) (hd : d < 2 ^ 31) : nI a - nI a / nI d * nI d = nI (a % d) := by
  rw [pk_div ha h0 hd, pk_mul, pk_sub (Nat.div_mul_le_self a d)]
  exact congrArg nI (by have := Nat.div_add_mod' a d; omega)
theorem pk_sub_toInt {a b : Nat} (ha : a < 2 ^ 30) (hb : b < 2 ^ 30) : (nI a - nI b).toInt = (a : Int) - b := by
  rw [Int32.toInt_sub, nI_toInt (by omega), nI_toInt (by omega)]
  exact Int.bmod_eq_of_le (by omega) (by omega)
theorem pk_sneg {a b : Nat} (hb : b < 2 ^ 30) (h : a < b) : nI a - nI b < 0 := by
  rw [Int32.lt_iff_toInt_lt, pk_sub_toInt (by omega) hb, show (0 : Int32).toInt = 0 from by decide]
  omega
theorem pk_ix (x : Int32) {n : Nat} (hn : n < 2 ^ 31) : x < 0 ∨ nI n ≤ x ∨ ∃ j : Nat, j < n ∧ x = nI j := by
  by_cases h : x < 0
  · exact Or.inl h
  · obtain ⟨j, hj, rfl⟩ := nI_of h
    by_cases h2 : j < n
    · exact Or.inr (Or.inr ⟨j, h2, rfl⟩)
    · exact Or.inr (Or.inl (nI_le (by omega) hj))
theorem pk_le {x y : Int32} {A B : Prop} (a b : Nat) (f : a ≤ b → A) (g : b < a → B) (hx : x = nI a := by rfl) (hy : y = nI b := by rfl) (ha : a < 2 ^ 31 := by omega) (hb : b < 2 ^ 31 := by omega) : (x ≤ y → A) ∧ (¬ x ≤ y → B) := by
  subst hx hy
  rw [nI_leI ha hb]
  exact ⟨f, fun z => g (by omega)⟩
theorem pk_lt {x y : Int32} {A B : Prop} (a b : Nat) (f : a < b → A) (g : b ≤ a → B) (hx : x = nI a := by rfl) (hy : y = nI b := by rfl) (ha : a < 2 ^ 31 := by omega) (hb : b < 2 ^ 31 := by omega) : (x < y → A) ∧ (¬ x < y → B) := by
  subst hx hy
  rw [nI_ltI ha hb]
  exact ⟨f, fun z => g (by omega)⟩
theorem pk_eq {x y : Int32} {A B : Prop} (a b : Nat) (f : a = b → A) (g : a ≠ b → B) (hx : x = nI a := by rfl) (hy : y = nI b := by rfl) (ha : a < 2 ^ 31 := by omega) (hb : b < 2 ^ 31 := by omega) : (x = y → A) ∧ (¬ x = y → B) := by
  subst hx hy
  rw [nI_eq ha hb]
  exact ⟨f, g⟩
theorem pk_in {x : Int32} (n N : Nat) (h : n < N) (hx : x = nI n := by rfl) (hN : N < 2 ^ 31 := by omega) : vp_in x N := by
  subst hx
  exact vp_in_nI h hN
theorem pk_cl {x : Int32} (n : Nat) (hx : x = nI n := by rfl) (h : n < 2 ^ 31 := by omega) : x.toNatClampNeg = n := by
  subst hx
  exact nI_clamp h
theorem pk_tn {n : Nat} (h : n < 2 ^ 32) : (nI n).toBitVec.toNat = n := Nat.mod_eq_of_lt h
theorem pk_and (x : Int32) {m : Int32} (k : Nat) (hm : m.toBitVec.toNat = 2 ^ k - 1) : x &&& m = nI (x.toBitVec.toNat % 2 ^ k) := by
  apply Int32.toBitVec_inj.mp
  apply BitVec.eq_of_toNat_eq
  rw [Int32.toBitVec_and, BitVec.toNat_and, hm, Nat.and_two_pow_sub_one_eq_mod]
  show _ = (BitVec.ofNat 32 _).toNat
  rw [BitVec.toNat_ofNat]
  exact (Nat.mod_eq_of_lt (Nat.lt_of_le_of_lt (Nat.mod_le _ _) x.toBitVec.isLt)).symm
theorem pk_andN {n : Nat} (h : n < 2 ^ 32) {m : Int32} (k : Nat) (hm : m.toBitVec.toNat = 2 ^ k - 1) : nI n &&& m = nI (n % 2 ^ k) := by
  rw [pk_and _ k hm, pk_tn h]
theorem pk_andE (x : Int32) {m : Int32} (k : Nat) (hm : m.toBitVec.toNat = 2 ^ k - 1) : ∃ j : Nat, j < 2 ^ k ∧ x &&& m = nI j := ⟨_, Nat.mod_lt _ (Nat.two_pow_pos k), pk_and x k hm⟩
theorem pk_andIn (x : Int32) {m : Int32} (k : Nat) (hm : m.toBitVec.toNat = 2 ^ k - 1) (hk : k ≤ 30) : vp_in (x &&& m) (2 ^ k) := by
  obtain ⟨j, hj, e⟩ := pk_andE x k hm
  rw [e]
  exact vp_in_nI hj (Nat.lt_of_le_of_lt (Nat.pow_le_pow_right (by decide) hk) (by decide))
theorem pk_shl (a s : Int32) (k : Nat) (hs : (s.toBitVec.smod 32).toNat = k) : (a <<< s).toBitVec.toNat = a.toBitVec.toNat * 2 ^ k % 2 ^ 32 := by
  show (a.toBitVec <<< (s.toBitVec.smod 32).toNat).toNat = _
  rw [hs, BitVec.toNat_shiftLeft, Nat.shiftLeft_eq]
theorem pk_shlN {n : Nat} (s : Int32) (k : Nat) (hs : (s.toBitVec.smod 32).toNat = k) (h : n * 2 ^ k < 2 ^ 32) : nI n <<< s = nI (n * 2 ^ k) := by
  apply Int32.toBitVec_inj.mp
  apply BitVec.eq_of_toNat_eq
  have hn : n < 2 ^ 32 := Nat.lt_of_le_of_lt (Nat.le_mul_of_pos_right n (Nat.two_pow_pos k)) h
  rw [pk_shl _ _ k hs, pk_tn hn, pk_tn h, Nat.mod_eq_of_lt h]
theorem pk_shr (a s : Int32) (k : Nat) (hs : (s.toBitVec.smod 32).toNat = k) : (a >>> s).toInt = a.toInt >>> k := by
  show (a.toBitVec.sshiftRight (s.toBitVec.smod 32).toNat).toInt = _
  rw [hs, BitVec.toInt_sshiftRight]
  rfl
theorem pk_shrN {n : Nat} (h : n < 2 ^ 31) (s : Int32) (k : Nat) (hs : (s.toBitVec.smod 32).toNat = k) : nI n >>> s = nI (n / 2 ^ k) := by
  apply Int32.toInt_inj.mp
  have h2 : n / 2 ^ k ≤ n := Nat.div_le_self _ _
  rw [pk_shr _ _ k hs, nI_toInt h, nI_toInt (by omega), Int.shiftRight_eq_div_pow]
  rfl
theorem pk_ushr (x s : Int32) (k : Nat) (hs : ((s.toUInt32 &&& Int32.toUInt32 31).toBitVec % 32).toNat = k) : (x.toUInt32 >>> (s.toUInt32 &&& Int32.toUInt32 31)).toInt32.toBitVec.toNat = x.toBitVec.toNat / 2 ^ k := by
  have e : (x.toUInt32 >>> (s.toUInt32 &&& Int32.toUInt32 31)).toInt32.toBitVec = x.toBitVec >>> k := by
    rw [← hs]
    exact UInt32.toBitVec_shiftRight _ _
  rw [e, BitVec.toNat_ushiftRight, Nat.shiftRight_eq_div_pow]
theorem pk_ushrN {n : Nat} (hn : n < 2 ^ 32) (s : Int32) (k : Nat) (hs : ((s.toUInt32 &&& Int32.toUInt32 31).toBitVec % 32).toNat = k) : ((nI n).toUInt32 >>> (s.toUInt32 &&& Int32.toUInt32 31)).toInt32 = nI (n / 2 ^ k) := by
  apply Int32.toBitVec_inj.mp
  apply BitVec.eq_of_toNat_eq
  rw [pk_ushr _ s k hs, pk_tn hn, pk_tn (Nat.lt_of_le_of_lt (Nat.div_le_self _ _) hn)]
theorem pk_nb (z : Int32) : narrow .byte (.int z.toInt8.toInt32) = .int z.toInt8.toInt32 := congrArg Value.int (by simp)
theorem pk_ns (z : Int32) : narrow .short (.int z.toInt16.toInt32) = .int z.toInt16.toInt32 := congrArg Value.int (by simp)
theorem pk_fb (r : Int32) : fits .byte (.int r.toInt8.toInt32) = true := by
  have ⟨a, b⟩ := lg_i2b_range r
  have h1 : (-128 : Int32).toInt = -128 := by decide
  have h2 : (127 : Int32).toInt = 127 := by decide
  simp only [fits, Bool.and_eq_true, decide_eq_true_eq, Int32.le_iff_toInt_le, h1, h2]
  omega
theorem pk_fs (r : Int32) : fits .short (.int r.toInt16.toInt32) = true := by
  have ⟨a, b⟩ := lg_i2s_range r
  have h1 : (-32768 : Int32).toInt = -32768 := by decide
  have h2 : (32767 : Int32).toInt = 32767 := by decide
  simp only [fits, Bool.and_eq_true, decide_eq_true_eq, Int32.le_iff_toInt_le, h1, h2]
  omega
theorem pk_charN {q : Nat} (hq : q < 65536) : narrow .char (.int (nI q)) = .int (nI q) ∧ fits .char (.int (nI q)) = true := by
  constructor
  · have e : (nI q).toUInt32.toUInt16.toUInt32.toInt32 = nI q := by
      apply Int32.toBitVec_inj.mp
      apply BitVec.eq_of_toNat_eq
      show (nI q).toUInt32.toUInt16.toUInt32.toNat = q % 2 ^ 32
      rw [UInt16.toNat_toUInt32, UInt32.toNat_toUInt16, show (nI q).toUInt32.toNat = q % 2 ^ 32 from rfl]
      omega
    exact congrArg Value.int e
  · have a : (0 : Int32) ≤ nI q := nI_pos' (by omega)
    have b : nI q ≤ 65535 := nI_le (b := 65535) (by omega) (by decide)
    show (decide ((0 : Int32) ≤ nI q) && decide (nI q ≤ 65535)) = true
    rw [decide_eq_true a, decide_eq_true b]
    rfl
theorem pk_char (x : Int32) : (x.toUInt32 % 65536).toInt32 = nI (x.toBitVec.toNat % 65536) := by
  apply Int32.toBitVec_inj.mp
  apply BitVec.eq_of_toNat_eq
  rw [pk_tn (by omega)]
  show (x.toUInt32 % 65536).toNat = _
  rw [UInt32.toNat_mod]
  rfl
theorem pk_nc (x : Int32) : narrow .char (.int (x.toUInt32 % 65536).toInt32) = .int (x.toUInt32 % 65536).toInt32 := by
  rw [pk_char]
  exact (pk_charN (Nat.mod_lt _ (by decide))).1
theorem pk_fc (x : Int32) : fits .char (.int (x.toUInt32 % 65536).toInt32) = true := by
  rw [pk_char]
  exact (pk_charN (Nat.mod_lt _ (by decide))).2
theorem pk_vb (z : Int32) : vp_nar .byte z.toInt8.toInt32 = z.toInt8.toInt32 := by rw [vp_nar_byte]; simp
theorem pk_vs (z : Int32) : vp_nar .short z.toInt16.toInt32 = z.toInt16.toInt32 := by rw [vp_nar_short]; simp
theorem pk_vc (z : Int32) : vp_nar .char (z.toUInt32 % 65536).toInt32 = (z.toUInt32 % 65536).toInt32 := Value.int.inj (pk_nc z)
theorem pk_lT {n : Nat} (h : n < 2 ^ 63) : (lN n).toInt = (n : Int) := lg_ofNat_toInt h
theorem pk_lLT {a b : Nat} (ha : a < 2 ^ 63) (hb : b < 2 ^ 63) : lN a < lN b ↔ a < b := by
  rw [Int64.lt_iff_toInt_lt, pk_lT ha, pk_lT hb]; omega
theorem pk_lLE {a b : Nat} (ha : a < 2 ^ 63) (hb : b < 2 ^ 63) : lN a ≤ lN b ↔ a ≤ b := by
  rw [Int64.le_iff_toInt_le, pk_lT ha, pk_lT hb]; omega
theorem pk_lEQ {a b : Nat} (ha : a < 2 ^ 63) (hb : b < 2 ^ 63) : lN a = lN b ↔ a = b := by
  rw [← Int64.toInt_inj, pk_lT ha, pk_lT hb]; omega
theorem pk_lOf {x : Int64} (h : ¬ x < 0) : ∃ k : Nat, k < 2 ^ 63 ∧ x = lN k := by
  rw [Int64.lt_iff_toInt_lt] at h
  have h0 : (0 : Int64).toInt = 0 := by decide
  have hx := Int64.toInt_lt x
  refine ⟨x.toInt.toNat, by omega, Int64.toInt_inj.mp ?_⟩
  rw [pk_lT (by omega)]
  omega
theorem pk_lDiv {a b : Nat} (ha : a < 2 ^ 63) (h0 : 0 < b) (hb : b < 2 ^ 63) : lN a / lN b = lN (a / b) := by
  apply Int64.toInt_inj.mp
  rw [lg_ldiv_nonneg (by rw [pk_lT ha]; omega) (by rw [pk_lT hb]; omega), pk_lT ha, pk_lT hb, pk_lT (Nat.lt_of_le_of_lt (Nat.div_le_self a b) ha)]
  rfl
theorem pk_lRem {a b : Nat} (ha : a < 2 ^ 63) (h0 : 0 < b) (hb : b < 2 ^ 63) : lN a - lN a / lN b * lN b = lN (a % b) := by
  rw [pk_lDiv ha h0 hb, lN_mul, lN_sub (Nat.div_mul_le_self a b)]
  exact congrArg lN (by have := Nat.div_add_mod' a b; omega)
end
section
/-! digits of a number -/
def da_k (n k : Nat) : Nat := n / 10 ^ k % 10
theorem da_lt (n k : Nat) : da_k n k < 10 := Nat.mod_lt _ (by decide)
theorem da_pos (k : Nat) : 0 < 10 ^ k := Nat.pow_pos (by decide)
theorem da_hi {n l k : Nat} (h : n < 10 ^ l) (hk : l ≤ k) : da_k n k = 0 := by
  unfold da_k
  rw [Nat.div_eq_of_lt (Nat.lt_of_lt_of_le h (Nat.pow_le_pow_right (by decide) hk))]
theorem da_mod {n l k : Nat} (hk : k < l) : da_k (n % 10 ^ l) k = da_k n k := by
  unfold da_k
  obtain ⟨d, rfl⟩ : ∃ d, l = k + 1 + d := ⟨l - (k + 1), by omega⟩
  rw [show 10 ^ (k + 1 + d) = 10 ^ k * (10 * 10 ^ d) by rw [Nat.pow_add, Nat.pow_succ, Nat.mul_assoc]]
  rw [Nat.mod_mul_right_div_self, Nat.mod_mul_right_mod]
def da_c (x y k : Nat) : Nat := (x % 10 ^ k + y % 10 ^ k) / 10 ^ k
theorem da_c0 (x y : Nat) : da_c x y 0 = 0 := by
  unfold da_c
  rw [Nat.pow_zero, Nat.mod_one, Nat.mod_one]
theorem da_c1 (x y k : Nat) : da_c x y k ≤ 1 := by
  unfold da_c
  have hp := da_pos k
  have h1 := Nat.mod_lt x hp
  have h2 := Nat.mod_lt y hp
  have : (x % 10 ^ k + y % 10 ^ k) / 10 ^ k < 2 := Nat.div_lt_of_lt_mul (by omega)
  omega
theorem da_add (x y k : Nat) : da_k x k + da_k y k + da_c x y k = da_k (x + y) k + 10 * da_c x y (k + 1) := by
  have hp := da_pos k
  have e1 : da_c x y (k + 1) = (da_k x k + da_k y k + da_c x y k) / 10 := by
    unfold da_c da_k
    rw [Nat.mod_pow_succ, Nat.mod_pow_succ (x := y), Nat.pow_succ, ← Nat.div_div_eq_div_mul]
    have e : x % 10 ^ k + 10 ^ k * (x / 10 ^ k % 10) + (y % 10 ^ k + 10 ^ k * (y / 10 ^ k % 10)) = (x % 10 ^ k + y % 10 ^ k) + 10 ^ k * (x / 10 ^ k % 10 + y / 10 ^ k % 10) := by
      rw [Nat.mul_add]; omega
    rw [e, Nat.add_mul_div_left _ _ hp]
    congr 1
    omega
  have e2 : da_k (x + y) k = (da_k x k + da_k y k + da_c x y k) % 10 := by
    unfold da_c da_k
    have e : x + y = (x % 10 ^ k + y % 10 ^ k) + 10 ^ k * (x / 10 ^ k + y / 10 ^ k) := by
      have h1 := Nat.mod_add_div x (10 ^ k)
      have h2 := Nat.mod_add_div y (10 ^ k)
      rw [Nat.mul_add]; omega
    have e' : (x + y) / 10 ^ k = (x % 10 ^ k + y % 10 ^ k) / 10 ^ k + (x / 10 ^ k + y / 10 ^ k) := by
      conv => lhs; rw [e]
      exact Nat.add_mul_div_left _ _ hp
    rw [e']
    omega
  rw [e1, e2]
  omega
theorem da_top {x T k : Nat} (hT : 10 ^ (k + 1) ∣ T) : da_k (x + T) k = da_k x k := by
  obtain ⟨t, rfl⟩ := hT
  unfold da_k
  rw [Nat.pow_succ, Nat.mul_assoc, Nat.add_mul_div_left _ _ (da_pos k), Nat.add_mul_mod_self_left]
theorem da_sub {x y z T k : Nat} (h : z + y = x + T) (hT : 10 ^ (k + 1) ∣ T) : da_k z k + da_k y k + da_c z y k = da_k x k + 10 * da_c z y (k + 1) := by
  rw [da_add, h, da_top hT]
theorem da_cl {x y l : Nat} (hx : x < 10 ^ l) (hy : y < 10 ^ l) : da_c x y l = (x + y) / 10 ^ l := by
  unfold da_c
  rw [Nat.mod_eq_of_lt hx, Nat.mod_eq_of_lt hy]
theorem da_s (n d k : Nat) (hd : d < 10) : da_k (n * 10 + d) (k + 1) = da_k n k := by
  unfold da_k
  rw [Nat.pow_succ, Nat.mul_comm (10 ^ k) 10, ← Nat.div_div_eq_div_mul, show (n * 10 + d) / 10 = n by omega]
theorem da_s0 (n d : Nat) (hd : d < 10) : da_k (n * 10 + d) 0 = d := by
  unfold da_k
  rw [Nat.pow_zero, Nat.div_one]
  omega
theorem da_0 (n : Nat) : da_k n 0 = n % 10 := by
  unfold da_k
  rw [Nat.pow_zero, Nat.div_one]
theorem da_sum (n k : Nat) : n % 10 ^ (k + 1) = n % 10 ^ k + 10 ^ k * da_k n k := Nat.mod_pow_succ
theorem da_next (n k : Nat) : n / 10 ^ k = 10 * (n / 10 ^ (k + 1)) + da_k n k := by
  unfold da_k
  rw [Nat.pow_succ, ← Nat.div_div_eq_div_mul]
  omega
theorem da_nx (n k : Nat) : n / 10 ^ k / 10 = n / 10 ^ (k + 1) := by
  rw [Nat.pow_succ, ← Nat.div_div_eq_div_mul]
theorem da_z {n : Nat} : ∀ l : Nat, (∀ k, k < l → da_k n k = 0) → n % 10 ^ l = 0 := by
  intro l
  induction l with
  | zero => intro _; rw [Nat.pow_zero, Nat.mod_one]
  | succ l ih =>
    intro h
    rw [da_sum, ih (fun k hk => h k (by omega)), h l (by omega), Nat.mul_zero]
theorem da_zero {n l : Nat} (h : ∀ k, k < l → da_k n k = 0) (hn : n < 10 ^ l) : n = 0 := by
  have := da_z l h
  rwa [Nat.mod_eq_of_lt hn] at this
theorem da_zn (k : Nat) : da_k 0 k = 0 := by
  unfold da_k
  rw [Nat.zero_div]

/-! the layout of the memory: fields by the address of the last digit -/
def ms_tab : List (Nat × Nat) := [(5,6),(11,6),(17,6),(23,6),(29,6),(35,6),(37,2),(39,2),(41,2),(43,2),(46,3),(49,3),(52,3),(55,3),(58,3),(61,3),(64,3),(67,3),(70,3),(73,3),(76,3),(79,3),(82,3),(85,3),(88,3),(91,3),(94,3),(97,3),(104,7),(116,12),(122,6),(128,6),(135,7),(141,6),(147,6),(148,1),(149,1),(150,1),(151,1),(152,1)]
def ms_fe (a : Nat) : Nat := ((ms_tab.find? (fun p => decide (a ≤ p.1))).getD (0, 0)).1
def ms_fl (a : Nat) : Nat := ((ms_tab.find? (fun p => decide (a ≤ p.1))).getD (0, 0)).2
def ms_isE (e : Nat) : Bool := ms_tab.any (fun p => p.1 == e)
def ms_mark : Nat → Int32 := fun a => if a < 153 ∧ a + ms_fl a = ms_fe a + 1 then 1 else 0
theorem ms_A : ∀ a, a < 153 → a ≤ ms_fe a ∧ ms_fe a < 153 ∧ ms_isE (ms_fe a) = true ∧ ms_fe a < a + ms_fl (ms_fe a) := by decide +kernel
theorem ms_B : ∀ e, e < 153 → ms_isE e = true → 1 ≤ ms_fl e ∧ ms_fl e ≤ e + 1 ∧ ms_fl e ≤ 12 := by decide +kernel
theorem ms_C : ∀ e, e < 153 → ms_isE e = true → ∀ k, k < 12 → k < ms_fl e → ms_fe (e - k) = e := by decide +kernel
theorem ms_M1 : ∀ e, e < 153 → ms_isE e = true → ms_mark (e + 1 - ms_fl e) = 1 := by decide +kernel
theorem ms_M0 : ∀ e, e < 153 → ms_isE e = true → ∀ k, k < 12 → k + 1 < ms_fl e → ms_mark (e - k) = 0 := by decide +kernel
theorem ms_tb : ∀ p, p ∈ ms_tab → p.1 < 153 := by decide +kernel
theorem ms_E {e : Nat} (h : ms_isE e = true) : e < 153 := by
  unfold ms_isE at h
  rw [List.any_eq_true] at h
  obtain ⟨p, hp, he⟩ := h
  have := ms_tb p hp
  have : p.1 = e := by simpa using he
  omega
theorem ms_E3 {e : Nat} (h : ms_isE e = true) : e < 153 ∧ 1 ≤ ms_fl e ∧ ms_fl e ≤ e + 1 ∧ ms_fl e ≤ 12 := ⟨ms_E h, ms_B e (ms_E h) h⟩
/-- the digits, signs, as the values of the fields give them -/
def ms_DG (V : Nat → Int) : Nat → Int32 := fun a => if a < 153 then nI (da_k (V (ms_fe a)).natAbs (ms_fe a - a)) else 0
def ms_MN (V : Nat → Int) : Nat → Int32 := fun a => if ms_isE a = true ∧ V a < 0 then 1 else 0
def ms_u (V : Nat → Int) (e : Nat) (x : Int) : Nat → Int := fun j => if j = e then x else V j
theorem ms_us {V : Nat → Int} {e : Nat} {x : Int} : ms_u V e x e = x := if_pos rfl
theorem ms_un {V : Nat → Int} {e j : Nat} {x : Int} (h : j ≠ e) : ms_u V e x j = V j := if_neg h
theorem ms_uu {V : Nat → Int} {e : Nat} {x y : Int} : ms_u (ms_u V e x) e y = ms_u V e y := by
  funext j
  unfold ms_u
  split <;> rfl
theorem ms_DGat {V : Nat → Int} {e k : Nat} (he : ms_isE e = true) (hk : k < ms_fl e) : ms_DG V (e - k) = nI (da_k (V e).natAbs k) := by
  have ⟨h1, h2, h3, h4⟩ := ms_E3 he
  unfold ms_DG
  rw [if_pos (by omega), ms_C e h1 he k (by omega) hk, show e - (e - k) = k by omega]
theorem ms_DG0 {V : Nat → Int} {e : Nat} (he : ms_isE e = true) : ms_DG V e = nI (da_k (V e).natAbs 0) := ms_DGat (k := 0) he (ms_E3 he).2.1
theorem ms_MN0 {V : Nat → Int} {e : Nat} (h : ¬ V e < 0) : ms_MN V e = 0 := if_neg (fun z => h z.2)
theorem ms_MN1 {V : Nat → Int} {e : Nat} (he : ms_isE e = true) (h : V e < 0) : ms_MN V e = 1 := if_pos ⟨he, h⟩
theorem ms_MNu {V : Nat → Int} {e : Nat} {x : Int} (he : ms_isE e = true) : upd (ms_MN V) e (if x < 0 then 1 else 0) = ms_MN (ms_u V e x) := by
  funext j
  unfold upd ms_MN ms_u
  by_cases hj : j = e
  · subst hj
    simp only [if_true, he, true_and]
  · simp only [if_neg hj]
theorem ms_MNu0 {V : Nat → Int} {e : Nat} {x : Int} (he : ms_isE e = true) (h : ¬ x < 0) : upd (ms_MN V) e 0 = ms_MN (ms_u V e x) := by
  have := ms_MNu (V := V) (x := x) he
  rwa [if_neg h] at this
theorem ms_MNu1 {V : Nat → Int} {e : Nat} {x : Int} (he : ms_isE e = true) (h : x < 0) : upd (ms_MN V) e 1 = ms_MN (ms_u V e x) := by
  have := ms_MNu (V := V) (x := x) he
  rwa [if_pos h] at this
theorem ms_MNs {V : Nat → Int} {e : Nat} {x : Int} (h : x < 0 ↔ V e < 0) : ms_MN V = ms_MN (ms_u V e x) := by
  funext j
  unfold ms_MN ms_u
  by_cases hj : j = e
  · subst hj
    simp only [if_true, h]
  · simp only [if_neg hj]
/-- f at the last k digits of the field e, else g -/
def ms_mx (e k : Nat) (f g : Nat → Int32) : Nat → Int32 := fun x => if e < x + k ∧ x ≤ e then f x else g x
theorem ms_mx0 {e : Nat} {f g : Nat → Int32} : ms_mx e 0 f g = g := by
  funext x
  exact if_neg (by omega)
theorem ms_mxs {e k : Nat} {f g : Nat → Int32} {v : Int32} (hk : k ≤ e) (hv : v = f (e - k)) : upd (ms_mx e k f g) (e - k) v = ms_mx e (k + 1) f g := by
  subst hv
  funext x
  unfold upd ms_mx
  by_cases h : x = e - k
  · rw [if_pos h, if_pos (by omega), h]
  · rw [if_neg h]
    by_cases h2 : e < x + k ∧ x ≤ e
    · rw [if_pos h2, if_pos (by omega)]
    · rw [if_neg h2, if_neg (by omega)]
theorem ms_reg {e x : Nat} (he : ms_isE e = true) (h : e < x + ms_fl e) (hx : x ≤ e) : ms_fe x = e := by
  have ⟨h1, h2, h3, h4⟩ := ms_E3 he
  have := ms_C e h1 he (e - x) (by omega) (by omega)
  rwa [show e - (e - x) = x by omega] at this
theorem ms_out {V : Nat → Int} {e a : Nat} {x : Int} (he : ms_isE e = true) (h : ¬ (e < a + ms_fl e ∧ a ≤ e)) : ms_DG V a = ms_DG (ms_u V e x) a := by
  unfold ms_DG
  by_cases ha : a < 153
  · have ⟨h1, h2, h3, h4⟩ := ms_A a ha
    have hne : ms_fe a ≠ e := by
      intro z
      rw [z] at h1 h4
      exact h ⟨h4, h1⟩
    rw [if_pos ha, if_pos ha, ms_un hne]
  · rw [if_neg ha, if_neg ha]
theorem ms_fin {V : Nat → Int} {e : Nat} {x : Int} (he : ms_isE e = true) : ms_mx e (ms_fl e) (ms_DG (ms_u V e x)) (ms_DG V) = ms_DG (ms_u V e x) := by
  funext a
  unfold ms_mx
  by_cases h : e < a + ms_fl e ∧ a ≤ e
  · rw [if_pos h]
  · rw [if_neg h]; exact ms_out he h
/-- a read in the field a at the digit j while the first k digits of b are written -/
theorem ms_rd {a b j k : Nat} {f g : Nat → Int32} (ha : ms_isE a = true) (hb : ms_isE b = true) (hj : j < ms_fl a) (hk : k ≤ ms_fl b) (h : a ≠ b ∨ k ≤ j) : ms_mx b k f g (a - j) = g (a - j) := by
  have ⟨h1, h2, h3, h4⟩ := ms_E3 ha
  refine if_neg ?_
  intro ⟨z1, z2⟩
  have e1 := ms_reg (x := a - j) hb (by omega) z2
  have e2 := ms_C a h1 ha j (by omega) hj
  rw [e1] at e2
  rcases h with h | h
  · exact h e2.symm
  · omega
/-- one digit fields -/
theorem ms_one {V : Nat → Int} {e d : Nat} (he : ms_isE e = true) (h1 : ms_fl e = 1) (hd : d < 10) : upd (ms_DG V) e (nI d) = ms_DG (ms_u V e (d : Int)) := by
  have hf := ms_fin (V := V) (x := (d : Int)) he
  rw [h1] at hf
  rw [← hf, ← ms_mxs (e := e) (k := 0) (v := nI d) (Nat.zero_le e), ms_mx0, Nat.sub_zero]
  rw [Nat.sub_zero, ms_DG0 he, ms_us, da_0, show (d : Int).natAbs = d from rfl, Nat.mod_eq_of_lt hd]

/-! small ints -/
theorem sm_b1 : ∀ d, d < 128 → (nI d).toInt8.toInt32.toInt8.toInt32 = nI d := by decide +kernel
theorem sm_b2 : ∀ d, d < 128 → (nI d).toInt8.toInt32 = nI d := by decide +kernel
theorem sm_nb {d : Nat} (h : d < 128) : vp_nar .byte (nI d).toInt8.toInt32 = nI d := by
  rw [vp_nar_byte]; exact sm_b1 d h
theorem sm_nb' {d : Nat} (h : d < 128) : vp_nar .byte (nI d) = nI d := by
  rw [vp_nar_byte]; exact sm_b2 d h
theorem sm_t0 : vp_nar .boolean 0 = 0 := by decide
theorem sm_t1 : vp_nar .boolean 1 = 1 := by decide
theorem sm_rem {s : Nat} (h : s < 2 ^ 31) : nI s - nI s / 10 * 10 = nI (s % 10) := pk_rem (d := 10) h (by decide) (by decide)
theorem sm_div {s : Nat} (h : s < 2 ^ 31) : nI s / 10 = nI (s / 10) := pk_div (d := 10) h (by decide) (by decide)
theorem sm_sb0 : ∀ x, x < 10 → ∀ y, y < 10 → ∀ c, c < 2 → y + c ≤ x → 0 ≤ nI x - nI y - nI c ∧ nI x - nI y - nI c + 10 * 0 = nI (x - y - c) := by decide +kernel
theorem sm_sb1 : ∀ x, x < 10 → ∀ y, y < 10 → ∀ c, c < 2 → x < y + c → (¬ 0 ≤ nI x - nI y - nI c) ∧ nI x - nI y - nI c + 10 * 1 = nI (x + 10 - y - c) := by decide +kernel
theorem sm_cp0 : ∀ y, y < 10 → ∀ c, c < 2 → y + c = 0 → 0 ≤ (-nI y) - nI c ∧ (-nI y) - nI c + 10 * 0 = nI 0 := by decide +kernel
theorem sm_cp1 : ∀ y, y < 10 → ∀ c, c < 2 → 0 < y + c → (¬ 0 ≤ (-nI y) - nI c) ∧ (-nI y) - nI c + 10 * 1 = nI (10 - y - c) := by decide +kernel
theorem sm_10 : ¬ (10 : Int32) = 0 := by decide
theorem sm_df1 : ∀ x, x < 10 → ∀ y, y < 10 → x = y → nI x - nI y = 0 := by decide +kernel
theorem sm_df2 : ∀ x, x < 10 → ∀ y, y < 10 → x < y → nI x - nI y < 0 ∧ (¬ nI x - nI y = 0) ∧ 0 < -(nI x - nI y) := by decide +kernel
theorem sm_df3 : ∀ x, x < 10 → ∀ y, y < 10 → y < x → 0 < nI x - nI y ∧ (¬ nI x - nI y = 0) ∧ -(nI x - nI y) < 0 := by decide +kernel
theorem sm_df (x : Nat) (hx : x < 10) (y : Nat) (hy : y < 10) : (x = y → nI x - nI y = 0) ∧ (x < y → nI x - nI y < 0 ∧ (¬ nI x - nI y = 0) ∧ 0 < -(nI x - nI y)) ∧ (y < x → 0 < nI x - nI y ∧ (¬ nI x - nI y = 0) ∧ -(nI x - nI y) < 0) := ⟨sm_df1 x hx y hy, sm_df2 x hx y hy, sm_df3 x hx y hy⟩
end
section
section XR03
variable {f_cardCount f_lineCount f_levelNow f_memoryEnd f_sumAt f_productAt f_leftAt f_rightAt f_restAt f_quotientAt f_textAt f_counterAt f_signAt f_haveAt f_zeroAt f_oneAt f_compiled f_codeEnd f_multiplyAt f_divideAt f_printAt f_at f_order f_callDepth f_nextCard f_tally f_halted f_printedCount : Int32} {a_cardKey a_cardPart a_cardFirst a_cardSecond a_lineWhen a_lineCondition a_lineOp a_lineW a_lineX a_lineY a_lineC a_digit a_mark a_minus a_workAt a_cardAt a_inputAt a_constantAt a_code a_groupAt a_callStack a_indicatorOn a_printedText : Nat → Int32}
variable {V : Nat → Int} {e a b : Nat}
theorem xr_len_lp {post : Int32 → Prop} (he : ms_isE e = true) (h : post (nI (ms_fl e))) : ∀ n j, 1 ≤ j → j ≤ ms_fl e → ms_fl e - j < n → wX_lengthOf_2 post (nI e) f_cardCount f_lineCount f_levelNow f_memoryEnd f_sumAt f_productAt f_leftAt f_rightAt f_restAt f_quotientAt f_textAt f_counterAt f_signAt f_haveAt f_zeroAt f_oneAt f_compiled f_codeEnd f_multiplyAt f_divideAt f_printAt f_at f_order f_callDepth f_nextCard f_tally f_halted f_printedCount a_cardKey a_cardPart a_cardFirst a_cardSecond a_lineWhen a_lineCondition a_lineOp a_lineW a_lineX a_lineY a_lineC a_digit ms_mark a_minus a_workAt a_cardAt a_inputAt a_constantAt a_code a_groupAt a_callStack a_indicatorOn a_printedText n (nI j) := by
  have ⟨h1, h2, h3, h4⟩ := ms_E3 he
  intro n
  induction n with
  | zero => intro j _ _ h; omega
  | succ n ih =>
    intro j j1 j2 j3
    have ei : (nI e - nI j) + 1 = nI (e + 1 - j) := by
      rw [← pk_sub (by omega), ← nI_1, Int32.sub_eq_add_neg, Int32.sub_eq_add_neg, Int32.add_assoc, Int32.add_comm (-nI j) 1, ← Int32.add_assoc]
    have ec : ((nI e - nI j) + 1).toNatClampNeg = e + 1 - j := by rw [ei]; exact nI_clamp (by omega)
    refine And.intro (by rw [ei]; exact vp_in_nI (by omega) (by omega)) ?_
    rw [ec]
    by_cases hj : j = ms_fl e
    · have hm := ms_M1 e h1 he
      rw [← hj] at hm
      refine br_f (by rw [hm]; decide) ?_
      rw [hj]; exact h
    · have hm := ms_M0 e h1 he (j - 1) (by omega) (by omega)
      rw [show e - (j - 1) = e + 1 - j by omega] at hm
      exact br_t hm (nm_r (nI_1 j) (ih (j + 1) (by omega) (by omega) (by omega)))
theorem xr_len {post : Int32 → Prop} (he : ms_isE e = true) (h : post (nI (ms_fl e))) : wpX_lengthOf post (f_cardCount, f_lineCount, f_levelNow, f_memoryEnd, f_sumAt, f_productAt, f_leftAt, f_rightAt, f_restAt, f_quotientAt, f_textAt, f_counterAt, f_signAt, f_haveAt, f_zeroAt, f_oneAt, f_compiled, f_codeEnd, f_multiplyAt, f_divideAt, f_printAt, f_at, f_order, f_callDepth, f_nextCard, f_tally, f_halted, f_printedCount, a_cardKey, a_cardPart, a_cardFirst, a_cardSecond, a_lineWhen, a_lineCondition, a_lineOp, a_lineW, a_lineX, a_lineY, a_lineC, a_digit, ms_mark, a_minus, a_workAt, a_cardAt, a_inputAt, a_constantAt, a_code, a_groupAt, a_callStack, a_indicatorOn, a_printedText) (nI e) :=
  ⟨ms_fl e + 1, xr_len_lp he h (ms_fl e + 1) 1 (Nat.le_refl 1) (ms_E3 he).2.1 (by omega)⟩
theorem xr_da {post : Int32 → Prop} {D : Nat → Int32} {k : Nat} (he : ms_isE e = true) (hn : (V e).natAbs < 10 ^ ms_fl e) (hD : k < ms_fl e → D (e - k) = nI (da_k (V e).natAbs k)) (hk : k < 240) (h : post (nI (da_k (V e).natAbs k))) : wpX_digitAt post (f_cardCount, f_lineCount, f_levelNow, f_memoryEnd, f_sumAt, f_productAt, f_leftAt, f_rightAt, f_restAt, f_quotientAt, f_textAt, f_counterAt, f_signAt, f_haveAt, f_zeroAt, f_oneAt, f_compiled, f_codeEnd, f_multiplyAt, f_divideAt, f_printAt, f_at, f_order, f_callDepth, f_nextCard, f_tally, f_halted, f_printedCount, a_cardKey, a_cardPart, a_cardFirst, a_cardSecond, a_lineWhen, a_lineCondition, a_lineOp, a_lineW, a_lineX, a_lineY, a_lineC, D, a_mark, a_minus, a_workAt, a_cardAt, a_inputAt, a_constantAt, a_code, a_groupAt, a_callStack, a_indicatorOn, a_printedText) (nI e) (nI (ms_fl e)) (nI k) := by
  have ⟨h1, h2, h3, h4⟩ := ms_E3 he
  show (nI (ms_fl e) ≤ nI k → post 0) ∧ (¬ nI (ms_fl e) ≤ nI k → (vp_in (nI e - nI k) 240 ∧ post (D (nI e - nI k).toNatClampNeg)))
  refine pk_le (ms_fl e) k ?_ ?_
  · intro hh
    rw [da_hi hn hh] at h
    exact h
  · intro hh
    rw [pk_sub (by omega), nI_clamp (by omega), hD hh]
    exact ⟨vp_in_nI (by omega) (by omega), h⟩
theorem xr_zero_lp {post : Int32 → Prop} (he : ms_isE e = true) (hn : (V e).natAbs < 10 ^ ms_fl e) (p1 : V e = 0 → post 1) (p0 : V e ≠ 0 → post 0) : ∀ n k, k ≤ ms_fl e → (∀ j, j < k → da_k (V e).natAbs j = 0) → ms_fl e - k < n → wX_isZero_8 post (nI e) (nI (ms_fl e)) f_cardCount f_lineCount f_levelNow f_memoryEnd f_sumAt f_productAt f_leftAt f_rightAt f_restAt f_quotientAt f_textAt f_counterAt f_signAt f_haveAt f_zeroAt f_oneAt f_compiled f_codeEnd f_multiplyAt f_divideAt f_printAt f_at f_order f_callDepth f_nextCard f_tally f_halted f_printedCount a_cardKey a_cardPart a_cardFirst a_cardSecond a_lineWhen a_lineCondition a_lineOp a_lineW a_lineX a_lineY a_lineC (ms_DG V) ms_mark a_minus a_workAt a_cardAt a_inputAt a_constantAt a_code a_groupAt a_callStack a_indicatorOn a_printedText n (nI k) := by
  have ⟨h1, h2, h3, h4⟩ := ms_E3 he
  intro n
  induction n with
  | zero => intro k _ _ h; omega
  | succ n ih =>
    intro k k1 k2 k3
    refine pk_le (ms_fl e) k ?_ ?_
    · intro hh
      have : k = ms_fl e := by omega
      subst this
      have := da_zero k2 hn
      exact p1 (by omega)
    · intro hh
      have ei : nI e - nI k = nI (e - k) := pk_sub (by omega)
      have ed : ms_DG V (nI e - nI k).toNatClampNeg = nI (da_k (V e).natAbs k) := by
        rw [ei, nI_clamp (by omega), ms_DGat he hh]
      refine And.intro (by rw [ei]; exact vp_in_nI (by omega) (by omega)) ?_
      rw [ed]
      have := da_lt (V e).natAbs k
      refine pk_eq (da_k (V e).natAbs k) 0 ?_ ?_
      · intro z
        exact nm_r (nI_1 k) (ih (k + 1) (by omega) (lt_s k2 z) (by omega))
      · intro z
        refine p0 ?_
        intro z2
        rw [z2] at z
        exact z (da_zn k)
theorem xr_zero {post : Int32 → Prop} (he : ms_isE e = true) (hn : (V e).natAbs < 10 ^ ms_fl e) (p1 : V e = 0 → post 1) (p0 : V e ≠ 0 → post 0) : wpX_isZero post (f_cardCount, f_lineCount, f_levelNow, f_memoryEnd, f_sumAt, f_productAt, f_leftAt, f_rightAt, f_restAt, f_quotientAt, f_textAt, f_counterAt, f_signAt, f_haveAt, f_zeroAt, f_oneAt, f_compiled, f_codeEnd, f_multiplyAt, f_divideAt, f_printAt, f_at, f_order, f_callDepth, f_nextCard, f_tally, f_halted, f_printedCount, a_cardKey, a_cardPart, a_cardFirst, a_cardSecond, a_lineWhen, a_lineCondition, a_lineOp, a_lineW, a_lineX, a_lineY, a_lineC, ms_DG V, ms_mark, a_minus, a_workAt, a_cardAt, a_inputAt, a_constantAt, a_code, a_groupAt, a_callStack, a_indicatorOn, a_printedText) (nI e) := by
  unfold wpX_isZero
  dsimp only
  exact xr_len he ⟨ms_fl e + 1, xr_zero_lp he hn p1 p0 (ms_fl e + 1) 0 (by omega) lt_0 (by omega)⟩
/-- zeroAdd -/
theorem xr_za_lp {post : SX → Prop} {x : Int} (ha : ms_isE a = true) (hb : ms_isE b = true) (hn : (V a).natAbs < 10 ^ ms_fl a)
    (hx1 : x.natAbs = (V a).natAbs % 10 ^ ms_fl b) (hx2 : x < 0 ↔ (V a < 0 ∧ x ≠ 0))
    (h : post (f_cardCount, f_lineCount, f_levelNow, f_memoryEnd, f_sumAt, f_productAt, f_leftAt, f_rightAt, f_restAt, f_quotientAt, f_textAt, f_counterAt, f_signAt, f_haveAt, f_zeroAt, f_oneAt, f_compiled, f_codeEnd, f_multiplyAt, f_divideAt, f_printAt, f_at, f_order, f_callDepth, f_nextCard, f_tally, f_halted, f_printedCount, a_cardKey, a_cardPart, a_cardFirst, a_cardSecond, a_lineWhen, a_lineCondition, a_lineOp, a_lineW, a_lineX, a_lineY, a_lineC, ms_DG (ms_u V b x), ms_mark, ms_MN (ms_u V b x), a_workAt, a_cardAt, a_inputAt, a_constantAt, a_code, a_groupAt, a_callStack, a_indicatorOn, a_printedText)) : ∀ n k, k ≤ ms_fl b → ms_fl b - k < n → wX_zeroAdd_24 post (nI a) (nI b) (nI (ms_fl a)) (nI (ms_fl b)) (ms_MN V a) f_cardCount f_lineCount f_levelNow f_memoryEnd f_sumAt f_productAt f_leftAt f_rightAt f_restAt f_quotientAt f_textAt f_counterAt f_signAt f_haveAt f_zeroAt f_oneAt f_compiled f_codeEnd f_multiplyAt f_divideAt f_printAt f_at f_order f_callDepth f_nextCard f_tally f_halted f_printedCount n (nI k) a_cardKey a_cardPart a_cardFirst a_cardSecond a_lineWhen a_lineCondition a_lineOp a_lineW a_lineX a_lineY a_lineC (ms_mx b k (ms_DG (ms_u V b x)) (ms_DG V)) ms_mark (ms_MN V) a_workAt a_cardAt a_inputAt a_constantAt a_code a_groupAt a_callStack a_indicatorOn a_printedText := by
  have ⟨a1, a2, a3, a4⟩ := ms_E3 ha
  have ⟨b1, b2, b3, b4⟩ := ms_E3 hb
  have hxn : ((ms_u V b x) b).natAbs < 10 ^ ms_fl b := by rw [ms_us, hx1]; exact Nat.mod_lt _ (da_pos _)
  have hin : vp_in (nI b) 240 := vp_in_nI (by omega) (by omega)
  have hcl : (nI b).toNatClampNeg = b := nI_clamp (by omega)
  intro n
  induction n with
  | zero => intro k _ h; omega
  | succ n ih =>
    intro k k1 k3
    refine pk_le (ms_fl b) k ?_ ?_
    · intro hh
      have hk : k = ms_fl b := by omega
      subst hk
      rw [ms_fin hb]
      by_cases hs : V a < 0
      · rw [ms_MN1 ha hs]
        refine br_f (by decide) ?_
        refine xr_zero (V := ms_u V b x) hb hxn ?_ ?_
        · intro z
          rw [ms_us] at z
          refine br_f (by decide) (And.intro hin (nm_r ?_ h))
          rw [hcl, sm_t0]
          exact ms_MNu0 hb (by omega)
        · intro z
          rw [ms_us] at z
          refine br_t rfl (And.intro hin (nm_r ?_ h))
          rw [hcl, sm_t1]
          exact ms_MNu1 hb (hx2.mpr ⟨hs, z⟩)
      · rw [ms_MN0 hs]
        refine br_t rfl (And.intro hin (nm_r ?_ h))
        rw [hcl, sm_t0]
        exact ms_MNu0 hb (fun z => hs (hx2.mp z).1)
    · intro hh
      refine xr_da (V := V) ha hn (fun hk => ?_) (by omega) ?_
      · rw [ms_rd ha hb hk (by omega) (Or.inr (Nat.le_refl k)), ms_DGat ha hk]
      · have ei : nI b - nI k = nI (b - k) := pk_sub (by omega)
        have hd := da_lt (V a).natAbs k
        refine And.intro (by rw [ei]; exact vp_in_nI (by omega) (by omega)) (nm_r ?_ (nm_r (nI_1 k) (ih (k + 1) (by omega) (by omega))))
        rw [ei, nI_clamp (by omega), sm_nb (by omega)]
        refine ms_mxs (by omega) ?_
        rw [ms_DGat hb hh, ms_us, hx1, da_mod hh]
theorem xr_za {post : SX → Prop} {x : Int} (ha : ms_isE a = true) (hb : ms_isE b = true) (hn : (V a).natAbs < 10 ^ ms_fl a)
    (hx1 : x.natAbs = (V a).natAbs % 10 ^ ms_fl b) (hx2 : x < 0 ↔ (V a < 0 ∧ x ≠ 0))
    (h : post (f_cardCount, f_lineCount, f_levelNow, f_memoryEnd, f_sumAt, f_productAt, f_leftAt, f_rightAt, f_restAt, f_quotientAt, f_textAt, f_counterAt, f_signAt, f_haveAt, f_zeroAt, f_oneAt, f_compiled, f_codeEnd, f_multiplyAt, f_divideAt, f_printAt, f_at, f_order, f_callDepth, f_nextCard, f_tally, f_halted, f_printedCount, a_cardKey, a_cardPart, a_cardFirst, a_cardSecond, a_lineWhen, a_lineCondition, a_lineOp, a_lineW, a_lineX, a_lineY, a_lineC, ms_DG (ms_u V b x), ms_mark, ms_MN (ms_u V b x), a_workAt, a_cardAt, a_inputAt, a_constantAt, a_code, a_groupAt, a_callStack, a_indicatorOn, a_printedText)) : wpX_zeroAdd post (f_cardCount, f_lineCount, f_levelNow, f_memoryEnd, f_sumAt, f_productAt, f_leftAt, f_rightAt, f_restAt, f_quotientAt, f_textAt, f_counterAt, f_signAt, f_haveAt, f_zeroAt, f_oneAt, f_compiled, f_codeEnd, f_multiplyAt, f_divideAt, f_printAt, f_at, f_order, f_callDepth, f_nextCard, f_tally, f_halted, f_printedCount, a_cardKey, a_cardPart, a_cardFirst, a_cardSecond, a_lineWhen, a_lineCondition, a_lineOp, a_lineW, a_lineX, a_lineY, a_lineC, ms_DG V, ms_mark, ms_MN V, a_workAt, a_cardAt, a_inputAt, a_constantAt, a_code, a_groupAt, a_callStack, a_indicatorOn, a_printedText) (nI a) (nI b) := by
  have ⟨a1, a2, a3, a4⟩ := ms_E3 ha
  unfold wpX_zeroAdd
  dsimp only
  refine xr_len ha (xr_len hb (And.intro (vp_in_nI (by omega) (by omega)) (nm_r (congrArg (ms_MN V) (nI_clamp (n := a) (by omega))) ⟨ms_fl b + 1, ?_⟩)))
  have := xr_za_lp ha hb hn hx1 hx2 h (ms_fl b + 1) 0 (by omega) (by omega)
  rw [ms_mx0] at this
  exact this
end XR03
end
section
theorem sm_tm (y : Int) (m : Nat) : (Int.tmod y m).natAbs = y.natAbs % m ∧ (Int.tmod y m < 0 ↔ y < 0 ∧ Int.tmod y m ≠ 0) := by
  refine ⟨by rw [Int.natAbs_tmod]; rfl, ?_⟩
  by_cases h : 0 ≤ y
  · have := Int.tmod_nonneg (m : Int) h
    omega
  · have h2 := Int.tmod_nonneg (m : Int) (a := -y) (by omega)
    rw [Int.neg_tmod] at h2
    omega
section XR04
variable {f_cardCount f_lineCount f_levelNow f_memoryEnd f_sumAt f_productAt f_leftAt f_rightAt f_restAt f_quotientAt f_textAt f_counterAt f_signAt f_haveAt f_zeroAt f_oneAt f_compiled f_codeEnd f_multiplyAt f_divideAt f_printAt f_at f_order f_callDepth f_nextCard f_tally f_halted f_printedCount : Int32} {a_cardKey a_cardPart a_cardFirst a_cardSecond a_lineWhen a_lineCondition a_lineOp a_lineW a_lineX a_lineY a_lineC a_digit a_mark a_minus a_workAt a_cardAt a_inputAt a_constantAt a_code a_groupAt a_callStack a_indicatorOn a_printedText : Nat → Int32}
variable {V : Nat → Int} {e a b : Nat}
theorem xr_178 {post : SX → Prop} {x : Int} {Mn : Nat → Int32} (hb : ms_isE b = true) (hn : x.natAbs < 10 ^ ms_fl b) (m0 : x ≠ 0 → Mn = ms_MN (ms_u V b x)) (m1 : x = 0 → upd Mn b 0 = ms_MN (ms_u V b x))
    (h : post (f_cardCount, f_lineCount, f_levelNow, f_memoryEnd, f_sumAt, f_productAt, f_leftAt, f_rightAt, f_restAt, f_quotientAt, f_textAt, f_counterAt, f_signAt, f_haveAt, f_zeroAt, f_oneAt, f_compiled, f_codeEnd, f_multiplyAt, f_divideAt, f_printAt, f_at, f_order, f_callDepth, f_nextCard, f_tally, f_halted, f_printedCount, a_cardKey, a_cardPart, a_cardFirst, a_cardSecond, a_lineWhen, a_lineCondition, a_lineOp, a_lineW, a_lineX, a_lineY, a_lineC, ms_DG (ms_u V b x), ms_mark, ms_MN (ms_u V b x), a_workAt, a_cardAt, a_inputAt, a_constantAt, a_code, a_groupAt, a_callStack, a_indicatorOn, a_printedText)) : wX_add_178 post (nI b) f_cardCount f_lineCount f_levelNow f_memoryEnd f_sumAt f_productAt f_leftAt f_rightAt f_restAt f_quotientAt f_textAt f_counterAt f_signAt f_haveAt f_zeroAt f_oneAt f_compiled f_codeEnd f_multiplyAt f_divideAt f_printAt f_at f_order f_callDepth f_nextCard f_tally f_halted f_printedCount a_cardKey a_cardPart a_cardFirst a_cardSecond a_lineWhen a_lineCondition a_lineOp a_lineW a_lineX a_lineY a_lineC (ms_DG (ms_u V b x)) ms_mark Mn a_workAt a_cardAt a_inputAt a_constantAt a_code a_groupAt a_callStack a_indicatorOn a_printedText := by
  have ⟨b1, b2, b3, b4⟩ := ms_E3 hb
  unfold wX_add_178
  refine xr_zero (V := ms_u V b x) hb (by rw [ms_us]; exact hn) ?_ ?_
  · intro z
    rw [ms_us] at z
    refine br_f (by decide) (And.intro (vp_in_nI (by omega) (by omega)) (nm_r ?_ h))
    rw [nI_clamp (by omega), sm_t0]
    exact m1 z
  · intro z
    rw [ms_us] at z
    refine br_t rfl ?_
    exact (congrArg (fun m => post (f_cardCount, f_lineCount, f_levelNow, f_memoryEnd, f_sumAt, f_productAt, f_leftAt, f_rightAt, f_restAt, f_quotientAt, f_textAt, f_counterAt, f_signAt, f_haveAt, f_zeroAt, f_oneAt, f_compiled, f_codeEnd, f_multiplyAt, f_divideAt, f_printAt, f_at, f_order, f_callDepth, f_nextCard, f_tally, f_halted, f_printedCount, a_cardKey, a_cardPart, a_cardFirst, a_cardSecond, a_lineWhen, a_lineCondition, a_lineOp, a_lineW, a_lineX, a_lineY, a_lineC, ms_DG (ms_u V b x), ms_mark, m, a_workAt, a_cardAt, a_inputAt, a_constantAt, a_code, a_groupAt, a_callStack, a_indicatorOn, a_printedText)) (m0 z)).mpr h
theorem xr_a30 {post : SX → Prop} {x : Int} (ha : ms_isE a = true) (hb : ms_isE b = true) (hab : a ≠ b) (hna : (V a).natAbs < 10 ^ ms_fl a)
    (hx1 : x.natAbs = ((V b).natAbs + (V a).natAbs) % 10 ^ ms_fl b) (hx2 : x ≠ 0 → (x < 0 ↔ V b < 0))
    (h : post (f_cardCount, f_lineCount, f_levelNow, f_memoryEnd, f_sumAt, f_productAt, f_leftAt, f_rightAt, f_restAt, f_quotientAt, f_textAt, f_counterAt, f_signAt, f_haveAt, f_zeroAt, f_oneAt, f_compiled, f_codeEnd, f_multiplyAt, f_divideAt, f_printAt, f_at, f_order, f_callDepth, f_nextCard, f_tally, f_halted, f_printedCount, a_cardKey, a_cardPart, a_cardFirst, a_cardSecond, a_lineWhen, a_lineCondition, a_lineOp, a_lineW, a_lineX, a_lineY, a_lineC, ms_DG (ms_u V b x), ms_mark, ms_MN (ms_u V b x), a_workAt, a_cardAt, a_inputAt, a_constantAt, a_code, a_groupAt, a_callStack, a_indicatorOn, a_printedText)) : ∀ n k, k ≤ ms_fl b → ms_fl b - k < n → wX_add_30 post (nI a) (nI b) (nI (ms_fl a)) (nI (ms_fl b)) f_cardCount f_lineCount f_levelNow f_memoryEnd f_sumAt f_productAt f_leftAt f_rightAt f_restAt f_quotientAt f_textAt f_counterAt f_signAt f_haveAt f_zeroAt f_oneAt f_compiled f_codeEnd f_multiplyAt f_divideAt f_printAt f_at f_order f_callDepth f_nextCard f_tally f_halted f_printedCount n (nI (da_c (V b).natAbs (V a).natAbs k)) (nI k) a_cardKey a_cardPart a_cardFirst a_cardSecond a_lineWhen a_lineCondition a_lineOp a_lineW a_lineX a_lineY a_lineC (ms_mx b k (ms_DG (ms_u V b x)) (ms_DG V)) ms_mark (ms_MN V) a_workAt a_cardAt a_inputAt a_constantAt a_code a_groupAt a_callStack a_indicatorOn a_printedText := by
  have ⟨a1, a2, a3, a4⟩ := ms_E3 ha
  have ⟨b1, b2, b3, b4⟩ := ms_E3 hb
  intro n
  induction n with
  | zero => intro k _ h; omega
  | succ n ih =>
    intro k k1 k3
    refine pk_le (ms_fl b) k ?_ ?_
    · intro hh
      have hk : k = ms_fl b := by omega
      subst hk
      rw [ms_fin hb]
      exact xr_178 hb (by rw [hx1]; exact Nat.mod_lt _ (da_pos _)) (fun z => ms_MNs (hx2 z)) (fun z => ms_MNu0 hb (by omega)) h
    · intro hh
      have ei : nI b - nI k = nI (b - k) := pk_sub (by omega)
      have hin : vp_in (nI b - nI k) 240 := by rw [ei]; exact vp_in_nI (by omega) (by omega)
      have ec : (nI b - nI k).toNatClampNeg = b - k := by rw [ei]; exact nI_clamp (by omega)
      have q := da_add (V b).natAbs (V a).natAbs k
      have q1 := da_lt (V b).natAbs k
      have q2 := da_lt (V a).natAbs k
      have q3 := da_c1 (V b).natAbs (V a).natAbs k
      have q4 := da_lt ((V b).natAbs + (V a).natAbs) k
      refine And.intro hin (xr_da (V := V) ha hna (fun hk => ?_) (by omega) (nm_r (e' := nI (da_k (V b).natAbs k + da_k (V a).natAbs k + da_c (V b).natAbs (V a).natAbs k)) ?_ (And.intro sm_10 (And.intro hin (nm_r (e' := ms_mx b (k + 1) (ms_DG (ms_u V b x)) (ms_DG V)) ?_ (And.intro sm_10 (nm_r (e' := nI (da_c (V b).natAbs (V a).natAbs (k + 1))) ?_ (nm_r (nI_1 k) (ih (k + 1) (by omega) (by omega))))))))))
      · rw [ms_rd ha hb hk (by omega) (Or.inl hab), ms_DGat ha hk]
      · rw [ec, ms_rd hb hb hh (by omega) (Or.inr (Nat.le_refl k)), ms_DGat hb hh, nI_add, nI_add]
      · rw [ec, sm_rem (by omega), sm_nb (by omega)]
        refine ms_mxs (by omega) ?_
        rw [ms_DGat hb hh, ms_us, hx1, da_mod hh]
        exact congrArg nI (by omega)
      · rw [sm_div (by omega)]
        exact congrArg nI (by omega)
/-- complement: w + z = 10 ^ length -/
theorem xr_cp_lp {post : SX → Prop} {z w : Nat} {s : Int32} {Mn : Nat → Int32} (hb : ms_isE b = true) (hs : vp_nar .boolean s = s) (hw : w + z = 10 ^ ms_fl b)
    (h : post (f_cardCount, f_lineCount, f_levelNow, f_memoryEnd, f_sumAt, f_productAt, f_leftAt, f_rightAt, f_restAt, f_quotientAt, f_textAt, f_counterAt, f_signAt, f_haveAt, f_zeroAt, f_oneAt, f_compiled, f_codeEnd, f_multiplyAt, f_divideAt, f_printAt, f_at, f_order, f_callDepth, f_nextCard, f_tally, f_halted, f_printedCount, a_cardKey, a_cardPart, a_cardFirst, a_cardSecond, a_lineWhen, a_lineCondition, a_lineOp, a_lineW, a_lineX, a_lineY, a_lineC, ms_DG (ms_u V b (w : Int)), ms_mark, upd Mn b s, a_workAt, a_cardAt, a_inputAt, a_constantAt, a_code, a_groupAt, a_callStack, a_indicatorOn, a_printedText)) : ∀ n k, k ≤ ms_fl b → ms_fl b - k < n → wX_complement_6 post (nI b) (nI (ms_fl b)) s f_cardCount f_lineCount f_levelNow f_memoryEnd f_sumAt f_productAt f_leftAt f_rightAt f_restAt f_quotientAt f_textAt f_counterAt f_signAt f_haveAt f_zeroAt f_oneAt f_compiled f_codeEnd f_multiplyAt f_divideAt f_printAt f_at f_order f_callDepth f_nextCard f_tally f_halted f_printedCount n (nI (da_c w z k)) (nI k) a_cardKey a_cardPart a_cardFirst a_cardSecond a_lineWhen a_lineCondition a_lineOp a_lineW a_lineX a_lineY a_lineC (ms_mx b k (ms_DG (ms_u V b (w : Int))) (ms_DG (ms_u V b (z : Int)))) ms_mark Mn a_workAt a_cardAt a_inputAt a_constantAt a_code a_groupAt a_callStack a_indicatorOn a_printedText := by
  have ⟨b1, b2, b3, b4⟩ := ms_E3 hb
  intro n
  induction n with
  | zero => intro k _ h; omega
  | succ n ih =>
    intro k k1 k3
    refine pk_le (ms_fl b) k ?_ ?_
    · intro hh
      have hk : k = ms_fl b := by omega
      subst hk
      have hf := ms_fin (V := ms_u V b (z : Int)) (x := (w : Int)) hb
      rw [ms_uu] at hf
      rw [hf]
      refine And.intro (vp_in_nI (by omega) (by omega)) (nm_r ?_ h)
      rw [nI_clamp (by omega), hs]
    · intro hh
      have ei : nI b - nI k = nI (b - k) := pk_sub (by omega)
      have hin : vp_in (nI b - nI k) 240 := by rw [ei]; exact vp_in_nI (by omega) (by omega)
      have ec : (nI b - nI k).toNatClampNeg = b - k := by rw [ei]; exact nI_clamp (by omega)
      have q := da_sub (x := 0) (k := k) (T := 10 ^ ms_fl b) (by omega : w + z = 0 + 10 ^ ms_fl b) (Nat.pow_dvd_pow 10 (by omega))
      rw [da_zn] at q
      have q1 := da_lt z k
      have q2 := da_lt w k
      have q3 := da_c1 w z k
      have q4 := da_c1 w z (k + 1)
      have edd : ms_mx b k (ms_DG (ms_u V b (w : Int))) (ms_DG (ms_u V b (z : Int))) (nI b - nI k).toNatClampNeg = nI (da_k z k) := by
        rw [ec, ms_rd hb hb hh (by omega) (Or.inr (Nat.le_refl k)), ms_DGat hb hh, ms_us]
        rfl
      refine And.intro hin ?_
      rw [edd]
      refine nm_e ?_
      by_cases hc : da_k z k + da_c w z k = 0
      · have ⟨t1, t2⟩ := sm_cp0 (da_k z k) q1 (da_c w z k) (by omega) hc
        have e1 : da_c w z (k + 1) = 0 := by omega
        refine br_t t1 (And.intro hin (nm_r (e' := ms_mx b (k + 1) (ms_DG (ms_u V b (w : Int))) (ms_DG (ms_u V b (z : Int)))) ?_ (nm_r (nI_1 k) ?_)))
        · rw [t2, ec, sm_nb (by omega)]
          refine ms_mxs (by omega) ?_
          rw [ms_DGat hb hh, ms_us]
          exact congrArg nI (by show 0 = da_k w k; omega)
        · have := ih (k + 1) (by omega) (by omega)
          rw [e1] at this
          exact this
      · have ⟨t1, t2⟩ := sm_cp1 (da_k z k) q1 (da_c w z k) (by omega) (by omega)
        have e1 : da_c w z (k + 1) = 1 := by omega
        refine br_f t1 (And.intro hin (nm_r (e' := ms_mx b (k + 1) (ms_DG (ms_u V b (w : Int))) (ms_DG (ms_u V b (z : Int)))) ?_ (nm_r (nI_1 k) ?_)))
        · rw [t2, ec, sm_nb (by omega)]
          refine ms_mxs (by omega) ?_
          rw [ms_DGat hb hh, ms_us]
          exact congrArg nI (by show 10 - da_k z k - da_c w z k = da_k w k; omega)
        · have := ih (k + 1) (by omega) (by omega)
          rw [e1] at this
          exact this
theorem xr_cp {post : SX → Prop} {z w : Nat} {s : Int32} {Mn : Nat → Int32} (hb : ms_isE b = true) (hs : vp_nar .boolean s = s) (hw : w + z = 10 ^ ms_fl b)
    (h : post (f_cardCount, f_lineCount, f_levelNow, f_memoryEnd, f_sumAt, f_productAt, f_leftAt, f_rightAt, f_restAt, f_quotientAt, f_textAt, f_counterAt, f_signAt, f_haveAt, f_zeroAt, f_oneAt, f_compiled, f_codeEnd, f_multiplyAt, f_divideAt, f_printAt, f_at, f_order, f_callDepth, f_nextCard, f_tally, f_halted, f_printedCount, a_cardKey, a_cardPart, a_cardFirst, a_cardSecond, a_lineWhen, a_lineCondition, a_lineOp, a_lineW, a_lineX, a_lineY, a_lineC, ms_DG (ms_u V b (w : Int)), ms_mark, upd Mn b s, a_workAt, a_cardAt, a_inputAt, a_constantAt, a_code, a_groupAt, a_callStack, a_indicatorOn, a_printedText)) : wpX_complement post (f_cardCount, f_lineCount, f_levelNow, f_memoryEnd, f_sumAt, f_productAt, f_leftAt, f_rightAt, f_restAt, f_quotientAt, f_textAt, f_counterAt, f_signAt, f_haveAt, f_zeroAt, f_oneAt, f_compiled, f_codeEnd, f_multiplyAt, f_divideAt, f_printAt, f_at, f_order, f_callDepth, f_nextCard, f_tally, f_halted, f_printedCount, a_cardKey, a_cardPart, a_cardFirst, a_cardSecond, a_lineWhen, a_lineCondition, a_lineOp, a_lineW, a_lineX, a_lineY, a_lineC, ms_DG (ms_u V b (z : Int)), ms_mark, Mn, a_workAt, a_cardAt, a_inputAt, a_constantAt, a_code, a_groupAt, a_callStack, a_indicatorOn, a_printedText) (nI b) (nI (ms_fl b)) s := by
  have := xr_cp_lp (V := V) hb hs hw h (ms_fl b + 1) 0 (by omega) (by omega)
  rw [ms_mx0, da_c0] at this
  exact ⟨ms_fl b + 1, this⟩
theorem xr_a98 {post : SX → Prop} {z T : Nat} {s : Int32} (ha : ms_isE a = true) (hb : ms_isE b = true) (hab : a ≠ b) (hna : (V a).natAbs < 10 ^ ms_fl a)
    (hz : z + (V a).natAbs = (V b).natAbs + T) (hT : 10 ^ ms_fl b ∣ T)
    (K : ∀ n, wX_add_98 post (nI a) (nI b) s (nI (ms_fl a)) (nI (ms_fl b)) f_cardCount f_lineCount f_levelNow f_memoryEnd f_sumAt f_productAt f_leftAt f_rightAt f_restAt f_quotientAt f_textAt f_counterAt f_signAt f_haveAt f_zeroAt f_oneAt f_compiled f_codeEnd f_multiplyAt f_divideAt f_printAt f_at f_order f_callDepth f_nextCard f_tally f_halted f_printedCount (n + 1) (nI (da_c z (V a).natAbs (ms_fl b))) (nI (ms_fl b)) a_cardKey a_cardPart a_cardFirst a_cardSecond a_lineWhen a_lineCondition a_lineOp a_lineW a_lineX a_lineY a_lineC (ms_DG (ms_u V b (z : Int))) ms_mark (ms_MN V) a_workAt a_cardAt a_inputAt a_constantAt a_code a_groupAt a_callStack a_indicatorOn a_printedText) : ∀ n k, k ≤ ms_fl b → ms_fl b - k < n → wX_add_98 post (nI a) (nI b) s (nI (ms_fl a)) (nI (ms_fl b)) f_cardCount f_lineCount f_levelNow f_memoryEnd f_sumAt f_productAt f_leftAt f_rightAt f_restAt f_quotientAt f_textAt f_counterAt f_signAt f_haveAt f_zeroAt f_oneAt f_compiled f_codeEnd f_multiplyAt f_divideAt f_printAt f_at f_order f_callDepth f_nextCard f_tally f_halted f_printedCount n (nI (da_c z (V a).natAbs k)) (nI k) a_cardKey a_cardPart a_cardFirst a_cardSecond a_lineWhen a_lineCondition a_lineOp a_lineW a_lineX a_lineY a_lineC (ms_mx b k (ms_DG (ms_u V b (z : Int))) (ms_DG V)) ms_mark (ms_MN V) a_workAt a_cardAt a_inputAt a_constantAt a_code a_groupAt a_callStack a_indicatorOn a_printedText := by
  have ⟨a1, a2, a3, a4⟩ := ms_E3 ha
  have ⟨b1, b2, b3, b4⟩ := ms_E3 hb
  intro n
  induction n with
  | zero => intro k _ h; omega
  | succ n ih =>
    intro k k1 k3
    by_cases hk : k = ms_fl b
    · subst hk
      rw [ms_fin hb]
      exact K n
    · have hh : k < ms_fl b := by omega
      refine br_f (nI_ge hh (by omega)) ?_
      have ei : nI b - nI k = nI (b - k) := pk_sub (by omega)
      have hin : vp_in (nI b - nI k) 240 := by rw [ei]; exact vp_in_nI (by omega) (by omega)
      have ec : (nI b - nI k).toNatClampNeg = b - k := by rw [ei]; exact nI_clamp (by omega)
      have q := da_sub (k := k) hz (Nat.dvd_trans (Nat.pow_dvd_pow 10 (by omega)) hT)
      have q0 := da_lt (V b).natAbs k
      have q1 := da_lt (V a).natAbs k
      have q2 := da_lt z k
      have q3 := da_c1 z (V a).natAbs k
      have q4 := da_c1 z (V a).natAbs (k + 1)
      have edd : ms_mx b k (ms_DG (ms_u V b (z : Int))) (ms_DG V) (nI b - nI k).toNatClampNeg = nI (da_k (V b).natAbs k) := by
        rw [ec, ms_rd hb hb hh (by omega) (Or.inr (Nat.le_refl k)), ms_DGat hb hh]
      refine And.intro hin (xr_da (V := V) ha hna (fun hk => ?_) (by omega) ?_)
      · rw [ms_rd ha hb hk (by omega) (Or.inl hab), ms_DGat ha hk]
      · rw [edd]
        refine nm_e ?_
        by_cases hc : da_k (V a).natAbs k + da_c z (V a).natAbs k ≤ da_k (V b).natAbs k
        · have ⟨t1, t2⟩ := sm_sb0 (da_k (V b).natAbs k) q0 (da_k (V a).natAbs k) q1 (da_c z (V a).natAbs k) (by omega) hc
          have e1 : da_c z (V a).natAbs (k + 1) = 0 := by omega
          refine br_t t1 (And.intro hin (nm_r (e' := ms_mx b (k + 1) (ms_DG (ms_u V b (z : Int))) (ms_DG V)) ?_ (nm_r (nI_1 k) ?_)))
          · rw [t2, ec, sm_nb (by omega)]
            refine ms_mxs (by omega) ?_
            rw [ms_DGat hb hh, ms_us]
            exact congrArg nI (by show da_k (V b).natAbs k - da_k (V a).natAbs k - da_c z (V a).natAbs k = da_k z k; omega)
          · have := ih (k + 1) (by omega) (by omega)
            rw [e1] at this
            exact this
        · have ⟨t1, t2⟩ := sm_sb1 (da_k (V b).natAbs k) q0 (da_k (V a).natAbs k) q1 (da_c z (V a).natAbs k) (by omega) (by omega)
          have e1 : da_c z (V a).natAbs (k + 1) = 1 := by omega
          refine br_f t1 (And.intro hin (nm_r (e' := ms_mx b (k + 1) (ms_DG (ms_u V b (z : Int))) (ms_DG V)) ?_ (nm_r (nI_1 k) ?_)))
          · rw [t2, ec, sm_nb (by omega)]
            refine ms_mxs (by omega) ?_
            rw [ms_DGat hb hh, ms_us]
            exact congrArg nI (by show da_k (V b).natAbs k + 10 - da_k (V a).natAbs k - da_c z (V a).natAbs k = da_k z k; omega)
          · have := ih (k + 1) (by omega) (by omega)
            rw [e1] at this
            exact this
theorem xr_a98z {post : SX → Prop} {z T : Nat} {s : Int32} (ha : ms_isE a = true) (hb : ms_isE b = true) (hab : a ≠ b) (hna : (V a).natAbs < 10 ^ ms_fl a)
    (hz : z + (V a).natAbs = (V b).natAbs + T) (hT : 10 ^ ms_fl b ∣ T)
    (K : ∀ n, wX_add_98 post (nI a) (nI b) s (nI (ms_fl a)) (nI (ms_fl b)) f_cardCount f_lineCount f_levelNow f_memoryEnd f_sumAt f_productAt f_leftAt f_rightAt f_restAt f_quotientAt f_textAt f_counterAt f_signAt f_haveAt f_zeroAt f_oneAt f_compiled f_codeEnd f_multiplyAt f_divideAt f_printAt f_at f_order f_callDepth f_nextCard f_tally f_halted f_printedCount (n + 1) (nI (da_c z (V a).natAbs (ms_fl b))) (nI (ms_fl b)) a_cardKey a_cardPart a_cardFirst a_cardSecond a_lineWhen a_lineCondition a_lineOp a_lineW a_lineX a_lineY a_lineC (ms_DG (ms_u V b (z : Int))) ms_mark (ms_MN V) a_workAt a_cardAt a_inputAt a_constantAt a_code a_groupAt a_callStack a_indicatorOn a_printedText) : wX_add_98 post (nI a) (nI b) s (nI (ms_fl a)) (nI (ms_fl b)) f_cardCount f_lineCount f_levelNow f_memoryEnd f_sumAt f_productAt f_leftAt f_rightAt f_restAt f_quotientAt f_textAt f_counterAt f_signAt f_haveAt f_zeroAt f_oneAt f_compiled f_codeEnd f_multiplyAt f_divideAt f_printAt f_at f_order f_callDepth f_nextCard f_tally f_halted f_printedCount (ms_fl b + 1) 0 0 a_cardKey a_cardPart a_cardFirst a_cardSecond a_lineWhen a_lineCondition a_lineOp a_lineW a_lineX a_lineY a_lineC (ms_DG V) ms_mark (ms_MN V) a_workAt a_cardAt a_inputAt a_constantAt a_code a_groupAt a_callStack a_indicatorOn a_printedText := by
  have := xr_a98 ha hb hab hna hz hT K (ms_fl b + 1) 0 (by omega) (by omega)
  rw [ms_mx0, da_c0] at this
  exact this
/-- the digits alone -/
theorem ms_abs {x : Int} {z : Nat} (h : x.natAbs = z) : ms_DG (ms_u V b (z : Int)) = ms_DG (ms_u V b x) := by
  funext j
  unfold ms_DG ms_u
  by_cases hj : j < 153
  · rw [if_pos hj, if_pos hj]
    by_cases h2 : ms_fe j = b
    · rw [if_pos h2, if_pos h2, h]; rfl
    · rw [if_neg h2, if_neg h2]
  · rw [if_neg hj, if_neg hj]
theorem xr_add {post : SX → Prop} {x : Int} {s : Int32} (ha : ms_isE a = true) (hb : ms_isE b = true) (hab : a ≠ b) (hna : (V a).natAbs < 10 ^ ms_fl a) (hna2 : (V a).natAbs < 10 ^ ms_fl b) (hnb : (V b).natAbs < 10 ^ ms_fl b)
    (hs : s = 0 ∨ s = 1) (hx : x = Int.tmod (V b + (if s = 1 then -((V a).natAbs : Int) else ((V a).natAbs : Int))) ((10 ^ ms_fl b : Nat) : Int))
    (h : post (f_cardCount, f_lineCount, f_levelNow, f_memoryEnd, f_sumAt, f_productAt, f_leftAt, f_rightAt, f_restAt, f_quotientAt, f_textAt, f_counterAt, f_signAt, f_haveAt, f_zeroAt, f_oneAt, f_compiled, f_codeEnd, f_multiplyAt, f_divideAt, f_printAt, f_at, f_order, f_callDepth, f_nextCard, f_tally, f_halted, f_printedCount, a_cardKey, a_cardPart, a_cardFirst, a_cardSecond, a_lineWhen, a_lineCondition, a_lineOp, a_lineW, a_lineX, a_lineY, a_lineC, ms_DG (ms_u V b x), ms_mark, ms_MN (ms_u V b x), a_workAt, a_cardAt, a_inputAt, a_constantAt, a_code, a_groupAt, a_callStack, a_indicatorOn, a_printedText)) : wpX_add post (f_cardCount, f_lineCount, f_levelNow, f_memoryEnd, f_sumAt, f_productAt, f_leftAt, f_rightAt, f_restAt, f_quotientAt, f_textAt, f_counterAt, f_signAt, f_haveAt, f_zeroAt, f_oneAt, f_compiled, f_codeEnd, f_multiplyAt, f_divideAt, f_printAt, f_at, f_order, f_callDepth, f_nextCard, f_tally, f_halted, f_printedCount, a_cardKey, a_cardPart, a_cardFirst, a_cardSecond, a_lineWhen, a_lineCondition, a_lineOp, a_lineW, a_lineX, a_lineY, a_lineC, ms_DG V, ms_mark, ms_MN V, a_workAt, a_cardAt, a_inputAt, a_constantAt, a_code, a_groupAt, a_callStack, a_indicatorOn, a_printedText) (nI a) (nI b) s := by
  have ⟨a1, a2, a3, a4⟩ := ms_E3 ha
  have ⟨b1, b2, b3, b4⟩ := ms_E3 hb
  have ⟨t1, t2⟩ := sm_tm (V b + (if s = 1 then -((V a).natAbs : Int) else ((V a).natAbs : Int))) (10 ^ ms_fl b)
  rw [← hx] at t1 t2
  have hcl : (nI b).toNatClampNeg = b := nI_clamp (by omega)
  have hsb : vp_nar .boolean s = s := by
    rcases hs with rfl | rfl
    · exact sm_t0
    · exact sm_t1
  unfold wpX_add
  dsimp only
  refine xr_len ha (xr_len hb (And.intro (vp_in_nI (by omega) (by omega)) ?_))
  rw [hcl]
  by_cases heq : s = ms_MN V b
  · refine br_t heq ⟨ms_fl b + 1, ?_⟩
    have hh : x.natAbs = ((V b).natAbs + (V a).natAbs) % 10 ^ ms_fl b ∧ (x ≠ 0 → (x < 0 ↔ V b < 0)) := by
      by_cases hv : V b < 0
      · rw [ms_MN1 hb hv] at heq
        rw [if_pos heq] at t1 t2
        rw [t1]
        exact ⟨by congr 1; omega, by omega⟩
      · rw [ms_MN0 hv] at heq
        rw [if_neg (by rw [heq]; decide)] at t1 t2
        rw [t1]
        exact ⟨by congr 1; omega, by omega⟩
    have := xr_a30 ha hb hab hna hh.1 hh.2 h (ms_fl b + 1) 0 (by omega) (by omega)
    rw [ms_mx0, da_c0] at this
    exact this
  · refine br_f heq ⟨ms_fl b + 1, ?_⟩
    have hP := da_pos (ms_fl b)
    -- the sign of the argument
    have harg : (V b < 0 ∧ s = 0) ∨ (¬ V b < 0 ∧ s = 1) := by
      by_cases hv : V b < 0
      · rw [ms_MN1 hb hv] at heq
        rcases hs with z | z
        · exact Or.inl ⟨hv, z⟩
        · exact absurd z heq
      · rw [ms_MN0 hv] at heq
        rcases hs with z | z
        · exact absurd z heq
        · exact Or.inr ⟨hv, z⟩
    have h10 : ¬ (0 : Int32) = 1 := by decide
    by_cases hle : (V a).natAbs ≤ (V b).natAbs
    · have hh : x.natAbs = (V b).natAbs - (V a).natAbs ∧ (x ≠ 0 → (x < 0 ↔ V b < 0)) := by
        rcases harg with ⟨hv, z⟩ | ⟨hv, z⟩
        · rw [z, if_neg h10] at t1 t2
          rw [Nat.mod_eq_of_lt (by omega)] at t1
          omega
        · rw [if_pos z] at t1 t2
          rw [Nat.mod_eq_of_lt (by omega)] at t1
          omega
      have hc : da_c ((V b).natAbs - (V a).natAbs) (V a).natAbs (ms_fl b) = 0 := by
        rw [da_cl (by omega) hna2]
        exact Nat.div_eq_of_lt (by omega)
      refine xr_a98z (z := (V b).natAbs - (V a).natAbs) (T := 0) ha hb hab hna (by omega) (Nat.dvd_zero _) (fun n => ?_)
      refine br_t (nI_le (Nat.le_refl _) (by omega)) ?_
      rw [hc, ms_abs hh.1]
      refine br_t (by decide) ?_
      exact xr_178 hb (by omega) (fun z => ms_MNs (hh.2 z)) (fun z => ms_MNu0 hb (by omega)) h
    · have hh : x.natAbs = (V a).natAbs - (V b).natAbs ∧ (s = if x < 0 then 1 else 0) := by
        rcases harg with ⟨hv, z⟩ | ⟨hv, z⟩
        · rw [z, if_neg h10] at t1 t2
          rw [Nat.mod_eq_of_lt (by omega)] at t1
          exact ⟨by omega, by rw [if_neg (by omega)]; exact z⟩
        · rw [if_pos z] at t1 t2
          rw [Nat.mod_eq_of_lt (by omega)] at t1
          exact ⟨by omega, by rw [if_pos (by omega)]; exact z⟩
      have hc : da_c ((V b).natAbs + 10 ^ ms_fl b - (V a).natAbs) (V a).natAbs (ms_fl b) = 1 := by
        rw [da_cl (by omega) hna2, show (V b).natAbs + 10 ^ ms_fl b - (V a).natAbs + (V a).natAbs = (V b).natAbs + 10 ^ ms_fl b * 1 by omega, Nat.add_mul_div_left _ _ hP, Nat.div_eq_of_lt hnb]
      refine xr_a98z (z := (V b).natAbs + 10 ^ ms_fl b - (V a).natAbs) (T := 10 ^ ms_fl b) ha hb hab hna (by omega) (Nat.dvd_refl _) (fun n => ?_)
      refine br_t (nI_le (Nat.le_refl _) (by omega)) ?_
      rw [hc]
      refine br_f (by decide) ?_
      refine xr_cp (w := (V a).natAbs - (V b).natAbs) hb hsb (by omega) ?_
      rw [ms_abs hh.1]
      have hm : upd (ms_MN V) b s = ms_MN (ms_u V b x) := by rw [hh.2]; exact ms_MNu hb
      refine xr_178 hb (by omega) (fun _ => hm) (fun z => ?_) h
      omega
end XR04
end
section
/-- f at the digits of e above k, else g -/
def ms_my (e l k : Nat) (f g : Nat → Int32) : Nat → Int32 := fun x => if x + k < e ∧ e < x + l then f x else g x
theorem ms_my0 {e l : Nat} {f g : Nat → Int32} : ms_my e l (l - 1) f g = g := by
  funext x
  exact if_neg (by omega)
theorem ms_mys {e l k : Nat} {f g : Nat → Int32} {v : Int32} (hk : k + 1 < l) (hl : l ≤ e + 1) (hv : v = f (e - (k + 1))) : upd (ms_my e l (k + 1) f g) (e - (k + 1)) v = ms_my e l k f g := by
  subst hv
  funext x
  unfold upd ms_my
  by_cases h : x = e - (k + 1)
  · rw [if_pos h, if_pos (by omega), h]
  · rw [if_neg h]
    by_cases h2 : x + (k + 1) < e ∧ e < x + l
    · rw [if_pos h2, if_pos (by omega)]
    · rw [if_neg h2, if_neg (by omega)]
theorem ms_myf {V : Nat → Int} {e : Nat} {x : Int} {v : Int32} (he : ms_isE e = true) (hv : v = ms_DG (ms_u V e x) e) : upd (ms_my e (ms_fl e) 0 (ms_DG (ms_u V e x)) (ms_DG V)) e v = ms_DG (ms_u V e x) := by
  subst hv
  funext j
  unfold upd ms_my
  by_cases h : j = e
  · rw [if_pos h, h]
  · rw [if_neg h]
    by_cases h2 : j + 0 < e ∧ e < j + ms_fl e
    · rw [if_pos h2]
    · rw [if_neg h2]
      exact ms_out he (by omega)
theorem sm_cm {n m k : Nat} (h : n / 10 ^ (k + 1) = m / 10 ^ (k + 1)) (hd : da_k n k < da_k m k) : n < m := by
  have h1 := da_next n k
  have h2 := da_next m k
  rcases Nat.lt_or_ge n m with z | z
  · exact z
  · have := Nat.div_le_div_right (c := 10 ^ k) z
    omega
/-- the order of two values as compare gives it -/
def sm_or (x y : Int) (r : Int32) : Prop := (x < y → r < 0) ∧ (x = y → r = 0) ∧ (y < x → 0 < r)
theorem sm_neg {p : Int32} {m : Nat} (h : p.toInt = -(m : Int)) (hm : m < 2 ^ 31) : -p = nI m := by
  apply Int32.toInt_inj.mp
  rw [Int32.toInt_neg, h, nI_toInt hm, Int.neg_neg]
  exact Int.bmod_eq_of_le (by omega) (by omega)
theorem sm_ngt {m : Nat} (hm : m < 2 ^ 31) : (-nI m).toInt = -(m : Int) := by
  rw [Int32.toInt_neg, nI_toInt hm]
  exact Int.bmod_eq_of_le (by omega) (by omega)
theorem sm_pos {p : Int32} {m : Nat} (h : p.toInt = (m : Int)) (hm : m < 2 ^ 31) : p = nI m := by
  apply Int32.toInt_inj.mp
  rw [h, nI_toInt hm]
section XR05
variable {f_cardCount f_lineCount f_levelNow f_memoryEnd f_sumAt f_productAt f_leftAt f_rightAt f_restAt f_quotientAt f_textAt f_counterAt f_signAt f_haveAt f_zeroAt f_oneAt f_compiled f_codeEnd f_multiplyAt f_divideAt f_printAt f_at f_order f_callDepth f_nextCard f_tally f_halted f_printedCount : Int32} {a_cardKey a_cardPart a_cardFirst a_cardSecond a_lineWhen a_lineCondition a_lineOp a_lineW a_lineX a_lineY a_lineC a_digit a_mark a_minus a_workAt a_cardAt a_inputAt a_constantAt a_code a_groupAt a_callStack a_indicatorOn a_printedText : Nat → Int32}
variable {V : Nat → Int} {e a b : Nat}
theorem xr_sh_lp {post : SX → Prop} {d x : Nat} (he : ms_isE e = true) (hd : d < 10) (hv : 0 ≤ V e) (hx : x = ((V e).natAbs * 10 + d) % 10 ^ ms_fl e)
    (h : post (f_cardCount, f_lineCount, f_levelNow, f_memoryEnd, f_sumAt, f_productAt, f_leftAt, f_rightAt, f_restAt, f_quotientAt, f_textAt, f_counterAt, f_signAt, f_haveAt, f_zeroAt, f_oneAt, f_compiled, f_codeEnd, f_multiplyAt, f_divideAt, f_printAt, f_at, f_order, f_callDepth, f_nextCard, f_tally, f_halted, f_printedCount, a_cardKey, a_cardPart, a_cardFirst, a_cardSecond, a_lineWhen, a_lineCondition, a_lineOp, a_lineW, a_lineX, a_lineY, a_lineC, ms_DG (ms_u V e (x : Int)), ms_mark, ms_MN (ms_u V e (x : Int)), a_workAt, a_cardAt, a_inputAt, a_constantAt, a_code, a_groupAt, a_callStack, a_indicatorOn, a_printedText)) : ∀ k n, k < ms_fl e → k < n → wX_shift_11 post (nI e) (nI d) f_cardCount f_lineCount f_levelNow f_memoryEnd f_sumAt f_productAt f_leftAt f_rightAt f_restAt f_quotientAt f_textAt f_counterAt f_signAt f_haveAt f_zeroAt f_oneAt f_compiled f_codeEnd f_multiplyAt f_divideAt f_printAt f_at f_order f_callDepth f_nextCard f_tally f_halted f_printedCount n (nI k) a_cardKey a_cardPart a_cardFirst a_cardSecond a_lineWhen a_lineCondition a_lineOp a_lineW a_lineX a_lineY a_lineC (ms_my e (ms_fl e) k (ms_DG (ms_u V e (x : Int))) (ms_DG V)) ms_mark (ms_MN V) a_workAt a_cardAt a_inputAt a_constantAt a_code a_groupAt a_callStack a_indicatorOn a_printedText := by
  have ⟨b1, b2, b3, b4⟩ := ms_E3 he
  have hm : ms_MN V = ms_MN (ms_u V e (x : Int)) := ms_MNs (by omega)
  intro k
  induction k with
  | zero =>
    intro n hk hn
    obtain ⟨n, rfl⟩ : ∃ m, n = m + 1 := ⟨n - 1, by omega⟩
    refine br_t (by decide) (And.intro (vp_in_nI (by omega) (by omega)) (nm_r (e' := ms_DG (ms_u V e (x : Int))) ?_ ?_))
    · rw [nI_clamp (by omega), sm_nb (by omega)]
      refine ms_myf he ?_
      rw [ms_DG0 he, ms_us, show ((x : Int)).natAbs = x from rfl, hx, da_mod hk, da_s0 _ _ hd]
    · rw [hm]; exact h
  | succ k ih =>
    intro n hk hn
    obtain ⟨n, rfl⟩ : ∃ m, n = m + 1 := ⟨n - 1, by omega⟩
    have ei : nI e - nI (k + 1) = nI (e - (k + 1)) := pk_sub (by omega)
    have ei1 : nI e - nI (k + 1) + 1 = nI (e - k) := by rw [ei, nI_1]; exact congrArg nI (by omega)
    have ec : (nI e - nI (k + 1)).toNatClampNeg = e - (k + 1) := by rw [ei]; exact nI_clamp (by omega)
    have ec1 : (nI e - nI (k + 1) + 1).toNatClampNeg = e - k := by rw [ei1]; exact nI_clamp (by omega)
    have q := da_lt (V e).natAbs k
    refine br_f (nI_nle (by omega) (by omega)) (And.intro (by rw [ei1]; exact vp_in_nI (by omega) (by omega)) (And.intro (by rw [ei]; exact vp_in_nI (by omega) (by omega)) (nm_r (e' := ms_my e (ms_fl e) k (ms_DG (ms_u V e (x : Int))) (ms_DG V)) ?_ (nm_r (pk_m1 k) (ih n (by omega) (by omega))))))
    rw [ec, ec1]
    have er : ms_my e (ms_fl e) (k + 1) (ms_DG (ms_u V e (x : Int))) (ms_DG V) (e - k) = nI (da_k (V e).natAbs k) := by
      rw [← ms_DGat he (by omega)]
      exact if_neg (by omega)
    rw [er, sm_nb' (by omega)]
    refine ms_mys hk (by omega) ?_
    rw [ms_DGat he hk, ms_us, show ((x : Int)).natAbs = x from rfl, hx, da_mod hk, da_s _ _ _ hd]
theorem xr_sh {post : SX → Prop} {d x : Nat} (he : ms_isE e = true) (hd : d < 10) (hv : 0 ≤ V e) (hx : x = ((V e).natAbs * 10 + d) % 10 ^ ms_fl e)
    (h : post (f_cardCount, f_lineCount, f_levelNow, f_memoryEnd, f_sumAt, f_productAt, f_leftAt, f_rightAt, f_restAt, f_quotientAt, f_textAt, f_counterAt, f_signAt, f_haveAt, f_zeroAt, f_oneAt, f_compiled, f_codeEnd, f_multiplyAt, f_divideAt, f_printAt, f_at, f_order, f_callDepth, f_nextCard, f_tally, f_halted, f_printedCount, a_cardKey, a_cardPart, a_cardFirst, a_cardSecond, a_lineWhen, a_lineCondition, a_lineOp, a_lineW, a_lineX, a_lineY, a_lineC, ms_DG (ms_u V e (x : Int)), ms_mark, ms_MN (ms_u V e (x : Int)), a_workAt, a_cardAt, a_inputAt, a_constantAt, a_code, a_groupAt, a_callStack, a_indicatorOn, a_printedText)) : wpX_shift post (f_cardCount, f_lineCount, f_levelNow, f_memoryEnd, f_sumAt, f_productAt, f_leftAt, f_rightAt, f_restAt, f_quotientAt, f_textAt, f_counterAt, f_signAt, f_haveAt, f_zeroAt, f_oneAt, f_compiled, f_codeEnd, f_multiplyAt, f_divideAt, f_printAt, f_at, f_order, f_callDepth, f_nextCard, f_tally, f_halted, f_printedCount, a_cardKey, a_cardPart, a_cardFirst, a_cardSecond, a_lineWhen, a_lineCondition, a_lineOp, a_lineW, a_lineX, a_lineY, a_lineC, ms_DG V, ms_mark, ms_MN V, a_workAt, a_cardAt, a_inputAt, a_constantAt, a_code, a_groupAt, a_callStack, a_indicatorOn, a_printedText) (nI e) (nI d) := by
  have ⟨b1, b2, b3, b4⟩ := ms_E3 he
  unfold wpX_shift
  dsimp only
  have e1 : nI (ms_fl e) - 1 = nI (ms_fl e - 1) := pk_sub (b := 1) (by omega)
  refine xr_len he (nm_r e1 ⟨ms_fl e + 1, ?_⟩)
  have := xr_sh_lp (V := V) he hd hv hx h (ms_fl e - 1) (ms_fl e + 1) (by omega) (by omega)
  rw [ms_my0] at this
  exact this
/-- compare -/
theorem xr_cm_lp (ha : ms_isE a = true) (hb : ms_isE b = true) (hna : (V a).natAbs < 10 ^ ms_fl a) (hnb : (V b).natAbs < 10 ^ ms_fl b) (hs : V a < 0 ↔ V b < 0) : ∀ k, k ≤ 12 → (V a).natAbs / 10 ^ k = (V b).natAbs / 10 ^ k → ∃ r : Int32, sm_or (V a) (V b) r ∧ ∀ (post : Int32 → Prop) (n : Nat), k < n → post r → wX_compare_63 post (nI a) (nI b) (nI (ms_fl a)) (nI (ms_fl b)) f_cardCount f_lineCount f_levelNow f_memoryEnd f_sumAt f_productAt f_leftAt f_rightAt f_restAt f_quotientAt f_textAt f_counterAt f_signAt f_haveAt f_zeroAt f_oneAt f_compiled f_codeEnd f_multiplyAt f_divideAt f_printAt f_at f_order f_callDepth f_nextCard f_tally f_halted f_printedCount a_cardKey a_cardPart a_cardFirst a_cardSecond a_lineWhen a_lineCondition a_lineOp a_lineW a_lineX a_lineY a_lineC (ms_DG V) ms_mark (ms_MN V) a_workAt a_cardAt a_inputAt a_constantAt a_code a_groupAt a_callStack a_indicatorOn a_printedText n (nI k + (-1)) := by
  have ⟨a1, a2, a3, a4⟩ := ms_E3 ha
  have ⟨b1, b2, b3, b4⟩ := ms_E3 hb
  intro k
  induction k with
  | zero =>
    intro hk he
    rw [Nat.pow_zero, Nat.div_one, Nat.div_one] at he
    refine ⟨0, ⟨by omega, fun _ => rfl, by omega⟩, fun post n hn hp => ?_⟩
    obtain ⟨n, rfl⟩ : ∃ m, n = m + 1 := ⟨n - 1, by omega⟩
    exact br_t (by decide) hp
  | succ k ih =>
    intro hk he
    rw [pk_m1]
    have hd := sm_df (da_k (V a).natAbs k) (da_lt _ k) (da_k (V b).natAbs k) (da_lt _ k)
    have hstep : ∀ (post : Int32 → Prop) (n : Nat) (Q : Prop), (Q → ((nI (da_k (V a).natAbs k) - nI (da_k (V b).natAbs k) = 0 → (∀ x6_217 : Int32, x6_217 = nI k + (-1) → (wX_compare_63 post (nI a) (nI b) (nI (ms_fl a)) (nI (ms_fl b)) f_cardCount f_lineCount f_levelNow f_memoryEnd f_sumAt f_productAt f_leftAt f_rightAt f_restAt f_quotientAt f_textAt f_counterAt f_signAt f_haveAt f_zeroAt f_oneAt f_compiled f_codeEnd f_multiplyAt f_divideAt f_printAt f_at f_order f_callDepth f_nextCard f_tally f_halted f_printedCount a_cardKey a_cardPart a_cardFirst a_cardSecond a_lineWhen a_lineCondition a_lineOp a_lineW a_lineX a_lineY a_lineC (ms_DG V) ms_mark (ms_MN V) a_workAt a_cardAt a_inputAt a_constantAt a_code a_groupAt a_callStack a_indicatorOn a_printedText n x6_217))) ∧ (¬ nI (da_k (V a).natAbs k) - nI (da_k (V b).natAbs k) = 0 → (vp_in (nI a) 240 ∧ ((((ms_MN V (nI a).toNatClampNeg) = 0 → (post (nI (da_k (V a).natAbs k) - nI (da_k (V b).natAbs k)))) ∧ (¬ (ms_MN V (nI a).toNatClampNeg) = 0 → (post (-(nI (da_k (V a).natAbs k) - nI (da_k (V b).natAbs k))))))))))) → Q → wX_compare_63 post (nI a) (nI b) (nI (ms_fl a)) (nI (ms_fl b)) f_cardCount f_lineCount f_levelNow f_memoryEnd f_sumAt f_productAt f_leftAt f_rightAt f_restAt f_quotientAt f_textAt f_counterAt f_signAt f_haveAt f_zeroAt f_oneAt f_compiled f_codeEnd f_multiplyAt f_divideAt f_printAt f_at f_order f_callDepth f_nextCard f_tally f_halted f_printedCount a_cardKey a_cardPart a_cardFirst a_cardSecond a_lineWhen a_lineCondition a_lineOp a_lineW a_lineX a_lineY a_lineC (ms_DG V) ms_mark (ms_MN V) a_workAt a_cardAt a_inputAt a_constantAt a_code a_groupAt a_callStack a_indicatorOn a_printedText (n + 1) (nI k) := by
      intro post n Q hQ q
      refine br_f (nI_pos (by omega)) ?_
      refine xr_da (V := V) ha hna (fun hk => ms_DGat ha hk) (by omega) ?_
      refine xr_da (V := V) hb hnb (fun hk => ms_DGat hb hk) (by omega) ?_
      exact nm_e (hQ q)
    have hia : vp_in (nI a) 240 := vp_in_nI (by omega) (by omega)
    have hca : (nI a).toNatClampNeg = a := nI_clamp (by omega)
    rcases Nat.lt_trichotomy (da_k (V a).natAbs k) (da_k (V b).natAbs k) with z | z | z
    · have hl := sm_cm he z
      by_cases hv : V a < 0
      · refine ⟨-(nI (da_k (V a).natAbs k) - nI (da_k (V b).natAbs k)), ⟨by omega, by omega, fun _ => (hd.2.1 z).2.2⟩, fun post n hn hp => ?_⟩
        obtain ⟨n, rfl⟩ : ∃ m, n = m + 1 := ⟨n - 1, by omega⟩
        refine hstep post n _ (fun q => br_f (hd.2.1 z).2.1 (And.intro hia ?_)) hp
        rw [hca, ms_MN1 ha hv]
        exact br_f (by decide) q
      · refine ⟨nI (da_k (V a).natAbs k) - nI (da_k (V b).natAbs k), ⟨fun _ => (hd.2.1 z).1, by omega, by omega⟩, fun post n hn hp => ?_⟩
        obtain ⟨n, rfl⟩ : ∃ m, n = m + 1 := ⟨n - 1, by omega⟩
        refine hstep post n _ (fun q => br_f (hd.2.1 z).2.1 (And.intro hia ?_)) hp
        rw [hca, ms_MN0 hv]
        exact br_t rfl q
    · obtain ⟨r, hr, hw⟩ := ih (by omega) (by rw [da_next, da_next (V b).natAbs, he, z])
      refine ⟨r, hr, fun post n hn hp => ?_⟩
      obtain ⟨n, rfl⟩ : ∃ m, n = m + 1 := ⟨n - 1, by omega⟩
      exact hstep post n _ (fun q => br_t (hd.1 z) (nm_e (hw post n (by omega) q))) hp
    · have hl := sm_cm he.symm z
      by_cases hv : V a < 0
      · refine ⟨-(nI (da_k (V a).natAbs k) - nI (da_k (V b).natAbs k)), ⟨fun _ => (hd.2.2 z).2.2, by omega, by omega⟩, fun post n hn hp => ?_⟩
        obtain ⟨n, rfl⟩ : ∃ m, n = m + 1 := ⟨n - 1, by omega⟩
        refine hstep post n _ (fun q => br_f (hd.2.2 z).2.1 (And.intro hia ?_)) hp
        rw [hca, ms_MN1 ha hv]
        exact br_f (by decide) q
      · refine ⟨nI (da_k (V a).natAbs k) - nI (da_k (V b).natAbs k), ⟨by omega, by omega, fun _ => (hd.2.2 z).1⟩, fun post n hn hp => ?_⟩
        obtain ⟨n, rfl⟩ : ∃ m, n = m + 1 := ⟨n - 1, by omega⟩
        refine hstep post n _ (fun q => br_f (hd.2.2 z).2.1 (And.intro hia ?_)) hp
        rw [hca, ms_MN0 hv]
        exact br_t rfl q
theorem xr_cm (ha : ms_isE a = true) (hb : ms_isE b = true) (hna : (V a).natAbs < 10 ^ ms_fl a) (hnb : (V b).natAbs < 10 ^ ms_fl b) : ∃ r : Int32, sm_or (V a) (V b) r ∧ ∀ post : Int32 → Prop, post r → wpX_compare post (f_cardCount, f_lineCount, f_levelNow, f_memoryEnd, f_sumAt, f_productAt, f_leftAt, f_rightAt, f_restAt, f_quotientAt, f_textAt, f_counterAt, f_signAt, f_haveAt, f_zeroAt, f_oneAt, f_compiled, f_codeEnd, f_multiplyAt, f_divideAt, f_printAt, f_at, f_order, f_callDepth, f_nextCard, f_tally, f_halted, f_printedCount, a_cardKey, a_cardPart, a_cardFirst, a_cardSecond, a_lineWhen, a_lineCondition, a_lineOp, a_lineW, a_lineX, a_lineY, a_lineC, ms_DG V, ms_mark, ms_MN V, a_workAt, a_cardAt, a_inputAt, a_constantAt, a_code, a_groupAt, a_callStack, a_indicatorOn, a_printedText) (nI a) (nI b) := by
  have ⟨a1, a2, a3, a4⟩ := ms_E3 ha
  have ⟨b1, b2, b3, b4⟩ := ms_E3 hb
  have h10 : ¬ (1 : Int32) = 0 := by decide
  have h01 : ¬ (0 : Int32) = 1 := by decide
  have hca : (nI a).toNatClampNeg = a := nI_clamp (by omega)
  have hcb : (nI b).toNatClampNeg = b := nI_clamp (by omega)
  have ia : vp_in (nI a) 240 := vp_in_nI (by omega) (by omega)
  have ib : vp_in (nI b) 240 := vp_in_nI (by omega) (by omega)
  have hm : ∀ l : Nat, nI l - 1 = nI l + (-1) := fun l => Int32.sub_eq_add_neg _ _
  by_cases hs : V a < 0 ↔ V b < 0
  · have hmn : ms_MN V a = ms_MN V b := by
      by_cases va : V a < 0
      · rw [ms_MN1 ha va, ms_MN1 hb (hs.mp va)]
      · rw [ms_MN0 va, ms_MN0 (fun z => va (hs.mpr z))]
    by_cases hl : ms_fl a ≤ ms_fl b
    · obtain ⟨r, hr, hw⟩ := xr_cm_lp (f_cardCount := f_cardCount) (f_lineCount := f_lineCount) (f_levelNow := f_levelNow) (f_memoryEnd := f_memoryEnd) (f_sumAt := f_sumAt) (f_productAt := f_productAt) (f_leftAt := f_leftAt) (f_rightAt := f_rightAt) (f_restAt := f_restAt) (f_quotientAt := f_quotientAt) (f_textAt := f_textAt) (f_counterAt := f_counterAt) (f_signAt := f_signAt) (f_haveAt := f_haveAt) (f_zeroAt := f_zeroAt) (f_oneAt := f_oneAt) (f_compiled := f_compiled) (f_codeEnd := f_codeEnd) (f_multiplyAt := f_multiplyAt) (f_divideAt := f_divideAt) (f_printAt := f_printAt) (f_at := f_at) (f_order := f_order) (f_callDepth := f_callDepth) (f_nextCard := f_nextCard) (f_tally := f_tally) (f_halted := f_halted) (f_printedCount := f_printedCount) (a_cardKey := a_cardKey) (a_cardPart := a_cardPart) (a_cardFirst := a_cardFirst) (a_cardSecond := a_cardSecond) (a_lineWhen := a_lineWhen) (a_lineCondition := a_lineCondition) (a_lineOp := a_lineOp) (a_lineW := a_lineW) (a_lineX := a_lineX) (a_lineY := a_lineY) (a_lineC := a_lineC) (a_workAt := a_workAt) (a_cardAt := a_cardAt) (a_inputAt := a_inputAt) (a_constantAt := a_constantAt) (a_code := a_code) (a_groupAt := a_groupAt) (a_callStack := a_callStack) (a_indicatorOn := a_indicatorOn) (a_printedText := a_printedText) ha hb hna hnb hs (ms_fl b) b4 (by rw [Nat.div_eq_of_lt (Nat.lt_of_lt_of_le hna (Nat.pow_le_pow_right (by decide) hl)), Nat.div_eq_of_lt hnb])
      refine ⟨r, hr, fun post hp => ?_⟩
      unfold wpX_compare
      dsimp only
      refine And.intro ia (And.intro ib ?_)
      rw [hca, hcb]
      exact br_t hmn (xr_len ha (xr_len hb (br_t (nI_le hl (by omega)) (nm_r (hm _) ⟨20, hw post 20 (by omega) hp⟩))))
    · obtain ⟨r, hr, hw⟩ := xr_cm_lp (f_cardCount := f_cardCount) (f_lineCount := f_lineCount) (f_levelNow := f_levelNow) (f_memoryEnd := f_memoryEnd) (f_sumAt := f_sumAt) (f_productAt := f_productAt) (f_leftAt := f_leftAt) (f_rightAt := f_rightAt) (f_restAt := f_restAt) (f_quotientAt := f_quotientAt) (f_textAt := f_textAt) (f_counterAt := f_counterAt) (f_signAt := f_signAt) (f_haveAt := f_haveAt) (f_zeroAt := f_zeroAt) (f_oneAt := f_oneAt) (f_compiled := f_compiled) (f_codeEnd := f_codeEnd) (f_multiplyAt := f_multiplyAt) (f_divideAt := f_divideAt) (f_printAt := f_printAt) (f_at := f_at) (f_order := f_order) (f_callDepth := f_callDepth) (f_nextCard := f_nextCard) (f_tally := f_tally) (f_halted := f_halted) (f_printedCount := f_printedCount) (a_cardKey := a_cardKey) (a_cardPart := a_cardPart) (a_cardFirst := a_cardFirst) (a_cardSecond := a_cardSecond) (a_lineWhen := a_lineWhen) (a_lineCondition := a_lineCondition) (a_lineOp := a_lineOp) (a_lineW := a_lineW) (a_lineX := a_lineX) (a_lineY := a_lineY) (a_lineC := a_lineC) (a_workAt := a_workAt) (a_cardAt := a_cardAt) (a_inputAt := a_inputAt) (a_constantAt := a_constantAt) (a_code := a_code) (a_groupAt := a_groupAt) (a_callStack := a_callStack) (a_indicatorOn := a_indicatorOn) (a_printedText := a_printedText) ha hb hna hnb hs (ms_fl a) a4 (by rw [Nat.div_eq_of_lt hna, Nat.div_eq_of_lt (Nat.lt_of_lt_of_le hnb (Nat.pow_le_pow_right (by decide) (by omega)))])
      refine ⟨r, hr, fun post hp => ?_⟩
      unfold wpX_compare
      dsimp only
      refine And.intro ia (And.intro ib ?_)
      rw [hca, hcb]
      exact br_t hmn (xr_len ha (xr_len hb (br_f (nI_ge (by omega) (by omega)) (nm_r (hm _) ⟨20, hw post 20 (by omega) hp⟩))))
  · by_cases va : V a < 0
    · have vb : ¬ V b < 0 := by omega
      refine ⟨-1, ⟨fun _ => by decide, by omega, by omega⟩, fun post hp => ?_⟩
      unfold wpX_compare
      dsimp only
      refine And.intro ia (And.intro ib ?_)
      rw [hca, hcb, ms_MN1 ha va, ms_MN0 vb]
      exact br_f h10 (And.intro ia (br_f h10 hp))
    · have vb : V b < 0 := by omega
      refine ⟨1, ⟨by omega, by omega, fun _ => by decide⟩, fun post hp => ?_⟩
      unfold wpX_compare
      dsimp only
      refine And.intro ia (And.intro ib ?_)
      rw [hca, hcb, ms_MN0 va, ms_MN1 hb vb]
      exact br_f h01 (And.intro ia (br_t rfl hp))
/-- setField -/
theorem xr_sf_end {post : SX → Prop} {p : Int32} {x : Int} {D : Nat → Int32} (he : ms_isE e = true) (hp : p.toInt = x)
    (h : post (f_cardCount, f_lineCount, f_levelNow, f_memoryEnd, f_sumAt, f_productAt, f_leftAt, f_rightAt, f_restAt, f_quotientAt, f_textAt, f_counterAt, f_signAt, f_haveAt, f_zeroAt, f_oneAt, f_compiled, f_codeEnd, f_multiplyAt, f_divideAt, f_printAt, f_at, f_order, f_callDepth, f_nextCard, f_tally, f_halted, f_printedCount, a_cardKey, a_cardPart, a_cardFirst, a_cardSecond, a_lineWhen, a_lineCondition, a_lineOp, a_lineW, a_lineX, a_lineY, a_lineC, D, ms_mark, ms_MN (ms_u V e x), a_workAt, a_cardAt, a_inputAt, a_constantAt, a_code, a_groupAt, a_callStack, a_indicatorOn, a_printedText)) (n : Nat) (x3 x4 : Int32) : wX_setField_17 post (nI e) p f_cardCount f_lineCount f_levelNow f_memoryEnd f_sumAt f_productAt f_leftAt f_rightAt f_restAt f_quotientAt f_textAt f_counterAt f_signAt f_haveAt f_zeroAt f_oneAt f_compiled f_codeEnd f_multiplyAt f_divideAt f_printAt f_at f_order f_callDepth f_nextCard f_tally f_halted f_printedCount (n + 1) x3 x4 0 a_cardKey a_cardPart a_cardFirst a_cardSecond a_lineWhen a_lineCondition a_lineOp a_lineW a_lineX a_lineY a_lineC D ms_mark (ms_MN V) a_workAt a_cardAt a_inputAt a_constantAt a_code a_groupAt a_callStack a_indicatorOn a_printedText := by
  have ⟨b1, b2, b3, b4⟩ := ms_E3 he
  have h0 : (0 : Int32).toInt = 0 := by decide
  refine br_t rfl ?_
  by_cases hv : x < 0
  · refine br_f (by rw [Int32.le_iff_toInt_le, h0, hp]; omega) (And.intro (vp_in_nI (by omega) (by omega)) (nm_r ?_ h))
    rw [nI_clamp (by omega), sm_t1]
    exact ms_MNu1 he hv
  · refine br_t (by rw [Int32.le_iff_toInt_le, h0, hp]; omega) (And.intro (vp_in_nI (by omega) (by omega)) (nm_r ?_ h))
    rw [nI_clamp (by omega), sm_t0]
    exact ms_MNu0 he hv
theorem xr_sf_lp {post : SX → Prop} {p : Int32} {x : Int} (he : ms_isE e = true) (hp : p.toInt = x) (hm : x.natAbs < 2 ^ 31)
    (h : post (f_cardCount, f_lineCount, f_levelNow, f_memoryEnd, f_sumAt, f_productAt, f_leftAt, f_rightAt, f_restAt, f_quotientAt, f_textAt, f_counterAt, f_signAt, f_haveAt, f_zeroAt, f_oneAt, f_compiled, f_codeEnd, f_multiplyAt, f_divideAt, f_printAt, f_at, f_order, f_callDepth, f_nextCard, f_tally, f_halted, f_printedCount, a_cardKey, a_cardPart, a_cardFirst, a_cardSecond, a_lineWhen, a_lineCondition, a_lineOp, a_lineW, a_lineX, a_lineY, a_lineC, ms_DG (ms_u V e x), ms_mark, ms_MN (ms_u V e x), a_workAt, a_cardAt, a_inputAt, a_constantAt, a_code, a_groupAt, a_callStack, a_indicatorOn, a_printedText)) : ∀ n k, k < ms_fl e → ms_fl e < k + n → wX_setField_17 post (nI e) p f_cardCount f_lineCount f_levelNow f_memoryEnd f_sumAt f_productAt f_leftAt f_rightAt f_restAt f_quotientAt f_textAt f_counterAt f_signAt f_haveAt f_zeroAt f_oneAt f_compiled f_codeEnd f_multiplyAt f_divideAt f_printAt f_at f_order f_callDepth f_nextCard f_tally f_halted f_printedCount n (nI (x.natAbs / 10 ^ k)) (nI (e - k)) 1 a_cardKey a_cardPart a_cardFirst a_cardSecond a_lineWhen a_lineCondition a_lineOp a_lineW a_lineX a_lineY a_lineC (ms_mx e k (ms_DG (ms_u V e x)) (ms_DG V)) ms_mark (ms_MN V) a_workAt a_cardAt a_inputAt a_constantAt a_code a_groupAt a_callStack a_indicatorOn a_printedText := by
  have ⟨b1, b2, b3, b4⟩ := ms_E3 he
  have h10 : ¬ (1 : Int32) = 0 := by decide
  intro n
  induction n with
  | zero => intro k _ h; omega
  | succ n ih =>
    intro k k1 k3
    have hq : x.natAbs / 10 ^ k < 2 ^ 31 := Nat.lt_of_le_of_lt (Nat.div_le_self _ _) hm
    have hin : vp_in (nI (e - k)) 240 := vp_in_nI (by omega) (by omega)
    have hcl : (nI (e - k)).toNatClampNeg = e - k := nI_clamp (by omega)
    refine br_f h10 (And.intro sm_10 (And.intro hin (nm_r (e' := ms_mx e (k + 1) (ms_DG (ms_u V e x)) (ms_DG V)) ?_ (And.intro sm_10 (nm_r (e' := nI (x.natAbs / 10 ^ (k + 1))) ?_ (And.intro hin ?_))))))
    · rw [sm_rem hq, hcl]
      have := da_lt x.natAbs k
      rw [show x.natAbs / 10 ^ k % 10 = da_k x.natAbs k from rfl, sm_nb (by omega)]
      refine ms_mxs (by omega) ?_
      rw [ms_DGat he k1, ms_us]
    · rw [sm_div hq, da_nx]
    · rw [hcl]
      by_cases hk : k + 1 = ms_fl e
      · have hm := ms_M1 e b1 he
        rw [show e + 1 - ms_fl e = e - k by omega] at hm
        refine br_f (by rw [hm]; exact h10) (nm_e ?_)
        obtain ⟨n, rfl⟩ : ∃ m, n = m + 1 := ⟨n - 1, by omega⟩
        rw [hk, ms_fin he]
        exact xr_sf_end he hp h n _ _
      · have hm := ms_M0 e b1 he k (by omega) (by omega)
        refine br_t hm (nm_r (e' := nI (e - (k + 1))) ?_ (ih (k + 1) (by omega) (by omega)))
        rw [show e - k = (e - (k + 1)) + 1 by omega, pk_m1]
theorem xr_sf {post : SX → Prop} {p : Int32} {x : Int} (he : ms_isE e = true) (hp : p.toInt = x) (hm : x.natAbs < 2 ^ 31)
    (h : post (f_cardCount, f_lineCount, f_levelNow, f_memoryEnd, f_sumAt, f_productAt, f_leftAt, f_rightAt, f_restAt, f_quotientAt, f_textAt, f_counterAt, f_signAt, f_haveAt, f_zeroAt, f_oneAt, f_compiled, f_codeEnd, f_multiplyAt, f_divideAt, f_printAt, f_at, f_order, f_callDepth, f_nextCard, f_tally, f_halted, f_printedCount, a_cardKey, a_cardPart, a_cardFirst, a_cardSecond, a_lineWhen, a_lineCondition, a_lineOp, a_lineW, a_lineX, a_lineY, a_lineC, ms_DG (ms_u V e x), ms_mark, ms_MN (ms_u V e x), a_workAt, a_cardAt, a_inputAt, a_constantAt, a_code, a_groupAt, a_callStack, a_indicatorOn, a_printedText)) : wpX_setField post (f_cardCount, f_lineCount, f_levelNow, f_memoryEnd, f_sumAt, f_productAt, f_leftAt, f_rightAt, f_restAt, f_quotientAt, f_textAt, f_counterAt, f_signAt, f_haveAt, f_zeroAt, f_oneAt, f_compiled, f_codeEnd, f_multiplyAt, f_divideAt, f_printAt, f_at, f_order, f_callDepth, f_nextCard, f_tally, f_halted, f_printedCount, a_cardKey, a_cardPart, a_cardFirst, a_cardSecond, a_lineWhen, a_lineCondition, a_lineOp, a_lineW, a_lineX, a_lineY, a_lineC, ms_DG V, ms_mark, ms_MN V, a_workAt, a_cardAt, a_inputAt, a_constantAt, a_code, a_groupAt, a_callStack, a_indicatorOn, a_printedText) (nI e) p := by
  have ⟨b1, b2, b3, b4⟩ := ms_E3 he
  have h0 : (0 : Int32).toInt = 0 := by decide
  have := xr_sf_lp (V := V) he hp hm h (ms_fl e + 2) 0 (by omega) (by omega)
  rw [ms_mx0, Nat.pow_zero, Nat.div_one, Nat.sub_zero] at this
  unfold wpX_setField
  dsimp only
  by_cases hv : x < 0
  · refine br_f (by rw [Int32.le_iff_toInt_le, h0, hp]; omega) (nm_r (e' := nI x.natAbs) (sm_neg (by omega) hm) ⟨ms_fl e + 2, this⟩)
  · have ep : p = nI x.natAbs := sm_pos (by omega) hm
    refine br_t (by rw [Int32.le_iff_toInt_le, h0, hp]; omega) ⟨ms_fl e + 2, ?_⟩
    rw [← ep] at this
    exact this
/-- fieldValue, at fields of six digits at most -/
theorem xr_fv_end {post : Int32 → Prop} (he : ms_isE e = true) (hn : (V e).natAbs < 2 ^ 31) (h : ∀ r : Int32, r.toInt = V e → post r) (n : Nat) (x3 x4 : Int32) : wX_fieldValue_10 post (nI e) f_cardCount f_lineCount f_levelNow f_memoryEnd f_sumAt f_productAt f_leftAt f_rightAt f_restAt f_quotientAt f_textAt f_counterAt f_signAt f_haveAt f_zeroAt f_oneAt f_compiled f_codeEnd f_multiplyAt f_divideAt f_printAt f_at f_order f_callDepth f_nextCard f_tally f_halted f_printedCount a_cardKey a_cardPart a_cardFirst a_cardSecond a_lineWhen a_lineCondition a_lineOp a_lineW a_lineX a_lineY a_lineC (ms_DG V) ms_mark (ms_MN V) a_workAt a_cardAt a_inputAt a_constantAt a_code a_groupAt a_callStack a_indicatorOn a_printedText (n + 1) (nI (V e).natAbs) x3 x4 0 := by
  have ⟨b1, b2, b3, b4⟩ := ms_E3 he
  refine br_t rfl (And.intro (vp_in_nI (by omega) (by omega)) ?_)
  rw [nI_clamp (by omega)]
  by_cases hv : V e < 0
  · rw [ms_MN1 he hv]
    refine br_f (by decide) (h _ ?_)
    rw [sm_ngt hn]; omega
  · rw [ms_MN0 hv]
    refine br_t rfl (h _ ?_)
    rw [nI_toInt hn]; omega
theorem xr_fv_lp {post : Int32 → Prop} (he : ms_isE e = true) (hl : ms_fl e ≤ 6) (hn : (V e).natAbs < 10 ^ ms_fl e) (h : ∀ r : Int32, r.toInt = V e → post r) : ∀ n k, k < ms_fl e → ms_fl e < k + n → wX_fieldValue_10 post (nI e) f_cardCount f_lineCount f_levelNow f_memoryEnd f_sumAt f_productAt f_leftAt f_rightAt f_restAt f_quotientAt f_textAt f_counterAt f_signAt f_haveAt f_zeroAt f_oneAt f_compiled f_codeEnd f_multiplyAt f_divideAt f_printAt f_at f_order f_callDepth f_nextCard f_tally f_halted f_printedCount a_cardKey a_cardPart a_cardFirst a_cardSecond a_lineWhen a_lineCondition a_lineOp a_lineW a_lineX a_lineY a_lineC (ms_DG V) ms_mark (ms_MN V) a_workAt a_cardAt a_inputAt a_constantAt a_code a_groupAt a_callStack a_indicatorOn a_printedText n (nI ((V e).natAbs % 10 ^ k)) (nI (10 ^ k)) (nI (e - k)) 1 := by
  have ⟨b1, b2, b3, b4⟩ := ms_E3 he
  have h10 : ¬ (1 : Int32) = 0 := by decide
  have hn2 : (V e).natAbs < 2 ^ 31 := Nat.lt_of_lt_of_le hn (Nat.le_trans (Nat.pow_le_pow_right (by decide) hl) (by decide))
  intro n
  induction n with
  | zero => intro k _ h; omega
  | succ n ih =>
    intro k k1 k3
    have hin : vp_in (nI (e - k)) 240 := vp_in_nI (by omega) (by omega)
    have hcl : (nI (e - k)).toNatClampNeg = e - k := nI_clamp (by omega)
    refine br_f h10 (And.intro hin (nm_r (e' := nI ((V e).natAbs % 10 ^ (k + 1))) ?_ (nm_r (e' := nI (10 ^ (k + 1))) ?_ (And.intro hin ?_))))
    · rw [hcl, ms_DGat he k1, pk_mul, nI_add, da_sum]
    · rw [Nat.pow_succ]; exact pk_mul (10 ^ k) 10
    · rw [hcl]
      by_cases hk : k + 1 = ms_fl e
      · have hm := ms_M1 e b1 he
        rw [show e + 1 - ms_fl e = e - k by omega] at hm
        refine br_f (by rw [hm]; exact h10) (nm_e ?_)
        obtain ⟨n, rfl⟩ : ∃ m, n = m + 1 := ⟨n - 1, by omega⟩
        rw [hk, Nat.mod_eq_of_lt hn]
        exact xr_fv_end he hn2 h n _ _
      · have hm := ms_M0 e b1 he k (by omega) (by omega)
        refine br_t hm (nm_r (e' := nI (e - (k + 1))) ?_ (ih (k + 1) (by omega) (by omega)))
        rw [show e - k = (e - (k + 1)) + 1 by omega, pk_m1]
theorem xr_fv {post : Int32 → Prop} (he : ms_isE e = true) (hl : ms_fl e ≤ 6) (hn : (V e).natAbs < 10 ^ ms_fl e) (h : ∀ r : Int32, r.toInt = V e → post r) : wpX_fieldValue post (f_cardCount, f_lineCount, f_levelNow, f_memoryEnd, f_sumAt, f_productAt, f_leftAt, f_rightAt, f_restAt, f_quotientAt, f_textAt, f_counterAt, f_signAt, f_haveAt, f_zeroAt, f_oneAt, f_compiled, f_codeEnd, f_multiplyAt, f_divideAt, f_printAt, f_at, f_order, f_callDepth, f_nextCard, f_tally, f_halted, f_printedCount, a_cardKey, a_cardPart, a_cardFirst, a_cardSecond, a_lineWhen, a_lineCondition, a_lineOp, a_lineW, a_lineX, a_lineY, a_lineC, ms_DG V, ms_mark, ms_MN V, a_workAt, a_cardAt, a_inputAt, a_constantAt, a_code, a_groupAt, a_callStack, a_indicatorOn, a_printedText) (nI e) := by
  have ⟨b1, b2, b3, b4⟩ := ms_E3 he
  have := xr_fv_lp (f_cardCount := f_cardCount) (f_lineCount := f_lineCount) (f_levelNow := f_levelNow) (f_memoryEnd := f_memoryEnd) (f_sumAt := f_sumAt) (f_productAt := f_productAt) (f_leftAt := f_leftAt) (f_rightAt := f_rightAt) (f_restAt := f_restAt) (f_quotientAt := f_quotientAt) (f_textAt := f_textAt) (f_counterAt := f_counterAt) (f_signAt := f_signAt) (f_haveAt := f_haveAt) (f_zeroAt := f_zeroAt) (f_oneAt := f_oneAt) (f_compiled := f_compiled) (f_codeEnd := f_codeEnd) (f_multiplyAt := f_multiplyAt) (f_divideAt := f_divideAt) (f_printAt := f_printAt) (f_at := f_at) (f_order := f_order) (f_callDepth := f_callDepth) (f_nextCard := f_nextCard) (f_tally := f_tally) (f_halted := f_halted) (f_printedCount := f_printedCount) (a_cardKey := a_cardKey) (a_cardPart := a_cardPart) (a_cardFirst := a_cardFirst) (a_cardSecond := a_cardSecond) (a_lineWhen := a_lineWhen) (a_lineCondition := a_lineCondition) (a_lineOp := a_lineOp) (a_lineW := a_lineW) (a_lineX := a_lineX) (a_lineY := a_lineY) (a_lineC := a_lineC) (a_workAt := a_workAt) (a_cardAt := a_cardAt) (a_inputAt := a_inputAt) (a_constantAt := a_constantAt) (a_code := a_code) (a_groupAt := a_groupAt) (a_callStack := a_callStack) (a_indicatorOn := a_indicatorOn) (a_printedText := a_printedText) (V := V) he hl hn h (ms_fl e + 2) 0 (by omega) (by omega)
  rw [Nat.pow_zero, Nat.mod_one, Nat.sub_zero] at this
  exact ⟨ms_fl e + 2, this⟩
end XR05
end
section
/-! the one form of X's state; the machine's run -/
def ms_wk : Nat → Int32 := upd (upd (upd (upd (upd (upd (fun _ => 0) 0 (nI 5)) 1 (nI 11)) 2 (nI 17)) 3 (nI 23)) 4 (nI 29)) 5 (nI 35)
def ms_ca : Nat → Int32 := upd (upd (upd (upd (fun _ => 0) 0 (nI 37)) 1 (nI 41)) 2 (nI 46)) 3 (nI 52)
def ms_in : Nat → Int32 := upd (upd (upd (upd (fun _ => 0) 0 (nI 39)) 1 (nI 43)) 2 (nI 49)) 3 (nI 55)
def ms_ct : Nat → Int32 := fun i => if i < 14 then nI (58 + 3 * i) else 0
abbrev xs_B : Type := Int32 × Int32 × Int32 × Int32 × Int32 × Int32 × Int32 × Int32 × (Nat → Int32) × (Nat → Int32) × (Nat → Int32) × (Nat → Int32) × (Nat → Int32) × (Nat → Int32) × (Nat → Int32) × (Nat → Int32) × (Nat → Int32) × (Nat → Int32) × (Nat → Int32) × (Nat → Int32) × (Nat → Int32)
def xb_cc (B : xs_B) : Int32 := B.1
def xb_ak (B : xs_B) : Nat → Int32 := B.2.2.2.2.2.2.2.2.1
def xb_ap (B : xs_B) : Nat → Int32 := B.2.2.2.2.2.2.2.2.2.1
def xb_af (B : xs_B) : Nat → Int32 := B.2.2.2.2.2.2.2.2.2.2.1
def xb_as (B : xs_B) : Nat → Int32 := B.2.2.2.2.2.2.2.2.2.2.2.1
def xb_cd (B : xs_B) : Nat → Int32 := B.2.2.2.2.2.2.2.2.2.2.2.2.2.2.2.2.2.2.2.1
def xs_T (B : xs_B) (pt : Nat) (od : Int32) (dp nc ta : Nat) (ha : Int32) (pc : Nat) (V : Nat → Int) (st on tx : Nat → Int32) : SX :=
  (xb_cc B, B.2.1, B.2.2.1, 153, 104, 116, 122, 128, 135, 141, 147, 148, 149, 150, 151, 152, B.2.2.2.1, B.2.2.2.2.1, B.2.2.2.2.2.1, B.2.2.2.2.2.2.1, B.2.2.2.2.2.2.2.1, nI pt, od, nI dp, nI nc, nI ta, ha, nI pc, xb_ak B, xb_ap B, xb_af B, xb_as B, B.2.2.2.2.2.2.2.2.2.2.2.2.1, B.2.2.2.2.2.2.2.2.2.2.2.2.2.1, B.2.2.2.2.2.2.2.2.2.2.2.2.2.2.1, B.2.2.2.2.2.2.2.2.2.2.2.2.2.2.2.1, B.2.2.2.2.2.2.2.2.2.2.2.2.2.2.2.2.1, B.2.2.2.2.2.2.2.2.2.2.2.2.2.2.2.2.2.1, B.2.2.2.2.2.2.2.2.2.2.2.2.2.2.2.2.2.2.1, ms_DG V, ms_mark, ms_MN V, ms_wk, ms_ca, ms_in, ms_ct, xb_cd B, B.2.2.2.2.2.2.2.2.2.2.2.2.2.2.2.2.2.2.2.2, st, on, tx)
def xs_R (post : Int32 → SX → Prop) (n : Nat) (u : SX) : Prop := wX_run_139 post n u.1 u.2.1 u.2.2.1 u.2.2.2.1 u.2.2.2.2.1 u.2.2.2.2.2.1 u.2.2.2.2.2.2.1 u.2.2.2.2.2.2.2.1 u.2.2.2.2.2.2.2.2.1 u.2.2.2.2.2.2.2.2.2.1 u.2.2.2.2.2.2.2.2.2.2.1 u.2.2.2.2.2.2.2.2.2.2.2.1 u.2.2.2.2.2.2.2.2.2.2.2.2.1 u.2.2.2.2.2.2.2.2.2.2.2.2.2.1 u.2.2.2.2.2.2.2.2.2.2.2.2.2.2.1 u.2.2.2.2.2.2.2.2.2.2.2.2.2.2.2.1 u.2.2.2.2.2.2.2.2.2.2.2.2.2.2.2.2.1 u.2.2.2.2.2.2.2.2.2.2.2.2.2.2.2.2.2.1 u.2.2.2.2.2.2.2.2.2.2.2.2.2.2.2.2.2.2.1 u.2.2.2.2.2.2.2.2.2.2.2.2.2.2.2.2.2.2.2.1 u.2.2.2.2.2.2.2.2.2.2.2.2.2.2.2.2.2.2.2.2.1 u.2.2.2.2.2.2.2.2.2.2.2.2.2.2.2.2.2.2.2.2.2.1 u.2.2.2.2.2.2.2.2.2.2.2.2.2.2.2.2.2.2.2.2.2.2.1 u.2.2.2.2.2.2.2.2.2.2.2.2.2.2.2.2.2.2.2.2.2.2.2.1 u.2.2.2.2.2.2.2.2.2.2.2.2.2.2.2.2.2.2.2.2.2.2.2.2.1 u.2.2.2.2.2.2.2.2.2.2.2.2.2.2.2.2.2.2.2.2.2.2.2.2.2.1 u.2.2.2.2.2.2.2.2.2.2.2.2.2.2.2.2.2.2.2.2.2.2.2.2.2.2.1 u.2.2.2.2.2.2.2.2.2.2.2.2.2.2.2.2.2.2.2.2.2.2.2.2.2.2.2.1 u.2.2.2.2.2.2.2.2.2.2.2.2.2.2.2.2.2.2.2.2.2.2.2.2.2.2.2.2.1 u.2.2.2.2.2.2.2.2.2.2.2.2.2.2.2.2.2.2.2.2.2.2.2.2.2.2.2.2.2.1 u.2.2.2.2.2.2.2.2.2.2.2.2.2.2.2.2.2.2.2.2.2.2.2.2.2.2.2.2.2.2.1 u.2.2.2.2.2.2.2.2.2.2.2.2.2.2.2.2.2.2.2.2.2.2.2.2.2.2.2.2.2.2.2.1 u.2.2.2.2.2.2.2.2.2.2.2.2.2.2.2.2.2.2.2.2.2.2.2.2.2.2.2.2.2.2.2.2.1 u.2.2.2.2.2.2.2.2.2.2.2.2.2.2.2.2.2.2.2.2.2.2.2.2.2.2.2.2.2.2.2.2.2.1 u.2.2.2.2.2.2.2.2.2.2.2.2.2.2.2.2.2.2.2.2.2.2.2.2.2.2.2.2.2.2.2.2.2.2.1 u.2.2.2.2.2.2.2.2.2.2.2.2.2.2.2.2.2.2.2.2.2.2.2.2.2.2.2.2.2.2.2.2.2.2.2.1 u.2.2.2.2.2.2.2.2.2.2.2.2.2.2.2.2.2.2.2.2.2.2.2.2.2.2.2.2.2.2.2.2.2.2.2.2.1 u.2.2.2.2.2.2.2.2.2.2.2.2.2.2.2.2.2.2.2.2.2.2.2.2.2.2.2.2.2.2.2.2.2.2.2.2.2.1 u.2.2.2.2.2.2.2.2.2.2.2.2.2.2.2.2.2.2.2.2.2.2.2.2.2.2.2.2.2.2.2.2.2.2.2.2.2.2.1 u.2.2.2.2.2.2.2.2.2.2.2.2.2.2.2.2.2.2.2.2.2.2.2.2.2.2.2.2.2.2.2.2.2.2.2.2.2.2.2.1 u.2.2.2.2.2.2.2.2.2.2.2.2.2.2.2.2.2.2.2.2.2.2.2.2.2.2.2.2.2.2.2.2.2.2.2.2.2.2.2.2.1 u.2.2.2.2.2.2.2.2.2.2.2.2.2.2.2.2.2.2.2.2.2.2.2.2.2.2.2.2.2.2.2.2.2.2.2.2.2.2.2.2.2.1 u.2.2.2.2.2.2.2.2.2.2.2.2.2.2.2.2.2.2.2.2.2.2.2.2.2.2.2.2.2.2.2.2.2.2.2.2.2.2.2.2.2.2.1 u.2.2.2.2.2.2.2.2.2.2.2.2.2.2.2.2.2.2.2.2.2.2.2.2.2.2.2.2.2.2.2.2.2.2.2.2.2.2.2.2.2.2.2.1 u.2.2.2.2.2.2.2.2.2.2.2.2.2.2.2.2.2.2.2.2.2.2.2.2.2.2.2.2.2.2.2.2.2.2.2.2.2.2.2.2.2.2.2.2.1 u.2.2.2.2.2.2.2.2.2.2.2.2.2.2.2.2.2.2.2.2.2.2.2.2.2.2.2.2.2.2.2.2.2.2.2.2.2.2.2.2.2.2.2.2.2.1 u.2.2.2.2.2.2.2.2.2.2.2.2.2.2.2.2.2.2.2.2.2.2.2.2.2.2.2.2.2.2.2.2.2.2.2.2.2.2.2.2.2.2.2.2.2.2.1 u.2.2.2.2.2.2.2.2.2.2.2.2.2.2.2.2.2.2.2.2.2.2.2.2.2.2.2.2.2.2.2.2.2.2.2.2.2.2.2.2.2.2.2.2.2.2.2.1 u.2.2.2.2.2.2.2.2.2.2.2.2.2.2.2.2.2.2.2.2.2.2.2.2.2.2.2.2.2.2.2.2.2.2.2.2.2.2.2.2.2.2.2.2.2.2.2.2.1 u.2.2.2.2.2.2.2.2.2.2.2.2.2.2.2.2.2.2.2.2.2.2.2.2.2.2.2.2.2.2.2.2.2.2.2.2.2.2.2.2.2.2.2.2.2.2.2.2.2.1 u.2.2.2.2.2.2.2.2.2.2.2.2.2.2.2.2.2.2.2.2.2.2.2.2.2.2.2.2.2.2.2.2.2.2.2.2.2.2.2.2.2.2.2.2.2.2.2.2.2.2
def xs_EX (post : Int32 → SX → Prop) (u : SX) : Prop := ∃ n, xs_R post n u
def xs_G (post : Int32 → SX → Prop) (B : xs_B) (pt : Nat) (od : Int32) (dp nc ta pc : Nat) (V : Nat → Int) (st on tx : Nat → Int32) : Prop := xs_EX post (xs_T B pt od dp nc ta 0 pc V st on tx)
def en_w (w a b : Nat) : Int32 := nI (w * 1048576 + a * 1024 + b)
theorem en_1 {w a b : Nat} (hw : w < 32) (ha : a < 1024) (hb : b < 1024) : en_w w a b >>> ((20 : Int32) &&& 31) = nI w := by
  unfold en_w
  rw [pk_shrN (by omega) _ 20 (by decide)]
  exact congrArg nI (by omega)
theorem en_2 {w a b : Nat} (hw : w < 32) (ha : a < 1024) (hb : b < 1024) : (en_w w a b >>> ((10 : Int32) &&& 31)) &&& 1023 = nI a := by
  unfold en_w
  rw [pk_shrN (by omega) _ 10 (by decide), pk_andN (by omega) 10 (by decide)]
  exact congrArg nI (by omega)
theorem en_3 {w a b : Nat} (hw : w < 32) (ha : a < 1024) (hb : b < 1024) : en_w w a b &&& 1023 = nI b := by
  unfold en_w
  rw [pk_andN (by omega) 10 (by decide)]
  exact congrArg nI (by omega)
section XS06
variable {f_cardCount f_lineCount f_levelNow f_memoryEnd f_sumAt f_productAt f_leftAt f_rightAt f_restAt f_quotientAt f_textAt f_counterAt f_signAt f_haveAt f_zeroAt f_oneAt f_compiled f_codeEnd f_multiplyAt f_divideAt f_printAt f_at f_order f_callDepth f_nextCard f_tally f_halted f_printedCount : Int32} {a_cardKey a_cardPart a_cardFirst a_cardSecond a_lineWhen a_lineCondition a_lineOp a_lineW a_lineX a_lineY a_lineC a_digit a_mark a_minus a_workAt a_cardAt a_inputAt a_constantAt a_code a_groupAt a_callStack a_indicatorOn a_printedText : Nat → Int32}
theorem xs_step {post : Int32 → SX → Prop} {u' : SX} (hh : f_halted = 0) (hs : ∀ P : SX → Prop, P u' → wpX_step P (f_cardCount, f_lineCount, f_levelNow, f_memoryEnd, f_sumAt, f_productAt, f_leftAt, f_rightAt, f_restAt, f_quotientAt, f_textAt, f_counterAt, f_signAt, f_haveAt, f_zeroAt, f_oneAt, f_compiled, f_codeEnd, f_multiplyAt, f_divideAt, f_printAt, f_at, f_order, f_callDepth, f_nextCard, f_tally, f_halted, f_printedCount, a_cardKey, a_cardPart, a_cardFirst, a_cardSecond, a_lineWhen, a_lineCondition, a_lineOp, a_lineW, a_lineX, a_lineY, a_lineC, a_digit, a_mark, a_minus, a_workAt, a_cardAt, a_inputAt, a_constantAt, a_code, a_groupAt, a_callStack, a_indicatorOn, a_printedText)) (h : xs_EX post u') : xs_EX post (f_cardCount, f_lineCount, f_levelNow, f_memoryEnd, f_sumAt, f_productAt, f_leftAt, f_rightAt, f_restAt, f_quotientAt, f_textAt, f_counterAt, f_signAt, f_haveAt, f_zeroAt, f_oneAt, f_compiled, f_codeEnd, f_multiplyAt, f_divideAt, f_printAt, f_at, f_order, f_callDepth, f_nextCard, f_tally, f_halted, f_printedCount, a_cardKey, a_cardPart, a_cardFirst, a_cardSecond, a_lineWhen, a_lineCondition, a_lineOp, a_lineW, a_lineX, a_lineY, a_lineC, a_digit, a_mark, a_minus, a_workAt, a_cardAt, a_inputAt, a_constantAt, a_code, a_groupAt, a_callStack, a_indicatorOn, a_printedText) := by
  obtain ⟨n, h⟩ := h
  exact ⟨n + 1, br_t hh (hs (xs_R post n) h)⟩
theorem xs_halt {post : Int32 → SX → Prop} (hh : ¬ f_halted = 0) (h : post f_tally (f_cardCount, f_lineCount, f_levelNow, f_memoryEnd, f_sumAt, f_productAt, f_leftAt, f_rightAt, f_restAt, f_quotientAt, f_textAt, f_counterAt, f_signAt, f_haveAt, f_zeroAt, f_oneAt, f_compiled, f_codeEnd, f_multiplyAt, f_divideAt, f_printAt, f_at, f_order, f_callDepth, f_nextCard, f_tally, f_halted, f_printedCount, a_cardKey, a_cardPart, a_cardFirst, a_cardSecond, a_lineWhen, a_lineCondition, a_lineOp, a_lineW, a_lineX, a_lineY, a_lineC, a_digit, a_mark, a_minus, a_workAt, a_cardAt, a_inputAt, a_constantAt, a_code, a_groupAt, a_callStack, a_indicatorOn, a_printedText)) : xs_EX post (f_cardCount, f_lineCount, f_levelNow, f_memoryEnd, f_sumAt, f_productAt, f_leftAt, f_rightAt, f_restAt, f_quotientAt, f_textAt, f_counterAt, f_signAt, f_haveAt, f_zeroAt, f_oneAt, f_compiled, f_codeEnd, f_multiplyAt, f_divideAt, f_printAt, f_at, f_order, f_callDepth, f_nextCard, f_tally, f_halted, f_printedCount, a_cardKey, a_cardPart, a_cardFirst, a_cardSecond, a_lineWhen, a_lineCondition, a_lineOp, a_lineW, a_lineX, a_lineY, a_lineC, a_digit, a_mark, a_minus, a_workAt, a_cardAt, a_inputAt, a_constantAt, a_code, a_groupAt, a_callStack, a_indicatorOn, a_printedText) :=
  ⟨1, br_f hh h⟩
theorem sl_75 {P : SX → Prop} {w a b p : Nat} (hc : a_code p = en_w w a b) (hp : p < 420) (hw : (1 ≤ w ∧ w < 5) ∨ (10 < w ∧ w < 32)) (ha : a < 1024) (hb : b < 1024) (h : wX_step_75 P (nI w) (nI a) (nI b) f_cardCount f_lineCount f_levelNow f_memoryEnd f_sumAt f_productAt f_leftAt f_rightAt f_restAt f_quotientAt f_textAt f_counterAt f_signAt f_haveAt f_zeroAt f_oneAt f_compiled f_codeEnd f_multiplyAt f_divideAt f_printAt (nI (p + 1)) f_order f_callDepth f_nextCard f_tally f_halted f_printedCount a_cardKey a_cardPart a_cardFirst a_cardSecond a_lineWhen a_lineCondition a_lineOp a_lineW a_lineX a_lineY a_lineC a_digit a_mark a_minus a_workAt a_cardAt a_inputAt a_constantAt a_code a_groupAt a_callStack a_indicatorOn a_printedText) : wpX_step P (f_cardCount, f_lineCount, f_levelNow, f_memoryEnd, f_sumAt, f_productAt, f_leftAt, f_rightAt, f_restAt, f_quotientAt, f_textAt, f_counterAt, f_signAt, f_haveAt, f_zeroAt, f_oneAt, f_compiled, f_codeEnd, f_multiplyAt, f_divideAt, f_printAt, nI p, f_order, f_callDepth, f_nextCard, f_tally, f_halted, f_printedCount, a_cardKey, a_cardPart, a_cardFirst, a_cardSecond, a_lineWhen, a_lineCondition, a_lineOp, a_lineW, a_lineX, a_lineY, a_lineC, a_digit, a_mark, a_minus, a_workAt, a_cardAt, a_inputAt, a_constantAt, a_code, a_groupAt, a_callStack, a_indicatorOn, a_printedText) := by
  have hcl : (nI p).toNatClampNeg = p := nI_clamp (by omega)
  have hcc : a_code (nI p).toNatClampNeg = en_w w a b := by rw [hcl]; exact hc
  have hw32 : w < 32 := by omega
  refine And.intro (vp_in_nI (by omega) (by omega)) (nm_r hcc (nm_r (nI_1 p) (nm_r (en_1 hw32 ha hb) (nm_r (en_2 hw32 ha hb) (nm_r (en_3 hw32 ha hb) (br_f (nI_ne0 (by omega) (by omega)) ?_))))))
  refine pk_lt w 5 (fun _ => h) (fun h5 => ?_)
  exact br_t (nI_lt (a := 10) (by omega) (by omega)) h
theorem sl_br {P : SX → Prop} {q : Int32} {w a b p : Nat} (hc : a_code p = en_w w a b) (hp : p < 420) (hw : 5 ≤ w ∧ w ≤ 10) (ha : a < 1024) (hb : b < 1024) (h : ∀ Q : SX → Prop, Q (f_cardCount, f_lineCount, f_levelNow, f_memoryEnd, f_sumAt, f_productAt, f_leftAt, f_rightAt, f_restAt, f_quotientAt, f_textAt, f_counterAt, f_signAt, f_haveAt, f_zeroAt, f_oneAt, f_compiled, f_codeEnd, f_multiplyAt, f_divideAt, f_printAt, q, f_order, f_callDepth, f_nextCard, f_tally, f_halted, f_printedCount, a_cardKey, a_cardPart, a_cardFirst, a_cardSecond, a_lineWhen, a_lineCondition, a_lineOp, a_lineW, a_lineX, a_lineY, a_lineC, a_digit, a_mark, a_minus, a_workAt, a_cardAt, a_inputAt, a_constantAt, a_code, a_groupAt, a_callStack, a_indicatorOn, a_printedText) → wpX_branch Q (f_cardCount, f_lineCount, f_levelNow, f_memoryEnd, f_sumAt, f_productAt, f_leftAt, f_rightAt, f_restAt, f_quotientAt, f_textAt, f_counterAt, f_signAt, f_haveAt, f_zeroAt, f_oneAt, f_compiled, f_codeEnd, f_multiplyAt, f_divideAt, f_printAt, nI (p + 1), f_order, f_callDepth, f_nextCard, f_tally, f_halted, f_printedCount, a_cardKey, a_cardPart, a_cardFirst, a_cardSecond, a_lineWhen, a_lineCondition, a_lineOp, a_lineW, a_lineX, a_lineY, a_lineC, a_digit, a_mark, a_minus, a_workAt, a_cardAt, a_inputAt, a_constantAt, a_code, a_groupAt, a_callStack, a_indicatorOn, a_printedText) (nI w) (nI a) (nI b)) (hP : P (f_cardCount, f_lineCount, f_levelNow, f_memoryEnd, f_sumAt, f_productAt, f_leftAt, f_rightAt, f_restAt, f_quotientAt, f_textAt, f_counterAt, f_signAt, f_haveAt, f_zeroAt, f_oneAt, f_compiled, f_codeEnd, f_multiplyAt, f_divideAt, f_printAt, q, f_order, f_callDepth, f_nextCard, f_tally, f_halted, f_printedCount, a_cardKey, a_cardPart, a_cardFirst, a_cardSecond, a_lineWhen, a_lineCondition, a_lineOp, a_lineW, a_lineX, a_lineY, a_lineC, a_digit, a_mark, a_minus, a_workAt, a_cardAt, a_inputAt, a_constantAt, a_code, a_groupAt, a_callStack, a_indicatorOn, a_printedText)) : wpX_step P (f_cardCount, f_lineCount, f_levelNow, f_memoryEnd, f_sumAt, f_productAt, f_leftAt, f_rightAt, f_restAt, f_quotientAt, f_textAt, f_counterAt, f_signAt, f_haveAt, f_zeroAt, f_oneAt, f_compiled, f_codeEnd, f_multiplyAt, f_divideAt, f_printAt, nI p, f_order, f_callDepth, f_nextCard, f_tally, f_halted, f_printedCount, a_cardKey, a_cardPart, a_cardFirst, a_cardSecond, a_lineWhen, a_lineCondition, a_lineOp, a_lineW, a_lineX, a_lineY, a_lineC, a_digit, a_mark, a_minus, a_workAt, a_cardAt, a_inputAt, a_constantAt, a_code, a_groupAt, a_callStack, a_indicatorOn, a_printedText) := by
  have hcl : (nI p).toNatClampNeg = p := nI_clamp (by omega)
  have hcc : a_code (nI p).toNatClampNeg = en_w w a b := by rw [hcl]; exact hc
  have hw32 : w < 32 := by omega
  refine And.intro (vp_in_nI (by omega) (by omega)) (nm_r hcc (nm_r (nI_1 p) (nm_r (en_1 hw32 ha hb) (nm_r (en_2 hw32 ha hb) (nm_r (en_3 hw32 ha hb) (br_f (nI_ne0 (by omega) (by omega)) ?_))))))
  exact br_f (nI_nlt (b := 5) (by omega) (by omega)) (br_f (nI_nlt (b := w) (a := 10) (by omega) (by omega)) (h _ hP))
theorem sl_hl {P : SX → Prop} {p : Nat} (hc : a_code p = en_w 0 0 0) (hp : p < 420) (h : P (f_cardCount, f_lineCount, f_levelNow, f_memoryEnd, f_sumAt, f_productAt, f_leftAt, f_rightAt, f_restAt, f_quotientAt, f_textAt, f_counterAt, f_signAt, f_haveAt, f_zeroAt, f_oneAt, f_compiled, f_codeEnd, f_multiplyAt, f_divideAt, f_printAt, nI (p + 1), f_order, f_callDepth, f_nextCard, f_tally, 1, f_printedCount, a_cardKey, a_cardPart, a_cardFirst, a_cardSecond, a_lineWhen, a_lineCondition, a_lineOp, a_lineW, a_lineX, a_lineY, a_lineC, a_digit, a_mark, a_minus, a_workAt, a_cardAt, a_inputAt, a_constantAt, a_code, a_groupAt, a_callStack, a_indicatorOn, a_printedText)) : wpX_step P (f_cardCount, f_lineCount, f_levelNow, f_memoryEnd, f_sumAt, f_productAt, f_leftAt, f_rightAt, f_restAt, f_quotientAt, f_textAt, f_counterAt, f_signAt, f_haveAt, f_zeroAt, f_oneAt, f_compiled, f_codeEnd, f_multiplyAt, f_divideAt, f_printAt, nI p, f_order, f_callDepth, f_nextCard, f_tally, f_halted, f_printedCount, a_cardKey, a_cardPart, a_cardFirst, a_cardSecond, a_lineWhen, a_lineCondition, a_lineOp, a_lineW, a_lineX, a_lineY, a_lineC, a_digit, a_mark, a_minus, a_workAt, a_cardAt, a_inputAt, a_constantAt, a_code, a_groupAt, a_callStack, a_indicatorOn, a_printedText) := by
  have hcl : (nI p).toNatClampNeg = p := nI_clamp (by omega)
  have hcc : a_code (nI p).toNatClampNeg = en_w 0 0 0 := by rw [hcl]; exact hc
  exact And.intro (vp_in_nI (by omega) (by omega)) (nm_r hcc (nm_r (nI_1 p) (nm_r (en_1 (by omega) (by omega) (by omega)) (nm_r (en_2 (by omega) (by omega) (by omega)) (nm_r (en_3 (by omega) (by omega) (by omega)) (br_t rfl h))))))
theorem xr_b5 {Q : SX → Prop} {x2 x3 : Int32} (h : Q (f_cardCount, f_lineCount, f_levelNow, f_memoryEnd, f_sumAt, f_productAt, f_leftAt, f_rightAt, f_restAt, f_quotientAt, f_textAt, f_counterAt, f_signAt, f_haveAt, f_zeroAt, f_oneAt, f_compiled, f_codeEnd, f_multiplyAt, f_divideAt, f_printAt, x3, f_order, f_callDepth, f_nextCard, f_tally, f_halted, f_printedCount, a_cardKey, a_cardPart, a_cardFirst, a_cardSecond, a_lineWhen, a_lineCondition, a_lineOp, a_lineW, a_lineX, a_lineY, a_lineC, a_digit, a_mark, a_minus, a_workAt, a_cardAt, a_inputAt, a_constantAt, a_code, a_groupAt, a_callStack, a_indicatorOn, a_printedText)) : wpX_branch Q (f_cardCount, f_lineCount, f_levelNow, f_memoryEnd, f_sumAt, f_productAt, f_leftAt, f_rightAt, f_restAt, f_quotientAt, f_textAt, f_counterAt, f_signAt, f_haveAt, f_zeroAt, f_oneAt, f_compiled, f_codeEnd, f_multiplyAt, f_divideAt, f_printAt, f_at, f_order, f_callDepth, f_nextCard, f_tally, f_halted, f_printedCount, a_cardKey, a_cardPart, a_cardFirst, a_cardSecond, a_lineWhen, a_lineCondition, a_lineOp, a_lineW, a_lineX, a_lineY, a_lineC, a_digit, a_mark, a_minus, a_workAt, a_cardAt, a_inputAt, a_constantAt, a_code, a_groupAt, a_callStack, a_indicatorOn, a_printedText) (nI 5) x2 x3 :=
  br_t rfl (br_f (by decide) (br_f (by decide) (br_f (by decide) (br_f (by decide) (br_f (by decide) (br_f (by decide) h))))))
theorem xr_b6t {Q : SX → Prop} {x2 x3 : Int32} (ho : ¬ f_order ≤ 0) (h : Q (f_cardCount, f_lineCount, f_levelNow, f_memoryEnd, f_sumAt, f_productAt, f_leftAt, f_rightAt, f_restAt, f_quotientAt, f_textAt, f_counterAt, f_signAt, f_haveAt, f_zeroAt, f_oneAt, f_compiled, f_codeEnd, f_multiplyAt, f_divideAt, f_printAt, x3, f_order, f_callDepth, f_nextCard, f_tally, f_halted, f_printedCount, a_cardKey, a_cardPart, a_cardFirst, a_cardSecond, a_lineWhen, a_lineCondition, a_lineOp, a_lineW, a_lineX, a_lineY, a_lineC, a_digit, a_mark, a_minus, a_workAt, a_cardAt, a_inputAt, a_constantAt, a_code, a_groupAt, a_callStack, a_indicatorOn, a_printedText)) : wpX_branch Q (f_cardCount, f_lineCount, f_levelNow, f_memoryEnd, f_sumAt, f_productAt, f_leftAt, f_rightAt, f_restAt, f_quotientAt, f_textAt, f_counterAt, f_signAt, f_haveAt, f_zeroAt, f_oneAt, f_compiled, f_codeEnd, f_multiplyAt, f_divideAt, f_printAt, f_at, f_order, f_callDepth, f_nextCard, f_tally, f_halted, f_printedCount, a_cardKey, a_cardPart, a_cardFirst, a_cardSecond, a_lineWhen, a_lineCondition, a_lineOp, a_lineW, a_lineX, a_lineY, a_lineC, a_digit, a_mark, a_minus, a_workAt, a_cardAt, a_inputAt, a_constantAt, a_code, a_groupAt, a_callStack, a_indicatorOn, a_printedText) (nI 6) x2 x3 :=
  br_f (by decide) (br_t rfl (br_f ho (br_f (by decide) h)))
theorem xr_b6f {Q : SX → Prop} {x2 x3 : Int32} (ho : f_order ≤ 0) (h : Q (f_cardCount, f_lineCount, f_levelNow, f_memoryEnd, f_sumAt, f_productAt, f_leftAt, f_rightAt, f_restAt, f_quotientAt, f_textAt, f_counterAt, f_signAt, f_haveAt, f_zeroAt, f_oneAt, f_compiled, f_codeEnd, f_multiplyAt, f_divideAt, f_printAt, f_at, f_order, f_callDepth, f_nextCard, f_tally, f_halted, f_printedCount, a_cardKey, a_cardPart, a_cardFirst, a_cardSecond, a_lineWhen, a_lineCondition, a_lineOp, a_lineW, a_lineX, a_lineY, a_lineC, a_digit, a_mark, a_minus, a_workAt, a_cardAt, a_inputAt, a_constantAt, a_code, a_groupAt, a_callStack, a_indicatorOn, a_printedText)) : wpX_branch Q (f_cardCount, f_lineCount, f_levelNow, f_memoryEnd, f_sumAt, f_productAt, f_leftAt, f_rightAt, f_restAt, f_quotientAt, f_textAt, f_counterAt, f_signAt, f_haveAt, f_zeroAt, f_oneAt, f_compiled, f_codeEnd, f_multiplyAt, f_divideAt, f_printAt, f_at, f_order, f_callDepth, f_nextCard, f_tally, f_halted, f_printedCount, a_cardKey, a_cardPart, a_cardFirst, a_cardSecond, a_lineWhen, a_lineCondition, a_lineOp, a_lineW, a_lineX, a_lineY, a_lineC, a_digit, a_mark, a_minus, a_workAt, a_cardAt, a_inputAt, a_constantAt, a_code, a_groupAt, a_callStack, a_indicatorOn, a_printedText) (nI 6) x2 x3 :=
  br_f (by decide) (br_t rfl (br_t ho (br_t rfl h)))
theorem xr_b7t {Q : SX → Prop} {x2 x3 : Int32} (ho : ¬ 0 ≤ f_order) (h : Q (f_cardCount, f_lineCount, f_levelNow, f_memoryEnd, f_sumAt, f_productAt, f_leftAt, f_rightAt, f_restAt, f_quotientAt, f_textAt, f_counterAt, f_signAt, f_haveAt, f_zeroAt, f_oneAt, f_compiled, f_codeEnd, f_multiplyAt, f_divideAt, f_printAt, x3, f_order, f_callDepth, f_nextCard, f_tally, f_halted, f_printedCount, a_cardKey, a_cardPart, a_cardFirst, a_cardSecond, a_lineWhen, a_lineCondition, a_lineOp, a_lineW, a_lineX, a_lineY, a_lineC, a_digit, a_mark, a_minus, a_workAt, a_cardAt, a_inputAt, a_constantAt, a_code, a_groupAt, a_callStack, a_indicatorOn, a_printedText)) : wpX_branch Q (f_cardCount, f_lineCount, f_levelNow, f_memoryEnd, f_sumAt, f_productAt, f_leftAt, f_rightAt, f_restAt, f_quotientAt, f_textAt, f_counterAt, f_signAt, f_haveAt, f_zeroAt, f_oneAt, f_compiled, f_codeEnd, f_multiplyAt, f_divideAt, f_printAt, f_at, f_order, f_callDepth, f_nextCard, f_tally, f_halted, f_printedCount, a_cardKey, a_cardPart, a_cardFirst, a_cardSecond, a_lineWhen, a_lineCondition, a_lineOp, a_lineW, a_lineX, a_lineY, a_lineC, a_digit, a_mark, a_minus, a_workAt, a_cardAt, a_inputAt, a_constantAt, a_code, a_groupAt, a_callStack, a_indicatorOn, a_printedText) (nI 7) x2 x3 :=
  br_f (by decide) (br_f (by decide) (br_t rfl (br_f ho (br_f (by decide) h))))
theorem xr_b7f {Q : SX → Prop} {x2 x3 : Int32} (ho : 0 ≤ f_order) (h : Q (f_cardCount, f_lineCount, f_levelNow, f_memoryEnd, f_sumAt, f_productAt, f_leftAt, f_rightAt, f_restAt, f_quotientAt, f_textAt, f_counterAt, f_signAt, f_haveAt, f_zeroAt, f_oneAt, f_compiled, f_codeEnd, f_multiplyAt, f_divideAt, f_printAt, f_at, f_order, f_callDepth, f_nextCard, f_tally, f_halted, f_printedCount, a_cardKey, a_cardPart, a_cardFirst, a_cardSecond, a_lineWhen, a_lineCondition, a_lineOp, a_lineW, a_lineX, a_lineY, a_lineC, a_digit, a_mark, a_minus, a_workAt, a_cardAt, a_inputAt, a_constantAt, a_code, a_groupAt, a_callStack, a_indicatorOn, a_printedText)) : wpX_branch Q (f_cardCount, f_lineCount, f_levelNow, f_memoryEnd, f_sumAt, f_productAt, f_leftAt, f_rightAt, f_restAt, f_quotientAt, f_textAt, f_counterAt, f_signAt, f_haveAt, f_zeroAt, f_oneAt, f_compiled, f_codeEnd, f_multiplyAt, f_divideAt, f_printAt, f_at, f_order, f_callDepth, f_nextCard, f_tally, f_halted, f_printedCount, a_cardKey, a_cardPart, a_cardFirst, a_cardSecond, a_lineWhen, a_lineCondition, a_lineOp, a_lineW, a_lineX, a_lineY, a_lineC, a_digit, a_mark, a_minus, a_workAt, a_cardAt, a_inputAt, a_constantAt, a_code, a_groupAt, a_callStack, a_indicatorOn, a_printedText) (nI 7) x2 x3 :=
  br_f (by decide) (br_f (by decide) (br_t rfl (br_t ho (br_t rfl h))))
theorem xr_b8t {Q : SX → Prop} {x2 x3 : Int32} (ho : f_order = 0) (h : Q (f_cardCount, f_lineCount, f_levelNow, f_memoryEnd, f_sumAt, f_productAt, f_leftAt, f_rightAt, f_restAt, f_quotientAt, f_textAt, f_counterAt, f_signAt, f_haveAt, f_zeroAt, f_oneAt, f_compiled, f_codeEnd, f_multiplyAt, f_divideAt, f_printAt, x3, f_order, f_callDepth, f_nextCard, f_tally, f_halted, f_printedCount, a_cardKey, a_cardPart, a_cardFirst, a_cardSecond, a_lineWhen, a_lineCondition, a_lineOp, a_lineW, a_lineX, a_lineY, a_lineC, a_digit, a_mark, a_minus, a_workAt, a_cardAt, a_inputAt, a_constantAt, a_code, a_groupAt, a_callStack, a_indicatorOn, a_printedText)) : wpX_branch Q (f_cardCount, f_lineCount, f_levelNow, f_memoryEnd, f_sumAt, f_productAt, f_leftAt, f_rightAt, f_restAt, f_quotientAt, f_textAt, f_counterAt, f_signAt, f_haveAt, f_zeroAt, f_oneAt, f_compiled, f_codeEnd, f_multiplyAt, f_divideAt, f_printAt, f_at, f_order, f_callDepth, f_nextCard, f_tally, f_halted, f_printedCount, a_cardKey, a_cardPart, a_cardFirst, a_cardSecond, a_lineWhen, a_lineCondition, a_lineOp, a_lineW, a_lineX, a_lineY, a_lineC, a_digit, a_mark, a_minus, a_workAt, a_cardAt, a_inputAt, a_constantAt, a_code, a_groupAt, a_callStack, a_indicatorOn, a_printedText) (nI 8) x2 x3 :=
  br_f (by decide) (br_f (by decide) (br_f (by decide) (br_t rfl (br_t ho (br_f (by decide) h)))))
theorem xr_b8f {Q : SX → Prop} {x2 x3 : Int32} (ho : ¬ f_order = 0) (h : Q (f_cardCount, f_lineCount, f_levelNow, f_memoryEnd, f_sumAt, f_productAt, f_leftAt, f_rightAt, f_restAt, f_quotientAt, f_textAt, f_counterAt, f_signAt, f_haveAt, f_zeroAt, f_oneAt, f_compiled, f_codeEnd, f_multiplyAt, f_divideAt, f_printAt, f_at, f_order, f_callDepth, f_nextCard, f_tally, f_halted, f_printedCount, a_cardKey, a_cardPart, a_cardFirst, a_cardSecond, a_lineWhen, a_lineCondition, a_lineOp, a_lineW, a_lineX, a_lineY, a_lineC, a_digit, a_mark, a_minus, a_workAt, a_cardAt, a_inputAt, a_constantAt, a_code, a_groupAt, a_callStack, a_indicatorOn, a_printedText)) : wpX_branch Q (f_cardCount, f_lineCount, f_levelNow, f_memoryEnd, f_sumAt, f_productAt, f_leftAt, f_rightAt, f_restAt, f_quotientAt, f_textAt, f_counterAt, f_signAt, f_haveAt, f_zeroAt, f_oneAt, f_compiled, f_codeEnd, f_multiplyAt, f_divideAt, f_printAt, f_at, f_order, f_callDepth, f_nextCard, f_tally, f_halted, f_printedCount, a_cardKey, a_cardPart, a_cardFirst, a_cardSecond, a_lineWhen, a_lineCondition, a_lineOp, a_lineW, a_lineX, a_lineY, a_lineC, a_digit, a_mark, a_minus, a_workAt, a_cardAt, a_inputAt, a_constantAt, a_code, a_groupAt, a_callStack, a_indicatorOn, a_printedText) (nI 8) x2 x3 :=
  br_f (by decide) (br_f (by decide) (br_f (by decide) (br_t rfl (br_f ho (br_t rfl h)))))
theorem xr_b9t {Q : SX → Prop} {x3 : Int32} {a : Nat} (ha : a < 4) (ho : ¬ a_indicatorOn a = 0) (h : Q (f_cardCount, f_lineCount, f_levelNow, f_memoryEnd, f_sumAt, f_productAt, f_leftAt, f_rightAt, f_restAt, f_quotientAt, f_textAt, f_counterAt, f_signAt, f_haveAt, f_zeroAt, f_oneAt, f_compiled, f_codeEnd, f_multiplyAt, f_divideAt, f_printAt, x3, f_order, f_callDepth, f_nextCard, f_tally, f_halted, f_printedCount, a_cardKey, a_cardPart, a_cardFirst, a_cardSecond, a_lineWhen, a_lineCondition, a_lineOp, a_lineW, a_lineX, a_lineY, a_lineC, a_digit, a_mark, a_minus, a_workAt, a_cardAt, a_inputAt, a_constantAt, a_code, a_groupAt, a_callStack, a_indicatorOn, a_printedText)) : wpX_branch Q (f_cardCount, f_lineCount, f_levelNow, f_memoryEnd, f_sumAt, f_productAt, f_leftAt, f_rightAt, f_restAt, f_quotientAt, f_textAt, f_counterAt, f_signAt, f_haveAt, f_zeroAt, f_oneAt, f_compiled, f_codeEnd, f_multiplyAt, f_divideAt, f_printAt, f_at, f_order, f_callDepth, f_nextCard, f_tally, f_halted, f_printedCount, a_cardKey, a_cardPart, a_cardFirst, a_cardSecond, a_lineWhen, a_lineCondition, a_lineOp, a_lineW, a_lineX, a_lineY, a_lineC, a_digit, a_mark, a_minus, a_workAt, a_cardAt, a_inputAt, a_constantAt, a_code, a_groupAt, a_callStack, a_indicatorOn, a_printedText) (nI 9) (nI a) x3 :=
  br_f (by decide) (br_f (by decide) (br_f (by decide) (br_f (by decide) (br_t rfl (And.intro (vp_in_nI ha (by omega)) (nm_r (congrArg a_indicatorOn (nI_clamp (n := a) (by omega))) (br_f ho h)))))))
theorem xr_b9f {Q : SX → Prop} {x3 : Int32} {a : Nat} (ha : a < 4) (ho : a_indicatorOn a = 0) (h : Q (f_cardCount, f_lineCount, f_levelNow, f_memoryEnd, f_sumAt, f_productAt, f_leftAt, f_rightAt, f_restAt, f_quotientAt, f_textAt, f_counterAt, f_signAt, f_haveAt, f_zeroAt, f_oneAt, f_compiled, f_codeEnd, f_multiplyAt, f_divideAt, f_printAt, f_at, f_order, f_callDepth, f_nextCard, f_tally, f_halted, f_printedCount, a_cardKey, a_cardPart, a_cardFirst, a_cardSecond, a_lineWhen, a_lineCondition, a_lineOp, a_lineW, a_lineX, a_lineY, a_lineC, a_digit, a_mark, a_minus, a_workAt, a_cardAt, a_inputAt, a_constantAt, a_code, a_groupAt, a_callStack, a_indicatorOn, a_printedText)) : wpX_branch Q (f_cardCount, f_lineCount, f_levelNow, f_memoryEnd, f_sumAt, f_productAt, f_leftAt, f_rightAt, f_restAt, f_quotientAt, f_textAt, f_counterAt, f_signAt, f_haveAt, f_zeroAt, f_oneAt, f_compiled, f_codeEnd, f_multiplyAt, f_divideAt, f_printAt, f_at, f_order, f_callDepth, f_nextCard, f_tally, f_halted, f_printedCount, a_cardKey, a_cardPart, a_cardFirst, a_cardSecond, a_lineWhen, a_lineCondition, a_lineOp, a_lineW, a_lineX, a_lineY, a_lineC, a_digit, a_mark, a_minus, a_workAt, a_cardAt, a_inputAt, a_constantAt, a_code, a_groupAt, a_callStack, a_indicatorOn, a_printedText) (nI 9) (nI a) x3 :=
  br_f (by decide) (br_f (by decide) (br_f (by decide) (br_f (by decide) (br_t rfl (And.intro (vp_in_nI ha (by omega)) (nm_r (congrArg a_indicatorOn (nI_clamp (n := a) (by omega))) (br_t ho h)))))))
theorem xr_b10t {Q : SX → Prop} {x3 : Int32} {a : Nat} (ha : a < 4) (ho : a_indicatorOn a = 0) (h : Q (f_cardCount, f_lineCount, f_levelNow, f_memoryEnd, f_sumAt, f_productAt, f_leftAt, f_rightAt, f_restAt, f_quotientAt, f_textAt, f_counterAt, f_signAt, f_haveAt, f_zeroAt, f_oneAt, f_compiled, f_codeEnd, f_multiplyAt, f_divideAt, f_printAt, x3, f_order, f_callDepth, f_nextCard, f_tally, f_halted, f_printedCount, a_cardKey, a_cardPart, a_cardFirst, a_cardSecond, a_lineWhen, a_lineCondition, a_lineOp, a_lineW, a_lineX, a_lineY, a_lineC, a_digit, a_mark, a_minus, a_workAt, a_cardAt, a_inputAt, a_constantAt, a_code, a_groupAt, a_callStack, a_indicatorOn, a_printedText)) : wpX_branch Q (f_cardCount, f_lineCount, f_levelNow, f_memoryEnd, f_sumAt, f_productAt, f_leftAt, f_rightAt, f_restAt, f_quotientAt, f_textAt, f_counterAt, f_signAt, f_haveAt, f_zeroAt, f_oneAt, f_compiled, f_codeEnd, f_multiplyAt, f_divideAt, f_printAt, f_at, f_order, f_callDepth, f_nextCard, f_tally, f_halted, f_printedCount, a_cardKey, a_cardPart, a_cardFirst, a_cardSecond, a_lineWhen, a_lineCondition, a_lineOp, a_lineW, a_lineX, a_lineY, a_lineC, a_digit, a_mark, a_minus, a_workAt, a_cardAt, a_inputAt, a_constantAt, a_code, a_groupAt, a_callStack, a_indicatorOn, a_printedText) (nI 10) (nI a) x3 :=
  br_f (by decide) (br_f (by decide) (br_f (by decide) (br_f (by decide) (br_f (by decide) (br_t rfl (And.intro (vp_in_nI ha (by omega)) (br_t ((congrArg a_indicatorOn (nI_clamp (n := a) (by omega))).trans ho) (br_f (by decide) h))))))))
theorem xr_b10f {Q : SX → Prop} {x3 : Int32} {a : Nat} (ha : a < 4) (ho : ¬ a_indicatorOn a = 0) (h : Q (f_cardCount, f_lineCount, f_levelNow, f_memoryEnd, f_sumAt, f_productAt, f_leftAt, f_rightAt, f_restAt, f_quotientAt, f_textAt, f_counterAt, f_signAt, f_haveAt, f_zeroAt, f_oneAt, f_compiled, f_codeEnd, f_multiplyAt, f_divideAt, f_printAt, f_at, f_order, f_callDepth, f_nextCard, f_tally, f_halted, f_printedCount, a_cardKey, a_cardPart, a_cardFirst, a_cardSecond, a_lineWhen, a_lineCondition, a_lineOp, a_lineW, a_lineX, a_lineY, a_lineC, a_digit, a_mark, a_minus, a_workAt, a_cardAt, a_inputAt, a_constantAt, a_code, a_groupAt, a_callStack, a_indicatorOn, a_printedText)) : wpX_branch Q (f_cardCount, f_lineCount, f_levelNow, f_memoryEnd, f_sumAt, f_productAt, f_leftAt, f_rightAt, f_restAt, f_quotientAt, f_textAt, f_counterAt, f_signAt, f_haveAt, f_zeroAt, f_oneAt, f_compiled, f_codeEnd, f_multiplyAt, f_divideAt, f_printAt, f_at, f_order, f_callDepth, f_nextCard, f_tally, f_halted, f_printedCount, a_cardKey, a_cardPart, a_cardFirst, a_cardSecond, a_lineWhen, a_lineCondition, a_lineOp, a_lineW, a_lineX, a_lineY, a_lineC, a_digit, a_mark, a_minus, a_workAt, a_cardAt, a_inputAt, a_constantAt, a_code, a_groupAt, a_callStack, a_indicatorOn, a_printedText) (nI 10) (nI a) x3 :=
  br_f (by decide) (br_f (by decide) (br_f (by decide) (br_f (by decide) (br_f (by decide) (br_t rfl (And.intro (vp_in_nI ha (by omega)) (br_f (fun z => ho ((congrArg a_indicatorOn (nI_clamp (n := a) (by omega))).symm.trans z)) (br_t rfl h))))))))
end XS06
end
section
/-! one row a machine instruction -/
def ms_N (V : Nat → Int) : Prop := ∀ e, ms_isE e = true → (V e).natAbs < 10 ^ ms_fl e
theorem ms_Nu {V : Nat → Int} {e : Nat} {x : Int} (h : ms_N V) (hx : x.natAbs < 10 ^ ms_fl e) : ms_N (ms_u V e x) := by
  intro j hj
  by_cases z : j = e
  · subst z; rw [ms_us]; exact hx
  · rw [ms_un z]; exact h j hj
/-- the text with one more letter -/
def ms_tp (pc : Nat) (tx : Nat → Int32) (c : Int32) : Nat → Int32 := if pc < 80 then upd tx pc c else tx
section SG07
variable {f_cardCount f_lineCount f_levelNow f_memoryEnd f_sumAt f_productAt f_leftAt f_rightAt f_restAt f_quotientAt f_textAt f_counterAt f_signAt f_haveAt f_zeroAt f_oneAt f_compiled f_codeEnd f_multiplyAt f_divideAt f_printAt f_at f_order f_callDepth f_nextCard f_tally f_halted f_printedCount : Int32} {a_cardKey a_cardPart a_cardFirst a_cardSecond a_lineWhen a_lineCondition a_lineOp a_lineW a_lineX a_lineY a_lineC a_digit a_mark a_minus a_workAt a_cardAt a_inputAt a_constantAt a_code a_groupAt a_callStack a_indicatorOn a_printedText : Nat → Int32}
theorem xr_pr {Q : SX → Prop} {c pc : Nat} (hc : c < 128) (hp : pc < 2 ^ 30) (h : Q (f_cardCount, f_lineCount, f_levelNow, f_memoryEnd, f_sumAt, f_productAt, f_leftAt, f_rightAt, f_restAt, f_quotientAt, f_textAt, f_counterAt, f_signAt, f_haveAt, f_zeroAt, f_oneAt, f_compiled, f_codeEnd, f_multiplyAt, f_divideAt, f_printAt, f_at, f_order, f_callDepth, f_nextCard, f_tally, f_halted, nI (pc + 1), a_cardKey, a_cardPart, a_cardFirst, a_cardSecond, a_lineWhen, a_lineCondition, a_lineOp, a_lineW, a_lineX, a_lineY, a_lineC, a_digit, a_mark, a_minus, a_workAt, a_cardAt, a_inputAt, a_constantAt, a_code, a_groupAt, a_callStack, a_indicatorOn, ms_tp pc a_printedText (nI c))) : wpX_print Q (f_cardCount, f_lineCount, f_levelNow, f_memoryEnd, f_sumAt, f_productAt, f_leftAt, f_rightAt, f_restAt, f_quotientAt, f_textAt, f_counterAt, f_signAt, f_haveAt, f_zeroAt, f_oneAt, f_compiled, f_codeEnd, f_multiplyAt, f_divideAt, f_printAt, f_at, f_order, f_callDepth, f_nextCard, f_tally, f_halted, nI pc, a_cardKey, a_cardPart, a_cardFirst, a_cardSecond, a_lineWhen, a_lineCondition, a_lineOp, a_lineW, a_lineX, a_lineY, a_lineC, a_digit, a_mark, a_minus, a_workAt, a_cardAt, a_inputAt, a_constantAt, a_code, a_groupAt, a_callStack, a_indicatorOn, a_printedText) (nI c) := by
  unfold wpX_print
  dsimp only
  refine pk_le 80 pc (fun h8 => ?_) (fun h8 => ?_)
  · refine nm_r (nI_1 pc) ?_
    have e : ms_tp pc a_printedText (nI c) = a_printedText := if_neg (by omega)
    rw [e] at h
    exact h
  · have e : ms_tp pc a_printedText (nI c) = upd a_printedText pc (nI c) := if_pos h8
    rw [e] at h
    refine And.intro (vp_in_nI h8 (by omega)) (nm_r ?_ (nm_r (nI_1 pc) h))
    rw [nI_clamp (by omega), sm_nb hc]
theorem xr_rd {Q : SX → Prop} {V : Nat → Int} {nc : Nat} {p0 : Int32} (hnc : nc < 16) (hne : ¬ nI nc = f_cardCount) (b0 : (a_cardKey nc).toInt.natAbs < 2 ^ 31) (b1 : (a_cardPart nc).toInt.natAbs < 2 ^ 31) (b2 : (a_cardFirst nc).toInt.natAbs < 2 ^ 31) (b3 : (a_cardSecond nc).toInt.natAbs < 2 ^ 31)
    (h : Q (f_cardCount, f_lineCount, f_levelNow, f_memoryEnd, f_sumAt, f_productAt, f_leftAt, f_rightAt, f_restAt, f_quotientAt, f_textAt, f_counterAt, f_signAt, f_haveAt, f_zeroAt, f_oneAt, f_compiled, f_codeEnd, f_multiplyAt, f_divideAt, f_printAt, f_at, f_order, f_callDepth, nI (nc + 1), f_tally, f_halted, f_printedCount, a_cardKey, a_cardPart, a_cardFirst, a_cardSecond, a_lineWhen, a_lineCondition, a_lineOp, a_lineW, a_lineX, a_lineY, a_lineC, ms_DG (ms_u (ms_u (ms_u (ms_u V 39 (a_cardKey nc).toInt) 43 (a_cardPart nc).toInt) 49 (a_cardFirst nc).toInt) 55 (a_cardSecond nc).toInt), ms_mark, ms_MN (ms_u (ms_u (ms_u (ms_u V 39 (a_cardKey nc).toInt) 43 (a_cardPart nc).toInt) 49 (a_cardFirst nc).toInt) 55 (a_cardSecond nc).toInt), a_workAt, a_cardAt, ms_in, a_constantAt, a_code, a_groupAt, a_callStack, a_indicatorOn, a_printedText)) : wpX_read Q (f_cardCount, f_lineCount, f_levelNow, f_memoryEnd, f_sumAt, f_productAt, f_leftAt, f_rightAt, f_restAt, f_quotientAt, f_textAt, f_counterAt, f_signAt, f_haveAt, f_zeroAt, f_oneAt, f_compiled, f_codeEnd, f_multiplyAt, f_divideAt, f_printAt, f_at, f_order, f_callDepth, nI nc, f_tally, f_halted, f_printedCount, a_cardKey, a_cardPart, a_cardFirst, a_cardSecond, a_lineWhen, a_lineCondition, a_lineOp, a_lineW, a_lineX, a_lineY, a_lineC, ms_DG V, ms_mark, ms_MN V, a_workAt, a_cardAt, ms_in, a_constantAt, a_code, a_groupAt, a_callStack, a_indicatorOn, a_printedText) p0 := by
  have hcl : (nI nc).toNatClampNeg = nc := nI_clamp (by omega)
  have hin : vp_in (nI nc) 16 := vp_in_nI hnc (by omega)
  have e0 : ms_in 0 = nI 39 := by rfl
  have e1 : ms_in 1 = nI 43 := by rfl
  have e2 : ms_in 2 = nI 49 := by rfl
  have e3 : ms_in 3 = nI 55 := by rfl
  unfold wpX_read
  dsimp only
  refine br_f hne (And.intro hin ?_)
  rw [hcl, e0]
  refine xr_sf (V := V) rfl rfl b0 ?_
  dsimp only
  refine And.intro hin ?_
  rw [hcl, e1]
  refine xr_sf (V := ms_u V 39 (a_cardKey nc).toInt) rfl rfl b1 ?_
  dsimp only
  refine And.intro hin ?_
  rw [hcl, e2]
  refine xr_sf (V := ms_u (ms_u V 39 (a_cardKey nc).toInt) 43 (a_cardPart nc).toInt) rfl rfl b2 ?_
  dsimp only
  refine And.intro hin ?_
  rw [hcl, e3]
  refine xr_sf (V := ms_u (ms_u (ms_u V 39 (a_cardKey nc).toInt) 43 (a_cardPart nc).toInt) 49 (a_cardFirst nc).toInt) rfl rfl b3 ?_
  dsimp only
  exact nm_r (nI_1 nc) h
end SG07
section SG07b
variable {post : Int32 → SX → Prop} {B : xs_B} {p : Nat} {od : Int32} {dp nc ta pc : Nat} {V : Nat → Int} {st on tx : Nat → Int32} {a b e d : Nat}
theorem sg_hlt (hc : xb_cd B p = en_w 0 0 0) (hp : p < 420) (k : post (nI ta) (xs_T B (p + 1) od dp nc ta 1 pc V st on tx)) : xs_G post B p od dp nc ta pc V st on tx := by
  refine xs_step (u' := xs_T B (p + 1) od dp nc ta 1 pc V st on tx) rfl ?_ (xs_halt (by decide) k)
  intro P hP
  exact sl_hl hc hp hP
theorem sg_za (hc : xb_cd B p = en_w 1 a b) (hp : p < 420) (ha : ms_isE a = true) (hb : ms_isE b = true) (hN : ms_N V)
    (k : ms_N (ms_u V b (Int.tmod (V a) ((10 ^ ms_fl b : Nat) : Int))) → xs_G post B (p + 1) od dp nc ta pc (ms_u V b (Int.tmod (V a) ((10 ^ ms_fl b : Nat) : Int))) st on tx) : xs_G post B p od dp nc ta pc V st on tx := by
  have ⟨t1, t2⟩ := sm_tm (V a) (10 ^ ms_fl b)
  have h1 := ms_E ha
  have h2 := ms_E hb
  refine xs_step rfl ?_ (k (ms_Nu hN (by rw [t1]; exact Nat.mod_lt _ (da_pos _))))
  intro P hP
  exact sl_75 hc hp (Or.inl (by omega)) (by omega) (by omega) (br_t rfl (xr_za ha hb (hN a ha) t1 t2 hP))
theorem sg_add (hc : xb_cd B p = en_w 2 a b) (hp : p < 420) (ha : ms_isE a = true) (hb : ms_isE b = true) (hab : a ≠ b) (hl : (V a).natAbs < 10 ^ ms_fl b) (hN : ms_N V)
    (k : ms_N (ms_u V b (Int.tmod (V b + V a) ((10 ^ ms_fl b : Nat) : Int))) → xs_G post B (p + 1) od dp nc ta pc (ms_u V b (Int.tmod (V b + V a) ((10 ^ ms_fl b : Nat) : Int))) st on tx) : xs_G post B p od dp nc ta pc V st on tx := by
  have ⟨t1, t2⟩ := sm_tm (V b + V a) (10 ^ ms_fl b)
  have h1 := ms_E ha
  have h2 := ms_E hb
  have hs : ms_MN V (nI a).toNatClampNeg = if V a < 0 then 1 else 0 := by
    rw [nI_clamp (by omega)]
    by_cases hv : V a < 0
    · rw [ms_MN1 ha hv, if_pos hv]
    · rw [ms_MN0 hv, if_neg hv]
  refine xs_step rfl ?_ (k (ms_Nu hN (by rw [t1]; exact Nat.mod_lt _ (da_pos _))))
  intro P hP
  refine sl_75 hc hp (Or.inl (by omega)) (by omega) (by omega) (br_f (by decide) (br_t rfl (And.intro (vp_in_nI (by omega) (by omega)) (xr_add ha hb hab (hN a ha) hl (hN b hb) ?_ ?_ hP))))
  · rw [hs]
    by_cases hv : V a < 0
    · rw [if_pos hv]; exact Or.inr rfl
    · rw [if_neg hv]; exact Or.inl rfl
  · rw [hs]
    have h01 : ¬ (0 : Int32) = 1 := by decide
    by_cases hv : V a < 0
    · rw [if_pos hv, if_pos rfl]
      exact congrArg (fun z => Int.tmod z _) (by omega)
    · rw [if_neg hv, if_neg h01]
      exact congrArg (fun z => Int.tmod z _) (by omega)
theorem sg_sub (hc : xb_cd B p = en_w 3 a b) (hp : p < 420) (ha : ms_isE a = true) (hb : ms_isE b = true) (hab : a ≠ b) (hl : (V a).natAbs < 10 ^ ms_fl b) (hN : ms_N V)
    (k : ms_N (ms_u V b (Int.tmod (V b - V a) ((10 ^ ms_fl b : Nat) : Int))) → xs_G post B (p + 1) od dp nc ta pc (ms_u V b (Int.tmod (V b - V a) ((10 ^ ms_fl b : Nat) : Int))) st on tx) : xs_G post B p od dp nc ta pc V st on tx := by
  have ⟨t1, t2⟩ := sm_tm (V b - V a) (10 ^ ms_fl b)
  have h1 := ms_E ha
  have h2 := ms_E hb
  have hcl : (nI a).toNatClampNeg = a := nI_clamp (by omega)
  have h01 : ¬ (0 : Int32) = 1 := by decide
  have h10 : ¬ (1 : Int32) = 0 := by decide
  refine xs_step rfl ?_ (k (ms_Nu hN (by rw [t1]; exact Nat.mod_lt _ (da_pos _))))
  intro P hP
  refine sl_75 hc hp (Or.inl (by omega)) (by omega) (by omega) (br_f (by decide) (br_f (by decide) (br_t rfl (And.intro (vp_in_nI (by omega) (by omega)) ?_))))
  by_cases hv : V a < 0
  · refine br_f (by rw [hcl, ms_MN1 ha hv]; exact h10) (xr_add ha hb hab (hN a ha) hl (hN b hb) (Or.inl rfl) ?_ hP)
    rw [if_neg h01]
    exact congrArg (fun z => Int.tmod z _) (by omega)
  · refine br_t (by rw [hcl, ms_MN0 hv]) (xr_add ha hb hab (hN a ha) hl (hN b hb) (Or.inr rfl) ?_ hP)
    rw [if_pos rfl]
    exact congrArg (fun z => Int.tmod z _) (by omega)
theorem sg_cmp (hc : xb_cd B p = en_w 4 a b) (hp : p < 420) (ha : ms_isE a = true) (hb : ms_isE b = true) (hN : ms_N V)
    (k : ∀ r : Int32, sm_or (V a) (V b) r → xs_G post B (p + 1) r dp nc ta pc V st on tx) : xs_G post B p od dp nc ta pc V st on tx := by
  have h1 := ms_E ha
  have h2 := ms_E hb
  have key : ∃ r : Int32, sm_or (V a) (V b) r ∧ ∀ Q : Int32 → Prop, Q r → wpX_compare Q (xs_T B (p + 1) od dp nc ta 0 pc V st on tx) (nI a) (nI b) := xr_cm ha hb (hN a ha) (hN b hb)
  obtain ⟨r, hr, hw⟩ := key
  refine xs_step rfl ?_ (k r hr)
  intro P hP
  exact sl_75 hc hp (Or.inl (by omega)) (by omega) (by omega) (br_f (by decide) (br_f (by decide) (br_f (by decide) (br_t rfl (hw _ hP)))))
theorem sg_jmp (hc : xb_cd B p = en_w 5 a b) (hp : p < 420) (ha : a < 1024) (hb : b < 1024) (k : xs_G post B b od dp nc ta pc V st on tx) : xs_G post B p od dp nc ta pc V st on tx := by
  refine xs_step rfl ?_ k
  intro P hP
  exact sl_br hc hp (by omega) ha hb (fun Q q => xr_b5 q) hP
theorem sg_hi {x y : Int} (hc : xb_cd B p = en_w 6 0 b) (hp : p < 420) (hb : b < 1024) (ho : sm_or x y od) (kt : y < x → xs_G post B b od dp nc ta pc V st on tx) (kf : x ≤ y → xs_G post B (p + 1) od dp nc ta pc V st on tx) : xs_G post B p od dp nc ta pc V st on tx := by
  by_cases h : y < x
  · refine xs_step rfl ?_ (kt h)
    intro P hP
    exact sl_br hc hp (by omega) (by omega) hb (fun Q q => xr_b6t (Int32.not_le.mpr (ho.2.2 h)) q) hP
  · refine xs_step rfl ?_ (kf (by omega))
    intro P hP
    refine sl_br hc hp (by omega) (by omega) hb (fun Q q => xr_b6f ?_ q) hP
    rcases Int.lt_or_eq_of_le (Int.not_lt.mp h) with z | z
    · exact Int32.le_of_lt (ho.1 z)
    · rw [ho.2.1 z]; exact Int32.le_refl 0
theorem sg_lo {x y : Int} (hc : xb_cd B p = en_w 7 0 b) (hp : p < 420) (hb : b < 1024) (ho : sm_or x y od) (kt : x < y → xs_G post B b od dp nc ta pc V st on tx) (kf : y ≤ x → xs_G post B (p + 1) od dp nc ta pc V st on tx) : xs_G post B p od dp nc ta pc V st on tx := by
  by_cases h : x < y
  · refine xs_step rfl ?_ (kt h)
    intro P hP
    exact sl_br hc hp (by omega) (by omega) hb (fun Q q => xr_b7t (Int32.not_le.mpr (ho.1 h)) q) hP
  · refine xs_step rfl ?_ (kf (by omega))
    intro P hP
    refine sl_br hc hp (by omega) (by omega) hb (fun Q q => xr_b7f ?_ q) hP
    rcases Int.lt_or_eq_of_le (Int.not_lt.mp h) with z | z
    · exact Int32.le_of_lt (ho.2.2 z)
    · rw [ho.2.1 z.symm]; exact Int32.le_refl 0
theorem sg_sa {x y : Int} (hc : xb_cd B p = en_w 8 0 b) (hp : p < 420) (hb : b < 1024) (ho : sm_or x y od) (kt : x = y → xs_G post B b od dp nc ta pc V st on tx) (kf : x ≠ y → xs_G post B (p + 1) od dp nc ta pc V st on tx) : xs_G post B p od dp nc ta pc V st on tx := by
  by_cases h : x = y
  · refine xs_step rfl ?_ (kt h)
    intro P hP
    exact sl_br hc hp (by omega) (by omega) hb (fun Q q => xr_b8t (ho.2.1 h) q) hP
  · refine xs_step rfl ?_ (kf h)
    intro P hP
    refine sl_br hc hp (by omega) (by omega) hb (fun Q q => xr_b8f ?_ q) hP
    intro z
    rcases Int.lt_trichotomy x y with w | w | w
    · have := ho.1 w
      rw [z] at this
      exact absurd this (by decide)
    · exact h w
    · have := ho.2.2 w
      rw [z] at this
      exact absurd this (by decide)
theorem sg_on (hc : xb_cd B p = en_w 9 a b) (hp : p < 420) (ha : a < 4) (hb : b < 1024) (kt : ¬ on a = 0 → xs_G post B b od dp nc ta pc V st on tx) (kf : on a = 0 → xs_G post B (p + 1) od dp nc ta pc V st on tx) : xs_G post B p od dp nc ta pc V st on tx := by
  by_cases h : on a = 0
  · refine xs_step rfl ?_ (kf h)
    intro P hP
    exact sl_br hc hp (by omega) (by omega) hb (fun Q q => xr_b9f ha h q) hP
  · refine xs_step rfl ?_ (kt h)
    intro P hP
    exact sl_br hc hp (by omega) (by omega) hb (fun Q q => xr_b9t ha h q) hP
theorem sg_off (hc : xb_cd B p = en_w 10 a b) (hp : p < 420) (ha : a < 4) (hb : b < 1024) (kt : on a = 0 → xs_G post B b od dp nc ta pc V st on tx) (kf : ¬ on a = 0 → xs_G post B (p + 1) od dp nc ta pc V st on tx) : xs_G post B p od dp nc ta pc V st on tx := by
  by_cases h : on a = 0
  · refine xs_step rfl ?_ (kt h)
    intro P hP
    exact sl_br hc hp (by omega) (by omega) hb (fun Q q => xr_b10t ha h q) hP
  · refine xs_step rfl ?_ (kf h)
    intro P hP
    exact sl_br hc hp (by omega) (by omega) hb (fun Q q => xr_b10f ha h q) hP
theorem sg_set (hc : xb_cd B p = en_w 11 a b) (hp : p < 420) (ha : a < 4) (hb : b < 1024) (k : xs_G post B (p + 1) od dp nc ta pc V st (upd on a 1) tx) : xs_G post B p od dp nc ta pc V st on tx := by
  refine xs_step rfl ?_ k
  intro P hP
  refine sl_75 hc hp (Or.inr (by omega)) (by omega) hb (br_f (by decide) (br_f (by decide) (br_f (by decide) (br_f (by decide) (br_f (by decide) (br_t rfl (And.intro (vp_in_nI ha (by omega)) (nm_r ?_ hP))))))))
  rw [nI_clamp (by omega), sm_t1]
theorem sg_clr (hc : xb_cd B p = en_w 12 a b) (hp : p < 420) (ha : a < 4) (hb : b < 1024) (k : xs_G post B (p + 1) od dp nc ta pc V st (upd on a 0) tx) : xs_G post B p od dp nc ta pc V st on tx := by
  refine xs_step rfl ?_ k
  intro P hP
  refine sl_75 hc hp (Or.inr (by omega)) (by omega) hb (br_f (by decide) (br_f (by decide) (br_f (by decide) (br_f (by decide) (br_f (by decide) (br_f (by decide) (And.intro (vp_in_nI ha (by omega)) (nm_r ?_ hP))))))))
  rw [nI_clamp (by omega), sm_t0]
theorem sg_shf {x : Nat} (hc : xb_cd B p = en_w 14 e b) (hp : p < 420) (he : ms_isE e = true) (hb : b < 240) (hq : ms_DG V b = nI d) (hd : d < 10) (hv : 0 ≤ V e) (hx : x = ((V e).natAbs * 10 + d) % 10 ^ ms_fl e) (hN : ms_N V)
    (k : ms_N (ms_u V e (x : Int)) → xs_G post B (p + 1) od dp nc ta pc (ms_u V e (x : Int)) st on tx) : xs_G post B p od dp nc ta pc V st on tx := by
  have h1 := ms_E he
  refine xs_step rfl ?_ (k (ms_Nu hN (by rw [show ((x : Int)).natAbs = x from rfl, hx]; exact Nat.mod_lt _ (da_pos _))))
  intro P hP
  have hq2 : ms_DG V (nI b).toNatClampNeg = nI d := by rw [nI_clamp (by omega)]; exact hq
  refine sl_75 hc hp (Or.inr (by omega)) (by omega) (by omega) (br_f (by decide) (br_f (by decide) (br_f (by decide) (br_f (by decide) (br_t (by decide) (br_f (by decide) (br_f (by decide) (br_t rfl (And.intro (vp_in_nI hb (by omega)) ?_)))))))))
  rw [hq2]
  exact xr_sh he hd hv hx hP
theorem sg_cd (hc : xb_cd B p = en_w 15 e b) (hp : p < 420) (he : ms_isE e = true) (h1 : ms_fl e = 1) (hb : b < 1024) (hv : V e = (d : Int)) (hN : ms_N V)
    (kt : d = 0 → xs_G post B b od dp nc ta pc V st on tx) (kf : d ≠ 0 → ms_N (ms_u V e ((d - 1 : Nat) : Int)) → xs_G post B (p + 1) od dp nc ta pc (ms_u V e ((d - 1 : Nat) : Int)) st on tx) : xs_G post B p od dp nc ta pc V st on tx := by
  have h2 := ms_E he
  have hd := hN e he
  rw [hv, h1] at hd
  have hd : d < 10 := hd
  have hin : vp_in (nI e) 240 := vp_in_nI (by omega) (by omega)
  have hcl : (nI e).toNatClampNeg = e := nI_clamp (by omega)
  have hq : ms_DG V (nI e).toNatClampNeg = nI d := by
    rw [hcl, ms_DG0 he, hv, da_0, show ((d : Int)).natAbs = d from rfl, Nat.mod_eq_of_lt hd]
  by_cases hz : d = 0
  · refine xs_step rfl ?_ (kt hz)
    intro P hP
    refine sl_75 hc hp (Or.inr (by omega)) (by omega) (by omega) (br_f (by decide) (br_f (by decide) (br_f (by decide) (br_f (by decide) (br_t (by decide) (br_f (by decide) (br_f (by decide) (br_f (by decide) (br_t rfl (And.intro hin (br_t ?_ hP)))))))))))
    rw [hq, hz]; rfl
  · refine xs_step rfl ?_ (kf hz (ms_Nu hN (by rw [h1]; show d - 1 < 10; omega)))
    intro P hP
    refine sl_75 hc hp (Or.inr (by omega)) (by omega) (by omega) (br_f (by decide) (br_f (by decide) (br_f (by decide) (br_f (by decide) (br_t (by decide) (br_f (by decide) (br_f (by decide) (br_f (by decide) (br_t rfl (And.intro hin (br_f ?_ (And.intro hin (And.intro hin (nm_r (e' := ms_DG (ms_u V e ((d - 1 : Nat) : Int))) ?_ ?_))))))))))))))
    · rw [hq]; exact nI_ne0 (by omega) (by omega)
    · rw [hq, hcl, show nI d - 1 = nI (d - 1) from pk_sub (b := 1) (by omega), sm_nb (by omega)]
      exact ms_one he h1 (by omega)
    · have em : ms_MN V = ms_MN (ms_u V e ((d - 1 : Nat) : Int)) := ms_MNs (by omega)
      rw [em]
      exact hP
theorem sg_cu (hc : xb_cd B p = en_w 16 e 0) (hp : p < 420) (he : ms_isE e = true) (h1 : ms_fl e = 1) (hv : V e = (d : Int)) (hd : d < 9) (hN : ms_N V)
    (k : ms_N (ms_u V e ((d + 1 : Nat) : Int)) → xs_G post B (p + 1) od dp nc ta pc (ms_u V e ((d + 1 : Nat) : Int)) st on tx) : xs_G post B p od dp nc ta pc V st on tx := by
  have h2 := ms_E he
  have hin : vp_in (nI e) 240 := vp_in_nI (by omega) (by omega)
  have hcl : (nI e).toNatClampNeg = e := nI_clamp (by omega)
  have hq : ms_DG V (nI e).toNatClampNeg = nI d := by
    rw [hcl, ms_DG0 he, hv, da_0, show ((d : Int)).natAbs = d from rfl, Nat.mod_eq_of_lt (by omega)]
  refine xs_step rfl ?_ (k (ms_Nu hN (by rw [h1]; show d + 1 < 10; omega)))
  intro P hP
  refine sl_75 hc hp (Or.inr (by omega)) (by omega) (by omega) (br_f (by decide) (br_f (by decide) (br_f (by decide) (br_f (by decide) (br_t (by decide) (br_f (by decide) (br_f (by decide) (br_f (by decide) (br_f (by decide) (br_t rfl (And.intro hin (And.intro hin (nm_r (e' := ms_DG (ms_u V e ((d + 1 : Nat) : Int))) ?_ ?_)))))))))))))
  · rw [hq, hcl, nI_1, sm_nb (by omega)]
    exact ms_one he h1 (by omega)
  · have em : ms_MN V = ms_MN (ms_u V e ((d + 1 : Nat) : Int)) := ms_MNs (by omega)
    rw [em]
    exact hP
theorem sg_pl (hc : xb_cd B p = en_w 17 e 0) (hp : p < 420) (he : ms_isE e = true) (hN : ms_N V)
    (k : ms_N (ms_u V e ((V e).natAbs : Int)) → xs_G post B (p + 1) od dp nc ta pc (ms_u V e ((V e).natAbs : Int)) st on tx) : xs_G post B p od dp nc ta pc V st on tx := by
  have h2 := ms_E he
  refine xs_step rfl ?_ (k (ms_Nu hN (hN e he)))
  intro P hP
  refine sl_75 hc hp (Or.inr (by omega)) (by omega) (by omega) (br_f (by decide) (br_f (by decide) (br_f (by decide) (br_f (by decide) (br_t (by decide) (br_f (by decide) (br_f (by decide) (br_f (by decide) (br_f (by decide) (br_f (by decide) (br_t rfl (And.intro (vp_in_nI (by omega) (by omega)) (nm_r (e' := ms_MN (ms_u V e ((V e).natAbs : Int))) ?_ ?_)))))))))))))
  · rw [nI_clamp (by omega), sm_t0]
    exact ms_MNu0 he (by omega)
  · have em : ms_DG V = ms_DG (ms_u V e ((V e).natAbs : Int)) := by
      rw [ms_abs (x := V e) rfl]
      congr 1
      funext j
      unfold ms_u
      by_cases hj : j = e
      · rw [if_pos hj, hj]
      · rw [if_neg hj]
    rw [em]
    exact hP
theorem sg_dg (hc : xb_cd B p = en_w 18 a e) (hp : p < 420) (ha : a < 240) (hq : ms_DG V a = nI d) (hd : d < 10) (he : ms_isE e = true) (h1 : ms_fl e = 1) (hv : 0 ≤ V e) (hN : ms_N V)
    (k : ms_N (ms_u V e (d : Int)) → xs_G post B (p + 1) od dp nc ta pc (ms_u V e (d : Int)) st on tx) : xs_G post B p od dp nc ta pc V st on tx := by
  have h2 := ms_E he
  have hq2 : ms_DG V (nI a).toNatClampNeg = nI d := by rw [nI_clamp (by omega)]; exact hq
  refine xs_step rfl ?_ (k (ms_Nu hN (by rw [h1]; exact hd)))
  intro P hP
  refine sl_75 hc hp (Or.inr (by omega)) (by omega) (by omega) (br_f (by decide) (br_f (by decide) (br_f (by decide) (br_f (by decide) (br_t (by decide) (br_f (by decide) (br_f (by decide) (br_f (by decide) (br_f (by decide) (br_f (by decide) (br_f (by decide) (And.intro (vp_in_nI ha (by omega)) (And.intro (vp_in_nI (by omega) (by omega)) (nm_r (e' := ms_DG (ms_u V e (d : Int))) ?_ ?_))))))))))))))
  · rw [hq2, nI_clamp (by omega), sm_nb' (by omega)]
    exact ms_one he h1 hd
  · have em : ms_MN V = ms_MN (ms_u V e (d : Int)) := ms_MNs (by omega)
    rw [em]
    exact hP
theorem sm_i16 : ∀ d, d < 1024 → (nI d).toInt16.toInt32.toInt16.toInt32 = nI d := by decide +kernel
theorem sm_ns {d : Nat} (h : d < 1024) : vp_nar .short (nI d).toInt16.toInt32 = nI d := by
  rw [vp_nar_short]; exact sm_i16 d h
theorem sg_cal (hc : xb_cd B p = en_w 19 0 b) (hp : p < 420) (hb : b < 1024) (hd : dp < 4) (k : xs_G post B b od (dp + 1) nc ta pc V (upd st dp (nI (p + 1))) on tx) : xs_G post B p od dp nc ta pc V st on tx := by
  refine xs_step rfl ?_ k
  intro P hP
  refine sl_75 hc hp (Or.inr (by omega)) (by omega) (by omega) (br_f (by decide) (br_f (by decide) (br_f (by decide) (br_f (by decide) (br_t (by decide) (br_f (by decide) (br_t (by decide) (br_t rfl (And.intro (vp_in_nI hd (by omega)) (nm_r ?_ (nm_r (nI_1 dp) hP)))))))))))
  rw [nI_clamp (by omega), sm_ns (by omega)]
theorem sg_ret {r : Nat} (hc : xb_cd B p = en_w 20 0 0) (hp : p < 420) (hd : dp < 4) (hr : st dp = nI r) (k : xs_G post B r od dp nc ta pc V st on tx) : xs_G post B p od (dp + 1) nc ta pc V st on tx := by
  refine xs_step rfl ?_ k
  intro P hP
  refine sl_75 hc hp (Or.inr (by omega)) (by omega) (by omega) (br_f (by decide) (br_f (by decide) (br_f (by decide) (br_f (by decide) (br_t (by decide) (br_f (by decide) (br_t (by decide) (br_f (by decide) (br_t rfl (nm_r (nI_pred dp) (And.intro (vp_in_nI hd (by omega)) (nm_r ?_ hP))))))))))))
  rw [nI_clamp (by omega)]
  exact hr
theorem sg_pd (hc : xb_cd B p = en_w 21 a 0) (hp : p < 420) (ha : a < 240) (hq : ms_DG V a = nI d) (hd : d < 10) (hpc : pc < 2 ^ 30) (k : xs_G post B (p + 1) od dp nc ta (pc + 1) V st on (ms_tp pc tx (nI (48 + d)))) : xs_G post B p od dp nc ta pc V st on tx := by
  have hq2 : 48 + ms_DG V (nI a).toNatClampNeg = nI (48 + d) := by rw [nI_clamp (by omega), hq]; exact nI_add 48 d
  refine xs_step rfl ?_ k
  intro P hP
  refine sl_75 hc hp (Or.inr (by omega)) (by omega) (by omega) (br_f (by decide) (br_f (by decide) (br_f (by decide) (br_f (by decide) (br_t (by decide) (br_f (by decide) (br_t (by decide) (br_f (by decide) (br_f (by decide) (br_t rfl (And.intro (vp_in_nI ha (by omega)) ?_)))))))))))
  rw [hq2]
  exact xr_pr (by omega) hpc hP
theorem sg_put (hc : xb_cd B p = en_w 22 a 0) (hp : p < 420) (ha : a < 128) (hpc : pc < 2 ^ 30) (k : xs_G post B (p + 1) od dp nc ta (pc + 1) V st on (ms_tp pc tx (nI a))) : xs_G post B p od dp nc ta pc V st on tx := by
  refine xs_step rfl ?_ k
  intro P hP
  exact sl_75 hc hp (Or.inr (by omega)) (by omega) (by omega) (br_f (by decide) (br_f (by decide) (br_f (by decide) (br_f (by decide) (br_t (by decide) (br_f (by decide) (br_t (by decide) (br_f (by decide) (br_f (by decide) (br_f (by decide) (br_t rfl (xr_pr ha hpc hP))))))))))))
theorem sg_im (hc : xb_cd B p = en_w 23 e b) (hp : p < 420) (he : ms_isE e = true) (hb : b < 1024) (kt : V e < 0 → xs_G post B b od dp nc ta pc V st on tx) (kf : 0 ≤ V e → xs_G post B (p + 1) od dp nc ta pc V st on tx) : xs_G post B p od dp nc ta pc V st on tx := by
  have h2 := ms_E he
  have hcl : (nI e).toNatClampNeg = e := nI_clamp (by omega)
  have hin : vp_in (nI e) 240 := vp_in_nI (by omega) (by omega)
  have h10 : ¬ (1 : Int32) = 0 := by decide
  by_cases h : V e < 0
  · refine xs_step rfl ?_ (kt h)
    intro P hP
    refine sl_75 hc hp (Or.inr (by omega)) (by omega) (by omega) (br_f (by decide) (br_f (by decide) (br_f (by decide) (br_f (by decide) (br_t (by decide) (br_f (by decide) (br_t (by decide) (br_f (by decide) (br_f (by decide) (br_f (by decide) (br_f (by decide) (br_t rfl (And.intro hin (br_f ?_ hP))))))))))))))
    rw [hcl, ms_MN1 he h]; exact h10
  · refine xs_step rfl ?_ (kf (by omega))
    intro P hP
    refine sl_75 hc hp (Or.inr (by omega)) (by omega) (by omega) (br_f (by decide) (br_f (by decide) (br_f (by decide) (br_f (by decide) (br_t (by decide) (br_f (by decide) (br_t (by decide) (br_f (by decide) (br_f (by decide) (br_f (by decide) (br_f (by decide) (br_t rfl (And.intro hin (br_t ?_ hP))))))))))))))
    rw [hcl, ms_MN0 h]
theorem sg_iz (hc : xb_cd B p = en_w 24 a b) (hp : p < 420) (ha : a < 240) (hq : ms_DG V a = nI d) (hd : d < 10) (hb : b < 1024) (kt : d = 0 → xs_G post B b od dp nc ta pc V st on tx) (kf : d ≠ 0 → xs_G post B (p + 1) od dp nc ta pc V st on tx) : xs_G post B p od dp nc ta pc V st on tx := by
  have hq2 : ms_DG V (nI a).toNatClampNeg = nI d := by rw [nI_clamp (by omega)]; exact hq
  have hin : vp_in (nI a) 240 := vp_in_nI (by omega) (by omega)
  by_cases h : d = 0
  · refine xs_step rfl ?_ (kt h)
    intro P hP
    refine sl_75 hc hp (Or.inr (by omega)) (by omega) (by omega) (br_f (by decide) (br_f (by decide) (br_f (by decide) (br_f (by decide) (br_t (by decide) (br_f (by decide) (br_t (by decide) (br_f (by decide) (br_f (by decide) (br_f (by decide) (br_f (by decide) (br_f (by decide) (br_t rfl (And.intro hin (br_t ?_ hP)))))))))))))))
    rw [hq2, h]; rfl
  · refine xs_step rfl ?_ (kf h)
    intro P hP
    refine sl_75 hc hp (Or.inr (by omega)) (by omega) (by omega) (br_f (by decide) (br_f (by decide) (br_f (by decide) (br_f (by decide) (br_t (by decide) (br_f (by decide) (br_t (by decide) (br_f (by decide) (br_f (by decide) (br_f (by decide) (br_f (by decide) (br_f (by decide) (br_t rfl (And.intro hin (br_f ?_ hP)))))))))))))))
    rw [hq2]; exact nI_ne0 (by omega) (by omega)
theorem sg_trn (hc : xb_cd B p = en_w 25 e 0) (hp : p < 420) (he : ms_isE e = true) (hN : ms_N V)
    (k : ms_N (ms_u V e (-(V e))) → xs_G post B (p + 1) od dp nc ta pc (ms_u V e (-(V e))) st on tx) : xs_G post B p od dp nc ta pc V st on tx := by
  have h2 := ms_E he
  have hcl : (nI e).toNatClampNeg = e := nI_clamp (by omega)
  have hin : vp_in (nI e) 240 := vp_in_nI (by omega) (by omega)
  have h10 : ¬ (1 : Int32) = 0 := by decide
  have em : ms_DG V = ms_DG (ms_u V e (-(V e))) := by
    rw [← ms_abs (x := -(V e)) (z := (V e).natAbs) (by omega), ms_abs (x := V e) rfl]
    congr 1
    funext j
    unfold ms_u
    by_cases hj : j = e
    · rw [if_pos hj, hj]
    · rw [if_neg hj]
  refine xs_step rfl ?_ (k (ms_Nu hN (by have := hN e he; omega)))
  intro P hP
  refine sl_75 hc hp (Or.inr (by omega)) (by omega) (by omega) (br_f (by decide) (br_f (by decide) (br_f (by decide) (br_f (by decide) (br_t (by decide) (br_f (by decide) (br_t (by decide) (br_f (by decide) (br_f (by decide) (br_f (by decide) (br_f (by decide) (br_f (by decide) (br_f (by decide) (br_t rfl (And.intro hin ?_)))))))))))))))
  rw [hcl]
  by_cases h : V e < 0
  · refine br_f (by rw [ms_MN1 he h]; exact h10) (And.intro hin (nm_r (e' := ms_MN (ms_u V e (-(V e)))) ?_ ?_))
    · rw [sm_t0]; exact ms_MNu0 he (by omega)
    · rw [em]; exact hP
  · refine br_t (ms_MN0 h) (xr_zero he (hN e he) ?_ ?_)
    · intro z
      refine br_f h10 (And.intro hin (nm_r (e' := ms_MN (ms_u V e (-(V e)))) ?_ ?_))
      · rw [sm_t0]; exact ms_MNu0 he (by omega)
      · rw [em]; exact hP
    · intro z
      refine br_t rfl (And.intro hin (nm_r (e' := ms_MN (ms_u V e (-(V e)))) ?_ ?_))
      · rw [sm_t1]; exact ms_MNu1 he (by omega)
      · rw [em]; exact hP
theorem sg_tal (hc : xb_cd B p = en_w 26 0 0) (hp : p < 420) (k : xs_G post B (p + 1) od dp nc (ta + 1) pc V st on tx) : xs_G post B p od dp nc ta pc V st on tx := by
  refine xs_step rfl ?_ k
  intro P hP
  exact sl_75 hc hp (Or.inr (by omega)) (by omega) (by omega) (br_f (by decide) (br_f (by decide) (br_f (by decide) (br_f (by decide) (br_t (by decide) (br_f (by decide) (br_t (by decide) (br_f (by decide) (br_f (by decide) (br_f (by decide) (br_f (by decide) (br_f (by decide) (br_f (by decide) (br_f (by decide) (br_t rfl (nm_r (nI_1 ta) hP))))))))))))))))
theorem sg_rd0 (hc : xb_cd B p = en_w 13 0 b) (hp : p < 420) (hb : b < 1024) (hn : xb_cc B = nI nc) (k : xs_G post B b od dp nc ta pc V st on tx) : xs_G post B p od dp nc ta pc V st on tx := by
  refine xs_step rfl ?_ k
  intro P hP
  exact sl_75 hc hp (Or.inr (by omega)) (by omega) (by omega) (br_f (by decide) (br_f (by decide) (br_f (by decide) (br_f (by decide) (br_t (by decide) (br_t rfl (br_t hn.symm hP)))))))
theorem sg_rd1 (hc : xb_cd B p = en_w 13 0 b) (hp : p < 420) (hb : b < 1024) (hnc : nc < 16) (hn : ¬ xb_cc B = nI nc) (b0 : (xb_ak B nc).toInt.natAbs < 100) (b1 : (xb_ap B nc).toInt.natAbs < 100) (b2 : (xb_af B nc).toInt.natAbs < 1000) (b3 : (xb_as B nc).toInt.natAbs < 1000) (hN : ms_N V)
    (k : ms_N (ms_u (ms_u (ms_u (ms_u V 39 (xb_ak B nc).toInt) 43 (xb_ap B nc).toInt) 49 (xb_af B nc).toInt) 55 (xb_as B nc).toInt) → xs_G post B (p + 1) od dp (nc + 1) ta pc (ms_u (ms_u (ms_u (ms_u V 39 (xb_ak B nc).toInt) 43 (xb_ap B nc).toInt) 49 (xb_af B nc).toInt) 55 (xb_as B nc).toInt) st on tx) : xs_G post B p od dp nc ta pc V st on tx := by
  refine xs_step rfl ?_ (k (ms_Nu (ms_Nu (ms_Nu (ms_Nu hN b0) b1) b2) b3))
  intro P hP
  exact sl_75 hc hp (Or.inr (by omega)) (by omega) (by omega) (br_f (by decide) (br_f (by decide) (br_f (by decide) (br_f (by decide) (br_t (by decide) (br_t rfl (xr_rd hnc (fun z => hn z.symm) (by omega) (by omega) (by omega) (by omega) hP)))))))
end SG07b
end
section
/-! code laid at a place; the three routines -/
def en_l (t : Nat × Nat × Nat) : Int32 := en_w t.1 t.2.1 t.2.2
def xc_at (c : Nat → Int32) (p : Nat) (L : List (Nat × Nat × Nat)) : Prop := ∀ i, i < L.length → c (p + i) = en_l (L.getD i (0, 0, 0))
def rt_L : List (Nat × Nat × Nat) := [
  (18,151,149),(23,122,4),(5,0,6),(16,149,0),(17,122,0),(23,128,8),(5,0,10),(16,149,0),(17,128,0),(1,151,116),
  (14,116,151),(18,123,148),(15,148,16),(2,122,116),(5,0,13),
  (14,116,151),(18,124,148),(15,148,21),(2,122,116),(5,0,18),
  (14,116,151),(18,125,148),(15,148,26),(2,122,116),(5,0,23),
  (14,116,151),(18,126,148),(15,148,31),(2,122,116),(5,0,28),
  (14,116,151),(18,127,148),(15,148,36),(2,122,116),(5,0,33),
  (14,116,151),(18,128,148),(15,148,41),(2,122,116),(5,0,38),
  (15,149,45),(24,149,44),(20,0,0),(25,116,0),(20,0,0),
  (18,151,149),(23,122,49),(5,0,51),(16,149,0),(17,122,0),(23,128,53),(5,0,55),(16,149,0),(17,128,0),
  (1,151,141),(4,128,151),(6,0,60),(11,3,0),(20,0,0),(1,151,135),
  (14,135,117),(18,151,148),(4,135,128),(7,0,68),(3,128,135),(16,148,0),(5,0,63),(14,141,148),
  (14,135,118),(18,151,148),(4,135,128),(7,0,76),(3,128,135),(16,148,0),(5,0,71),(14,141,148),
  (14,135,119),(18,151,148),(4,135,128),(7,0,84),(3,128,135),(16,148,0),(5,0,79),(14,141,148),
  (14,135,120),(18,151,148),(4,135,128),(7,0,92),(3,128,135),(16,148,0),(5,0,87),(14,141,148),
  (14,135,121),(18,151,148),(4,135,128),(7,0,100),(3,128,135),(16,148,0),(5,0,95),(14,141,148),
  (14,135,122),(18,151,148),(4,135,128),(7,0,108),(3,128,135),(16,148,0),(5,0,103),(14,141,148),
  (15,149,113),(24,149,112),(20,0,0),(25,141,0),(20,0,0),
  (23,147,116),(5,0,117),(22,45,0),
  (24,142,119),(5,0,128),(24,143,121),(5,0,129),(24,144,123),(5,0,130),(24,145,125),(5,0,131),(24,146,127),(5,0,132),(5,0,133),
  (21,142,0),(21,143,0),(21,144,0),(21,145,0),(21,146,0),(21,147,0),(22,32,0),(20,0,0)]
theorem rt_len : rt_L.length = 135 := by decide
section RT08
variable {post : Int32 → SX → Prop} {B : xs_B} {od : Int32} {dp nc ta pc r : Nat} {V : Nat → Int} {st on tx : Nat → Int32}
theorem rt_half {q f c : Nat} (h0 : xb_cd B q = en_w 23 f (q + 2)) (h1 : xb_cd B (q + 1) = en_w 5 0 (q + 4)) (h2 : xb_cd B (q + 2) = en_w 16 149 0) (h3 : xb_cd B (q + 3) = en_w 17 f 0) (hq : q < 400) (hf : ms_isE f = true) (hfn : f ≠ 149) (hN : ms_N V) (hc : V 149 = (c : Int)) (hc9 : c < 9)
    (k : ∀ V' : Nat → Int, ms_N V' → V' f = ((V f).natAbs : Int) → V' 149 = ((c + if V f < 0 then 1 else 0 : Nat) : Int) → (∀ e, e ≠ f → e ≠ 149 → V' e = V e) → xs_G post B (q + 4) od dp nc ta pc V' st on tx) : xs_G post B q od dp nc ta pc V st on tx := by
  have hf1 := ms_E hf
  refine sg_im h0 (by omega) hf (by omega) (fun hv => ?_) (fun hv => ?_)
  · refine sg_cu h2 (by omega) rfl rfl hc hc9 hN (fun hN1 => ?_)
    refine sg_pl h3 (by omega) hf hN1 (fun hN2 => ?_)
    refine k _ hN2 ?_ ?_ ?_
    · rw [ms_us, ms_un hfn]
    · rw [ms_un (Ne.symm hfn), ms_us, if_pos hv]
    · intro e e1 e2
      rw [ms_un e1, ms_un e2]
  · refine sg_jmp h1 (by omega) (by omega) (by omega) ?_
    refine k V hN ?_ ?_ (fun _ _ _ => rfl)
    · omega
    · rw [hc, if_neg (by omega)]; rfl
/-- the signs of the two factors are counted and lost -/
theorem rt_sg {q : Nat} (h0 : xb_cd B q = en_w 18 151 149) (h1 : xb_cd B (q + 1) = en_w 23 122 (q + 3)) (h2 : xb_cd B (q + 2) = en_w 5 0 (q + 5)) (h3 : xb_cd B (q + 3) = en_w 16 149 0) (h4 : xb_cd B (q + 4) = en_w 17 122 0) (h5 : xb_cd B (q + 5) = en_w 23 128 (q + 7)) (h6 : xb_cd B (q + 6) = en_w 5 0 (q + 9)) (h7 : xb_cd B (q + 7) = en_w 16 149 0) (h8 : xb_cd B (q + 8) = en_w 17 128 0) (hq : q < 390) (hN : ms_N V) (hz : V 151 = 0) (hs : 0 ≤ V 149)
    (k : ∀ V' : Nat → Int, ms_N V' → V' 122 = ((V 122).natAbs : Int) → V' 128 = ((V 128).natAbs : Int) → V' 149 = (((if V 122 < 0 then 1 else 0) + if V 128 < 0 then 1 else 0 : Nat) : Int) → (∀ e, e ≠ 122 → e ≠ 128 → e ≠ 149 → V' e = V e) → xs_G post B (q + 9) od dp nc ta pc V' st on tx) : xs_G post B q od dp nc ta pc V st on tx := by
  refine sg_dg (d := 0) h0 (by omega) (by omega) ?_ (by omega) rfl rfl hs hN (fun hN1 => ?_)
  · rw [ms_DG0 rfl, hz]; rfl
  refine rt_half (c := 0) h1 h2 h3 h4 (by omega) rfl (by decide) hN1 ms_us (by omega) (fun V2 hN2 a1 a2 a3 => ?_)
  have e122 : ms_u V 149 ((0 : Nat) : Int) 122 = V 122 := ms_un (by decide)
  have e128 : ms_u V 149 ((0 : Nat) : Int) 128 = V 128 := ms_un (by decide)
  rw [e122] at a1 a2
  have b128 : V2 128 = V 128 := (a3 128 (by decide) (by decide)).trans e128
  refine rt_half h5 h6 h7 h8 (by omega) rfl (by decide) hN2 a2 (by split <;> omega) (fun V3 hN3 c1 c2 c3 => ?_)
  rw [b128] at c1 c2
  refine k V3 hN3 ?_ c1 ?_ ?_
  · rw [c3 122 (by decide) (by decide)]; exact a1
  · rw [c2, Nat.zero_add]
  · intro e e1 e2 e3
    rw [c3 e e2 e3, a3 e e1 e3, ms_un e3]
theorem rt_tm {x m : Nat} (h : x < m) : Int.tmod (x : Int) (m : Int) = (x : Int) := Int.tmod_eq_of_lt (by omega) (by omega)
/-- the inner loop of multiply -/
theorem rt_mi {q x : Nat} (h2 : xb_cd B (q + 2) = en_w 15 148 (q + 5)) (h3 : xb_cd B (q + 3) = en_w 2 122 116) (h4 : xb_cd B (q + 4) = en_w 5 0 (q + 2)) (hq : q < 400) : ∀ (c M : Nat) (V : Nat → Int), ms_N V → V 122 = (x : Int) → V 148 = (c : Int) → V 116 = (M : Int) → M + c * x < 10 ^ 12 →
    (∀ V' : Nat → Int, ms_N V' → V' 116 = ((M + c * x : Nat) : Int) → 0 ≤ V' 148 → (∀ e, e ≠ 116 → e ≠ 148 → V' e = V e) → xs_G post B (q + 5) od dp nc ta pc V' st on tx) → xs_G post B (q + 2) od dp nc ta pc V st on tx := by
  intro c
  induction c with
  | zero =>
    intro M V hN hx hc hM hb k
    refine sg_cd h2 (by omega) rfl rfl (by omega) hc hN (fun _ => ?_) (fun z => absurd rfl z)
    refine k V hN ?_ (by omega) (fun _ _ _ => rfl)
    rw [hM, Nat.zero_mul, Nat.add_zero]
  | succ c ih =>
    intro M V hN hx hc hM hb k
    have hmul : (c + 1) * x = c * x + x := Nat.succ_mul c x
    refine sg_cd h2 (by omega) rfl rfl (by omega) hc hN (fun z => absurd z (by omega)) (fun _ hN1 => ?_)
    have e122 : ms_u V 148 ((c + 1 - 1 : Nat) : Int) 122 = (x : Int) := (ms_un (by decide)).trans hx
    have e116 : ms_u V 148 ((c + 1 - 1 : Nat) : Int) 116 = (M : Int) := (ms_un (by decide)).trans hM
    refine sg_add h3 (by omega) rfl rfl (by decide) ?_ hN1 ?_
    · rw [e122]; show x < 10 ^ 12; omega
    rw [e122, e116]
    intro hN2
    have et : Int.tmod ((M : Int) + (x : Int)) ((10 ^ ms_fl 116 : Nat) : Int) = ((M + x : Nat) : Int) := by
      have : (M : Int) + (x : Int) = ((M + x : Nat) : Int) := by omega
      rw [this]
      exact rt_tm (m := 10 ^ 12) (by omega)
    rw [et] at hN2 ⊢
    refine sg_jmp h4 (by omega) (by omega) (by omega) ?_
    refine ih (M + x) _ hN2 ?_ ?_ ms_us (by omega) (fun V' n1 n2 n3 n4 => k V' n1 ?_ n3 ?_)
    · rw [ms_un (by decide)]; exact e122
    · rw [ms_un (by decide), ms_us]; rfl
    · rw [n2]
      exact congrArg Int.ofNat (by omega)
    · intro e e1 e2
      rw [n4 e e1 e2, ms_un e1, ms_un e2]
/-- one digit of the right factor -/
theorem rt_ml {q x y k : Nat} (h0 : xb_cd B q = en_w 14 116 151) (h1 : xb_cd B (q + 1) = en_w 18 (128 - k) 148) (h2 : xb_cd B (q + 2) = en_w 15 148 (q + 5)) (h3 : xb_cd B (q + 3) = en_w 2 122 116) (h4 : xb_cd B (q + 4) = en_w 5 0 (q + 2)) (hq : q < 400) (hk : k < 6) (hx : x < 10 ^ 6) (hy : y < 10 ^ 6) (hN : ms_N V)
    (v1 : V 122 = (x : Int)) (v2 : V 128 = (y : Int)) (v3 : V 151 = 0) (v4 : 0 ≤ V 148) (v5 : V 116 = ((x * (y / 10 ^ (k + 1)) : Nat) : Int))
    (K : ∀ V' : Nat → Int, ms_N V' → V' 116 = ((x * (y / 10 ^ k) : Nat) : Int) → 0 ≤ V' 148 → (∀ e, e ≠ 116 → e ≠ 148 → V' e = V e) → xs_G post B (q + 5) od dp nc ta pc V' st on tx) : xs_G post B q od dp nc ta pc V st on tx := by
  have hlt : x * y < 10 ^ 12 := by
    have : x * y ≤ (10 ^ 6 - 1) * (10 ^ 6 - 1) := Nat.mul_le_mul (by omega) (by omega)
    omega
  have hn : y / 10 ^ k = 10 * (y / 10 ^ (k + 1)) + da_k y k := da_next y k
  have hle : x * (y / 10 ^ k) ≤ x * y := Nat.mul_le_mul_left x (Nat.div_le_self _ _)
  have hd := da_lt y k
  have hsp : x * (y / 10 ^ k) = x * (y / 10 ^ (k + 1)) * 10 + da_k y k * x := by
    rw [hn, Nat.mul_add, Nat.mul_comm x (da_k y k), Nat.mul_left_comm, Nat.mul_comm 10]
  refine sg_shf (x := x * (y / 10 ^ (k + 1)) * 10) h0 (by omega) rfl (by omega) (d := 0) ?_ (by omega) (by omega) ?_ hN (fun hN1 => ?_)
  · rw [ms_DG0 rfl, v3]; rfl
  · rw [v5]
    show _ = (x * (y / 10 ^ (k + 1)) * 10 + 0) % 10 ^ 12
    exact (Nat.mod_eq_of_lt (by omega)).symm
  refine sg_dg (d := da_k y k) h1 (by omega) (by omega) ?_ hd rfl rfl ?_ hN1 (fun hN2 => ?_)
  · rw [ms_DGat rfl (show k < ms_fl 128 from hk), ms_un (by decide), v2]; rfl
  · rw [ms_un (by decide)]; exact v4
  refine rt_mi (x := x) h2 h3 h4 hq (da_k y k) (x * (y / 10 ^ (k + 1)) * 10) _ hN2 ?_ ms_us ?_ (by omega) (fun V' n1 n2 n3 n4 => K V' n1 ?_ n3 ?_)
  · rw [ms_un (by decide), ms_un (by decide)]; exact v1
  · rw [ms_un (by decide), ms_us]
  · rw [n2, hsp]
  · intro e e1 e2
    rw [n4 e e1 e2, ms_un e2, ms_un e1]
/-- the end of both: the sign -/
theorem rt_so {q f c : Nat} (h0 : xb_cd B q = en_w 15 149 (q + 4)) (h1 : xb_cd B (q + 1) = en_w 24 149 (q + 3)) (h2 : xb_cd B (q + 2) = en_w 20 0 0) (h3 : xb_cd B (q + 3) = en_w 25 f 0) (h4 : xb_cd B (q + 4) = en_w 20 0 0) (hq : q < 400) (hf : ms_isE f = true) (hfn : f ≠ 149) (hN : ms_N V) (hc : V 149 = (c : Int)) (hc2 : c ≤ 2) (hd : dp < 4) (hr : st dp = nI r)
    (k : ∀ V' : Nat → Int, ms_N V' → V' f = (if c = 1 then -(V f) else V f) → 0 ≤ V' 149 → (∀ e, e ≠ f → e ≠ 149 → V' e = V e) → xs_G post B r od dp nc ta pc V' st on tx) : xs_G post B q od (dp + 1) nc ta pc V st on tx := by
  have hf1 := ms_E hf
  refine sg_cd h0 (by omega) rfl rfl (by omega) hc hN (fun z => ?_) (fun z hN1 => ?_)
  · refine sg_ret h4 (by omega) hd hr (k V hN ?_ (by omega) (fun _ _ _ => rfl))
    rw [if_neg (by omega)]
  · refine sg_iz (d := c - 1) h1 (by omega) (by omega) ?_ (by omega) (by omega) (fun z1 => ?_) (fun z1 => ?_)
    · rw [ms_DG0 rfl, ms_us, da_0, show (((c - 1 : Nat) : Int)).natAbs = c - 1 from rfl, Nat.mod_eq_of_lt (by omega)]
    · refine sg_trn h3 (by omega) hf hN1 (fun hN2 => ?_)
      refine sg_ret h4 (by omega) hd hr (k _ hN2 ?_ ?_ ?_)
      · rw [ms_us, ms_un hfn, if_pos (by omega)]
      · rw [ms_un (Ne.symm hfn), ms_us]; omega
      · intro e e1 e2
        rw [ms_un e1, ms_un e2]
    · refine sg_ret h2 (by omega) hd hr (k _ hN1 ?_ ?_ ?_)
      · rw [ms_un hfn, if_neg (by omega)]
      · rw [ms_us]; omega
      · intro e e1 e2
        rw [ms_un e2]
end RT08
end
section
theorem rt_at {c : Nat → Int32} (h : xc_at c 1 rt_L) (i : Nat) (hi : i < 135) : c (1 + i) = en_l (rt_L.getD i (0, 0, 0)) := h i (by rw [rt_len]; exact hi)
/-- signs and a product -/
theorem rt_sm (x y : Int) : (if (((if x < 0 then 1 else 0) + if y < 0 then 1 else 0 : Nat)) = 1 then -((x.natAbs * y.natAbs : Nat) : Int) else ((x.natAbs * y.natAbs : Nat) : Int)) = x * y := by
  rw [Int.natCast_mul]
  by_cases hx : x < 0
  · have ex : (x.natAbs : Int) = -x := by omega
    by_cases hy : y < 0
    · have ey : (y.natAbs : Int) = -y := by omega
      rw [if_pos hx, if_pos hy, if_neg (by omega), ex, ey, Int.neg_mul_neg]
    · have ey : (y.natAbs : Int) = y := by omega
      rw [if_pos hx, if_neg hy, if_pos (by omega), ex, ey, Int.neg_mul, Int.neg_neg]
  · have ex : (x.natAbs : Int) = x := by omega
    by_cases hy : y < 0
    · have ey : (y.natAbs : Int) = -y := by omega
      rw [if_neg hx, if_pos hy, if_pos (by omega), ex, ey, Int.mul_neg, Int.neg_neg]
    · have ey : (y.natAbs : Int) = y := by omega
      rw [if_neg hx, if_neg hy, if_neg (by omega), ex, ey]
theorem rt_sd (x y : Int) : (if (((if x < 0 then 1 else 0) + if y < 0 then 1 else 0 : Nat)) = 1 then -((x.natAbs / y.natAbs : Nat) : Int) else ((x.natAbs / y.natAbs : Nat) : Int)) = Int.tdiv x y := by
  have hq : ((x.natAbs / y.natAbs : Nat) : Int) = Int.tdiv (x.natAbs : Int) (y.natAbs : Int) := Int.ofNat_tdiv _ _
  rw [hq]
  by_cases hx : x < 0
  · have ex : (x.natAbs : Int) = -x := by omega
    by_cases hy : y < 0
    · have ey : (y.natAbs : Int) = -y := by omega
      rw [if_pos hx, if_pos hy, if_neg (by omega), ex, ey, Int.neg_tdiv_neg]
    · have ey : (y.natAbs : Int) = y := by omega
      rw [if_pos hx, if_neg hy, if_pos (by omega), ex, ey, Int.neg_tdiv, Int.neg_neg]
  · have ex : (x.natAbs : Int) = x := by omega
    by_cases hy : y < 0
    · have ey : (y.natAbs : Int) = -y := by omega
      rw [if_neg hx, if_pos hy, if_pos (by omega), ex, ey, Int.tdiv_neg, Int.neg_neg]
    · have ey : (y.natAbs : Int) = y := by omega
      rw [if_neg hx, if_neg hy, if_neg (by omega), ex, ey]
theorem rt_z (m : Int) : Int.tmod 0 m = 0 := Int.zero_tmod m
section RT09
variable {post : Int32 → SX → Prop} {B : xs_B} {od : Int32} {dp nc ta pc r : Nat} {V : Nat → Int} {st on tx : Nat → Int32}
theorem rt_mul (hR : xc_at (xb_cd B) 1 rt_L) (hN : ms_N V) (v151 : V 151 = 0) (v148 : 0 ≤ V 148) (v149 : 0 ≤ V 149) (hd : dp < 4) (hr : st dp = nI r)
    (k : ∀ V' : Nat → Int, ms_N V' → V' 116 = V 122 * V 128 → 0 ≤ V' 148 → 0 ≤ V' 149 → (∀ e, e ≠ 116 → e ≠ 122 → e ≠ 128 → e ≠ 148 → e ≠ 149 → V' e = V e) → xs_G post B r od dp nc ta pc V' st on tx) : xs_G post B 1 od (dp + 1) nc ta pc V st on tx := by
  have hx : (V 122).natAbs < 10 ^ 6 := hN 122 rfl
  have hy : (V 128).natAbs < 10 ^ 6 := hN 128 rfl
  refine rt_sg (q := 1) (rt_at hR 0 (by omega)) (rt_at hR 1 (by omega)) (rt_at hR 2 (by omega)) (rt_at hR 3 (by omega)) (rt_at hR 4 (by omega)) (rt_at hR 5 (by omega)) (rt_at hR 6 (by omega)) (rt_at hR 7 (by omega)) (rt_at hR 8 (by omega)) (by omega) hN v151 v149 (fun V1 n1 a1 a2 a3 a4 => ?_)
  refine sg_za (p := 10) (a := 151) (b := 116) (rt_at hR 9 (by omega)) (by omega) rfl rfl n1 ?_
  rw [a4 151 (by decide) (by decide) (by decide), v151, rt_z]
  intro n2
  have g1 : ∀ e, e ≠ 116 → e ≠ 122 → e ≠ 128 → e ≠ 149 → ms_u V1 116 0 e = V e := fun e e1 e2 e3 e4 => (ms_un e1).trans (a4 e e2 e3 e4)
  have p1 : ms_u V1 116 0 122 = ((V 122).natAbs : Int) := (ms_un (by decide)).trans a1
  have p2 : ms_u V1 116 0 128 = ((V 128).natAbs : Int) := (ms_un (by decide)).trans a2
  have p3 : ms_u V1 116 0 151 = 0 := (g1 151 (by decide) (by decide) (by decide) (by decide)).trans v151
  have p4 : 0 ≤ ms_u V1 116 0 148 := by rw [g1 148 (by decide) (by decide) (by decide) (by decide)]; exact v148
  have p5 : ms_u V1 116 0 116 = (((V 122).natAbs * ((V 128).natAbs / 10 ^ 6) : Nat) : Int) := by
    rw [ms_us, Nat.div_eq_of_lt hy, Nat.mul_zero]; rfl
  have p6 := (ms_un (V := V1) (e := 116) (x := 0) (j := 149) (by decide)).trans a3
  revert n2 g1 p1 p2 p3 p4 p5 p6
  generalize ms_u V1 116 0 = V2
  intro n2 g1 p1 p2 p3 p4 p5 p6
  refine rt_ml (q := 11) (k := 5) (rt_at hR 10 (by omega)) (rt_at hR 11 (by omega)) (rt_at hR 12 (by omega)) (rt_at hR 13 (by omega)) (rt_at hR 14 (by omega)) (by omega) (by omega) hx hy n2 p1 p2 p3 p4 p5 (fun V3 n3 b1 b2 b3 => ?_)
  refine rt_ml (q := 16) (k := 4) (rt_at hR 15 (by omega)) (rt_at hR 16 (by omega)) (rt_at hR 17 (by omega)) (rt_at hR 18 (by omega)) (rt_at hR 19 (by omega)) (by omega) (by omega) hx hy n3 ((b3 _ (by decide) (by decide)).trans p1) ((b3 _ (by decide) (by decide)).trans p2) ((b3 _ (by decide) (by decide)).trans p3) b2 b1 (fun V4 n4 c1 c2 c3 => ?_)
  have d1 : ∀ e, e ≠ 116 → e ≠ 148 → V4 e = V2 e := fun e e1 e2 => (c3 e e1 e2).trans (b3 e e1 e2)
  refine rt_ml (q := 21) (k := 3) (rt_at hR 20 (by omega)) (rt_at hR 21 (by omega)) (rt_at hR 22 (by omega)) (rt_at hR 23 (by omega)) (rt_at hR 24 (by omega)) (by omega) (by omega) hx hy n4 ((d1 _ (by decide) (by decide)).trans p1) ((d1 _ (by decide) (by decide)).trans p2) ((d1 _ (by decide) (by decide)).trans p3) c2 c1 (fun V5 n5 e1 e2 e3 => ?_)
  have d2 : ∀ e, e ≠ 116 → e ≠ 148 → V5 e = V2 e := fun e z1 z2 => (e3 e z1 z2).trans (d1 e z1 z2)
  refine rt_ml (q := 26) (k := 2) (rt_at hR 25 (by omega)) (rt_at hR 26 (by omega)) (rt_at hR 27 (by omega)) (rt_at hR 28 (by omega)) (rt_at hR 29 (by omega)) (by omega) (by omega) hx hy n5 ((d2 _ (by decide) (by decide)).trans p1) ((d2 _ (by decide) (by decide)).trans p2) ((d2 _ (by decide) (by decide)).trans p3) e2 e1 (fun V6 n6 f1 f2 f3 => ?_)
  have d3 : ∀ e, e ≠ 116 → e ≠ 148 → V6 e = V2 e := fun e z1 z2 => (f3 e z1 z2).trans (d2 e z1 z2)
  refine rt_ml (q := 31) (k := 1) (rt_at hR 30 (by omega)) (rt_at hR 31 (by omega)) (rt_at hR 32 (by omega)) (rt_at hR 33 (by omega)) (rt_at hR 34 (by omega)) (by omega) (by omega) hx hy n6 ((d3 _ (by decide) (by decide)).trans p1) ((d3 _ (by decide) (by decide)).trans p2) ((d3 _ (by decide) (by decide)).trans p3) f2 f1 (fun V7 n7 g1' g2 g3 => ?_)
  have d4 : ∀ e, e ≠ 116 → e ≠ 148 → V7 e = V2 e := fun e z1 z2 => (g3 e z1 z2).trans (d3 e z1 z2)
  refine rt_ml (q := 36) (k := 0) (rt_at hR 35 (by omega)) (rt_at hR 36 (by omega)) (rt_at hR 37 (by omega)) (rt_at hR 38 (by omega)) (rt_at hR 39 (by omega)) (by omega) (by omega) hx hy n7 ((d4 _ (by decide) (by decide)).trans p1) ((d4 _ (by decide) (by decide)).trans p2) ((d4 _ (by decide) (by decide)).trans p3) g2 g1' (fun V8 n8 i1 i2 i3 => ?_)
  have d5 : ∀ e, e ≠ 116 → e ≠ 148 → V8 e = V2 e := fun e z1 z2 => (i3 e z1 z2).trans (d4 e z1 z2)
  refine rt_so (q := 41) (f := 116) (rt_at hR 40 (by omega)) (rt_at hR 41 (by omega)) (rt_at hR 42 (by omega)) (rt_at hR 43 (by omega)) (rt_at hR 44 (by omega)) (by omega) rfl (by decide) n8 ((d5 _ (by decide) (by decide)).trans p6) (by split <;> split <;> omega) hd hr (fun V9 n9 j1 j2 j3 => ?_)
  refine k V9 n9 ?_ ?_ j2 ?_
  · rw [j1, i1, Nat.pow_zero, Nat.div_one]
    exact rt_sm (V 122) (V 128)
  · rw [j3 148 (by decide) (by decide)]; exact i2
  · intro e z1 z2 z3 z4 z5
    rw [j3 e z1 z5, d5 e z1 z4, g1 e z1 z2 z3 z5]
/-- the inner loop of divide -/
theorem rt_di {q y : Nat} (h2 : xb_cd B (q + 2) = en_w 4 135 128) (h3 : xb_cd B (q + 3) = en_w 7 0 (q + 7)) (h4 : xb_cd B (q + 4) = en_w 3 128 135) (h5 : xb_cd B (q + 5) = en_w 16 148 0) (h6 : xb_cd B (q + 6) = en_w 5 0 (q + 2)) (hq : q < 400) (hy : 0 < y) (hy6 : y < 10 ^ 6) : ∀ (n c R : Nat) (V : Nat → Int) (od : Int32), R < n → ms_N V → V 128 = (y : Int) → V 148 = (c : Int) → V 135 = (R : Int) → c * y + R < 10 * y →
    (∀ (V' : Nat → Int) (od' : Int32), ms_N V' → V' 135 = (((c * y + R) % y : Nat) : Int) → V' 148 = (((c * y + R) / y : Nat) : Int) → (∀ e, e ≠ 135 → e ≠ 148 → V' e = V e) → xs_G post B (q + 7) od' dp nc ta pc V' st on tx) → xs_G post B (q + 2) od dp nc ta pc V st on tx := by
  intro n
  induction n with
  | zero => intro c R V od h; omega
  | succ n ih =>
    intro c R V od hn hN v1 v2 v3 hT k
    refine sg_cmp h2 (by omega) rfl rfl hN (fun r hr => ?_)
    refine sg_lo h3 (by omega) (by omega) hr (fun hlt => ?_) (fun hge => ?_)
    · have hlt' : R < y := by omega
      refine k V r hN ?_ ?_ (fun _ _ _ => rfl)
      · rw [v3, Nat.add_comm, Nat.add_mul_mod_self_right, Nat.mod_eq_of_lt hlt']
      · rw [v2, Nat.add_comm, Nat.add_mul_div_right _ _ hy, Nat.div_eq_of_lt hlt', Nat.zero_add]
    · have hge' : y ≤ R := by omega
      have hc9 : c < 9 := by
        have hm : (c + 1) * y = c * y + y := Nat.succ_mul c y
        have : (c + 1) * y < 10 * y := by omega
        have := Nat.lt_of_mul_lt_mul_right this
        omega
      refine sg_sub h4 (by omega) rfl rfl (by decide) ?_ hN ?_
      · rw [v1]; show y < 10 ^ 7; omega
      rw [v3, v1]
      intro hN1
      have hR7 : R < 10 ^ 7 := by omega
      have et : Int.tmod ((R : Int) - (y : Int)) ((10 ^ ms_fl 135 : Nat) : Int) = ((R - y : Nat) : Int) := by
        have : (R : Int) - (y : Int) = ((R - y : Nat) : Int) := by omega
        rw [this]
        exact rt_tm (m := 10 ^ 7) (by omega)
      rw [et] at hN1 ⊢
      refine sg_cu h5 (by omega) rfl rfl ((ms_un (by decide)).trans v2) hc9 hN1 (fun hN2 => ?_)
      refine sg_jmp h6 (by omega) (by omega) (by omega) ?_
      have hm : (c + 1) * y = c * y + y := Nat.succ_mul c y
      have eT : (c + 1) * y + (R - y) = c * y + R := by omega
      refine ih (c + 1) (R - y) _ r (by omega) hN2 ?_ ms_us ?_ (by omega) ?_
      · rw [ms_un (by decide), ms_un (by decide)]; exact v1
      · rw [ms_un (by decide), ms_us]
      · rw [eT]
        intro V' od' n1 n2 n3 n4
        refine k V' od' n1 n2 n3 ?_
        intro e e1 e2
        rw [n4 e e1 e2, ms_un e2, ms_un e1]
theorem rt_dq {X y d : Nat} (hy : 0 < y) : (10 * X + d) / y = X / y * 10 + (X % y * 10 + d) / y ∧ (10 * X + d) % y = (X % y * 10 + d) % y := by
  have hX := Nat.div_add_mod X y
  have e : 10 * X + d = y * (X / y * 10) + (X % y * 10 + d) := by
    have : y * (X / y * 10) = y * (X / y) * 10 := (Nat.mul_assoc _ _ _).symm
    omega
  rw [e]
  exact ⟨Nat.mul_add_div hy _ _, Nat.mul_add_mod _ _ _⟩
/-- one digit of the quotient -/
theorem rt_dl {q x y k : Nat} (h0 : xb_cd B q = en_w 14 135 (122 - k)) (h1 : xb_cd B (q + 1) = en_w 18 151 148) (h2 : xb_cd B (q + 2) = en_w 4 135 128) (h3 : xb_cd B (q + 3) = en_w 7 0 (q + 7)) (h4 : xb_cd B (q + 4) = en_w 3 128 135) (h5 : xb_cd B (q + 5) = en_w 16 148 0) (h6 : xb_cd B (q + 6) = en_w 5 0 (q + 2)) (h7 : xb_cd B (q + 7) = en_w 14 141 148) (hq : q < 400) (hk : k < 6) (hx : x < 10 ^ 6) (hy : 0 < y) (hy6 : y < 10 ^ 6) (hN : ms_N V)
    (v1 : V 122 = (x : Int)) (v2 : V 128 = (y : Int)) (v3 : V 151 = 0) (v4 : 0 ≤ V 148) (v5 : V 135 = ((x / 10 ^ (k + 1) % y : Nat) : Int)) (v6 : V 141 = ((x / 10 ^ (k + 1) / y : Nat) : Int))
    (K : ∀ (V' : Nat → Int) (od' : Int32), ms_N V' → V' 135 = ((x / 10 ^ k % y : Nat) : Int) → V' 141 = ((x / 10 ^ k / y : Nat) : Int) → 0 ≤ V' 148 → (∀ e, e ≠ 135 → e ≠ 141 → e ≠ 148 → V' e = V e) → xs_G post B (q + 8) od' dp nc ta pc V' st on tx) : xs_G post B q od dp nc ta pc V st on tx := by
  have hd := da_lt x k
  have hX := da_next x k
  have ⟨hq1, hq2⟩ := rt_dq (X := x / 10 ^ (k + 1)) (d := da_k x k) hy
  rw [← hX] at hq1 hq2
  have hm := Nat.mod_lt (x / 10 ^ (k + 1)) hy
  have hT : x / 10 ^ (k + 1) % y * 10 + da_k x k < 10 * y := by omega
  have hTy : (x / 10 ^ (k + 1) % y * 10 + da_k x k) / y < 10 := Nat.div_lt_of_lt_mul (by omega)
  have hle : x / 10 ^ k / y < 10 ^ 6 := Nat.lt_of_le_of_lt (Nat.le_trans (Nat.div_le_self _ _) (Nat.div_le_self _ _)) hx
  refine sg_shf (x := x / 10 ^ (k + 1) % y * 10 + da_k x k) (d := da_k x k) h0 (by omega) rfl (by omega) ?_ hd (by omega) ?_ hN (fun hN1 => ?_)
  · rw [ms_DGat rfl (show k < ms_fl 122 from hk), v1]; rfl
  · rw [v5]
    show _ = (x / 10 ^ (k + 1) % y * 10 + da_k x k) % 10 ^ 7
    exact (Nat.mod_eq_of_lt (by omega)).symm
  refine sg_dg (d := 0) h1 (by omega) (by omega) ?_ (by omega) rfl rfl ?_ hN1 (fun hN2 => ?_)
  · rw [ms_DG0 rfl, ms_un (by decide), v3]; rfl
  · rw [ms_un (by decide)]; exact v4
  refine rt_di h2 h3 h4 h5 h6 hq hy hy6 (x / 10 ^ (k + 1) % y * 10 + da_k x k + 1) 0 (x / 10 ^ (k + 1) % y * 10 + da_k x k) _ od (by omega) hN2 ?_ ms_us ?_ (by omega) ?_
  · rw [ms_un (by decide), ms_un (by decide)]; exact v2
  · rw [ms_un (by decide), ms_us]
  rw [Nat.zero_mul, Nat.zero_add]
  intro V3 od3 hN3 c1 c2 c3
  have c141 : V3 141 = V 141 := by rw [c3 141 (by decide) (by decide), ms_un (by decide), ms_un (by decide)]
  refine sg_shf (x := x / 10 ^ k / y) (d := (x / 10 ^ (k + 1) % y * 10 + da_k x k) / y) h7 (by omega) rfl (by omega) ?_ hTy ?_ ?_ hN3 (fun hN4 => ?_)
  · rw [ms_DG0 rfl, c2, da_0]
    exact congrArg nI (Nat.mod_eq_of_lt hTy)
  · rw [c141, v6]; omega
  · rw [c141, v6]
    show _ = (x / 10 ^ (k + 1) / y * 10 + _) % 10 ^ 6
    rw [← hq1, Nat.mod_eq_of_lt hle]
  refine K _ od3 hN4 ?_ ms_us ?_ ?_
  · rw [ms_un (by decide), c1, hq2]
  · rw [ms_un (by decide), c2]; exact Int.natCast_nonneg _
  · intro e e1 e2 e3
    rw [ms_un e2, c3 e e1 e3, ms_un e3, ms_un e1]
theorem rt_div (hR : xc_at (xb_cd B) 1 rt_L) (hN : ms_N V) (v151 : V 151 = 0) (v148 : 0 ≤ V 148) (v149 : 0 ≤ V 149) (hd : dp < 4) (hr : st dp = nI r)
    (k0 : V 128 = 0 → ∀ (V' : Nat → Int) (od' : Int32), ms_N V' → V' 141 = 0 → 0 ≤ V' 148 → 0 ≤ V' 149 → (∀ e, e ≠ 122 → e ≠ 128 → e ≠ 135 → e ≠ 141 → e ≠ 148 → e ≠ 149 → V' e = V e) → xs_G post B r od' dp nc ta pc V' st (upd on 3 1) tx)
    (k1 : V 128 ≠ 0 → ∀ (V' : Nat → Int) (od' : Int32), ms_N V' → V' 141 = Int.tdiv (V 122) (V 128) → 0 ≤ V' 148 → 0 ≤ V' 149 → (∀ e, e ≠ 122 → e ≠ 128 → e ≠ 135 → e ≠ 141 → e ≠ 148 → e ≠ 149 → V' e = V e) → xs_G post B r od' dp nc ta pc V' st on tx) : xs_G post B 46 od (dp + 1) nc ta pc V st on tx := by
  have hx : (V 122).natAbs < 10 ^ 6 := hN 122 rfl
  have hy : (V 128).natAbs < 10 ^ 6 := hN 128 rfl
  refine rt_sg (q := 46) (rt_at hR 45 (by omega)) (rt_at hR 46 (by omega)) (rt_at hR 47 (by omega)) (rt_at hR 48 (by omega)) (rt_at hR 49 (by omega)) (rt_at hR 50 (by omega)) (rt_at hR 51 (by omega)) (rt_at hR 52 (by omega)) (rt_at hR 53 (by omega)) (by omega) hN v151 v149 (fun V1 n1 a1 a2 a3 a4 => ?_)
  refine sg_za (p := 55) (a := 151) (b := 141) (rt_at hR 54 (by omega)) (by omega) rfl rfl n1 ?_
  rw [a4 151 (by decide) (by decide) (by decide), v151, rt_z]
  intro n2
  have g1 : ∀ e, e ≠ 122 → e ≠ 128 → e ≠ 141 → e ≠ 149 → ms_u V1 141 0 e = V e := fun e e1 e2 e3 e4 => (ms_un e3).trans (a4 e e1 e2 e4)
  have p1 : ms_u V1 141 0 122 = ((V 122).natAbs : Int) := (ms_un (by decide)).trans a1
  have p2 : ms_u V1 141 0 128 = ((V 128).natAbs : Int) := (ms_un (by decide)).trans a2
  have p3 : ms_u V1 141 0 151 = 0 := (g1 151 (by decide) (by decide) (by decide) (by decide)).trans v151
  have p4 : 0 ≤ ms_u V1 141 0 148 := by rw [g1 148 (by decide) (by decide) (by decide) (by decide)]; exact v148
  have p5 : ms_u V1 141 0 141 = 0 := ms_us
  have p6 := (ms_un (V := V1) (e := 141) (x := 0) (j := 149) (by decide)).trans a3
  revert n2 g1 p1 p2 p3 p4 p5 p6
  generalize ms_u V1 141 0 = V2
  intro n2 g1 p1 p2 p3 p4 p5 p6
  refine sg_cmp (p := 56) (a := 128) (b := 151) (rt_at hR 55 (by omega)) (by omega) rfl rfl n2 (fun r2 hr2 => ?_)
  refine sg_hi (p := 57) (b := 60) (rt_at hR 56 (by omega)) (by omega) (by omega) hr2 (fun hgt => ?_) (fun hle => ?_)
  · have hy0 : 0 < (V 128).natAbs := by omega
    refine sg_za (p := 60) (a := 151) (b := 135) (rt_at hR 59 (by omega)) (by omega) rfl rfl n2 ?_
    rw [p3, rt_z]
    intro n3
    have q0 : ∀ e, e ≠ 135 → ms_u V2 135 0 e = V2 e := fun e h => ms_un h
    have q5 : ms_u V2 135 0 135 = (((V 122).natAbs / 10 ^ 6 % (V 128).natAbs : Nat) : Int) := by
      rw [ms_us, Nat.div_eq_of_lt hx, Nat.zero_mod]; rfl
    have q6 : ms_u V2 135 0 141 = (((V 122).natAbs / 10 ^ 6 / (V 128).natAbs : Nat) : Int) := by
      rw [q0 _ (by decide), p5, Nat.div_eq_of_lt hx, Nat.zero_div]; rfl
    have q4 : 0 ≤ ms_u V2 135 0 148 := by rw [q0 _ (by decide)]; exact p4
    revert n3 q0 q5 q6 q4
    generalize ms_u V2 135 0 = V3
    intro n3 q0 q5 q6 q4
    refine rt_dl (q := 61) (k := 5) (rt_at hR 60 (by omega)) (rt_at hR 61 (by omega)) (rt_at hR 62 (by omega)) (rt_at hR 63 (by omega)) (rt_at hR 64 (by omega)) (rt_at hR 65 (by omega)) (rt_at hR 66 (by omega)) (rt_at hR 67 (by omega)) (by omega) (by omega) hx hy0 hy n3 ((q0 _ (by decide)).trans p1) ((q0 _ (by decide)).trans p2) ((q0 _ (by decide)).trans p3) q4 q5 q6 (fun V4 o4 n4 b1 b2 b3 b4 => ?_)
    have d1 : ∀ e, e ≠ 135 → e ≠ 141 → e ≠ 148 → V4 e = V2 e := fun e z1 z2 z3 => (b4 e z1 z2 z3).trans (q0 e z1)
    refine rt_dl (q := 69) (k := 4) (rt_at hR 68 (by omega)) (rt_at hR 69 (by omega)) (rt_at hR 70 (by omega)) (rt_at hR 71 (by omega)) (rt_at hR 72 (by omega)) (rt_at hR 73 (by omega)) (rt_at hR 74 (by omega)) (rt_at hR 75 (by omega)) (by omega) (by omega) hx hy0 hy n4 ((d1 _ (by decide) (by decide) (by decide)).trans p1) ((d1 _ (by decide) (by decide) (by decide)).trans p2) ((d1 _ (by decide) (by decide) (by decide)).trans p3) b3 b1 b2 (fun V5 o5 n5 c1 c2 c3 c4 => ?_)
    have d2 : ∀ e, e ≠ 135 → e ≠ 141 → e ≠ 148 → V5 e = V2 e := fun e z1 z2 z3 => (c4 e z1 z2 z3).trans (d1 e z1 z2 z3)
    refine rt_dl (q := 77) (k := 3) (rt_at hR 76 (by omega)) (rt_at hR 77 (by omega)) (rt_at hR 78 (by omega)) (rt_at hR 79 (by omega)) (rt_at hR 80 (by omega)) (rt_at hR 81 (by omega)) (rt_at hR 82 (by omega)) (rt_at hR 83 (by omega)) (by omega) (by omega) hx hy0 hy n5 ((d2 _ (by decide) (by decide) (by decide)).trans p1) ((d2 _ (by decide) (by decide) (by decide)).trans p2) ((d2 _ (by decide) (by decide) (by decide)).trans p3) c3 c1 c2 (fun V6 o6 n6 e1 e2 e3 e4 => ?_)
    have d3 : ∀ e, e ≠ 135 → e ≠ 141 → e ≠ 148 → V6 e = V2 e := fun e z1 z2 z3 => (e4 e z1 z2 z3).trans (d2 e z1 z2 z3)
    refine rt_dl (q := 85) (k := 2) (rt_at hR 84 (by omega)) (rt_at hR 85 (by omega)) (rt_at hR 86 (by omega)) (rt_at hR 87 (by omega)) (rt_at hR 88 (by omega)) (rt_at hR 89 (by omega)) (rt_at hR 90 (by omega)) (rt_at hR 91 (by omega)) (by omega) (by omega) hx hy0 hy n6 ((d3 _ (by decide) (by decide) (by decide)).trans p1) ((d3 _ (by decide) (by decide) (by decide)).trans p2) ((d3 _ (by decide) (by decide) (by decide)).trans p3) e3 e1 e2 (fun V7 o7 n7 f1 f2 f3 f4 => ?_)
    have d4 : ∀ e, e ≠ 135 → e ≠ 141 → e ≠ 148 → V7 e = V2 e := fun e z1 z2 z3 => (f4 e z1 z2 z3).trans (d3 e z1 z2 z3)
    refine rt_dl (q := 93) (k := 1) (rt_at hR 92 (by omega)) (rt_at hR 93 (by omega)) (rt_at hR 94 (by omega)) (rt_at hR 95 (by omega)) (rt_at hR 96 (by omega)) (rt_at hR 97 (by omega)) (rt_at hR 98 (by omega)) (rt_at hR 99 (by omega)) (by omega) (by omega) hx hy0 hy n7 ((d4 _ (by decide) (by decide) (by decide)).trans p1) ((d4 _ (by decide) (by decide) (by decide)).trans p2) ((d4 _ (by decide) (by decide) (by decide)).trans p3) f3 f1 f2 (fun V8 o8 n8 g1' g2 g3 g4 => ?_)
    have d5 : ∀ e, e ≠ 135 → e ≠ 141 → e ≠ 148 → V8 e = V2 e := fun e z1 z2 z3 => (g4 e z1 z2 z3).trans (d4 e z1 z2 z3)
    refine rt_dl (q := 101) (k := 0) (rt_at hR 100 (by omega)) (rt_at hR 101 (by omega)) (rt_at hR 102 (by omega)) (rt_at hR 103 (by omega)) (rt_at hR 104 (by omega)) (rt_at hR 105 (by omega)) (rt_at hR 106 (by omega)) (rt_at hR 107 (by omega)) (by omega) (by omega) hx hy0 hy n8 ((d5 _ (by decide) (by decide) (by decide)).trans p1) ((d5 _ (by decide) (by decide) (by decide)).trans p2) ((d5 _ (by decide) (by decide) (by decide)).trans p3) g3 g1' g2 (fun V9 o9 n9 i1 i2 i3 i4 => ?_)
    have d6 : ∀ e, e ≠ 135 → e ≠ 141 → e ≠ 148 → V9 e = V2 e := fun e z1 z2 z3 => (i4 e z1 z2 z3).trans (d5 e z1 z2 z3)
    refine rt_so (q := 109) (f := 141) (rt_at hR 108 (by omega)) (rt_at hR 109 (by omega)) (rt_at hR 110 (by omega)) (rt_at hR 111 (by omega)) (rt_at hR 112 (by omega)) (by omega) rfl (by decide) n9 ((d6 _ (by decide) (by decide) (by decide)).trans p6) (by split <;> split <;> omega) hd hr (fun Va na j1 j2 j3 => ?_)
    refine k1 (by omega) Va o9 na ?_ ?_ j2 ?_
    · rw [j1, i2, Nat.pow_zero, Nat.div_one]
      exact rt_sd (V 122) (V 128)
    · rw [j3 148 (by decide) (by decide)]; exact i3
    · intro e z1 z2 z3 z4 z5 z6
      rw [j3 e z4 z6, d6 e z3 z4 z5, g1 e z1 z2 z4 z6]
  · have hy0 : V 128 = 0 := by omega
    refine sg_set (p := 58) (a := 3) (b := 0) (rt_at hR 57 (by omega)) (by omega) (by omega) (by omega) ?_
    refine sg_ret (p := 59) (rt_at hR 58 (by omega)) (by omega) hd hr ?_
    refine k0 hy0 V2 r2 n2 p5 p4 ?_ ?_
    · rw [p6]; omega
    · intro e z1 z2 z3 z4 z5 z6
      exact g1 e z1 z2 z4 z6
end RT09
end
section
/-! printing: pure, and X's routine -/
def pr_t (s : Nat × (Nat → Int32)) (c : Nat) : Nat × (Nat → Int32) := (s.1 + 1, ms_tp s.1 s.2 (nI c))
def pr_dn (m : Nat) : Nat → Nat × (Nat → Int32) → Nat × (Nat → Int32)
  | 0, s => pr_t s (48 + da_k m 0)
  | k + 1, s => pr_dn m k (pr_t s (48 + da_k m (k + 1)))
def pr_sk (m : Nat) : Nat → Nat × (Nat → Int32) → Nat × (Nat → Int32)
  | 0, s => pr_dn m 0 s
  | k + 1, s => if da_k m (k + 1) = 0 then pr_sk m k s else pr_dn m (k + 1) s
def pr_all (v : Int) (s : Nat × (Nat → Int32)) : Nat × (Nat → Int32) := pr_t (pr_sk v.natAbs 5 (if v < 0 then pr_t s 45 else s)) 32
theorem pr_dn1 {m : Nat} : ∀ (k : Nat) (s : Nat × (Nat → Int32)), (pr_dn m k s).1 = s.1 + k + 1 := by
  intro k
  induction k with
  | zero => intro s; rfl
  | succ k ih =>
    intro s
    show (pr_dn m k (pr_t s (48 + da_k m (k + 1)))).1 = _
    rw [ih]
    show s.1 + 1 + k + 1 = _
    omega
theorem pr_sk1 {m : Nat} : ∀ (k : Nat) (s : Nat × (Nat → Int32)), (pr_sk m k s).1 ≤ s.1 + k + 1 := by
  intro k
  induction k with
  | zero => intro s; exact Nat.le_refl _
  | succ k ih =>
    intro s
    show (if da_k m (k + 1) = 0 then pr_sk m k s else pr_dn m (k + 1) s).1 ≤ _
    by_cases h : da_k m (k + 1) = 0
    · rw [if_pos h]
      have := ih s
      omega
    · rw [if_neg h, pr_dn1]
      omega
theorem pr_all1 (v : Int) (s : Nat × (Nat → Int32)) : (pr_all v s).1 ≤ s.1 + 8 := by
  show (pr_sk v.natAbs 5 (if v < 0 then pr_t s 45 else s)).1 + 1 ≤ _
  have := pr_sk1 (m := v.natAbs) 5 (if v < 0 then pr_t s 45 else s)
  by_cases h : v < 0
  · rw [if_pos h] at this ⊢
    have : (pr_t s 45).1 = s.1 + 1 := rfl
    omega
  · rw [if_neg h] at this ⊢
    omega
theorem rt_c1 : ∀ k, k < 6 → rt_L.getD (132 - k) (0, 0, 0) = (21, 147 - k, 0) := by decide +kernel
theorem rt_c2 : ∀ k, k < 5 → rt_L.getD (124 - 2 * k) (0, 0, 0) = (24, 146 - k, 127 - 2 * k) := by decide +kernel
theorem rt_c3 : ∀ k, k < 5 → rt_L.getD (125 - 2 * k) (0, 0, 0) = (5, 0, 132 - k) := by decide +kernel
section RT10
variable {post : Int32 → SX → Prop} {B : xs_B} {od : Int32} {dp nc ta pc r : Nat} {V : Nat → Int} {st on tx : Nat → Int32}
theorem rt_pd (hR : xc_at (xb_cd B) 1 rt_L) : ∀ (k : Nat), k < 6 → ∀ s : Nat × (Nat → Int32), s.1 + k < 2 ^ 29 → xs_G post B 134 od dp nc ta (pr_dn (V 147).natAbs k s).1 V st on (pr_dn (V 147).natAbs k s).2 → xs_G post B (133 - k) od dp nc ta s.1 V st on s.2 := by
  intro k
  induction k with
  | zero =>
    intro hk s hs h
    have hc := rt_at hR 132 (by omega)
    refine sg_pd (p := 133) (a := 147) (d := da_k (V 147).natAbs 0) hc (by omega) (by omega) (ms_DG0 rfl) (da_lt _ _) (by omega) h
  | succ k ih =>
    intro hk s hs h
    have hc := rt_at hR (132 - (k + 1)) (by omega)
    rw [rt_c1 (k + 1) hk, show 1 + (132 - (k + 1)) = 133 - (k + 1) by omega] at hc
    have hg : xs_G post B (133 - (k + 1) + 1) od dp nc ta (s.1 + 1) V st on (ms_tp s.1 s.2 (nI (48 + da_k (V 147).natAbs (k + 1)))) := by
      rw [show 133 - (k + 1) + 1 = 133 - k by omega]
      exact ih (by omega) (pr_t s (48 + da_k (V 147).natAbs (k + 1))) (by show s.1 + 1 + k < _; omega) h
    exact sg_pd (a := 147 - (k + 1)) hc (by omega) (by omega) (ms_DGat rfl (show k + 1 < ms_fl 147 from hk)) (da_lt _ _) (by omega) hg
theorem rt_ps (hR : xc_at (xb_cd B) 1 rt_L) : ∀ (k : Nat), k < 6 → ∀ s : Nat × (Nat → Int32), s.1 < 2 ^ 28 → xs_G post B 134 od dp nc ta (pr_sk (V 147).natAbs k s).1 V st on (pr_sk (V 147).natAbs k s).2 → xs_G post B (127 - 2 * k) od dp nc ta s.1 V st on s.2 := by
  intro k
  induction k with
  | zero =>
    intro hk s hs h
    have hc := rt_at hR 126 (by omega)
    refine sg_jmp (p := 127) (a := 0) (b := 133) hc (by omega) (by omega) (by omega) ?_
    exact rt_pd hR 0 (by omega) s (by omega) h
  | succ k ih =>
    intro hk s hs h
    have h1 := rt_at hR (124 - 2 * k) (by omega)
    have h2 := rt_at hR (125 - 2 * k) (by omega)
    rw [rt_c2 k (by omega), show 1 + (124 - 2 * k) = 127 - 2 * (k + 1) by omega] at h1
    rw [rt_c3 k (by omega), show 1 + (125 - 2 * k) = 127 - 2 * (k + 1) + 1 by omega] at h2
    have hq : ms_DG V (146 - k) = nI (da_k (V 147).natAbs (k + 1)) := by
      have := ms_DGat (V := V) (e := 147) (k := k + 1) rfl hk
      rwa [show 147 - (k + 1) = 146 - k by omega] at this
    have e : pr_sk (V 147).natAbs (k + 1) s = if da_k (V 147).natAbs (k + 1) = 0 then pr_sk (V 147).natAbs k s else pr_dn (V 147).natAbs (k + 1) s := rfl
    refine sg_iz (a := 146 - k) (b := 127 - 2 * k) h1 (by omega) (by omega) hq (da_lt _ _) (by omega) (fun z => ?_) (fun z => ?_)
    · rw [e, if_pos z] at h
      exact ih (by omega) s hs h
    · rw [e, if_neg z] at h
      refine sg_jmp (a := 0) (b := 132 - k) h2 (by omega) (by omega) (by omega) ?_
      rw [show 132 - k = 133 - (k + 1) by omega]
      exact rt_pd hR (k + 1) hk s (by omega) h
theorem rt_prt (hR : xc_at (xb_cd B) 1 rt_L) (hpc : pc < 2 ^ 27) (hd : dp < 4) (hr : st dp = nI r)
    (k : xs_G post B r od dp nc ta (pr_all (V 147) (pc, tx)).1 V st on (pr_all (V 147) (pc, tx)).2) : xs_G post B 114 od (dp + 1) nc ta pc V st on tx := by
  have key : ∀ s : Nat × (Nat → Int32), s.1 < 2 ^ 28 → xs_G post B r od dp nc ta (pr_t (pr_sk (V 147).natAbs 5 s) 32).1 V st on (pr_t (pr_sk (V 147).natAbs 5 s) 32).2 → xs_G post B 117 od (dp + 1) nc ta s.1 V st on s.2 := by
    intro s hs h
    refine rt_ps hR 5 (by omega) s hs ?_
    have h1 := pr_sk1 (m := (V 147).natAbs) 5 s
    refine sg_put (p := 134) (a := 32) (rt_at hR 133 (by omega)) (by omega) (by omega) (by omega) ?_
    exact sg_ret (p := 135) (rt_at hR 134 (by omega)) (by omega) hd hr h
  refine sg_im (p := 114) (e := 147) (b := 116) (rt_at hR 113 (by omega)) (by omega) rfl (by omega) (fun hv => ?_) (fun hv => ?_)
  · refine sg_put (p := 116) (a := 45) (rt_at hR 115 (by omega)) (by omega) (by omega) (by omega) ?_
    refine key (pr_t (pc, tx) 45) (by show pc + 1 < _; omega) ?_
    unfold pr_all at k
    rw [if_pos hv] at k
    exact k
  · refine sg_jmp (p := 115) (a := 0) (b := 117) (rt_at hR 114 (by omega)) (by omega) (by omega) (by omega) ?_
    refine key (pc, tx) (by show pc < _; omega) ?_
    unfold pr_all at k
    rw [if_neg (by omega)] at k
    exact k
end RT10
end
section
/-! a line: pure; X's code of a line and what it does -/
abbrev ln_Y : Type := (Nat → Int32) × (Nat → Int32) × Nat × Nat × (Nat → Int32)
def ln_val (o : Nat) (x y : Int) : Int := if o = 0 then x else if o = 1 then x + y else if o = 2 then x - y else if o = 3 then x * y else if y = 0 then 0 else Int.tdiv x y
def ln_rs (o : Nat) (x y : Int) : Int32 := Int32.ofInt (Int.tmod (ln_val o x y) 1000000)
def ln_W (o w : Nat) (x y : Int) (W : Nat → Int32) : Nat → Int32 := if o ≤ 4 then upd W w (ln_rs o x y) else W
def ln_on (o w : Nat) (x y : Int) (on : Nat → Int32) : Nat → Int32 := if o = 4 then (if y = 0 then upd on 3 1 else on) else if o = 5 then upd (upd (upd on 0 (if y < x then 1 else 0)) 1 (if x < y then 1 else 0)) 2 (if x = y then 1 else 0) else if o = 6 then upd on w 1 else if o = 7 then upd on w 0 else on
def ln_s (o : Nat) (x : Int) (s : Nat × (Nat → Int32)) : Nat × (Nat → Int32) := if o = 8 then pr_all x s else if o = 9 then pr_t s 10 else s
def ln_ex (o w : Nat) (x y : Int) (Y : ln_Y) : ln_Y := (ln_W o w x y Y.1, ln_on o w x y Y.2.1, Y.2.2.1 + 1, ln_s o x Y.2.2.2)
def ln_met (c : Nat) (on : Nat → Int32) : Bool := if c = 0 then true else if c ≤ 4 then !(decide (on (c - 1) = 0)) else decide (on (c - 5) = 0)
def ln_go (c o w : Nat) (x y : Int) (Y : ln_Y) : ln_Y := if ln_met c Y.2.1 = true then ln_ex o w x y Y else Y
def ms_cj (j : Nat) : Nat := if j = 0 then 37 else if j = 1 then 41 else if j = 2 then 46 else 52
def ln_sv (x : Nat) (W cv : Nat → Int32) (cn : Int32) : Int32 := if x < 6 then W x else if x < 10 then cv (x - 6) else cn
def ln_sa (i x : Nat) : Nat := if x < 6 then 6 * x + 5 else if x < 10 then ms_cj (x - 6) else 58 + 3 * i
def ln_sum (lv1 : Bool) (what xa ya wa : Nat) : List (Nat × Nat × Nat) := if lv1 = true ∧ ya ≠ wa then (if xa = wa then [(what, ya, wa)] else [(1, xa, wa), (what, ya, wa)]) else [(1, xa, 104), (what, ya, 104), (1, 104, wa)]
def ln_cmp (b xa ya : Nat) : List (Nat × Nat × Nat) := [(12,0,0),(12,1,0),(12,2,0),(4,xa,ya),(6,0,b+8),(7,0,b+10),(11,2,0),(5,0,b+11),(11,0,0),(5,0,b+11),(11,1,0)]
def ln_body (b : Nat) (lv1 : Bool) (o w xa ya : Nat) : List (Nat × Nat × Nat) :=
  if o = 0 then [(1, xa, 6 * w + 5)] else if o = 1 then ln_sum lv1 2 xa ya (6 * w + 5) else if o = 2 then ln_sum lv1 3 xa ya (6 * w + 5) else if o = 3 then [(1, xa, 122), (1, ya, 128), (19, 0, 1), (1, 116, 6 * w + 5)] else if o = 4 then [(1, xa, 122), (1, ya, 128), (19, 0, 46), (1, 141, 6 * w + 5)] else if o = 5 then ln_cmp b xa ya else if o = 6 then [(11, w, 0)] else if o = 7 then [(12, w, 0)] else if o = 8 then [(1, xa, 147), (19, 0, 114)] else [(22, 10, 0)]
def ln_pre (c e : Nat) : List (Nat × Nat × Nat) := if c = 0 then [] else if c ≤ 4 then [(10, c - 1, e)] else [(9, c - 5, e)]
def ln_C (p : Nat) (lv1 : Bool) (c o w xa ya : Nat) : List (Nat × Nat × Nat) :=
  if c = 0 then (26, 0, 0) :: ln_body (p + 1) lv1 o w xa ya else (if c ≤ 4 then (10, c - 1, p + 2 + (ln_body (p + 2) lv1 o w xa ya).length) else (9, c - 5, p + 2 + (ln_body (p + 2) lv1 o w xa ya).length)) :: (26, 0, 0) :: ln_body (p + 2) lv1 o w xa ya
theorem ln_sa1 : ∀ x, x < 11 → ∀ i, i < 14 → ms_isE (ln_sa i x) = true ∧ ln_sa i x < 98 ∧ ms_fl (ln_sa i x) ≤ 6 := by decide +kernel
theorem ln_w1 : ∀ w, w < 6 → ms_isE (6 * w + 5) = true ∧ ms_fl (6 * w + 5) = 6 := by decide +kernel
theorem ln_lt {a b : Nat} (h : Nat.ble (a + 1) b = true) : a < b := Nat.le_of_ble_eq_true h
theorem ln_bl {b : Nat} {lv1 : Bool} {o w xa ya : Nat} : (ln_body b lv1 o w xa ya).length ≤ 11 := by
  have hs : ∀ wh wa, (ln_sum lv1 wh xa ya wa).length ≤ 3 := by
    intro wh wa
    unfold ln_sum
    split
    · split <;> exact Nat.le_of_ble_eq_true rfl
    · exact Nat.le_of_ble_eq_true rfl
  unfold ln_body
  split
  · exact Nat.le_of_ble_eq_true rfl
  · split
    · exact Nat.le_trans (hs _ _) (by decide)
    · split
      · exact Nat.le_trans (hs _ _) (by decide)
      · split
        · exact Nat.le_of_ble_eq_true rfl
        · split
          · exact Nat.le_of_ble_eq_true rfl
          · split
            · exact Nat.le_of_ble_eq_true rfl
            · split
              · exact Nat.le_of_ble_eq_true rfl
              · split
                · exact Nat.le_of_ble_eq_true rfl
                · split <;> exact Nat.le_of_ble_eq_true rfl
/-- what X's memory holds at a time when no line is under way -/
def ln_VI (lc : Nat) (W cv cs : Nat → Int32) (hv : Nat → Int) (V : Nat → Int) : Prop :=
  ms_N V ∧ (∀ w, w < 6 → V (6 * w + 5) = (W w).toInt) ∧ (∀ j, j < 4 → V (ms_cj j) = (cv j).toInt) ∧ (∀ i, i < lc → V (58 + 3 * i) = (cs i).toInt) ∧ (∀ e, (e = 39 ∨ e = 43 ∨ e = 49 ∨ e = 55 ∨ e = 150) → V e = hv e) ∧ V 151 = 0 ∧ V 152 = 1 ∧ 0 ≤ V 148 ∧ 0 ≤ V 149
theorem ms_cj1 : ∀ j, j < 4 → 36 ≤ ms_cj j ∧ ms_cj j < 56 ∧ ms_isE (ms_cj j) = true := by decide +kernel
theorem ln_src {lc : Nat} {W cv cs : Nat → Int32} {hv : Nat → Int} {V : Nat → Int} {i x : Nat} (h : ln_VI lc W cv cs hv V) (hi : i < lc) (hx : x ≤ 10) : V (ln_sa i x) = (ln_sv x W cv (cs i)).toInt := by
  unfold ln_sa ln_sv
  by_cases h1 : x < 6
  · rw [if_pos h1, if_pos h1]; exact h.2.1 x h1
  · rw [if_neg h1, if_neg h1]
    by_cases h2 : x < 10
    · rw [if_pos h2, if_pos h2]; exact h.2.2.1 (x - 6) (by omega)
    · rw [if_neg h2, if_neg h2]; exact h.2.2.2.1 i hi
theorem ln_fr {lc : Nat} {W cv cs : Nat → Int32} {hv : Nat → Int} {V V' : Nat → Int} (h : ln_VI lc W cv cs hv V) (hlc : lc ≤ 14) (hN : ms_N V') (hf : ∀ e, (e < 98 ∨ 150 ≤ e) → V' e = V e) (h8 : 0 ≤ V' 148) (h9 : 0 ≤ V' 149) : ln_VI lc W cv cs hv V' := by
  obtain ⟨a1, a2, a3, a4, a5, a6, a7, a8, a9⟩ := h
  refine ⟨hN, ?_, ?_, ?_, ?_, ?_, ?_, h8, h9⟩
  · intro w hw; rw [hf _ (by omega)]; exact a2 w hw
  · intro j hj
    have := ms_cj1 j hj
    rw [hf _ (by omega)]; exact a3 j hj
  · intro i hi; rw [hf _ (by omega)]; exact a4 i hi
  · intro e he; rw [hf _ (by omega)]; exact a5 e he
  · rw [hf _ (by omega)]; exact a6
  · rw [hf _ (by omega)]; exact a7
theorem ln_fw {lc w : Nat} {W cv cs : Nat → Int32} {hv : Nat → Int} {V V' : Nat → Int} {v : Int32} (h : ln_VI lc W cv cs hv V) (hlc : lc ≤ 14) (hw : w < 6) (hN : ms_N V') (he : V' (6 * w + 5) = v.toInt) (hf : ∀ e, e ≠ 6 * w + 5 → (e < 98 ∨ 150 ≤ e) → V' e = V e) (h8 : 0 ≤ V' 148) (h9 : 0 ≤ V' 149) : ln_VI lc (upd W w v) cv cs hv V' := by
  obtain ⟨a1, a2, a3, a4, a5, a6, a7, a8, a9⟩ := h
  refine ⟨hN, ?_, ?_, ?_, ?_, ?_, ?_, h8, h9⟩
  · intro w2 hw2
    by_cases z : w2 = w
    · subst z; rw [pk_us]; exact he
    · rw [pk_un z, hf _ (by omega) (by omega)]; exact a2 w2 hw2
  · intro j hj
    have := ms_cj1 j hj
    rw [hf _ (by omega) (by omega)]; exact a3 j hj
  · intro i hi; rw [hf _ (by omega) (by omega)]; exact a4 i hi
  · intro e he; rw [hf _ (by omega) (by omega)]; exact a5 e he
  · rw [hf _ (by omega) (by omega)]; exact a6
  · rw [hf _ (by omega) (by omega)]; exact a7
theorem ln_tb (z : Int) : -1000000 < Int.tmod z 1000000 ∧ Int.tmod z 1000000 < 1000000 := by
  have ⟨h1, h2⟩ := sm_tm z 1000000
  have h3 := Nat.mod_lt z.natAbs (show 0 < 1000000 by decide)
  have h4 : (Int.tmod z ((1000000 : Nat) : Int)).natAbs < 1000000 := by rw [h1]; exact h3
  have h5 : Int.tmod z ((1000000 : Nat) : Int) = Int.tmod z 1000000 := rfl
  rw [h5] at h4
  omega
theorem ln_rt (o : Nat) (x y : Int) : (ln_rs o x y).toInt = Int.tmod (ln_val o x y) 1000000 := by
  have := ln_tb (ln_val o x y)
  exact Int32.toInt_ofInt_of_le (by omega) (by omega)
theorem ln_id {z : Int} {m : Nat} (h : z.natAbs < m) : Int.tmod z (m : Int) = z := by
  by_cases hz : 0 ≤ z
  · exact Int.tmod_eq_of_lt hz (by omega)
  · have e := Int.tmod_eq_of_lt (a := -z) (b := (m : Int)) (by omega) (by omega)
    rw [Int.neg_tmod] at e
    omega
theorem ln_up3 (on : Nat → Int32) (a b c a' b' c' : Int32) : upd (upd (upd (upd (upd (upd on 0 a) 1 b) 2 c) 0 a') 1 b') 2 c' = upd (upd (upd on 0 a') 1 b') 2 c' := by
  funext j
  unfold upd
  by_cases h2 : j = 2
  · simp only [if_pos h2]
  · by_cases h1 : j = 1
    · simp only [if_neg h2, if_pos h1]
    · by_cases h0 : j = 0
      · simp only [if_neg h2, if_neg h1, if_pos h0]
      · simp only [if_neg h2, if_neg h1, if_neg h0]
theorem ln_u0 (on : Nat → Int32) : upd (upd (upd (upd on 0 0) 1 0) 2 0) 0 1 = upd (upd (upd on 0 1) 1 0) 2 0 := by
  funext j
  unfold upd
  by_cases h2 : j = 2
  · simp [h2]
  · by_cases h1 : j = 1
    · simp [h1]
    · by_cases h0 : j = 0
      · simp [h0]
      · simp [h2, h1, h0]
theorem ln_u1 (on : Nat → Int32) : upd (upd (upd (upd on 0 0) 1 0) 2 0) 1 1 = upd (upd (upd on 0 0) 1 1) 2 0 := by
  funext j
  unfold upd
  by_cases h2 : j = 2
  · simp [h2]
  · by_cases h1 : j = 1
    · simp [h1]
    · simp [h2, h1]
theorem ln_u2 (on : Nat → Int32) : upd (upd (upd (upd on 0 0) 1 0) 2 0) 2 1 = upd (upd (upd on 0 0) 1 0) 2 1 := by
  funext j
  unfold upd
  by_cases h2 : j = 2
  · simp [h2]
  · simp [h2]
end
section
/-! what X's code of a line's body does -/
section RT12
variable {post : Int32 → SX → Prop} {B : xs_B} {od : Int32} {dp nc ta pc r : Nat} {V : Nat → Int} {st on tx : Nat → Int32} {W cv cs : Nat → Int32} {lc : Nat} {hv : Nat → Int} {b xa ya w : Nat}
theorem rt_l6 {e : Nat} (hN : ms_N V) (he : ms_isE e = true) (hl : ms_fl e ≤ 6) : (V e).natAbs < 1000000 :=
  Nat.lt_of_lt_of_le (hN e he) (Nat.pow_le_pow_right (by decide) hl)
theorem rt_w {z : Int} (hw : w < 6) : Int.tmod z ((10 ^ ms_fl (6 * w + 5) : Nat) : Int) = Int.tmod z 1000000 := by
  rw [(ln_w1 w hw).2]; rfl
theorem rt_mv (hc : xc_at (xb_cd B) b [(1, xa, 6 * w + 5)]) (hb : b < 380) (hI : ln_VI lc W cv cs hv V) (hlc : lc ≤ 14) (ex : ms_isE xa = true) (hw : w < 6) {y : Int}
    (k : ∀ (V' : Nat → Int), ln_VI lc (upd W w (ln_rs 0 (V xa) y)) cv cs hv V' → xs_G post B (b + 1) od dp nc ta pc V' st on tx) : xs_G post B b od dp nc ta pc V st on tx := by
  have hw1 := ln_w1 w hw
  refine sg_za (show xb_cd B b = en_w 1 xa (6 * w + 5) from hc 0 (ln_lt rfl)) (by omega) ex hw1.1 hI.1 (fun hN => k _ (ln_fw hI hlc hw hN ?_ (fun e h1 _ => ms_un h1) ?_ ?_))
  · rw [ms_us, ln_rt, rt_w hw]; rfl
  · rw [ms_un (by omega)]; exact hI.2.2.2.2.2.2.2.1
  · rw [ms_un (by omega)]; exact hI.2.2.2.2.2.2.2.2
theorem rt_ad0 (hc : xc_at (xb_cd B) b [(1, xa, 104), (2, ya, 104), (1, 104, 6 * w + 5)]) (hb : b < 380) (hI : ln_VI lc W cv cs hv V) (hlc : lc ≤ 14) (ex : ms_isE xa = true) (ey : ms_isE ya = true) (xl : xa < 98) (yl : ya < 98) (xf : ms_fl xa ≤ 6) (yf : ms_fl ya ≤ 6) (hw : w < 6)
    (k : ∀ (V' : Nat → Int), ln_VI lc (upd W w (ln_rs 1 (V xa) (V ya))) cv cs hv V' → xs_G post B (b + 3) od dp nc ta pc V' st on tx) : xs_G post B b od dp nc ta pc V st on tx := by
  have hw1 := ln_w1 w hw
  have x6 := rt_l6 hI.1 ex xf
  have y6 := rt_l6 hI.1 ey yf
  refine sg_za (b := 104) (show xb_cd B b = en_w 1 xa 104 from hc 0 (ln_lt rfl)) (by omega) ex rfl hI.1 ?_
  have t1 : Int.tmod (V xa) ((10 ^ ms_fl 104 : Nat) : Int) = V xa := ln_id (show (V xa).natAbs < 10 ^ 7 by omega)
  rw [t1]
  intro hN1
  have v1 : ms_u V 104 (V xa) ya = V ya := ms_un (by omega)
  refine sg_add (b := 104) (show xb_cd B (b + 1) = en_w 2 ya 104 from hc 1 (ln_lt rfl)) (by omega) ey rfl (by omega) (by rw [v1]; show (V ya).natAbs < 10 ^ 7; omega) hN1 ?_
  rw [v1, ms_us]
  have t2 : Int.tmod (V xa + V ya) ((10 ^ ms_fl 104 : Nat) : Int) = V xa + V ya := ln_id (show (V xa + V ya).natAbs < 10 ^ 7 by omega)
  rw [t2]
  intro hN2
  refine sg_za (a := 104) (show xb_cd B (b + 2) = en_w 1 104 (6 * w + 5) from hc 2 (ln_lt rfl)) (by omega) rfl hw1.1 hN2 (fun hN3 => k _ (ln_fw hI hlc hw hN3 ?_ (fun e h1 h2 => ?_) ?_ ?_))
  · rw [ms_us, ms_us, ln_rt, rt_w hw]; rfl
  · rw [ms_un h1, ms_un (by omega), ms_un (by omega)]
  · rw [ms_un (by omega), ms_un (by omega), ms_un (by omega)]; exact hI.2.2.2.2.2.2.2.1
  · rw [ms_un (by omega), ms_un (by omega), ms_un (by omega)]; exact hI.2.2.2.2.2.2.2.2
theorem rt_ad1 (hc : xc_at (xb_cd B) b [(1, xa, 6 * w + 5), (2, ya, 6 * w + 5)]) (hb : b < 380) (hI : ln_VI lc W cv cs hv V) (hlc : lc ≤ 14) (ex : ms_isE xa = true) (ey : ms_isE ya = true) (xf : ms_fl xa ≤ 6) (yf : ms_fl ya ≤ 6) (hw : w < 6) (hyw : ya ≠ 6 * w + 5)
    (k : ∀ (V' : Nat → Int), ln_VI lc (upd W w (ln_rs 1 (V xa) (V ya))) cv cs hv V' → xs_G post B (b + 2) od dp nc ta pc V' st on tx) : xs_G post B b od dp nc ta pc V st on tx := by
  have hw1 := ln_w1 w hw
  have x6 := rt_l6 hI.1 ex xf
  have y6 := rt_l6 hI.1 ey yf
  refine sg_za (show xb_cd B b = en_w 1 xa (6 * w + 5) from hc 0 (ln_lt rfl)) (by omega) ex hw1.1 hI.1 ?_
  have t1 : Int.tmod (V xa) ((10 ^ ms_fl (6 * w + 5) : Nat) : Int) = V xa := by
    rw [hw1.2]; exact ln_id (show (V xa).natAbs < 10 ^ 6 by omega)
  rw [t1]
  intro hN1
  have v1 : ms_u V (6 * w + 5) (V xa) ya = V ya := ms_un hyw
  refine sg_add (show xb_cd B (b + 1) = en_w 2 ya (6 * w + 5) from hc 1 (ln_lt rfl)) (by omega) ey hw1.1 hyw (by rw [v1, hw1.2]; show (V ya).natAbs < 10 ^ 6; omega) hN1 ?_
  rw [v1, ms_us]
  intro hN2
  refine k _ (ln_fw hI hlc hw hN2 ?_ (fun e h1 h2 => ?_) ?_ ?_)
  · rw [ms_us, ln_rt, rt_w hw]; rfl
  · rw [ms_un h1, ms_un h1]
  · rw [ms_un (by omega), ms_un (by omega)]; exact hI.2.2.2.2.2.2.2.1
  · rw [ms_un (by omega), ms_un (by omega)]; exact hI.2.2.2.2.2.2.2.2
theorem rt_ad2 (hc : xc_at (xb_cd B) b [(2, ya, 6 * w + 5)]) (hb : b < 380) (hI : ln_VI lc W cv cs hv V) (hlc : lc ≤ 14) (ey : ms_isE ya = true) (yf : ms_fl ya ≤ 6) (hw : w < 6) (hyw : ya ≠ 6 * w + 5)
    (k : ∀ (V' : Nat → Int), ln_VI lc (upd W w (ln_rs 1 (V (6 * w + 5)) (V ya))) cv cs hv V' → xs_G post B (b + 1) od dp nc ta pc V' st on tx) : xs_G post B b od dp nc ta pc V st on tx := by
  have hw1 := ln_w1 w hw
  have y6 := rt_l6 hI.1 ey yf
  refine sg_add (show xb_cd B b = en_w 2 ya (6 * w + 5) from hc 0 (ln_lt rfl)) (by omega) ey hw1.1 hyw (by rw [hw1.2]; show (V ya).natAbs < 10 ^ 6; omega) hI.1 (fun hN2 => k _ (ln_fw hI hlc hw hN2 ?_ (fun e h1 h2 => ms_un h1) ?_ ?_))
  · rw [ms_us, ln_rt, rt_w hw]; rfl
  · rw [ms_un (by omega)]; exact hI.2.2.2.2.2.2.2.1
  · rw [ms_un (by omega)]; exact hI.2.2.2.2.2.2.2.2
theorem rt_ad {lv1 : Bool} (hc : xc_at (xb_cd B) b (ln_sum lv1 2 xa ya (6 * w + 5))) (hb : b < 380) (hI : ln_VI lc W cv cs hv V) (hlc : lc ≤ 14) (ex : ms_isE xa = true) (ey : ms_isE ya = true) (xl : xa < 98) (yl : ya < 98) (xf : ms_fl xa ≤ 6) (yf : ms_fl ya ≤ 6) (hw : w < 6)
    (k : ∀ (V' : Nat → Int), ln_VI lc (upd W w (ln_rs 1 (V xa) (V ya))) cv cs hv V' → xs_G post B (b + (ln_sum lv1 2 xa ya (6 * w + 5)).length) od dp nc ta pc V' st on tx) : xs_G post B b od dp nc ta pc V st on tx := by
  unfold ln_sum at hc k
  by_cases h1 : lv1 = true ∧ ya ≠ 6 * w + 5
  · rw [if_pos h1] at hc k
    by_cases h2 : xa = 6 * w + 5
    · rw [if_pos h2] at hc k
      rw [h2] at k
      exact rt_ad2 hc hb hI hlc ey yf hw h1.2 k
    · rw [if_neg h2] at hc k
      exact rt_ad1 hc hb hI hlc ex ey xf yf hw h1.2 k
  · rw [if_neg h1] at hc k
    exact rt_ad0 hc hb hI hlc ex ey xl yl xf yf hw k
theorem rt_su0 (hc : xc_at (xb_cd B) b [(1, xa, 104), (3, ya, 104), (1, 104, 6 * w + 5)]) (hb : b < 380) (hI : ln_VI lc W cv cs hv V) (hlc : lc ≤ 14) (ex : ms_isE xa = true) (ey : ms_isE ya = true) (xl : xa < 98) (yl : ya < 98) (xf : ms_fl xa ≤ 6) (yf : ms_fl ya ≤ 6) (hw : w < 6)
    (k : ∀ (V' : Nat → Int), ln_VI lc (upd W w (ln_rs 2 (V xa) (V ya))) cv cs hv V' → xs_G post B (b + 3) od dp nc ta pc V' st on tx) : xs_G post B b od dp nc ta pc V st on tx := by
  have hw1 := ln_w1 w hw
  have x6 := rt_l6 hI.1 ex xf
  have y6 := rt_l6 hI.1 ey yf
  refine sg_za (b := 104) (show xb_cd B b = en_w 1 xa 104 from hc 0 (ln_lt rfl)) (by omega) ex rfl hI.1 ?_
  have t1 : Int.tmod (V xa) ((10 ^ ms_fl 104 : Nat) : Int) = V xa := ln_id (show (V xa).natAbs < 10 ^ 7 by omega)
  rw [t1]
  intro hN1
  have v1 : ms_u V 104 (V xa) ya = V ya := ms_un (by omega)
  refine sg_sub (b := 104) (show xb_cd B (b + 1) = en_w 3 ya 104 from hc 1 (ln_lt rfl)) (by omega) ey rfl (by omega) (by rw [v1]; show (V ya).natAbs < 10 ^ 7; omega) hN1 ?_
  rw [v1, ms_us]
  have t2 : Int.tmod (V xa - V ya) ((10 ^ ms_fl 104 : Nat) : Int) = V xa - V ya := ln_id (show (V xa - V ya).natAbs < 10 ^ 7 by omega)
  rw [t2]
  intro hN2
  refine sg_za (a := 104) (show xb_cd B (b + 2) = en_w 1 104 (6 * w + 5) from hc 2 (ln_lt rfl)) (by omega) rfl hw1.1 hN2 (fun hN3 => k _ (ln_fw hI hlc hw hN3 ?_ (fun e h1 h2 => ?_) ?_ ?_))
  · rw [ms_us, ms_us, ln_rt, rt_w hw]; rfl
  · rw [ms_un h1, ms_un (by omega), ms_un (by omega)]
  · rw [ms_un (by omega), ms_un (by omega), ms_un (by omega)]; exact hI.2.2.2.2.2.2.2.1
  · rw [ms_un (by omega), ms_un (by omega), ms_un (by omega)]; exact hI.2.2.2.2.2.2.2.2
theorem rt_su1 (hc : xc_at (xb_cd B) b [(1, xa, 6 * w + 5), (3, ya, 6 * w + 5)]) (hb : b < 380) (hI : ln_VI lc W cv cs hv V) (hlc : lc ≤ 14) (ex : ms_isE xa = true) (ey : ms_isE ya = true) (xf : ms_fl xa ≤ 6) (yf : ms_fl ya ≤ 6) (hw : w < 6) (hyw : ya ≠ 6 * w + 5)
    (k : ∀ (V' : Nat → Int), ln_VI lc (upd W w (ln_rs 2 (V xa) (V ya))) cv cs hv V' → xs_G post B (b + 2) od dp nc ta pc V' st on tx) : xs_G post B b od dp nc ta pc V st on tx := by
  have hw1 := ln_w1 w hw
  have x6 := rt_l6 hI.1 ex xf
  have y6 := rt_l6 hI.1 ey yf
  refine sg_za (show xb_cd B b = en_w 1 xa (6 * w + 5) from hc 0 (ln_lt rfl)) (by omega) ex hw1.1 hI.1 ?_
  have t1 : Int.tmod (V xa) ((10 ^ ms_fl (6 * w + 5) : Nat) : Int) = V xa := by
    rw [hw1.2]; exact ln_id (show (V xa).natAbs < 10 ^ 6 by omega)
  rw [t1]
  intro hN1
  have v1 : ms_u V (6 * w + 5) (V xa) ya = V ya := ms_un hyw
  refine sg_sub (show xb_cd B (b + 1) = en_w 3 ya (6 * w + 5) from hc 1 (ln_lt rfl)) (by omega) ey hw1.1 hyw (by rw [v1, hw1.2]; show (V ya).natAbs < 10 ^ 6; omega) hN1 ?_
  rw [v1, ms_us]
  intro hN2
  refine k _ (ln_fw hI hlc hw hN2 ?_ (fun e h1 h2 => ?_) ?_ ?_)
  · rw [ms_us, ln_rt, rt_w hw]; rfl
  · rw [ms_un h1, ms_un h1]
  · rw [ms_un (by omega), ms_un (by omega)]; exact hI.2.2.2.2.2.2.2.1
  · rw [ms_un (by omega), ms_un (by omega)]; exact hI.2.2.2.2.2.2.2.2
theorem rt_su2 (hc : xc_at (xb_cd B) b [(3, ya, 6 * w + 5)]) (hb : b < 380) (hI : ln_VI lc W cv cs hv V) (hlc : lc ≤ 14) (ey : ms_isE ya = true) (yf : ms_fl ya ≤ 6) (hw : w < 6) (hyw : ya ≠ 6 * w + 5)
    (k : ∀ (V' : Nat → Int), ln_VI lc (upd W w (ln_rs 2 (V (6 * w + 5)) (V ya))) cv cs hv V' → xs_G post B (b + 1) od dp nc ta pc V' st on tx) : xs_G post B b od dp nc ta pc V st on tx := by
  have hw1 := ln_w1 w hw
  have y6 := rt_l6 hI.1 ey yf
  refine sg_sub (show xb_cd B b = en_w 3 ya (6 * w + 5) from hc 0 (ln_lt rfl)) (by omega) ey hw1.1 hyw (by rw [hw1.2]; show (V ya).natAbs < 10 ^ 6; omega) hI.1 (fun hN2 => k _ (ln_fw hI hlc hw hN2 ?_ (fun e h1 h2 => ms_un h1) ?_ ?_))
  · rw [ms_us, ln_rt, rt_w hw]; rfl
  · rw [ms_un (by omega)]; exact hI.2.2.2.2.2.2.2.1
  · rw [ms_un (by omega)]; exact hI.2.2.2.2.2.2.2.2
theorem rt_su {lv1 : Bool} (hc : xc_at (xb_cd B) b (ln_sum lv1 3 xa ya (6 * w + 5))) (hb : b < 380) (hI : ln_VI lc W cv cs hv V) (hlc : lc ≤ 14) (ex : ms_isE xa = true) (ey : ms_isE ya = true) (xl : xa < 98) (yl : ya < 98) (xf : ms_fl xa ≤ 6) (yf : ms_fl ya ≤ 6) (hw : w < 6)
    (k : ∀ (V' : Nat → Int), ln_VI lc (upd W w (ln_rs 2 (V xa) (V ya))) cv cs hv V' → xs_G post B (b + (ln_sum lv1 3 xa ya (6 * w + 5)).length) od dp nc ta pc V' st on tx) : xs_G post B b od dp nc ta pc V st on tx := by
  unfold ln_sum at hc k
  by_cases h1 : lv1 = true ∧ ya ≠ 6 * w + 5
  · rw [if_pos h1] at hc k
    by_cases h2 : xa = 6 * w + 5
    · rw [if_pos h2] at hc k
      rw [h2] at k
      exact rt_su2 hc hb hI hlc ey yf hw h1.2 k
    · rw [if_neg h2] at hc k
      exact rt_su1 hc hb hI hlc ex ey xf yf hw h1.2 k
  · rw [if_neg h1] at hc k
    exact rt_su0 hc hb hI hlc ex ey xl yl xf yf hw k
theorem rt_mt (hR : xc_at (xb_cd B) 1 rt_L) (hc : xc_at (xb_cd B) b [(1, xa, 122), (1, ya, 128), (19, 0, 1), (1, 116, 6 * w + 5)]) (hb : b < 380) (hI : ln_VI lc W cv cs hv V) (hlc : lc ≤ 14) (ex : ms_isE xa = true) (ey : ms_isE ya = true) (xl : xa < 98) (yl : ya < 98) (xf : ms_fl xa ≤ 6) (yf : ms_fl ya ≤ 6) (hw : w < 6) (hd : dp < 3)
    (k : ∀ (V' : Nat → Int) (st' : Nat → Int32), (∀ j, j < dp → st' j = st j) → ln_VI lc (upd W w (ln_rs 3 (V xa) (V ya))) cv cs hv V' → xs_G post B (b + 4) od dp nc ta pc V' st' on tx) : xs_G post B b od dp nc ta pc V st on tx := by
  have hw1 := ln_w1 w hw
  have x6 := rt_l6 hI.1 ex xf
  have y6 := rt_l6 hI.1 ey yf
  refine sg_za (b := 122) (show xb_cd B b = en_w 1 xa 122 from hc 0 (ln_lt rfl)) (by omega) ex rfl hI.1 ?_
  have t1 : Int.tmod (V xa) ((10 ^ ms_fl 122 : Nat) : Int) = V xa := ln_id (show (V xa).natAbs < 10 ^ 6 by omega)
  rw [t1]
  intro hN1
  have v1 : ms_u V 122 (V xa) ya = V ya := ms_un (by omega)
  refine sg_za (b := 128) (show xb_cd B (b + 1) = en_w 1 ya 128 from hc 1 (ln_lt rfl)) (by omega) ey rfl hN1 ?_
  rw [v1]
  have t2 : Int.tmod (V ya) ((10 ^ ms_fl 128 : Nat) : Int) = V ya := ln_id (show (V ya).natAbs < 10 ^ 6 by omega)
  rw [t2]
  intro hN2
  refine sg_cal (b := 1) (show xb_cd B (b + 2) = en_w 19 0 1 from hc 2 (ln_lt rfl)) (by omega) (by omega) (by omega) ?_
  refine rt_mul (r := b + 3) hR hN2 ?_ ?_ ?_ (by omega) pk_us (fun V3 hN3 m1 m2 m3 m4 => ?_)
  · rw [ms_un (by decide), ms_un (by decide)]; exact hI.2.2.2.2.2.1
  · rw [ms_un (by decide), ms_un (by decide)]; exact hI.2.2.2.2.2.2.2.1
  · rw [ms_un (by decide), ms_un (by decide)]; exact hI.2.2.2.2.2.2.2.2
  refine sg_za (a := 116) (show xb_cd B (b + 3) = en_w 1 116 (6 * w + 5) from hc 3 (ln_lt rfl)) (by omega) rfl hw1.1 hN3 (fun hN4 => k _ _ (fun j hj => pk_un (by omega)) (ln_fw hI hlc hw hN4 ?_ (fun e h1 h2 => ?_) ?_ ?_))
  · rw [ms_us, m1, ln_rt, rt_w hw, ms_us, ms_un (by decide), ms_us]; rfl
  · rw [ms_un h1, m4 e (by omega) (by omega) (by omega) (by omega) (by omega), ms_un (by omega), ms_un (by omega)]
  · rw [ms_un (by omega)]; exact m2
  · rw [ms_un (by omega)]; exact m3
theorem rt_dv (hR : xc_at (xb_cd B) 1 rt_L) (hc : xc_at (xb_cd B) b [(1, xa, 122), (1, ya, 128), (19, 0, 46), (1, 141, 6 * w + 5)]) (hb : b < 380) (hI : ln_VI lc W cv cs hv V) (hlc : lc ≤ 14) (ex : ms_isE xa = true) (ey : ms_isE ya = true) (xl : xa < 98) (yl : ya < 98) (xf : ms_fl xa ≤ 6) (yf : ms_fl ya ≤ 6) (hw : w < 6) (hd : dp < 3)
    (k : ∀ (V' : Nat → Int) (od' : Int32) (st' : Nat → Int32), (∀ j, j < dp → st' j = st j) → ln_VI lc (upd W w (ln_rs 4 (V xa) (V ya))) cv cs hv V' → xs_G post B (b + 4) od' dp nc ta pc V' st' (if V ya = 0 then upd on 3 1 else on) tx) : xs_G post B b od dp nc ta pc V st on tx := by
  have hw1 := ln_w1 w hw
  have x6 := rt_l6 hI.1 ex xf
  have y6 := rt_l6 hI.1 ey yf
  refine sg_za (b := 122) (show xb_cd B b = en_w 1 xa 122 from hc 0 (ln_lt rfl)) (by omega) ex rfl hI.1 ?_
  have t1 : Int.tmod (V xa) ((10 ^ ms_fl 122 : Nat) : Int) = V xa := ln_id (show (V xa).natAbs < 10 ^ 6 by omega)
  rw [t1]
  intro hN1
  have v1 : ms_u V 122 (V xa) ya = V ya := ms_un (by omega)
  refine sg_za (b := 128) (show xb_cd B (b + 1) = en_w 1 ya 128 from hc 1 (ln_lt rfl)) (by omega) ey rfl hN1 ?_
  rw [v1]
  have t2 : Int.tmod (V ya) ((10 ^ ms_fl 128 : Nat) : Int) = V ya := ln_id (show (V ya).natAbs < 10 ^ 6 by omega)
  rw [t2]
  intro hN2
  refine sg_cal (b := 46) (show xb_cd B (b + 2) = en_w 19 0 46 from hc 2 (ln_lt rfl)) (by omega) (by omega) (by omega) ?_
  have u128 : ms_u (ms_u V 122 (V xa)) 128 (V ya) 128 = V ya := ms_us
  have u122 : ms_u (ms_u V 122 (V xa)) 128 (V ya) 122 = V xa := (ms_un (by decide)).trans ms_us
  refine rt_div (r := b + 3) hR hN2 ?_ ?_ ?_ (by omega) pk_us (fun hz V3 o3 hN3 m1 m2 m3 m4 => ?_) (fun hz V3 o3 hN3 m1 m2 m3 m4 => ?_)
  · rw [ms_un (by decide), ms_un (by decide)]; exact hI.2.2.2.2.2.1
  · rw [ms_un (by decide), ms_un (by decide)]; exact hI.2.2.2.2.2.2.2.1
  · rw [ms_un (by decide), ms_un (by decide)]; exact hI.2.2.2.2.2.2.2.2
  · rw [u128] at hz
    rw [if_pos hz] at k
    refine sg_za (a := 141) (show xb_cd B (b + 3) = en_w 1 141 (6 * w + 5) from hc 3 (ln_lt rfl)) (by omega) rfl hw1.1 hN3 (fun hN4 => k _ _ _ (fun j hj => pk_un (by omega)) (ln_fw hI hlc hw hN4 ?_ (fun e h1 h2 => ?_) ?_ ?_))
    · rw [ms_us, m1, ln_rt, rt_w hw, rt_z]
      have : ln_val 4 (V xa) (V ya) = 0 := if_pos hz
      rw [this, rt_z]
    · rw [ms_un h1, m4 e (by omega) (by omega) (by omega) (by omega) (by omega) (by omega), ms_un (by omega), ms_un (by omega)]
    · rw [ms_un (by omega)]; exact m2
    · rw [ms_un (by omega)]; exact m3
  · rw [u128] at hz
    rw [if_neg hz] at k
    refine sg_za (a := 141) (show xb_cd B (b + 3) = en_w 1 141 (6 * w + 5) from hc 3 (ln_lt rfl)) (by omega) rfl hw1.1 hN3 (fun hN4 => k _ _ _ (fun j hj => pk_un (by omega)) (ln_fw hI hlc hw hN4 ?_ (fun e h1 h2 => ?_) ?_ ?_))
    · rw [ms_us, m1, ln_rt, rt_w hw, u128, u122]
      have : ln_val 4 (V xa) (V ya) = Int.tdiv (V xa) (V ya) := if_neg hz
      rw [this]
    · rw [ms_un h1, m4 e (by omega) (by omega) (by omega) (by omega) (by omega) (by omega), ms_un (by omega), ms_un (by omega)]
    · rw [ms_un (by omega)]; exact m2
    · rw [ms_un (by omega)]; exact m3
theorem rt_cp (hc : xc_at (xb_cd B) b (ln_cmp b xa ya)) (hb : b < 380) (hN : ms_N V) (ex : ms_isE xa = true) (ey : ms_isE ya = true)
    (k : ∀ (od' : Int32), xs_G post B (b + 11) od' dp nc ta pc V st (upd (upd (upd on 0 (if V ya < V xa then 1 else 0)) 1 (if V xa < V ya then 1 else 0)) 2 (if V xa = V ya then 1 else 0)) tx) : xs_G post B b od dp nc ta pc V st on tx := by
  have x1 := ms_E ex
  have y1 := ms_E ey
  refine sg_clr (show xb_cd B b = en_w 12 0 0 from hc 0 (ln_lt rfl)) (by omega) (by omega) (by omega) ?_
  refine sg_clr (show xb_cd B (b + 1) = en_w 12 1 0 from hc 1 (ln_lt rfl)) (by omega) (by omega) (by omega) ?_
  refine sg_clr (show xb_cd B (b + 2) = en_w 12 2 0 from hc 2 (ln_lt rfl)) (by omega) (by omega) (by omega) ?_
  refine sg_cmp (show xb_cd B (b + 3) = en_w 4 xa ya from hc 3 (ln_lt rfl)) (by omega) ex ey hN (fun r hr => ?_)
  refine sg_hi (show xb_cd B (b + 4) = en_w 6 0 (b+8) from hc 4 (ln_lt rfl)) (by omega) (by omega) hr (fun h1 => ?_) (fun h1 => ?_)
  · refine sg_set (show xb_cd B (b + 8) = en_w 11 0 0 from hc 8 (ln_lt rfl)) (by omega) (by omega) (by omega) ?_
    refine sg_jmp (show xb_cd B (b + 9) = en_w 5 0 (b+11) from hc 9 (ln_lt rfl)) (by omega) (by omega) (by omega) ?_
    have := k r
    rw [if_pos h1, if_neg (by omega), if_neg (by omega)] at this
    rw [ln_u0]
    exact this
  · refine sg_lo (show xb_cd B (b + 5) = en_w 7 0 (b+10) from hc 5 (ln_lt rfl)) (by omega) (by omega) hr (fun h2 => ?_) (fun h2 => ?_)
    · refine sg_set (show xb_cd B (b + 10) = en_w 11 1 0 from hc 10 (ln_lt rfl)) (by omega) (by omega) (by omega) ?_
      have := k r
      rw [if_neg (by omega), if_pos h2, if_neg (by omega)] at this
      rw [ln_u1]
      exact this
    · refine sg_set (show xb_cd B (b + 6) = en_w 11 2 0 from hc 6 (ln_lt rfl)) (by omega) (by omega) (by omega) ?_
      refine sg_jmp (show xb_cd B (b + 7) = en_w 5 0 (b+11) from hc 7 (ln_lt rfl)) (by omega) (by omega) (by omega) ?_
      have := k r
      rw [if_neg (by omega), if_neg (by omega), if_pos (by omega)] at this
      rw [ln_u2]
      exact this
theorem rt_pn (hR : xc_at (xb_cd B) 1 rt_L) (hc : xc_at (xb_cd B) b [(1, xa, 147), (19, 0, 114)]) (hb : b < 380) (hI : ln_VI lc W cv cs hv V) (hlc : lc ≤ 14) (ex : ms_isE xa = true) (xl : xa < 98) (xf : ms_fl xa ≤ 6) (hd : dp < 3) (hpc : pc < 2 ^ 27)
    (k : ∀ (V' : Nat → Int) (st' : Nat → Int32), (∀ j, j < dp → st' j = st j) → ln_VI lc W cv cs hv V' → xs_G post B (b + 2) od dp nc ta (pr_all (V xa) (pc, tx)).1 V' st' on (pr_all (V xa) (pc, tx)).2) : xs_G post B b od dp nc ta pc V st on tx := by
  have x6 := rt_l6 hI.1 ex xf
  refine sg_za (b := 147) (show xb_cd B b = en_w 1 xa 147 from hc 0 (ln_lt rfl)) (by omega) ex rfl hI.1 ?_
  have t1 : Int.tmod (V xa) ((10 ^ ms_fl 147 : Nat) : Int) = V xa := ln_id (show (V xa).natAbs < 10 ^ 6 by omega)
  rw [t1]
  intro hN1
  refine sg_cal (b := 114) (show xb_cd B (b + 1) = en_w 19 0 114 from hc 1 (ln_lt rfl)) (by omega) (by omega) (by omega) ?_
  refine rt_prt (r := b + 2) hR hpc (by omega) pk_us ?_
  rw [ms_us]
  refine k _ _ (fun j hj => pk_un (by omega)) (ln_fr hI hlc hN1 (fun e he => ms_un (by omega)) ?_ ?_)
  · rw [ms_un (by decide)]; exact hI.2.2.2.2.2.2.2.1
  · rw [ms_un (by decide)]; exact hI.2.2.2.2.2.2.2.2
/-- the body of a line -/
theorem rt_bd {lv1 : Bool} {o : Nat} (hR : xc_at (xb_cd B) 1 rt_L) (hc : xc_at (xb_cd B) b (ln_body b lv1 o w xa ya)) (hb : b < 380) (hI : ln_VI lc W cv cs hv V) (hlc : lc ≤ 14) (ex : ms_isE xa = true) (ey : ms_isE ya = true) (xl : xa < 98) (yl : ya < 98) (xf : ms_fl xa ≤ 6) (yf : ms_fl ya ≤ 6) (ho : o ≤ 9) (hw : w < 6) (how : o = 6 ∨ o = 7 → w < 4) (hd : dp < 3) (hpc : pc < 2 ^ 27)
    (k : ∀ (V' : Nat → Int) (od' : Int32) (st' : Nat → Int32), (∀ j, j < dp → st' j = st j) → ln_VI lc (ln_W o w (V xa) (V ya) W) cv cs hv V' → xs_G post B (b + (ln_body b lv1 o w xa ya).length) od' dp nc ta (ln_s o (V xa) (pc, tx)).1 V' st' (ln_on o w (V xa) (V ya) on) (ln_s o (V xa) (pc, tx)).2) : xs_G post B b od dp nc ta pc V st on tx := by
  have cs10 : o = 0 ∨ o = 1 ∨ o = 2 ∨ o = 3 ∨ o = 4 ∨ o = 5 ∨ o = 6 ∨ o = 7 ∨ o = 8 ∨ o = 9 := by omega
  rcases cs10 with z | z | z | z | z | z | z | z | z | z
  all_goals subst z
  · exact rt_mv hc hb hI hlc ex hw (fun V' h => k V' od st (fun _ _ => rfl) h)
  · exact rt_ad hc hb hI hlc ex ey xl yl xf yf hw (fun V' h => k V' od st (fun _ _ => rfl) h)
  · exact rt_su hc hb hI hlc ex ey xl yl xf yf hw (fun V' h => k V' od st (fun _ _ => rfl) h)
  · exact rt_mt hR hc hb hI hlc ex ey xl yl xf yf hw hd (fun V' st' hs h => k V' od st' hs h)
  · exact rt_dv hR hc hb hI hlc ex ey xl yl xf yf hw hd (fun V' od' st' hs h => k V' od' st' hs h)
  · exact rt_cp hc hb hI.1 ex ey (fun od' => k V od' st (fun _ _ => rfl) hI)
  · exact sg_set (show xb_cd B b = en_w 11 w 0 from hc 0 (ln_lt rfl)) (by omega) (how (Or.inl rfl)) (by omega) (k V od st (fun _ _ => rfl) hI)
  · exact sg_clr (show xb_cd B b = en_w 12 w 0 from hc 0 (ln_lt rfl)) (by omega) (how (Or.inr rfl)) (by omega) (k V od st (fun _ _ => rfl) hI)
  · exact rt_pn hR hc hb hI hlc ex xl xf hd hpc (fun V' st' hs h => k V' od st' hs h)
  · exact sg_put (show xb_cd B b = en_w 22 10 0 from hc 0 (ln_lt rfl)) (by omega) (by omega) (by omega) (k V od st (fun _ _ => rfl) hI)
end RT12
end
section
/-! lines, groups, the cycle on X's side -/
abbrev ln_T : Type := (Nat → Nat) × (Nat → Nat) × (Nat → Nat) × (Nat → Nat) × (Nat → Nat) × (Nat → Nat) × (Nat → Int32)
def tb_wh (T : ln_T) : Nat → Nat := T.1
def tb_cd (T : ln_T) : Nat → Nat := T.2.1
def tb_op (T : ln_T) : Nat → Nat := T.2.2.1
def tb_fw (T : ln_T) : Nat → Nat := T.2.2.2.1
def tb_fx (T : ln_T) : Nat → Nat := T.2.2.2.2.1
def tb_fy (T : ln_T) : Nat → Nat := T.2.2.2.2.2.1
def tb_cs (T : ln_T) : Nat → Int32 := T.2.2.2.2.2.2
def tb_ok (T : ln_T) : Prop := ∀ i, tb_wh T i ≤ 3 ∧ tb_cd T i ≤ 8 ∧ tb_op T i ≤ 9 ∧ tb_fw T i ≤ 5 ∧ (tb_op T i = 6 ∨ tb_op T i = 7 → tb_fw T i ≤ 3) ∧ tb_fx T i ≤ 10 ∧ tb_fy T i ≤ 10 ∧ (tb_cs T i).toInt.natAbs ≤ 999
def ln_i (T : ln_T) (cv : Nat → Int32) (i : Nat) (Y : ln_Y) : ln_Y := ln_go (tb_cd T i) (tb_op T i) (tb_fw T i) (ln_sv (tb_fx T i) Y.1 cv (tb_cs T i)).toInt (ln_sv (tb_fy T i) Y.1 cv (tb_cs T i)).toInt Y
def ln_all (T : ln_T) (w : Nat) (cv : Nat → Int32) : Nat → Nat → ln_Y → ln_Y
  | 0, _, Y => Y
  | d + 1, i, Y => ln_all T w cv d (i + 1) (if tb_wh T i = w then ln_i T cv i Y else Y)
def ln_cd (T : ln_T) (lv1 : Bool) (i p : Nat) : List (Nat × Nat × Nat) := ln_C p lv1 (tb_cd T i) (tb_op T i) (tb_fw T i) (ln_sa i (tb_fx T i)) (ln_sa i (tb_fy T i))
def gr_C (T : ln_T) (lv1 : Bool) (w : Nat) : Nat → Nat → Nat → List (Nat × Nat × Nat)
  | 0, _, _ => [(20, 0, 0)]
  | d + 1, i, p => if tb_wh T i = w then ln_cd T lv1 i p ++ gr_C T lv1 w d (i + 1) (p + (ln_cd T lv1 i p).length) else gr_C T lv1 w d (i + 1) p
def xs_H (post : Int32 → SX → Prop) (B : xs_B) (p : Nat) (od : Int32) (dp nc : Nat) (V : Nat → Int) (st : Nat → Int32) (Y : ln_Y) : Prop := xs_G post B p od dp nc Y.2.2.1 Y.2.2.2.1 V st Y.2.1 Y.2.2.2.2
theorem xc_tl {c : Nat → Int32} {p : Nat} {a : Nat × Nat × Nat} {L : List (Nat × Nat × Nat)} (h : xc_at c p (a :: L)) : xc_at c (p + 1) L := by
  intro i hi
  have := h (i + 1) (by rw [List.length_cons]; omega)
  rw [List.getD_cons_succ, show p + (i + 1) = p + 1 + i by omega] at this
  exact this
theorem xc_hd {c : Nat → Int32} {p : Nat} {a : Nat × Nat × Nat} {L : List (Nat × Nat × Nat)} (h : xc_at c p (a :: L)) : c p = en_l a := h 0 (by rw [List.length_cons]; omega)
theorem xc_al {c : Nat → Int32} {p : Nat} {A L : List (Nat × Nat × Nat)} (h : xc_at c p (A ++ L)) : xc_at c p A := by
  intro i hi
  have := h i (by rw [List.length_append]; omega)
  rw [List.getD_eq_getElem?_getD, List.getElem?_append_left hi, ← List.getD_eq_getElem?_getD] at this
  exact this
theorem xc_ar {c : Nat → Int32} {p : Nat} {A L : List (Nat × Nat × Nat)} (h : xc_at c p (A ++ L)) : xc_at c (p + A.length) L := by
  intro i hi
  have := h (A.length + i) (by rw [List.length_append]; omega)
  rw [List.getD_eq_getElem?_getD, List.getElem?_append_right (by omega), ← List.getD_eq_getElem?_getD, show A.length + i - A.length = i by omega, ← Nat.add_assoc] at this
  exact this
section RT13
variable {post : Int32 → SX → Prop} {B : xs_B} {od : Int32} {dp nc r : Nat} {V : Nat → Int} {st : Nat → Int32} {cv : Nat → Int32} {lc : Nat} {hv : Nat → Int} {T : ln_T} {lv1 : Bool} {Y : ln_Y} {i p : Nat}
theorem ln_i1 : (ln_i T cv i Y).2.2.2.1 ≤ Y.2.2.2.1 + 8 := by
  unfold ln_i ln_go
  split
  · show (ln_s _ _ Y.2.2.2).1 ≤ _
    unfold ln_s
    split
    · exact pr_all1 _ _
    · split
      · show Y.2.2.2.1 + 1 ≤ _
        omega
      · omega
  · omega
/-- tally and body -/
theorem rt_tb (hR : xc_at (xb_cd B) 1 rt_L) (hc : xc_at (xb_cd B) p ((26, 0, 0) :: ln_body (p + 1) lv1 (tb_op T i) (tb_fw T i) (ln_sa i (tb_fx T i)) (ln_sa i (tb_fy T i)))) (hp : p < 379) (hi : i < lc) (hlc : lc ≤ 14) (tb : tb_ok T) (hd : dp < 3) (hpc : Y.2.2.2.1 < 2 ^ 27) (hI : ln_VI lc Y.1 cv (tb_cs T) hv V)
    (k : ∀ (V' : Nat → Int) (od' : Int32) (st' : Nat → Int32), (∀ j, j < dp → st' j = st j) → ln_VI lc (ln_ex (tb_op T i) (tb_fw T i) (ln_sv (tb_fx T i) Y.1 cv (tb_cs T i)).toInt (ln_sv (tb_fy T i) Y.1 cv (tb_cs T i)).toInt Y).1 cv (tb_cs T) hv V' → xs_H post B (p + 1 + (ln_body (p + 1) lv1 (tb_op T i) (tb_fw T i) (ln_sa i (tb_fx T i)) (ln_sa i (tb_fy T i))).length) od' dp nc V' st' (ln_ex (tb_op T i) (tb_fw T i) (ln_sv (tb_fx T i) Y.1 cv (tb_cs T i)).toInt (ln_sv (tb_fy T i) Y.1 cv (tb_cs T i)).toInt Y)) : xs_H post B p od dp nc V st Y := by
  obtain ⟨t1, t2, t3, t4, t5, t6, t7, t8⟩ := tb i
  have ⟨x1, x2, x3⟩ := ln_sa1 (tb_fx T i) (by omega) i (by omega)
  have ⟨y1, y2, y3⟩ := ln_sa1 (tb_fy T i) (by omega) i (by omega)
  have ex := ln_src (x := tb_fx T i) hI hi t6
  have ey := ln_src (x := tb_fy T i) hI hi t7
  rw [← ex, ← ey] at k
  refine sg_tal (show xb_cd B p = en_w 26 0 0 from xc_hd (a := (26, 0, 0)) hc) (by omega) ?_
  exact rt_bd hR (xc_tl hc) (by omega) hI hlc x1 y1 x2 y2 x3 y3 t3 (by omega) (fun z => by have := t5 z; omega) hd hpc k
theorem rt_ln (hR : xc_at (xb_cd B) 1 rt_L) (hc : xc_at (xb_cd B) p (ln_cd T lv1 i p)) (hp : p < 370) (hi : i < lc) (hlc : lc ≤ 14) (tb : tb_ok T) (hd : dp < 3) (hpc : Y.2.2.2.1 < 2 ^ 27) (hI : ln_VI lc Y.1 cv (tb_cs T) hv V)
    (k : ∀ (V' : Nat → Int) (od' : Int32) (st' : Nat → Int32), (∀ j, j < dp → st' j = st j) → ln_VI lc (ln_i T cv i Y).1 cv (tb_cs T) hv V' → xs_H post B (p + (ln_cd T lv1 i p).length) od' dp nc V' st' (ln_i T cv i Y)) : xs_H post B p od dp nc V st Y := by
  unfold ln_cd ln_C at hc k
  unfold ln_i ln_go at k
  have hbl := ln_bl (b := p + 2) (lv1 := lv1) (o := tb_op T i) (w := tb_fw T i) (xa := ln_sa i (tb_fx T i)) (ya := ln_sa i (tb_fy T i))
  have htb := (tb i).2.1
  by_cases c0 : tb_cd T i = 0
  · rw [if_pos c0] at hc k
    have hm : ln_met (tb_cd T i) Y.2.1 = true := if_pos c0
    rw [if_pos hm] at k
    refine rt_tb hR hc (by omega) hi hlc tb hd hpc hI ?_
    rw [List.length_cons, Nat.add_comm _ 1, ← Nat.add_assoc] at k
    exact k
  · rw [if_neg c0] at hc k
    have em : ln_met (tb_cd T i) Y.2.1 = if tb_cd T i ≤ 4 then !(decide (Y.2.1 (tb_cd T i - 1) = 0)) else decide (Y.2.1 (tb_cd T i - 5) = 0) := if_neg c0
    rw [List.length_cons, List.length_cons, show ∀ n, p + (n + 1 + 1) = p + 1 + 1 + n by omega] at k
    by_cases c4 : tb_cd T i ≤ 4
    · rw [if_pos c4] at hc em
      refine sg_off (show xb_cd B p = en_w 10 (tb_cd T i - 1) (p + 2 + (ln_body (p + 2) lv1 (tb_op T i) (tb_fw T i) (ln_sa i (tb_fx T i)) (ln_sa i (tb_fy T i))).length) from xc_hd (a := (10, tb_cd T i - 1, p + 2 + (ln_body (p + 2) lv1 (tb_op T i) (tb_fw T i) (ln_sa i (tb_fx T i)) (ln_sa i (tb_fy T i))).length)) hc) (by omega) (by omega) (by omega) (fun z => ?_) (fun z => ?_)
      · have hm : ¬ ln_met (tb_cd T i) Y.2.1 = true := by rw [em, z]; decide
        rw [if_neg hm] at k
        exact k V od st (fun _ _ => rfl) hI
      · have hm : ln_met (tb_cd T i) Y.2.1 = true := by rw [em, decide_eq_false z]; rfl
        rw [if_pos hm] at k
        exact rt_tb hR (xc_tl hc) (by omega) hi hlc tb hd hpc hI k
    · rw [if_neg c4] at hc em
      refine sg_on (show xb_cd B p = en_w 9 (tb_cd T i - 5) (p + 2 + (ln_body (p + 2) lv1 (tb_op T i) (tb_fw T i) (ln_sa i (tb_fx T i)) (ln_sa i (tb_fy T i))).length) from xc_hd (a := (9, tb_cd T i - 5, p + 2 + (ln_body (p + 2) lv1 (tb_op T i) (tb_fw T i) (ln_sa i (tb_fx T i)) (ln_sa i (tb_fy T i))).length)) hc) (by omega) (by omega) (by omega) (fun z => ?_) (fun z => ?_)
      · have hm : ¬ ln_met (tb_cd T i) Y.2.1 = true := by rw [em, decide_eq_false z]; decide
        rw [if_neg hm] at k
        exact k V od st (fun _ _ => rfl) hI
      · have hm : ln_met (tb_cd T i) Y.2.1 = true := by rw [em, z]; decide
        rw [if_pos hm] at k
        exact rt_tb hR (xc_tl hc) (by omega) hi hlc tb hd hpc hI k
end RT13
section RT13b
variable {post : Int32 → SX → Prop} {B : xs_B} {dp nc r : Nat} {cv : Nat → Int32} {lc : Nat} {hv : Nat → Int} {T : ln_T} {lv1 : Bool}
theorem gr_len1 {w : Nat} : ∀ d i p, 1 ≤ (gr_C T lv1 w d i p).length := by
  intro d
  induction d with
  | zero => intro i p; exact Nat.le_refl 1
  | succ d ih =>
    intro i p
    show 1 ≤ (if tb_wh T i = w then ln_cd T lv1 i p ++ gr_C T lv1 w d (i + 1) (p + (ln_cd T lv1 i p).length) else gr_C T lv1 w d (i + 1) p).length
    by_cases h : tb_wh T i = w
    · rw [if_pos h, List.length_append]
      have := ih (i + 1) (p + (ln_cd T lv1 i p).length)
      omega
    · rw [if_neg h]; exact ih (i + 1) p
theorem rt_gr {w : Nat} (hR : xc_at (xb_cd B) 1 rt_L) (hlc : lc ≤ 14) (tb : tb_ok T) (hd : dp < 2) : ∀ (d i p : Nat) (V : Nat → Int) (od : Int32) (st : Nat → Int32) (Y : ln_Y), i + d = lc → xc_at (xb_cd B) p (gr_C T lv1 w d i p) → p + (gr_C T lv1 w d i p).length ≤ 370 → Y.2.2.2.1 + 8 * d < 2 ^ 27 → st dp = nI r → ln_VI lc Y.1 cv (tb_cs T) hv V →
    (∀ (V' : Nat → Int) (od' : Int32) (st' : Nat → Int32), (∀ j, j < dp → st' j = st j) → ln_VI lc (ln_all T w cv d i Y).1 cv (tb_cs T) hv V' → xs_H post B r od' dp nc V' st' (ln_all T w cv d i Y)) → xs_H post B p od (dp + 1) nc V st Y := by
  intro d
  induction d with
  | zero =>
    intro i p V od st Y hid hc hl hpc hr hI k
    have hl' : p + 1 ≤ 370 := hl
    exact sg_ret (show xb_cd B p = en_w 20 0 0 from xc_hd (a := (20, 0, 0)) (L := []) hc) (by omega) (by omega) hr (k V od st (fun _ _ => rfl) hI)
  | succ d ih =>
    intro i p V od st Y hid hc hl hpc hr hI k
    have ea : ln_all T w cv (d + 1) i Y = ln_all T w cv d (i + 1) (if tb_wh T i = w then ln_i T cv i Y else Y) := rfl
    have eg : gr_C T lv1 w (d + 1) i p = if tb_wh T i = w then ln_cd T lv1 i p ++ gr_C T lv1 w d (i + 1) (p + (ln_cd T lv1 i p).length) else gr_C T lv1 w d (i + 1) p := rfl
    rw [eg] at hc hl
    rw [ea] at k
    by_cases hw : tb_wh T i = w
    · rw [if_pos hw] at hc hl k
      rw [List.length_append] at hl
      have h1 := gr_len1 (T := T) (lv1 := lv1) (w := w) d (i + 1) (p + (ln_cd T lv1 i p).length)
      refine rt_ln (lv1 := lv1) hR (xc_al hc) (by omega) (by omega) hlc tb (by omega) (by omega) hI (fun V' od' st' hs hI' => ?_)
      have hb := ln_i1 (T := T) (cv := cv) (i := i) (Y := Y)
      refine ih (i + 1) _ V' od' st' _ (by omega) (xc_ar hc) (by omega) (by omega) ?_ hI' (fun V2 od2 st2 hs2 hI2 => k V2 od2 st2 (fun j hj => ?_) hI2)
      · rw [hs dp (by omega)]; exact hr
      · rw [hs2 j hj, hs j (by omega)]
    · rw [if_neg hw] at hc hl k
      exact ih (i + 1) p V od st Y (by omega) hc hl (by omega) hr hI k
end RT13b
end
section
/-! the cycle -/
def cy_C (s g0 g1 g2 g3 : Nat) : List (Nat × Nat × Nat) := [(13,0,s+17),(24,150,s+10),(4,43,41),(8,0,s+7),(19,0,g1),(19,0,g2),(5,0,s+10),(4,39,37),(8,0,s+10),(19,0,g1),(1,39,37),(1,43,41),(1,49,46),(1,55,52),(18,152,150),(19,0,g0),(5,0,s),(24,150,s+20),(19,0,g1),(19,0,g2),(19,0,g3),(0,0,0)]
/-- the present card -/
def rn_c (ak ap af as : Nat → Int32) (k : Nat) : Nat → Int32 := fun j => if j = 0 then ak k else if j = 1 then ap k else if j = 2 then af k else as k
/-- the lines at a card after the first -/
def rn_s (T : ln_T) (lc : Nat) (ak ap af as : Nat → Int32) (k : Nat) (Y : ln_Y) : ln_Y :=
  ln_all T 0 (rn_c ak ap af as (k + 1)) lc 0 (if ap (k + 1) = ap k then (if ak (k + 1) = ak k then Y else ln_all T 1 (rn_c ak ap af as k) lc 0 Y) else ln_all T 2 (rn_c ak ap af as k) lc 0 (ln_all T 1 (rn_c ak ap af as k) lc 0 Y))
/-- from the card k (its lines done) on, d further ones -/
def rn_l (T : ln_T) (lc : Nat) (ak ap af as : Nat → Int32) : Nat → Nat → ln_Y → ln_Y
  | 0, k, Y => ln_all T 3 (rn_c ak ap af as k) lc 0 (ln_all T 2 (rn_c ak ap af as k) lc 0 (ln_all T 1 (rn_c ak ap af as k) lc 0 Y))
  | d + 1, k, Y => rn_l T lc ak ap af as d (k + 1) (rn_s T lc ak ap af as k Y)
def rn_Y (T : ln_T) (lc n : Nat) (ak ap af as : Nat → Int32) (Y : ln_Y) : ln_Y :=
  if n = 0 then ln_all T 3 (fun _ => 0) lc 0 Y else rn_l T lc ak ap af as (n - 1) 0 (ln_all T 0 (rn_c ak ap af as 0) lc 0 Y)
theorem ln_all1 {T : ln_T} {w : Nat} {cv : Nat → Int32} : ∀ (d i : Nat) (Y : ln_Y), (ln_all T w cv d i Y).2.2.2.1 ≤ Y.2.2.2.1 + 8 * d := by
  intro d
  induction d with
  | zero => intro i Y; exact Nat.le_refl _
  | succ d ih =>
    intro i Y
    show (ln_all T w cv d (i + 1) (if tb_wh T i = w then ln_i T cv i Y else Y)).2.2.2.1 ≤ _
    have h1 := ih (i + 1) (if tb_wh T i = w then ln_i T cv i Y else Y)
    by_cases h : tb_wh T i = w
    · rw [if_pos h] at h1 ⊢
      have := ln_i1 (T := T) (cv := cv) (i := i) (Y := Y)
      omega
    · rw [if_neg h] at h1 ⊢
      omega
def cd_ok (ak ap af as : Nat → Int32) : Prop := ∀ k, (0 ≤ (ak k).toInt ∧ (ak k).toInt ≤ 99) ∧ (0 ≤ (ap k).toInt ∧ (ap k).toInt ≤ 99) ∧ (-999 ≤ (af k).toInt ∧ (af k).toInt ≤ 999) ∧ (-999 ≤ (as k).toInt ∧ (as k).toInt ≤ 999)
/-- all that the run needs to know of the code -/
def pg_at (c : Nat → Int32) (T : ln_T) (lc : Nat) (lv1 : Bool) (s g1 g2 g3 : Nat) : Prop :=
  c 0 = en_w 5 0 s ∧ xc_at c 1 rt_L ∧ (xc_at c 136 (gr_C T lv1 0 lc 0 136) ∧ 136 + (gr_C T lv1 0 lc 0 136).length ≤ 370) ∧ (xc_at c g1 (gr_C T lv1 1 lc 0 g1) ∧ g1 + (gr_C T lv1 1 lc 0 g1).length ≤ 370) ∧ (xc_at c g2 (gr_C T lv1 2 lc 0 g2) ∧ g2 + (gr_C T lv1 2 lc 0 g2).length ≤ 370) ∧ (xc_at c g3 (gr_C T lv1 3 lc 0 g3) ∧ g3 + (gr_C T lv1 3 lc 0 g3).length ≤ 370) ∧ xc_at c s (cy_C s 136 g1 g2 g3) ∧ s + 22 ≤ 400
theorem cy_n : ∀ j, j < 4 → ms_cj j ≠ 39 ∧ ms_cj j ≠ 43 ∧ ms_cj j ≠ 49 ∧ ms_cj j ≠ 55 := by decide +kernel
section RT14
variable {post : Int32 → SX → Prop} {B : xs_B} {nc : Nat} {lc n : Nat} {T : ln_T} {lv1 : Bool} {s g1 g2 g3 : Nat}
/-- a call of a group -/
theorem rt_ca {q w g : Nat} {cv : Nat → Int32} {hv : Nat → Int} {V : Nat → Int} {od : Int32} {st : Nat → Int32} {Y : ln_Y} (hR : xc_at (xb_cd B) 1 rt_L) (hlc : lc ≤ 14) (tb : tb_ok T) (hq : xb_cd B q = en_w 19 0 g) (hq4 : q < 410) (hg : xc_at (xb_cd B) g (gr_C T lv1 w lc 0 g) ∧ g + (gr_C T lv1 w lc 0 g).length ≤ 370) (hpc : Y.2.2.2.1 < 2 ^ 26) (hI : ln_VI lc Y.1 cv (tb_cs T) hv V)
    (k : ∀ (V' : Nat → Int) (od' : Int32) (st' : Nat → Int32), ln_VI lc (ln_all T w cv lc 0 Y).1 cv (tb_cs T) hv V' → xs_H post B (q + 1) od' 0 nc V' st' (ln_all T w cv lc 0 Y)) : xs_H post B q od 0 nc V st Y := by
  refine sg_cal hq (by omega) (by omega) (by omega) ?_
  exact rt_gr (r := q + 1) (dp := 0) hR hlc tb (by omega) lc 0 g V od _ Y (by omega) hg.1 hg.2 (by omega) pk_us hI (fun V' od' st' _ h => k V' od' st' h)
/-- the end of the cycle: the card k was the last -/
theorem rt_c0 {V : Nat → Int} {od : Int32} {st : Nat → Int32} {Y : ln_Y} {cv : Nat → Int32} {hv : Nat → Int} (hP : pg_at (xb_cd B) T lc lv1 s g1 g2 g3) (hlc : lc ≤ 14) (tb : tb_ok T) (hpc : Y.2.2.2.1 < 2 ^ 25) (hI : ln_VI lc Y.1 cv (tb_cs T) hv V) (hh : hv 150 = 1)
    (k : ∀ (V' : Nat → Int) (od' : Int32) (st' : Nat → Int32) (Y' : ln_Y), Y' = ln_all T 3 cv lc 0 (ln_all T 2 cv lc 0 (ln_all T 1 cv lc 0 Y)) → ln_VI lc Y'.1 cv (tb_cs T) hv V' → post (nI Y'.2.2.1) (xs_T B (s + 22) od' 0 nc Y'.2.2.1 1 Y'.2.2.2.1 V' st' Y'.2.1 Y'.2.2.2.2)) : xs_H post B (s + 17) od 0 nc V st Y := by
  obtain ⟨_, hR, hg0, hg1, hg2, hg3, hc, hs⟩ := hP
  have hl : ∀ n, n < 15 → 8 * n ≤ 112 := by omega
  refine sg_iz (d := 1) (show xb_cd B (s + 17) = en_w 24 150 (s+20) from hc 17 (ln_lt rfl)) (by omega) (by omega) ?_ (by omega) (by omega) (fun z => absurd z (by decide)) (fun _ => ?_)
  · rw [ms_DG0 rfl, hI.2.2.2.2.1 150 (by decide), hh]; rfl
  refine rt_ca hR hlc tb (show xb_cd B (s + 18) = en_w 19 0 g1 from hc 18 (ln_lt rfl)) (by omega) hg1 (by omega) hI (fun V1 o1 s1 h1 => ?_)
  have b1 := ln_all1 (T := T) (w := 1) (cv := cv) lc 0 Y
  refine rt_ca hR hlc tb (show xb_cd B (s + 19) = en_w 19 0 g2 from hc 19 (ln_lt rfl)) (by omega) hg2 (by omega) h1 (fun V2 o2 s2 h2 => ?_)
  have b2 := ln_all1 (T := T) (w := 2) (cv := cv) lc 0 (ln_all T 1 cv lc 0 Y)
  refine rt_ca hR hlc tb (show xb_cd B (s + 20) = en_w 19 0 g3 from hc 20 (ln_lt rfl)) (by omega) hg3 (by omega) h2 (fun V3 o3 s3 h3 => ?_)
  exact sg_hlt (show xb_cd B (s + 21) = en_w 0 0 0 from hc 21 (ln_lt rfl)) (by omega) (k V3 o3 s3 _ rfl h3)
/-- no card at all -/
theorem rt_cn {V : Nat → Int} {od : Int32} {st : Nat → Int32} {Y : ln_Y} {cv : Nat → Int32} {hv : Nat → Int} (hP : pg_at (xb_cd B) T lc lv1 s g1 g2 g3) (hlc : lc ≤ 14) (tb : tb_ok T) (hpc : Y.2.2.2.1 < 2 ^ 25) (hI : ln_VI lc Y.1 cv (tb_cs T) hv V) (hh : hv 150 = 0) (hn : xb_cc B = nI nc)
    (k : ∀ (V' : Nat → Int) (od' : Int32) (st' : Nat → Int32) (Y' : ln_Y), Y' = ln_all T 3 cv lc 0 Y → ln_VI lc Y'.1 cv (tb_cs T) hv V' → post (nI Y'.2.2.1) (xs_T B (s + 22) od' 0 nc Y'.2.2.1 1 Y'.2.2.2.1 V' st' Y'.2.1 Y'.2.2.2.2)) : xs_H post B s od 0 nc V st Y := by
  obtain ⟨_, hR, hg0, hg1, hg2, hg3, hc, hs⟩ := hP
  refine sg_rd0 (show xb_cd B s = en_w 13 0 (s+17) from hc 0 (ln_lt rfl)) (by omega) (by omega) hn ?_
  refine sg_iz (d := 0) (show xb_cd B (s + 17) = en_w 24 150 (s+20) from hc 17 (ln_lt rfl)) (by omega) (by omega) ?_ (by omega) (by omega) (fun _ => ?_) (fun z => absurd rfl z)
  · rw [ms_DG0 rfl, hI.2.2.2.2.1 150 (by decide), hh]; rfl
  refine rt_ca hR hlc tb (show xb_cd B (s + 20) = en_w 19 0 g3 from hc 20 (ln_lt rfl)) (by omega) hg3 (by omega) hI (fun V3 o3 s3 h3 => ?_)
  exact sg_hlt (show xb_cd B (s + 21) = en_w 0 0 0 from hc 21 (ln_lt rfl)) (by omega) (k V3 o3 s3 _ rfl h3)
/-- the card's fields are taken over, the lines of the card are done, and the loop begins again -/
theorem rt_ct {V : Nat → Int} {od : Int32} {st : Nat → Int32} {Y : ln_Y} {cv : Nat → Int32} {hv : Nat → Int} {j : Nat} (hP : pg_at (xb_cd B) T lc lv1 s g1 g2 g3) (hlc : lc ≤ 14) (tb : tb_ok T) (hpc : Y.2.2.2.1 < 2 ^ 26) (hC : cd_ok (xb_ak B) (xb_ap B) (xb_af B) (xb_as B)) (hI : ln_VI lc Y.1 cv (tb_cs T) hv V) (hv0 : 0 ≤ hv 150)
    (i0 : V 39 = (xb_ak B j).toInt) (i1 : V 43 = (xb_ap B j).toInt) (i2 : V 49 = (xb_af B j).toInt) (i3 : V 55 = (xb_as B j).toInt)
    (k : ∀ (V' hv' : Nat → Int) (od' : Int32) (st' : Nat → Int32), hv' 150 = 1 → ln_VI lc (ln_all T 0 (rn_c (xb_ak B) (xb_ap B) (xb_af B) (xb_as B) j) lc 0 Y).1 (rn_c (xb_ak B) (xb_ap B) (xb_af B) (xb_as B) j) (tb_cs T) hv' V' → xs_H post B s od' 0 nc V' st' (ln_all T 0 (rn_c (xb_ak B) (xb_ap B) (xb_af B) (xb_as B) j) lc 0 Y)) : xs_H post B (s + 10) od 0 nc V st Y := by
  obtain ⟨_, hR, hg0, hg1, hg2, hg3, hc, hs⟩ := hP
  obtain ⟨c0, c1, c2, c3⟩ := hC j
  obtain ⟨a1, a2, a3, a4, a5, a6, a7, a8, a9⟩ := hI
  refine sg_za (a := 39) (b := 37) (show xb_cd B (s + 10) = en_w 1 39 37 from hc 10 (ln_lt rfl)) (by omega) rfl rfl a1 ?_
  have t0 : Int.tmod (V 39) ((10 ^ ms_fl 37 : Nat) : Int) = V 39 := ln_id (show (V 39).natAbs < 10 ^ 2 by omega)
  rw [t0]
  intro n1
  refine sg_za (a := 43) (b := 41) (show xb_cd B (s + 11) = en_w 1 43 41 from hc 11 (ln_lt rfl)) (by omega) rfl rfl n1 ?_
  have u1 : ms_u V 37 (V 39) 43 = V 43 := ms_un (by decide)
  have t1 : Int.tmod (V 43) ((10 ^ ms_fl 41 : Nat) : Int) = V 43 := ln_id (show (V 43).natAbs < 10 ^ 2 by omega)
  rw [u1, t1]
  intro n2
  refine sg_za (a := 49) (b := 46) (show xb_cd B (s + 12) = en_w 1 49 46 from hc 12 (ln_lt rfl)) (by omega) rfl rfl n2 ?_
  have u2 : ms_u (ms_u V 37 (V 39)) 41 (V 43) 49 = V 49 := (ms_un (by decide)).trans (ms_un (by decide))
  have t2 : Int.tmod (V 49) ((10 ^ ms_fl 46 : Nat) : Int) = V 49 := ln_id (show (V 49).natAbs < 10 ^ 3 by omega)
  rw [u2, t2]
  intro n3
  refine sg_za (a := 55) (b := 52) (show xb_cd B (s + 13) = en_w 1 55 52 from hc 13 (ln_lt rfl)) (by omega) rfl rfl n3 ?_
  have u3 : ms_u (ms_u (ms_u V 37 (V 39)) 41 (V 43)) 46 (V 49) 55 = V 55 := (ms_un (by decide)).trans ((ms_un (by decide)).trans (ms_un (by decide)))
  have t3 : Int.tmod (V 55) ((10 ^ ms_fl 52 : Nat) : Int) = V 55 := ln_id (show (V 55).natAbs < 10 ^ 3 by omega)
  rw [u3, t3]
  intro n4
  have f4 : ∀ e, e ≠ 37 → e ≠ 41 → e ≠ 46 → e ≠ 52 → ms_u (ms_u (ms_u (ms_u V 37 (V 39)) 41 (V 43)) 46 (V 49)) 52 (V 55) e = V e := fun e z1 z2 z3 z4 => (ms_un z4).trans ((ms_un z3).trans ((ms_un z2).trans (ms_un z1)))
  have w0 : ms_u (ms_u (ms_u (ms_u V 37 (V 39)) 41 (V 43)) 46 (V 49)) 52 (V 55) 37 = V 39 := (ms_un (by decide)).trans ((ms_un (by decide)).trans ((ms_un (by decide)).trans ms_us))
  have w1 : ms_u (ms_u (ms_u (ms_u V 37 (V 39)) 41 (V 43)) 46 (V 49)) 52 (V 55) 41 = V 43 := (ms_un (by decide)).trans ((ms_un (by decide)).trans ms_us)
  have w2 : ms_u (ms_u (ms_u (ms_u V 37 (V 39)) 41 (V 43)) 46 (V 49)) 52 (V 55) 46 = V 49 := (ms_un (by decide)).trans ms_us
  have w3 : ms_u (ms_u (ms_u (ms_u V 37 (V 39)) 41 (V 43)) 46 (V 49)) 52 (V 55) 52 = V 55 := ms_us
  revert n4 f4 w0 w1 w2 w3
  generalize ms_u (ms_u (ms_u (ms_u V 37 (V 39)) 41 (V 43)) 46 (V 49)) 52 (V 55) = V4
  intro n4 f4 w0 w1 w2 w3
  refine sg_dg (a := 152) (e := 150) (d := 1) (show xb_cd B (s + 14) = en_w 18 152 150 from hc 14 (ln_lt rfl)) (by omega) (by omega) ?_ (by omega) rfl rfl ?_ n4 (fun n5 => ?_)
  · rw [ms_DG0 rfl, f4 152 (by decide) (by decide) (by decide) (by decide), a7]; rfl
  · rw [f4 150 (by decide) (by decide) (by decide) (by decide), a5 150 (by decide)]; exact hv0
  have f5 : ∀ e, e ≠ 150 → ms_u V4 150 ((1 : Nat) : Int) e = V4 e := fun e z => ms_un z
  have w5 : ms_u V4 150 ((1 : Nat) : Int) 150 = 1 := ms_us
  revert n5 f5 w5
  generalize ms_u V4 150 ((1 : Nat) : Int) = V5
  intro n5 f5 w5
  refine rt_ca (cv := rn_c (xb_ak B) (xb_ap B) (xb_af B) (xb_as B) j) (hv := V5) hR hlc tb (show xb_cd B (s + 15) = en_w 19 0 136 from hc 15 (ln_lt rfl)) (by omega) hg0 hpc ⟨n5, ?_, ?_, ?_, fun _ _ => rfl, ?_, ?_, ?_, ?_⟩ (fun V6 o6 s6 h6 => ?_)
  · intro w hw
    rw [f5 _ (by omega), f4 _ (by omega) (by omega) (by omega) (by omega)]; exact a2 w hw
  · intro x hx
    have hx4 : x = 0 ∨ x = 1 ∨ x = 2 ∨ x = 3 := by omega
    rcases hx4 with z | z | z | z
    all_goals subst z
    · exact (f5 37 (by decide)).trans (w0.trans i0)
    · exact (f5 41 (by decide)).trans (w1.trans i1)
    · exact (f5 46 (by decide)).trans (w2.trans i2)
    · exact (f5 52 (by decide)).trans (w3.trans i3)
  · intro i hi
    rw [f5 _ (by omega), f4 _ (by omega) (by omega) (by omega) (by omega)]; exact a4 i hi
  · rw [f5 _ (by decide), f4 _ (by decide) (by decide) (by decide) (by decide)]; exact a6
  · rw [f5 _ (by decide), f4 _ (by decide) (by decide) (by decide) (by decide)]; exact a7
  · rw [f5 _ (by decide), f4 _ (by decide) (by decide) (by decide) (by decide)]; exact a8
  · rw [f5 _ (by decide), f4 _ (by decide) (by decide) (by decide) (by decide)]; exact a9
  exact sg_jmp (show xb_cd B (s + 16) = en_w 5 0 s from hc 16 (ln_lt rfl)) (by omega) (by omega) (by omega) (k V6 V5 o6 s6 w5 h6)
theorem rt_cl (hP : pg_at (xb_cd B) T lc lv1 s g1 g2 g3) (hlc : lc ≤ 14) (tb : tb_ok T) (hC : cd_ok (xb_ak B) (xb_ap B) (xb_af B) (xb_as B)) (hn : xb_cc B = nI n) (hn16 : n ≤ 16) : ∀ (d k : Nat) (Y : ln_Y) (V hv : Nat → Int) (od : Int32) (st : Nat → Int32), k + 1 + d = n → Y.2.2.2.1 + 400 * d < 2 ^ 25 → ln_VI lc Y.1 (rn_c (xb_ak B) (xb_ap B) (xb_af B) (xb_as B) k) (tb_cs T) hv V → hv 150 = 1 →
    (∀ (V' hv' : Nat → Int) (od' : Int32) (st' : Nat → Int32) (kk : Nat) (Y' : ln_Y), Y' = rn_l T lc (xb_ak B) (xb_ap B) (xb_af B) (xb_as B) d k Y → hv' 150 = 1 → ln_VI lc Y'.1 (rn_c (xb_ak B) (xb_ap B) (xb_af B) (xb_as B) kk) (tb_cs T) hv' V' → post (nI Y'.2.2.1) (xs_T B (s + 22) od' 0 n Y'.2.2.1 1 Y'.2.2.2.1 V' st' Y'.2.1 Y'.2.2.2.2)) → xs_H post B s od 0 (k + 1) V st Y := by
  have hP' := hP
  obtain ⟨_, hR, hg0, hg1, hg2, hg3, hc, hs⟩ := hP'
  intro d
  induction d with
  | zero =>
    intro k Y V hv od st hk hpc hI hh K
    have hk1 : k + 1 = n := by omega
    refine sg_rd0 (show xb_cd B s = en_w 13 0 (s + 17) from hc 0 (ln_lt rfl)) (by omega) (by omega) (by rw [hn, hk1]) ?_
    refine rt_c0 hP hlc tb (by omega) hI hh (fun V' od' st' Y' hY' hI' => ?_)
    rw [hk1]
    exact K V' hv od' st' k Y' hY' hh hI'
  | succ d ih =>
    intro k Y V hv od st hk hpc hI hh K
    obtain ⟨c0, c1, c2, c3⟩ := hC (k + 1)
    have hI0 := hI
    obtain ⟨a1, a2, a3, a4, a5, a6, a7, a8, a9⟩ := hI
    refine sg_rd1 (show xb_cd B s = en_w 13 0 (s + 17) from hc 0 (ln_lt rfl)) (by omega) (by omega) (by omega) ?_ (by omega) (by omega) (by omega) (by omega) a1 ?_
    · rw [hn, nI_eq (by omega) (by omega)]; omega
    intro n1
    have f1 : ∀ e, e ≠ 39 → e ≠ 43 → e ≠ 49 → e ≠ 55 → ms_u (ms_u (ms_u (ms_u V 39 (xb_ak B (k + 1)).toInt) 43 (xb_ap B (k + 1)).toInt) 49 (xb_af B (k + 1)).toInt) 55 (xb_as B (k + 1)).toInt e = V e := fun e z1 z2 z3 z4 => (ms_un z4).trans ((ms_un z3).trans ((ms_un z2).trans (ms_un z1)))
    have w0 : ms_u (ms_u (ms_u (ms_u V 39 (xb_ak B (k + 1)).toInt) 43 (xb_ap B (k + 1)).toInt) 49 (xb_af B (k + 1)).toInt) 55 (xb_as B (k + 1)).toInt 39 = (xb_ak B (k + 1)).toInt := (ms_un (by decide)).trans ((ms_un (by decide)).trans ((ms_un (by decide)).trans ms_us))
    have w1 : ms_u (ms_u (ms_u (ms_u V 39 (xb_ak B (k + 1)).toInt) 43 (xb_ap B (k + 1)).toInt) 49 (xb_af B (k + 1)).toInt) 55 (xb_as B (k + 1)).toInt 43 = (xb_ap B (k + 1)).toInt := (ms_un (by decide)).trans ((ms_un (by decide)).trans ms_us)
    have w2 : ms_u (ms_u (ms_u (ms_u V 39 (xb_ak B (k + 1)).toInt) 43 (xb_ap B (k + 1)).toInt) 49 (xb_af B (k + 1)).toInt) 55 (xb_as B (k + 1)).toInt 49 = (xb_af B (k + 1)).toInt := (ms_un (by decide)).trans ms_us
    have w3 : ms_u (ms_u (ms_u (ms_u V 39 (xb_ak B (k + 1)).toInt) 43 (xb_ap B (k + 1)).toInt) 49 (xb_af B (k + 1)).toInt) 55 (xb_as B (k + 1)).toInt 55 = (xb_as B (k + 1)).toInt := ms_us
    revert n1 f1 w0 w1 w2 w3
    generalize ms_u (ms_u (ms_u (ms_u V 39 (xb_ak B (k + 1)).toInt) 43 (xb_ap B (k + 1)).toInt) 49 (xb_af B (k + 1)).toInt) 55 (xb_as B (k + 1)).toInt = V1
    intro n1 f1 w0 w1 w2 w3
    have hI1 : ln_VI lc Y.1 (rn_c (xb_ak B) (xb_ap B) (xb_af B) (xb_as B) k) (tb_cs T) V1 V1 := by
      refine ⟨n1, ?_, ?_, ?_, fun _ _ => rfl, ?_, ?_, ?_, ?_⟩
      · intro w hw
        rw [f1 _ (by omega) (by omega) (by omega) (by omega)]; exact a2 w hw
      · intro j hj
        have hj4 : ms_cj j ≠ 39 ∧ ms_cj j ≠ 43 ∧ ms_cj j ≠ 49 ∧ ms_cj j ≠ 55 := cy_n j hj
        rw [f1 _ hj4.1 hj4.2.1 hj4.2.2.1 hj4.2.2.2]; exact a3 j hj
      · intro i hi
        rw [f1 _ (by omega) (by omega) (by omega) (by omega)]; exact a4 i hi
      · rw [f1 _ (by decide) (by decide) (by decide) (by decide)]; exact a6
      · rw [f1 _ (by decide) (by decide) (by decide) (by decide)]; exact a7
      · rw [f1 _ (by decide) (by decide) (by decide) (by decide)]; exact a8
      · rw [f1 _ (by decide) (by decide) (by decide) (by decide)]; exact a9
    have hv1 : V1 150 = 1 := by rw [f1 _ (by decide) (by decide) (by decide) (by decide), a5 150 (by decide)]; exact hh
    have e41 : V1 41 = (xb_ap B k).toInt := by rw [f1 _ (by decide) (by decide) (by decide) (by decide)]; exact a3 1 (by decide)
    have e37 : V1 37 = (xb_ak B k).toInt := by rw [f1 _ (by decide) (by decide) (by decide) (by decide)]; exact a3 0 (by decide)
    have em : rn_l T lc (xb_ak B) (xb_ap B) (xb_af B) (xb_as B) (d + 1) k Y = rn_l T lc (xb_ak B) (xb_ap B) (xb_af B) (xb_as B) d (k + 1) (rn_s T lc (xb_ak B) (xb_ap B) (xb_af B) (xb_as B) k Y) := rfl
    rw [em] at K
    have fin : ∀ (Y2 : ln_Y) (V2 : Nat → Int) (o2 : Int32) (s2 : Nat → Int32), Y2.2.2.2.1 ≤ Y.2.2.2.1 + 224 → ln_VI lc Y2.1 (rn_c (xb_ak B) (xb_ap B) (xb_af B) (xb_as B) k) (tb_cs T) V1 V2 → rn_s T lc (xb_ak B) (xb_ap B) (xb_af B) (xb_as B) k Y = ln_all T 0 (rn_c (xb_ak B) (xb_ap B) (xb_af B) (xb_as B) (k + 1)) lc 0 Y2 → xs_H post B (s + 10) o2 0 (k + 1 + 1) V2 s2 Y2 := by
      intro Y2 V2 o2 s2 hb2 hI2 hY2
      rw [hY2] at K
      have b0 := ln_all1 (T := T) (w := 0) (cv := rn_c (xb_ak B) (xb_ap B) (xb_af B) (xb_as B) (k + 1)) lc 0 Y2
      refine rt_ct (j := k + 1) hP hlc tb (by omega) hC hI2 (by rw [hv1]; decide) ?_ ?_ ?_ ?_ (fun V3 hv3 o3 s3 hh3 hI3 => ?_)
      · rw [hI2.2.2.2.2.1 39 (by decide)]; exact w0
      · rw [hI2.2.2.2.2.1 43 (by decide)]; exact w1
      · rw [hI2.2.2.2.2.1 49 (by decide)]; exact w2
      · rw [hI2.2.2.2.2.1 55 (by decide)]; exact w3
      exact ih (k + 1) _ V3 hv3 o3 s3 (by omega) (by omega) hI3 hh3 K
    refine sg_iz (d := 1) (show xb_cd B (s + 1) = en_w 24 150 (s + 10) from hc 1 (ln_lt rfl)) (by omega) (by omega) ?_ (by omega) (by omega) (fun z => absurd z (by decide)) (fun _ => ?_)
    · rw [ms_DG0 rfl, hv1]; rfl
    refine sg_cmp (show xb_cd B (s + 2) = en_w 4 43 41 from hc 2 (ln_lt rfl)) (by omega) rfl rfl n1 (fun r hr => ?_)
    refine sg_sa (show xb_cd B (s + 3) = en_w 8 0 (s + 7) from hc 3 (ln_lt rfl)) (by omega) (by omega) hr (fun hp => ?_) (fun hp => ?_)
    · have hp' : xb_ap B (k + 1) = xb_ap B k := by
        rw [w1, e41] at hp
        exact Int32.toInt_inj.mp hp
      refine sg_cmp (show xb_cd B (s + 7) = en_w 4 39 37 from hc 7 (ln_lt rfl)) (by omega) rfl rfl n1 (fun r2 hr2 => ?_)
      refine sg_sa (show xb_cd B (s + 8) = en_w 8 0 (s + 10) from hc 8 (ln_lt rfl)) (by omega) (by omega) hr2 (fun hq => ?_) (fun hq => ?_)
      · have hq' : xb_ak B (k + 1) = xb_ak B k := by
          rw [w0, e37] at hq
          exact Int32.toInt_inj.mp hq
        refine fin Y V1 r2 st (by omega) hI1 ?_
        unfold rn_s
        rw [if_pos hp', if_pos hq']
      · have hq' : ¬ xb_ak B (k + 1) = xb_ak B k := by
          intro z
          rw [w0, e37, z] at hq
          exact hq rfl
        refine rt_ca hR hlc tb (show xb_cd B (s + 9) = en_w 19 0 g1 from hc 9 (ln_lt rfl)) (by omega) hg1 (by omega) hI1 (fun V2 o2 s2 hI2 => ?_)
        have b1 := ln_all1 (T := T) (w := 1) (cv := rn_c (xb_ak B) (xb_ap B) (xb_af B) (xb_as B) k) lc 0 Y
        refine fin _ V2 o2 s2 (by omega) hI2 ?_
        unfold rn_s
        rw [if_pos hp', if_neg hq']
    · have hp' : ¬ xb_ap B (k + 1) = xb_ap B k := by
        intro z
        rw [w1, e41, z] at hp
        exact hp rfl
      refine rt_ca hR hlc tb (show xb_cd B (s + 4) = en_w 19 0 g1 from hc 4 (ln_lt rfl)) (by omega) hg1 (by omega) hI1 (fun V2 o2 s2 hI2 => ?_)
      have b1 := ln_all1 (T := T) (w := 1) (cv := rn_c (xb_ak B) (xb_ap B) (xb_af B) (xb_as B) k) lc 0 Y
      refine rt_ca hR hlc tb (show xb_cd B (s + 5) = en_w 19 0 g2 from hc 5 (ln_lt rfl)) (by omega) hg2 (by omega) hI2 (fun V3 o3 s3 hI3 => ?_)
      have b2 := ln_all1 (T := T) (w := 2) (cv := rn_c (xb_ak B) (xb_ap B) (xb_af B) (xb_as B) k) lc 0 (ln_all T 1 (rn_c (xb_ak B) (xb_ap B) (xb_af B) (xb_as B) k) lc 0 Y)
      refine sg_jmp (show xb_cd B (s + 6) = en_w 5 0 (s + 10) from hc 6 (ln_lt rfl)) (by omega) (by omega) (by omega) ?_
      refine fin _ V3 o3 s3 (by omega) hI3 ?_
      unfold rn_s
      rw [if_neg hp']
/-- the whole run of the machine -/
theorem rt_run {Y : ln_Y} {V : Nat → Int} {od : Int32} {st : Nat → Int32} (hP : pg_at (xb_cd B) T lc lv1 s g1 g2 g3) (hlc : lc ≤ 14) (tb : tb_ok T) (hC : cd_ok (xb_ak B) (xb_ap B) (xb_af B) (xb_as B)) (hn : xb_cc B = nI n) (hn16 : n ≤ 16) (hpc : Y.2.2.2.1 = 0) (hI : ln_VI lc Y.1 (fun _ => 0) (tb_cs T) V V) (h150 : V 150 = 0)
    (K : ∀ (V' hv' : Nat → Int) (cv' : Nat → Int32) (od' : Int32) (st' : Nat → Int32) (Y' : ln_Y), Y' = rn_Y T lc n (xb_ak B) (xb_ap B) (xb_af B) (xb_as B) Y → 0 ≤ hv' 150 → ln_VI lc Y'.1 cv' (tb_cs T) hv' V' → post (nI Y'.2.2.1) (xs_T B (s + 22) od' 0 n Y'.2.2.1 1 Y'.2.2.2.1 V' st' Y'.2.1 Y'.2.2.2.2)) : xs_H post B 0 od 0 0 V st Y := by
  have hP' := hP
  obtain ⟨hj, hR, hg0, hg1, hg2, hg3, hc, hs⟩ := hP'
  refine sg_jmp hj (by omega) (by omega) (by omega) ?_
  by_cases hn0 : n = 0
  · subst hn0
    refine rt_cn hP hlc tb (by omega) hI h150 hn (fun V' od' st' Y' hY' hI' => ?_)
    refine K V' V (fun _ => 0) od' st' Y' ?_ (by omega) hI'
    rw [hY']
    exact (if_pos rfl).symm
  · have em : rn_Y T lc n (xb_ak B) (xb_ap B) (xb_af B) (xb_as B) Y = rn_l T lc (xb_ak B) (xb_ap B) (xb_af B) (xb_as B) (n - 1) 0 (ln_all T 0 (rn_c (xb_ak B) (xb_ap B) (xb_af B) (xb_as B) 0) lc 0 Y) := if_neg hn0
    rw [em] at K
    obtain ⟨c0, c1, c2, c3⟩ := hC 0
    obtain ⟨a1, a2, a3, a4, a5, a6, a7, a8, a9⟩ := hI
    refine sg_rd1 (show xb_cd B s = en_w 13 0 (s + 17) from hc 0 (ln_lt rfl)) (by omega) (by omega) (by omega) ?_ (by omega) (by omega) (by omega) (by omega) a1 ?_
    · rw [hn, nI_eq (by omega) (by omega)]; omega
    intro n1
    have f1 : ∀ e, e ≠ 39 → e ≠ 43 → e ≠ 49 → e ≠ 55 → ms_u (ms_u (ms_u (ms_u V 39 (xb_ak B 0).toInt) 43 (xb_ap B 0).toInt) 49 (xb_af B 0).toInt) 55 (xb_as B 0).toInt e = V e := fun e z1 z2 z3 z4 => (ms_un z4).trans ((ms_un z3).trans ((ms_un z2).trans (ms_un z1)))
    have w0 : ms_u (ms_u (ms_u (ms_u V 39 (xb_ak B 0).toInt) 43 (xb_ap B 0).toInt) 49 (xb_af B 0).toInt) 55 (xb_as B 0).toInt 39 = (xb_ak B 0).toInt := (ms_un (by decide)).trans ((ms_un (by decide)).trans ((ms_un (by decide)).trans ms_us))
    have w1 : ms_u (ms_u (ms_u (ms_u V 39 (xb_ak B 0).toInt) 43 (xb_ap B 0).toInt) 49 (xb_af B 0).toInt) 55 (xb_as B 0).toInt 43 = (xb_ap B 0).toInt := (ms_un (by decide)).trans ((ms_un (by decide)).trans ms_us)
    have w2 : ms_u (ms_u (ms_u (ms_u V 39 (xb_ak B 0).toInt) 43 (xb_ap B 0).toInt) 49 (xb_af B 0).toInt) 55 (xb_as B 0).toInt 49 = (xb_af B 0).toInt := (ms_un (by decide)).trans ms_us
    have w3 : ms_u (ms_u (ms_u (ms_u V 39 (xb_ak B 0).toInt) 43 (xb_ap B 0).toInt) 49 (xb_af B 0).toInt) 55 (xb_as B 0).toInt 55 = (xb_as B 0).toInt := ms_us
    revert n1 f1 w0 w1 w2 w3
    generalize ms_u (ms_u (ms_u (ms_u V 39 (xb_ak B 0).toInt) 43 (xb_ap B 0).toInt) 49 (xb_af B 0).toInt) 55 (xb_as B 0).toInt = V1
    intro n1 f1 w0 w1 w2 w3
    have hI1 : ln_VI lc Y.1 (fun _ => 0) (tb_cs T) V1 V1 := by
      refine ⟨n1, ?_, ?_, ?_, fun _ _ => rfl, ?_, ?_, ?_, ?_⟩
      · intro w hw
        rw [f1 _ (by omega) (by omega) (by omega) (by omega)]; exact a2 w hw
      · intro j hj
        have hj4 : ms_cj j ≠ 39 ∧ ms_cj j ≠ 43 ∧ ms_cj j ≠ 49 ∧ ms_cj j ≠ 55 := cy_n j hj
        rw [f1 _ hj4.1 hj4.2.1 hj4.2.2.1 hj4.2.2.2]; exact a3 j hj
      · intro i hi
        rw [f1 _ (by omega) (by omega) (by omega) (by omega)]; exact a4 i hi
      · rw [f1 _ (by decide) (by decide) (by decide) (by decide)]; exact a6
      · rw [f1 _ (by decide) (by decide) (by decide) (by decide)]; exact a7
      · rw [f1 _ (by decide) (by decide) (by decide) (by decide)]; exact a8
      · rw [f1 _ (by decide) (by decide) (by decide) (by decide)]; exact a9
    have hv1 : V1 150 = 0 := by rw [f1 _ (by decide) (by decide) (by decide) (by decide)]; exact h150
    refine sg_iz (d := 0) (show xb_cd B (s + 1) = en_w 24 150 (s + 10) from hc 1 (ln_lt rfl)) (by omega) (by omega) ?_ (by omega) (by omega) (fun _ => ?_) (fun z => absurd rfl z)
    · rw [ms_DG0 rfl, hv1]; rfl
    have b0 := ln_all1 (T := T) (w := 0) (cv := rn_c (xb_ak B) (xb_ap B) (xb_af B) (xb_as B) 0) lc 0 Y
    refine rt_ct (j := 0) hP hlc tb (by omega) hC hI1 (by omega) w0 w1 w2 w3 (fun V3 hv3 o3 s3 hh3 hI3 => ?_)
    exact rt_cl hP hlc tb hC hn hn16 (n - 1) 0 _ V3 hv3 o3 s3 (by omega) (by omega) hI3 hh3 (fun V' hv' od' st' kk Y' hY' hh' hI' => K V' hv' _ od' st' Y' hY' (by omega) hI')
end RT14
end
section
/-! compiling: words laid over the code -/
theorem cp_or {x b : Nat} (hb : b < 1024) (hx : x * 1024 + b < 2 ^ 32) : nI (x * 1024) ||| nI b = nI (x * 1024 + b) := by
  apply Int32.toBitVec_inj.mp
  apply BitVec.eq_of_toNat_eq
  rw [Int32.toBitVec_or, BitVec.toNat_or, pk_tn (by omega), pk_tn (by omega), pk_tn hx, Nat.mul_comm]
  exact (Nat.two_pow_add_eq_or_of_lt (i := 10) hb x).symm
theorem cp_or2 {x b M : Nat} (hM : M = 2 ^ 20) (hb : b < M) (hx : x * M + b < 2 ^ 32) : nI (x * M) ||| nI b = nI (x * M + b) := by
  have h1 : (nI (x * M)).toBitVec.toNat = x * M := pk_tn (by omega)
  have h2 : (nI b).toBitVec.toNat = b := pk_tn (by omega)
  have h3 : (nI (x * M + b)).toBitVec.toNat = x * M + b := pk_tn hx
  apply Int32.toBitVec_inj.mp
  apply BitVec.eq_of_toNat_eq
  rw [Int32.toBitVec_or, BitVec.toNat_or, h1, h2, h3, Nat.mul_comm, hM]
  rw [hM] at hb
  exact (Nat.two_pow_add_eq_or_of_lt (i := 20) hb x).symm
theorem cp_w0 {w a b : Nat} (hw : w < 32) (ha : a < 1024) (hb : b < 1024) : en_w w a 0 ||| nI b = en_w w a b := by
  unfold en_w
  rw [show w * 1048576 + a * 1024 + 0 = (w * 1024 + a) * 1024 by omega, cp_or hb (by omega)]
  exact congrArg nI (by omega)
theorem cp_wd {w a b : Nat} (hw : w < 32) (ha : a < 1024) (hb : b < 1024) : ((nI w <<< ((20 : Int32) &&& 31)) ||| (nI a <<< ((10 : Int32) &&& 31))) ||| nI b = en_w w a b := by
  rw [pk_shlN _ 20 (by decide) (by omega), pk_shlN _ 10 (by decide) (by omega), cp_or2 (M := 2 ^ 20) rfl (by omega) (by omega)]
  have h := cp_w0 hw ha hb
  have e : en_w w a 0 = nI (w * 2 ^ 20 + a * 2 ^ 10) := congrArg nI (by omega)
  rw [e] at h
  exact h
theorem cp_mb : ∀ i, i < 32 → 10 ≤ i → (-1024 : Int32).toBitVec.getLsbD i = true := by decide +kernel
theorem cp_and {m : Nat} (h : m * 1024 < 2 ^ 32) : nI (m * 1024) &&& (-1024) = nI (m * 1024) := by
  apply Int32.toBitVec_inj.mp
  apply BitVec.eq_of_getLsbD_eq
  intro i hi
  rw [Int32.toBitVec_and, BitVec.getLsbD_and]
  by_cases h10 : 10 ≤ i
  · rw [cp_mb i hi h10, Bool.and_true]
  · have hz : (nI (m * 1024)).toBitVec.getLsbD i = false := by
      show (nI (m * 1024)).toBitVec.toNat.testBit i = false
      rw [pk_tn h, show (1024 : Nat) = 2 ^ 10 from rfl, Nat.testBit_mul_two_pow]
      simp [h10]
    rw [hz, Bool.false_and]
theorem cp_wl {w a q : Nat} (hw : w < 32) (ha : a < 1024) (hq : q < 1024) : (en_w w a 0 &&& (-1024)) ||| nI q = en_w w a q := by
  have e : en_w w a 0 = nI ((w * 1024 + a) * 1024) := congrArg nI (by omega)
  rw [e, cp_and (by omega), ← e]
  exact cp_w0 hw ha hq
/-- the list A laid over c from p on -/
def cp_o (c : Nat → Int32) (p : Nat) (A : List (Nat × Nat × Nat)) : Nat → Int32 := fun i => if p ≤ i ∧ i < p + A.length then en_l (A.getD (i - p) (0, 0, 0)) else c i
theorem cp_on {c : Nat → Int32} {p : Nat} : cp_o c p [] = c := by
  funext i
  exact if_neg (by rw [List.length_nil]; omega)
theorem cp_os {c : Nat → Int32} {p : Nat} {A : List (Nat × Nat × Nat)} {x : Nat × Nat × Nat} : upd (cp_o c p A) (p + A.length) (en_l x) = cp_o c p (A ++ [x]) := by
  funext i
  unfold upd cp_o
  by_cases h : i = p + A.length
  · rw [if_pos h, if_pos (by rw [List.length_append, List.length_singleton]; omega), h, show p + A.length - p = A.length by omega, List.getD_eq_getElem?_getD, List.getElem?_append_right (Nat.le_refl _), Nat.sub_self]
    rfl
  · rw [if_neg h]
    by_cases h2 : p ≤ i ∧ i < p + A.length
    · rw [if_pos h2, if_pos (by rw [List.length_append, List.length_singleton]; omega), List.getD_eq_getElem?_getD, List.getD_eq_getElem?_getD, List.getElem?_append_left (by omega)]
    · rw [if_neg h2, if_neg (by rw [List.length_append, List.length_singleton]; omega)]
theorem cp_ol {c : Nat → Int32} {p k : Nat} {A : List (Nat × Nat × Nat)} {x : Nat × Nat × Nat} (hk : k < A.length) : upd (cp_o c p A) (p + k) (en_l x) = cp_o c p (A.set k x) := by
  funext i
  unfold upd cp_o
  by_cases h : i = p + k
  · rw [if_pos h, if_pos (by rw [List.length_set]; omega), h, show p + k - p = k by omega, List.getD_eq_getElem?_getD, List.getElem?_set_self hk]
    rfl
  · rw [if_neg h, List.length_set]
    by_cases h2 : p ≤ i ∧ i < p + A.length
    · rw [if_pos h2, if_pos h2, List.getD_eq_getElem?_getD, List.getD_eq_getElem?_getD, List.getElem?_set_ne (by omega)]
    · rw [if_neg h2, if_neg h2]
theorem cp_oa {c : Nat → Int32} {p q : Nat} {A L : List (Nat × Nat × Nat)} (hq : q = p + A.length) : cp_o (cp_o c p A) q L = cp_o c p (A ++ L) := by
  subst hq
  funext i
  unfold cp_o
  rw [List.length_append]
  by_cases h1 : p + A.length ≤ i ∧ i < p + A.length + L.length
  · rw [if_pos h1, if_pos (by omega), List.getD_eq_getElem?_getD, List.getD_eq_getElem?_getD, List.getElem?_append_right (by omega), show i - p - A.length = i - (p + A.length) by omega]
  · rw [if_neg h1]
    by_cases h2 : p ≤ i ∧ i < p + A.length
    · rw [if_pos h2, if_pos (by omega), List.getD_eq_getElem?_getD, List.getD_eq_getElem?_getD, List.getElem?_append_left (by omega)]
    · rw [if_neg h2, if_neg (by omega)]
/-- c' is c below p -/
def cp_f (c c' : Nat → Int32) (p : Nat) : Prop := ∀ i, i < p → c' i = c i
theorem cp_of {c : Nat → Int32} {p : Nat} {A : List (Nat × Nat × Nat)} : cp_f c (cp_o c p A) p := fun i hi => if_neg (by omega)
theorem cp_ox {c : Nat → Int32} {p : Nat} {A : List (Nat × Nat × Nat)} : xc_at (cp_o c p A) p A := by
  intro i hi
  unfold cp_o
  rw [if_pos (by omega), show p + i - p = i by omega]
theorem cp_ft {c c' c'' : Nat → Int32} {p q : Nat} (h1 : cp_f c c' p) (h2 : cp_f c' c'' q) (h : p ≤ q) : cp_f c c'' p := fun i hi => (h2 i (by omega)).trans (h1 i hi)
theorem cp_fx {c c' : Nat → Int32} {p q : Nat} {A : List (Nat × Nat × Nat)} (h1 : xc_at c p A) (h2 : cp_f c c' q) (h : p + A.length ≤ q) : xc_at c' p A := fun i hi => (h2 _ (by omega)).trans (h1 i hi)
theorem cp_xj {c : Nat → Int32} {p q : Nat} {A L : List (Nat × Nat × Nat)} (hq : q = p + A.length) (h1 : xc_at c p A) (h2 : xc_at c q L) : xc_at c p (A ++ L) := by
  subst hq
  intro i hi
  rw [List.length_append] at hi
  by_cases h : i < A.length
  · rw [List.getD_eq_getElem?_getD, List.getElem?_append_left h, ← List.getD_eq_getElem?_getD]; exact h1 i h
  · rw [List.getD_eq_getElem?_getD, List.getElem?_append_right (by omega), ← List.getD_eq_getElem?_getD]
    have := h2 (i - A.length) (by omega)
    rwa [show p + A.length + (i - A.length) = p + i by omega] at this
theorem cp_ca : ∀ j, j < 4 → ms_ca j = nI (ms_cj j) := by decide +kernel
theorem cp_wk : ∀ w, w < 6 → ms_wk w = nI (6 * w + 5) := by decide +kernel
section CP15
variable {f_cardCount f_lineCount f_levelNow f_memoryEnd f_sumAt f_productAt f_leftAt f_rightAt f_restAt f_quotientAt f_textAt f_counterAt f_signAt f_haveAt f_zeroAt f_oneAt f_compiled f_codeEnd f_multiplyAt f_divideAt f_printAt f_at f_order f_callDepth f_nextCard f_tally f_halted f_printedCount : Int32} {a_cardKey a_cardPart a_cardFirst a_cardSecond a_lineWhen a_lineCondition a_lineOp a_lineW a_lineX a_lineY a_lineC a_digit a_mark a_minus a_workAt a_cardAt a_inputAt a_constantAt a_code a_groupAt a_callStack a_indicatorOn a_printedText : Nat → Int32}
theorem cp_put {Q : Int32 → SX → Prop} {c : Nat → Int32} {p q : Nat} {A : List (Nat × Nat × Nat)} {x0 x1 x2 : Int32} (w a b : Nat) (hq : q = p + A.length) (hq4 : q < 420) (hw : w < 32) (ha : a < 1024) (hb : b < 1024) (e0 : x0 = nI w) (e1 : x1 = nI a) (e2 : x2 = nI b)
    (h : Q (nI q) (f_cardCount, f_lineCount, f_levelNow, f_memoryEnd, f_sumAt, f_productAt, f_leftAt, f_rightAt, f_restAt, f_quotientAt, f_textAt, f_counterAt, f_signAt, f_haveAt, f_zeroAt, f_oneAt, f_compiled, nI (q + 1), f_multiplyAt, f_divideAt, f_printAt, f_at, f_order, f_callDepth, f_nextCard, f_tally, f_halted, f_printedCount, a_cardKey, a_cardPart, a_cardFirst, a_cardSecond, a_lineWhen, a_lineCondition, a_lineOp, a_lineW, a_lineX, a_lineY, a_lineC, a_digit, a_mark, a_minus, a_workAt, a_cardAt, a_inputAt, a_constantAt, cp_o c p (A ++ [(w, a, b)]), a_groupAt, a_callStack, a_indicatorOn, a_printedText)) : wpX_put Q (f_cardCount, f_lineCount, f_levelNow, f_memoryEnd, f_sumAt, f_productAt, f_leftAt, f_rightAt, f_restAt, f_quotientAt, f_textAt, f_counterAt, f_signAt, f_haveAt, f_zeroAt, f_oneAt, f_compiled, nI q, f_multiplyAt, f_divideAt, f_printAt, f_at, f_order, f_callDepth, f_nextCard, f_tally, f_halted, f_printedCount, a_cardKey, a_cardPart, a_cardFirst, a_cardSecond, a_lineWhen, a_lineCondition, a_lineOp, a_lineW, a_lineX, a_lineY, a_lineC, a_digit, a_mark, a_minus, a_workAt, a_cardAt, a_inputAt, a_constantAt, cp_o c p A, a_groupAt, a_callStack, a_indicatorOn, a_printedText) x0 x1 x2 := by
  subst e0 e1 e2
  unfold wpX_put
  dsimp only
  refine And.intro (vp_in_nI hq4 (by omega)) (nm_r (e' := cp_o c p (A ++ [(w, a, b)])) ?_ (nm_r (nI_1 q) ?_))
  · rw [nI_clamp (by omega), cp_wd hw ha hb, hq]
    exact cp_os (x := (w, a, b))
  · rw [nI_pred]; exact h
theorem cp_land {Q : SX → Prop} {c : Nat → Int32} {p q : Nat} {A : List (Nat × Nat × Nat)} {x : Int32} (k w a : Nat) (hk : k < A.length) (hpk : p + k < 420) (hA : A.getD k (0, 0, 0) = (w, a, 0)) (hq : q < 1024) (hw : w < 32) (ha : a < 1024) (ex : x = nI (p + k))
    (h : Q (f_cardCount, f_lineCount, f_levelNow, f_memoryEnd, f_sumAt, f_productAt, f_leftAt, f_rightAt, f_restAt, f_quotientAt, f_textAt, f_counterAt, f_signAt, f_haveAt, f_zeroAt, f_oneAt, f_compiled, nI q, f_multiplyAt, f_divideAt, f_printAt, f_at, f_order, f_callDepth, f_nextCard, f_tally, f_halted, f_printedCount, a_cardKey, a_cardPart, a_cardFirst, a_cardSecond, a_lineWhen, a_lineCondition, a_lineOp, a_lineW, a_lineX, a_lineY, a_lineC, a_digit, a_mark, a_minus, a_workAt, a_cardAt, a_inputAt, a_constantAt, cp_o c p (A.set k (w, a, q)), a_groupAt, a_callStack, a_indicatorOn, a_printedText)) : wpX_land Q (f_cardCount, f_lineCount, f_levelNow, f_memoryEnd, f_sumAt, f_productAt, f_leftAt, f_rightAt, f_restAt, f_quotientAt, f_textAt, f_counterAt, f_signAt, f_haveAt, f_zeroAt, f_oneAt, f_compiled, nI q, f_multiplyAt, f_divideAt, f_printAt, f_at, f_order, f_callDepth, f_nextCard, f_tally, f_halted, f_printedCount, a_cardKey, a_cardPart, a_cardFirst, a_cardSecond, a_lineWhen, a_lineCondition, a_lineOp, a_lineW, a_lineX, a_lineY, a_lineC, a_digit, a_mark, a_minus, a_workAt, a_cardAt, a_inputAt, a_constantAt, cp_o c p A, a_groupAt, a_callStack, a_indicatorOn, a_printedText) x := by
  subst ex
  unfold wpX_land
  dsimp only
  have hin : vp_in (nI (p + k)) 420 := vp_in_nI hpk (by omega)
  have hcl : (nI (p + k)).toNatClampNeg = p + k := nI_clamp (by omega)
  have hv : cp_o c p A (p + k) = en_w w a 0 := by
    unfold cp_o
    rw [if_pos (by omega), show p + k - p = k by omega, hA]
    rfl
  refine And.intro hin (And.intro hin (nm_r (e' := cp_o c p (A.set k (w, a, q))) ?_ h))
  rw [hcl, hv, cp_wl hw ha hq]
  exact cp_ol (x := (w, a, q)) hk
theorem cp_src {post : Int32 → Prop} {i x : Nat} (hi : i < 14) (hx : x ≤ 10) (h : post (nI (ln_sa i x))) : wpX_sourceAt post (f_cardCount, f_lineCount, f_levelNow, 153, 104, 116, 122, 128, 135, 141, 147, 148, 149, 150, 151, 152, f_compiled, f_codeEnd, f_multiplyAt, f_divideAt, f_printAt, f_at, f_order, f_callDepth, f_nextCard, f_tally, f_halted, f_printedCount, a_cardKey, a_cardPart, a_cardFirst, a_cardSecond, a_lineWhen, a_lineCondition, a_lineOp, a_lineW, a_lineX, a_lineY, a_lineC, a_digit, a_mark, a_minus, ms_wk, ms_ca, ms_in, ms_ct, a_code, a_groupAt, a_callStack, a_indicatorOn, a_printedText) (nI i) (nI x) := by
  unfold wpX_sourceAt
  dsimp only
  unfold ln_sa at h
  refine pk_le 6 x (fun h6 => ?_) (fun h6 => ?_)
  · rw [if_neg (by omega)] at h
    refine pk_le 10 x (fun h10 => ?_) (fun h10 => ?_)
    · rw [if_neg (by omega)] at h
      refine And.intro (vp_in_nI hi (by omega)) ?_
      rw [nI_clamp (by omega), show ms_ct i = nI (58 + 3 * i) from if_pos hi]
      exact h
    · rw [if_pos h10] at h
      have e : nI x - 6 = nI (x - 6) := pk_sub (b := 6) h6
      rw [e]
      refine And.intro (vp_in_nI (by omega) (by omega)) ?_
      rw [nI_clamp (by omega), cp_ca (x - 6) (by omega)]
      exact h
  · rw [if_pos h6] at h
    refine And.intro (vp_in_nI h6 (by omega)) ?_
    rw [nI_clamp (by omega), cp_wk x h6]
    exact h
end CP15
end
section
/-! the routines, as the compiler writes them -/
def sgn_L (p : Nat) : List (Nat × Nat × Nat) := [(18,151,149),(23,122,p+3),(5,0,p+5),(16,149,0),(17,122,0),(23,128,p+7),(5,0,p+9),(16,149,0),(17,128,0)]
def sgo_L (p f : Nat) : List (Nat × Nat × Nat) := [(15,149,p+4),(24,149,p+3),(20,0,0),(25,f,0),(20,0,0)]
def mul_k (p k : Nat) : List (Nat × Nat × Nat) := [(14,116,151),(18,128-k,148),(15,148,p+5),(2,122,116),(5,0,p+2)]
def div_k (p k : Nat) : List (Nat × Nat × Nat) := [(14,135,122-k),(18,151,148),(4,135,128),(7,0,p+7),(3,128,135),(16,148,0),(5,0,p+2),(14,141,148)]
def mul_L (p : Nat) : List (Nat × Nat × Nat) := sgn_L p ++ ([(1,151,116)] ++ (mul_k (p+10) 5 ++ (mul_k (p+15) 4 ++ (mul_k (p+20) 3 ++ (mul_k (p+25) 2 ++ (mul_k (p+30) 1 ++ (mul_k (p+35) 0 ++ sgo_L (p+40) 116)))))))
def dvh_L (q : Nat) : List (Nat × Nat × Nat) := [(1,151,141),(4,128,151),(6,0,q+5),(11,3,0),(20,0,0),(1,151,135)]
def div_L (p : Nat) : List (Nat × Nat × Nat) := sgn_L p ++ (dvh_L (p+9) ++ (div_k (p+15) 5 ++ (div_k (p+23) 4 ++ (div_k (p+31) 3 ++ (div_k (p+39) 2 ++ (div_k (p+47) 1 ++ (div_k (p+55) 0 ++ sgo_L (p+63) 141)))))))
def prt_L (p : Nat) : List (Nat × Nat × Nat) := [(23,147,p+2),(5,0,p+3),(22,45,0),(24,142,p+5),(5,0,p+14),(24,143,p+7),(5,0,p+15),(24,144,p+9),(5,0,p+16),(24,145,p+11),(5,0,p+17),(24,146,p+13),(5,0,p+18),(5,0,p+19),(21,142,0),(21,143,0),(21,144,0),(21,145,0),(21,146,0),(21,147,0),(22,32,0),(20,0,0)]
theorem rt_eq : rt_L = mul_L 1 ++ (div_L 46 ++ prt_L 114) := by decide +kernel
theorem cp_w5 {b : Nat} (hb : b < 1024) : (5242880 : Int32) ||| nI b = en_w 5 0 b := cp_w0 (w := 5) (a := 0) (by omega) (by omega) hb
theorem cp_p6 {p : Nat} : nI (p + 13) + 6 = nI (p + 19) := nI_add (p + 13) 6
theorem cp_pj {p k : Nat} (hk : k ≤ 6) : nI (p + 13) + 6 - nI k = nI (p + (19 - k)) := by
  rw [cp_p6, pk_sub (by omega)]
  exact congrArg nI (by omega)
section CP16
variable {f_cardCount f_lineCount f_levelNow f_memoryEnd f_sumAt f_productAt f_leftAt f_rightAt f_restAt f_quotientAt f_textAt f_counterAt f_signAt f_haveAt f_zeroAt f_oneAt f_compiled f_codeEnd f_multiplyAt f_divideAt f_printAt f_at f_order f_callDepth f_nextCard f_tally f_halted f_printedCount : Int32} {a_cardKey a_cardPart a_cardFirst a_cardSecond a_lineWhen a_lineCondition a_lineOp a_lineW a_lineX a_lineY a_lineC a_digit a_mark a_minus a_workAt a_cardAt a_inputAt a_constantAt a_code a_groupAt a_callStack a_indicatorOn a_printedText : Nat → Int32}
variable {c : Nat → Int32} {p q : Nat} {A : List (Nat × Nat × Nat)}
theorem cp_sg0 {post : SX → Prop} (hp : p + 9 ≤ 400) (h : post (f_cardCount, f_lineCount, f_levelNow, 153, 104, 116, 122, 128, 135, 141, 147, 148, 149, 150, 151, 152, f_compiled, nI (p + 9), f_multiplyAt, f_divideAt, f_printAt, f_at, f_order, f_callDepth, f_nextCard, f_tally, f_halted, f_printedCount, a_cardKey, a_cardPart, a_cardFirst, a_cardSecond, a_lineWhen, a_lineCondition, a_lineOp, a_lineW, a_lineX, a_lineY, a_lineC, a_digit, a_mark, a_minus, ms_wk, ms_ca, ms_in, ms_ct, cp_o c p (sgn_L p), a_groupAt, a_callStack, a_indicatorOn, a_printedText)) : wpX_writeSigns post (f_cardCount, f_lineCount, f_levelNow, 153, 104, 116, 122, 128, 135, 141, 147, 148, 149, 150, 151, 152, f_compiled, nI p, f_multiplyAt, f_divideAt, f_printAt, f_at, f_order, f_callDepth, f_nextCard, f_tally, f_halted, f_printedCount, a_cardKey, a_cardPart, a_cardFirst, a_cardSecond, a_lineWhen, a_lineCondition, a_lineOp, a_lineW, a_lineX, a_lineY, a_lineC, a_digit, a_mark, a_minus, ms_wk, ms_ca, ms_in, ms_ct, cp_o c p [], a_groupAt, a_callStack, a_indicatorOn, a_printedText) := by
  unfold wpX_writeSigns
  dsimp only
  refine cp_put 18 151 149 rfl (by omega) (by omega) (by omega) (by omega) rfl rfl rfl ?_
  dsimp only
  refine ⟨3, br_f (by decide) (br_t rfl ?_)⟩
  unfold wX_writeSigns_37
  refine cp_put 23 122 0 rfl (by omega) (by omega) (by omega) (by omega) rfl rfl rfl ?_
  dsimp only
  refine cp_put 5 0 0 rfl (by omega) (by omega) (by omega) (by omega) rfl rfl rfl ?_
  dsimp only
  refine cp_land 1 23 122 (ln_lt rfl) (by omega) rfl (by omega) (by omega) (by omega) rfl ?_
  dsimp only
  refine cp_put 16 149 0 rfl (by omega) (by omega) (by omega) (by omega) rfl rfl rfl ?_
  dsimp only
  refine cp_put 17 122 0 rfl (by omega) (by omega) (by omega) (by omega) rfl rfl rfl ?_
  dsimp only
  refine cp_land 2 5 0 (ln_lt rfl) (by omega) rfl (by omega) (by omega) (by omega) rfl ?_
  dsimp only
  refine nm_r (e' := 1) rfl (br_f (by decide) (br_f (by decide) ?_))
  unfold wX_writeSigns_37
  refine cp_put 23 128 0 rfl (by omega) (by omega) (by omega) (by omega) rfl rfl rfl ?_
  dsimp only
  refine cp_put 5 0 0 rfl (by omega) (by omega) (by omega) (by omega) rfl rfl rfl ?_
  dsimp only
  refine cp_land 5 23 128 (ln_lt rfl) (by omega) rfl (by omega) (by omega) (by omega) rfl ?_
  dsimp only
  refine cp_put 16 149 0 rfl (by omega) (by omega) (by omega) (by omega) rfl rfl rfl ?_
  dsimp only
  refine cp_put 17 128 0 rfl (by omega) (by omega) (by omega) (by omega) rfl rfl rfl ?_
  dsimp only
  refine cp_land 6 5 0 (ln_lt rfl) (by omega) rfl (by omega) (by omega) (by omega) rfl ?_
  dsimp only
  exact nm_r (e' := 2) rfl (br_t (by decide) h)
theorem cp_sg {post : SX → Prop} (hq : q = p + A.length) (hp : q + 9 ≤ 400) (h : post (f_cardCount, f_lineCount, f_levelNow, 153, 104, 116, 122, 128, 135, 141, 147, 148, 149, 150, 151, 152, f_compiled, nI (q + 9), f_multiplyAt, f_divideAt, f_printAt, f_at, f_order, f_callDepth, f_nextCard, f_tally, f_halted, f_printedCount, a_cardKey, a_cardPart, a_cardFirst, a_cardSecond, a_lineWhen, a_lineCondition, a_lineOp, a_lineW, a_lineX, a_lineY, a_lineC, a_digit, a_mark, a_minus, ms_wk, ms_ca, ms_in, ms_ct, cp_o c p (A ++ sgn_L q), a_groupAt, a_callStack, a_indicatorOn, a_printedText)) : wpX_writeSigns post (f_cardCount, f_lineCount, f_levelNow, 153, 104, 116, 122, 128, 135, 141, 147, 148, 149, 150, 151, 152, f_compiled, nI q, f_multiplyAt, f_divideAt, f_printAt, f_at, f_order, f_callDepth, f_nextCard, f_tally, f_halted, f_printedCount, a_cardKey, a_cardPart, a_cardFirst, a_cardSecond, a_lineWhen, a_lineCondition, a_lineOp, a_lineW, a_lineX, a_lineY, a_lineC, a_digit, a_mark, a_minus, ms_wk, ms_ca, ms_in, ms_ct, cp_o c p A, a_groupAt, a_callStack, a_indicatorOn, a_printedText) := by
  rw [← cp_oa hq] at h
  have := cp_sg0 hp h
  rwa [cp_on] at this
theorem cp_so0 {post : SX → Prop} {f : Nat} {x : Int32} (hp : p + 5 ≤ 400) (hf : f < 1024) (hx : x = nI f) (h : post (f_cardCount, f_lineCount, f_levelNow, 153, 104, 116, 122, 128, 135, 141, 147, 148, 149, 150, 151, 152, f_compiled, nI (p + 5), f_multiplyAt, f_divideAt, f_printAt, f_at, f_order, f_callDepth, f_nextCard, f_tally, f_halted, f_printedCount, a_cardKey, a_cardPart, a_cardFirst, a_cardSecond, a_lineWhen, a_lineCondition, a_lineOp, a_lineW, a_lineX, a_lineY, a_lineC, a_digit, a_mark, a_minus, ms_wk, ms_ca, ms_in, ms_ct, cp_o c p (sgo_L p f), a_groupAt, a_callStack, a_indicatorOn, a_printedText)) : wpX_writeSignOf post (f_cardCount, f_lineCount, f_levelNow, 153, 104, 116, 122, 128, 135, 141, 147, 148, 149, 150, 151, 152, f_compiled, nI p, f_multiplyAt, f_divideAt, f_printAt, f_at, f_order, f_callDepth, f_nextCard, f_tally, f_halted, f_printedCount, a_cardKey, a_cardPart, a_cardFirst, a_cardSecond, a_lineWhen, a_lineCondition, a_lineOp, a_lineW, a_lineX, a_lineY, a_lineC, a_digit, a_mark, a_minus, ms_wk, ms_ca, ms_in, ms_ct, cp_o c p [], a_groupAt, a_callStack, a_indicatorOn, a_printedText) x := by
  subst hx
  unfold wpX_writeSignOf
  dsimp only
  refine cp_put 15 149 0 rfl (by omega) (by omega) (by omega) (by omega) rfl rfl rfl ?_
  dsimp only
  refine cp_put 24 149 0 rfl (by omega) (by omega) (by omega) (by omega) rfl rfl rfl ?_
  dsimp only
  refine cp_put 20 0 0 rfl (by omega) (by omega) (by omega) (by omega) rfl rfl rfl ?_
  dsimp only
  refine cp_land 1 24 149 (ln_lt rfl) (by omega) rfl (by omega) (by omega) (by omega) rfl ?_
  dsimp only
  refine cp_put 25 f 0 rfl (by omega) (by omega) (by omega) (by omega) rfl rfl rfl ?_
  dsimp only
  refine cp_land 0 15 149 (ln_lt rfl) (by omega) rfl (by omega) (by omega) (by omega) rfl ?_
  dsimp only
  refine cp_put 20 0 0 rfl (by omega) (by omega) (by omega) (by omega) rfl rfl rfl ?_
  dsimp only
  exact h
theorem cp_so {post : SX → Prop} {f : Nat} {x : Int32} (hq : q = p + A.length) (hp : q + 5 ≤ 400) (hf : f < 1024) (hx : x = nI f) (h : post (f_cardCount, f_lineCount, f_levelNow, 153, 104, 116, 122, 128, 135, 141, 147, 148, 149, 150, 151, 152, f_compiled, nI (q + 5), f_multiplyAt, f_divideAt, f_printAt, f_at, f_order, f_callDepth, f_nextCard, f_tally, f_halted, f_printedCount, a_cardKey, a_cardPart, a_cardFirst, a_cardSecond, a_lineWhen, a_lineCondition, a_lineOp, a_lineW, a_lineX, a_lineY, a_lineC, a_digit, a_mark, a_minus, ms_wk, ms_ca, ms_in, ms_ct, cp_o c p (A ++ sgo_L q f), a_groupAt, a_callStack, a_indicatorOn, a_printedText)) : wpX_writeSignOf post (f_cardCount, f_lineCount, f_levelNow, 153, 104, 116, 122, 128, 135, 141, 147, 148, 149, 150, 151, 152, f_compiled, nI q, f_multiplyAt, f_divideAt, f_printAt, f_at, f_order, f_callDepth, f_nextCard, f_tally, f_halted, f_printedCount, a_cardKey, a_cardPart, a_cardFirst, a_cardSecond, a_lineWhen, a_lineCondition, a_lineOp, a_lineW, a_lineX, a_lineY, a_lineC, a_digit, a_mark, a_minus, ms_wk, ms_ca, ms_in, ms_ct, cp_o c p A, a_groupAt, a_callStack, a_indicatorOn, a_printedText) x := by
  rw [← cp_oa hq] at h
  have := cp_so0 hp hf hx h
  rwa [cp_on] at this
theorem cp_mk0 {post : SX → Prop} {n k : Nat} (hp : p + 5 ≤ 400) (hk : k < 6) (h : wX_writeMultiply_28 post n (nI k + (-1)) f_cardCount f_lineCount f_levelNow 153 104 116 122 128 135 141 147 148 149 150 151 152 f_compiled (nI (p + 5)) f_multiplyAt f_divideAt f_printAt f_at f_order f_callDepth f_nextCard f_tally f_halted f_printedCount a_cardKey a_cardPart a_cardFirst a_cardSecond a_lineWhen a_lineCondition a_lineOp a_lineW a_lineX a_lineY a_lineC a_digit a_mark a_minus ms_wk ms_ca ms_in ms_ct (cp_o c p (mul_k p k)) a_groupAt a_callStack a_indicatorOn a_printedText) : wX_writeMultiply_28 post (n + 1) (nI k) f_cardCount f_lineCount f_levelNow 153 104 116 122 128 135 141 147 148 149 150 151 152 f_compiled (nI p) f_multiplyAt f_divideAt f_printAt f_at f_order f_callDepth f_nextCard f_tally f_halted f_printedCount a_cardKey a_cardPart a_cardFirst a_cardSecond a_lineWhen a_lineCondition a_lineOp a_lineW a_lineX a_lineY a_lineC a_digit a_mark a_minus ms_wk ms_ca ms_in ms_ct (cp_o c p []) a_groupAt a_callStack a_indicatorOn a_printedText := by
  refine br_f (nI_pos (by omega)) ?_
  refine cp_put 14 116 151 rfl (by omega) (by omega) (by omega) (by omega) rfl rfl rfl ?_
  dsimp only
  refine cp_put 18 (128 - k) 148 rfl (by omega) (by omega) (by omega) (by omega) rfl (pk_sub (a := 128) (by omega)) rfl ?_
  dsimp only
  refine cp_put 15 148 0 rfl (by omega) (by omega) (by omega) (by omega) rfl rfl rfl ?_
  dsimp only
  refine cp_put 2 122 116 rfl (by omega) (by omega) (by omega) (by omega) rfl rfl rfl ?_
  dsimp only
  refine cp_put 5 0 (p + 2) rfl (by omega) (by omega) (by omega) (by omega) rfl rfl rfl ?_
  dsimp only
  refine cp_land 2 15 148 (ln_lt rfl) (by omega) rfl (by omega) (by omega) (by omega) rfl ?_
  dsimp only
  exact nm_e h
theorem cp_mk {post : SX → Prop} {n k : Nat} (hq : q = p + A.length) (hp : q + 5 ≤ 400) (hk : k < 6) (h : wX_writeMultiply_28 post n (nI k + (-1)) f_cardCount f_lineCount f_levelNow 153 104 116 122 128 135 141 147 148 149 150 151 152 f_compiled (nI (q + 5)) f_multiplyAt f_divideAt f_printAt f_at f_order f_callDepth f_nextCard f_tally f_halted f_printedCount a_cardKey a_cardPart a_cardFirst a_cardSecond a_lineWhen a_lineCondition a_lineOp a_lineW a_lineX a_lineY a_lineC a_digit a_mark a_minus ms_wk ms_ca ms_in ms_ct (cp_o c p (A ++ mul_k q k)) a_groupAt a_callStack a_indicatorOn a_printedText) : wX_writeMultiply_28 post (n + 1) (nI k) f_cardCount f_lineCount f_levelNow 153 104 116 122 128 135 141 147 148 149 150 151 152 f_compiled (nI q) f_multiplyAt f_divideAt f_printAt f_at f_order f_callDepth f_nextCard f_tally f_halted f_printedCount a_cardKey a_cardPart a_cardFirst a_cardSecond a_lineWhen a_lineCondition a_lineOp a_lineW a_lineX a_lineY a_lineC a_digit a_mark a_minus ms_wk ms_ca ms_in ms_ct (cp_o c p A) a_groupAt a_callStack a_indicatorOn a_printedText := by
  rw [← cp_oa hq] at h
  have := cp_mk0 hp hk h
  rwa [cp_on] at this
theorem cp_mul {post : SX → Prop} (hp : p + 45 ≤ 400) (h : post (f_cardCount, f_lineCount, f_levelNow, 153, 104, 116, 122, 128, 135, 141, 147, 148, 149, 150, 151, 152, f_compiled, nI (p + 45), nI p, f_divideAt, f_printAt, f_at, f_order, f_callDepth, f_nextCard, f_tally, f_halted, f_printedCount, a_cardKey, a_cardPart, a_cardFirst, a_cardSecond, a_lineWhen, a_lineCondition, a_lineOp, a_lineW, a_lineX, a_lineY, a_lineC, a_digit, a_mark, a_minus, ms_wk, ms_ca, ms_in, ms_ct, cp_o c p (mul_L p), a_groupAt, a_callStack, a_indicatorOn, a_printedText)) : wpX_writeMultiply post (f_cardCount, f_lineCount, f_levelNow, 153, 104, 116, 122, 128, 135, 141, 147, 148, 149, 150, 151, 152, f_compiled, nI p, f_multiplyAt, f_divideAt, f_printAt, f_at, f_order, f_callDepth, f_nextCard, f_tally, f_halted, f_printedCount, a_cardKey, a_cardPart, a_cardFirst, a_cardSecond, a_lineWhen, a_lineCondition, a_lineOp, a_lineW, a_lineX, a_lineY, a_lineC, a_digit, a_mark, a_minus, ms_wk, ms_ca, ms_in, ms_ct, c, a_groupAt, a_callStack, a_indicatorOn, a_printedText) := by
  have key : wpX_writeMultiply post (f_cardCount, f_lineCount, f_levelNow, 153, 104, 116, 122, 128, 135, 141, 147, 148, 149, 150, 151, 152, f_compiled, nI p, f_multiplyAt, f_divideAt, f_printAt, f_at, f_order, f_callDepth, f_nextCard, f_tally, f_halted, f_printedCount, a_cardKey, a_cardPart, a_cardFirst, a_cardSecond, a_lineWhen, a_lineCondition, a_lineOp, a_lineW, a_lineX, a_lineY, a_lineC, a_digit, a_mark, a_minus, ms_wk, ms_ca, ms_in, ms_ct, cp_o c p [], a_groupAt, a_callStack, a_indicatorOn, a_printedText) := by
    unfold wpX_writeMultiply
    dsimp only
    refine cp_sg rfl (by omega) ?_
    dsimp only
    refine cp_put 1 151 116 rfl (by omega) (by omega) (by omega) (by omega) rfl rfl rfl ?_
    dsimp only
    refine ⟨7, ?_⟩
    refine cp_mk (k := 5) rfl (by omega) (by omega) ?_
    refine cp_mk (k := 4) rfl (by omega) (by omega) ?_
    refine cp_mk (k := 3) rfl (by omega) (by omega) ?_
    refine cp_mk (k := 2) rfl (by omega) (by omega) ?_
    refine cp_mk (k := 1) rfl (by omega) (by omega) ?_
    refine cp_mk (k := 0) rfl (by omega) (by omega) ?_
    refine br_t (by decide) ?_
    refine cp_so (f := 116) rfl (by omega) (by omega) rfl ?_
    exact h
  rwa [cp_on] at key
theorem cp_dk0 {post : SX → Prop} {n k : Nat} (hp : p + 8 ≤ 400) (hk : k < 6) (h : wX_writeDivide_88 post n (nI k + (-1)) f_cardCount f_lineCount f_levelNow 153 104 116 122 128 135 141 147 148 149 150 151 152 f_compiled (nI (p + 8)) f_multiplyAt f_divideAt f_printAt f_at f_order f_callDepth f_nextCard f_tally f_halted f_printedCount a_cardKey a_cardPart a_cardFirst a_cardSecond a_lineWhen a_lineCondition a_lineOp a_lineW a_lineX a_lineY a_lineC a_digit a_mark a_minus ms_wk ms_ca ms_in ms_ct (cp_o c p (div_k p k)) a_groupAt a_callStack a_indicatorOn a_printedText) : wX_writeDivide_88 post (n + 1) (nI k) f_cardCount f_lineCount f_levelNow 153 104 116 122 128 135 141 147 148 149 150 151 152 f_compiled (nI p) f_multiplyAt f_divideAt f_printAt f_at f_order f_callDepth f_nextCard f_tally f_halted f_printedCount a_cardKey a_cardPart a_cardFirst a_cardSecond a_lineWhen a_lineCondition a_lineOp a_lineW a_lineX a_lineY a_lineC a_digit a_mark a_minus ms_wk ms_ca ms_in ms_ct (cp_o c p []) a_groupAt a_callStack a_indicatorOn a_printedText := by
  refine br_f (nI_pos (by omega)) ?_
  refine cp_put 14 135 (122 - k) rfl (by omega) (by omega) (by omega) (by omega) rfl rfl (pk_sub (a := 122) (by omega)) ?_
  dsimp only
  refine cp_put 18 151 148 rfl (by omega) (by omega) (by omega) (by omega) rfl rfl rfl ?_
  dsimp only
  refine cp_put 4 135 128 rfl (by omega) (by omega) (by omega) (by omega) rfl rfl rfl ?_
  dsimp only
  refine cp_put 7 0 0 rfl (by omega) (by omega) (by omega) (by omega) rfl rfl rfl ?_
  dsimp only
  refine cp_put 3 128 135 rfl (by omega) (by omega) (by omega) (by omega) rfl rfl rfl ?_
  dsimp only
  refine cp_put 16 148 0 rfl (by omega) (by omega) (by omega) (by omega) rfl rfl rfl ?_
  dsimp only
  refine cp_put 5 0 (p + 2) rfl (by omega) (by omega) (by omega) (by omega) rfl rfl rfl ?_
  dsimp only
  refine cp_land 3 7 0 (ln_lt rfl) (by omega) rfl (by omega) (by omega) (by omega) rfl ?_
  dsimp only
  refine cp_put 14 141 148 rfl (by omega) (by omega) (by omega) (by omega) rfl rfl rfl ?_
  dsimp only
  exact nm_e h
theorem cp_dk {post : SX → Prop} {n k : Nat} (hq : q = p + A.length) (hp : q + 8 ≤ 400) (hk : k < 6) (h : wX_writeDivide_88 post n (nI k + (-1)) f_cardCount f_lineCount f_levelNow 153 104 116 122 128 135 141 147 148 149 150 151 152 f_compiled (nI (q + 8)) f_multiplyAt f_divideAt f_printAt f_at f_order f_callDepth f_nextCard f_tally f_halted f_printedCount a_cardKey a_cardPart a_cardFirst a_cardSecond a_lineWhen a_lineCondition a_lineOp a_lineW a_lineX a_lineY a_lineC a_digit a_mark a_minus ms_wk ms_ca ms_in ms_ct (cp_o c p (A ++ div_k q k)) a_groupAt a_callStack a_indicatorOn a_printedText) : wX_writeDivide_88 post (n + 1) (nI k) f_cardCount f_lineCount f_levelNow 153 104 116 122 128 135 141 147 148 149 150 151 152 f_compiled (nI q) f_multiplyAt f_divideAt f_printAt f_at f_order f_callDepth f_nextCard f_tally f_halted f_printedCount a_cardKey a_cardPart a_cardFirst a_cardSecond a_lineWhen a_lineCondition a_lineOp a_lineW a_lineX a_lineY a_lineC a_digit a_mark a_minus ms_wk ms_ca ms_in ms_ct (cp_o c p A) a_groupAt a_callStack a_indicatorOn a_printedText := by
  rw [← cp_oa hq] at h
  have := cp_dk0 hp hk h
  rwa [cp_on] at this
theorem cp_div {post : SX → Prop} (hp : p + 68 ≤ 400) (h : post (f_cardCount, f_lineCount, f_levelNow, 153, 104, 116, 122, 128, 135, 141, 147, 148, 149, 150, 151, 152, f_compiled, nI (p + 68), f_multiplyAt, nI p, f_printAt, f_at, f_order, f_callDepth, f_nextCard, f_tally, f_halted, f_printedCount, a_cardKey, a_cardPart, a_cardFirst, a_cardSecond, a_lineWhen, a_lineCondition, a_lineOp, a_lineW, a_lineX, a_lineY, a_lineC, a_digit, a_mark, a_minus, ms_wk, ms_ca, ms_in, ms_ct, cp_o c p (div_L p), a_groupAt, a_callStack, a_indicatorOn, a_printedText)) : wpX_writeDivide post (f_cardCount, f_lineCount, f_levelNow, 153, 104, 116, 122, 128, 135, 141, 147, 148, 149, 150, 151, 152, f_compiled, nI p, f_multiplyAt, f_divideAt, f_printAt, f_at, f_order, f_callDepth, f_nextCard, f_tally, f_halted, f_printedCount, a_cardKey, a_cardPart, a_cardFirst, a_cardSecond, a_lineWhen, a_lineCondition, a_lineOp, a_lineW, a_lineX, a_lineY, a_lineC, a_digit, a_mark, a_minus, ms_wk, ms_ca, ms_in, ms_ct, c, a_groupAt, a_callStack, a_indicatorOn, a_printedText) := by
  have key : wpX_writeDivide post (f_cardCount, f_lineCount, f_levelNow, 153, 104, 116, 122, 128, 135, 141, 147, 148, 149, 150, 151, 152, f_compiled, nI p, f_multiplyAt, f_divideAt, f_printAt, f_at, f_order, f_callDepth, f_nextCard, f_tally, f_halted, f_printedCount, a_cardKey, a_cardPart, a_cardFirst, a_cardSecond, a_lineWhen, a_lineCondition, a_lineOp, a_lineW, a_lineX, a_lineY, a_lineC, a_digit, a_mark, a_minus, ms_wk, ms_ca, ms_in, ms_ct, cp_o c p [], a_groupAt, a_callStack, a_indicatorOn, a_printedText) := by
    unfold wpX_writeDivide
    dsimp only
    refine cp_sg rfl (by omega) ?_
    dsimp only
    refine cp_put 1 151 141 rfl (by omega) (by omega) (by omega) (by omega) rfl rfl rfl ?_
    dsimp only
    refine cp_put 4 128 151 rfl (by omega) (by omega) (by omega) (by omega) rfl rfl rfl ?_
    dsimp only
    refine cp_put 6 0 0 rfl (by omega) (by omega) (by omega) (by omega) rfl rfl rfl ?_
    dsimp only
    refine cp_put 11 3 0 rfl (by omega) (by omega) (by omega) (by omega) rfl rfl rfl ?_
    dsimp only
    refine cp_put 20 0 0 rfl (by omega) (by omega) (by omega) (by omega) rfl rfl rfl ?_
    dsimp only
    refine cp_land 11 6 0 (ln_lt rfl) (by omega) rfl (by omega) (by omega) (by omega) rfl ?_
    dsimp only
    refine cp_put 1 151 135 rfl (by omega) (by omega) (by omega) (by omega) rfl rfl rfl ?_
    dsimp only
    refine ⟨7, ?_⟩
    refine cp_dk (k := 5) rfl (by omega) (by omega) ?_
    refine cp_dk (k := 4) rfl (by omega) (by omega) ?_
    refine cp_dk (k := 3) rfl (by omega) (by omega) ?_
    refine cp_dk (k := 2) rfl (by omega) (by omega) ?_
    refine cp_dk (k := 1) rfl (by omega) (by omega) ?_
    refine cp_dk (k := 0) rfl (by omega) (by omega) ?_
    refine br_t (by decide) ?_
    refine cp_so (f := 141) rfl (by omega) (by omega) rfl ?_
    exact h
  rwa [cp_on] at key
end CP16
end
section
section CP17
variable {f_cardCount f_lineCount f_levelNow f_memoryEnd f_sumAt f_productAt f_leftAt f_rightAt f_restAt f_quotientAt f_textAt f_counterAt f_signAt f_haveAt f_zeroAt f_oneAt f_compiled f_codeEnd f_multiplyAt f_divideAt f_printAt f_at f_order f_callDepth f_nextCard f_tally f_halted f_printedCount : Int32} {a_cardKey a_cardPart a_cardFirst a_cardSecond a_lineWhen a_lineCondition a_lineOp a_lineW a_lineX a_lineY a_lineC a_digit a_mark a_minus a_workAt a_cardAt a_inputAt a_constantAt a_code a_groupAt a_callStack a_indicatorOn a_printedText : Nat → Int32}
variable {c : Nat → Int32} {p q : Nat} {A : List (Nat × Nat × Nat)}
theorem cp_pd {post : SX → Prop} (hq : q = p + A.length) (hp : q + 8 ≤ 400) (h : post (f_cardCount, f_lineCount, f_levelNow, 153, 104, 116, 122, 128, 135, 141, 147, 148, 149, 150, 151, 152, f_compiled, nI (q + 8), f_multiplyAt, f_divideAt, f_printAt, f_at, f_order, f_callDepth, f_nextCard, f_tally, f_halted, f_printedCount, a_cardKey, a_cardPart, a_cardFirst, a_cardSecond, a_lineWhen, a_lineCondition, a_lineOp, a_lineW, a_lineX, a_lineY, a_lineC, a_digit, a_mark, a_minus, ms_wk, ms_ca, ms_in, ms_ct, cp_o c p (A ++ [(21,142,0)] ++ [(21,143,0)] ++ [(21,144,0)] ++ [(21,145,0)] ++ [(21,146,0)] ++ [(21,147,0)] ++ [(22,32,0)] ++ [(20,0,0)]), a_groupAt, a_callStack, a_indicatorOn, a_printedText)) : wX_writePrint_130 post 7 5 f_cardCount f_lineCount f_levelNow 153 104 116 122 128 135 141 147 148 149 150 151 152 f_compiled (nI q) f_multiplyAt f_divideAt f_printAt f_at f_order f_callDepth f_nextCard f_tally f_halted f_printedCount a_cardKey a_cardPart a_cardFirst a_cardSecond a_lineWhen a_lineCondition a_lineOp a_lineW a_lineX a_lineY a_lineC a_digit a_mark a_minus ms_wk ms_ca ms_in ms_ct (cp_o c p A) a_groupAt a_callStack a_indicatorOn a_printedText := by
  refine br_f (by decide) ?_
  refine cp_put 21 142 0 (by first | exact hq | (simp only [List.length_append, List.length_singleton]; omega)) (by omega) (by omega) (by omega) (by omega) rfl rfl rfl ?_
  dsimp only
  refine nm_r (e' := 4) rfl ?_
  refine br_f (by decide) ?_
  refine cp_put 21 143 0 (by first | exact hq | (simp only [List.length_append, List.length_singleton]; omega)) (by omega) (by omega) (by omega) (by omega) rfl rfl rfl ?_
  dsimp only
  refine nm_r (e' := 3) rfl ?_
  refine br_f (by decide) ?_
  refine cp_put 21 144 0 (by first | exact hq | (simp only [List.length_append, List.length_singleton]; omega)) (by omega) (by omega) (by omega) (by omega) rfl rfl rfl ?_
  dsimp only
  refine nm_r (e' := 2) rfl ?_
  refine br_f (by decide) ?_
  refine cp_put 21 145 0 (by first | exact hq | (simp only [List.length_append, List.length_singleton]; omega)) (by omega) (by omega) (by omega) (by omega) rfl rfl rfl ?_
  dsimp only
  refine nm_r (e' := 1) rfl ?_
  refine br_f (by decide) ?_
  refine cp_put 21 146 0 (by first | exact hq | (simp only [List.length_append, List.length_singleton]; omega)) (by omega) (by omega) (by omega) (by omega) rfl rfl rfl ?_
  dsimp only
  refine nm_r (e' := 0) rfl ?_
  refine br_f (by decide) ?_
  refine cp_put 21 147 0 (by first | exact hq | (simp only [List.length_append, List.length_singleton]; omega)) (by omega) (by omega) (by omega) (by omega) rfl rfl rfl ?_
  dsimp only
  refine nm_r (e' := (-1)) rfl ?_
  refine br_t (by decide) ?_
  refine cp_put 22 32 0 (by first | exact hq | (simp only [List.length_append, List.length_singleton]; omega)) (by omega) (by omega) (by omega) (by omega) rfl rfl rfl ?_
  dsimp only
  refine cp_put 20 0 0 (by first | exact hq | (simp only [List.length_append, List.length_singleton]; omega)) (by omega) (by omega) (by omega) (by omega) rfl rfl rfl ?_
  dsimp only
  exact h
theorem cp_prt {post : SX → Prop} (hp : p + 22 ≤ 400) (h : post (f_cardCount, f_lineCount, f_levelNow, 153, 104, 116, 122, 128, 135, 141, 147, 148, 149, 150, 151, 152, f_compiled, nI (p + 22), f_multiplyAt, f_divideAt, nI p, f_at, f_order, f_callDepth, f_nextCard, f_tally, f_halted, f_printedCount, a_cardKey, a_cardPart, a_cardFirst, a_cardSecond, a_lineWhen, a_lineCondition, a_lineOp, a_lineW, a_lineX, a_lineY, a_lineC, a_digit, a_mark, a_minus, ms_wk, ms_ca, ms_in, ms_ct, cp_o c p (prt_L p), a_groupAt, a_callStack, a_indicatorOn, a_printedText)) : wpX_writePrint post (f_cardCount, f_lineCount, f_levelNow, 153, 104, 116, 122, 128, 135, 141, 147, 148, 149, 150, 151, 152, f_compiled, nI p, f_multiplyAt, f_divideAt, f_printAt, f_at, f_order, f_callDepth, f_nextCard, f_tally, f_halted, f_printedCount, a_cardKey, a_cardPart, a_cardFirst, a_cardSecond, a_lineWhen, a_lineCondition, a_lineOp, a_lineW, a_lineX, a_lineY, a_lineC, a_digit, a_mark, a_minus, ms_wk, ms_ca, ms_in, ms_ct, c, a_groupAt, a_callStack, a_indicatorOn, a_printedText) := by
  have key : wpX_writePrint post (f_cardCount, f_lineCount, f_levelNow, 153, 104, 116, 122, 128, 135, 141, 147, 148, 149, 150, 151, 152, f_compiled, nI p, f_multiplyAt, f_divideAt, f_printAt, f_at, f_order, f_callDepth, f_nextCard, f_tally, f_halted, f_printedCount, a_cardKey, a_cardPart, a_cardFirst, a_cardSecond, a_lineWhen, a_lineCondition, a_lineOp, a_lineW, a_lineX, a_lineY, a_lineC, a_digit, a_mark, a_minus, ms_wk, ms_ca, ms_in, ms_ct, cp_o c p [], a_groupAt, a_callStack, a_indicatorOn, a_printedText) := by
    unfold wpX_writePrint
    dsimp only
    refine cp_put 23 147 0 rfl (by omega) (by omega) (by omega) (by omega) rfl rfl rfl ?_
    dsimp only
    refine cp_put 5 0 0 rfl (by omega) (by omega) (by omega) (by omega) rfl rfl rfl ?_
    dsimp only
    refine cp_land 0 23 147 (ln_lt rfl) (by omega) rfl (by omega) (by omega) (by omega) rfl ?_
    dsimp only
    refine cp_put 22 45 0 rfl (by omega) (by omega) (by omega) (by omega) rfl rfl rfl ?_
    dsimp only
    refine cp_land 1 5 0 (ln_lt rfl) (by omega) rfl (by omega) (by omega) (by omega) rfl ?_
    dsimp only
    refine nm_r (e' := nI (p + 13)) (nI_add (p + 3) 10) ⟨6, ?_⟩
    refine br_f (by decide) ?_
    refine cp_put 24 142 (p + 3 + 2) rfl (by omega) (by omega) (by omega) (by omega) rfl rfl (nI_add (p + 3) 2) ?_
    dsimp only
    refine cp_put 5 0 (p + 14) rfl (by omega) (by omega) (by omega) (by omega) rfl rfl (cp_pj (p := p) (k := 5) (by omega)) ?_
    dsimp only
    refine nm_r (e' := 4) rfl ?_
    refine br_f (by decide) ?_
    refine cp_put 24 143 (p + 5 + 2) rfl (by omega) (by omega) (by omega) (by omega) rfl rfl (nI_add (p + 5) 2) ?_
    dsimp only
    refine cp_put 5 0 (p + 15) rfl (by omega) (by omega) (by omega) (by omega) rfl rfl (cp_pj (p := p) (k := 4) (by omega)) ?_
    dsimp only
    refine nm_r (e' := 3) rfl ?_
    refine br_f (by decide) ?_
    refine cp_put 24 144 (p + 7 + 2) rfl (by omega) (by omega) (by omega) (by omega) rfl rfl (nI_add (p + 7) 2) ?_
    dsimp only
    refine cp_put 5 0 (p + 16) rfl (by omega) (by omega) (by omega) (by omega) rfl rfl (cp_pj (p := p) (k := 3) (by omega)) ?_
    dsimp only
    refine nm_r (e' := 2) rfl ?_
    refine br_f (by decide) ?_
    refine cp_put 24 145 (p + 9 + 2) rfl (by omega) (by omega) (by omega) (by omega) rfl rfl (nI_add (p + 9) 2) ?_
    dsimp only
    refine cp_put 5 0 (p + 17) rfl (by omega) (by omega) (by omega) (by omega) rfl rfl (cp_pj (p := p) (k := 2) (by omega)) ?_
    dsimp only
    refine nm_r (e' := 1) rfl ?_
    refine br_f (by decide) ?_
    refine cp_put 24 146 (p + 11 + 2) rfl (by omega) (by omega) (by omega) (by omega) rfl rfl (nI_add (p + 11) 2) ?_
    dsimp only
    refine cp_put 5 0 (p + 18) rfl (by omega) (by omega) (by omega) (by omega) rfl rfl (cp_pj (p := p) (k := 1) (by omega)) ?_
    dsimp only
    refine nm_r (e' := 0) rfl ?_
    refine br_t (by decide) ?_
    refine cp_put 5 0 0 rfl (by omega) (by omega) (by omega) (by omega) rfl rfl rfl ?_
    dsimp only
    refine And.intro (vp_in_nI (by omega) (by omega)) (nm_r (e' := cp_o c p [(23,147,p+2),(5,0,p+3),(22,45,0),(24,142,p+5),(5,0,p+14),(24,143,p+7),(5,0,p+15),(24,144,p+9),(5,0,p+16),(24,145,p+11),(5,0,p+17),(24,146,p+13),(5,0,p+18),(5,0,p+19)]) ?_ ⟨7, cp_pd rfl (by omega) h⟩)
    rw [nI_clamp (by omega), cp_p6, cp_w5 (by omega)]
    exact cp_ol (k := 13) (x := (5, 0, p + 19)) (ln_lt rfl)
  rwa [cp_on] at key
end CP17
end
section
/-! a line, as the compiler writes it -/
section CP18
variable {f_cardCount f_lineCount f_levelNow f_memoryEnd f_sumAt f_productAt f_leftAt f_rightAt f_restAt f_quotientAt f_textAt f_counterAt f_signAt f_haveAt f_zeroAt f_oneAt f_compiled f_codeEnd f_multiplyAt f_divideAt f_printAt f_at f_order f_callDepth f_nextCard f_tally f_halted f_printedCount : Int32} {a_cardKey a_cardPart a_cardFirst a_cardSecond a_lineWhen a_lineCondition a_lineOp a_lineW a_lineX a_lineY a_lineC a_digit a_mark a_minus a_workAt a_cardAt a_inputAt a_constantAt a_code a_groupAt a_callStack a_indicatorOn a_printedText : Nat → Int32}
variable {c : Nat → Int32} {p q : Nat} {A : List (Nat × Nat × Nat)} {xa ya wa : Nat}
theorem cp_s52 {post : SX → Prop} {wh : Nat} (hp : p + 3 ≤ 400) (hw : wh < 32) (h1 : xa < 1024) (h2 : ya < 1024) (h3 : wa < 1024) (h : post (f_cardCount, f_lineCount, f_levelNow, 153, 104, 116, 122, 128, 135, 141, 147, 148, 149, 150, 151, 152, f_compiled, nI (p + 3), f_multiplyAt, f_divideAt, f_printAt, f_at, f_order, f_callDepth, f_nextCard, f_tally, f_halted, f_printedCount, a_cardKey, a_cardPart, a_cardFirst, a_cardSecond, a_lineWhen, a_lineCondition, a_lineOp, a_lineW, a_lineX, a_lineY, a_lineC, a_digit, a_mark, a_minus, ms_wk, ms_ca, ms_in, ms_ct, cp_o c p [(1, xa, 104), (wh, ya, 104), (1, 104, wa)], a_groupAt, a_callStack, a_indicatorOn, a_printedText)) : wX_writeSum_52 post (nI xa) (nI ya) (nI wa) (nI wh) f_cardCount f_lineCount f_levelNow 153 104 116 122 128 135 141 147 148 149 150 151 152 f_compiled (nI p) f_multiplyAt f_divideAt f_printAt f_at f_order f_callDepth f_nextCard f_tally f_halted f_printedCount a_cardKey a_cardPart a_cardFirst a_cardSecond a_lineWhen a_lineCondition a_lineOp a_lineW a_lineX a_lineY a_lineC a_digit a_mark a_minus ms_wk ms_ca ms_in ms_ct (cp_o c p []) a_groupAt a_callStack a_indicatorOn a_printedText := by
  unfold wX_writeSum_52
  refine cp_put 1 xa 104 rfl (by omega) (by omega) (by omega) (by omega) rfl rfl rfl ?_
  dsimp only
  refine cp_put wh ya 104 rfl (by omega) (by omega) (by omega) (by omega) rfl rfl rfl ?_
  dsimp only
  refine cp_put 1 104 wa rfl (by omega) (by omega) (by omega) (by omega) rfl rfl rfl ?_
  dsimp only
  exact h
theorem cp_s41 {post : SX → Prop} {wh : Nat} (hq : q = p + A.length) (hp : q + 1 ≤ 400) (hw : wh < 32) (h2 : ya < 1024) (h3 : wa < 1024) (h : post (f_cardCount, f_lineCount, f_levelNow, 153, 104, 116, 122, 128, 135, 141, 147, 148, 149, 150, 151, 152, f_compiled, nI (q + 1), f_multiplyAt, f_divideAt, f_printAt, f_at, f_order, f_callDepth, f_nextCard, f_tally, f_halted, f_printedCount, a_cardKey, a_cardPart, a_cardFirst, a_cardSecond, a_lineWhen, a_lineCondition, a_lineOp, a_lineW, a_lineX, a_lineY, a_lineC, a_digit, a_mark, a_minus, ms_wk, ms_ca, ms_in, ms_ct, cp_o c p (A ++ [(wh, ya, wa)]), a_groupAt, a_callStack, a_indicatorOn, a_printedText)) : wX_writeSum_41 post (nI ya) (nI wa) (nI wh) f_cardCount f_lineCount f_levelNow 153 104 116 122 128 135 141 147 148 149 150 151 152 f_compiled (nI q) f_multiplyAt f_divideAt f_printAt f_at f_order f_callDepth f_nextCard f_tally f_halted f_printedCount a_cardKey a_cardPart a_cardFirst a_cardSecond a_lineWhen a_lineCondition a_lineOp a_lineW a_lineX a_lineY a_lineC a_digit a_mark a_minus ms_wk ms_ca ms_in ms_ct (cp_o c p A) a_groupAt a_callStack a_indicatorOn a_printedText := by
  unfold wX_writeSum_41
  refine cp_put wh ya wa hq (by omega) (by omega) (by omega) (by omega) rfl rfl rfl ?_
  dsimp only
  exact h
theorem cp_s10 {post : SX → Prop} {wh : Nat} (hp : p + 3 ≤ 400) (hw : wh < 32) (h1 : xa < 1024) (h2 : ya < 1024) (h3 : wa < 1024) (h : post (f_cardCount, f_lineCount, f_levelNow, 153, 104, 116, 122, 128, 135, 141, 147, 148, 149, 150, 151, 152, f_compiled, nI (p + (ln_sum (decide (f_levelNow = 1)) wh xa ya wa).length), f_multiplyAt, f_divideAt, f_printAt, f_at, f_order, f_callDepth, f_nextCard, f_tally, f_halted, f_printedCount, a_cardKey, a_cardPart, a_cardFirst, a_cardSecond, a_lineWhen, a_lineCondition, a_lineOp, a_lineW, a_lineX, a_lineY, a_lineC, a_digit, a_mark, a_minus, ms_wk, ms_ca, ms_in, ms_ct, cp_o c p (ln_sum (decide (f_levelNow = 1)) wh xa ya wa), a_groupAt, a_callStack, a_indicatorOn, a_printedText)) : wX_writeSum_10 post (nI xa) (nI ya) (nI wa) (nI wh) f_cardCount f_lineCount f_levelNow 153 104 116 122 128 135 141 147 148 149 150 151 152 f_compiled (nI p) f_multiplyAt f_divideAt f_printAt f_at f_order f_callDepth f_nextCard f_tally f_halted f_printedCount a_cardKey a_cardPart a_cardFirst a_cardSecond a_lineWhen a_lineCondition a_lineOp a_lineW a_lineX a_lineY a_lineC a_digit a_mark a_minus ms_wk ms_ca ms_in ms_ct (cp_o c p []) a_groupAt a_callStack a_indicatorOn a_printedText := by
  unfold ln_sum at h
  by_cases hl : f_levelNow = 1
  · refine br_t hl ?_
    rw [decide_eq_true hl] at h
    refine pk_eq ya wa (fun e1 => ?_) (fun e1 => ?_)
    · rw [if_neg (fun z => z.2 e1)] at h
      exact cp_s52 hp hw h1 h2 h3 h
    · rw [if_pos ⟨rfl, e1⟩] at h
      refine pk_eq xa wa (fun e2 => ?_) (fun e2 => ?_)
      · rw [if_pos e2] at h
        exact cp_s41 rfl (by omega) hw h2 h3 h
      · rw [if_neg e2] at h
        refine cp_put 1 xa wa rfl (by omega) (by omega) (by omega) (by omega) rfl rfl rfl ?_
        dsimp only
        exact cp_s41 rfl (by omega) hw h2 h3 h
  · refine br_f hl ?_
    rw [decide_eq_false hl, if_neg (fun z => absurd z.1 (by decide))] at h
    exact cp_s52 hp hw h1 h2 h3 h
theorem cp_su {post : SX → Prop} {o : Nat} (ho : o = 1 ∨ o = 2) (hq : q = p + A.length) (hp : q + 3 ≤ 400) (h1 : xa < 1024) (h2 : ya < 1024) (h3 : wa < 1024) (h : post (f_cardCount, f_lineCount, f_levelNow, 153, 104, 116, 122, 128, 135, 141, 147, 148, 149, 150, 151, 152, f_compiled, nI (q + (ln_sum (decide (f_levelNow = 1)) (o + 1) xa ya wa).length), f_multiplyAt, f_divideAt, f_printAt, f_at, f_order, f_callDepth, f_nextCard, f_tally, f_halted, f_printedCount, a_cardKey, a_cardPart, a_cardFirst, a_cardSecond, a_lineWhen, a_lineCondition, a_lineOp, a_lineW, a_lineX, a_lineY, a_lineC, a_digit, a_mark, a_minus, ms_wk, ms_ca, ms_in, ms_ct, cp_o c p (A ++ ln_sum (decide (f_levelNow = 1)) (o + 1) xa ya wa), a_groupAt, a_callStack, a_indicatorOn, a_printedText)) : wpX_writeSum post (f_cardCount, f_lineCount, f_levelNow, 153, 104, 116, 122, 128, 135, 141, 147, 148, 149, 150, 151, 152, f_compiled, nI q, f_multiplyAt, f_divideAt, f_printAt, f_at, f_order, f_callDepth, f_nextCard, f_tally, f_halted, f_printedCount, a_cardKey, a_cardPart, a_cardFirst, a_cardSecond, a_lineWhen, a_lineCondition, a_lineOp, a_lineW, a_lineX, a_lineY, a_lineC, a_digit, a_mark, a_minus, ms_wk, ms_ca, ms_in, ms_ct, cp_o c p A, a_groupAt, a_callStack, a_indicatorOn, a_printedText) (nI o) (nI xa) (nI ya) (nI wa) := by
  rw [← cp_oa hq] at h
  have key : wpX_writeSum post (f_cardCount, f_lineCount, f_levelNow, 153, 104, 116, 122, 128, 135, 141, 147, 148, 149, 150, 151, 152, f_compiled, nI q, f_multiplyAt, f_divideAt, f_printAt, f_at, f_order, f_callDepth, f_nextCard, f_tally, f_halted, f_printedCount, a_cardKey, a_cardPart, a_cardFirst, a_cardSecond, a_lineWhen, a_lineCondition, a_lineOp, a_lineW, a_lineX, a_lineY, a_lineC, a_digit, a_mark, a_minus, ms_wk, ms_ca, ms_in, ms_ct, cp_o (cp_o c p A) q [], a_groupAt, a_callStack, a_indicatorOn, a_printedText) (nI o) (nI xa) (nI ya) (nI wa) := by
    unfold wpX_writeSum
    dsimp only
    rcases ho with z | z
    · subst z
      exact br_t rfl (cp_s10 (wh := 2) hp (by omega) h1 h2 h3 h)
    · subst z
      exact br_f (by decide) (cp_s10 (wh := 3) hp (by omega) h1 h2 h3 h)
  rwa [cp_on] at key
theorem cp_pr {post : SX → Prop} {o : Nat} (ho : o = 3 ∨ o = 4) (hq : q = p + A.length) (hp : q + 4 ≤ 400) (h1 : xa < 1024) (h2 : ya < 1024) (h3 : wa < 1024) (h : post (f_cardCount, f_lineCount, f_levelNow, 153, 104, 116, 122, 128, 135, 141, 147, 148, 149, 150, 151, 152, f_compiled, nI (q + 4), nI 1, nI 46, f_printAt, f_at, f_order, f_callDepth, f_nextCard, f_tally, f_halted, f_printedCount, a_cardKey, a_cardPart, a_cardFirst, a_cardSecond, a_lineWhen, a_lineCondition, a_lineOp, a_lineW, a_lineX, a_lineY, a_lineC, a_digit, a_mark, a_minus, ms_wk, ms_ca, ms_in, ms_ct, cp_o c p (A ++ [(1, xa, 122), (1, ya, 128), (19, 0, if o = 3 then 1 else 46), (1, if o = 3 then 116 else 141, wa)]), a_groupAt, a_callStack, a_indicatorOn, a_printedText)) : wpX_writeProduct post (f_cardCount, f_lineCount, f_levelNow, 153, 104, 116, 122, 128, 135, 141, 147, 148, 149, 150, 151, 152, f_compiled, nI q, nI 1, nI 46, f_printAt, f_at, f_order, f_callDepth, f_nextCard, f_tally, f_halted, f_printedCount, a_cardKey, a_cardPart, a_cardFirst, a_cardSecond, a_lineWhen, a_lineCondition, a_lineOp, a_lineW, a_lineX, a_lineY, a_lineC, a_digit, a_mark, a_minus, ms_wk, ms_ca, ms_in, ms_ct, cp_o c p A, a_groupAt, a_callStack, a_indicatorOn, a_printedText) (nI o) (nI xa) (nI ya) (nI wa) := by
  rw [← cp_oa hq] at h
  have key : wpX_writeProduct post (f_cardCount, f_lineCount, f_levelNow, 153, 104, 116, 122, 128, 135, 141, 147, 148, 149, 150, 151, 152, f_compiled, nI q, nI 1, nI 46, f_printAt, f_at, f_order, f_callDepth, f_nextCard, f_tally, f_halted, f_printedCount, a_cardKey, a_cardPart, a_cardFirst, a_cardSecond, a_lineWhen, a_lineCondition, a_lineOp, a_lineW, a_lineX, a_lineY, a_lineC, a_digit, a_mark, a_minus, ms_wk, ms_ca, ms_in, ms_ct, cp_o (cp_o c p A) q [], a_groupAt, a_callStack, a_indicatorOn, a_printedText) (nI o) (nI xa) (nI ya) (nI wa) := by
    unfold wpX_writeProduct
    dsimp only
    refine cp_put 1 xa 122 rfl (by omega) (by omega) (by omega) (by omega) rfl rfl rfl ?_
    dsimp only
    refine cp_put 1 ya 128 rfl (by omega) (by omega) (by omega) (by omega) rfl rfl rfl ?_
    dsimp only
    rcases ho with z | z
    · subst z
      refine br_t rfl ?_
      unfold wX_writeProduct_42
      refine cp_put 19 0 1 rfl (by omega) (by omega) (by omega) (by omega) rfl rfl rfl ?_
      dsimp only
      refine br_t rfl ?_
      unfold wX_writeProduct_64
      refine cp_put 1 116 wa rfl (by omega) (by omega) (by omega) (by omega) rfl rfl rfl ?_
      dsimp only
      exact h
    · subst z
      refine br_f (by decide) ?_
      unfold wX_writeProduct_42
      refine cp_put 19 0 46 rfl (by omega) (by omega) (by omega) (by omega) rfl rfl rfl ?_
      dsimp only
      refine br_f (by decide) ?_
      unfold wX_writeProduct_64
      refine cp_put 1 141 wa rfl (by omega) (by omega) (by omega) (by omega) rfl rfl rfl ?_
      dsimp only
      exact h
  rwa [cp_on] at key
theorem cp_co {post : SX → Prop} (hq : q = p + A.length) (hp : q + 11 ≤ 400) (h1 : xa < 1024) (h2 : ya < 1024) (h : post (f_cardCount, f_lineCount, f_levelNow, 153, 104, 116, 122, 128, 135, 141, 147, 148, 149, 150, 151, 152, f_compiled, nI (q + 11), f_multiplyAt, f_divideAt, f_printAt, f_at, f_order, f_callDepth, f_nextCard, f_tally, f_halted, f_printedCount, a_cardKey, a_cardPart, a_cardFirst, a_cardSecond, a_lineWhen, a_lineCondition, a_lineOp, a_lineW, a_lineX, a_lineY, a_lineC, a_digit, a_mark, a_minus, ms_wk, ms_ca, ms_in, ms_ct, cp_o c p (A ++ ln_cmp q xa ya), a_groupAt, a_callStack, a_indicatorOn, a_printedText)) : wpX_writeCompare post (f_cardCount, f_lineCount, f_levelNow, 153, 104, 116, 122, 128, 135, 141, 147, 148, 149, 150, 151, 152, f_compiled, nI q, f_multiplyAt, f_divideAt, f_printAt, f_at, f_order, f_callDepth, f_nextCard, f_tally, f_halted, f_printedCount, a_cardKey, a_cardPart, a_cardFirst, a_cardSecond, a_lineWhen, a_lineCondition, a_lineOp, a_lineW, a_lineX, a_lineY, a_lineC, a_digit, a_mark, a_minus, ms_wk, ms_ca, ms_in, ms_ct, cp_o c p A, a_groupAt, a_callStack, a_indicatorOn, a_printedText) (nI xa) (nI ya) := by
  rw [← cp_oa hq] at h
  have key : wpX_writeCompare post (f_cardCount, f_lineCount, f_levelNow, 153, 104, 116, 122, 128, 135, 141, 147, 148, 149, 150, 151, 152, f_compiled, nI q, f_multiplyAt, f_divideAt, f_printAt, f_at, f_order, f_callDepth, f_nextCard, f_tally, f_halted, f_printedCount, a_cardKey, a_cardPart, a_cardFirst, a_cardSecond, a_lineWhen, a_lineCondition, a_lineOp, a_lineW, a_lineX, a_lineY, a_lineC, a_digit, a_mark, a_minus, ms_wk, ms_ca, ms_in, ms_ct, cp_o (cp_o c p A) q [], a_groupAt, a_callStack, a_indicatorOn, a_printedText) (nI xa) (nI ya) := by
    unfold wpX_writeCompare
    dsimp only
    refine cp_put 12 0 0 rfl (by omega) (by omega) (by omega) (by omega) rfl rfl rfl ?_
    dsimp only
    refine cp_put 12 1 0 rfl (by omega) (by omega) (by omega) (by omega) rfl rfl rfl ?_
    dsimp only
    refine cp_put 12 2 0 rfl (by omega) (by omega) (by omega) (by omega) rfl rfl rfl ?_
    dsimp only
    refine cp_put 4 xa ya rfl (by omega) (by omega) (by omega) (by omega) rfl rfl rfl ?_
    dsimp only
    refine cp_put 6 0 0 rfl (by omega) (by omega) (by omega) (by omega) rfl rfl rfl ?_
    dsimp only
    refine cp_put 7 0 0 rfl (by omega) (by omega) (by omega) (by omega) rfl rfl rfl ?_
    dsimp only
    refine cp_put 11 2 0 rfl (by omega) (by omega) (by omega) (by omega) rfl rfl rfl ?_
    dsimp only
    refine cp_put 5 0 0 rfl (by omega) (by omega) (by omega) (by omega) rfl rfl rfl ?_
    dsimp only
    refine cp_land 4 6 0 (ln_lt rfl) (by omega) rfl (by omega) (by omega) (by omega) rfl ?_
    dsimp only
    refine cp_put 11 0 0 rfl (by omega) (by omega) (by omega) (by omega) rfl rfl rfl ?_
    dsimp only
    refine cp_put 5 0 0 rfl (by omega) (by omega) (by omega) (by omega) rfl rfl rfl ?_
    dsimp only
    refine cp_land 5 7 0 (ln_lt rfl) (by omega) rfl (by omega) (by omega) (by omega) rfl ?_
    dsimp only
    refine cp_put 11 1 0 rfl (by omega) (by omega) (by omega) (by omega) rfl rfl rfl ?_
    dsimp only
    refine cp_land 7 5 0 (ln_lt rfl) (by omega) rfl (by omega) (by omega) (by omega) rfl ?_
    dsimp only
    refine cp_land 9 5 0 (ln_lt rfl) (by omega) rfl (by omega) (by omega) (by omega) rfl ?_
    dsimp only
    exact h
  rwa [cp_on] at key
end CP18
end
section
/-! a line's body, a line, a group -/
def tb_X (T : ln_T) (lw lk lo lf lx ly : Nat → Int32) : Prop := (∀ i, lw i = nI (tb_wh T i)) ∧ (∀ i, lk i = nI (tb_cd T i)) ∧ (∀ i, lo i = nI (tb_op T i)) ∧ (∀ i, lf i = nI (tb_fw T i)) ∧ (∀ i, lx i = nI (tb_fx T i)) ∧ (∀ i, ly i = nI (tb_fy T i))
section CP19
variable {f_cardCount f_lineCount f_levelNow f_memoryEnd f_sumAt f_productAt f_leftAt f_rightAt f_restAt f_quotientAt f_textAt f_counterAt f_signAt f_haveAt f_zeroAt f_oneAt f_compiled f_codeEnd f_multiplyAt f_divideAt f_printAt f_at f_order f_callDepth f_nextCard f_tally f_halted f_printedCount : Int32} {a_cardKey a_cardPart a_cardFirst a_cardSecond a_lineWhen a_lineCondition a_lineOp a_lineW a_lineX a_lineY a_lineC a_digit a_mark a_minus a_workAt a_cardAt a_inputAt a_constantAt a_code a_groupAt a_callStack a_indicatorOn a_printedText : Nat → Int32}
variable {c : Nat → Int32} {p q : Nat} {A : List (Nat × Nat × Nat)}
theorem cp_43 {post : SX → Prop} {x3 : Int32} {i o w x y : Nat} (hi : i < 14) (ho : o ≤ 9) (hw : w < 6) (hx : x ≤ 10) (hy : y ≤ 10) (eo : a_lineOp i = nI o) (ew : a_lineW i = nI w) (ex : a_lineX i = nI x) (ey : a_lineY i = nI y) (hq : q = p + A.length) (hq4 : q + 15 ≤ 400)
    (h : wX_writeLine_289 post x3 f_cardCount f_lineCount f_levelNow 153 104 116 122 128 135 141 147 148 149 150 151 152 f_compiled (nI (q + 1 + (ln_body (q + 1) (decide (f_levelNow = 1)) o w (ln_sa i x) (ln_sa i y)).length)) (nI 1) (nI 46) (nI 114) f_at f_order f_callDepth f_nextCard f_tally f_halted f_printedCount a_cardKey a_cardPart a_cardFirst a_cardSecond a_lineWhen a_lineCondition a_lineOp a_lineW a_lineX a_lineY a_lineC a_digit a_mark a_minus ms_wk ms_ca ms_in ms_ct (cp_o c p ((A ++ [(26, 0, 0)]) ++ ln_body (q + 1) (decide (f_levelNow = 1)) o w (ln_sa i x) (ln_sa i y))) a_groupAt a_callStack a_indicatorOn a_printedText) : wX_writeLine_43 post (nI i) x3 f_cardCount f_lineCount f_levelNow 153 104 116 122 128 135 141 147 148 149 150 151 152 f_compiled (nI q) (nI 1) (nI 46) (nI 114) f_at f_order f_callDepth f_nextCard f_tally f_halted f_printedCount a_cardKey a_cardPart a_cardFirst a_cardSecond a_lineWhen a_lineCondition a_lineOp a_lineW a_lineX a_lineY a_lineC a_digit a_mark a_minus ms_wk ms_ca ms_in ms_ct (cp_o c p A) a_groupAt a_callStack a_indicatorOn a_printedText := by
  have hin : vp_in (nI i) 14 := vp_in_nI hi (by omega)
  have hcl : (nI i).toNatClampNeg = i := nI_clamp (by omega)
  have hclw : (nI w).toNatClampNeg = w := nI_clamp (by omega)
  have hin6 : vp_in (nI w) 6 := vp_in_nI hw (by omega)
  have xl := (ln_sa1 x (by omega) i hi).2.1
  have yl := (ln_sa1 y (by omega) i hi).2.1
  have hqn : q + 1 = p + (A ++ [(26, 0, 0)]).length := by rw [List.length_append, List.length_singleton]; omega
  unfold wX_writeLine_43
  refine cp_put 26 0 0 hq (by omega) (by omega) (by omega) (by omega) rfl rfl rfl ?_
  dsimp only
  simp only [hcl, eo, ew, ex, ey, hclw, cp_wk w hw]
  refine And.intro hin (nm_e (And.intro hin (cp_src hi hx (And.intro hin (cp_src hi hy ?_)))))
  have cs10 : o = 0 ∨ o = 1 ∨ o = 2 ∨ o = 3 ∨ o = 4 ∨ o = 5 ∨ o = 6 ∨ o = 7 ∨ o = 8 ∨ o = 9 := by omega
  rcases cs10 with z | z | z | z | z | z | z | z | z | z
  all_goals subst z
  · refine br_t rfl (And.intro hin (And.intro hin6 ?_))
    refine cp_put 1 (ln_sa i x) (6 * w + 5) hqn (by omega) (by omega) (by omega) (by omega) rfl rfl rfl ?_
    dsimp only
    exact h
  · refine (br_f (by decide) (br_t rfl ?_))
    unfold wX_writeLine_125
    simp only [hcl, ew, hclw, cp_wk w hw]
    refine And.intro hin (And.intro hin6 (cp_su (o := 1) (by omega) hqn (by omega) (by omega) (by omega) (by omega) ?_))
    exact h
  · refine (br_f (by decide) (br_f (by decide) (br_t rfl ?_)))
    unfold wX_writeLine_125
    simp only [hcl, ew, hclw, cp_wk w hw]
    refine And.intro hin (And.intro hin6 (cp_su (o := 2) (by omega) hqn (by omega) (by omega) (by omega) (by omega) ?_))
    exact h
  · refine (br_f (by decide) (br_f (by decide) (br_f (by decide) (br_t rfl ?_))))
    unfold wX_writeLine_161
    simp only [hcl, ew, hclw, cp_wk w hw]
    refine And.intro hin (And.intro hin6 (cp_pr (o := 3) (by omega) hqn (by omega) (by omega) (by omega) (by omega) ?_))
    exact h
  · refine (br_f (by decide) (br_f (by decide) (br_f (by decide) (br_f (by decide) (br_t rfl ?_)))))
    unfold wX_writeLine_161
    simp only [hcl, ew, hclw, cp_wk w hw]
    refine And.intro hin (And.intro hin6 (cp_pr (o := 4) (by omega) hqn (by omega) (by omega) (by omega) (by omega) ?_))
    exact h
  · refine (br_f (by decide) (br_f (by decide) (br_f (by decide) (br_f (by decide) (br_f (by decide) (br_t rfl ?_))))))
    refine cp_co hqn (by omega) (by omega) (by omega) ?_
    exact h
  · refine (br_f (by decide) (br_f (by decide) (br_f (by decide) (br_f (by decide) (br_f (by decide) (br_f (by decide) (br_t rfl ?_)))))))
    refine br_t rfl ?_
    unfold wX_writeLine_231
    simp only [hcl, ew]
    refine And.intro hin ?_
    refine cp_put 11 w 0 hqn (by omega) (by omega) (by omega) (by omega) rfl rfl rfl ?_
    dsimp only
    exact h
  · refine (br_f (by decide) (br_f (by decide) (br_f (by decide) (br_f (by decide) (br_f (by decide) (br_f (by decide) (br_f (by decide) (br_t rfl ?_))))))))
    refine br_f (by decide) ?_
    unfold wX_writeLine_231
    simp only [hcl, ew]
    refine And.intro hin ?_
    refine cp_put 12 w 0 hqn (by omega) (by omega) (by omega) (by omega) rfl rfl rfl ?_
    dsimp only
    exact h
  · refine (br_f (by decide) (br_f (by decide) (br_f (by decide) (br_f (by decide) (br_f (by decide) (br_f (by decide) (br_f (by decide) (br_f (by decide) (br_t rfl ?_)))))))))
    refine cp_put 1 (ln_sa i x) 147 hqn (by omega) (by omega) (by omega) (by omega) rfl rfl rfl ?_
    dsimp only
    refine cp_put 19 0 114 (by rw [List.length_append, List.length_singleton]; omega) (by omega) (by omega) (by omega) (by omega) rfl rfl rfl ?_
    dsimp only
    rw [List.append_assoc] at h ⊢
    rw [List.append_assoc]
    exact h
  · refine (br_f (by decide) (br_f (by decide) (br_f (by decide) (br_f (by decide) (br_f (by decide) (br_f (by decide) (br_f (by decide) (br_f (by decide) (br_f (by decide) ?_)))))))))
    refine cp_put 22 10 0 hqn (by omega) (by omega) (by omega) (by omega) rfl rfl rfl ?_
    dsimp only
    exact h
theorem cp_ln {post : SX → Prop} {T : ln_T} {i : Nat} (hi : i < 14) (hT : tb_X T a_lineWhen a_lineCondition a_lineOp a_lineW a_lineX a_lineY) (tb : tb_ok T) (hp : p + 17 ≤ 400)
    (h : post (f_cardCount, f_lineCount, f_levelNow, 153, 104, 116, 122, 128, 135, 141, 147, 148, 149, 150, 151, 152, f_compiled, nI (p + (ln_cd T (decide (f_levelNow = 1)) i p).length), nI 1, nI 46, nI 114, f_at, f_order, f_callDepth, f_nextCard, f_tally, f_halted, f_printedCount, a_cardKey, a_cardPart, a_cardFirst, a_cardSecond, a_lineWhen, a_lineCondition, a_lineOp, a_lineW, a_lineX, a_lineY, a_lineC, a_digit, a_mark, a_minus, ms_wk, ms_ca, ms_in, ms_ct, cp_o c p (ln_cd T (decide (f_levelNow = 1)) i p), a_groupAt, a_callStack, a_indicatorOn, a_printedText)) : wpX_writeLine post (f_cardCount, f_lineCount, f_levelNow, 153, 104, 116, 122, 128, 135, 141, 147, 148, 149, 150, 151, 152, f_compiled, nI p, nI 1, nI 46, nI 114, f_at, f_order, f_callDepth, f_nextCard, f_tally, f_halted, f_printedCount, a_cardKey, a_cardPart, a_cardFirst, a_cardSecond, a_lineWhen, a_lineCondition, a_lineOp, a_lineW, a_lineX, a_lineY, a_lineC, a_digit, a_mark, a_minus, ms_wk, ms_ca, ms_in, ms_ct, c, a_groupAt, a_callStack, a_indicatorOn, a_printedText) (nI i) := by
  obtain ⟨t1, t2, t3, t4, t5, t6, t7, t8⟩ := tb i
  obtain ⟨_, hcd, hop, hfw, hfx, hfy⟩ := hT
  have hin : vp_in (nI i) 14 := vp_in_nI hi (by omega)
  have hcl : (nI i).toNatClampNeg = i := nI_clamp (by omega)
  have hbl := ln_bl (b := p + 1 + 1) (lv1 := decide (f_levelNow = 1)) (o := tb_op T i) (w := tb_fw T i) (xa := ln_sa i (tb_fx T i)) (ya := ln_sa i (tb_fy T i))
  have key : wpX_writeLine post (f_cardCount, f_lineCount, f_levelNow, 153, 104, 116, 122, 128, 135, 141, 147, 148, 149, 150, 151, 152, f_compiled, nI p, nI 1, nI 46, nI 114, f_at, f_order, f_callDepth, f_nextCard, f_tally, f_halted, f_printedCount, a_cardKey, a_cardPart, a_cardFirst, a_cardSecond, a_lineWhen, a_lineCondition, a_lineOp, a_lineW, a_lineX, a_lineY, a_lineC, a_digit, a_mark, a_minus, ms_wk, ms_ca, ms_in, ms_ct, cp_o c p [], a_groupAt, a_callStack, a_indicatorOn, a_printedText) (nI i) := by
    unfold wpX_writeLine
    dsimp only
    rw [hcl, hcd i]
    refine And.intro hin (nm_e ?_)
    unfold ln_cd ln_C at h
    refine pk_le (tb_cd T i) 4 (fun h4 => ?_) (fun h4 => ?_)
    · refine pk_le (tb_cd T i) 0 (fun h0 => ?_) (fun h0 => ?_)
      · rw [if_pos (by omega)] at h
        refine cp_43 hi t3 (by omega) t6 t7 (hop i) (hfw i) (hfx i) (hfy i) rfl (by omega) (br_t (by decide) ?_)
        rw [List.length_cons, Nat.add_comm _ 1, ← Nat.add_assoc] at h
        exact h
      · rw [if_neg (by omega), if_pos h4] at h
        refine cp_put 10 (tb_cd T i - 1) 0 rfl (by omega) (by omega) (by omega) (by omega) rfl (pk_sub (b := 1) (by omega)) rfl ?_
        dsimp only
        refine cp_43 hi t3 (by omega) t6 t7 (hop i) (hfw i) (hfx i) (hfy i) rfl (by omega) (br_f (nI_pos (by omega)) ?_)
        refine cp_land 0 10 (tb_cd T i - 1) (ln_lt rfl) (by omega) rfl (by omega) (by omega) (by omega) rfl ?_
        rw [List.length_cons, List.length_cons, show ∀ n, p + (n + 1 + 1) = p + 1 + 1 + n by omega] at h
        exact h
    · rw [if_neg (by omega), if_neg (by omega)] at h
      refine cp_put 9 (tb_cd T i - 5) 0 rfl (by omega) (by omega) (by omega) (by omega) rfl (pk_sub (b := 5) (by omega)) rfl ?_
      dsimp only
      refine cp_43 hi t3 (by omega) t6 t7 (hop i) (hfw i) (hfx i) (hfy i) rfl (by omega) (br_f (nI_pos (by omega)) ?_)
      refine cp_land 0 9 (tb_cd T i - 5) (ln_lt rfl) (by omega) rfl (by omega) (by omega) (by omega) rfl ?_
      rw [List.length_cons, List.length_cons, show ∀ n, p + (n + 1 + 1) = p + 1 + 1 + n by omega] at h
      exact h
  rwa [cp_on] at key
theorem cp_gr {post : SX → Prop} {T : ln_T} {lc w : Nat} (hlc : lc ≤ 14) (hT : tb_X T a_lineWhen a_lineCondition a_lineOp a_lineW a_lineX a_lineY) (tb : tb_ok T) (hw : w < 4) : ∀ (d i p : Nat) (c : Nat → Int32), i + d = lc → p + (gr_C T (decide (f_levelNow = 1)) w d i p).length ≤ 370 →
    post (f_cardCount, nI lc, f_levelNow, 153, 104, 116, 122, 128, 135, 141, 147, 148, 149, 150, 151, 152, f_compiled, nI (p + (gr_C T (decide (f_levelNow = 1)) w d i p).length), nI 1, nI 46, nI 114, f_at, f_order, f_callDepth, f_nextCard, f_tally, f_halted, f_printedCount, a_cardKey, a_cardPart, a_cardFirst, a_cardSecond, a_lineWhen, a_lineCondition, a_lineOp, a_lineW, a_lineX, a_lineY, a_lineC, a_digit, a_mark, a_minus, ms_wk, ms_ca, ms_in, ms_ct, cp_o c p (gr_C T (decide (f_levelNow = 1)) w d i p), a_groupAt, a_callStack, a_indicatorOn, a_printedText) → wX_writeGroup_13 post (nI w) (d + 1) (nI i) f_cardCount (nI lc) f_levelNow 153 104 116 122 128 135 141 147 148 149 150 151 152 f_compiled (nI p) (nI 1) (nI 46) (nI 114) f_at f_order f_callDepth f_nextCard f_tally f_halted f_printedCount a_cardKey a_cardPart a_cardFirst a_cardSecond a_lineWhen a_lineCondition a_lineOp a_lineW a_lineX a_lineY a_lineC a_digit a_mark a_minus ms_wk ms_ca ms_in ms_ct c a_groupAt a_callStack a_indicatorOn a_printedText := by
  intro d
  induction d with
  | zero =>
    intro i p c hid hl h
    have hl' : p + 1 ≤ 370 := hl
    refine br_t (nI_le (by omega) (by omega)) ?_
    have key : ∀ Q : Int32 → SX → Prop, Q (nI p) (f_cardCount, nI lc, f_levelNow, 153, 104, 116, 122, 128, 135, 141, 147, 148, 149, 150, 151, 152, f_compiled, nI (p + 1), nI 1, nI 46, nI 114, f_at, f_order, f_callDepth, f_nextCard, f_tally, f_halted, f_printedCount, a_cardKey, a_cardPart, a_cardFirst, a_cardSecond, a_lineWhen, a_lineCondition, a_lineOp, a_lineW, a_lineX, a_lineY, a_lineC, a_digit, a_mark, a_minus, ms_wk, ms_ca, ms_in, ms_ct, cp_o c p [(20, 0, 0)], a_groupAt, a_callStack, a_indicatorOn, a_printedText) → wpX_put Q (f_cardCount, nI lc, f_levelNow, 153, 104, 116, 122, 128, 135, 141, 147, 148, 149, 150, 151, 152, f_compiled, nI p, nI 1, nI 46, nI 114, f_at, f_order, f_callDepth, f_nextCard, f_tally, f_halted, f_printedCount, a_cardKey, a_cardPart, a_cardFirst, a_cardSecond, a_lineWhen, a_lineCondition, a_lineOp, a_lineW, a_lineX, a_lineY, a_lineC, a_digit, a_mark, a_minus, ms_wk, ms_ca, ms_in, ms_ct, cp_o c p [], a_groupAt, a_callStack, a_indicatorOn, a_printedText) 20 0 0 := by
      intro Q hQ
      exact cp_put 20 0 0 rfl (by omega) (by omega) (by omega) (by omega) rfl rfl rfl hQ
    rw [cp_on] at key
    exact key _ h
  | succ d ih =>
    intro i p c hid hl h
    have eg : gr_C T (decide (f_levelNow = 1)) w (d + 1) i p = if tb_wh T i = w then ln_cd T (decide (f_levelNow = 1)) i p ++ gr_C T (decide (f_levelNow = 1)) w d (i + 1) (p + (ln_cd T (decide (f_levelNow = 1)) i p).length) else gr_C T (decide (f_levelNow = 1)) w d (i + 1) p := rfl
    rw [eg] at hl h
    have hcl : (nI i).toNatClampNeg = i := nI_clamp (by omega)
    have htb := (tb i).1
    refine br_f (nI_ge (by omega) (by omega)) (And.intro (vp_in_nI (by omega) (by omega)) ?_)
    rw [hcl, hT.1 i]
    refine pk_eq (tb_wh T i) w (fun e => ?_) (fun e => ?_)
    · rw [if_pos e] at hl h
      rw [List.length_append] at hl h
      have h1 := gr_len1 (T := T) (lv1 := decide (f_levelNow = 1)) (w := w) d (i + 1) (p + (ln_cd T (decide (f_levelNow = 1)) i p).length)
      refine cp_ln (by omega) hT tb (by omega) ?_
      refine nm_r (nI_1 i) (ih (i + 1) _ _ (by omega) (by omega) ?_)
      rw [cp_oa rfl, Nat.add_assoc]
      exact h
    · rw [if_neg e] at hl h
      exact nm_r (nI_1 i) (ih (i + 1) p c (by omega) hl h)
end CP19
end
section
/-! the cycle and the whole, as the compiler writes them -/
section CP20
variable {f_cardCount f_lineCount f_levelNow f_memoryEnd f_sumAt f_productAt f_leftAt f_rightAt f_restAt f_quotientAt f_textAt f_counterAt f_signAt f_haveAt f_zeroAt f_oneAt f_compiled f_codeEnd f_multiplyAt f_divideAt f_printAt f_at f_order f_callDepth f_nextCard f_tally f_halted f_printedCount : Int32} {a_cardKey a_cardPart a_cardFirst a_cardSecond a_lineWhen a_lineCondition a_lineOp a_lineW a_lineX a_lineY a_lineC a_digit a_mark a_minus a_workAt a_cardAt a_inputAt a_constantAt a_code a_groupAt a_callStack a_indicatorOn a_printedText : Nat → Int32}
variable {c : Nat → Int32} {p q : Nat}
theorem cp_put2 {Q : Int32 → SX → Prop} {A : List (Nat × Nat × Nat)} {x0 x1 x2 : Int32} (A' : List (Nat × Nat × Nat)) (w a b : Nat) (hA : A ++ [(w, a, b)] = A') (hq : q = p + A.length) (hq4 : q < 420) (hw : w < 32) (ha : a < 1024) (hb : b < 1024) (e0 : x0 = nI w) (e1 : x1 = nI a) (e2 : x2 = nI b)
    (h : Q (nI q) (f_cardCount, f_lineCount, f_levelNow, f_memoryEnd, f_sumAt, f_productAt, f_leftAt, f_rightAt, f_restAt, f_quotientAt, f_textAt, f_counterAt, f_signAt, f_haveAt, f_zeroAt, f_oneAt, f_compiled, nI (q + 1), f_multiplyAt, f_divideAt, f_printAt, f_at, f_order, f_callDepth, f_nextCard, f_tally, f_halted, f_printedCount, a_cardKey, a_cardPart, a_cardFirst, a_cardSecond, a_lineWhen, a_lineCondition, a_lineOp, a_lineW, a_lineX, a_lineY, a_lineC, a_digit, a_mark, a_minus, a_workAt, a_cardAt, a_inputAt, a_constantAt, cp_o c p A', a_groupAt, a_callStack, a_indicatorOn, a_printedText)) : wpX_put Q (f_cardCount, f_lineCount, f_levelNow, f_memoryEnd, f_sumAt, f_productAt, f_leftAt, f_rightAt, f_restAt, f_quotientAt, f_textAt, f_counterAt, f_signAt, f_haveAt, f_zeroAt, f_oneAt, f_compiled, nI q, f_multiplyAt, f_divideAt, f_printAt, f_at, f_order, f_callDepth, f_nextCard, f_tally, f_halted, f_printedCount, a_cardKey, a_cardPart, a_cardFirst, a_cardSecond, a_lineWhen, a_lineCondition, a_lineOp, a_lineW, a_lineX, a_lineY, a_lineC, a_digit, a_mark, a_minus, a_workAt, a_cardAt, a_inputAt, a_constantAt, cp_o c p A, a_groupAt, a_callStack, a_indicatorOn, a_printedText) x0 x1 x2 := by
  subst hA
  exact cp_put w a b hq hq4 hw ha hb e0 e1 e2 h
theorem cp_land2 {Q : SX → Prop} {A : List (Nat × Nat × Nat)} {x : Int32} (A' : List (Nat × Nat × Nat)) (k w a : Nat) (hA' : A.set k (w, a, q) = A') (hk : k < A.length) (hpk : p + k < 420) (hA : A.getD k (0, 0, 0) = (w, a, 0)) (hq : q < 1024) (hw : w < 32) (ha : a < 1024) (ex : x = nI (p + k))
    (h : Q (f_cardCount, f_lineCount, f_levelNow, f_memoryEnd, f_sumAt, f_productAt, f_leftAt, f_rightAt, f_restAt, f_quotientAt, f_textAt, f_counterAt, f_signAt, f_haveAt, f_zeroAt, f_oneAt, f_compiled, nI q, f_multiplyAt, f_divideAt, f_printAt, f_at, f_order, f_callDepth, f_nextCard, f_tally, f_halted, f_printedCount, a_cardKey, a_cardPart, a_cardFirst, a_cardSecond, a_lineWhen, a_lineCondition, a_lineOp, a_lineW, a_lineX, a_lineY, a_lineC, a_digit, a_mark, a_minus, a_workAt, a_cardAt, a_inputAt, a_constantAt, cp_o c p A', a_groupAt, a_callStack, a_indicatorOn, a_printedText)) : wpX_land Q (f_cardCount, f_lineCount, f_levelNow, f_memoryEnd, f_sumAt, f_productAt, f_leftAt, f_rightAt, f_restAt, f_quotientAt, f_textAt, f_counterAt, f_signAt, f_haveAt, f_zeroAt, f_oneAt, f_compiled, nI q, f_multiplyAt, f_divideAt, f_printAt, f_at, f_order, f_callDepth, f_nextCard, f_tally, f_halted, f_printedCount, a_cardKey, a_cardPart, a_cardFirst, a_cardSecond, a_lineWhen, a_lineCondition, a_lineOp, a_lineW, a_lineX, a_lineY, a_lineC, a_digit, a_mark, a_minus, a_workAt, a_cardAt, a_inputAt, a_constantAt, cp_o c p A, a_groupAt, a_callStack, a_indicatorOn, a_printedText) x := by
  subst hA'
  exact cp_land k w a hk hpk hA hq hw ha ex h
theorem cp_cy {post : SX → Prop} {gr : Nat → Int32} {n0 n1 n2 n3 : Nat} (g0 : gr 0 = nI n0) (g1 : gr 1 = nI n1) (g2 : gr 2 = nI n2) (g3 : gr 3 = nI n3) (b0 : n0 < 1024) (b1 : n1 < 1024) (b2 : n2 < 1024) (b3 : n3 < 1024) (hp : p + 22 ≤ 400)
    (h : post (f_cardCount, f_lineCount, f_levelNow, 153, 104, 116, 122, 128, 135, 141, 147, 148, 149, 150, 151, 152, f_compiled, nI (p + 22), f_multiplyAt, f_divideAt, f_printAt, f_at, f_order, f_callDepth, f_nextCard, f_tally, f_halted, f_printedCount, a_cardKey, a_cardPart, a_cardFirst, a_cardSecond, a_lineWhen, a_lineCondition, a_lineOp, a_lineW, a_lineX, a_lineY, a_lineC, a_digit, a_mark, a_minus, ms_wk, ms_ca, ms_in, ms_ct, cp_o c p (cy_C p n0 n1 n2 n3), gr, a_callStack, a_indicatorOn, a_printedText)) : wpX_writeCycle post (f_cardCount, f_lineCount, f_levelNow, 153, 104, 116, 122, 128, 135, 141, 147, 148, 149, 150, 151, 152, f_compiled, nI p, f_multiplyAt, f_divideAt, f_printAt, f_at, f_order, f_callDepth, f_nextCard, f_tally, f_halted, f_printedCount, a_cardKey, a_cardPart, a_cardFirst, a_cardSecond, a_lineWhen, a_lineCondition, a_lineOp, a_lineW, a_lineX, a_lineY, a_lineC, a_digit, a_mark, a_minus, ms_wk, ms_ca, ms_in, ms_ct, c, gr, a_callStack, a_indicatorOn, a_printedText) := by
  have key : wpX_writeCycle post (f_cardCount, f_lineCount, f_levelNow, 153, 104, 116, 122, 128, 135, 141, 147, 148, 149, 150, 151, 152, f_compiled, nI p, f_multiplyAt, f_divideAt, f_printAt, f_at, f_order, f_callDepth, f_nextCard, f_tally, f_halted, f_printedCount, a_cardKey, a_cardPart, a_cardFirst, a_cardSecond, a_lineWhen, a_lineCondition, a_lineOp, a_lineW, a_lineX, a_lineY, a_lineC, a_digit, a_mark, a_minus, ms_wk, ms_ca, ms_in, ms_ct, cp_o c p [], gr, a_callStack, a_indicatorOn, a_printedText) := by
    unfold wpX_writeCycle
    dsimp only
    refine cp_put2 [(13,0,0)] 13 0 0 rfl rfl (by omega) (by omega) (by omega) (by omega) rfl rfl rfl ?_
    dsimp only
    refine cp_put2 [(13,0,0),(24,150,0)] 24 150 0 rfl rfl (by omega) (by omega) (by omega) (by omega) rfl rfl rfl ?_
    dsimp only
    refine cp_put2 [(13,0,0),(24,150,0),(4,43,41)] 4 43 41 rfl rfl (by omega) (by omega) (by omega) (by omega) rfl rfl rfl ?_
    dsimp only
    refine cp_put2 [(13,0,0),(24,150,0),(4,43,41),(8,0,0)] 8 0 0 rfl rfl (by omega) (by omega) (by omega) (by omega) rfl rfl rfl ?_
    dsimp only
    refine cp_put2 [(13,0,0),(24,150,0),(4,43,41),(8,0,0),(19,0,n1)] 19 0 n1 rfl rfl (by omega) (by omega) (by omega) (by omega) rfl rfl g1 ?_
    dsimp only
    refine cp_put2 [(13,0,0),(24,150,0),(4,43,41),(8,0,0),(19,0,n1),(19,0,n2)] 19 0 n2 rfl rfl (by omega) (by omega) (by omega) (by omega) rfl rfl g2 ?_
    dsimp only
    refine cp_put2 [(13,0,0),(24,150,0),(4,43,41),(8,0,0),(19,0,n1),(19,0,n2),(5,0,0)] 5 0 0 rfl rfl (by omega) (by omega) (by omega) (by omega) rfl rfl rfl ?_
    dsimp only
    refine cp_land2 [(13,0,0),(24,150,0),(4,43,41),(8,0,p+7),(19,0,n1),(19,0,n2),(5,0,0)] 3 8 0 rfl (ln_lt rfl) (by omega) rfl (by omega) (by omega) (by omega) rfl ?_
    dsimp only
    refine cp_put2 [(13,0,0),(24,150,0),(4,43,41),(8,0,p+7),(19,0,n1),(19,0,n2),(5,0,0),(4,39,37)] 4 39 37 rfl rfl (by omega) (by omega) (by omega) (by omega) rfl rfl rfl ?_
    dsimp only
    refine cp_put2 [(13,0,0),(24,150,0),(4,43,41),(8,0,p+7),(19,0,n1),(19,0,n2),(5,0,0),(4,39,37),(8,0,0)] 8 0 0 rfl rfl (by omega) (by omega) (by omega) (by omega) rfl rfl rfl ?_
    dsimp only
    refine cp_put2 [(13,0,0),(24,150,0),(4,43,41),(8,0,p+7),(19,0,n1),(19,0,n2),(5,0,0),(4,39,37),(8,0,0),(19,0,n1)] 19 0 n1 rfl rfl (by omega) (by omega) (by omega) (by omega) rfl rfl g1 ?_
    dsimp only
    refine cp_land2 [(13,0,0),(24,150,p+10),(4,43,41),(8,0,p+7),(19,0,n1),(19,0,n2),(5,0,0),(4,39,37),(8,0,0),(19,0,n1)] 1 24 150 rfl (ln_lt rfl) (by omega) rfl (by omega) (by omega) (by omega) rfl ?_
    dsimp only
    refine cp_land2 [(13,0,0),(24,150,p+10),(4,43,41),(8,0,p+7),(19,0,n1),(19,0,n2),(5,0,p+10),(4,39,37),(8,0,0),(19,0,n1)] 6 5 0 rfl (ln_lt rfl) (by omega) rfl (by omega) (by omega) (by omega) rfl ?_
    dsimp only
    refine cp_land2 [(13,0,0),(24,150,p+10),(4,43,41),(8,0,p+7),(19,0,n1),(19,0,n2),(5,0,p+10),(4,39,37),(8,0,p+10),(19,0,n1)] 8 8 0 rfl (ln_lt rfl) (by omega) rfl (by omega) (by omega) (by omega) rfl ?_
    dsimp only
    refine ⟨5, ?_⟩
    refine br_f (by decide) (And.intro (vp_in_nI (n := 0) (by omega) (by omega)) (And.intro (vp_in_nI (n := 0) (by omega) (by omega)) ?_))
    refine cp_put2 [(13,0,0),(24,150,p+10),(4,43,41),(8,0,p+7),(19,0,n1),(19,0,n2),(5,0,p+10),(4,39,37),(8,0,p+10),(19,0,n1),(1,39,37)] 1 39 37 rfl rfl (by omega) (by omega) (by omega) (by omega) rfl rfl rfl ?_
    dsimp only
    refine nm_r (e' := 1) rfl ?_
    refine br_f (by decide) (And.intro (vp_in_nI (n := 1) (by omega) (by omega)) (And.intro (vp_in_nI (n := 1) (by omega) (by omega)) ?_))
    refine cp_put2 [(13,0,0),(24,150,p+10),(4,43,41),(8,0,p+7),(19,0,n1),(19,0,n2),(5,0,p+10),(4,39,37),(8,0,p+10),(19,0,n1),(1,39,37),(1,43,41)] 1 43 41 rfl rfl (by omega) (by omega) (by omega) (by omega) rfl rfl rfl ?_
    dsimp only
    refine nm_r (e' := 2) rfl ?_
    refine br_f (by decide) (And.intro (vp_in_nI (n := 2) (by omega) (by omega)) (And.intro (vp_in_nI (n := 2) (by omega) (by omega)) ?_))
    refine cp_put2 [(13,0,0),(24,150,p+10),(4,43,41),(8,0,p+7),(19,0,n1),(19,0,n2),(5,0,p+10),(4,39,37),(8,0,p+10),(19,0,n1),(1,39,37),(1,43,41),(1,49,46)] 1 49 46 rfl rfl (by omega) (by omega) (by omega) (by omega) rfl rfl rfl ?_
    dsimp only
    refine nm_r (e' := 3) rfl ?_
    refine br_f (by decide) (And.intro (vp_in_nI (n := 3) (by omega) (by omega)) (And.intro (vp_in_nI (n := 3) (by omega) (by omega)) ?_))
    refine cp_put2 [(13,0,0),(24,150,p+10),(4,43,41),(8,0,p+7),(19,0,n1),(19,0,n2),(5,0,p+10),(4,39,37),(8,0,p+10),(19,0,n1),(1,39,37),(1,43,41),(1,49,46),(1,55,52)] 1 55 52 rfl rfl (by omega) (by omega) (by omega) (by omega) rfl rfl rfl ?_
    dsimp only
    refine nm_r (e' := 4) rfl ?_
    refine br_t (by decide) ?_
    refine cp_put2 [(13,0,0),(24,150,p+10),(4,43,41),(8,0,p+7),(19,0,n1),(19,0,n2),(5,0,p+10),(4,39,37),(8,0,p+10),(19,0,n1),(1,39,37),(1,43,41),(1,49,46),(1,55,52),(18,152,150)] 18 152 150 rfl rfl (by omega) (by omega) (by omega) (by omega) rfl rfl rfl ?_
    dsimp only
    refine cp_put2 [(13,0,0),(24,150,p+10),(4,43,41),(8,0,p+7),(19,0,n1),(19,0,n2),(5,0,p+10),(4,39,37),(8,0,p+10),(19,0,n1),(1,39,37),(1,43,41),(1,49,46),(1,55,52),(18,152,150),(19,0,n0)] 19 0 n0 rfl rfl (by omega) (by omega) (by omega) (by omega) rfl rfl g0 ?_
    dsimp only
    refine cp_put2 [(13,0,0),(24,150,p+10),(4,43,41),(8,0,p+7),(19,0,n1),(19,0,n2),(5,0,p+10),(4,39,37),(8,0,p+10),(19,0,n1),(1,39,37),(1,43,41),(1,49,46),(1,55,52),(18,152,150),(19,0,n0),(5,0,p)] 5 0 p rfl rfl (by omega) (by omega) (by omega) (by omega) rfl rfl rfl ?_
    dsimp only
    refine cp_land2 [(13,0,p+17),(24,150,p+10),(4,43,41),(8,0,p+7),(19,0,n1),(19,0,n2),(5,0,p+10),(4,39,37),(8,0,p+10),(19,0,n1),(1,39,37),(1,43,41),(1,49,46),(1,55,52),(18,152,150),(19,0,n0),(5,0,p)] 0 13 0 rfl (ln_lt rfl) (by omega) rfl (by omega) (by omega) (by omega) rfl ?_
    dsimp only
    refine cp_put2 [(13,0,p+17),(24,150,p+10),(4,43,41),(8,0,p+7),(19,0,n1),(19,0,n2),(5,0,p+10),(4,39,37),(8,0,p+10),(19,0,n1),(1,39,37),(1,43,41),(1,49,46),(1,55,52),(18,152,150),(19,0,n0),(5,0,p),(24,150,0)] 24 150 0 rfl rfl (by omega) (by omega) (by omega) (by omega) rfl rfl rfl ?_
    dsimp only
    refine cp_put2 [(13,0,p+17),(24,150,p+10),(4,43,41),(8,0,p+7),(19,0,n1),(19,0,n2),(5,0,p+10),(4,39,37),(8,0,p+10),(19,0,n1),(1,39,37),(1,43,41),(1,49,46),(1,55,52),(18,152,150),(19,0,n0),(5,0,p),(24,150,0),(19,0,n1)] 19 0 n1 rfl rfl (by omega) (by omega) (by omega) (by omega) rfl rfl g1 ?_
    dsimp only
    refine cp_put2 [(13,0,p+17),(24,150,p+10),(4,43,41),(8,0,p+7),(19,0,n1),(19,0,n2),(5,0,p+10),(4,39,37),(8,0,p+10),(19,0,n1),(1,39,37),(1,43,41),(1,49,46),(1,55,52),(18,152,150),(19,0,n0),(5,0,p),(24,150,0),(19,0,n1),(19,0,n2)] 19 0 n2 rfl rfl (by omega) (by omega) (by omega) (by omega) rfl rfl g2 ?_
    dsimp only
    refine cp_land2 [(13,0,p+17),(24,150,p+10),(4,43,41),(8,0,p+7),(19,0,n1),(19,0,n2),(5,0,p+10),(4,39,37),(8,0,p+10),(19,0,n1),(1,39,37),(1,43,41),(1,49,46),(1,55,52),(18,152,150),(19,0,n0),(5,0,p),(24,150,p+20),(19,0,n1),(19,0,n2)] 17 24 150 rfl (ln_lt rfl) (by omega) rfl (by omega) (by omega) (by omega) rfl ?_
    dsimp only
    refine cp_put2 [(13,0,p+17),(24,150,p+10),(4,43,41),(8,0,p+7),(19,0,n1),(19,0,n2),(5,0,p+10),(4,39,37),(8,0,p+10),(19,0,n1),(1,39,37),(1,43,41),(1,49,46),(1,55,52),(18,152,150),(19,0,n0),(5,0,p),(24,150,p+20),(19,0,n1),(19,0,n2),(19,0,n3)] 19 0 n3 rfl rfl (by omega) (by omega) (by omega) (by omega) rfl rfl g3 ?_
    dsimp only
    refine cp_put2 [(13,0,p+17),(24,150,p+10),(4,43,41),(8,0,p+7),(19,0,n1),(19,0,n2),(5,0,p+10),(4,39,37),(8,0,p+10),(19,0,n1),(1,39,37),(1,43,41),(1,49,46),(1,55,52),(18,152,150),(19,0,n0),(5,0,p),(24,150,p+20),(19,0,n1),(19,0,n2),(19,0,n3),(0,0,0)] 0 0 0 rfl rfl (by omega) (by omega) (by omega) (by omega) rfl rfl rfl ?_
    dsimp only
    exact h
  rwa [cp_on] at key
theorem cp_l0 {Q : SX → Prop} {k w a : Nat} (hk : k < 420) (hq : q < 1024) (hw : w < 32) (ha : a < 1024) (hc : c k = en_w w a 0) (h : Q (f_cardCount, f_lineCount, f_levelNow, f_memoryEnd, f_sumAt, f_productAt, f_leftAt, f_rightAt, f_restAt, f_quotientAt, f_textAt, f_counterAt, f_signAt, f_haveAt, f_zeroAt, f_oneAt, f_compiled, nI q, f_multiplyAt, f_divideAt, f_printAt, f_at, f_order, f_callDepth, f_nextCard, f_tally, f_halted, f_printedCount, a_cardKey, a_cardPart, a_cardFirst, a_cardSecond, a_lineWhen, a_lineCondition, a_lineOp, a_lineW, a_lineX, a_lineY, a_lineC, a_digit, a_mark, a_minus, a_workAt, a_cardAt, a_inputAt, a_constantAt, upd c k (en_w w a q), a_groupAt, a_callStack, a_indicatorOn, a_printedText)) : wpX_land Q (f_cardCount, f_lineCount, f_levelNow, f_memoryEnd, f_sumAt, f_productAt, f_leftAt, f_rightAt, f_restAt, f_quotientAt, f_textAt, f_counterAt, f_signAt, f_haveAt, f_zeroAt, f_oneAt, f_compiled, nI q, f_multiplyAt, f_divideAt, f_printAt, f_at, f_order, f_callDepth, f_nextCard, f_tally, f_halted, f_printedCount, a_cardKey, a_cardPart, a_cardFirst, a_cardSecond, a_lineWhen, a_lineCondition, a_lineOp, a_lineW, a_lineX, a_lineY, a_lineC, a_digit, a_mark, a_minus, a_workAt, a_cardAt, a_inputAt, a_constantAt, c, a_groupAt, a_callStack, a_indicatorOn, a_printedText) (nI k) := by
  unfold wpX_land
  dsimp only
  have hin : vp_in (nI k) 420 := vp_in_nI hk (by omega)
  refine And.intro hin (And.intro hin (nm_r (e' := upd c k (en_w w a q)) ?_ h))
  rw [nI_clamp (by omega), hc, cp_wl hw ha hq]
theorem cp_wg {post : SX → Prop} {T : ln_T} {lc w : Nat} {gr : Nat → Int32} (hlc : lc ≤ 14) (hT : tb_X T a_lineWhen a_lineCondition a_lineOp a_lineW a_lineX a_lineY) (tb : tb_ok T) (hw : w < 4) (hl : p + (gr_C T (decide (f_levelNow = 1)) w lc 0 p).length ≤ 370)
    (h : post (f_cardCount, nI lc, f_levelNow, 153, 104, 116, 122, 128, 135, 141, 147, 148, 149, 150, 151, 152, f_compiled, nI (p + (gr_C T (decide (f_levelNow = 1)) w lc 0 p).length), nI 1, nI 46, nI 114, f_at, f_order, f_callDepth, f_nextCard, f_tally, f_halted, f_printedCount, a_cardKey, a_cardPart, a_cardFirst, a_cardSecond, a_lineWhen, a_lineCondition, a_lineOp, a_lineW, a_lineX, a_lineY, a_lineC, a_digit, a_mark, a_minus, ms_wk, ms_ca, ms_in, ms_ct, cp_o c p (gr_C T (decide (f_levelNow = 1)) w lc 0 p), upd gr w (nI p), a_callStack, a_indicatorOn, a_printedText)) : wpX_writeGroup post (f_cardCount, nI lc, f_levelNow, 153, 104, 116, 122, 128, 135, 141, 147, 148, 149, 150, 151, 152, f_compiled, nI p, nI 1, nI 46, nI 114, f_at, f_order, f_callDepth, f_nextCard, f_tally, f_halted, f_printedCount, a_cardKey, a_cardPart, a_cardFirst, a_cardSecond, a_lineWhen, a_lineCondition, a_lineOp, a_lineW, a_lineX, a_lineY, a_lineC, a_digit, a_mark, a_minus, ms_wk, ms_ca, ms_in, ms_ct, c, gr, a_callStack, a_indicatorOn, a_printedText) (nI w) := by
  unfold wpX_writeGroup
  dsimp only
  refine And.intro (vp_in_nI hw (by omega)) (nm_r (e' := upd gr w (nI p)) ?_ ⟨lc + 1, cp_gr hlc hT tb hw lc 0 p c (by omega) hl h⟩)
  rw [nI_clamp (by omega), sm_ns (by omega)]
end CP20
/-! how long the groups are -/
def gr_n (T : ln_T) (w : Nat) : Nat → Nat → Nat
  | 0, _ => 0
  | d + 1, i => (if tb_wh T i = w then 1 else 0) + gr_n T w d (i + 1)
theorem gr_sum {T : ln_T} : ∀ d i, gr_n T 0 d i + gr_n T 1 d i + gr_n T 2 d i + gr_n T 3 d i ≤ d := by
  intro d
  induction d with
  | zero => intro i; exact Nat.le_refl 0
  | succ d ih =>
    intro i
    have := ih (i + 1)
    show ((if tb_wh T i = 0 then 1 else 0) + gr_n T 0 d (i + 1)) + ((if tb_wh T i = 1 then 1 else 0) + gr_n T 1 d (i + 1)) + ((if tb_wh T i = 2 then 1 else 0) + gr_n T 2 d (i + 1)) + ((if tb_wh T i = 3 then 1 else 0) + gr_n T 3 d (i + 1)) ≤ d + 1
    split <;> split <;> split <;> split <;> omega
theorem ln_cl {T : ln_T} {lv1 : Bool} {i p : Nat} : (ln_cd T lv1 i p).length ≤ 13 := by
  unfold ln_cd ln_C
  split
  · rw [List.length_cons]
    have := ln_bl (b := p + 1) (lv1 := lv1) (o := tb_op T i) (w := tb_fw T i) (xa := ln_sa i (tb_fx T i)) (ya := ln_sa i (tb_fy T i))
    omega
  · rw [List.length_cons, List.length_cons]
    have := ln_bl (b := p + 2) (lv1 := lv1) (o := tb_op T i) (w := tb_fw T i) (xa := ln_sa i (tb_fx T i)) (ya := ln_sa i (tb_fy T i))
    omega
theorem gr_le {T : ln_T} {lv1 : Bool} {w : Nat} : ∀ d i p, (gr_C T lv1 w d i p).length ≤ 1 + 13 * gr_n T w d i := by
  intro d
  induction d with
  | zero => intro i p; exact Nat.le_refl 1
  | succ d ih =>
    intro i p
    show (if tb_wh T i = w then ln_cd T lv1 i p ++ gr_C T lv1 w d (i + 1) (p + (ln_cd T lv1 i p).length) else gr_C T lv1 w d (i + 1) p).length ≤ 1 + 13 * ((if tb_wh T i = w then 1 else 0) + gr_n T w d (i + 1))
    by_cases h : tb_wh T i = w
    · rw [if_pos h, if_pos h, List.length_append]
      have h1 := ih (i + 1) (p + (ln_cd T lv1 i p).length)
      have h2 := ln_cl (T := T) (lv1 := lv1) (i := i) (p := p)
      omega
    · rw [if_neg h, if_neg h]
      have h1 := ih (i + 1) p
      omega
theorem rt_lm : (mul_L 1).length = 45 := by decide +kernel
theorem rt_ld : (div_L 46).length = 68 := by decide +kernel
theorem rt_lp : (prt_L 114).length = 22 := by decide +kernel
/-- what lies in the code when all is written -/
theorem cp_pg {T : ln_T} {lv1 : Bool} {lc g1 g2 g3 s : Nat} {c c0 c1 c2 c3 c4 c5 c6 c7 : Nat → Int32} (z0 : c0 = cp_o c 0 [(5, 0, 0)]) (z1 : c1 = cp_o c0 1 (mul_L 1)) (z2 : c2 = cp_o c1 46 (div_L 46)) (z3 : c3 = cp_o c2 114 (prt_L 114)) (z4 : c4 = cp_o c3 136 (gr_C T lv1 0 lc 0 136)) (e1 : g1 = 136 + (gr_C T lv1 0 lc 0 136).length) (z5 : c5 = cp_o c4 g1 (gr_C T lv1 1 lc 0 g1)) (e2 : g2 = g1 + (gr_C T lv1 1 lc 0 g1).length) (z6 : c6 = cp_o c5 g2 (gr_C T lv1 2 lc 0 g2)) (e3 : g3 = g2 + (gr_C T lv1 2 lc 0 g2).length) (z7 : c7 = cp_o c6 g3 (gr_C T lv1 3 lc 0 g3)) (e4 : s = g3 + (gr_C T lv1 3 lc 0 g3).length) (hs : s ≤ 370) :
    c7 0 = en_w 5 0 0 ∧ pg_at (cp_o (upd c7 0 (en_w 5 0 s)) s (cy_C s 136 g1 g2 g3)) T lc lv1 s g1 g2 g3 := by
  have lm := rt_lm
  have ld := rt_ld
  have lp := rt_lp
  have f1 : cp_f c0 c1 1 := by rw [z1]; exact cp_of
  have f2 : cp_f c1 c2 46 := by rw [z2]; exact cp_of
  have f3 : cp_f c2 c3 114 := by rw [z3]; exact cp_of
  have f4 : cp_f c3 c4 136 := by rw [z4]; exact cp_of
  have f5 : cp_f c4 c5 g1 := by rw [z5]; exact cp_of
  have f6 : cp_f c5 c6 g2 := by rw [z6]; exact cp_of
  have f7 : cp_f c6 c7 g3 := by rw [z7]; exact cp_of
  have k6 : cp_f c5 c7 g2 := cp_ft f6 f7 (by omega)
  have k5 : cp_f c4 c7 g1 := cp_ft f5 k6 (by omega)
  have k4 : cp_f c3 c7 136 := cp_ft f4 k5 (by omega)
  have k3 : cp_f c2 c7 114 := cp_ft f3 k4 (by omega)
  have k2 : cp_f c1 c7 46 := cp_ft f2 k3 (by omega)
  have k1 : cp_f c0 c7 1 := cp_ft f1 k2 (by omega)
  have h0 : c7 0 = en_w 5 0 0 := by
    rw [k1 0 (by omega), z0]
    rfl
  have x1 : xc_at c7 1 (mul_L 1) := cp_fx (by rw [z1]; exact cp_ox) k2 (by omega)
  have x2 : xc_at c7 46 (div_L 46) := cp_fx (by rw [z2]; exact cp_ox) k3 (by omega)
  have x3 : xc_at c7 114 (prt_L 114) := cp_fx (by rw [z3]; exact cp_ox) k4 (by omega)
  have xr : xc_at c7 1 rt_L := by
    rw [rt_eq]
    exact cp_xj (by omega) x1 (cp_xj (by omega) x2 x3)
  have y0 : xc_at c7 136 (gr_C T lv1 0 lc 0 136) := cp_fx (by rw [z4]; exact cp_ox) k5 (by omega)
  have y1 : xc_at c7 g1 (gr_C T lv1 1 lc 0 g1) := cp_fx (by rw [z5]; exact cp_ox) k6 (by omega)
  have y2 : xc_at c7 g2 (gr_C T lv1 2 lc 0 g2) := cp_fx (by rw [z6]; exact cp_ox) f7 (by omega)
  have y3 : xc_at c7 g3 (gr_C T lv1 3 lc 0 g3) := by rw [z7]; exact cp_ox
  have keep : ∀ (p : Nat) (L : List (Nat × Nat × Nat)), 1 ≤ p → p + L.length ≤ s → xc_at c7 p L → xc_at (cp_o (upd c7 0 (en_w 5 0 s)) s (cy_C s 136 g1 g2 g3)) p L := by
    intro p L hp hl hx i hi
    rw [cp_of (p + i) (by omega), pk_un (by omega)]
    exact hx i hi
  have hrl := rt_len
  refine ⟨h0, ?_, keep 1 rt_L (by omega) (by omega) xr, ⟨keep _ _ (by omega) (by omega) y0, by omega⟩, ⟨keep _ _ (by omega) (by omega) y1, by omega⟩, ⟨keep _ _ (by omega) (by omega) y2, by omega⟩, ⟨keep _ _ (by omega) (by omega) y3, by omega⟩, cp_ox, by omega⟩
  rw [cp_of 0 (by omega), pk_us]
section CP20b
variable {f_cardCount f_lineCount f_levelNow f_memoryEnd f_sumAt f_productAt f_leftAt f_rightAt f_restAt f_quotientAt f_textAt f_counterAt f_signAt f_haveAt f_zeroAt f_oneAt f_compiled f_codeEnd f_multiplyAt f_divideAt f_printAt f_at f_order f_callDepth f_nextCard f_tally f_halted f_printedCount : Int32} {a_cardKey a_cardPart a_cardFirst a_cardSecond a_lineWhen a_lineCondition a_lineOp a_lineW a_lineX a_lineY a_lineC a_digit a_mark a_minus a_workAt a_cardAt a_inputAt a_constantAt a_code a_groupAt a_callStack a_indicatorOn a_printedText : Nat → Int32}
theorem cp_all {post : SX → Prop} {T : ln_T} {lc : Nat} (hlc : lc ≤ 14) (hT : tb_X T a_lineWhen a_lineCondition a_lineOp a_lineW a_lineX a_lineY) (tb : tb_ok T)
    (h : ∀ (c' gr' : Nat → Int32) (ce' : Int32), (∃ s g1 g2 g3, pg_at c' T lc (decide (f_levelNow = 1)) s g1 g2 g3) → post (f_cardCount, nI lc, f_levelNow, 153, 104, 116, 122, 128, 135, 141, 147, 148, 149, 150, 151, 152, 1, ce', nI 1, nI 46, nI 114, f_at, f_order, f_callDepth, f_nextCard, f_tally, f_halted, f_printedCount, a_cardKey, a_cardPart, a_cardFirst, a_cardSecond, a_lineWhen, a_lineCondition, a_lineOp, a_lineW, a_lineX, a_lineY, a_lineC, a_digit, a_mark, a_minus, ms_wk, ms_ca, ms_in, ms_ct, c', gr', a_callStack, a_indicatorOn, a_printedText)) : wpX_compile post (f_cardCount, nI lc, f_levelNow, 153, 104, 116, 122, 128, 135, 141, 147, 148, 149, 150, 151, 152, f_compiled, f_codeEnd, f_multiplyAt, f_divideAt, f_printAt, f_at, f_order, f_callDepth, f_nextCard, f_tally, f_halted, f_printedCount, a_cardKey, a_cardPart, a_cardFirst, a_cardSecond, a_lineWhen, a_lineCondition, a_lineOp, a_lineW, a_lineX, a_lineY, a_lineC, a_digit, a_mark, a_minus, ms_wk, ms_ca, ms_in, ms_ct, a_code, a_groupAt, a_callStack, a_indicatorOn, a_printedText) := by
  have hsum := gr_sum (T := T) lc 0
  have l0 := gr_le (T := T) (lv1 := decide (f_levelNow = 1)) (w := 0) lc 0 136
  have h1 : ∃ g1, g1 = 136 + (gr_C T (decide (f_levelNow = 1)) 0 lc 0 136).length := ⟨_, rfl⟩
  obtain ⟨g1, e1⟩ := h1
  have l1 := gr_le (T := T) (lv1 := decide (f_levelNow = 1)) (w := 1) lc 0 g1
  have h2 : ∃ g2, g2 = g1 + (gr_C T (decide (f_levelNow = 1)) 1 lc 0 g1).length := ⟨_, rfl⟩
  obtain ⟨g2, e2⟩ := h2
  have l2 := gr_le (T := T) (lv1 := decide (f_levelNow = 1)) (w := 2) lc 0 g2
  have h3 : ∃ g3, g3 = g2 + (gr_C T (decide (f_levelNow = 1)) 2 lc 0 g2).length := ⟨_, rfl⟩
  obtain ⟨g3, e3⟩ := h3
  have l3 := gr_le (T := T) (lv1 := decide (f_levelNow = 1)) (w := 3) lc 0 g3
  have h4 : ∃ s, s = g3 + (gr_C T (decide (f_levelNow = 1)) 3 lc 0 g3).length := ⟨_, rfl⟩
  obtain ⟨s, e4⟩ := h4
  have hs : s ≤ 370 := by omega
  have hpg := cp_pg (c := a_code) rfl rfl rfl rfl rfl e1 rfl e2 rfl e3 rfl e4 hs
  have key : wpX_compile post (f_cardCount, nI lc, f_levelNow, 153, 104, 116, 122, 128, 135, 141, 147, 148, 149, 150, 151, 152, f_compiled, f_codeEnd, f_multiplyAt, f_divideAt, f_printAt, f_at, f_order, f_callDepth, f_nextCard, f_tally, f_halted, f_printedCount, a_cardKey, a_cardPart, a_cardFirst, a_cardSecond, a_lineWhen, a_lineCondition, a_lineOp, a_lineW, a_lineX, a_lineY, a_lineC, a_digit, a_mark, a_minus, ms_wk, ms_ca, ms_in, ms_ct, cp_o a_code 0 [], a_groupAt, a_callStack, a_indicatorOn, a_printedText) := by
    unfold wpX_compile
    dsimp only
    refine cp_put (q := 0) 5 0 0 rfl (by omega) (by omega) (by omega) (by omega) rfl rfl rfl ?_
    dsimp only
    refine cp_mul (p := 1) (by omega) ?_
    dsimp only
    refine cp_div (p := 46) (by omega) ?_
    dsimp only
    refine cp_prt (p := 114) (by omega) ?_
    dsimp only
    refine ⟨5, br_f (by decide) ?_⟩
    refine cp_wg (p := 136) (w := 0) hlc hT tb (by omega) (by omega) ?_
    dsimp only
    rw [← e1]
    refine nm_r (e' := 1) rfl (br_f (by decide) ?_)
    refine cp_wg (p := g1) (w := 1) hlc hT tb (by omega) (by omega) ?_
    dsimp only
    rw [← e2]
    refine nm_r (e' := 2) rfl (br_f (by decide) ?_)
    refine cp_wg (p := g2) (w := 2) hlc hT tb (by omega) (by omega) ?_
    dsimp only
    rw [← e3]
    refine nm_r (e' := 3) rfl (br_f (by decide) ?_)
    refine cp_wg (p := g3) (w := 3) hlc hT tb (by omega) (by omega) ?_
    dsimp only
    rw [← e4]
    refine nm_r (e' := 4) rfl (br_t (by decide) ?_)
    refine cp_l0 (k := 0) (w := 5) (a := 0) (by omega) (by omega) (by omega) (by omega) hpg.1 ?_
    dsimp only
    refine cp_cy (n0 := 136) (n1 := g1) (n2 := g2) (n3 := g3) rfl rfl rfl rfl (by omega) (by omega) (by omega) (by omega) (by omega) ?_
    dsimp only
    exact h _ _ _ ⟨s, g1, g2, g3, hpg.2⟩
  rwa [cp_on] at key
end CP20b
end
section
/-! the reference: printing -/
section YR21
variable {f_cards f_lines f_present f_executed f_printed : Int32} {a_key a_part a_first a_second a_when a_condition a_op a_field a_px a_py a_constant a_work a_on a_text : Nat → Int32}
theorem yr_put {post : SY → Prop} {pc ch : Nat} (hp : pc < 2 ^ 30) (h : post (f_cards, f_lines, f_present, f_executed, nI (pc + 1), a_key, a_part, a_first, a_second, a_when, a_condition, a_op, a_field, a_px, a_py, a_constant, a_work, a_on, ms_tp pc a_text (nI ch))) : wpY_put post (f_cards, f_lines, f_present, f_executed, nI pc, a_key, a_part, a_first, a_second, a_when, a_condition, a_op, a_field, a_px, a_py, a_constant, a_work, a_on, a_text) (nI ch) := by
  unfold wpY_put
  dsimp only
  refine pk_le 80 pc (fun h8 => ?_) (fun h8 => ?_)
  · refine nm_r (nI_1 pc) ?_
    have e : ms_tp pc a_text (nI ch) = a_text := if_neg (by omega)
    rw [e] at h
    exact h
  · have e : ms_tp pc a_text (nI ch) = upd a_text pc (nI ch) := if_pos h8
    rw [e] at h
    refine And.intro (vp_in_nI h8 (by omega)) (nm_r ?_ (nm_r (nI_1 pc) h))
    rw [nI_clamp (by omega)]
theorem yr_end {post : SY → Prop} {s : Nat × (Nat → Int32)} {n : Nat} {x2 x3 x4 : Int32} (hs : s.1 < 2 ^ 30) (h : post (f_cards, f_lines, f_present, f_executed, nI (pr_t s 32).1, a_key, a_part, a_first, a_second, a_when, a_condition, a_op, a_field, a_px, a_py, a_constant, a_work, a_on, (pr_t s 32).2)) : wY_print_30 post x2 (n + 1) x3 x4 (nI 6) f_cards f_lines f_present f_executed (nI s.1) a_key a_part a_first a_second a_when a_condition a_op a_field a_px a_py a_constant a_work a_on s.2 := by
  refine br_t (by decide) ?_
  exact yr_put (ch := 32) hs h
theorem yr_69 {post : SY → Prop} {J : Int32 → Int32 → Int32 → Int32 → Int32 → Int32 → Int32 → Int32 → (Nat → Int32) → (Nat → Int32) → (Nat → Int32) → (Nat → Int32) → (Nat → Int32) → (Nat → Int32) → (Nat → Int32) → (Nat → Int32) → (Nat → Int32) → (Nat → Int32) → (Nat → Int32) → (Nat → Int32) → (Nat → Int32) → (Nat → Int32) → Prop} {s : Nat × (Nat → Int32)} {x2 : Int32} {d j w : Nat} (hs : s.1 < 2 ^ 30) (hj : 10 ^ j < 2 ^ 31) (h : J 1 (nI (10 ^ j / 10)) (nI (w + 1)) f_cards f_lines f_present f_executed (nI (pr_t s (48 + d)).1) a_key a_part a_first a_second a_when a_condition a_op a_field a_px a_py a_constant a_work a_on ((pr_t s (48 + d)).2)) : wY_print_69 post J x2 1 (nI (10 ^ j)) (nI w) (nI d) f_cards f_lines f_present f_executed (nI s.1) a_key a_part a_first a_second a_when a_condition a_op a_field a_px a_py a_constant a_work a_on s.2 := by
  refine br_f (by decide) ?_
  have e : 48 + nI d = nI (48 + d) := nI_add 48 d
  rw [e]
  refine yr_put hs ?_
  refine And.intro sm_10 (nm_r (sm_div hj) (nm_r (nI_1 w) h))
theorem yr_50 {post : SY → Prop} {J : Int32 → Int32 → Int32 → Int32 → Int32 → Int32 → Int32 → Int32 → (Nat → Int32) → (Nat → Int32) → (Nat → Int32) → (Nat → Int32) → (Nat → Int32) → (Nat → Int32) → (Nat → Int32) → (Nat → Int32) → (Nat → Int32) → (Nat → Int32) → (Nat → Int32) → (Nat → Int32) → (Nat → Int32) → (Nat → Int32) → Prop} {s : Nat × (Nat → Int32)} {x3 : Int32} {m j w : Nat} (hm : m < 2 ^ 31) (hs : s.1 < 2 ^ 30) (hj : 10 ^ j < 2 ^ 31) (hw : w < 100)
    (h1 : (x3 = 1 ∨ da_k m j ≠ 0 ∨ w = 5) → J 1 (nI (10 ^ j / 10)) (nI (w + 1)) f_cards f_lines f_present f_executed (nI (pr_t s (48 + da_k m j)).1) a_key a_part a_first a_second a_when a_condition a_op a_field a_px a_py a_constant a_work a_on ((pr_t s (48 + da_k m j)).2))
    (h0 : x3 = 0 → da_k m j = 0 → w ≠ 5 → J 0 (nI (10 ^ j / 10)) (nI (w + 1)) f_cards f_lines f_present f_executed (nI s.1) a_key a_part a_first a_second a_when a_condition a_op a_field a_px a_py a_constant a_work a_on s.2) (hx : x3 = 0 ∨ x3 = 1) : wY_print_50 post J (nI m) x3 (nI (10 ^ j)) (nI w) (nI (10 ^ j)) (nI m) f_cards f_lines f_present f_executed (nI s.1) a_key a_part a_first a_second a_when a_condition a_op a_field a_px a_py a_constant a_work a_on s.2 := by
  have hp := da_pos j
  have ed : nI m / nI (10 ^ j) - nI m / nI (10 ^ j) / 10 * 10 = nI (da_k m j) := by
    rw [pk_div hm hp hj]
    exact sm_rem (Nat.lt_of_le_of_lt (Nat.div_le_self _ _) hm)
  have hd := da_lt m j
  refine And.intro (nI_ne0 hp hj) (And.intro sm_10 (nm_r ed ?_))
  refine pk_lt 0 (da_k m j) (fun hd0 => ?_) (fun hd0 => ?_)
  · exact yr_69 hs hj (h1 (Or.inr (Or.inl (by omega))))
  · refine pk_eq w 5 (fun h5 => ?_) (fun h5 => ?_)
    · exact yr_69 hs hj (h1 (Or.inr (Or.inr h5)))
    · rcases hx with z | z
      · subst z
        refine br_t rfl (And.intro sm_10 (nm_r (sm_div hj) (nm_r (nI_1 w) (h0 rfl (by omega) h5))))
      · subst z
        exact yr_69 hs hj (h1 (Or.inl rfl))
theorem yr_p (j : Nat) : 10 ^ (j + 1) / 10 = 10 ^ j := by
  rw [Nat.pow_succ]; exact Nat.mul_div_cancel _ (by decide)
theorem yr_j {j : Nat} (h : j < 6) : 10 ^ j < 2 ^ 31 := Nat.lt_of_le_of_lt (Nat.pow_le_pow_right (by decide) (show j ≤ 5 by omega)) (by decide)
theorem yr_dn {post : SY → Prop} {m : Nat} (hm : m < 2 ^ 31) : ∀ (j : Nat), j < 6 → ∀ s : Nat × (Nat → Int32), s.1 + j < 2 ^ 29 → post (f_cards, f_lines, f_present, f_executed, nI (pr_t (pr_dn m j s) 32).1, a_key, a_part, a_first, a_second, a_when, a_condition, a_op, a_field, a_px, a_py, a_constant, a_work, a_on, (pr_t (pr_dn m j s) 32).2) → wY_print_30 post (nI m) (j + 2) 1 (nI (10 ^ j)) (nI (5 - j)) f_cards f_lines f_present f_executed (nI s.1) a_key a_part a_first a_second a_when a_condition a_op a_field a_px a_py a_constant a_work a_on s.2 := by
  intro j
  induction j with
  | zero =>
    intro hj s hs h
    refine br_f (by decide) (br_t (by decide) (yr_50 (j := 0) (w := 5) hm (by omega) (by decide) (by omega) (fun _ => ?_) (fun z => absurd z (by decide)) (Or.inr rfl)))
    exact yr_end (s := pr_t s (48 + da_k m 0)) (by show s.1 + 1 < _; omega) h
  | succ j ih =>
    intro hj s hs h
    have h10 := yr_j hj
    refine br_f (nI_ge (b := 6) (by omega) (by omega)) (br_t (nI_le (a := 1) (da_pos _) h10) (yr_50 (w := 5 - (j + 1)) hm (by omega) h10 (by omega) (fun _ => ?_) (fun z => absurd z (by decide)) (Or.inr rfl)))
    rw [yr_p, show 5 - (j + 1) + 1 = 5 - j by omega]
    exact ih (by omega) (pr_t s (48 + da_k m (j + 1))) (by show s.1 + 1 + j < _; omega) h
theorem yr_sk {post : SY → Prop} {m : Nat} (hm : m < 2 ^ 31) : ∀ (j : Nat), j < 6 → ∀ s : Nat × (Nat → Int32), s.1 + j < 2 ^ 28 → post (f_cards, f_lines, f_present, f_executed, nI (pr_t (pr_sk m j s) 32).1, a_key, a_part, a_first, a_second, a_when, a_condition, a_op, a_field, a_px, a_py, a_constant, a_work, a_on, (pr_t (pr_sk m j s) 32).2) → wY_print_30 post (nI m) (j + 2) 0 (nI (10 ^ j)) (nI (5 - j)) f_cards f_lines f_present f_executed (nI s.1) a_key a_part a_first a_second a_when a_condition a_op a_field a_px a_py a_constant a_work a_on s.2 := by
  intro j
  induction j with
  | zero =>
    intro hj s hs h
    refine br_f (by decide) (br_t (by decide) (yr_50 (j := 0) (w := 5) hm (by omega) (by decide) (by omega) (fun _ => ?_) (fun _ _ z => absurd rfl z) (Or.inl rfl)))
    exact yr_end (s := pr_t s (48 + da_k m 0)) (by show s.1 + 1 < _; omega) h
  | succ j ih =>
    intro hj s hs h
    have h10 := yr_j hj
    have e : pr_sk m (j + 1) s = if da_k m (j + 1) = 0 then pr_sk m j s else pr_dn m (j + 1) s := rfl
    rw [e] at h
    refine br_f (nI_ge (b := 6) (by omega) (by omega)) (br_t (nI_le (a := 1) (da_pos _) h10) (yr_50 (w := 5 - (j + 1)) hm (by omega) h10 (by omega) (fun z => ?_) (fun _ z _ => ?_) (Or.inl rfl)))
    · have hz : da_k m (j + 1) ≠ 0 := by
        rcases z with z | z | z
        · exact absurd z (by decide)
        · exact z
        · omega
      rw [if_neg hz] at h
      rw [yr_p, show 5 - (j + 1) + 1 = 5 - j by omega]
      exact yr_dn hm j (by omega) (pr_t s (48 + da_k m (j + 1))) (by show s.1 + 1 + j < _; omega) h
    · rw [if_pos z] at h
      rw [yr_p, show 5 - (j + 1) + 1 = 5 - j by omega]
      exact ih (by omega) s (by omega) h
theorem yr_prt {post : SY → Prop} {v : Int32} {s : Nat × (Nat → Int32)} (hv : v.toInt.natAbs < 1000000) (hs : s.1 < 2 ^ 27) (h : post (f_cards, f_lines, f_present, f_executed, nI (pr_all v.toInt s).1, a_key, a_part, a_first, a_second, a_when, a_condition, a_op, a_field, a_px, a_py, a_constant, a_work, a_on, (pr_all v.toInt s).2)) : wpY_print post (f_cards, f_lines, f_present, f_executed, nI s.1, a_key, a_part, a_first, a_second, a_when, a_condition, a_op, a_field, a_px, a_py, a_constant, a_work, a_on, s.2) v := by
  have h0 : (0 : Int32).toInt = 0 := by decide
  have key : ∀ s' : Nat × (Nat → Int32), s'.1 < 2 ^ 28 - 5 → post (f_cards, f_lines, f_present, f_executed, nI (pr_t (pr_sk v.toInt.natAbs 5 s') 32).1, a_key, a_part, a_first, a_second, a_when, a_condition, a_op, a_field, a_px, a_py, a_constant, a_work, a_on, (pr_t (pr_sk v.toInt.natAbs 5 s') 32).2) → wY_print_10 post v f_cards f_lines f_present f_executed (nI s'.1) a_key a_part a_first a_second a_when a_condition a_op a_field a_px a_py a_constant a_work a_on s'.2 := by
    intro s' hs' h'
    have hl := yr_sk (post := post) (f_cards := f_cards) (f_lines := f_lines) (f_present := f_present) (f_executed := f_executed) (a_key := a_key) (a_part := a_part) (a_first := a_first) (a_second := a_second) (a_when := a_when) (a_condition := a_condition) (a_op := a_op) (a_field := a_field) (a_px := a_px) (a_py := a_py) (a_constant := a_constant) (a_work := a_work) (a_on := a_on) (m := v.toInt.natAbs) (by omega) 5 (by omega) s' (by omega) h'
    by_cases hn : v.toInt < 0
    · refine br_f (by rw [Int32.le_iff_toInt_le, h0]; omega) (nm_r (e' := nI v.toInt.natAbs) (sm_neg (by omega) (by omega)) ⟨7, hl⟩)
    · have ev : v = nI v.toInt.natAbs := sm_pos (by omega) (by omega)
      refine br_t (by rw [Int32.le_iff_toInt_le, h0]; omega) ⟨7, ?_⟩
      rw [← ev] at hl
      exact hl
  unfold wpY_print
  dsimp only
  unfold pr_all at h
  by_cases hn : v.toInt < 0
  · rw [if_pos hn] at h
    refine br_f (by rw [Int32.le_iff_toInt_le, h0]; omega) (yr_put (ch := 45) (by omega) ?_)
    exact key (pr_t s 45) (by show s.1 + 1 < _; omega) h
  · rw [if_neg hn] at h
    exact br_t (by rw [Int32.le_iff_toInt_le, h0]; omega) (key s (by omega) h)
end YR21
end
section
/-! the reference: a line -/
theorem yl_bm {z : Int} (h : z.natAbs < 2 ^ 62) : z.bmod (2 ^ 64) = z := Int.bmod_eq_of_le (by omega) (by omega)
theorem yl_add {a b : Int64} (h : (a.toInt + b.toInt).natAbs < 2 ^ 62) : (a + b).toInt = a.toInt + b.toInt := by rw [Int64.toInt_add, yl_bm h]
theorem yl_sub {a b : Int64} (h : (a.toInt - b.toInt).natAbs < 2 ^ 62) : (a - b).toInt = a.toInt - b.toInt := by rw [Int64.toInt_sub, yl_bm h]
theorem yl_mul {a b : Int64} (h : (a.toInt * b.toInt).natAbs < 2 ^ 62) : (a * b).toInt = a.toInt * b.toInt := by rw [Int64.toInt_mul, yl_bm h]
theorem yl_div {a b : Int64} (h : a.toInt.natAbs < 2 ^ 62) : (a / b).toInt = Int.tdiv a.toInt b.toInt := by
  rw [Int64.toInt_div, yl_bm (Nat.lt_of_le_of_lt (Int.natAbs_tdiv_le_natAbs _ _) h)]
theorem yl_M : (1000000 : Int64).toInt = 1000000 := by decide
theorem yl_rem {z : Int64} (h : z.toInt.natAbs < 2 ^ 60) : (z - z / 1000000 * 1000000).toInt32 = Int32.ofInt (Int.tmod z.toInt 1000000) := by
  have hb := ln_tb z.toInt
  have hd := Int.tmod_add_tdiv_mul z.toInt 1000000
  have e1 : (z / 1000000).toInt = Int.tdiv z.toInt 1000000 := by
    rw [yl_div (by omega), yl_M]
  have e2 : (z / 1000000 * 1000000).toInt = Int.tdiv z.toInt 1000000 * 1000000 := by
    rw [yl_mul (by rw [e1, yl_M]; omega), e1, yl_M]
  have e3 : (z - z / 1000000 * 1000000).toInt = Int.tmod z.toInt 1000000 := by
    rw [yl_sub (by rw [e2]; omega), e2]; omega
  apply Int32.toInt_inj.mp
  rw [Int64.toInt_toInt32, e3, Int32.toInt_ofInt_of_le (by omega) (by omega)]
  exact Int.bmod_eq_of_le (by omega) (by omega)
theorem yl_rs {z : Int64} {o : Nat} {x y : Int} (h : z.toInt = ln_val o x y) (hb : (ln_val o x y).natAbs < 2 ^ 60) : (z - z / 1000000 * 1000000).toInt32 = ln_rs o x y := by
  rw [yl_rem (by rw [h]; exact hb), h]; rfl
def yb_W (W : Nat → Int32) : Prop := ∀ j, (W j).toInt.natAbs < 1000000
theorem yb_ln {o w : Nat} {x y : Int} {W : Nat → Int32} (h : yb_W W) : yb_W (ln_W o w x y W) := by
  unfold ln_W
  split
  · intro j
    by_cases z : j = w
    · subst z
      rw [pk_us, ln_rt]
      have := ln_tb (ln_val o x y)
      omega
    · rw [pk_un z]; exact h j
  · exact h
theorem yb_i {T : ln_T} {cv : Nat → Int32} {i : Nat} {Y : ln_Y} (h : yb_W Y.1) : yb_W (ln_i T cv i Y).1 := by
  unfold ln_i ln_go
  split
  · exact yb_ln h
  · exact h
theorem yb_a {T : ln_T} {w : Nat} {cv : Nat → Int32} : ∀ (d i : Nat) (Y : ln_Y), yb_W Y.1 → yb_W (ln_all T w cv d i Y).1 := by
  intro d
  induction d with
  | zero => intro i Y h; exact h
  | succ d ih =>
    intro i Y h
    show yb_W (ln_all T w cv d (i + 1) (if tb_wh T i = w then ln_i T cv i Y else Y)).1
    refine ih _ _ ?_
    split
    · exact yb_i h
    · exact h
def yr_pe (pe : Int32) (ak ap af as cv : Nat → Int32) : Prop := (pe = -1 ∧ cv = fun _ => 0) ∨ ∃ k, k < 16 ∧ pe = nI k ∧ cv = rn_c ak ap af as k
theorem yb_s {x : Nat} {W cv : Nat → Int32} {cn : Int32} (h : yb_W W) (hc : yb_W cv) (hn : cn.toInt.natAbs ≤ 999) : (ln_sv x W cv cn).toInt.natAbs < 1000000 := by
  unfold ln_sv
  split
  · exact h _
  · split
    · exact hc _
    · omega
theorem yb_c {ak ap af as : Nat → Int32} {k : Nat} (h : cd_ok ak ap af as) : yb_W (rn_c ak ap af as k) := by
  intro j
  have := h k
  unfold rn_c
  split
  · omega
  · split
    · omega
    · split <;> omega
theorem yb_0 : yb_W (fun _ => 0) := fun _ => (by decide : (0 : Int32).toInt.natAbs < 1000000)
section YR22
variable {f_cards f_lines f_present f_executed f_printed : Int32} {a_key a_part a_first a_second a_when a_condition a_op a_field a_px a_py a_constant a_work a_on a_text : Nat → Int32}
theorem yr_src {post : Int32 → Prop} {cv : Nat → Int32} {x i : Nat} (hi : i < 14) (hx : x ≤ 10) (hp : yr_pe f_present a_key a_part a_first a_second cv) (h : post (ln_sv x a_work cv (a_constant i))) : wpY_source post (f_cards, f_lines, f_present, f_executed, f_printed, a_key, a_part, a_first, a_second, a_when, a_condition, a_op, a_field, a_px, a_py, a_constant, a_work, a_on, a_text) (nI x) (nI i) := by
  unfold wpY_source
  dsimp only
  unfold ln_sv at h
  refine pk_le 6 x (fun h6 => ?_) (fun h6 => ?_)
  · rw [if_neg (by omega)] at h
    refine pk_eq x 10 (fun h10 => ?_) (fun h10 => ?_)
    · rw [if_neg (by omega)] at h
      refine And.intro (vp_in_nI hi (by omega)) ?_
      rw [nI_clamp (by omega)]
      exact h
    · rw [if_pos (by omega)] at h
      rcases hp with ⟨e1, e2⟩ | ⟨k, hk, e1, e2⟩
      · rw [e1]
        rw [e2] at h
        exact br_f (by decide) h
      · subst e1 e2
        have hin : vp_in (nI k) 16 := vp_in_nI hk (by omega)
        have hcl : (nI k).toNatClampNeg = k := nI_clamp (by omega)
        rw [hcl]
        refine br_t (nI_pos' (by omega)) ?_
        unfold rn_c at h
        refine pk_eq x 6 (fun z => ?_) (fun z => ?_)
        · subst z
          exact And.intro hin h
        · rw [if_neg (by omega)] at h
          refine pk_eq x 7 (fun z => ?_) (fun z => ?_)
          · subst z
            exact And.intro hin h
          · rw [if_neg (by omega)] at h
            refine pk_eq x 8 (fun z => ?_) (fun z => ?_)
            · subst z
              exact And.intro hin h
            · rw [if_neg (by omega)] at h
              exact And.intro hin h
  · rw [if_pos h6] at h
    refine And.intro (vp_in_nI h6 (by omega)) ?_
    rw [nI_clamp (by omega)]
    exact h
theorem yr_met {post : Int32 → Prop} {c : Nat} (hc : c ≤ 8) (h1 : ln_met c a_on = true → post 1) (h0 : ¬ ln_met c a_on = true → post 0) : wpY_isMet post (f_cards, f_lines, f_present, f_executed, f_printed, a_key, a_part, a_first, a_second, a_when, a_condition, a_op, a_field, a_px, a_py, a_constant, a_work, a_on, a_text) (nI c) := by
  have em : ∀ k, k < 4 → nI k &&& 3 = nI k := by
    intro k hk
    rw [pk_andN (by omega) 2 (by decide)]
    exact congrArg nI (by omega)
  unfold ln_met at h1 h0
  unfold wpY_isMet
  dsimp only
  refine pk_eq c 0 (fun z => ?_) (fun z => ?_)
  · rw [if_pos z] at h1
    exact h1 rfl
  · rw [if_neg z] at h1 h0
    refine pk_le 5 c (fun h5 => ?_) (fun h5 => ?_)
    · rw [if_neg (by omega)] at h1 h0
      have e : (nI c - 5) &&& 3 = nI (c - 5) := by
        rw [show nI c - 5 = nI (c - 5) from pk_sub (b := 5) h5]
        exact em _ (by omega)
      rw [e, nI_clamp (by omega)]
      refine And.intro (vp_in_nI (by omega) (by omega)) (br_c (fun hz => h1 ?_) (fun hz => h0 ?_))
      · rw [decide_eq_true_eq]; exact hz
      · rw [decide_eq_true_eq]; exact hz
    · rw [if_pos (by omega)] at h1 h0
      have e : (nI c - 1) &&& 3 = nI (c - 1) := by
        rw [show nI c - 1 = nI (c - 1) from pk_sub (b := 1) (by omega)]
        exact em _ (by omega)
      rw [e, nI_clamp (by omega)]
      refine And.intro (vp_in_nI (by omega) (by omega)) (br_c (fun hz => h0 ?_) (fun hz => h1 ?_))
      · rw [decide_eq_true hz]; decide
      · rw [decide_eq_false hz]; rfl
/-- the tail of the first five -/
theorem yr_166 {post : SY → Prop} {x3 : Int32} {x4 x6 : Int64} {o : Nat} (ho : o ≤ 4) (h : post (f_cards, f_lines, f_present, f_executed, f_printed, a_key, a_part, a_first, a_second, a_when, a_condition, a_op, a_field, a_px, a_py, a_constant, a_work, a_on, a_text)) : wY_execute_166 post (nI o) x3 x4 x6 f_cards f_lines f_present f_executed f_printed a_key a_part a_first a_second a_when a_condition a_op a_field a_px a_py a_constant a_work a_on a_text := by
  have hn : ∀ b : Nat, 4 < b → b < 2 ^ 31 → ¬ nI o = nI b := fun b h1 h2 z => by
    rw [nI_eq (by omega) h2] at z
    omega
  exact br_f (hn 5 (by omega) (by omega)) (br_f (hn 6 (by omega) (by omega)) (br_f (hn 7 (by omega) (by omega)) (br_f (hn 8 (by omega) (by omega)) (br_f (hn 9 (by omega) (by omega)) h))))
theorem yr_151 {post : SY → Prop} {x4 x6 z : Int64} {o w : Nat} {x y : Int} (ho : o ≤ 4) (hw : w < 6) (hz : z.toInt = ln_val o x y) (hb : (ln_val o x y).natAbs < 2 ^ 60) (h : post (f_cards, f_lines, f_present, f_executed, f_printed, a_key, a_part, a_first, a_second, a_when, a_condition, a_op, a_field, a_px, a_py, a_constant, upd a_work w (ln_rs o x y), a_on, a_text)) : wY_execute_151 post (nI o) (nI w) x4 x6 z f_cards f_lines f_present f_executed f_printed a_key a_part a_first a_second a_when a_condition a_op a_field a_px a_py a_constant a_work a_on a_text := by
  refine And.intro (by decide) (And.intro (vp_in_nI hw (by omega)) (nm_r (e' := upd a_work w (ln_rs o x y)) ?_ (yr_166 ho h)))
  rw [nI_clamp (by omega), yl_rs hz hb]
theorem yr_ex {post : SY → Prop} {T : ln_T} {cv : Nat → Int32} {i ex : Nat} {s : Nat × (Nat → Int32)} (hi : i < 14) (tb : tb_ok T) (hT : tb_X T a_when a_condition a_op a_field a_px a_py) (hcs : ∀ i, a_constant i = tb_cs T i) (hp : yr_pe f_present a_key a_part a_first a_second cv) (hW : yb_W a_work) (hcv : yb_W cv) (hs : s.1 < 2 ^ 27)
    (h : post (f_cards, f_lines, f_present, nI (ex + 1), nI (ln_s (tb_op T i) (ln_sv (tb_fx T i) a_work cv (tb_cs T i)).toInt s).1, a_key, a_part, a_first, a_second, a_when, a_condition, a_op, a_field, a_px, a_py, a_constant, ln_W (tb_op T i) (tb_fw T i) (ln_sv (tb_fx T i) a_work cv (tb_cs T i)).toInt (ln_sv (tb_fy T i) a_work cv (tb_cs T i)).toInt a_work, ln_on (tb_op T i) (tb_fw T i) (ln_sv (tb_fx T i) a_work cv (tb_cs T i)).toInt (ln_sv (tb_fy T i) a_work cv (tb_cs T i)).toInt a_on, (ln_s (tb_op T i) (ln_sv (tb_fx T i) a_work cv (tb_cs T i)).toInt s).2)) : wpY_execute post (f_cards, f_lines, f_present, nI ex, nI s.1, a_key, a_part, a_first, a_second, a_when, a_condition, a_op, a_field, a_px, a_py, a_constant, a_work, a_on, s.2) (nI i) := by
  obtain ⟨t1, t2, t3, t4, t5, t6, t7, t8⟩ := tb i
  obtain ⟨_, hcd, hop, hfw, hfx, hfy⟩ := hT
  have hin : vp_in (nI i) 14 := vp_in_nI hi (by omega)
  have hcl : (nI i).toNatClampNeg = i := nI_clamp (by omega)
  have bx := yb_s (x := tb_fx T i) hW hcv t8
  have by' := yb_s (x := tb_fy T i) hW hcv t8
  unfold wpY_execute
  dsimp only
  simp only [hcl, hop i, hfw i, hfx i, hfy i]
  refine And.intro hin (nm_e (And.intro hin (nm_e (And.intro hin (yr_src hi t6 hp (And.intro hin (yr_src hi t7 hp (nm_r (nI_1 ex) ?_))))))))
  rw [hcs i]
  revert h
  generalize ln_sv (tb_fx T i) a_work cv (tb_cs T i) = vx at bx ⊢
  generalize ln_sv (tb_fy T i) a_work cv (tb_cs T i) = vy at by' ⊢
  have ho := t3
  have hw : tb_fw T i < 6 := by omega
  have how := t5
  revert ho hw how
  generalize tb_op T i = o
  generalize tb_fw T i = w
  intro ho hw how h
  have ex4 : vx.toInt64.toInt = vx.toInt := Int32.toInt_toInt64 vx
  have ey4 : vy.toInt64.toInt = vy.toInt := Int32.toInt_toInt64 vy
  have l0 : (0 : Int64).toInt = 0 := by decide
  have hy0 : vy.toInt64 = 0 ↔ vy.toInt = 0 := by rw [← Int64.toInt_inj, ey4, l0]
  have cs10 : o = 0 ∨ o = 1 ∨ o = 2 ∨ o = 3 ∨ o = 4 ∨ o = 5 ∨ o = 6 ∨ o = 7 ∨ o = 8 ∨ o = 9 := by omega
  rcases cs10 with z | z | z | z | z | z | z | z | z | z
  all_goals subst z
  · refine br_f (by decide) (br_f (by decide) (br_t rfl ?_))
    exact yr_151 (o := 0) (x := vx.toInt) (y := vy.toInt) (by omega) hw ex4 (show vx.toInt.natAbs < 2 ^ 60 by omega) h
  · refine br_f (by decide) (br_f (by decide) (br_f (by decide) (br_t rfl ?_)))
    refine yr_151 (o := 1) (x := vx.toInt) (y := vy.toInt) (by omega) hw ?_ (show (vx.toInt + vy.toInt).natAbs < 2 ^ 60 by omega) h
    rw [yl_add (by rw [ex4, ey4]; omega), ex4, ey4]; rfl
  · refine br_f (by decide) (br_f (by decide) (br_f (by decide) (br_f (by decide) (br_t rfl ?_))))
    refine yr_151 (o := 2) (x := vx.toInt) (y := vy.toInt) (by omega) hw ?_ (show (vx.toInt - vy.toInt).natAbs < 2 ^ 60 by omega) h
    rw [yl_sub (by rw [ex4, ey4]; omega), ex4, ey4]; rfl
  · refine br_f (by decide) (br_f (by decide) (br_f (by decide) (br_f (by decide) (br_f (by decide) (br_t rfl ?_)))))
    have hm : (vx.toInt * vy.toInt).natAbs < 2 ^ 60 := by
      rw [Int.natAbs_mul]
      exact Nat.lt_of_le_of_lt (Nat.mul_le_mul (Nat.le_of_lt bx) (Nat.le_of_lt by')) (by decide)
    refine yr_151 (o := 3) (x := vx.toInt) (y := vy.toInt) (by omega) hw ?_ hm h
    rw [yl_mul (by rw [ex4, ey4]; omega), ex4, ey4]; rfl
  · refine br_t rfl ?_
    by_cases hz : vy.toInt = 0
    · have hz4 : vy.toInt64 = 0 := hy0.mpr hz
      have ev : ln_val 4 vx.toInt vy.toInt = 0 := if_pos hz
      have eo : ln_on 4 w vx.toInt vy.toInt a_on = upd a_on 3 1 := if_pos hz
      rw [eo] at h
      refine br_t hz4 (nm_r (e' := upd a_on 3 1) (by rw [sm_t1]) ?_)
      refine br_f (by decide) (br_f (by decide) (br_f (by decide) (br_f (by decide) (br_f (by decide) (br_t hz4 ?_)))))
      exact yr_151 (o := 4) (x := vx.toInt) (y := vy.toInt) (by omega) hw (by rw [ev]; exact l0) (by rw [ev]; decide) h
    · have hz4 : ¬ vy.toInt64 = 0 := fun z => hz (hy0.mp z)
      have ev : ln_val 4 vx.toInt vy.toInt = Int.tdiv vx.toInt vy.toInt := if_neg hz
      have eo : ln_on 4 w vx.toInt vy.toInt a_on = a_on := if_neg hz
      rw [eo] at h
      refine br_f hz4 ?_
      refine br_f (by decide) (br_f (by decide) (br_f (by decide) (br_f (by decide) (br_f (by decide) (br_f hz4 (br_f hz4 (And.intro hz4 ?_)))))))
      refine yr_151 (o := 4) (x := vx.toInt) (y := vy.toInt) (by omega) hw ?_ ?_ h
      · rw [yl_div (by rw [ex4]; omega), ex4, ey4, ev]
      · rw [ev]
        exact Nat.lt_of_le_of_lt (Int.natAbs_tdiv_le_natAbs _ _) (by omega)
  · refine br_f (by decide) (br_t (by decide) (br_t rfl ?_))
    have hle : vx.toInt64 ≤ vy.toInt64 ↔ vx.toInt ≤ vy.toInt := by rw [Int64.le_iff_toInt_le, ex4, ey4]
    have hge : vy.toInt64 ≤ vx.toInt64 ↔ vy.toInt ≤ vx.toInt := by rw [Int64.le_iff_toInt_le, ex4, ey4]
    have heq : vx.toInt64 = vy.toInt64 ↔ vx.toInt = vy.toInt := by rw [← Int64.toInt_inj, ex4, ey4]
    have tl : ∀ on' : Nat → Int32, post (f_cards, f_lines, f_present, nI (ex + 1), nI s.1, a_key, a_part, a_first, a_second, a_when, a_condition, a_op, a_field, a_px, a_py, a_constant, a_work, on', s.2) → wY_execute_228 post (nI 5) (nI w) vx.toInt64 f_cards f_lines f_present (nI (ex + 1)) (nI s.1) a_key a_part a_first a_second a_when a_condition a_op a_field a_px a_py a_constant a_work on' s.2 := fun on' hh => br_f (by decide) (br_f (by decide) (br_f (by decide) (br_f (by decide) hh)))
    have e5 : ln_on 5 w vx.toInt vy.toInt a_on = upd (upd (upd a_on 0 (if vy.toInt < vx.toInt then 1 else 0)) 1 (if vx.toInt < vy.toInt then 1 else 0)) 2 (if vx.toInt = vy.toInt then 1 else 0) := rfl
    rw [e5] at h
    rcases Int.lt_trichotomy vx.toInt vy.toInt with c | c | c
    · rw [if_neg (by omega), if_pos c, if_neg (by omega)] at h
      refine br_t (hle.mpr (by omega)) (And.intro (vp_in_nI (n := 0) (by omega) (by omega)) (nm_r (e' := upd a_on 0 0) (by rw [sm_t0]; rfl) (br_f (fun q => by have := hge.mp q; omega) (And.intro (vp_in_nI (n := 1) (by omega) (by omega)) (nm_r (e' := upd (upd a_on 0 0) 1 1) (by rw [sm_t1]; rfl) (br_f (fun q => by have := heq.mp q; omega) (And.intro (vp_in_nI (n := 2) (by omega) (by omega)) (nm_r (e' := upd (upd (upd a_on 0 0) 1 1) 2 0) (by rw [sm_t0]; rfl) (tl _ h)))))))))
    · rw [if_neg (by omega), if_neg (by omega), if_pos c] at h
      refine br_t (hle.mpr (by omega)) (And.intro (vp_in_nI (n := 0) (by omega) (by omega)) (nm_r (e' := upd a_on 0 0) (by rw [sm_t0]; rfl) (br_t (hge.mpr (by omega)) (And.intro (vp_in_nI (n := 1) (by omega) (by omega)) (nm_r (e' := upd (upd a_on 0 0) 1 0) (by rw [sm_t0]; rfl) (br_t (heq.mpr c) (And.intro (vp_in_nI (n := 2) (by omega) (by omega)) (nm_r (e' := upd (upd (upd a_on 0 0) 1 0) 2 1) (by rw [sm_t1]; rfl) (tl _ h)))))))))
    · rw [if_pos c, if_neg (by omega), if_neg (by omega)] at h
      refine br_f (fun q => by have := hle.mp q; omega) (And.intro (vp_in_nI (n := 0) (by omega) (by omega)) (nm_r (e' := upd a_on 0 1) (by rw [sm_t1]; rfl) (br_t (hge.mpr (by omega)) (And.intro (vp_in_nI (n := 1) (by omega) (by omega)) (nm_r (e' := upd (upd a_on 0 1) 1 0) (by rw [sm_t0]; rfl) (br_f (fun q => by have := heq.mp q; omega) (And.intro (vp_in_nI (n := 2) (by omega) (by omega)) (nm_r (e' := upd (upd (upd a_on 0 1) 1 0) 2 0) (by rw [sm_t0]; rfl) (tl _ h)))))))))
  · have hw4 : w < 4 := by have := how (Or.inl rfl); omega
    have e : nI w &&& 3 = nI w := by
      rw [pk_andN (by omega) 2 (by decide)]
      exact congrArg nI (by omega)
    refine br_f (by decide) (br_t (by decide) (br_f (by decide) (br_t rfl (br_t rfl ?_))))
    rw [e]
    refine And.intro (vp_in_nI hw4 (by omega)) (nm_r (e' := upd a_on w 1) (by rw [nI_clamp (by omega), sm_t1]) ?_)
    exact br_f (by decide) (br_f (by decide) h)
  · have hw4 : w < 4 := by have := how (Or.inr rfl); omega
    have e : nI w &&& 3 = nI w := by
      rw [pk_andN (by omega) 2 (by decide)]
      exact congrArg nI (by omega)
    refine br_f (by decide) (br_t (by decide) (br_f (by decide) (br_f (by decide) (br_t rfl (br_f (by decide) ?_)))))
    rw [e]
    refine And.intro (vp_in_nI hw4 (by omega)) (nm_r (e' := upd a_on w 0) (by rw [nI_clamp (by omega), sm_t0]) ?_)
    exact br_f (by decide) (br_f (by decide) h)
  · refine br_f (by decide) (br_t (by decide) (br_f (by decide) (br_f (by decide) (br_f (by decide) (br_t rfl ?_)))))
    rw [Int32.toInt32_toInt64]
    refine yr_prt bx hs ?_
    exact br_f (by decide) h
  · refine br_f (by decide) (br_t (by decide) (br_f (by decide) (br_f (by decide) (br_f (by decide) (br_f (by decide) (br_t rfl ?_))))))
    exact yr_put (ch := 10) (by omega) h
end YR22
end
section
/-! the reference: all lines of a kind; the run -/
def rn_w0 (W : Nat → Int32) : Nat → Int32 := upd (upd (upd (upd (upd (upd W 0 0) 1 0) 2 0) 3 0) 4 0) 5 0
def rn_o0 (on : Nat → Int32) : Nat → Int32 := upd (upd (upd (upd on 0 0) 1 0) 2 0) 3 0
section YR23
variable {f_cards f_lines f_present f_executed f_printed : Int32} {a_key a_part a_first a_second a_when a_condition a_op a_field a_px a_py a_constant a_work a_on a_text : Nat → Int32}
theorem yr_al {post : SY → Prop} {T : ln_T} {cv : Nat → Int32} {lc w : Nat} (hlc : lc ≤ 14) (hw : w < 4) (tb : tb_ok T) (hT : tb_X T a_when a_condition a_op a_field a_px a_py) (hcs : ∀ i, a_constant i = tb_cs T i) (hp : yr_pe f_present a_key a_part a_first a_second cv) (hcv : yb_W cv) : ∀ (d i : Nat) (Y : ln_Y), i + d = lc → yb_W Y.1 → Y.2.2.2.1 + 8 * d < 2 ^ 27 → post (f_cards, nI lc, f_present, nI (ln_all T w cv d i Y).2.2.1, nI (ln_all T w cv d i Y).2.2.2.1, a_key, a_part, a_first, a_second, a_when, a_condition, a_op, a_field, a_px, a_py, a_constant, (ln_all T w cv d i Y).1, (ln_all T w cv d i Y).2.1, (ln_all T w cv d i Y).2.2.2.2) → wY_all_2 post (nI w) (d + 1) (nI i) f_cards (nI lc) f_present (nI Y.2.2.1) (nI Y.2.2.2.1) a_key a_part a_first a_second a_when a_condition a_op a_field a_px a_py a_constant Y.1 Y.2.1 Y.2.2.2.2 := by
  intro d
  induction d with
  | zero =>
    intro i Y hid hb hpc h
    exact br_t (nI_le (by omega) (by omega)) h
  | succ d ih =>
    intro i Y hid hb hpc h
    have ea : ln_all T w cv (d + 1) i Y = ln_all T w cv d (i + 1) (if tb_wh T i = w then ln_i T cv i Y else Y) := rfl
    rw [ea] at h
    have hcl : (nI i).toNatClampNeg = i := nI_clamp (by omega)
    have hin : vp_in (nI i) 14 := vp_in_nI (by omega) (by omega)
    have ht := tb i
    refine br_f (nI_ge (by omega) (by omega)) (And.intro hin ?_)
    rw [hcl, hT.1 i, hT.2.1 i]
    refine pk_eq (tb_wh T i) w (fun e => ?_) (fun e => ?_)
    · rw [if_pos e] at h
      refine And.intro hin (yr_met ht.2.1 (fun hm => ?_) (fun hm => ?_))
      · have el : ln_i T cv i Y = ln_ex (tb_op T i) (tb_fw T i) (ln_sv (tb_fx T i) Y.1 cv (tb_cs T i)).toInt (ln_sv (tb_fy T i) Y.1 cv (tb_cs T i)).toInt Y := if_pos hm
        have hb1 := yb_i (T := T) (cv := cv) (i := i) hb
        have hb2 := ln_i1 (T := T) (cv := cv) (i := i) (Y := Y)
        rw [el] at h hb1 hb2
        refine br_f (by decide) (yr_ex (s := Y.2.2.2) (by omega) tb hT hcs hp hb hcv (by omega) ?_)
        refine nm_r (nI_1 i) ?_
        exact ih (i + 1) _ (by omega) hb1 (by omega) h
      · have el : ln_i T cv i Y = Y := if_neg hm
        rw [el] at h
        exact br_t rfl (nm_r (nI_1 i) (ih (i + 1) Y (by omega) hb (by omega) h))
    · rw [if_neg e] at h
      exact nm_r (nI_1 i) (ih (i + 1) Y (by omega) hb (by omega) h)
theorem yr_all {post : SY → Prop} {T : ln_T} {cv : Nat → Int32} {lc w : Nat} {Y : ln_Y} (hlc : lc ≤ 14) (hw : w < 4) (tb : tb_ok T) (hT : tb_X T a_when a_condition a_op a_field a_px a_py) (hcs : ∀ i, a_constant i = tb_cs T i) (hp : yr_pe f_present a_key a_part a_first a_second cv) (hcv : yb_W cv) (hb : yb_W Y.1) (hpc : Y.2.2.2.1 < 2 ^ 26) (h : post (f_cards, nI lc, f_present, nI (ln_all T w cv lc 0 Y).2.2.1, nI (ln_all T w cv lc 0 Y).2.2.2.1, a_key, a_part, a_first, a_second, a_when, a_condition, a_op, a_field, a_px, a_py, a_constant, (ln_all T w cv lc 0 Y).1, (ln_all T w cv lc 0 Y).2.1, (ln_all T w cv lc 0 Y).2.2.2.2)) : wpY_all post (f_cards, nI lc, f_present, nI Y.2.2.1, nI Y.2.2.2.1, a_key, a_part, a_first, a_second, a_when, a_condition, a_op, a_field, a_px, a_py, a_constant, Y.1, Y.2.1, Y.2.2.2.2) (nI w) :=
  ⟨lc + 1, yr_al hlc hw tb hT hcs hp hcv lc 0 Y (by omega) hb (by omega) h⟩
/-- the loop from the card k (its lines done) on -/
theorem yr_cl {post : Int32 → SY → Prop} {T : ln_T} {lc n : Nat} (hlc : lc ≤ 14) (hn16 : n ≤ 16) (tb : tb_ok T) (hT : tb_X T a_when a_condition a_op a_field a_px a_py) (hcs : ∀ i, a_constant i = tb_cs T i) (hC : cd_ok a_key a_part a_first a_second) : ∀ (d k : Nat) (Y : ln_Y), k + 1 + d = n → yb_W Y.1 → Y.2.2.2.1 + 400 * d < 2 ^ 25 →
    (∀ pe : Int32, post (nI (rn_l T lc a_key a_part a_first a_second d k Y).2.2.1) (nI n, nI lc, pe, nI (rn_l T lc a_key a_part a_first a_second d k Y).2.2.1, nI (rn_l T lc a_key a_part a_first a_second d k Y).2.2.2.1, a_key, a_part, a_first, a_second, a_when, a_condition, a_op, a_field, a_px, a_py, a_constant, (rn_l T lc a_key a_part a_first a_second d k Y).1, (rn_l T lc a_key a_part a_first a_second d k Y).2.1, (rn_l T lc a_key a_part a_first a_second d k Y).2.2.2.2)) → wY_run_58 post (d + 2) (nI (k + 1)) (nI n) (nI lc) (nI k) (nI Y.2.2.1) (nI Y.2.2.2.1) a_key a_part a_first a_second a_when a_condition a_op a_field a_px a_py a_constant Y.1 Y.2.1 Y.2.2.2.2 := by
  have hcv : ∀ k, yb_W (rn_c a_key a_part a_first a_second k) := fun k => yb_c hC
  intro d
  induction d with
  | zero =>
    intro k Y hk hb hpc h
    have b1 := ln_all1 (T := T) (w := 1) (cv := rn_c a_key a_part a_first a_second k) lc 0 Y
    have b2 := ln_all1 (T := T) (w := 2) (cv := rn_c a_key a_part a_first a_second k) lc 0 (ln_all T 1 (rn_c a_key a_part a_first a_second k) lc 0 Y)
    have y1 := yb_a (T := T) (w := 1) (cv := rn_c a_key a_part a_first a_second k) lc 0 Y hb
    have y2 := yb_a (T := T) (w := 2) (cv := rn_c a_key a_part a_first a_second k) lc 0 _ y1
    have hp : yr_pe (nI k) a_key a_part a_first a_second (rn_c a_key a_part a_first a_second k) := Or.inr ⟨k, by omega, rfl, rfl⟩
    refine br_f (nI_nlt (by omega) (by omega)) (br_t (by rw [show k + 1 = n by omega]) ?_)
    refine br_f (nI_pos (by omega)) (br_f (by decide) (br_f (by decide) ?_))
    refine yr_all (w := 1) hlc (by omega) tb hT hcs hp (hcv k) hb (by omega) ?_
    refine br_f (by decide) ?_
    refine yr_all (w := 2) hlc (by omega) tb hT hcs hp (hcv k) y1 (by omega) ?_
    refine br_f (by decide) (nm_r (nI_1 (k + 1)) ?_)
    refine br_t (nI_lt (by omega) (by omega)) ?_
    refine yr_all (w := 3) hlc (by omega) tb hT hcs hp (hcv k) y2 (by omega) ?_
    exact h (nI k)
  | succ d ih =>
    intro k Y hk hb hpc h
    have em : rn_l T lc a_key a_part a_first a_second (d + 1) k Y = rn_l T lc a_key a_part a_first a_second d (k + 1) (rn_s T lc a_key a_part a_first a_second k Y) := rfl
    rw [em] at h
    have b1 := ln_all1 (T := T) (w := 1) (cv := rn_c a_key a_part a_first a_second k) lc 0 Y
    have b2 := ln_all1 (T := T) (w := 2) (cv := rn_c a_key a_part a_first a_second k) lc 0 (ln_all T 1 (rn_c a_key a_part a_first a_second k) lc 0 Y)
    have y1 := yb_a (T := T) (w := 1) (cv := rn_c a_key a_part a_first a_second k) lc 0 Y hb
    have y2 := yb_a (T := T) (w := 2) (cv := rn_c a_key a_part a_first a_second k) lc 0 _ y1
    have hp : yr_pe (nI k) a_key a_part a_first a_second (rn_c a_key a_part a_first a_second k) := Or.inr ⟨k, by omega, rfl, rfl⟩
    have hin : vp_in (nI (k + 1)) 16 := vp_in_nI (by omega) (by omega)
    have hink : vp_in (nI k) 16 := vp_in_nI (by omega) (by omega)
    have hc1 : (nI (k + 1)).toNatClampNeg = k + 1 := nI_clamp (by omega)
    have hck : (nI k).toNatClampNeg = k := nI_clamp (by omega)
    have e15 : nI (k + 1) &&& 15 = nI (k + 1) := by
      rw [pk_andN (by omega) 4 (by decide)]
      exact congrArg nI (by omega)
    have hpos : ¬ nI k < 0 := nI_pos (by omega)
    have fin : ∀ Y2 : ln_Y, Y2.2.2.2.1 ≤ Y.2.2.2.1 + 224 → yb_W Y2.1 → rn_s T lc a_key a_part a_first a_second k Y = ln_all T 0 (rn_c a_key a_part a_first a_second (k + 1)) lc 0 Y2 → wY_run_161 post (wY_run_58 post (d + 2)) (nI (k + 1)) 0 (nI n) (nI lc) (nI k) (nI Y2.2.2.1) (nI Y2.2.2.2.1) a_key a_part a_first a_second a_when a_condition a_op a_field a_px a_py a_constant Y2.1 Y2.2.1 Y2.2.2.2.2 := by
      intro Y2 hb2 hy2 hY2
      rw [hY2] at h
      have b0 := ln_all1 (T := T) (w := 0) (cv := rn_c a_key a_part a_first a_second (k + 1)) lc 0 Y2
      have y0 := yb_a (T := T) (w := 0) (cv := rn_c a_key a_part a_first a_second (k + 1)) lc 0 Y2 hy2
      refine br_t rfl ?_
      refine yr_all (w := 0) hlc (by omega) tb hT hcs (Or.inr ⟨k + 1, by omega, rfl, rfl⟩) (hcv (k + 1)) hy2 (by omega) ?_
      refine nm_r (nI_1 (k + 1)) ?_
      exact ih (k + 1) _ (by omega) y0 (by omega) h
    refine br_f (nI_nlt (by omega) (by omega)) (br_f (fun z => by rw [nI_eq (by omega) (by omega)] at z; omega) ?_)
    refine br_f hpos (br_t rfl (And.intro hin (And.intro hink ?_)))
    rw [hc1, hck]
    by_cases hpt : a_part (k + 1) = a_part k
    · refine br_t hpt ?_
      refine br_t rfl (br_f hpos ?_)
      rw [e15, hc1, hck]
      refine And.intro hin (And.intro hink ?_)
      by_cases hky : a_key (k + 1) = a_key k
      · refine br_t hky (br_t rfl (fin Y (by omega) hb ?_))
        unfold rn_s
        rw [if_pos hpt, if_pos hky]
      · refine br_f hky ?_
        refine yr_all (w := 1) hlc (by omega) tb hT hcs hp (hcv k) hb (by omega) ?_
        refine br_t rfl (fin _ (by omega) y1 ?_)
        unfold rn_s
        rw [if_pos hpt, if_neg hky]
    · refine br_f hpt ?_
      refine br_f (by decide) ?_
      refine yr_all (w := 1) hlc (by omega) tb hT hcs hp (hcv k) hb (by omega) ?_
      refine br_f (by decide) ?_
      refine yr_all (w := 2) hlc (by omega) tb hT hcs hp (hcv k) y1 (by omega) ?_
      refine fin _ (by omega) y2 ?_
      unfold rn_s
      rw [if_neg hpt]
theorem yr_run {post : Int32 → SY → Prop} {T : ln_T} {lc n : Nat} (hlc : lc ≤ 14) (hn16 : n ≤ 16) (tb : tb_ok T) (hT : tb_X T a_when a_condition a_op a_field a_px a_py) (hcs : ∀ i, a_constant i = tb_cs T i) (hC : cd_ok a_key a_part a_first a_second) (hW : yb_W a_work)
    (h : ∀ (pe : Int32) (Z : ln_Y), Z = rn_Y T lc n a_key a_part a_first a_second (rn_w0 a_work, rn_o0 a_on, 0, 0, a_text) → post (nI Z.2.2.1) (nI n, nI lc, pe, nI Z.2.2.1, nI Z.2.2.2.1, a_key, a_part, a_first, a_second, a_when, a_condition, a_op, a_field, a_px, a_py, a_constant, Z.1, Z.2.1, Z.2.2.2.2)) : wpY_run post (nI n, nI lc, f_present, f_executed, f_printed, a_key, a_part, a_first, a_second, a_when, a_condition, a_op, a_field, a_px, a_py, a_constant, a_work, a_on, a_text) := by
  have hW0 : yb_W (rn_w0 a_work) := by
    have hu : ∀ (W : Nat → Int32) (j : Nat), yb_W W → yb_W (upd W j 0) := by
      intro W j hw i
      by_cases z : i = j
      · subst z; rw [pk_us]; decide
      · rw [pk_un z]; exact hw i
    exact hu _ _ (hu _ _ (hu _ _ (hu _ _ (hu _ _ (hu _ _ hW)))))
  have key : ∃ n58 : Nat, wY_run_58 post n58 0 (nI n) (nI lc) ((-1)) 0 0 a_key a_part a_first a_second a_when a_condition a_op a_field a_px a_py a_constant (rn_w0 a_work) (rn_o0 a_on) a_text := by
    by_cases hn0 : n = 0
    · subst hn0
      have e : rn_Y T lc 0 a_key a_part a_first a_second (rn_w0 a_work, rn_o0 a_on, 0, 0, a_text) = ln_all T 3 (fun _ => 0) lc 0 (rn_w0 a_work, rn_o0 a_on, 0, 0, a_text) := if_pos rfl
      refine ⟨2, br_f (by decide) (br_t rfl ?_)⟩
      refine br_t (by decide) (br_t rfl (br_t (by decide) (br_t rfl (br_f (by decide) (nm_r (e' := 1) rfl (br_t (by decide) ?_))))))
      exact yr_all (w := 3) (Y := (rn_w0 a_work, rn_o0 a_on, 0, 0, a_text)) hlc (by omega) tb hT hcs (Or.inl ⟨rfl, rfl⟩) yb_0 hW0 (show 0 < 2 ^ 26 by decide) (h (-1) _ e.symm)
    · have e : rn_Y T lc n a_key a_part a_first a_second (rn_w0 a_work, rn_o0 a_on, 0, 0, a_text) = rn_l T lc a_key a_part a_first a_second (n - 1) 0 (ln_all T 0 (rn_c a_key a_part a_first a_second 0) lc 0 (rn_w0 a_work, rn_o0 a_on, 0, 0, a_text)) := if_neg hn0
      have b0 := ln_all1 (T := T) (w := 0) (cv := rn_c a_key a_part a_first a_second 0) lc 0 (rn_w0 a_work, rn_o0 a_on, 0, 0, a_text)
      have y0 := yb_a (T := T) (w := 0) (cv := rn_c a_key a_part a_first a_second 0) lc 0 (rn_w0 a_work, rn_o0 a_on, 0, 0, a_text) hW0
      have b0' : (ln_all T 0 (rn_c a_key a_part a_first a_second 0) lc 0 (rn_w0 a_work, rn_o0 a_on, 0, 0, a_text)).2.2.2.1 ≤ 0 + 8 * lc := b0
      refine ⟨n - 1 + 2 + 1, br_f (nI_pos (by omega)) (br_f (fun z => nI_ne0 (by omega) (by omega) z.symm) ?_)⟩
      refine br_t (by decide) (br_t rfl (br_t (by decide) (br_t rfl (br_t rfl ?_))))
      refine yr_all (w := 0) (cv := rn_c a_key a_part a_first a_second 0) (Y := (rn_w0 a_work, rn_o0 a_on, 0, 0, a_text)) hlc (by omega) tb hT hcs (Or.inr ⟨0, by omega, rfl, rfl⟩) (yb_c hC) hW0 (show 0 < 2 ^ 26 by decide) ?_
      refine nm_r (e' := nI (0 + 1)) rfl ?_
      exact yr_cl hlc hn16 tb hT hcs hC (n - 1) 0 _ (by omega) y0 (by omega) (fun pe => h pe _ e.symm)
  have k4 : ∃ n23 : Nat, wY_run_23 post (nI n) (nI lc) f_present f_executed f_printed n23 0 a_key a_part a_first a_second a_when a_condition a_op a_field a_px a_py a_constant (rn_w0 a_work) a_on a_text := by
    refine ⟨5, ?_⟩
    refine br_f (by decide) (And.intro (vp_in_nI (n := 0) (by omega) (by omega)) (nm_r (e' := upd a_on 0 0) (by rw [sm_t0]; rfl) (nm_r (e' := 1) rfl ?_)))
    refine br_f (by decide) (And.intro (vp_in_nI (n := 1) (by omega) (by omega)) (nm_r (e' := upd (upd a_on 0 0) 1 0) (by rw [sm_t0]; rfl) (nm_r (e' := 2) rfl ?_)))
    refine br_f (by decide) (And.intro (vp_in_nI (n := 2) (by omega) (by omega)) (nm_r (e' := upd (upd (upd a_on 0 0) 1 0) 2 0) (by rw [sm_t0]; rfl) (nm_r (e' := 3) rfl ?_)))
    refine br_f (by decide) (And.intro (vp_in_nI (n := 3) (by omega) (by omega)) (nm_r (e' := rn_o0 a_on) (by rw [sm_t0]; rfl) (nm_r (e' := 4) rfl ?_)))
    exact br_t (by decide) key
  refine ⟨7, ?_⟩
  refine br_f (by decide) (And.intro (vp_in_nI (n := 0) (by omega) (by omega)) (nm_r (e' := upd a_work 0 0) rfl (nm_r (e' := 1) rfl ?_)))
  refine br_f (by decide) (And.intro (vp_in_nI (n := 1) (by omega) (by omega)) (nm_r (e' := upd (upd a_work 0 0) 1 0) rfl (nm_r (e' := 2) rfl ?_)))
  refine br_f (by decide) (And.intro (vp_in_nI (n := 2) (by omega) (by omega)) (nm_r (e' := upd (upd (upd a_work 0 0) 1 0) 2 0) rfl (nm_r (e' := 3) rfl ?_)))
  refine br_f (by decide) (And.intro (vp_in_nI (n := 3) (by omega) (by omega)) (nm_r (e' := upd (upd (upd (upd a_work 0 0) 1 0) 2 0) 3 0) rfl (nm_r (e' := 4) rfl ?_)))
  refine br_f (by decide) (And.intro (vp_in_nI (n := 4) (by omega) (by omega)) (nm_r (e' := upd (upd (upd (upd (upd a_work 0 0) 1 0) 2 0) 3 0) 4 0) rfl (nm_r (e' := 5) rfl ?_)))
  refine br_f (by decide) (And.intro (vp_in_nI (n := 5) (by omega) (by omega)) (nm_r (e' := rn_w0 a_work) rfl (nm_r (e' := 6) rfl ?_)))
  exact br_t (by decide) k4
end YR23
end
section
/-! X's run, from its beginning -/
def xb_mk (n lc : Nat) (lv co ce mu dv pr : Int32) (ak ap af as : Nat → Int32) (T : ln_T) (cd gr : Nat → Int32) : xs_B :=
  (nI n, nI lc, lv, co, ce, mu, dv, pr, ak, ap, af, as, (fun i => nI (tb_wh T i)), (fun i => nI (tb_cd T i)), (fun i => nI (tb_op T i)), (fun i => nI (tb_fw T i)), (fun i => nI (tb_fx T i)), (fun i => nI (tb_fy T i)), tb_cs T, cd, gr)
def rl_V (W : Nat → Int32) (V : Nat → Int) : Prop := ms_N V ∧ (∀ w, w < 6 → V (6 * w + 5) = (W w).toInt) ∧ V 151 = 0 ∧ V 152 = 1 ∧ 0 ≤ V 148 ∧ 0 ≤ V 149 ∧ 0 ≤ V 150
theorem ms_ct1 : ∀ i, i < 14 → ms_isE (58 + 3 * i) = true ∧ ms_fl (58 + 3 * i) = 3 := by decide +kernel
section XN24
variable {f_cardCount f_lineCount f_levelNow f_memoryEnd f_sumAt f_productAt f_leftAt f_rightAt f_restAt f_quotientAt f_textAt f_counterAt f_signAt f_haveAt f_zeroAt f_oneAt f_compiled f_codeEnd f_multiplyAt f_divideAt f_printAt f_at f_order f_callDepth f_nextCard f_tally f_halted f_printedCount : Int32} {a_cardKey a_cardPart a_cardFirst a_cardSecond a_lineWhen a_lineCondition a_lineOp a_lineW a_lineX a_lineY a_lineC a_digit a_mark a_minus a_workAt a_cardAt a_inputAt a_constantAt a_code a_groupAt a_callStack a_indicatorOn a_printedText : Nat → Int32}
theorem xr_r69 {post : Int32 → SX → Prop} {lc : Nat} (hlc : lc ≤ 14) (hz : ∀ i, (a_lineC i).toInt.natAbs ≤ 999) : ∀ (d i : Nat) (V : Nat → Int), i + d = lc → ms_N V → 0 ≤ V 150 →
    (∀ V' : Nat → Int, ms_N V' → V' 150 = 0 → (∀ j, i ≤ j → j < lc → V' (58 + 3 * j) = (a_lineC j).toInt) → (∀ e, (e < 58 + 3 * i ∨ 98 ≤ e) → e ≠ 150 → V' e = V e) → xs_EX post (f_cardCount, nI lc, f_levelNow, 153, 104, 116, 122, 128, 135, 141, 147, 148, 149, 150, 151, 152, f_compiled, f_codeEnd, f_multiplyAt, f_divideAt, f_printAt, nI 0, f_order, nI 0, nI 0, nI 0, 0, nI 0, a_cardKey, a_cardPart, a_cardFirst, a_cardSecond, a_lineWhen, a_lineCondition, a_lineOp, a_lineW, a_lineX, a_lineY, a_lineC, ms_DG V', ms_mark, ms_MN V', ms_wk, ms_ca, ms_in, ms_ct, a_code, a_groupAt, a_callStack, a_indicatorOn, a_printedText)) → wX_run_69 post (d + 1) (nI i) f_cardCount (nI lc) f_levelNow 153 104 116 122 128 135 141 147 148 149 150 151 152 f_compiled f_codeEnd f_multiplyAt f_divideAt f_printAt f_at f_order f_callDepth f_nextCard f_tally f_halted f_printedCount a_cardKey a_cardPart a_cardFirst a_cardSecond a_lineWhen a_lineCondition a_lineOp a_lineW a_lineX a_lineY a_lineC (ms_DG V) ms_mark (ms_MN V) ms_wk ms_ca ms_in ms_ct a_code a_groupAt a_callStack a_indicatorOn a_printedText := by
  intro d
  induction d with
  | zero =>
    intro i V hid hN h150 K
    have em : ms_MN V = ms_MN (ms_u V 150 ((0 : Nat) : Int)) := ms_MNs (by omega)
    refine br_t (nI_le (by omega) (by omega)) (And.intro (vp_in_nI (n := 150) (by omega) (by omega)) (nm_r (e' := ms_DG (ms_u V 150 ((0 : Nat) : Int))) ?_ ?_))
    · rw [show vp_nar .byte 0 = nI 0 from sm_nb' (d := 0) (by omega), show (150 : Int32).toNatClampNeg = 150 from nI_clamp (n := 150) (by omega)]
      exact ms_one rfl rfl (by omega)
    · rw [em]
      refine K _ (ms_Nu hN (by decide)) ms_us (fun j h1 h2 => absurd h1 (by omega)) (fun e _ h2 => ms_un h2)
  | succ d ih =>
    intro i V hid hN h150 K
    have hin : vp_in (nI i) 14 := vp_in_nI (by omega) (by omega)
    have hcl : (nI i).toNatClampNeg = i := nI_clamp (by omega)
    have ⟨c1, c2⟩ := ms_ct1 i (by omega)
    have hzi := hz i
    refine br_f (nI_ge (by omega) (by omega)) (And.intro hin (And.intro hin ?_))
    rw [hcl, show ms_ct i = nI (58 + 3 * i) from if_pos (by omega)]
    refine xr_sf (V := V) c1 rfl (by omega) ?_
    refine nm_r (nI_1 i) (ih (i + 1) _ (by omega) (ms_Nu hN (by rw [c2]; show _ < 1000; omega)) (by rw [ms_un (by omega)]; exact h150) ?_)
    intro V' n1 n2 n3 n4
    refine K V' n1 n2 (fun j h1 h2 => ?_) (fun e h1 h2 => ?_)
    · by_cases z : j = i
      · subst z
        rw [n4 _ (by omega) (by omega), ms_us]
      · exact n3 j (by omega) h2
    · rw [n4 e (by omega) h2, ms_un (by omega)]
theorem xr_r38 {post : Int32 → SX → Prop} {V : Nat → Int} (h : ∃ n69, wX_run_69 post n69 0 f_cardCount f_lineCount f_levelNow 153 104 116 122 128 135 141 147 148 149 150 151 152 f_compiled f_codeEnd f_multiplyAt f_divideAt f_printAt f_at f_order f_callDepth f_nextCard f_tally f_halted f_printedCount a_cardKey a_cardPart a_cardFirst a_cardSecond a_lineWhen a_lineCondition a_lineOp a_lineW a_lineX a_lineY a_lineC (ms_DG (ms_u (ms_u (ms_u (ms_u V 37 0) 41 0) 46 0) 52 0)) ms_mark (ms_MN (ms_u (ms_u (ms_u (ms_u V 37 0) 41 0) 46 0) 52 0)) ms_wk ms_ca ms_in ms_ct a_code a_groupAt a_callStack (rn_o0 a_indicatorOn) a_printedText) : wX_run_38 post 5 0 f_cardCount f_lineCount f_levelNow 153 104 116 122 128 135 141 147 148 149 150 151 152 f_compiled f_codeEnd f_multiplyAt f_divideAt f_printAt f_at f_order f_callDepth f_nextCard f_tally f_halted f_printedCount a_cardKey a_cardPart a_cardFirst a_cardSecond a_lineWhen a_lineCondition a_lineOp a_lineW a_lineX a_lineY a_lineC (ms_DG V) ms_mark (ms_MN V) ms_wk ms_ca ms_in ms_ct a_code a_groupAt a_callStack a_indicatorOn a_printedText := by
  refine br_f (by decide) (And.intro (vp_in_nI (n := 0) (by omega) (by omega)) (xr_sf (e := 37) (x := 0) rfl (by decide) (by decide) (And.intro (vp_in_nI (n := 0) (by omega) (by omega)) (nm_r (e' := upd a_indicatorOn 0 0) (by rw [sm_t0]; rfl) (nm_r (e' := 1) rfl ?_)))))
  refine br_f (by decide) (And.intro (vp_in_nI (n := 1) (by omega) (by omega)) (xr_sf (e := 41) (x := 0) rfl (by decide) (by decide) (And.intro (vp_in_nI (n := 1) (by omega) (by omega)) (nm_r (e' := upd (upd a_indicatorOn 0 0) 1 0) (by rw [sm_t0]; rfl) (nm_r (e' := 2) rfl ?_)))))
  refine br_f (by decide) (And.intro (vp_in_nI (n := 2) (by omega) (by omega)) (xr_sf (e := 46) (x := 0) rfl (by decide) (by decide) (And.intro (vp_in_nI (n := 2) (by omega) (by omega)) (nm_r (e' := upd (upd (upd a_indicatorOn 0 0) 1 0) 2 0) (by rw [sm_t0]; rfl) (nm_r (e' := 3) rfl ?_)))))
  refine br_f (by decide) (And.intro (vp_in_nI (n := 3) (by omega) (by omega)) (xr_sf (e := 52) (x := 0) rfl (by decide) (by decide) (And.intro (vp_in_nI (n := 3) (by omega) (by omega)) (nm_r (e' := rn_o0 a_indicatorOn) (by rw [sm_t0]; rfl) (nm_r (e' := 4) rfl ?_)))))
  exact br_t (by decide) h
theorem xr_r13 {post : Int32 → SX → Prop} {V : Nat → Int} (h : ∃ n38, wX_run_38 post n38 0 f_cardCount f_lineCount f_levelNow 153 104 116 122 128 135 141 147 148 149 150 151 152 f_compiled f_codeEnd f_multiplyAt f_divideAt f_printAt f_at f_order f_callDepth f_nextCard f_tally f_halted f_printedCount a_cardKey a_cardPart a_cardFirst a_cardSecond a_lineWhen a_lineCondition a_lineOp a_lineW a_lineX a_lineY a_lineC (ms_DG (ms_u (ms_u (ms_u (ms_u (ms_u (ms_u V 5 0) 11 0) 17 0) 23 0) 29 0) 35 0)) ms_mark (ms_MN (ms_u (ms_u (ms_u (ms_u (ms_u (ms_u V 5 0) 11 0) 17 0) 23 0) 29 0) 35 0)) ms_wk ms_ca ms_in ms_ct a_code a_groupAt a_callStack a_indicatorOn a_printedText) : wX_run_13 post 7 0 f_cardCount f_lineCount f_levelNow 153 104 116 122 128 135 141 147 148 149 150 151 152 f_compiled f_codeEnd f_multiplyAt f_divideAt f_printAt f_at f_order f_callDepth f_nextCard f_tally f_halted f_printedCount a_cardKey a_cardPart a_cardFirst a_cardSecond a_lineWhen a_lineCondition a_lineOp a_lineW a_lineX a_lineY a_lineC (ms_DG V) ms_mark (ms_MN V) ms_wk ms_ca ms_in ms_ct a_code a_groupAt a_callStack a_indicatorOn a_printedText := by
  refine br_f (by decide) (And.intro (vp_in_nI (n := 0) (by omega) (by omega)) (xr_sf (e := 5) (x := 0) rfl (by decide) (by decide) (nm_r (e' := 1) rfl ?_)))
  refine br_f (by decide) (And.intro (vp_in_nI (n := 1) (by omega) (by omega)) (xr_sf (e := 11) (x := 0) rfl (by decide) (by decide) (nm_r (e' := 2) rfl ?_)))
  refine br_f (by decide) (And.intro (vp_in_nI (n := 2) (by omega) (by omega)) (xr_sf (e := 17) (x := 0) rfl (by decide) (by decide) (nm_r (e' := 3) rfl ?_)))
  refine br_f (by decide) (And.intro (vp_in_nI (n := 3) (by omega) (by omega)) (xr_sf (e := 23) (x := 0) rfl (by decide) (by decide) (nm_r (e' := 4) rfl ?_)))
  refine br_f (by decide) (And.intro (vp_in_nI (n := 4) (by omega) (by omega)) (xr_sf (e := 29) (x := 0) rfl (by decide) (by decide) (nm_r (e' := 5) rfl ?_)))
  refine br_f (by decide) (And.intro (vp_in_nI (n := 5) (by omega) (by omega)) (xr_sf (e := 35) (x := 0) rfl (by decide) (by decide) (nm_r (e' := 6) rfl ?_)))
  exact br_t (by decide) h
end XN24
theorem rn_w0z : ∀ (W : Nat → Int32) (w : Nat), w < 6 → rn_w0 W w = 0 := by
  intro W w hw
  have h6 : w = 0 ∨ w = 1 ∨ w = 2 ∨ w = 3 ∨ w = 4 ∨ w = 5 := by omega
  rcases h6 with z | z | z | z | z | z <;> subst z <;> rfl
/-- the fields as the run's beginning makes them -/
theorem ms_u6 {V : Nat → Int} (hN : ms_N V) : ms_N (ms_u (ms_u (ms_u (ms_u (ms_u (ms_u (ms_u (ms_u (ms_u (ms_u V 5 0) 11 0) 17 0) 23 0) 29 0) 35 0) 37 0) 41 0) 46 0) 52 0) ∧ (∀ e, 56 ≤ e → ms_u (ms_u (ms_u (ms_u (ms_u (ms_u (ms_u (ms_u (ms_u (ms_u V 5 0) 11 0) 17 0) 23 0) 29 0) 35 0) 37 0) 41 0) 46 0) 52 0 e = V e) ∧ (∀ w, w < 6 → ms_u (ms_u (ms_u (ms_u (ms_u (ms_u (ms_u (ms_u (ms_u (ms_u V 5 0) 11 0) 17 0) 23 0) 29 0) 35 0) 37 0) 41 0) 46 0) 52 0 (6 * w + 5) = 0) ∧ (∀ j, j < 4 → ms_u (ms_u (ms_u (ms_u (ms_u (ms_u (ms_u (ms_u (ms_u (ms_u V 5 0) 11 0) 17 0) 23 0) 29 0) 35 0) 37 0) 41 0) 46 0) 52 0 (ms_cj j) = 0) := by
  have hz : ∀ {V : Nat → Int} {e : Nat}, ms_N V → ms_N (ms_u V e 0) := fun h => ms_Nu h (da_pos _)
  refine ⟨hz (hz (hz (hz (hz (hz (hz (hz (hz (hz hN))))))))), ?_, ?_, ?_⟩
  · intro e he
    rw [ms_un (by omega), ms_un (by omega), ms_un (by omega), ms_un (by omega), ms_un (by omega), ms_un (by omega), ms_un (by omega), ms_un (by omega), ms_un (by omega), ms_un (by omega)]
  · intro w hw
    have h6 : w = 0 ∨ w = 1 ∨ w = 2 ∨ w = 3 ∨ w = 4 ∨ w = 5 := by omega
    rcases h6 with z | z | z | z | z | z <;> subst z <;> rfl
  · intro j hj
    have h4 : j = 0 ∨ j = 1 ∨ j = 2 ∨ j = 3 := by omega
    rcases h4 with z | z | z | z <;> subst z <;> rfl
section XN24b
variable {f_cardCount f_lineCount f_levelNow f_memoryEnd f_sumAt f_productAt f_leftAt f_rightAt f_restAt f_quotientAt f_textAt f_counterAt f_signAt f_haveAt f_zeroAt f_oneAt f_compiled f_codeEnd f_multiplyAt f_divideAt f_printAt f_at f_order f_callDepth f_nextCard f_tally f_halted f_printedCount : Int32} {a_cardKey a_cardPart a_cardFirst a_cardSecond a_lineWhen a_lineCondition a_lineOp a_lineW a_lineX a_lineY a_lineC a_digit a_mark a_minus a_workAt a_cardAt a_inputAt a_constantAt a_code a_groupAt a_callStack a_indicatorOn a_printedText : Nat → Int32}
/-- the run of what is compiled -/
theorem xr_rn {post : Int32 → SX → Prop} {n lc s g1 g2 g3 : Nat} {T : ln_T} {V : Nat → Int} {W : Nat → Int32} (hn : n ≤ 16) (hlc : lc ≤ 14) (tb : tb_ok T) (hC : cd_ok a_cardKey a_cardPart a_cardFirst a_cardSecond) (hP : pg_at a_code T lc (decide (f_levelNow = 1)) s g1 g2 g3) (hV : rl_V W V)
    (K : ∀ (od' : Int32) (V' : Nat → Int) (st' : Nat → Int32) (Z : ln_Y), Z = rn_Y T lc n a_cardKey a_cardPart a_cardFirst a_cardSecond (rn_w0 W, rn_o0 a_indicatorOn, 0, 0, a_printedText) → rl_V Z.1 V' → post (nI Z.2.2.1) (xs_T (xb_mk n lc f_levelNow f_compiled f_codeEnd f_multiplyAt f_divideAt f_printAt a_cardKey a_cardPart a_cardFirst a_cardSecond T a_code a_groupAt) (s + 22) od' 0 n Z.2.2.1 1 Z.2.2.2.1 V' st' Z.2.1 Z.2.2.2.2)) :
    ∃ n13, wX_run_13 post n13 0 (nI n) (nI lc) f_levelNow 153 104 116 122 128 135 141 147 148 149 150 151 152 f_compiled f_codeEnd f_multiplyAt f_divideAt f_printAt f_at f_order f_callDepth f_nextCard f_tally f_halted f_printedCount a_cardKey a_cardPart a_cardFirst a_cardSecond (fun i => nI (tb_wh T i)) (fun i => nI (tb_cd T i)) (fun i => nI (tb_op T i)) (fun i => nI (tb_fw T i)) (fun i => nI (tb_fx T i)) (fun i => nI (tb_fy T i)) (tb_cs T) (ms_DG V) ms_mark (ms_MN V) ms_wk ms_ca ms_in ms_ct a_code a_groupAt a_callStack a_indicatorOn a_printedText := by
  obtain ⟨v1, v2, v3, v4, v5, v6, v7⟩ := hV
  have ⟨u1, u2, u3, u4⟩ := ms_u6 v1
  refine ⟨7, xr_r13 ⟨5, xr_r38 ⟨lc + 1, xr_r69 hlc (fun i => (tb i).2.2.2.2.2.2.2) lc 0 _ (by omega) u1 (by rw [u2 150 (by omega)]; exact v7) ?_⟩⟩⟩
  intro V' n1 n2 n3 n4
  have key := rt_run (post := post) (B := xb_mk n lc f_levelNow f_compiled f_codeEnd f_multiplyAt f_divideAt f_printAt a_cardKey a_cardPart a_cardFirst a_cardSecond T a_code a_groupAt) (n := n) (od := f_order) (st := a_callStack) (V := V') (Y := (rn_w0 W, rn_o0 a_indicatorOn, 0, 0, a_printedText)) hP hlc tb hC rfl hn rfl ⟨n1, ?_, ?_, ?_, fun _ _ => rfl, ?_, ?_, ?_, ?_⟩ n2 ?_
  · exact key
  · intro w hw
    rw [n4 _ (by omega) (by omega), u3 w hw]
    show 0 = (rn_w0 W w).toInt
    rw [rn_w0z W w hw]
    decide
  · intro j hj
    have := ms_cj1 j hj
    rw [n4 _ (by omega) (by omega), u4 j hj]
    show 0 = (0 : Int32).toInt
    decide
  · intro i hi
    exact n3 i (by omega) hi
  · rw [n4 151 (by omega) (by omega), u2 151 (by omega)]; exact v3
  · rw [n4 152 (by omega) (by omega), u2 152 (by omega)]; exact v4
  · rw [n4 148 (by omega) (by omega), u2 148 (by omega)]; exact v5
  · rw [n4 149 (by omega) (by omega), u2 149 (by omega)]; exact v6
  · intro V2 hv2 cv2 od2 st2 Y2 hY2 h150 hI2
    refine K od2 V2 st2 Y2 hY2 ⟨hI2.1, hI2.2.1, hI2.2.2.2.2.2.1, hI2.2.2.2.2.2.2.1, hI2.2.2.2.2.2.2.2.1, hI2.2.2.2.2.2.2.2.2, ?_⟩
    rw [hI2.2.2.2.2.1 150 (by decide)]
    exact h150
end XN24b
theorem xr_run {post : Int32 → SX → Prop} {n lc pt dp nc ta pc : Nat} {lv co ce mu dv pr od ha : Int32} {ak ap af as cd gr st on tx W : Nat → Int32} {T : ln_T} {V : Nat → Int} (hn : n ≤ 16) (hlc : lc ≤ 14) (tb : tb_ok T) (hC : cd_ok ak ap af as) (hP : ¬ co = 0 → ∃ s g1 g2 g3, pg_at cd T lc (decide (lv = 1)) s g1 g2 g3) (hV : rl_V W V)
    (K : ∀ (pt' : Nat) (co' ce' mu' dv' pr' od' : Int32) (cd' gr' st' : Nat → Int32) (V' : Nat → Int) (Z : ln_Y), Z = rn_Y T lc n ak ap af as (rn_w0 W, rn_o0 on, 0, 0, tx) → (¬ co' = 0 → ∃ s g1 g2 g3, pg_at cd' T lc (decide (lv = 1)) s g1 g2 g3) → rl_V Z.1 V' → post (nI Z.2.2.1) (xs_T (xb_mk n lc lv co' ce' mu' dv' pr' ak ap af as T cd' gr') pt' od' 0 n Z.2.2.1 1 Z.2.2.2.1 V' st' Z.2.1 Z.2.2.2.2)) :
    wpX_run post (xs_T (xb_mk n lc lv co ce mu dv pr ak ap af as T cd gr) pt od dp nc ta ha pc V st on tx) := by
  unfold xs_T xb_mk xb_cc xb_ak xb_ap xb_af xb_as xb_cd
  unfold wpX_run
  dsimp only
  by_cases hco : co = 0
  · refine br_t hco (cp_all hlc ⟨fun _ => rfl, fun _ => rfl, fun _ => rfl, fun _ => rfl, fun _ => rfl, fun _ => rfl⟩ tb (fun c' gr' ce' hp => ?_))
    have hp' := hp
    obtain ⟨s, g1, g2, g3, hpg⟩ := hp'
    dsimp only
    exact xr_rn hn hlc tb hC hpg hV (fun od' V' st' Z hZ hr => K _ _ _ _ _ _ _ _ _ _ _ Z hZ (fun _ => hp) hr)
  · obtain ⟨s, g1, g2, g3, hpg⟩ := hP hco
    refine br_f hco ?_
    exact xr_rn hn hlc tb hC hpg hV (fun od' V' st' Z hZ hr => K _ _ _ _ _ _ _ _ _ _ _ Z hZ (fun _ => ⟨s, g1, g2, g3, hpg⟩) hr)
end
section
/-! the relation -/
def zy_T (n lc : Nat) (pe xe : Int32) (pc : Nat) (ak ap af as : Nat → Int32) (T : ln_T) (W on tx : Nat → Int32) : SY :=
  (nI n, nI lc, pe, xe, nI pc, ak, ap, af, as, (fun i => nI (tb_wh T i)), (fun i => nI (tb_cd T i)), (fun i => nI (tb_op T i)), (fun i => nI (tb_fw T i)), (fun i => nI (tb_fx T i)), (fun i => nI (tb_fy T i)), tb_cs T, W, on, tx)
def zf_R (n lc : Nat) (lv co : Int32) (ak ap af as : Nat → Int32) (T : ln_T) (cd : Nat → Int32) (V : Nat → Int) (W : Nat → Int32) : Prop :=
  n ≤ 16 ∧ lc ≤ 14 ∧ cd_ok ak ap af as ∧ tb_ok T ∧ (¬ co = 0 → ∃ s g1 g2 g3, pg_at cd T lc (decide (lv = 1)) s g1 g2 g3) ∧ rl_V W V ∧ yb_W W
/-- X's state is built of the cards, the lines, the values of the fields, the code (which is the compiled one when it says so); Y's of the same cards, lines, indicators, text -/
def i_Rel (_ : Nat) (u : SX) (v : SY) : Prop := ∃ (n : Nat) (lc : Nat) (lv : Int32) (co : Int32) (ce : Int32) (mu : Int32) (dv : Int32) (pr : Int32) (ak : Nat → Int32) (ap : Nat → Int32) (af : Nat → Int32) (as : Nat → Int32) (T : ln_T) (cd : Nat → Int32) (gr : Nat → Int32) (pt : Nat) (od : Int32) (dp : Nat) (nc : Nat) (ta : Nat) (ha : Int32) (pc : Nat) (V : Nat → Int) (st : Nat → Int32) (on : Nat → Int32) (tx : Nat → Int32) (W : Nat → Int32) (pe : Int32) (xe : Int32), u = xs_T (xb_mk n lc lv co ce mu dv pr ak ap af as T cd gr) pt od dp nc ta ha pc V st on tx ∧ v = zy_T n lc pe xe pc ak ap af as T W on tx ∧ zf_R n lc lv co ak ap af as T cd V W
theorem i_up {k : Nat} {u : SX} {v : SY} (h : i_Rel k u v) : i_Rel (k + 5) u v := h
theorem zz_el {k : Nat} {u : SX} {v : SY} {P : SX → SY → Prop} (h : ∀ (n : Nat) (lc : Nat) (lv : Int32) (co : Int32) (ce : Int32) (mu : Int32) (dv : Int32) (pr : Int32) (ak : Nat → Int32) (ap : Nat → Int32) (af : Nat → Int32) (as : Nat → Int32) (T : ln_T) (cd : Nat → Int32) (gr : Nat → Int32) (pt : Nat) (od : Int32) (dp : Nat) (nc : Nat) (ta : Nat) (ha : Int32) (pc : Nat) (V : Nat → Int) (st : Nat → Int32) (on : Nat → Int32) (tx : Nat → Int32) (W : Nat → Int32) (pe : Int32) (xe : Int32), zf_R n lc lv co ak ap af as T cd V W → P (xs_T (xb_mk n lc lv co ce mu dv pr ak ap af as T cd gr) pt od dp nc ta ha pc V st on tx) (zy_T n lc pe xe pc ak ap af as T W on tx)) (I : i_Rel k u v) : P u v :=
  Exists.elim I (fun n I => Exists.elim I (fun lc I => Exists.elim I (fun lv I => Exists.elim I (fun co I => Exists.elim I (fun ce I => Exists.elim I (fun mu I => Exists.elim I (fun dv I => Exists.elim I (fun pr I => Exists.elim I (fun ak I => Exists.elim I (fun ap I => Exists.elim I (fun af I => Exists.elim I (fun as I => Exists.elim I (fun T I => Exists.elim I (fun cd I => Exists.elim I (fun gr I => Exists.elim I (fun pt I => Exists.elim I (fun od I => Exists.elim I (fun dp I => Exists.elim I (fun nc I => Exists.elim I (fun ta I => Exists.elim I (fun ha I => Exists.elim I (fun pc I => Exists.elim I (fun V I => Exists.elim I (fun st I => Exists.elim I (fun on I => Exists.elim I (fun tx I => Exists.elim I (fun W I => Exists.elim I (fun pe I => Exists.elim I (fun xe I => by rw [I.1, I.2.1]; exact h n lc lv co ce mu dv pr ak ap af as T cd gr pt od dp nc ta ha pc V st on tx W pe xe I.2.2)))))))))))))))))))))))))))))
theorem zz_in {k : Nat} {n : Nat} {lc : Nat} {lv : Int32} {co : Int32} {ce : Int32} {mu : Int32} {dv : Int32} {pr : Int32} {ak : Nat → Int32} {ap : Nat → Int32} {af : Nat → Int32} {as : Nat → Int32} {T : ln_T} {cd : Nat → Int32} {gr : Nat → Int32} {pt : Nat} {od : Int32} {dp : Nat} {nc : Nat} {ta : Nat} {ha : Int32} {pc : Nat} {V : Nat → Int} {st : Nat → Int32} {on : Nat → Int32} {tx : Nat → Int32} {W : Nat → Int32} {pe : Int32} {xe : Int32} (h : zf_R n lc lv co ak ap af as T cd V W) : i_Rel k (xs_T (xb_mk n lc lv co ce mu dv pr ak ap af as T cd gr) pt od dp nc ta ha pc V st on tx) (zy_T n lc pe xe pc ak ap af as T W on tx) := ⟨n, lc, lv, co, ce, mu, dv, pr, ak, ap, af, as, T, cd, gr, pt, od, dp, nc, ta, ha, pc, V, st, on, tx, W, pe, xe, rfl, rfl, h⟩
theorem yb_rl {T : ln_T} {lc : Nat} {ak ap af as : Nat → Int32} : ∀ (d k : Nat) (Y : ln_Y), yb_W Y.1 → yb_W (rn_l T lc ak ap af as d k Y).1 := by
  intro d
  induction d with
  | zero => intro k Y h; exact yb_a _ _ _ (yb_a _ _ _ (yb_a _ _ _ h))
  | succ d ih =>
    intro k Y h
    refine ih (k + 1) (rn_s T lc ak ap af as k Y) ?_
    unfold rn_s
    refine yb_a _ _ _ ?_
    split
    · split
      · exact h
      · exact yb_a _ _ _ h
    · exact yb_a _ _ _ (yb_a _ _ _ h)
theorem yb_rY {T : ln_T} {lc n : Nat} {ak ap af as : Nat → Int32} {Y : ln_Y} (h : yb_W Y.1) : yb_W (rn_Y T lc n ak ap af as Y).1 := by
  unfold rn_Y
  split
  · exact yb_a _ _ _ h
  · exact yb_rl _ _ _ (yb_a _ _ _ h)
theorem yb_w0 {W : Nat → Int32} (h : yb_W W) : yb_W (rn_w0 W) := by
  have hu : ∀ (W : Nat → Int32) (j : Nat), yb_W W → yb_W (upd W j 0) := by
    intro W j hw i
    by_cases z : i = j
    · subst z; rw [pk_us]; decide
    · rw [pk_un z]; exact hw i
  exact hu _ _ (hu _ _ (hu _ _ (hu _ _ (hu _ _ (hu _ _ h)))))
end
section
/-! the other methods, one side at a time -/
theorem mt_b {p : Int32} (h0 : ¬ p < 0) (h1 : ¬ 99 < p) : vp_nar .byte p.toInt8.toInt32 = p := by
  have e0 : (0 : Int32).toInt = 0 := by decide
  have e1 : (99 : Int32).toInt = 99 := by decide
  rw [Int32.lt_iff_toInt_lt, e0] at h0
  rw [Int32.lt_iff_toInt_lt, e1] at h1
  have e : p.toInt8.toInt32 = p := lg_i2b_small (by omega) (by omega)
  rw [vp_nar_byte, e, e]
theorem mt_s {p : Int32} (h0 : ¬ p < -999) (h1 : ¬ 999 < p) : vp_nar .short p.toInt16.toInt32 = p := by
  have e0 : (-999 : Int32).toInt = -999 := by decide
  have e1 : (999 : Int32).toInt = 999 := by decide
  rw [Int32.lt_iff_toInt_lt, e0] at h0
  rw [Int32.lt_iff_toInt_lt, e1] at h1
  have e : p.toInt16.toInt32 = p := lg_i2s_small (by omega) (by omega)
  rw [vp_nar_short, e, e]
theorem mt_r {p : Int32} (h0 : ¬ p < 0) (h1 : ¬ 99 < p) : 0 ≤ p.toInt ∧ p.toInt ≤ 99 := by
  have e0 : (0 : Int32).toInt = 0 := by decide
  have e1 : (99 : Int32).toInt = 99 := by decide
  rw [Int32.lt_iff_toInt_lt, e0] at h0
  rw [Int32.lt_iff_toInt_lt, e1] at h1
  omega
theorem mt_a {p : Int32} (h0 : ¬ p < -999) (h1 : ¬ 999 < p) : -999 ≤ p.toInt ∧ p.toInt ≤ 999 := by
  have e0 : (-999 : Int32).toInt = -999 := by decide
  have e1 : (999 : Int32).toInt = 999 := by decide
  rw [Int32.lt_iff_toInt_lt, e0] at h0
  rw [Int32.lt_iff_toInt_lt, e1] at h1
  omega
theorem mt_n {p M : Int32} (m : Nat) (hM : M.toInt = m) (h0 : ¬ p < 0) (h1 : ¬ M < p) : ∃ j, j ≤ m ∧ p = nI j := nI_of2 hM h0 (Int32.not_lt.mp h1)
def gd_c (p0 p1 p2 p3 : Int32) : Prop := ((¬ p0 < 0) ∧ ¬ 99 < p0) ∧ ((¬ p1 < 0) ∧ ¬ 99 < p1) ∧ ((¬ p2 < -999) ∧ ¬ 999 < p2) ∧ ((¬ p3 < -999) ∧ ¬ 999 < p3)
def gd_l (p0 p1 p2 p3 : Int32) : Prop := ((¬ p0 < 0) ∧ ¬ 3 < p0) ∧ ((¬ p1 < 0) ∧ ¬ 8 < p1) ∧ ((¬ p2 < 0) ∧ ¬ 9 < p2) ∧ ((¬ p3 < 0) ∧ ¬ (if p2 = 6 ∨ p2 = 7 then 3 else 5) < p3)
def gd_o (lc : Nat) (p0 p1 p2 p3 : Int32) : Prop := ((¬ p0 < 0) ∧ ¬ nI lc ≤ p0) ∧ ((¬ p1 < 0) ∧ ¬ 10 < p1) ∧ ((¬ p2 < 0) ∧ ¬ 10 < p2) ∧ ((¬ p3 < -999) ∧ ¬ 999 < p3)
theorem mt_lm {lc : Nat} {p : Int32} (hlc : lc ≤ 14) : nI lc - 1 < p ↔ nI lc ≤ p := by
  have h := pk_sub_toInt (a := lc) (b := 1) (by omega) (by omega)
  have h' : (nI lc - 1).toInt = (lc : Int) - 1 := h
  rw [Int32.lt_iff_toInt_lt, Int32.le_iff_toInt_le, h', nI_toInt (by omega)]
  omega
section MX27
variable {f_cardCount f_lineCount f_levelNow f_memoryEnd f_sumAt f_productAt f_leftAt f_rightAt f_restAt f_quotientAt f_textAt f_counterAt f_signAt f_haveAt f_zeroAt f_oneAt f_compiled f_codeEnd f_multiplyAt f_divideAt f_printAt f_at f_order f_callDepth f_nextCard f_tally f_halted f_printedCount : Int32} {a_cardKey a_cardPart a_cardFirst a_cardSecond a_lineWhen a_lineCondition a_lineOp a_lineW a_lineX a_lineY a_lineC a_digit a_mark a_minus a_workAt a_cardAt a_inputAt a_constantAt a_code a_groupAt a_callStack a_indicatorOn a_printedText : Nat → Int32}
variable {p0 p1 p2 p3 : Int32} {n lc : Nat}
theorem xm_c0 {post : Int32 → SX → Prop} (hn : n < 16) (hg : ¬ gd_c p0 p1 p2 p3) (h : post (-10000000) (nI n, f_lineCount, f_levelNow, f_memoryEnd, f_sumAt, f_productAt, f_leftAt, f_rightAt, f_restAt, f_quotientAt, f_textAt, f_counterAt, f_signAt, f_haveAt, f_zeroAt, f_oneAt, f_compiled, f_codeEnd, f_multiplyAt, f_divideAt, f_printAt, f_at, f_order, f_callDepth, f_nextCard, f_tally, f_halted, f_printedCount, a_cardKey, a_cardPart, a_cardFirst, a_cardSecond, a_lineWhen, a_lineCondition, a_lineOp, a_lineW, a_lineX, a_lineY, a_lineC, a_digit, a_mark, a_minus, a_workAt, a_cardAt, a_inputAt, a_constantAt, a_code, a_groupAt, a_callStack, a_indicatorOn, a_printedText)) : wpX_card post (nI n, f_lineCount, f_levelNow, f_memoryEnd, f_sumAt, f_productAt, f_leftAt, f_rightAt, f_restAt, f_quotientAt, f_textAt, f_counterAt, f_signAt, f_haveAt, f_zeroAt, f_oneAt, f_compiled, f_codeEnd, f_multiplyAt, f_divideAt, f_printAt, f_at, f_order, f_callDepth, f_nextCard, f_tally, f_halted, f_printedCount, a_cardKey, a_cardPart, a_cardFirst, a_cardSecond, a_lineWhen, a_lineCondition, a_lineOp, a_lineW, a_lineX, a_lineY, a_lineC, a_digit, a_mark, a_minus, a_workAt, a_cardAt, a_inputAt, a_constantAt, a_code, a_groupAt, a_callStack, a_indicatorOn, a_printedText) p0 p1 p2 p3 := by
  unfold wpX_card
  dsimp only
  refine br_t (nI_lt (b := 16) hn (by omega)) (br_c (fun _ => h) (fun a1 => br_c (fun _ => h) (fun a2 => br_c (fun _ => h) (fun a3 => br_c (fun _ => h) (fun a4 => ?_)))))
  refine br_c (fun _ => br_t rfl h) (fun a5 => br_c (fun _ => br_t rfl h) (fun a6 => br_f (by decide) ?_))
  refine br_c (fun _ => br_t rfl h) (fun a7 => br_c (fun _ => br_t rfl h) (fun a8 => ?_))
  exact absurd ⟨⟨a1, a2⟩, ⟨a3, a4⟩, ⟨a5, a6⟩, ⟨a7, a8⟩⟩ hg
theorem xm_c1 {post : Int32 → SX → Prop} (hn : n < 16) (hg : gd_c p0 p1 p2 p3) (h : post (nI (n + 1)) (nI (n + 1), f_lineCount, f_levelNow, f_memoryEnd, f_sumAt, f_productAt, f_leftAt, f_rightAt, f_restAt, f_quotientAt, f_textAt, f_counterAt, f_signAt, f_haveAt, f_zeroAt, f_oneAt, f_compiled, f_codeEnd, f_multiplyAt, f_divideAt, f_printAt, f_at, f_order, f_callDepth, f_nextCard, f_tally, f_halted, f_printedCount, upd a_cardKey n p0, upd a_cardPart n p1, upd a_cardFirst n p2, upd a_cardSecond n p3, a_lineWhen, a_lineCondition, a_lineOp, a_lineW, a_lineX, a_lineY, a_lineC, a_digit, a_mark, a_minus, a_workAt, a_cardAt, a_inputAt, a_constantAt, a_code, a_groupAt, a_callStack, a_indicatorOn, a_printedText)) : wpX_card post (nI n, f_lineCount, f_levelNow, f_memoryEnd, f_sumAt, f_productAt, f_leftAt, f_rightAt, f_restAt, f_quotientAt, f_textAt, f_counterAt, f_signAt, f_haveAt, f_zeroAt, f_oneAt, f_compiled, f_codeEnd, f_multiplyAt, f_divideAt, f_printAt, f_at, f_order, f_callDepth, f_nextCard, f_tally, f_halted, f_printedCount, a_cardKey, a_cardPart, a_cardFirst, a_cardSecond, a_lineWhen, a_lineCondition, a_lineOp, a_lineW, a_lineX, a_lineY, a_lineC, a_digit, a_mark, a_minus, a_workAt, a_cardAt, a_inputAt, a_constantAt, a_code, a_groupAt, a_callStack, a_indicatorOn, a_printedText) p0 p1 p2 p3 := by
  obtain ⟨⟨a1, a2⟩, ⟨a3, a4⟩, ⟨a5, a6⟩, ⟨a7, a8⟩⟩ := hg
  have hin : vp_in (nI n) 16 := vp_in_nI hn (by omega)
  have hcl : (nI n).toNatClampNeg = n := nI_clamp (by omega)
  unfold wpX_card
  dsimp only
  rw [hcl]
  refine br_t (nI_lt (b := 16) hn (by omega)) (br_f a1 (br_f a2 (br_f a3 (br_f a4 ?_))))
  refine br_f a5 (br_f a6 (br_f (by decide) ?_))
  refine br_f a7 (br_f a8 (br_f (by decide) ?_))
  exact And.intro hin (nm_r (by rw [mt_b a1 a2]) (And.intro hin (nm_r (by rw [mt_b a3 a4]) (And.intro hin (nm_r (by rw [mt_s a5 a6]) (And.intro hin (nm_r (by rw [mt_s a7 a8]) (nm_r (nI_1 n) h))))))))
theorem xm_l61 {post : Int32 → SX → Prop} {z0 : Int32} {a0 a1 a2 a3 : Nat} (hn : lc < 14) (h0 : a0 < 100) (h1 : a1 < 100) (h2 : a2 < 100) (h3 : a3 < 100) (hz : nI a3 ≤ z0) (h : post (nI (lc + 1)) (f_cardCount, nI (lc + 1), f_levelNow, f_memoryEnd, f_sumAt, f_productAt, f_leftAt, f_rightAt, f_restAt, f_quotientAt, f_textAt, f_counterAt, f_signAt, f_haveAt, f_zeroAt, f_oneAt, 0, f_codeEnd, f_multiplyAt, f_divideAt, f_printAt, f_at, f_order, f_callDepth, f_nextCard, f_tally, f_halted, f_printedCount, a_cardKey, a_cardPart, a_cardFirst, a_cardSecond, upd a_lineWhen lc (nI a0), upd a_lineCondition lc (nI a1), upd a_lineOp lc (nI a2), upd a_lineW lc (nI a3), upd a_lineX lc (nI 0), upd a_lineY lc (nI 0), upd a_lineC lc 0, a_digit, a_mark, a_minus, a_workAt, a_cardAt, a_inputAt, a_constantAt, a_code, a_groupAt, a_callStack, a_indicatorOn, a_printedText)) : wX_line_61 post (nI a0) (nI a1) (nI a2) (nI a3) z0 f_cardCount (nI lc) f_levelNow f_memoryEnd f_sumAt f_productAt f_leftAt f_rightAt f_restAt f_quotientAt f_textAt f_counterAt f_signAt f_haveAt f_zeroAt f_oneAt f_compiled f_codeEnd f_multiplyAt f_divideAt f_printAt f_at f_order f_callDepth f_nextCard f_tally f_halted f_printedCount a_cardKey a_cardPart a_cardFirst a_cardSecond a_lineWhen a_lineCondition a_lineOp a_lineW a_lineX a_lineY a_lineC a_digit a_mark a_minus a_workAt a_cardAt a_inputAt a_constantAt a_code a_groupAt a_callStack a_indicatorOn a_printedText := by
  have hin : vp_in (nI lc) 14 := vp_in_nI hn (by omega)
  have hcl : (nI lc).toNatClampNeg = lc := nI_clamp (by omega)
  have eb : vp_nar .byte 0 = nI 0 := sm_nb' (d := 0) (by omega)
  have es : vp_nar .short 0 = 0 := by rw [vp_nar_short]; decide
  unfold wX_line_61
  rw [hcl]
  exact br_f (nI_pos (by omega)) (br_t hz (And.intro hin (nm_r (by rw [sm_nb (by omega)]) (And.intro hin (nm_r (by rw [sm_nb (by omega)]) (And.intro hin (nm_r (by rw [sm_nb (by omega)]) (And.intro hin (nm_r (by rw [sm_nb (by omega)]) (And.intro hin (nm_r (by rw [eb]) (And.intro hin (nm_r (by rw [eb]) (And.intro hin (nm_r (by rw [es]) (nm_r (nI_1 lc) h))))))))))))))))
theorem xm_l0 {post : Int32 → SX → Prop} (hn : lc < 14) (hg : ¬ gd_l p0 p1 p2 p3) (h : post (-10000000) (f_cardCount, nI lc, f_levelNow, f_memoryEnd, f_sumAt, f_productAt, f_leftAt, f_rightAt, f_restAt, f_quotientAt, f_textAt, f_counterAt, f_signAt, f_haveAt, f_zeroAt, f_oneAt, f_compiled, f_codeEnd, f_multiplyAt, f_divideAt, f_printAt, f_at, f_order, f_callDepth, f_nextCard, f_tally, f_halted, f_printedCount, a_cardKey, a_cardPart, a_cardFirst, a_cardSecond, a_lineWhen, a_lineCondition, a_lineOp, a_lineW, a_lineX, a_lineY, a_lineC, a_digit, a_mark, a_minus, a_workAt, a_cardAt, a_inputAt, a_constantAt, a_code, a_groupAt, a_callStack, a_indicatorOn, a_printedText)) : wpX_line post (f_cardCount, nI lc, f_levelNow, f_memoryEnd, f_sumAt, f_productAt, f_leftAt, f_rightAt, f_restAt, f_quotientAt, f_textAt, f_counterAt, f_signAt, f_haveAt, f_zeroAt, f_oneAt, f_compiled, f_codeEnd, f_multiplyAt, f_divideAt, f_printAt, f_at, f_order, f_callDepth, f_nextCard, f_tally, f_halted, f_printedCount, a_cardKey, a_cardPart, a_cardFirst, a_cardSecond, a_lineWhen, a_lineCondition, a_lineOp, a_lineW, a_lineX, a_lineY, a_lineC, a_digit, a_mark, a_minus, a_workAt, a_cardAt, a_inputAt, a_constantAt, a_code, a_groupAt, a_callStack, a_indicatorOn, a_printedText) p0 p1 p2 p3 := by
  unfold wpX_line
  dsimp only
  have h76 : ¬ (7 : Int32) = 6 := by decide
  refine br_t (nI_lt (b := 14) hn (by omega)) (br_c (fun _ => h) (fun a1 => br_c (fun _ => h) (fun a2 => br_c (fun _ => h) (fun a3 => br_c (fun _ => h) (fun a4 => br_c (fun _ => h) (fun a5 => br_c (fun a6 => ?_) (fun _ => h)))))))
  have a6' : ¬ 9 < p2 := Int32.not_lt.mpr a6
  have key : ∀ z0 : Int32, z0 = (if p2 = 6 ∨ p2 = 7 then 3 else 5) → wX_line_61 post p0 p1 p2 p3 z0 f_cardCount (nI lc) f_levelNow f_memoryEnd f_sumAt f_productAt f_leftAt f_rightAt f_restAt f_quotientAt f_textAt f_counterAt f_signAt f_haveAt f_zeroAt f_oneAt f_compiled f_codeEnd f_multiplyAt f_divideAt f_printAt f_at f_order f_callDepth f_nextCard f_tally f_halted f_printedCount a_cardKey a_cardPart a_cardFirst a_cardSecond a_lineWhen a_lineCondition a_lineOp a_lineW a_lineX a_lineY a_lineC a_digit a_mark a_minus a_workAt a_cardAt a_inputAt a_constantAt a_code a_groupAt a_callStack a_indicatorOn a_printedText := by
    intro z0 hz
    refine br_c (fun _ => h) (fun a7 => br_c (fun a8 => ?_) (fun _ => h))
    rw [hz] at a8
    exact absurd ⟨⟨a1, a2⟩, ⟨a3, a4⟩, ⟨a5, a6'⟩, ⟨a7, Int32.not_lt.mpr a8⟩⟩ hg
  refine br_c (fun e => key 3 (if_pos (Or.inl e)).symm) (fun e => br_c (fun e2 => key 3 (if_pos (Or.inr e2)).symm) (fun e2 => key 5 ?_))
  exact (if_neg (fun z => z.elim e e2)).symm
theorem xm_l1 {post : Int32 → SX → Prop} {a0 a1 a2 a3 : Nat} (hn : lc < 14) (h0 : a0 ≤ 3) (h1 : a1 ≤ 8) (h2 : a2 ≤ 9) (h3 : a3 ≤ if a2 = 6 ∨ a2 = 7 then 3 else 5) (h : post (nI (lc + 1)) (f_cardCount, nI (lc + 1), f_levelNow, f_memoryEnd, f_sumAt, f_productAt, f_leftAt, f_rightAt, f_restAt, f_quotientAt, f_textAt, f_counterAt, f_signAt, f_haveAt, f_zeroAt, f_oneAt, 0, f_codeEnd, f_multiplyAt, f_divideAt, f_printAt, f_at, f_order, f_callDepth, f_nextCard, f_tally, f_halted, f_printedCount, a_cardKey, a_cardPart, a_cardFirst, a_cardSecond, upd a_lineWhen lc (nI a0), upd a_lineCondition lc (nI a1), upd a_lineOp lc (nI a2), upd a_lineW lc (nI a3), upd a_lineX lc (nI 0), upd a_lineY lc (nI 0), upd a_lineC lc 0, a_digit, a_mark, a_minus, a_workAt, a_cardAt, a_inputAt, a_constantAt, a_code, a_groupAt, a_callStack, a_indicatorOn, a_printedText)) : wpX_line post (f_cardCount, nI lc, f_levelNow, f_memoryEnd, f_sumAt, f_productAt, f_leftAt, f_rightAt, f_restAt, f_quotientAt, f_textAt, f_counterAt, f_signAt, f_haveAt, f_zeroAt, f_oneAt, f_compiled, f_codeEnd, f_multiplyAt, f_divideAt, f_printAt, f_at, f_order, f_callDepth, f_nextCard, f_tally, f_halted, f_printedCount, a_cardKey, a_cardPart, a_cardFirst, a_cardSecond, a_lineWhen, a_lineCondition, a_lineOp, a_lineW, a_lineX, a_lineY, a_lineC, a_digit, a_mark, a_minus, a_workAt, a_cardAt, a_inputAt, a_constantAt, a_code, a_groupAt, a_callStack, a_indicatorOn, a_printedText) (nI a0) (nI a1) (nI a2) (nI a3) := by
  have h5 : a3 ≤ 5 := by
    by_cases z : a2 = 6 ∨ a2 = 7
    · rw [if_pos z] at h3; omega
    · rw [if_neg z] at h3; omega
  unfold wpX_line
  dsimp only
  refine br_t (nI_lt (b := 14) hn (by omega)) (br_f (nI_pos (by omega)) (br_f (nI_nlt (a := 3) (by omega) (by omega)) (br_f (nI_pos (by omega)) (br_f (nI_nlt (a := 8) (by omega) (by omega)) (br_f (nI_pos (by omega)) (br_t (nI_le (b := 9) (by omega) (by omega)) ?_))))))
  refine pk_eq a2 6 (fun e => ?_) (fun e => ?_)
  · rw [if_pos (Or.inl e)] at h3
    exact xm_l61 hn (by omega) (by omega) (by omega) (by omega) (nI_le (b := 3) (by omega) (by omega)) h
  · refine pk_eq a2 7 (fun e2 => ?_) (fun e2 => ?_)
    · rw [if_pos (Or.inr e2)] at h3
      exact xm_l61 hn (by omega) (by omega) (by omega) (by omega) (nI_le (b := 3) (by omega) (by omega)) h
    · exact xm_l61 hn (by omega) (by omega) (by omega) (by omega) (nI_le (b := 5) (by omega) (by omega)) h
theorem xm_o0 {post : Int32 → SX → Prop} (hg : ¬ gd_o lc p0 p1 p2 p3) (h : post 0 (f_cardCount, nI lc, f_levelNow, f_memoryEnd, f_sumAt, f_productAt, f_leftAt, f_rightAt, f_restAt, f_quotientAt, f_textAt, f_counterAt, f_signAt, f_haveAt, f_zeroAt, f_oneAt, f_compiled, f_codeEnd, f_multiplyAt, f_divideAt, f_printAt, f_at, f_order, f_callDepth, f_nextCard, f_tally, f_halted, f_printedCount, a_cardKey, a_cardPart, a_cardFirst, a_cardSecond, a_lineWhen, a_lineCondition, a_lineOp, a_lineW, a_lineX, a_lineY, a_lineC, a_digit, a_mark, a_minus, a_workAt, a_cardAt, a_inputAt, a_constantAt, a_code, a_groupAt, a_callStack, a_indicatorOn, a_printedText)) : wpX_operands post (f_cardCount, nI lc, f_levelNow, f_memoryEnd, f_sumAt, f_productAt, f_leftAt, f_rightAt, f_restAt, f_quotientAt, f_textAt, f_counterAt, f_signAt, f_haveAt, f_zeroAt, f_oneAt, f_compiled, f_codeEnd, f_multiplyAt, f_divideAt, f_printAt, f_at, f_order, f_callDepth, f_nextCard, f_tally, f_halted, f_printedCount, a_cardKey, a_cardPart, a_cardFirst, a_cardSecond, a_lineWhen, a_lineCondition, a_lineOp, a_lineW, a_lineX, a_lineY, a_lineC, a_digit, a_mark, a_minus, a_workAt, a_cardAt, a_inputAt, a_constantAt, a_code, a_groupAt, a_callStack, a_indicatorOn, a_printedText) p0 p1 p2 p3 := by
  unfold wpX_operands
  dsimp only
  refine br_c (fun _ => h) (fun a1 => br_c (fun _ => h) (fun a2 => br_c (fun _ => h) (fun a3 => br_c (fun _ => h) (fun a4 => br_c (fun _ => h) (fun a5 => br_c (fun _ => h) (fun a6 => ?_))))))
  refine br_c (fun _ => br_t rfl h) (fun a7 => br_c (fun _ => br_t rfl h) (fun a8 => ?_))
  exact absurd ⟨⟨a1, a2⟩, ⟨a3, a4⟩, ⟨a5, a6⟩, ⟨a7, a8⟩⟩ hg
theorem xm_o1 {post : Int32 → SX → Prop} {a0 a1 a2 : Nat} (hlc : lc ≤ 14) (h0 : a0 < lc) (h1 : a1 ≤ 10) (h2 : a2 ≤ 10) (h3 : ¬ p3 < -999) (h4 : ¬ 999 < p3) (h : post 1 (f_cardCount, nI lc, f_levelNow, f_memoryEnd, f_sumAt, f_productAt, f_leftAt, f_rightAt, f_restAt, f_quotientAt, f_textAt, f_counterAt, f_signAt, f_haveAt, f_zeroAt, f_oneAt, 0, f_codeEnd, f_multiplyAt, f_divideAt, f_printAt, f_at, f_order, f_callDepth, f_nextCard, f_tally, f_halted, f_printedCount, a_cardKey, a_cardPart, a_cardFirst, a_cardSecond, a_lineWhen, a_lineCondition, a_lineOp, a_lineW, upd a_lineX a0 (nI a1), upd a_lineY a0 (nI a2), upd a_lineC a0 p3, a_digit, a_mark, a_minus, a_workAt, a_cardAt, a_inputAt, a_constantAt, a_code, a_groupAt, a_callStack, a_indicatorOn, a_printedText)) : wpX_operands post (f_cardCount, nI lc, f_levelNow, f_memoryEnd, f_sumAt, f_productAt, f_leftAt, f_rightAt, f_restAt, f_quotientAt, f_textAt, f_counterAt, f_signAt, f_haveAt, f_zeroAt, f_oneAt, f_compiled, f_codeEnd, f_multiplyAt, f_divideAt, f_printAt, f_at, f_order, f_callDepth, f_nextCard, f_tally, f_halted, f_printedCount, a_cardKey, a_cardPart, a_cardFirst, a_cardSecond, a_lineWhen, a_lineCondition, a_lineOp, a_lineW, a_lineX, a_lineY, a_lineC, a_digit, a_mark, a_minus, a_workAt, a_cardAt, a_inputAt, a_constantAt, a_code, a_groupAt, a_callStack, a_indicatorOn, a_printedText) (nI a0) (nI a1) (nI a2) p3 := by
  have hin : vp_in (nI a0) 14 := vp_in_nI (by omega) (by omega)
  have hcl : (nI a0).toNatClampNeg = a0 := nI_clamp (by omega)
  unfold wpX_operands
  dsimp only
  rw [hcl]
  refine br_f (nI_pos (by omega)) (br_f (nI_ge h0 (by omega)) (br_f (nI_pos (by omega)) (br_f (nI_nlt (a := 10) (by omega) (by omega)) (br_f (nI_pos (by omega)) (br_f (nI_nlt (a := 10) (by omega) (by omega)) ?_)))))
  refine br_f h3 (br_f h4 (br_f (by decide) ?_))
  exact And.intro hin (nm_r (by rw [sm_nb (by omega)]) (And.intro hin (nm_r (by rw [sm_nb (by omega)]) (And.intro hin (nm_r (by rw [mt_s h3 h4]) h)))))
end MX27
section MY27
variable {f_cards f_lines f_present f_executed f_printed : Int32} {a_key a_part a_first a_second a_when a_condition a_op a_field a_px a_py a_constant a_work a_on a_text : Nat → Int32}
variable {p0 p1 p2 p3 : Int32} {n lc : Nat}
theorem ym_c0 {post : Int32 → SY → Prop} (hn : n < 16) (hg : ¬ gd_c p0 p1 p2 p3) (h : post (-10000000) (nI n, f_lines, f_present, f_executed, f_printed, a_key, a_part, a_first, a_second, a_when, a_condition, a_op, a_field, a_px, a_py, a_constant, a_work, a_on, a_text)) : wpY_card post (nI n, f_lines, f_present, f_executed, f_printed, a_key, a_part, a_first, a_second, a_when, a_condition, a_op, a_field, a_px, a_py, a_constant, a_work, a_on, a_text) p0 p1 p2 p3 := by
  unfold wpY_card
  dsimp only
  refine br_f (fun z => by have := (nI_eq (b := 16) (by omega) (by omega)).mp z; omega) ?_
  refine br_c (fun _ => br_t rfl h) (fun a1 => br_c (fun _ => br_t rfl h) (fun a2 => br_f (by decide) ?_))
  refine br_c (fun _ => br_t rfl h) (fun a3 => br_c (fun _ => br_t rfl h) (fun a4 => br_f (by decide) ?_))
  refine br_c (fun _ => br_t rfl h) (fun a5 => br_c (fun _ => br_t rfl h) (fun a6 => br_f (by decide) ?_))
  refine br_c (fun _ => br_t rfl h) (fun a7 => br_c (fun _ => br_t rfl h) (fun a8 => ?_))
  exact absurd ⟨⟨a1, a2⟩, ⟨a3, a4⟩, ⟨a5, a6⟩, ⟨a7, a8⟩⟩ hg
theorem ym_c1 {post : Int32 → SY → Prop} (hn : n < 16) (hg : gd_c p0 p1 p2 p3) (h : post (nI (n + 1)) (nI (n + 1), f_lines, f_present, f_executed, f_printed, upd a_key n p0, upd a_part n p1, upd a_first n p2, upd a_second n p3, a_when, a_condition, a_op, a_field, a_px, a_py, a_constant, a_work, a_on, a_text)) : wpY_card post (nI n, f_lines, f_present, f_executed, f_printed, a_key, a_part, a_first, a_second, a_when, a_condition, a_op, a_field, a_px, a_py, a_constant, a_work, a_on, a_text) p0 p1 p2 p3 := by
  obtain ⟨⟨a1, a2⟩, ⟨a3, a4⟩, ⟨a5, a6⟩, ⟨a7, a8⟩⟩ := hg
  have hin : vp_in (nI n) 16 := vp_in_nI hn (by omega)
  have hcl : (nI n).toNatClampNeg = n := nI_clamp (by omega)
  unfold wpY_card
  dsimp only
  rw [hcl]
  refine br_f (fun z => by have := (nI_eq (b := 16) (by omega) (by omega)).mp z; omega) ?_
  refine br_f a1 (br_f a2 (br_f (by decide) ?_))
  refine br_f a3 (br_f a4 (br_f (by decide) ?_))
  refine br_f a5 (br_f a6 (br_f (by decide) ?_))
  refine br_f a7 (br_f a8 (br_f (by decide) ?_))
  exact And.intro hin (nm_e (And.intro hin (nm_e (And.intro hin (nm_e (And.intro hin (nm_e (nm_r (nI_1 n) h))))))))
theorem ym_l0 {post : Int32 → SY → Prop} (hn : lc < 14) (hg : ¬ gd_l p0 p1 p2 p3) (h : post (-10000000) (f_cards, nI lc, f_present, f_executed, f_printed, a_key, a_part, a_first, a_second, a_when, a_condition, a_op, a_field, a_px, a_py, a_constant, a_work, a_on, a_text)) : wpY_line post (f_cards, nI lc, f_present, f_executed, f_printed, a_key, a_part, a_first, a_second, a_when, a_condition, a_op, a_field, a_px, a_py, a_constant, a_work, a_on, a_text) p0 p1 p2 p3 := by
  unfold wpY_line
  dsimp only
  refine br_f (fun z => by have := (nI_eq (b := 14) (by omega) (by omega)).mp z; omega) ?_
  refine br_c (fun _ => br_t rfl h) (fun a1 => br_c (fun _ => br_t rfl h) (fun a2 => br_f (by decide) ?_))
  refine br_c (fun _ => br_t rfl h) (fun a3 => br_c (fun _ => br_t rfl h) (fun a4 => br_f (by decide) ?_))
  refine br_c (fun _ => br_t rfl h) (fun a5 => br_c (fun _ => br_t rfl h) (fun a6 => br_f (by decide) ?_))
  have key : ∀ z0 : Int32, z0 = (if p2 = 6 ∨ p2 = 7 then 3 else 5) → wY_line_65 post p0 p1 p2 p3 z0 0 p3 f_cards (nI lc) f_present f_executed f_printed a_key a_part a_first a_second a_when a_condition a_op a_field a_px a_py a_constant a_work a_on a_text := by
    intro z0 hz
    refine br_c (fun _ => br_t rfl h) (fun a7 => br_c (fun _ => br_t rfl h) (fun a8 => ?_))
    rw [hz] at a8
    exact absurd ⟨⟨a1, a2⟩, ⟨a3, a4⟩, ⟨a5, a6⟩, ⟨a7, a8⟩⟩ hg
  refine br_c (fun e => key 3 (if_pos (Or.inl e)).symm) (fun e => br_c (fun e2 => key 3 (if_pos (Or.inr e2)).symm) (fun e2 => key 5 ?_))
  exact (if_neg (fun z => z.elim e e2)).symm
theorem ym_l65 {post : Int32 → SY → Prop} {z0 : Int32} {a0 a1 a2 a3 : Nat} (hn : lc < 14) (h3 : a3 < 100) (hz : ¬ z0 < nI a3) (h : post (nI (lc + 1)) (f_cards, nI (lc + 1), f_present, f_executed, f_printed, a_key, a_part, a_first, a_second, upd a_when lc (nI a0), upd a_condition lc (nI a1), upd a_op lc (nI a2), upd a_field lc (nI a3), upd a_px lc (nI 0), upd a_py lc (nI 0), upd a_constant lc 0, a_work, a_on, a_text)) : wY_line_65 post (nI a0) (nI a1) (nI a2) (nI a3) z0 0 (nI a3) f_cards (nI lc) f_present f_executed f_printed a_key a_part a_first a_second a_when a_condition a_op a_field a_px a_py a_constant a_work a_on a_text := by
  have hin : vp_in (nI lc) 14 := vp_in_nI hn (by omega)
  have hcl : (nI lc).toNatClampNeg = lc := nI_clamp (by omega)
  unfold wY_line_65
  rw [hcl]
  refine br_f (nI_pos (by omega)) (br_f hz (br_f (by decide) ?_))
  exact And.intro hin (nm_e (And.intro hin (nm_e (And.intro hin (nm_e (And.intro hin (nm_e (And.intro hin (nm_e (And.intro hin (nm_e (And.intro hin (nm_e (nm_r (nI_1 lc) h))))))))))))))
theorem ym_l1 {post : Int32 → SY → Prop} {a0 a1 a2 a3 : Nat} (hn : lc < 14) (h0 : a0 ≤ 3) (h1 : a1 ≤ 8) (h2 : a2 ≤ 9) (h3 : a3 ≤ if a2 = 6 ∨ a2 = 7 then 3 else 5) (h : post (nI (lc + 1)) (f_cards, nI (lc + 1), f_present, f_executed, f_printed, a_key, a_part, a_first, a_second, upd a_when lc (nI a0), upd a_condition lc (nI a1), upd a_op lc (nI a2), upd a_field lc (nI a3), upd a_px lc (nI 0), upd a_py lc (nI 0), upd a_constant lc 0, a_work, a_on, a_text)) : wpY_line post (f_cards, nI lc, f_present, f_executed, f_printed, a_key, a_part, a_first, a_second, a_when, a_condition, a_op, a_field, a_px, a_py, a_constant, a_work, a_on, a_text) (nI a0) (nI a1) (nI a2) (nI a3) := by
  have h5 : a3 ≤ 5 := by
    by_cases z : a2 = 6 ∨ a2 = 7
    · rw [if_pos z] at h3; omega
    · rw [if_neg z] at h3; omega
  unfold wpY_line
  dsimp only
  refine br_f (fun z => by have := (nI_eq (b := 14) (by omega) (by omega)).mp z; omega) ?_
  refine br_f (nI_pos (by omega)) (br_f (nI_nlt (a := 3) (by omega) (by omega)) (br_f (by decide) ?_))
  refine br_f (nI_pos (by omega)) (br_f (nI_nlt (a := 8) (by omega) (by omega)) (br_f (by decide) ?_))
  refine br_f (nI_pos (by omega)) (br_f (nI_nlt (a := 9) (by omega) (by omega)) (br_f (by decide) ?_))
  refine pk_eq a2 6 (fun e => ?_) (fun e => ?_)
  · rw [if_pos (Or.inl e)] at h3
    exact ym_l65 hn (by omega) (nI_nlt (a := 3) (by omega) (by omega)) h
  · refine pk_eq a2 7 (fun e2 => ?_) (fun e2 => ?_)
    · rw [if_pos (Or.inr e2)] at h3
      exact ym_l65 hn (by omega) (nI_nlt (a := 3) (by omega) (by omega)) h
    · exact ym_l65 hn (by omega) (nI_nlt (a := 5) (by omega) (by omega)) h
theorem ym_o0 {post : Int32 → SY → Prop} (hlc : lc ≤ 14) (hg : ¬ gd_o lc p0 p1 p2 p3) (h : post 0 (f_cards, nI lc, f_present, f_executed, f_printed, a_key, a_part, a_first, a_second, a_when, a_condition, a_op, a_field, a_px, a_py, a_constant, a_work, a_on, a_text)) : wpY_operands post (f_cards, nI lc, f_present, f_executed, f_printed, a_key, a_part, a_first, a_second, a_when, a_condition, a_op, a_field, a_px, a_py, a_constant, a_work, a_on, a_text) p0 p1 p2 p3 := by
  unfold wpY_operands
  dsimp only
  refine br_c (fun _ => br_t rfl h) (fun a1 => br_c (fun _ => br_t rfl h) (fun a2 => br_f (by decide) ?_))
  refine br_c (fun _ => br_t rfl h) (fun a3 => br_c (fun _ => br_t rfl h) (fun a4 => br_f (by decide) ?_))
  refine br_c (fun _ => br_t rfl h) (fun a5 => br_c (fun _ => br_t rfl h) (fun a6 => br_f (by decide) ?_))
  refine br_c (fun _ => br_t rfl h) (fun a7 => br_c (fun _ => br_t rfl h) (fun a8 => ?_))
  exact absurd ⟨⟨a1, fun z => a2 ((mt_lm hlc).mpr z)⟩, ⟨a3, a4⟩, ⟨a5, a6⟩, ⟨a7, a8⟩⟩ hg
theorem ym_o1 {post : Int32 → SY → Prop} {a0 a1 a2 : Nat} (hlc : lc ≤ 14) (h0 : a0 < lc) (h1 : a1 ≤ 10) (h2 : a2 ≤ 10) (h3 : ¬ p3 < -999) (h4 : ¬ 999 < p3) (h : post 1 (f_cards, nI lc, f_present, f_executed, f_printed, a_key, a_part, a_first, a_second, a_when, a_condition, a_op, a_field, upd a_px a0 (nI a1), upd a_py a0 (nI a2), upd a_constant a0 p3, a_work, a_on, a_text)) : wpY_operands post (f_cards, nI lc, f_present, f_executed, f_printed, a_key, a_part, a_first, a_second, a_when, a_condition, a_op, a_field, a_px, a_py, a_constant, a_work, a_on, a_text) (nI a0) (nI a1) (nI a2) p3 := by
  have hin : vp_in (nI a0) 14 := vp_in_nI (by omega) (by omega)
  have hcl : (nI a0).toNatClampNeg = a0 := nI_clamp (by omega)
  unfold wpY_operands
  dsimp only
  rw [hcl]
  refine br_f (nI_pos (by omega)) (br_f (fun z => nI_ge h0 (by omega) ((mt_lm hlc).mp z)) (br_f (by decide) ?_))
  refine br_f (nI_pos (by omega)) (br_f (nI_nlt (a := 10) (by omega) (by omega)) (br_f (by decide) ?_))
  refine br_f (nI_pos (by omega)) (br_f (nI_nlt (a := 10) (by omega) (by omega)) (br_f (by decide) ?_))
  refine br_f h3 (br_f h4 (br_f (by decide) ?_))
  exact And.intro hin (nm_e (And.intro hin (nm_e (And.intro hin (nm_e h)))))
end MY27
/-! tables -/
def tn_u (f : Nat → Nat) (k v : Nat) : Nat → Nat := fun j => if j = k then v else f j
theorem tn_I {f : Nat → Nat} {k v : Nat} : upd (fun i => nI (f i)) k (nI v) = fun i => nI (tn_u f k v i) := by
  funext j
  unfold upd tn_u
  by_cases h : j = k
  · rw [if_pos h, if_pos h]
  · rw [if_neg h, if_neg h]
def tb_ln (T : ln_T) (k a0 a1 a2 a3 : Nat) : ln_T := (tn_u (tb_wh T) k a0, tn_u (tb_cd T) k a1, tn_u (tb_op T) k a2, tn_u (tb_fw T) k a3, tn_u (tb_fx T) k 0, tn_u (tb_fy T) k 0, upd (tb_cs T) k 0)
def tb_od (T : ln_T) (k a1 a2 : Nat) (c : Int32) : ln_T := (tb_wh T, tb_cd T, tb_op T, tb_fw T, tn_u (tb_fx T) k a1, tn_u (tb_fy T) k a2, upd (tb_cs T) k c)
theorem tb_ok1 {T : ln_T} {k a0 a1 a2 a3 : Nat} (tb : tb_ok T) (h0 : a0 ≤ 3) (h1 : a1 ≤ 8) (h2 : a2 ≤ 9) (h3 : a3 ≤ if a2 = 6 ∨ a2 = 7 then 3 else 5) : tb_ok (tb_ln T k a0 a1 a2 a3) := by
  intro i
  by_cases z : i = k
  · have e0 : tb_wh (tb_ln T k a0 a1 a2 a3) i = a0 := if_pos z
    have e1 : tb_cd (tb_ln T k a0 a1 a2 a3) i = a1 := if_pos z
    have e2 : tb_op (tb_ln T k a0 a1 a2 a3) i = a2 := if_pos z
    have e3 : tb_fw (tb_ln T k a0 a1 a2 a3) i = a3 := if_pos z
    have e4 : tb_fx (tb_ln T k a0 a1 a2 a3) i = 0 := if_pos z
    have e5 : tb_fy (tb_ln T k a0 a1 a2 a3) i = 0 := if_pos z
    have e6 : tb_cs (tb_ln T k a0 a1 a2 a3) i = 0 := if_pos z
    rw [e0, e1, e2, e3, e4, e5, e6]
    refine ⟨h0, h1, h2, ?_, ?_, by omega, by omega, by decide⟩
    · by_cases y : a2 = 6 ∨ a2 = 7
      · rw [if_pos y] at h3; omega
      · rw [if_neg y] at h3; omega
    · intro y
      rw [if_pos y] at h3; omega
  · have e0 : tb_wh (tb_ln T k a0 a1 a2 a3) i = tb_wh T i := if_neg z
    have e1 : tb_cd (tb_ln T k a0 a1 a2 a3) i = tb_cd T i := if_neg z
    have e2 : tb_op (tb_ln T k a0 a1 a2 a3) i = tb_op T i := if_neg z
    have e3 : tb_fw (tb_ln T k a0 a1 a2 a3) i = tb_fw T i := if_neg z
    have e4 : tb_fx (tb_ln T k a0 a1 a2 a3) i = tb_fx T i := if_neg z
    have e5 : tb_fy (tb_ln T k a0 a1 a2 a3) i = tb_fy T i := if_neg z
    have e6 : tb_cs (tb_ln T k a0 a1 a2 a3) i = tb_cs T i := if_neg z
    rw [e0, e1, e2, e3, e4, e5, e6]
    exact tb i
theorem tb_ok2 {T : ln_T} {k a1 a2 : Nat} {c : Int32} (tb : tb_ok T) (h1 : a1 ≤ 10) (h2 : a2 ≤ 10) (h3 : -999 ≤ c.toInt ∧ c.toInt ≤ 999) : tb_ok (tb_od T k a1 a2 c) := by
  intro i
  obtain ⟨t1, t2, t3, t4, t5, t6, t7, t8⟩ := tb i
  by_cases z : i = k
  · have e4 : tb_fx (tb_od T k a1 a2 c) i = a1 := if_pos z
    have e5 : tb_fy (tb_od T k a1 a2 c) i = a2 := if_pos z
    have e6 : tb_cs (tb_od T k a1 a2 c) i = c := if_pos z
    rw [e4, e5, e6]
    exact ⟨t1, t2, t3, t4, t5, h1, h2, by omega⟩
  · have e4 : tb_fx (tb_od T k a1 a2 c) i = tb_fx T i := if_neg z
    have e5 : tb_fy (tb_od T k a1 a2 c) i = tb_fy T i := if_neg z
    have e6 : tb_cs (tb_od T k a1 a2 c) i = tb_cs T i := if_neg z
    rw [e4, e5, e6]
    exact ⟨t1, t2, t3, t4, t5, t6, t7, t8⟩
theorem cd_up {ak ap af as : Nat → Int32} {n : Nat} {p0 p1 p2 p3 : Int32} (h : cd_ok ak ap af as) (hg : gd_c p0 p1 p2 p3) : cd_ok (upd ak n p0) (upd ap n p1) (upd af n p2) (upd as n p3) := by
  obtain ⟨⟨a1, a2⟩, ⟨a3, a4⟩, ⟨a5, a6⟩, ⟨a7, a8⟩⟩ := hg
  intro k
  by_cases z : k = n
  · subst z
    rw [pk_us, pk_us, pk_us, pk_us]
    exact ⟨mt_r a1 a2, mt_r a3 a4, mt_a a5 a6, mt_a a7 a8⟩
  · rw [pk_un z, pk_un z, pk_un z, pk_un z]
    exact h k
end
section
/-! the other methods -/
theorem i_vc_card {k : Nat} {u : SX} {v : SY} (I : i_Rel k u v) (hk : k + 5 ≤ 2560) (v1 : Int32) (v2 : Int32) (v3 : Int32) (v4 : Int32) : wpX_card (fun r u' => wpY_card (fun r' v' => r' = r ∧ i_Rel (k + 5) u' v') v v1 v2 v3 v4) u v1 v2 v3 v4 := by
  refine zz_el (P := fun u v => wpX_card (fun r u' => wpY_card (fun r' v' => r' = r ∧ i_Rel (k + 5) u' v') v v1 v2 v3 v4) u v1 v2 v3 v4) ?_ I
  intro n lc lv co ce mu dv pr ak ap af as T cd gr pt od dp nc ta ha pc V st on tx W pe xe hf
  have hf0 := hf
  obtain ⟨f1, f2, f3, f4, f5, f6, f7⟩ := hf
  by_cases h16 : n = 16
  · subst h16
    exact br_f (show ¬ nI 16 < (16 : Int32) by decide) (br_t rfl ⟨rfl, zz_in hf0⟩)
  · have hn : n < 16 := by omega
    by_cases hg : gd_c v1 v2 v3 v4
    · refine xm_c1 hn hg (ym_c1 hn hg ⟨rfl, ?_⟩)
      exact zz_in (n := n + 1) ⟨by omega, f2, cd_up f3 hg, f4, f5, f6, f7⟩
    · exact xm_c0 hn hg (ym_c0 hn hg ⟨rfl, zz_in hf0⟩)
theorem i_vc_clear {k : Nat} {u : SX} {v : SY} (I : i_Rel k u v) (hk : k + 5 ≤ 2560) : wpX_clear (fun r u' => wpY_clear (fun r' v' => r' = r ∧ i_Rel (k + 5) u' v') v) u := by
  refine zz_el (P := fun u v => wpX_clear (fun r u' => wpY_clear (fun r' v' => r' = r ∧ i_Rel (k + 5) u' v') v) u) ?_ I
  intro n lc lv co ce mu dv pr ak ap af as T cd gr pt od dp nc ta ha pc V st on tx W pe xe hf
  have hf0 := hf
  obtain ⟨f1, f2, f3, f4, f5, f6, f7⟩ := hf
  exact ⟨rfl, zz_in (n := 0) ⟨by omega, f2, f3, f4, f5, f6, f7⟩⟩
theorem i_vc_line {k : Nat} {u : SX} {v : SY} (I : i_Rel k u v) (hk : k + 5 ≤ 2560) (v1 : Int32) (v2 : Int32) (v3 : Int32) (v4 : Int32) : wpX_line (fun r u' => wpY_line (fun r' v' => r' = r ∧ i_Rel (k + 5) u' v') v v1 v2 v3 v4) u v1 v2 v3 v4 := by
  refine zz_el (P := fun u v => wpX_line (fun r u' => wpY_line (fun r' v' => r' = r ∧ i_Rel (k + 5) u' v') v v1 v2 v3 v4) u v1 v2 v3 v4) ?_ I
  intro n lc lv co ce mu dv pr ak ap af as T cd gr pt od dp nc ta ha pc V st on tx W pe xe hf
  have hf0 := hf
  obtain ⟨f1, f2, f3, f4, f5, f6, f7⟩ := hf
  unfold xs_T xb_mk xb_cc xb_ak xb_ap xb_af xb_as xb_cd zy_T
  dsimp only
  by_cases h14 : lc = 14
  · subst h14
    exact br_f (show ¬ nI 14 < (14 : Int32) by decide) (br_t rfl ⟨rfl, zz_in hf0⟩)
  · have hn : lc < 14 := by omega
    by_cases hg : gd_l v1 v2 v3 v4
    · obtain ⟨⟨a1, a2⟩, ⟨a3, a4⟩, ⟨a5, a6⟩, ⟨a7, a8⟩⟩ := hg
      obtain ⟨j0, hj0, e0⟩ := mt_n 3 (by decide) a1 a2
      obtain ⟨j1, hj1, e1⟩ := mt_n 8 (by decide) a3 a4
      obtain ⟨j2, hj2, e2⟩ := mt_n 9 (by decide) a5 a6
      subst e0 e1 e2
      have e6 : (nI j2 = 6 ∨ nI j2 = 7) ↔ (j2 = 6 ∨ j2 = 7) := by
        have q1 : nI j2 = 6 ↔ j2 = 6 := nI_eq (b := 6) (by omega) (by omega)
        have q2 : nI j2 = 7 ↔ j2 = 7 := nI_eq (b := 7) (by omega) (by omega)
        rw [q1, q2]
      have hj3 : ∃ j3, j3 ≤ (if j2 = 6 ∨ j2 = 7 then 3 else 5) ∧ v4 = nI j3 := by
        by_cases y : j2 = 6 ∨ j2 = 7
        · rw [if_pos (e6.mpr y)] at a8
          rw [if_pos y]
          exact mt_n 3 (by decide) a7 a8
        · rw [if_neg (fun z => y (e6.mp z))] at a8
          rw [if_neg y]
          exact mt_n 5 (by decide) a7 a8
      obtain ⟨j3, hj3, e3⟩ := hj3
      subst e3
      refine xm_l1 hn hj0 hj1 hj2 hj3 (ym_l1 hn hj0 hj1 hj2 hj3 ⟨rfl, ?_⟩)
      simp only [tn_I]
      exact zz_in (lc := lc + 1) (T := tb_ln T lc j0 j1 j2 j3) ⟨f1, by omega, f3, tb_ok1 f4 hj0 hj1 hj2 hj3, fun z => absurd rfl z, f6, f7⟩
    · exact xm_l0 hn hg (ym_l0 hn hg ⟨rfl, zz_in hf0⟩)
theorem i_vc_operands {k : Nat} {u : SX} {v : SY} (I : i_Rel k u v) (hk : k + 5 ≤ 2560) (v1 : Int32) (v2 : Int32) (v3 : Int32) (v4 : Int32) : wpX_operands (fun r u' => wpY_operands (fun r' v' => r' = r ∧ i_Rel (k + 5) u' v') v v1 v2 v3 v4) u v1 v2 v3 v4 := by
  refine zz_el (P := fun u v => wpX_operands (fun r u' => wpY_operands (fun r' v' => r' = r ∧ i_Rel (k + 5) u' v') v v1 v2 v3 v4) u v1 v2 v3 v4) ?_ I
  intro n lc lv co ce mu dv pr ak ap af as T cd gr pt od dp nc ta ha pc V st on tx W pe xe hf
  have hf0 := hf
  obtain ⟨f1, f2, f3, f4, f5, f6, f7⟩ := hf
  unfold xs_T xb_mk xb_cc xb_ak xb_ap xb_af xb_as xb_cd zy_T
  dsimp only
  by_cases hg : gd_o lc v1 v2 v3 v4
  · obtain ⟨⟨a1, a2⟩, ⟨a3, a4⟩, ⟨a5, a6⟩, ⟨a7, a8⟩⟩ := hg
    obtain ⟨j0, hj0, e0⟩ := nI_of a1
    obtain ⟨j1, hj1, e1⟩ := mt_n 10 (by decide) a3 a4
    obtain ⟨j2, hj2, e2⟩ := mt_n 10 (by decide) a5 a6
    subst e0 e1 e2
    have h0 : j0 < lc := by
      rw [nI_leI (by omega) hj0] at a2
      omega
    refine xm_o1 f2 h0 hj1 hj2 a7 a8 (ym_o1 f2 h0 hj1 hj2 a7 a8 ⟨rfl, ?_⟩)
    simp only [tn_I]
    exact zz_in (T := tb_od T j0 j1 j2 v4) ⟨f1, f2, f3, tb_ok2 f4 hj1 hj2 (mt_a a7 a8), fun z => absurd rfl z, f6, f7⟩
  · exact xm_o0 hg (ym_o0 f2 hg ⟨rfl, zz_in hf0⟩)
theorem i_vc_retract {k : Nat} {u : SX} {v : SY} (I : i_Rel k u v) (hk : k + 5 ≤ 2560) : wpX_retract (fun r u' => wpY_retract (fun r' v' => r' = r ∧ i_Rel (k + 5) u' v') v) u := by
  refine zz_el (P := fun u v => wpX_retract (fun r u' => wpY_retract (fun r' v' => r' = r ∧ i_Rel (k + 5) u' v') v) u) ?_ I
  intro n lc lv co ce mu dv pr ak ap af as T cd gr pt od dp nc ta ha pc V st on tx W pe xe hf
  have hf0 := hf
  obtain ⟨f1, f2, f3, f4, f5, f6, f7⟩ := hf
  by_cases h0 : lc = 0
  · subst h0
    exact br_t rfl (br_t rfl ⟨rfl, zz_in hf0⟩)
  · have hne : ¬ nI lc = 0 := nI_ne0 (by omega) (by omega)
    have e : nI lc - 1 = nI (lc - 1) := pk_sub (b := 1) (by omega)
    exact br_f hne (nm_r e (br_f hne (nm_r e ⟨rfl, zz_in (lc := lc - 1) ⟨f1, by omega, f3, f4, fun z => absurd rfl z, f6, f7⟩⟩)))
theorem i_vc_work {k : Nat} {u : SX} {v : SY} (I : i_Rel k u v) (hk : k + 5 ≤ 2560) (v1 : Int32) : wpX_work (fun r => wpY_work (fun r' => r' = r ∧ i_Rel (k + 5) u v) v v1) u v1 := by
  refine zz_el (P := fun u v => wpX_work (fun r => wpY_work (fun r' => r' = r ∧ i_Rel (k + 5) u v) v v1) u v1) ?_ I
  intro n lc lv co ce mu dv pr ak ap af as T cd gr pt od dp nc ta ha pc V st on tx W pe xe hf
  have hf0 := hf
  obtain ⟨f1, f2, f3, f4, f5, f6, f7⟩ := hf
  by_cases h0 : v1 < 0
  · exact br_t h0 (br_t h0 (br_t rfl ⟨rfl, zz_in hf0⟩))
  · by_cases h5 : 5 < v1
    · exact br_f h0 (br_f (Int32.not_le.mpr h5) (br_f h0 (br_t h5 (br_t rfl ⟨rfl, zz_in hf0⟩))))
    · obtain ⟨j, hj, e⟩ := mt_n 5 (by decide) h0 h5
      subst e
      have hin : vp_in (nI j) 6 := vp_in_nI (by omega) (by omega)
      have hcl : (nI j).toNatClampNeg = j := nI_clamp (by omega)
      have ⟨c1, c2⟩ := ln_w1 j (by omega)
      refine br_f h0 (br_t (Int32.not_lt.mp h5) (And.intro hin ?_))
      have ew : ms_wk (nI j).toNatClampNeg = nI (6 * j + 5) := by rw [hcl]; exact cp_wk j (by omega)
      rw [ew]
      refine xr_fv (V := V) c1 (by omega) (f6.1 _ c1) (fun r hr => ?_)
      have er : r = W j := Int32.toInt_inj.mp (hr.trans (f6.2.1 j (by omega)))
      refine br_f h0 (br_f h5 (br_f (by decide) (And.intro hin ⟨?_, zz_in hf0⟩)))
      rw [er]
      exact congrArg W hcl
theorem i_vc_indicator {k : Nat} {u : SX} {v : SY} (I : i_Rel k u v) (hk : k + 5 ≤ 2560) (v1 : Int32) : wpX_indicator (fun r => wpY_indicator (fun r' => r' = r ∧ i_Rel (k + 5) u v) v v1) u v1 := by
  refine zz_el (P := fun u v => wpX_indicator (fun r => wpY_indicator (fun r' => r' = r ∧ i_Rel (k + 5) u v) v v1) u v1) ?_ I
  intro n lc lv co ce mu dv pr ak ap af as T cd gr pt od dp nc ta ha pc V st on tx W pe xe hf
  have hf0 := hf
  obtain ⟨f1, f2, f3, f4, f5, f6, f7⟩ := hf
  by_cases h0 : v1 < 0
  · exact br_t h0 (br_t h0 (br_t rfl ⟨rfl, zz_in hf0⟩))
  · by_cases h5 : 3 < v1
    · exact br_f h0 (br_t h5 (br_f h0 (br_t h5 (br_t rfl ⟨rfl, zz_in hf0⟩))))
    · obtain ⟨j, hj, e⟩ := mt_n 3 (by decide) h0 h5
      subst e
      have hin : vp_in (nI j) 4 := vp_in_nI (by omega) (by omega)
      refine br_f h0 (br_f h5 (And.intro hin (br_c (fun z => ?_) (fun z => ?_))))
      · exact br_f h0 (br_f h5 (br_f (by decide) (And.intro hin (br_t z ⟨rfl, zz_in hf0⟩))))
      · exact br_f h0 (br_f h5 (br_f (by decide) (And.intro hin (br_f z ⟨rfl, zz_in hf0⟩))))
theorem i_vc_printed {k : Nat} {u : SX} {v : SY} (I : i_Rel k u v) (hk : k + 5 ≤ 2560) : wpX_printed (fun r => wpY_printed (fun r' => r' = r ∧ i_Rel (k + 5) u v) v) u := by
  refine zz_el (P := fun u v => wpX_printed (fun r => wpY_printed (fun r' => r' = r ∧ i_Rel (k + 5) u v) v) u) ?_ I
  intro n lc lv co ce mu dv pr ak ap af as T cd gr pt od dp nc ta ha pc V st on tx W pe xe hf
  have hf0 := hf
  obtain ⟨f1, f2, f3, f4, f5, f6, f7⟩ := hf
  exact ⟨rfl, zz_in hf0⟩
theorem i_vc_text {k : Nat} {u : SX} {v : SY} (I : i_Rel k u v) (hk : k + 5 ≤ 2560) (v1 : Int32) : wpX_text (fun r => wpY_text (fun r' => r' = r ∧ i_Rel (k + 5) u v) v v1) u v1 := by
  refine zz_el (P := fun u v => wpX_text (fun r => wpY_text (fun r' => r' = r ∧ i_Rel (k + 5) u v) v v1) u v1) ?_ I
  intro n lc lv co ce mu dv pr ak ap af as T cd gr pt od dp nc ta ha pc V st on tx W pe xe hf
  have hf0 := hf
  obtain ⟨f1, f2, f3, f4, f5, f6, f7⟩ := hf
  by_cases h0 : v1 < 0
  · exact br_t h0 (br_t h0 (br_t rfl ⟨rfl, zz_in hf0⟩))
  · by_cases h5 : 79 < v1
    · refine br_f h0 (br_c (fun z => ?_) (fun z => br_f (Int32.not_le.mpr h5) ?_))
      · exact br_f h0 (br_t h5 (br_t rfl ⟨rfl, zz_in hf0⟩))
      · exact br_f h0 (br_t h5 (br_t rfl ⟨rfl, zz_in hf0⟩))
    · obtain ⟨j, hj, e⟩ := mt_n 79 (by decide) h0 h5
      subst e
      have hin : vp_in (nI j) 80 := vp_in_nI (by omega) (by omega)
      refine br_f h0 (br_c (fun z => ?_) (fun z => br_t (Int32.not_lt.mp h5) (And.intro hin ?_)))
      · exact br_f h0 (br_f h5 (br_f (by decide) (br_t z ⟨rfl, zz_in hf0⟩)))
      · exact br_f h0 (br_f h5 (br_f (by decide) (br_f z (And.intro hin ⟨rfl, zz_in hf0⟩))))
theorem i_vc_level {k : Nat} {u : SX} {v : SY} (I : i_Rel k u v) (hk : k + 5 ≤ 2560) (v1 : Int32) : wpX_level (fun r u' => wpY_level (fun r' => r' = r ∧ i_Rel (k + 5) u' v) v v1) u v1 := by
  refine zz_el (P := fun u v => wpX_level (fun r u' => wpY_level (fun r' => r' = r ∧ i_Rel (k + 5) u' v) v v1) u v1) ?_ I
  intro n lc lv co ce mu dv pr ak ap af as T cd gr pt od dp nc ta ha pc V st on tx W pe xe hf
  have hf0 := hf
  obtain ⟨f1, f2, f3, f4, f5, f6, f7⟩ := hf
  by_cases h0 : v1 < 0
  · have n0 : ¬ v1 = 0 := fun z => by rw [z] at h0; exact absurd h0 (by decide)
    have n1 : ¬ v1 = 1 := fun z => by rw [z] at h0; exact absurd h0 (by decide)
    exact br_t h0 (br_f n0 (br_f n1 ⟨rfl, zz_in hf0⟩))
  · by_cases h5 : 1 < v1
    · have n0 : ¬ v1 = 0 := fun z => by rw [z] at h5; exact absurd h5 (by decide)
      have n1 : ¬ v1 = 1 := fun z => by rw [z] at h5; exact absurd h5 (by decide)
      exact br_f h0 (br_f (Int32.not_le.mpr h5) (br_f n0 (br_f n1 ⟨rfl, zz_in hf0⟩)))
    · obtain ⟨j, hj, e⟩ := mt_n 1 (by decide) h0 h5
      have key : ∀ u' : SX, i_Rel (k + 5) u' (zy_T n lc pe xe pc ak ap af as T W on tx) → wpY_level (fun r' => r' = 1 ∧ i_Rel (k + 5) u' (zy_T n lc pe xe pc ak ap af as T W on tx)) (zy_T n lc pe xe pc ak ap af as T W on tx) v1 := by
        intro u' hu
        have h2 : j = 0 ∨ j = 1 := by omega
        rcases h2 with z | z
        · rw [e, z]; exact br_t rfl ⟨rfl, hu⟩
        · rw [e, z]; exact br_f (by decide) (br_t rfl ⟨rfl, hu⟩)
      refine br_f h0 (br_t (Int32.not_lt.mp h5) (br_c (fun z => ?_) (fun z => ?_)))
      · refine key _ ?_
        exact zz_in (lv := v1) ⟨f1, f2, f3, f4, by rw [z]; exact f5, f6, f7⟩
      · refine key _ ?_
        exact zz_in (lv := v1) (co := 0) ⟨f1, f2, f3, f4, fun z => absurd rfl z, f6, f7⟩
end
section
/-! the constructors -/
def mk_o (L : List Nat) : Nat → Int32 := fun a => if L.elem a = true then 1 else 0
theorem mk_0 : (fun _ => 0 : Nat → Int32) = mk_o [] := by
  funext a
  rfl
theorem mk_s {L : List Nat} {m : Nat} : upd (mk_o L) m 1 = mk_o (m :: L) := by
  funext a
  unfold upd mk_o
  by_cases h : a = m
  · rw [if_pos h, h, if_pos (by simp)]
  · rw [if_neg h]
    have e : (m :: L).elem a = L.elem a := by
      rw [List.elem_cons]
      have : (a == m) = false := by simpa using h
      rw [this]
    rw [e]
def ct_o (i : Nat) : Nat → Int32 := fun j => if j < i then nI (58 + 3 * j) else 0
theorem ct_s {i : Nat} : upd (ct_o i) i (nI (58 + 3 * i)) = ct_o (i + 1) := by
  funext j
  unfold upd ct_o
  by_cases h : j = i
  · rw [if_pos h, if_pos (by omega), h]
  · rw [if_neg h]
    by_cases h2 : j < i
    · rw [if_pos h2, if_pos (by omega)]
    · rw [if_neg h2, if_neg (by omega)]
theorem ct_0 : (fun _ => 0 : Nat → Int32) = ct_o 0 := by
  funext j
  exact (if_neg (by omega)).symm
section IN28
variable {f_cardCount f_lineCount f_levelNow f_memoryEnd f_sumAt f_productAt f_leftAt f_rightAt f_restAt f_quotientAt f_textAt f_counterAt f_signAt f_haveAt f_zeroAt f_oneAt f_compiled f_codeEnd f_multiplyAt f_divideAt f_printAt f_at f_order f_callDepth f_nextCard f_tally f_halted f_printedCount : Int32} {a_cardKey a_cardPart a_cardFirst a_cardSecond a_lineWhen a_lineCondition a_lineOp a_lineW a_lineX a_lineY a_lineC a_digit a_mark a_minus a_workAt a_cardAt a_inputAt a_constantAt a_code a_groupAt a_callStack a_indicatorOn a_printedText : Nat → Int32}
theorem xr_nf {post : Int32 → SX → Prop} {x y : Int32} {mk : Nat → Int32} (m l m' : Nat) (L : List Nat) (ex : x = nI m) (ey : y = nI l) (hmk : mk = mk_o L) (hm : m < 240) (hl : 1 ≤ l) (hm' : m + l = m') (h : post (nI (m' - 1)) (f_cardCount, f_lineCount, f_levelNow, nI m', f_sumAt, f_productAt, f_leftAt, f_rightAt, f_restAt, f_quotientAt, f_textAt, f_counterAt, f_signAt, f_haveAt, f_zeroAt, f_oneAt, f_compiled, f_codeEnd, f_multiplyAt, f_divideAt, f_printAt, f_at, f_order, f_callDepth, f_nextCard, f_tally, f_halted, f_printedCount, a_cardKey, a_cardPart, a_cardFirst, a_cardSecond, a_lineWhen, a_lineCondition, a_lineOp, a_lineW, a_lineX, a_lineY, a_lineC, a_digit, mk_o (m :: L), a_minus, a_workAt, a_cardAt, a_inputAt, a_constantAt, a_code, a_groupAt, a_callStack, a_indicatorOn, a_printedText)) : wpX_newField post (f_cardCount, f_lineCount, f_levelNow, x, f_sumAt, f_productAt, f_leftAt, f_rightAt, f_restAt, f_quotientAt, f_textAt, f_counterAt, f_signAt, f_haveAt, f_zeroAt, f_oneAt, f_compiled, f_codeEnd, f_multiplyAt, f_divideAt, f_printAt, f_at, f_order, f_callDepth, f_nextCard, f_tally, f_halted, f_printedCount, a_cardKey, a_cardPart, a_cardFirst, a_cardSecond, a_lineWhen, a_lineCondition, a_lineOp, a_lineW, a_lineX, a_lineY, a_lineC, a_digit, mk, a_minus, a_workAt, a_cardAt, a_inputAt, a_constantAt, a_code, a_groupAt, a_callStack, a_indicatorOn, a_printedText) y := by
  subst ex ey hmk hm'
  unfold wpX_newField
  dsimp only
  refine And.intro (vp_in_nI hm (by omega)) (nm_r (e' := mk_o (m :: L)) ?_ (nm_r (nI_add m l) ?_))
  · rw [nI_clamp (by omega), sm_t1]
    exact mk_s
  · rw [show nI (m + l) - 1 = nI (m + l - 1) from pk_sub (b := 1) (by omega)]
    exact h
end IN28
def in_V : Nat → Int := fun e => if e = 152 then 1 else 0
theorem in_L : ∀ a, a < 153 → mk_o [152,151,150,149,148,142,136,129,123,117,105,98,95,92,89,86,83,80,77,74,71,68,65,62,59,56,53,50,47,44,42,40,38,36,30,24,18,12,6,0] a = ms_mark a := by decide +kernel
theorem in_b : ∀ x, x ∈ [152,151,150,149,148,142,136,129,123,117,105,98,95,92,89,86,83,80,77,74,71,68,65,62,59,56,53,50,47,44,42,40,38,36,30,24,18,12,6,0] → x < 153 := by decide +kernel
theorem in_m : mk_o [152,151,150,149,148,142,136,129,123,117,105,98,95,92,89,86,83,80,77,74,71,68,65,62,59,56,53,50,47,44,42,40,38,36,30,24,18,12,6,0] = ms_mark := by
  funext a
  by_cases h : a < 153
  · exact in_L a h
  · have h1 : ms_mark a = 0 := if_neg (fun z => h z.1)
    rw [h1]
    refine if_neg ?_
    intro z
    exact h (in_b a (List.elem_iff.mp z))
theorem in_d1 : ∀ a, a < 153 → upd (fun _ => 0) 152 (nI 1) a = ms_DG in_V a := by decide +kernel
theorem in_d : upd (fun _ => 0) ((nI (153 - 1)).toNatClampNeg) (vp_nar .byte 1) = ms_DG in_V := by
  rw [show (nI (153 - 1)).toNatClampNeg = 152 from nI_clamp (n := 152) (by omega), show vp_nar .byte 1 = nI 1 from sm_nb' (d := 1) (by omega)]
  funext a
  by_cases h : a < 153
  · exact in_d1 a h
  · rw [pk_un (by omega)]
    exact (if_neg h).symm
theorem in_s : ms_MN in_V = (fun _ => 0) := by
  funext a
  refine if_neg ?_
  intro z
  have h := z.2
  unfold in_V at h
  split at h <;> omega
theorem in_N : ms_N in_V := by
  intro e he
  unfold in_V
  have hp := (ms_E3 he).2.1
  have : 1 < 10 ^ ms_fl e := Nat.one_lt_pow (by omega) (by decide)
  split
  · exact this
  · exact da_pos _
theorem in_v0 {P : SX → Prop} (h : P (xs_T (xb_mk 0 0 1 0 0 0 0 0 (fun _ => 0) (fun _ => 0) (fun _ => 0) (fun _ => 0) ((fun _ => 0), (fun _ => 0), (fun _ => 0), (fun _ => 0), (fun _ => 0), (fun _ => 0), (fun _ => 0)) (fun _ => 0) (fun _ => 0)) 0 0 0 0 0 0 0 in_V (fun _ => 0) (fun _ => 0) (fun _ => 0))) : wpX_init P := by
  unfold wpX_init wpX_layOut
  dsimp only
  refine ⟨7, ?_⟩
  refine br_f (by decide) ?_
  refine xr_nf 0 6 6 [] rfl rfl mk_0 (by omega) (by omega) rfl ?_
  dsimp only
  refine And.intro (vp_in_nI (n := 0) (by omega) (by omega)) (nm_r (e' := upd (fun _ => 0) 0 (nI 5)) (by rw [sm_ns (d := 5) (by omega)]; rfl) (nm_r (e' := 1) rfl ?_))
  refine br_f (by decide) ?_
  refine xr_nf 6 6 12 [0] rfl rfl rfl (by omega) (by omega) rfl ?_
  dsimp only
  refine And.intro (vp_in_nI (n := 1) (by omega) (by omega)) (nm_r (e' := upd (upd (fun _ => 0) 0 (nI 5)) 1 (nI 11)) (by rw [sm_ns (d := 11) (by omega)]; rfl) (nm_r (e' := 2) rfl ?_))
  refine br_f (by decide) ?_
  refine xr_nf 12 6 18 [6,0] rfl rfl rfl (by omega) (by omega) rfl ?_
  dsimp only
  refine And.intro (vp_in_nI (n := 2) (by omega) (by omega)) (nm_r (e' := upd (upd (upd (fun _ => 0) 0 (nI 5)) 1 (nI 11)) 2 (nI 17)) (by rw [sm_ns (d := 17) (by omega)]; rfl) (nm_r (e' := 3) rfl ?_))
  refine br_f (by decide) ?_
  refine xr_nf 18 6 24 [12,6,0] rfl rfl rfl (by omega) (by omega) rfl ?_
  dsimp only
  refine And.intro (vp_in_nI (n := 3) (by omega) (by omega)) (nm_r (e' := upd (upd (upd (upd (fun _ => 0) 0 (nI 5)) 1 (nI 11)) 2 (nI 17)) 3 (nI 23)) (by rw [sm_ns (d := 23) (by omega)]; rfl) (nm_r (e' := 4) rfl ?_))
  refine br_f (by decide) ?_
  refine xr_nf 24 6 30 [18,12,6,0] rfl rfl rfl (by omega) (by omega) rfl ?_
  dsimp only
  refine And.intro (vp_in_nI (n := 4) (by omega) (by omega)) (nm_r (e' := upd (upd (upd (upd (upd (fun _ => 0) 0 (nI 5)) 1 (nI 11)) 2 (nI 17)) 3 (nI 23)) 4 (nI 29)) (by rw [sm_ns (d := 29) (by omega)]; rfl) (nm_r (e' := 5) rfl ?_))
  refine br_f (by decide) ?_
  refine xr_nf 30 6 36 [24,18,12,6,0] rfl rfl rfl (by omega) (by omega) rfl ?_
  dsimp only
  refine And.intro (vp_in_nI (n := 5) (by omega) (by omega)) (nm_r (e' := upd (upd (upd (upd (upd (upd (fun _ => 0) 0 (nI 5)) 1 (nI 11)) 2 (nI 17)) 3 (nI 23)) 4 (nI 29)) 5 (nI 35)) (by rw [sm_ns (d := 35) (by omega)]; rfl) (nm_r (e' := 6) rfl ?_))
  refine br_t (by decide) ⟨5, ?_⟩
  refine br_f (by decide) (br_f (by decide) ?_)
  unfold wX_layOut_50
  refine xr_nf 36 2 38 [30,24,18,12,6,0] rfl rfl rfl (by omega) (by omega) rfl ?_
  dsimp only
  refine And.intro (vp_in_nI (n := 0) (by omega) (by omega)) (nm_r (e' := upd (fun _ => 0) 0 (nI 37)) (by rw [sm_ns (d := 37) (by omega)]; rfl) (br_f (by decide) ?_))
  unfold wX_layOut_71
  refine xr_nf 38 2 40 [36,30,24,18,12,6,0] rfl rfl rfl (by omega) (by omega) rfl ?_
  dsimp only
  refine And.intro (vp_in_nI (n := 0) (by omega) (by omega)) (nm_r (e' := upd (fun _ => 0) 0 (nI 39)) (by rw [sm_ns (d := 39) (by omega)]; rfl) (nm_r (e' := 1) rfl ?_))
  refine br_f (by decide) (br_f (by decide) ?_)
  unfold wX_layOut_50
  refine xr_nf 40 2 42 [38,36,30,24,18,12,6,0] rfl rfl rfl (by omega) (by omega) rfl ?_
  dsimp only
  refine And.intro (vp_in_nI (n := 1) (by omega) (by omega)) (nm_r (e' := upd (upd (fun _ => 0) 0 (nI 37)) 1 (nI 41)) (by rw [sm_ns (d := 41) (by omega)]; rfl) (br_f (by decide) ?_))
  unfold wX_layOut_71
  refine xr_nf 42 2 44 [40,38,36,30,24,18,12,6,0] rfl rfl rfl (by omega) (by omega) rfl ?_
  dsimp only
  refine And.intro (vp_in_nI (n := 1) (by omega) (by omega)) (nm_r (e' := upd (upd (fun _ => 0) 0 (nI 39)) 1 (nI 43)) (by rw [sm_ns (d := 43) (by omega)]; rfl) (nm_r (e' := 2) rfl ?_))
  refine br_f (by decide) (br_t (by decide) ?_)
  unfold wX_layOut_50
  refine xr_nf 44 3 47 [42,40,38,36,30,24,18,12,6,0] rfl rfl rfl (by omega) (by omega) rfl ?_
  dsimp only
  refine And.intro (vp_in_nI (n := 2) (by omega) (by omega)) (nm_r (e' := upd (upd (upd (fun _ => 0) 0 (nI 37)) 1 (nI 41)) 2 (nI 46)) (by rw [sm_ns (d := 46) (by omega)]; rfl) (br_t (by decide) ?_))
  unfold wX_layOut_71
  refine xr_nf 47 3 50 [44,42,40,38,36,30,24,18,12,6,0] rfl rfl rfl (by omega) (by omega) rfl ?_
  dsimp only
  refine And.intro (vp_in_nI (n := 2) (by omega) (by omega)) (nm_r (e' := upd (upd (upd (fun _ => 0) 0 (nI 39)) 1 (nI 43)) 2 (nI 49)) (by rw [sm_ns (d := 49) (by omega)]; rfl) (nm_r (e' := 3) rfl ?_))
  refine br_f (by decide) (br_t (by decide) ?_)
  unfold wX_layOut_50
  refine xr_nf 50 3 53 [47,44,42,40,38,36,30,24,18,12,6,0] rfl rfl rfl (by omega) (by omega) rfl ?_
  dsimp only
  refine And.intro (vp_in_nI (n := 3) (by omega) (by omega)) (nm_r (e' := upd (upd (upd (upd (fun _ => 0) 0 (nI 37)) 1 (nI 41)) 2 (nI 46)) 3 (nI 52)) (by rw [sm_ns (d := 52) (by omega)]; rfl) (br_t (by decide) ?_))
  unfold wX_layOut_71
  refine xr_nf 53 3 56 [50,47,44,42,40,38,36,30,24,18,12,6,0] rfl rfl rfl (by omega) (by omega) rfl ?_
  dsimp only
  refine And.intro (vp_in_nI (n := 3) (by omega) (by omega)) (nm_r (e' := upd (upd (upd (upd (fun _ => 0) 0 (nI 39)) 1 (nI 43)) 2 (nI 49)) 3 (nI 55)) (by rw [sm_ns (d := 55) (by omega)]; rfl) (nm_r (e' := 4) rfl ?_))
  refine br_t (by decide) ⟨15, ?_⟩
  refine br_f (by decide) ?_
  refine xr_nf 56 3 59 [53,50,47,44,42,40,38,36,30,24,18,12,6,0] rfl rfl rfl (by omega) (by omega) rfl ?_
  dsimp only
  refine And.intro (vp_in_nI (n := 0) (by omega) (by omega)) (nm_r (e' := ct_o 1) (by rw [ct_0]; rw [sm_ns (d := 58) (by omega)]; exact ct_s (i := 0)) (nm_r (e' := 1) rfl ?_))
  refine br_f (by decide) ?_
  refine xr_nf 59 3 62 [56,53,50,47,44,42,40,38,36,30,24,18,12,6,0] rfl rfl rfl (by omega) (by omega) rfl ?_
  dsimp only
  refine And.intro (vp_in_nI (n := 1) (by omega) (by omega)) (nm_r (e' := ct_o 2) (by rw [sm_ns (d := 61) (by omega)]; exact ct_s (i := 1)) (nm_r (e' := 2) rfl ?_))
  refine br_f (by decide) ?_
  refine xr_nf 62 3 65 [59,56,53,50,47,44,42,40,38,36,30,24,18,12,6,0] rfl rfl rfl (by omega) (by omega) rfl ?_
  dsimp only
  refine And.intro (vp_in_nI (n := 2) (by omega) (by omega)) (nm_r (e' := ct_o 3) (by rw [sm_ns (d := 64) (by omega)]; exact ct_s (i := 2)) (nm_r (e' := 3) rfl ?_))
  refine br_f (by decide) ?_
  refine xr_nf 65 3 68 [62,59,56,53,50,47,44,42,40,38,36,30,24,18,12,6,0] rfl rfl rfl (by omega) (by omega) rfl ?_
  dsimp only
  refine And.intro (vp_in_nI (n := 3) (by omega) (by omega)) (nm_r (e' := ct_o 4) (by rw [sm_ns (d := 67) (by omega)]; exact ct_s (i := 3)) (nm_r (e' := 4) rfl ?_))
  refine br_f (by decide) ?_
  refine xr_nf 68 3 71 [65,62,59,56,53,50,47,44,42,40,38,36,30,24,18,12,6,0] rfl rfl rfl (by omega) (by omega) rfl ?_
  dsimp only
  refine And.intro (vp_in_nI (n := 4) (by omega) (by omega)) (nm_r (e' := ct_o 5) (by rw [sm_ns (d := 70) (by omega)]; exact ct_s (i := 4)) (nm_r (e' := 5) rfl ?_))
  refine br_f (by decide) ?_
  refine xr_nf 71 3 74 [68,65,62,59,56,53,50,47,44,42,40,38,36,30,24,18,12,6,0] rfl rfl rfl (by omega) (by omega) rfl ?_
  dsimp only
  refine And.intro (vp_in_nI (n := 5) (by omega) (by omega)) (nm_r (e' := ct_o 6) (by rw [sm_ns (d := 73) (by omega)]; exact ct_s (i := 5)) (nm_r (e' := 6) rfl ?_))
  refine br_f (by decide) ?_
  refine xr_nf 74 3 77 [71,68,65,62,59,56,53,50,47,44,42,40,38,36,30,24,18,12,6,0] rfl rfl rfl (by omega) (by omega) rfl ?_
  dsimp only
  refine And.intro (vp_in_nI (n := 6) (by omega) (by omega)) (nm_r (e' := ct_o 7) (by rw [sm_ns (d := 76) (by omega)]; exact ct_s (i := 6)) (nm_r (e' := 7) rfl ?_))
  refine br_f (by decide) ?_
  refine xr_nf 77 3 80 [74,71,68,65,62,59,56,53,50,47,44,42,40,38,36,30,24,18,12,6,0] rfl rfl rfl (by omega) (by omega) rfl ?_
  dsimp only
  refine And.intro (vp_in_nI (n := 7) (by omega) (by omega)) (nm_r (e' := ct_o 8) (by rw [sm_ns (d := 79) (by omega)]; exact ct_s (i := 7)) (nm_r (e' := 8) rfl ?_))
  refine br_f (by decide) ?_
  refine xr_nf 80 3 83 [77,74,71,68,65,62,59,56,53,50,47,44,42,40,38,36,30,24,18,12,6,0] rfl rfl rfl (by omega) (by omega) rfl ?_
  dsimp only
  refine And.intro (vp_in_nI (n := 8) (by omega) (by omega)) (nm_r (e' := ct_o 9) (by rw [sm_ns (d := 82) (by omega)]; exact ct_s (i := 8)) (nm_r (e' := 9) rfl ?_))
  refine br_f (by decide) ?_
  refine xr_nf 83 3 86 [80,77,74,71,68,65,62,59,56,53,50,47,44,42,40,38,36,30,24,18,12,6,0] rfl rfl rfl (by omega) (by omega) rfl ?_
  dsimp only
  refine And.intro (vp_in_nI (n := 9) (by omega) (by omega)) (nm_r (e' := ct_o 10) (by rw [sm_ns (d := 85) (by omega)]; exact ct_s (i := 9)) (nm_r (e' := 10) rfl ?_))
  refine br_f (by decide) ?_
  refine xr_nf 86 3 89 [83,80,77,74,71,68,65,62,59,56,53,50,47,44,42,40,38,36,30,24,18,12,6,0] rfl rfl rfl (by omega) (by omega) rfl ?_
  dsimp only
  refine And.intro (vp_in_nI (n := 10) (by omega) (by omega)) (nm_r (e' := ct_o 11) (by rw [sm_ns (d := 88) (by omega)]; exact ct_s (i := 10)) (nm_r (e' := 11) rfl ?_))
  refine br_f (by decide) ?_
  refine xr_nf 89 3 92 [86,83,80,77,74,71,68,65,62,59,56,53,50,47,44,42,40,38,36,30,24,18,12,6,0] rfl rfl rfl (by omega) (by omega) rfl ?_
  dsimp only
  refine And.intro (vp_in_nI (n := 11) (by omega) (by omega)) (nm_r (e' := ct_o 12) (by rw [sm_ns (d := 91) (by omega)]; exact ct_s (i := 11)) (nm_r (e' := 12) rfl ?_))
  refine br_f (by decide) ?_
  refine xr_nf 92 3 95 [89,86,83,80,77,74,71,68,65,62,59,56,53,50,47,44,42,40,38,36,30,24,18,12,6,0] rfl rfl rfl (by omega) (by omega) rfl ?_
  dsimp only
  refine And.intro (vp_in_nI (n := 12) (by omega) (by omega)) (nm_r (e' := ct_o 13) (by rw [sm_ns (d := 94) (by omega)]; exact ct_s (i := 12)) (nm_r (e' := 13) rfl ?_))
  refine br_f (by decide) ?_
  refine xr_nf 95 3 98 [92,89,86,83,80,77,74,71,68,65,62,59,56,53,50,47,44,42,40,38,36,30,24,18,12,6,0] rfl rfl rfl (by omega) (by omega) rfl ?_
  dsimp only
  refine And.intro (vp_in_nI (n := 13) (by omega) (by omega)) (nm_r (e' := ct_o 14) (by rw [sm_ns (d := 97) (by omega)]; exact ct_s (i := 13)) (nm_r (e' := 14) rfl ?_))
  refine br_t (by decide) ?_
  refine xr_nf 98 7 105 [95,92,89,86,83,80,77,74,71,68,65,62,59,56,53,50,47,44,42,40,38,36,30,24,18,12,6,0] rfl rfl rfl (by omega) (by omega) rfl ?_
  dsimp only
  refine xr_nf 105 12 117 [98,95,92,89,86,83,80,77,74,71,68,65,62,59,56,53,50,47,44,42,40,38,36,30,24,18,12,6,0] rfl rfl rfl (by omega) (by omega) rfl ?_
  dsimp only
  refine xr_nf 117 6 123 [105,98,95,92,89,86,83,80,77,74,71,68,65,62,59,56,53,50,47,44,42,40,38,36,30,24,18,12,6,0] rfl rfl rfl (by omega) (by omega) rfl ?_
  dsimp only
  refine xr_nf 123 6 129 [117,105,98,95,92,89,86,83,80,77,74,71,68,65,62,59,56,53,50,47,44,42,40,38,36,30,24,18,12,6,0] rfl rfl rfl (by omega) (by omega) rfl ?_
  dsimp only
  refine xr_nf 129 7 136 [123,117,105,98,95,92,89,86,83,80,77,74,71,68,65,62,59,56,53,50,47,44,42,40,38,36,30,24,18,12,6,0] rfl rfl rfl (by omega) (by omega) rfl ?_
  dsimp only
  refine xr_nf 136 6 142 [129,123,117,105,98,95,92,89,86,83,80,77,74,71,68,65,62,59,56,53,50,47,44,42,40,38,36,30,24,18,12,6,0] rfl rfl rfl (by omega) (by omega) rfl ?_
  dsimp only
  refine xr_nf 142 6 148 [136,129,123,117,105,98,95,92,89,86,83,80,77,74,71,68,65,62,59,56,53,50,47,44,42,40,38,36,30,24,18,12,6,0] rfl rfl rfl (by omega) (by omega) rfl ?_
  dsimp only
  refine xr_nf 148 1 149 [142,136,129,123,117,105,98,95,92,89,86,83,80,77,74,71,68,65,62,59,56,53,50,47,44,42,40,38,36,30,24,18,12,6,0] rfl rfl rfl (by omega) (by omega) rfl ?_
  dsimp only
  refine xr_nf 149 1 150 [148,142,136,129,123,117,105,98,95,92,89,86,83,80,77,74,71,68,65,62,59,56,53,50,47,44,42,40,38,36,30,24,18,12,6,0] rfl rfl rfl (by omega) (by omega) rfl ?_
  dsimp only
  refine xr_nf 150 1 151 [149,148,142,136,129,123,117,105,98,95,92,89,86,83,80,77,74,71,68,65,62,59,56,53,50,47,44,42,40,38,36,30,24,18,12,6,0] rfl rfl rfl (by omega) (by omega) rfl ?_
  dsimp only
  refine xr_nf 151 1 152 [150,149,148,142,136,129,123,117,105,98,95,92,89,86,83,80,77,74,71,68,65,62,59,56,53,50,47,44,42,40,38,36,30,24,18,12,6,0] rfl rfl rfl (by omega) (by omega) rfl ?_
  dsimp only
  refine xr_nf 152 1 153 [151,150,149,148,142,136,129,123,117,105,98,95,92,89,86,83,80,77,74,71,68,65,62,59,56,53,50,47,44,42,40,38,36,30,24,18,12,6,0] rfl rfl rfl (by omega) (by omega) rfl ?_
  dsimp only
  refine And.intro (vp_in_nI (n := 152) (by omega) (by omega)) (nm_r (e' := ms_DG in_V) in_d ?_)
  rw [in_m]
  unfold xs_T at h
  rw [in_s] at h
  exact h
theorem in_c : cd_ok (fun _ => 0) (fun _ => 0) (fun _ => 0) (fun _ => 0) := fun k => (by decide : ((0 ≤ (0 : Int32).toInt ∧ (0 : Int32).toInt ≤ 99) ∧ (0 ≤ (0 : Int32).toInt ∧ (0 : Int32).toInt ≤ 99) ∧ (-999 ≤ (0 : Int32).toInt ∧ (0 : Int32).toInt ≤ 999) ∧ (-999 ≤ (0 : Int32).toInt ∧ (0 : Int32).toInt ≤ 999)))
theorem in_t : tb_ok ((fun _ => 0), (fun _ => 0), (fun _ => 0), (fun _ => 0), (fun _ => 0), (fun _ => 0), (fun _ => 0)) := fun i => ⟨Nat.zero_le _, Nat.zero_le _, Nat.zero_le _, Nat.zero_le _, fun _ => Nat.zero_le _, Nat.zero_le _, Nat.zero_le _, (by decide : (0 : Int32).toInt.natAbs ≤ 999)⟩
theorem in_w : ∀ w, w < 6 → in_V (6 * w + 5) = ((fun _ => 0 : Nat → Int32) w).toInt := by
  intro w hw
  show in_V (6 * w + 5) = (0 : Int32).toInt
  rw [show in_V (6 * w + 5) = 0 from if_neg (by omega)]
  decide
theorem i_vc0 : wpX_init (fun u => wpY_init (fun v => i_Rel 0 u v)) := by
  refine in_v0 ?_
  exact zz_in (k := 0) (n := 0) (lc := 0) (pe := 0) (xe := 0) (T := ((fun _ => 0), (fun _ => 0), (fun _ => 0), (fun _ => 0), (fun _ => 0), (fun _ => 0), (fun _ => 0))) (W := fun _ => 0) ⟨by omega, by omega, in_c, in_t, fun z => absurd rfl z, ⟨in_N, in_w, rfl, rfl, by decide, by decide, by decide⟩, yb_0⟩
end
section
/-! run -/
theorem i_vc_run {k : Nat} {u : SX} {v : SY} (I : i_Rel k u v) (hk : k + 5 ≤ 2560) : wpX_run (fun r u' => wpY_run (fun r' v' => r' = r ∧ i_Rel (k + 5) u' v') v) u := by
  refine zz_el (P := fun u v => wpX_run (fun r u' => wpY_run (fun r' v' => r' = r ∧ i_Rel (k + 5) u' v') v) u) ?_ I
  intro n lc lv co ce mu dv pr ak ap af as T cd gr pt od dp nc ta ha pc V st on tx W pe xe hf
  obtain ⟨f1, f2, f3, f4, f5, f6, f7⟩ := hf
  refine xr_run f1 f2 f4 f3 f5 f6 ?_
  intro pt' co' ce' mu' dv' pr' od' cd' gr' st' V' Z hZ hP hV
  have hb : yb_W Z.1 := by rw [hZ]; exact yb_rY (yb_w0 f7)
  refine yr_run (T := T) f2 f1 f4 ⟨fun _ => rfl, fun _ => rfl, fun _ => rfl, fun _ => rfl, fun _ => rfl, fun _ => rfl⟩ (fun _ => rfl) f3 f7 ?_
  intro pe' Z' hZ'
  rw [hZ', ← hZ]
  exact ⟨rfl, zz_in ⟨f1, f2, f3, f4, hP, hV, hb⟩⟩
end

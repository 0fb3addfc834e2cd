section
/-! pure rows to paste: stores, nI and lN arithmetic, masks, shifts, narrowing, branches by naturals (pk_le, pk_lt, pk_eq), loops (lp1 .. lp16: the measure of the state; rp1 ..: recursion), negatives. Take what you need -/
theorem pk_us {f : Nat → Int32} {k : Nat} {x : Int32} : upd f k x k = x := if_pos rfl
theorem pk_un {f : Nat → Int32} {k j : Nat} {x : Int32} (h : j ≠ k) : upd f k x j = f j := if_neg h
theorem pk_sub {a b : Nat} (h : b ≤ a) : nI a - nI b = nI (a - b) := by
  obtain ⟨c, rfl⟩ : ∃ c, a = c + b := ⟨a - b, by omega⟩
  rw [← nI_add, Int32.add_sub_cancel, Nat.add_sub_cancel]
theorem pk_m1 (n : Nat) : nI (n + 1) + (-1) = nI n := by
  rw [← nI_1, Int32.add_assoc, show (1 : Int32) + (-1) = 0 from rfl, Int32.add_zero]
theorem pk_mul (a b : Nat) : nI a * nI b = nI (a * b) := (Int32.ofNat_mul a b).symm
theorem pk_div {a d : Nat} (ha : a < 2 ^ 31) (h0 : 0 < d) (hd : d < 2 ^ 31) : nI a / nI d = nI (a / d) := by
  apply Int32.toInt_inj.mp
  rw [lg_idiv_nonneg (by rw [nI_toInt ha]; omega) (by rw [nI_toInt hd]; omega), nI_toInt ha, nI_toInt hd, nI_toInt (Nat.lt_of_le_of_lt (Nat.div_le_self a d) ha)]
  first | rfl | exact (Int.natCast_ediv _ _).symm
theorem pk_rem {a d : Nat} (ha : a < 2 ^ 31) (h0 : 0 < d) (hd : d < 2 ^ 31) : nI a - nI a / nI d * nI d = nI (a % d) := by
  rw [pk_div ha h0 hd, pk_mul, pk_sub (Nat.div_mul_le_self a d)]
  exact congrArg nI (by have := Nat.div_add_mod' a d; omega)
theorem pk_sub_toInt {a b : Nat} (ha : a < 2 ^ 30) (hb : b < 2 ^ 30) : (nI a - nI b).toInt = (a : Int) - b := by
  rw [Int32.toInt_sub, nI_toInt (by omega), nI_toInt (by omega)]
  exact Int.bmod_eq_of_le (by omega) (by omega)
theorem pk_sneg {a b : Nat} (hb : b < 2 ^ 30) (h : a < b) : nI a - nI b < 0 := by
  rw [Int32.lt_iff_toInt_lt, pk_sub_toInt (by omega) hb, show (0 : Int32).toInt = 0 from by decide]
  omega
theorem pk_ix (x : Int32) {n : Nat} (hn : n < 2 ^ 31) : x < 0 ∨ nI n ≤ x ∨ ∃ j : Nat, j < n ∧ x = nI j := by
  by_cases h : x < 0
  · exact Or.inl h
  · obtain ⟨j, hj, rfl⟩ := nI_of h
    by_cases h2 : j < n
    · exact Or.inr (Or.inr ⟨j, h2, rfl⟩)
    · exact Or.inr (Or.inl (nI_le (by omega) hj))
theorem pk_le {x y : Int32} {A B : Prop} (a b : Nat) (f : a ≤ b → A) (g : b < a → B) (hx : x = nI a := by rfl) (hy : y = nI b := by rfl) (ha : a < 2 ^ 31 := by omega) (hb : b < 2 ^ 31 := by omega) : (x ≤ y → A) ∧ (¬ x ≤ y → B) := by
  subst hx hy
  rw [nI_leI ha hb]
  exact ⟨f, fun z => g (by omega)⟩
theorem pk_lt {x y : Int32} {A B : Prop} (a b : Nat) (f : a < b → A) (g : b ≤ a → B) (hx : x = nI a := by rfl) (hy : y = nI b := by rfl) (ha : a < 2 ^ 31 := by omega) (hb : b < 2 ^ 31 := by omega) : (x < y → A) ∧ (¬ x < y → B) := by
  subst hx hy
  rw [nI_ltI ha hb]
  exact ⟨f, fun z => g (by omega)⟩
theorem pk_eq {x y : Int32} {A B : Prop} (a b : Nat) (f : a = b → A) (g : a ≠ b → B) (hx : x = nI a := by rfl) (hy : y = nI b := by rfl) (ha : a < 2 ^ 31 := by omega) (hb : b < 2 ^ 31 := by omega) : (x = y → A) ∧ (¬ x = y → B) := by
  subst hx hy
  rw [nI_eq ha hb]
  exact ⟨f, g⟩
theorem pk_in {x : Int32} (n N : Nat) (h : n < N) (hx : x = nI n := by rfl) (hN : N < 2 ^ 31 := by omega) : vp_in x N := by
  subst hx
  exact vp_in_nI h hN
theorem pk_cl {x : Int32} (n : Nat) (hx : x = nI n := by rfl) (h : n < 2 ^ 31 := by omega) : x.toNatClampNeg = n := by
  subst hx
  exact nI_clamp h
theorem pk_tn {n : Nat} (h : n < 2 ^ 32) : (nI n).toBitVec.toNat = n := Nat.mod_eq_of_lt h
theorem pk_and (x : Int32) {m : Int32} (k : Nat) (hm : m.toBitVec.toNat = 2 ^ k - 1) : x &&& m = nI (x.toBitVec.toNat % 2 ^ k) := by
  apply Int32.toBitVec_inj.mp
  apply BitVec.eq_of_toNat_eq
  rw [Int32.toBitVec_and, BitVec.toNat_and, hm, Nat.and_two_pow_sub_one_eq_mod]
  show _ = (BitVec.ofNat 32 _).toNat
  rw [BitVec.toNat_ofNat]
  exact (Nat.mod_eq_of_lt (Nat.lt_of_le_of_lt (Nat.mod_le _ _) x.toBitVec.isLt)).symm
theorem pk_andN {n : Nat} (h : n < 2 ^ 32) {m : Int32} (k : Nat) (hm : m.toBitVec.toNat = 2 ^ k - 1) : nI n &&& m = nI (n % 2 ^ k) := by
  rw [pk_and _ k hm, pk_tn h]
theorem pk_andE (x : Int32) {m : Int32} (k : Nat) (hm : m.toBitVec.toNat = 2 ^ k - 1) : ∃ j : Nat, j < 2 ^ k ∧ x &&& m = nI j := ⟨_, Nat.mod_lt _ (Nat.two_pow_pos k), pk_and x k hm⟩
theorem pk_andIn (x : Int32) {m : Int32} (k : Nat) (hm : m.toBitVec.toNat = 2 ^ k - 1) (hk : k ≤ 30) : vp_in (x &&& m) (2 ^ k) := by
  obtain ⟨j, hj, e⟩ := pk_andE x k hm
  rw [e]
  exact vp_in_nI hj (Nat.lt_of_le_of_lt (Nat.pow_le_pow_right (by decide) hk) (by decide))
theorem pk_shl (a s : Int32) (k : Nat) (hs : (s.toBitVec.smod 32).toNat = k) : (a <<< s).toBitVec.toNat = a.toBitVec.toNat * 2 ^ k % 2 ^ 32 := by
  show (a.toBitVec <<< (s.toBitVec.smod 32).toNat).toNat = _
  rw [hs, BitVec.toNat_shiftLeft, Nat.shiftLeft_eq]
theorem pk_shlN {n : Nat} (s : Int32) (k : Nat) (hs : (s.toBitVec.smod 32).toNat = k) (h : n * 2 ^ k < 2 ^ 32) : nI n <<< s = nI (n * 2 ^ k) := by
  apply Int32.toBitVec_inj.mp
  apply BitVec.eq_of_toNat_eq
  have hn : n < 2 ^ 32 := Nat.lt_of_le_of_lt (Nat.le_mul_of_pos_right n (Nat.two_pow_pos k)) h
  rw [pk_shl _ _ k hs, pk_tn hn, pk_tn h, Nat.mod_eq_of_lt h]
theorem pk_shr (a s : Int32) (k : Nat) (hs : (s.toBitVec.smod 32).toNat = k) : (a >>> s).toInt = a.toInt >>> k := by
  show (a.toBitVec.sshiftRight (s.toBitVec.smod 32).toNat).toInt = _
  rw [hs, BitVec.toInt_sshiftRight]
  rfl
theorem pk_shrN {n : Nat} (h : n < 2 ^ 31) (s : Int32) (k : Nat) (hs : (s.toBitVec.smod 32).toNat = k) : nI n >>> s = nI (n / 2 ^ k) := by
  apply Int32.toInt_inj.mp
  have h2 : n / 2 ^ k ≤ n := Nat.div_le_self _ _
  rw [pk_shr _ _ k hs, nI_toInt h, nI_toInt (by omega), Int.shiftRight_eq_div_pow]
  rfl
theorem pk_ushr (x s : Int32) (k : Nat) (hs : ((s.toUInt32 &&& Int32.toUInt32 31).toBitVec % 32).toNat = k) : (x.toUInt32 >>> (s.toUInt32 &&& Int32.toUInt32 31)).toInt32.toBitVec.toNat = x.toBitVec.toNat / 2 ^ k := by
  have e : (x.toUInt32 >>> (s.toUInt32 &&& Int32.toUInt32 31)).toInt32.toBitVec = x.toBitVec >>> k := by
    rw [← hs]
    exact UInt32.toBitVec_shiftRight _ _
  rw [e, BitVec.toNat_ushiftRight, Nat.shiftRight_eq_div_pow]
theorem pk_ushrN {n : Nat} (hn : n < 2 ^ 32) (s : Int32) (k : Nat) (hs : ((s.toUInt32 &&& Int32.toUInt32 31).toBitVec % 32).toNat = k) : ((nI n).toUInt32 >>> (s.toUInt32 &&& Int32.toUInt32 31)).toInt32 = nI (n / 2 ^ k) := by
  apply Int32.toBitVec_inj.mp
  apply BitVec.eq_of_toNat_eq
  rw [pk_ushr _ s k hs, pk_tn hn, pk_tn (Nat.lt_of_le_of_lt (Nat.div_le_self _ _) hn)]
theorem pk_nb (z : Int32) : narrow .byte (.int z.toInt8.toInt32) = .int z.toInt8.toInt32 := congrArg Value.int (by simp)
theorem pk_ns (z : Int32) : narrow .short (.int z.toInt16.toInt32) = .int z.toInt16.toInt32 := congrArg Value.int (by simp)
theorem pk_fb (r : Int32) : fits .byte (.int r.toInt8.toInt32) = true := by
  have ⟨a, b⟩ := lg_i2b_range r
  have h1 : (-128 : Int32).toInt = -128 := by decide
  have h2 : (127 : Int32).toInt = 127 := by decide
  simp only [fits, Bool.and_eq_true, decide_eq_true_eq, Int32.le_iff_toInt_le, h1, h2]
  omega
theorem pk_fs (r : Int32) : fits .short (.int r.toInt16.toInt32) = true := by
  have ⟨a, b⟩ := lg_i2s_range r
  have h1 : (-32768 : Int32).toInt = -32768 := by decide
  have h2 : (32767 : Int32).toInt = 32767 := by decide
  simp only [fits, Bool.and_eq_true, decide_eq_true_eq, Int32.le_iff_toInt_le, h1, h2]
  omega
theorem pk_charN {q : Nat} (hq : q < 65536) : narrow .char (.int (nI q)) = .int (nI q) ∧ fits .char (.int (nI q)) = true := by
  constructor
  · have e : (nI q).toUInt32.toUInt16.toUInt32.toInt32 = nI q := by
      apply Int32.toBitVec_inj.mp
      apply BitVec.eq_of_toNat_eq
      show (nI q).toUInt32.toUInt16.toUInt32.toNat = q % 2 ^ 32
      rw [UInt16.toNat_toUInt32, UInt32.toNat_toUInt16, show (nI q).toUInt32.toNat = q % 2 ^ 32 from rfl]
      omega
    exact congrArg Value.int e
  · have a : (0 : Int32) ≤ nI q := nI_pos' (by omega)
    have b : nI q ≤ 65535 := nI_le (b := 65535) (by omega) (by decide)
    show (decide ((0 : Int32) ≤ nI q) && decide (nI q ≤ 65535)) = true
    rw [decide_eq_true a, decide_eq_true b]
    rfl
theorem pk_char (x : Int32) : (x.toUInt32 % 65536).toInt32 = nI (x.toBitVec.toNat % 65536) := by
  apply Int32.toBitVec_inj.mp
  apply BitVec.eq_of_toNat_eq
  rw [pk_tn (by omega)]
  show (x.toUInt32 % 65536).toNat = _
  rw [UInt32.toNat_mod]
  rfl
theorem pk_nc (x : Int32) : narrow .char (.int (x.toUInt32 % 65536).toInt32) = .int (x.toUInt32 % 65536).toInt32 := by
  rw [pk_char]
  exact (pk_charN (Nat.mod_lt _ (by decide))).1
theorem pk_fc (x : Int32) : fits .char (.int (x.toUInt32 % 65536).toInt32) = true := by
  rw [pk_char]
  exact (pk_charN (Nat.mod_lt _ (by decide))).2
theorem pk_vb (z : Int32) : vp_nar .byte z.toInt8.toInt32 = z.toInt8.toInt32 := by rw [vp_nar_byte]; simp
theorem pk_vs (z : Int32) : vp_nar .short z.toInt16.toInt32 = z.toInt16.toInt32 := by rw [vp_nar_short]; simp
theorem pk_vc (z : Int32) : vp_nar .char (z.toUInt32 % 65536).toInt32 = (z.toUInt32 % 65536).toInt32 := Value.int.inj (pk_nc z)
end
section
/-! numbers: bits, casts, indices -/
theorem tn_or (a b : Nat) : nI a ||| nI b = nI (a ||| b) := by
  apply Int32.toBitVec_inj.1
  show BitVec.ofNat 32 a ||| BitVec.ofNat 32 b = BitVec.ofNat 32 (a ||| b)
  apply BitVec.eq_of_getLsbD_eq
  intro i hi
  simp [hi]
theorem tn_and (a b : Nat) : nI a &&& nI b = nI (a &&& b) := by
  apply Int32.toBitVec_inj.1
  show BitVec.ofNat 32 a &&& BitVec.ofNat 32 b = BitVec.ofNat 32 (a &&& b)
  apply BitVec.eq_of_getLsbD_eq
  intro i hi
  simp [hi]
theorem tn_sl : ∀ n, n < 32 → ((nI n &&& 31).toBitVec.smod 32).toNat = n := by decide +kernel
theorem tn_sh {s p : Nat} (hs : s < 2 ^ 31) (hp : p < 32) : (nI s >>> (nI p &&& 31)) &&& 1 = nI (s / 2 ^ p % 2) := by
  have h2 : s / 2 ^ p ≤ s := Nat.div_le_self _ _
  rw [pk_shrN hs _ p (tn_sl p hp), pk_andN (by omega) 1 (by decide)]
theorem tn_bit {s p : Nat} (hs : s < 2 ^ 31) (hp : p < 32) : ((nI s >>> (nI p &&& 31)) &&& 1) = 1 ↔ s.testBit p = true := by
  rw [tn_sh hs hp, show (1 : Int32) = nI 1 from rfl, nI_eq (by omega) (by omega), Nat.testBit_eq_decide_div_mod_eq, decide_eq_true_iff]
theorem tn_bitv {s p : Nat} (hs : s < 2 ^ 31) (hp : p < 32) : (nI s >>> (nI p &&& 31)) &&& 1 = nI (if s.testBit p then 1 else 0) := by
  rw [tn_sh hs hp, Nat.testBit_eq_decide_div_mod_eq]
  have h : s / 2 ^ p % 2 < 2 := Nat.mod_lt _ (by decide)
  generalize s / 2 ^ p % 2 = z at h
  congr 1
  by_cases hz : z = 1
  · simp [hz]
  · simp [hz]; omega
theorem tn_shr4 {s : Nat} (hs : s < 2 ^ 31) : nI s >>> ((4 : Int32) &&& 31) = nI (s / 16) := pk_shrN hs _ 4 (by decide)
theorem tn_shr2 {s : Nat} (hs : s < 2 ^ 31) : nI s >>> ((2 : Int32) &&& 31) = nI (s / 4) := pk_shrN hs _ 2 (by decide)
theorem tn_shl4 {s : Nat} (hs : s < 256) : nI s <<< ((4 : Int32) &&& 31) = nI (s * 16) := pk_shlN _ 4 (by decide) (by omega)
theorem tn_and15 {s : Nat} (hs : s < 2 ^ 31) : nI s &&& 15 = nI (s % 16) := pk_andN (by omega) 4 (by decide)
theorem tn_and3 {s : Nat} (hs : s < 2 ^ 31) : nI s &&& 3 = nI (s % 4) := pk_andN (by omega) 2 (by decide)
theorem tn_or16 {a b : Nat} (ha : a < 16) : a ||| b * 16 = a + 16 * b := by
  have h := Nat.two_pow_add_eq_or_of_lt (i := 4) (b := a) (by omega) b
  rw [Nat.or_comm, Nat.mul_comm b 16]
  rw [show (2 : Nat) ^ 4 = 16 from rfl] at h
  omega
theorem tn_pair {a b : Nat} (ha : a < 16) (hb : b < 16) : nI a ||| (nI b <<< ((4 : Int32) &&& 31)) = nI (a + 16 * b) := by
  rw [tn_shl4 (by omega), tn_or, tn_or16 ha]
theorem tn_b {n : Nat} (h : n < 128) : (nI n).toInt8.toInt32 = nI n :=
  lg_i2b_small (by rw [nI_toInt (by omega)]; omega) (by rw [nI_toInt (by omega)]; omega)
theorem tn_s {n : Nat} (h : n < 32768) : (nI n).toInt16.toInt32 = nI n :=
  lg_i2s_small (by rw [nI_toInt (by omega)]; omega) (by rw [nI_toInt (by omega)]; omega)
theorem tn_nb {n : Nat} (h : n < 128) : vp_nar .byte (nI n) = nI n := by rw [vp_nar_byte, tn_b h]
theorem tn_nb2 {n : Nat} (h : n < 128) : vp_nar .byte (nI n).toInt8.toInt32 = nI n := by rw [tn_b h, tn_nb h]
theorem tn_ns {n : Nat} (h : n < 32768) : vp_nar .short (nI n) = nI n := by rw [vp_nar_short, tn_s h]
theorem tn_ns2 {n : Nat} (h : n < 32768) : vp_nar .short (nI n).toInt16.toInt32 = nI n := by rw [tn_s h, tn_ns h]
/-- k * a + b as one number -/
theorem tn_ix (c : Nat) {k : Int32} (a b : Nat) (hk : k = nI c := by rfl) : k * nI a + nI b = nI (c * a + b) := by
  subst hk; rw [pk_mul, nI_add]
theorem tn_ixc (c : Nat) {k : Int32} (a b : Nat) (h : c * a + b < 2 ^ 31) (hk : k = nI c := by rfl) : (k * nI a + nI b).toNatClampNeg = c * a + b := by
  rw [tn_ix c a b hk, nI_clamp h]
theorem tn_ixi (c N : Nat) {k : Int32} (a b : Nat) (h : c * a + b < N) (hN : N < 2 ^ 31 := by omega) (hk : k = nI c := by rfl) : vp_in (k * nI a + nI b) N := by
  rw [tn_ix c a b hk]; exact vp_in_nI h hN
theorem tn_1 (n : Nat) (h : 1 ≤ n) : nI n - 1 = nI (n - 1) := pk_sub (b := 1) h
theorem tn_2 (n : Nat) (h : 2 ≤ n) : nI n - 2 = nI (n - 2) := pk_sub (b := 2) h
theorem tn_m1 {n : Nat} (h : 1 ≤ n) : nI n + (-1) = nI (n - 1) := by
  obtain ⟨m, rfl⟩ : ∃ m, n = m + 1 := ⟨n - 1, by omega⟩
  exact pk_m1 m
/-- a number between two literals -/
theorem tn_rng {x : Int32} (n : Nat) {M : Int32} (hM : M.toInt = n) (h0 : ¬ x < 0) (h1 : x ≤ M) : ∃ j : Nat, j ≤ n ∧ x = nI j := nI_of2 hM h0 h1
theorem tn_neg1 {a : Nat} (h : a < 2 ^ 31) : ¬ nI a < 0 := nI_pos h
theorem tn_upd_s {f : Nat → Int32} {k : Nat} {x : Int32} : upd f k x k = x := if_pos rfl
theorem tn_upd_n {f : Nat → Int32} {k j : Nat} {x : Int32} (h : j ≠ k) : upd f k x j = f j := if_neg h
end
section
/-! trees (a type of core Lean with the shape wanted), sums, lists of all trees of a size -/
abbrev tl_T : Type := Nat.Internal.Linear.Expr
def tl_sz : tl_T → Nat
  | .num _ => 1
  | .mulL _ t => 1 + tl_sz t
  | .add t u => 1 + tl_sz t + tl_sz u
  | .var _ => 1
  | .mulR _ _ => 1
def tl_wd : tl_T → List Nat
  | .num c => [c]
  | .mulL _ t => 2 :: tl_wd t
  | .add t u => 3 :: (tl_wd t ++ tl_wd u)
  | .var _ => [0]
  | .mulR _ _ => [0]
theorem tl_szp (t : tl_T) : 1 ≤ tl_sz t := by
  cases t <;> simp only [tl_sz] <;> omega
theorem tl_wdl (t : tl_T) : (tl_wd t).length = tl_sz t := by
  induction t with
  | num c => rfl
  | var i => rfl
  | add t u h1 h2 => simp only [tl_wd, tl_sz, List.length_cons, List.length_append, h1, h2]; omega
  | mulL k t h => simp only [tl_wd, tl_sz, List.length_cons, h]; omega
  | mulR t k h => rfl
/-- the sum of f 0 .. f (n - 1) -/
def tl_sm (f : Nat → Nat) : Nat → Nat
  | 0 => 0
  | n + 1 => tl_sm f n + f n
theorem tl_sm_add (f g : Nat → Nat) (n : Nat) : tl_sm (fun i => f i + g i) n = tl_sm f n + tl_sm g n := by
  induction n with
  | zero => rfl
  | succ n h => simp only [tl_sm, h]; omega
theorem tl_sm_congr {f g : Nat → Nat} {n : Nat} (h : ∀ i, i < n → f i = g i) : tl_sm f n = tl_sm g n := by
  induction n with
  | zero => rfl
  | succ n ih => simp only [tl_sm]; rw [ih (fun i hi => h i (by omega)), h n (by omega)]
theorem tl_sm_mul (c : Nat) (f : Nat → Nat) (n : Nat) : tl_sm (fun i => c * f i) n = c * tl_sm f n := by
  induction n with
  | zero => rfl
  | succ n h => simp only [tl_sm, h, Nat.mul_add]
theorem tl_sm_zero (n : Nat) : tl_sm (fun _ => 0) n = 0 := by
  induction n with
  | zero => rfl
  | succ n h => simp only [tl_sm, h]
theorem tl_sm_delta {k : Nat} (g : Nat → Nat) {n : Nat} (hk : k < n) : tl_sm (fun i => if k = i then g i else 0) n = g k := by
  induction n with
  | zero => omega
  | succ n h =>
    simp only [tl_sm]
    by_cases e : k = n
    · subst e
      rw [if_pos rfl, tl_sm_congr (g := fun _ => 0) (fun i hi => if_neg (by omega)), tl_sm_zero]; omega
    · rw [h (by omega), if_neg e]; rfl
theorem tl_sm_mono (f : Nat → Nat) {m n : Nat} (h : m ≤ n) : tl_sm f m ≤ tl_sm f n := by
  induction n with
  | zero => have : m = 0 := by omega
            subst this; exact Nat.le_refl _
  | succ n ih =>
    by_cases e : m = n + 1
    · subst e; exact Nat.le_refl _
    · have := ih (by omega); simp only [tl_sm]; omega
theorem tl_sm_le {f g : Nat → Nat} {n : Nat} (h : ∀ i, i < n → f i ≤ g i) : tl_sm f n ≤ tl_sm g n := by
  induction n with
  | zero => exact Nat.le_refl _
  | succ n ih => simp only [tl_sm]; have := ih (fun i hi => h i (by omega)); have := h n (by omega); omega
theorem tl_sm_app (f : Nat → Nat) (a b : Nat) : tl_sm f (a + b) = tl_sm f a + tl_sm (fun i => f (a + i)) b := by
  induction b with
  | zero => rfl
  | succ b h => rw [← Nat.add_assoc]; simp only [tl_sm]; rw [h]; omega
theorem tl_sm_flat (g : Nat → Nat → Nat) {N : Nat} (hN : 0 < N) (n : Nat) : tl_sm (fun k => g (k / N) (k % N)) (N * n) = tl_sm (fun i => tl_sm (fun p => g i p) N) n := by
  induction n with
  | zero => rfl
  | succ n h =>
    rw [Nat.mul_succ, tl_sm_app, h]
    simp only [tl_sm]
    congr 1
    apply tl_sm_congr
    intro i hi
    rw [Nat.mul_add_div hN, Nat.div_eq_of_lt hi, Nat.mul_add_mod, Nat.mod_eq_of_lt hi, Nat.add_zero]
/-- the sum of a weight over a list of trees -/
def tl_ws (l : List tl_T) (f : tl_T → Nat) : Nat := (l.map f).sum
theorem tl_ws_nil (f : tl_T → Nat) : tl_ws [] f = 0 := rfl
theorem tl_ws_cons (t : tl_T) (l : List tl_T) (f : tl_T → Nat) : tl_ws (t :: l) f = f t + tl_ws l f := by
  simp only [tl_ws, List.map_cons, List.sum_cons]
theorem tl_ws_app (a b : List tl_T) (f : tl_T → Nat) : tl_ws (a ++ b) f = tl_ws a f + tl_ws b f := by
  induction a with
  | nil => simp only [List.nil_append, tl_ws_nil, Nat.zero_add]
  | cons t a h => simp only [List.cons_append, tl_ws_cons, h]; omega
theorem tl_ws_map (c : tl_T → tl_T) (l : List tl_T) (f : tl_T → Nat) : tl_ws (l.map c) f = tl_ws l (fun t => f (c t)) := by
  induction l with
  | nil => rfl
  | cons t l h => simp only [List.map_cons, tl_ws_cons, h]
theorem tl_ws_congr {l : List tl_T} {f g : tl_T → Nat} (h : ∀ t, t ∈ l → f t = g t) : tl_ws l f = tl_ws l g := by
  induction l with
  | nil => rfl
  | cons t l ih => rw [tl_ws_cons, tl_ws_cons, h t (List.mem_cons_self ..), ih (fun u hu => h u (List.mem_cons_of_mem _ hu))]
theorem tl_ws_le {l : List tl_T} {f g : tl_T → Nat} (h : ∀ t, t ∈ l → f t ≤ g t) : tl_ws l f ≤ tl_ws l g := by
  induction l with
  | nil => exact Nat.le_refl _
  | cons t l ih =>
    rw [tl_ws_cons, tl_ws_cons]
    have := h t (List.mem_cons_self ..)
    have := ih (fun u hu => h u (List.mem_cons_of_mem _ hu))
    omega
theorem tl_ws_one (l : List tl_T) : tl_ws l (fun _ => 1) = l.length := by
  induction l with
  | nil => rfl
  | cons t l h => rw [tl_ws_cons, h, List.length_cons]; omega
theorem tl_ws_mem {l : List tl_T} {f : tl_T → Nat} {t : tl_T} (h : t ∈ l) : f t ≤ tl_ws l f := by
  induction l with
  | nil => exact absurd h (List.not_mem_nil)
  | cons u l ih =>
    rw [tl_ws_cons]
    rcases List.mem_cons.mp h with e | e
    · subst e; omega
    · have := ih e; omega
/-- how many trees of a list have the number p -/
def tl_ct (e : tl_T → Nat) (l : List tl_T) (p : Nat) : Nat := tl_ws l (fun t => if e t = p then 1 else 0)
theorem tl_ct_le (e : tl_T → Nat) (l : List tl_T) (p : Nat) : tl_ct e l p ≤ l.length := by
  rw [← tl_ws_one l]
  exact tl_ws_le (fun t _ => by split <;> omega)
theorem tl_ct_pos {e : tl_T → Nat} {l : List tl_T} {t : tl_T} (h : t ∈ l) : 0 < tl_ct e l (e t) := by
  have := tl_ws_mem (f := fun u => if e u = e t then 1 else 0) h
  simp only [if_pos] at this
  exact this
theorem tl_cls (e : tl_T → Nat) (g : Nat → Nat) (N : Nat) (l : List tl_T) (h : ∀ t, t ∈ l → e t < N) :
    tl_sm (fun p => tl_ct e l p * g p) N = tl_ws l (fun t => g (e t)) := by
  induction l with
  | nil =>
    rw [tl_ws_nil, ← tl_sm_zero N]
    exact tl_sm_congr (fun i _ => by simp only [tl_ct, tl_ws_nil, Nat.zero_mul])
  | cons t l ih =>
    rw [tl_ws_cons, ← ih (fun u hu => h u (List.mem_cons_of_mem _ hu)), ← tl_sm_delta g (h t (List.mem_cons_self ..)), ← tl_sm_add]
    refine tl_sm_congr (fun i _ => ?_)
    simp only [tl_ct, tl_ws_cons, Nat.add_mul]
    by_cases hi : e t = i
    · rw [if_pos hi, if_pos hi, Nat.one_mul]
    · rw [if_neg hi, if_neg hi, Nat.zero_mul]
/-- all trees with two children, the first out of a, the second out of b -/
def tl_pr (a b : List tl_T) : List tl_T := a.flatMap (fun t => b.map (fun u => .add t u))
theorem tl_pr_nil (b : List tl_T) : tl_pr [] b = [] := rfl
theorem tl_pr_cons (t : tl_T) (a b : List tl_T) : tl_pr (t :: a) b = b.map (fun u => .add t u) ++ tl_pr a b := by
  simp only [tl_pr, List.flatMap_cons]
theorem tl_pr_app (a a' b : List tl_T) : tl_pr (a ++ a') b = tl_pr a b ++ tl_pr a' b := by
  simp only [tl_pr, List.flatMap_append]
theorem tl_ws_pr (a b : List tl_T) (f : tl_T → Nat) : tl_ws (tl_pr a b) f = tl_ws a (fun t => tl_ws b (fun u => f (.add t u))) := by
  induction a with
  | nil => rfl
  | cons t a h => rw [tl_pr_cons, tl_ws_app, tl_ws_map, h, tl_ws_cons]
theorem tl_mem_pr {a b : List tl_T} {t : tl_T} : t ∈ tl_pr a b ↔ ∃ x, x ∈ a ∧ ∃ y, y ∈ b ∧ t = .add x y := by
  simp only [tl_pr, List.mem_flatMap, List.mem_map]
  constructor
  · rintro ⟨x, hx, y, hy, rfl⟩; exact ⟨x, hx, y, hy, rfl⟩
  · rintro ⟨x, hx, y, hy, rfl⟩; exact ⟨x, hx, y, hy, rfl⟩
def tl_ps (f : Nat → List tl_T) (n : Nat) : Nat → List tl_T
  | 0 => []
  | i + 1 => tl_ps f n i ++ tl_pr (f i) (f (n - 1 - i))
theorem tl_ps_congr {f g : Nat → List tl_T} {n m : Nat} (h0 : f 0 = []) (h1 : g 0 = []) (h : ∀ k, k < m → f k = g k) : ∀ i, i ≤ m → n = m + 1 → tl_ps f n i = tl_ps g n i := by
  intro i
  induction i with
  | zero => intro _ _; rfl
  | succ i ih =>
    intro hi hn
    simp only [tl_ps]
    rw [ih (by omega) hn]
    congr 1
    by_cases e : i = 0
    · subst e; rw [h0, h1]; rfl
    · rw [h i (by omega), h (n - 1 - i) (by omega)]
theorem tl_ws_ps (f : Nat → List tl_T) (n m : Nat) (w : tl_T → Nat) : tl_ws (tl_ps f n m) w = tl_sm (fun i => tl_ws (f i) (fun t => tl_ws (f (n - 1 - i)) (fun u => w (.add t u)))) m := by
  induction m with
  | zero => rfl
  | succ m h => simp only [tl_ps, tl_sm]; rw [tl_ws_app, h, tl_ws_pr]
theorem tl_mem_ps {f : Nat → List tl_T} {n : Nat} {t : tl_T} : ∀ {m : Nat}, t ∈ tl_ps f n m → ∃ i, i < m ∧ t ∈ tl_pr (f i) (f (n - 1 - i)) := by
  intro m
  induction m with
  | zero => intro h; exact absurd h (List.not_mem_nil)
  | succ m ih =>
    intro h
    simp only [tl_ps, List.mem_append] at h
    rcases h with h | h
    · obtain ⟨i, hi, ht⟩ := ih h; exact ⟨i, by omega, ht⟩
    · exact ⟨m, by omega, h⟩
/-- the table of all trees by size, for sizes up to n + 1 -/
def tl_tb : Nat → Nat → List tl_T
  | 0, k => if k = 1 then [.num 0, .num 1] else []
  | n + 1, k => if k = n + 2 then (tl_tb n (n + 1)).map (fun t => .mulL 0 t) ++ tl_ps (tl_tb n) (n + 2) (n + 1) else tl_tb n k
def tl_tr (k : Nat) : List tl_T := tl_tb 6 k
theorem tl_tb_st (n k : Nat) (h : k ≤ n + 1) : ∀ d, tl_tb (n + d) k = tl_tb n k := by
  intro d
  induction d with
  | zero => rfl
  | succ d ih =>
    rw [← Nat.add_assoc]
    simp only [tl_tb]
    rw [if_neg (by omega), ih]
theorem tl_tb_0 (n : Nat) : tl_tb n 0 = [] := by
  have := tl_tb_st 0 0 (by omega) n
  rw [Nat.zero_add] at this
  rw [this]; rfl
theorem tl_tr_0 : tl_tr 0 = [] := tl_tb_0 6
theorem tl_tr_1 : tl_tr 1 = [.num 0, .num 1] := by
  have := tl_tb_st 0 1 (by omega) 6
  rw [tl_tr, this]; rfl
theorem tl_tr_eq {n : Nat} (h2 : 2 ≤ n) (h7 : n ≤ 7) : tl_tr n = (tl_tr (n - 1)).map (fun t => .mulL 0 t) ++ tl_ps tl_tr n (n - 1) := by
  obtain ⟨m, rfl⟩ : ∃ m, n = m + 2 := ⟨n - 2, by omega⟩
  have hs : ∀ k, k ≤ m + 1 → tl_tr k = tl_tb m k := by
    intro k hk
    have := tl_tb_st m k hk (6 - m)
    rw [show m + (6 - m) = 6 by omega] at this
    exact this
  have e1 : tl_tr (m + 2) = tl_tb (m + 1) (m + 2) := by
    have := tl_tb_st (m + 1) (m + 2) (by omega) (5 - m)
    rw [show m + 1 + (5 - m) = 6 by omega] at this
    exact this
  rw [e1]
  simp only [tl_tb, if_pos]
  rw [show m + 2 - 1 = m + 1 from rfl, hs (m + 1) (by omega)]
  congr 1
  exact (tl_ps_congr (m := m + 1) tl_tr_0 (tl_tb_0 m) (fun k hk => hs k (by omega)) (m + 1) (by omega) rfl).symm
theorem tl_tr_sz : ∀ N n : Nat, n < N → n ≤ 7 → ∀ t, t ∈ tl_tr n → tl_sz t = n := by
  intro N
  induction N with
  | zero => intro n h; omega
  | succ N ih =>
    intro n hn h7 t ht
    by_cases h0 : n = 0
    · subst h0; rw [tl_tr_0] at ht; exact absurd ht (List.not_mem_nil)
    by_cases h1 : n = 1
    · subst h1; rw [tl_tr_1] at ht
      simp only [List.mem_cons, List.not_mem_nil, or_false] at ht
      rcases ht with rfl | rfl <;> rfl
    rw [tl_tr_eq (by omega) h7, List.mem_append] at ht
    rcases ht with ht | ht
    · obtain ⟨u, hu, rfl⟩ := List.mem_map.mp ht
      simp only [tl_sz]
      rw [ih (n - 1) (by omega) (by omega) u hu]; omega
    · obtain ⟨i, hi, hp⟩ := tl_mem_ps ht
      obtain ⟨x, hx, y, hy, rfl⟩ := tl_mem_pr.mp hp
      simp only [tl_sz]
      rw [ih i (by omega) (by omega) x hx, ih (n - 1 - i) (by omega) (by omega) y hy]; omega
theorem tl_tr_size {n : Nat} (h7 : n ≤ 7) {t : tl_T} (ht : t ∈ tl_tr n) : tl_sz t = n := tl_tr_sz (n + 1) n (by omega) h7 t ht
/-- how many trees of a size there are -/
def tl_tot (n : Nat) : Nat := [0, 2, 2, 6, 14, 42, 122, 382, 1206, 3922, 12914, 43190, 145950, 498170, 1714026, 5940014, 20712646, 72623266, 255875298, 905477734].getD n 0
/-- the place of a tree among those of its size -/
def tl_rk : tl_T → Nat
  | .num c => c
  | .mulL _ t => tl_rk t
  | .add t u => tl_tot (tl_sz t + tl_sz u) + tl_rk t * tl_tot (tl_sz u) + tl_rk u + tl_sm (fun i => tl_tot i * tl_tot (tl_sz t + tl_sz u - i)) (tl_sz t)
  | .var _ => 0
  | .mulR _ _ => 0
end
section
/-! the list of all trees of up to seven letters; finding by weights -/
theorem tl_tot_rec : ∀ n, n < 20 → 2 ≤ n → tl_tot n = tl_tot (n - 1) + tl_sm (fun i => tl_tot i * tl_tot (n - 1 - i)) (n - 1) := by decide +kernel
theorem tl_tr_len : ∀ n, n < 8 → (tl_tr n).length = tl_tot n := by decide +kernel
theorem tl_tr_382 {n : Nat} (h : n ≤ 7) : (tl_tr n).length ≤ 382 := by
  rw [tl_tr_len n (by omega)]
  have : ∀ n, n < 8 → tl_tot n ≤ 382 := by decide
  exact this n (by omega)
def tl_al : Nat → List tl_T
  | 0 => []
  | n + 1 => tl_al n ++ tl_tr (n + 1)
/-- where the trees of a size begin -/
def tl_bg (n : Nat) : Nat := [0, 0, 2, 4, 10, 24, 66, 188, 570].getD n 0
theorem tl_bg_len : ∀ n, n < 8 → tl_bg (n + 1) = (tl_al n).length := by decide +kernel
theorem tl_bg_tot : ∀ n, n < 8 → 1 ≤ n → tl_bg (n + 1) = tl_bg n + tl_tot n := by decide
theorem tl_bg_570 : ∀ n, n < 9 → tl_bg n ≤ 570 := by decide
theorem tl_al_rk : (tl_al 7).map (fun t => tl_rk t + tl_bg (tl_sz t)) = List.range 570 := by decide +kernel
theorem tl_al_szl : (tl_al 7).all (fun t => decide (tl_sz t ≤ 7)) = true := by decide +kernel
theorem tl_al_len : (tl_al 7).length = 570 := by rw [← tl_bg_len 7 (by omega)]; rfl
/-- tree number j of the list -/
def tl_at (l : List tl_T) (j : Nat) : tl_T := l.getD j (.num 0)
theorem tl_at_l {a b : List tl_T} {j : Nat} (h : j < a.length) : tl_at (a ++ b) j = tl_at a j := by
  simp only [tl_at, List.getD_eq_getElem?_getD, List.getElem?_append_left h]
theorem tl_at_r {a b : List tl_T} {j : Nat} : tl_at (a ++ b) (a.length + j) = tl_at b j := by
  simp only [tl_at, List.getD_eq_getElem?_getD, List.getElem?_append_right (Nat.le_add_right _ _), Nat.add_sub_cancel_left]
theorem tl_at_mem {l : List tl_T} {j : Nat} (h : j < l.length) : tl_at l j ∈ l := by
  simp only [tl_at, List.getD_eq_getElem?_getD, List.getElem?_eq_getElem h, Option.getD_some]
  exact List.getElem_mem h
theorem tl_at_map {l : List tl_T} {c : tl_T → tl_T} {j : Nat} (h : j < l.length) : tl_at (l.map c) j = c (tl_at l j) := by
  simp only [tl_at, List.getD_eq_getElem?_getD, List.getElem?_map, List.getElem?_eq_getElem h, Option.map_some, Option.getD_some]
theorem tl_at_al (n d : Nat) {j : Nat} (h : j < (tl_al n).length) : tl_at (tl_al (n + d)) j = tl_at (tl_al n) j := by
  induction d with
  | zero => rfl
  | succ d ih =>
    have hl : ∀ d, (tl_al n).length ≤ (tl_al (n + d)).length := by
      intro d
      induction d with
      | zero => exact Nat.le_refl _
      | succ d ih => rw [← Nat.add_assoc]; simp only [tl_al, List.length_append]; omega
    rw [← Nat.add_assoc]
    simp only [tl_al]
    rw [tl_at_l (Nat.lt_of_lt_of_le h (hl d)), ih]
theorem tl_at_tr {n i : Nat} (h1 : 1 ≤ n) (h7 : n ≤ 7) (hi : i < tl_tot n) : tl_at (tl_al 7) (tl_bg n + i) = tl_at (tl_tr n) i := by
  obtain ⟨m, rfl⟩ : ∃ m, n = m + 1 := ⟨n - 1, by omega⟩
  have e := tl_at_al (m + 1) (6 - m) (j := tl_bg (m + 1) + i) (by
    rw [← tl_bg_len (m + 1) (by omega), tl_bg_tot (m + 1) (by omega) (by omega)]; omega)
  rw [show m + 1 + (6 - m) = 7 by omega] at e
  rw [e]
  simp only [tl_al]
  rw [tl_bg_len m (by omega), tl_at_r]
theorem tl_at_rk {j : Nat} (h : j < 570) : tl_rk (tl_at (tl_al 7) j) + tl_bg (tl_sz (tl_at (tl_al 7) j)) = j := by
  have hl : j < (tl_al 7).length := by rw [tl_al_len]; exact h
  have e := congrArg (fun l => l[j]?) tl_al_rk
  simp only [List.getElem?_map, List.getElem?_eq_getElem hl, Option.map_some, List.getElem?_range h, Option.some.injEq] at e
  simp only [tl_at, List.getD_eq_getElem?_getD, List.getElem?_eq_getElem hl, Option.getD_some]
  exact e
theorem tl_at_sz {j : Nat} (h : j < 570) : tl_sz (tl_at (tl_al 7) j) ≤ 7 := by
  have hl : j < (tl_al 7).length := by rw [tl_al_len]; exact h
  have e := List.all_eq_true.mp tl_al_szl _ (tl_at_mem hl)
  exact of_decide_eq_true e
/-- tree t stands in l where k falls into its part of the weights f; k' is what is left of k -/
def tl_sel (l : List tl_T) (f : tl_T → Nat) (k : Nat) (t : tl_T) (k' : Nat) : Prop :=
  ∃ l1 l2, l = l1 ++ t :: l2 ∧ k = tl_ws l1 f + k' ∧ k' < f t
theorem tl_sel_map {c : tl_T → tl_T} {l : List tl_T} {f : tl_T → Nat} {k k' : Nat} {t : tl_T} (h : tl_sel l (fun u => f (c u)) k t k') : tl_sel (l.map c) f k (c t) k' := by
  obtain ⟨l1, l2, e, ek, hk⟩ := h
  refine ⟨l1.map c, l2.map c, ?_, ?_, hk⟩
  · rw [e, List.map_append, List.map_cons]
  · rw [tl_ws_map]; exact ek
theorem tl_sel_l {a b : List tl_T} {f : tl_T → Nat} {k k' : Nat} {t : tl_T} (h : tl_sel a f k t k') : tl_sel (a ++ b) f k t k' := by
  obtain ⟨l1, l2, e, ek, hk⟩ := h
  refine ⟨l1, l2 ++ b, ?_, ek, hk⟩
  rw [e, List.append_assoc, List.cons_append]
theorem tl_sel_r {a b : List tl_T} {f : tl_T → Nat} {k k' : Nat} {t : tl_T} (h : tl_sel b f k t k') : tl_sel (a ++ b) f (tl_ws a f + k) t k' := by
  obtain ⟨l1, l2, e, ek, hk⟩ := h
  refine ⟨a ++ l1, l2, ?_, ?_, hk⟩
  · rw [e, List.append_assoc]
  · rw [tl_ws_app, ek]; omega
theorem tl_sel_pr {a b : List tl_T} {f : tl_T → Nat} {k k1 k' : Nat} {t u : tl_T} (h : tl_sel a (fun t => tl_ws b (fun u => f (.add t u))) k t k1) (h2 : tl_sel b (fun u => f (.add t u)) k1 u k') : tl_sel (tl_pr a b) f k (.add t u) k' := by
  obtain ⟨l1, l2, e, ek, hk⟩ := h
  obtain ⟨m1, m2, e2, ek2, hk2⟩ := h2
  refine ⟨tl_pr l1 b ++ m1.map (fun u => .add t u), m2.map (fun u => .add t u) ++ tl_pr l2 b, ?_, ?_, hk2⟩
  · rw [e, tl_pr_app, tl_pr_cons]
    conv => lhs; rw [show (b.map (fun u => (.add t u : tl_T))) = m1.map (fun u => .add t u) ++ (.add t u) :: m2.map (fun u => .add t u) by rw [e2, List.map_append, List.map_cons]]
    simp only [List.append_assoc, List.cons_append]
  · rw [tl_ws_app, tl_ws_pr, tl_ws_map, ek, ek2]; omega
theorem tl_ps_split (f : Nat → List tl_T) (n : Nat) {i m : Nat} (h : i < m) : ∃ r, tl_ps f n m = tl_ps f n i ++ (tl_pr (f i) (f (n - 1 - i)) ++ r) := by
  induction m with
  | zero => omega
  | succ m ih =>
    by_cases e : i = m
    · subst e; exact ⟨[], by simp only [tl_ps, List.append_nil]⟩
    · obtain ⟨r, hr⟩ := ih (by omega)
      refine ⟨r ++ tl_pr (f m) (f (n - 1 - m)), ?_⟩
      simp only [tl_ps]
      rw [hr]
      simp only [List.append_assoc]
theorem tl_sel_ps {f : Nat → List tl_T} {n i m : Nat} (hi : i < m) {w : tl_T → Nat} {k k' : Nat} {t : tl_T} (h : tl_sel (tl_pr (f i) (f (n - 1 - i))) w k t k') : tl_sel (tl_ps f n m) w (tl_ws (tl_ps f n i) w + k) t k' := by
  obtain ⟨r, hr⟩ := tl_ps_split f n hi
  rw [hr]
  exact tl_sel_r (tl_sel_l h)
theorem tl_sel_congr {l : List tl_T} {f g : tl_T → Nat} (h : ∀ t, t ∈ l → f t = g t) {k k' : Nat} {t : tl_T} (hs : tl_sel l f k t k') : tl_sel l g k t k' := by
  obtain ⟨l1, l2, e, ek, hk⟩ := hs
  refine ⟨l1, l2, e, ?_, ?_⟩
  · rw [ek, tl_ws_congr (fun t ht => h t (by rw [e]; exact List.mem_append_left _ ht))]
  · rw [← h t (by rw [e]; exact List.mem_append_right _ (List.mem_cons_self ..))]; exact hk
theorem tl_sel_mem {l : List tl_T} {f : tl_T → Nat} {k k' : Nat} {t : tl_T} (h : tl_sel l f k t k') : t ∈ l := by
  obtain ⟨l1, l2, e, _, _⟩ := h
  rw [e]; exact List.mem_append_right _ (List.mem_cons_self ..)
end
section
/-! what the automata do on trees: sets, pairs of sets, numbers of runs -/
def tl_or (f : Nat → Nat) : Nat → Nat
  | 0 => 0
  | n + 1 => tl_or f n ||| f n
theorem tl_or_lt {f : Nat → Nat} {n : Nat} (h : ∀ i, i < n → f i < 16) : tl_or f n < 16 := by
  induction n with
  | zero => exact (by decide : 0 < 16)
  | succ n ih => exact Nat.or_lt_two_pow (n := 4) (ih (fun i hi => h i (by omega))) (h n (by omega))
theorem tl_or_congr {f g : Nat → Nat} {n : Nat} (h : ∀ i, i < n → f i = g i) : tl_or f n = tl_or g n := by
  induction n with
  | zero => rfl
  | succ n ih => simp only [tl_or]; rw [ih (fun i hi => h i (by omega)), h n (by omega)]
theorem tl_or_bit {f : Nat → Nat} {n i q : Nat} (hi : i < n) (h : (f i).testBit q = true) : (tl_or f n).testBit q = true := by
  induction n with
  | zero => omega
  | succ n ih =>
    simp only [tl_or, Nat.testBit_or]
    by_cases e : i = n
    · subst e; rw [h, Bool.or_true]
    · rw [ih (by omega), Bool.true_or]
theorem tl_or_T (g : Nat → Nat) : tl_or (fun k => g (k / 4 + 4 * (k % 4))) 16 = tl_or g 16 := by
  simp only [tl_or, Nat.zero_or, Nat.reduceDiv, Nat.reduceMod, Nat.reduceMul, Nat.reduceAdd]
  ac_rfl
theorem tl_sm_T (g : Nat → Nat) : tl_sm (fun k => g (k / 4 + 4 * (k % 4))) 16 = tl_sm g 16 := by
  simp only [tl_sm, Nat.reduceDiv, Nat.reduceMod, Nat.reduceMul, Nat.reduceAdd]
  omega
/-- what a node with one child may have -/
def tl_o1 (O : Nat → Nat) (m s : Nat) : Nat := tl_or (fun p => if s.testBit p then O (4 * m + p) else 0) 4
def tl_o2 (W : Nat → Nat) (m a b : Nat) : Nat := tl_or (fun k => if a.testBit (k % 4) && b.testBit (k / 4) then W (16 * m + k) else 0) 16
def tl_s (L O W : Nat → Nat) (m : Nat) : tl_T → Nat
  | .num c => L (2 * m + c)
  | .mulL _ t => tl_o1 O m (tl_s L O W m t)
  | .add t u => tl_o2 W m (tl_s L O W m t) (tl_s L O W m u)
  | .var _ => 0
  | .mulR _ _ => 0
def tl_w (L O W : Nat → Nat) (m : Nat) : tl_T → Nat → Nat
  | .num c => fun q => if (L (2 * m + c)).testBit q then 1 else 0
  | .mulL _ t => fun q => tl_sm (fun p => if (O (4 * m + p)).testBit q then tl_w L O W m t p else 0) 4
  | .add t u => fun q => tl_sm (fun k => if (W (16 * m + k)).testBit q then tl_w L O W m t (k % 4) * tl_w L O W m u (k / 4) else 0) 16
  | .var _ => fun _ => 0
  | .mulR _ _ => fun _ => 0
def tl_op (O : Nat → Nat) (p : Nat) : Nat := tl_o1 O 0 (p % 16) + 16 * tl_o1 O 1 (p / 16)
def tl_tp (W : Nat → Nat) (p q : Nat) : Nat := tl_o2 W 0 (p % 16) (q % 16) + 16 * tl_o2 W 1 (p / 16) (q / 16)
def tl_lp (L : Nat → Nat) (c : Nat) : Nat := L c + 16 * L (2 + c)
def tl_p (L O W : Nat → Nat) (t : tl_T) : Nat := tl_s L O W 0 t + 16 * tl_s L O W 1 t
/-- the rules are sets of four states -/
def tl_rl (L O W F : Nat → Nat) : Prop := (∀ j, L j < 16) ∧ (∀ j, O j < 16) ∧ (∀ j, W j < 16) ∧ (∀ j, F j < 16)
theorem tl_o1_lt {O : Nat → Nat} (hO : ∀ j, O j < 16) (m s : Nat) : tl_o1 O m s < 16 :=
  tl_or_lt (fun i _ => by split; exact hO _; decide)
theorem tl_o2_lt {W : Nat → Nat} (hW : ∀ j, W j < 16) (m a b : Nat) : tl_o2 W m a b < 16 :=
  tl_or_lt (fun i _ => by split; exact hW _; decide)
theorem tl_op_lt {O : Nat → Nat} (hO : ∀ j, O j < 16) (p : Nat) : tl_op O p < 256 := by
  have := tl_o1_lt hO 0 (p % 16); have := tl_o1_lt hO 1 (p / 16); unfold tl_op; omega
theorem tl_tp_lt {W : Nat → Nat} (hW : ∀ j, W j < 16) (p q : Nat) : tl_tp W p q < 256 := by
  have := tl_o2_lt hW 0 (p % 16) (q % 16); have := tl_o2_lt hW 1 (p / 16) (q / 16); unfold tl_tp; omega
theorem tl_lp_lt {L : Nat → Nat} (hL : ∀ j, L j < 16) (c : Nat) : tl_lp L c < 256 := by
  have := hL c; have := hL (2 + c); unfold tl_lp; omega
section
variable {L O W F : Nat → Nat}
theorem tl_s_lt (h : tl_rl L O W F) (m : Nat) (t : tl_T) : tl_s L O W m t < 16 := by
  cases t with
  | num c => exact h.1 _
  | var i => exact (by decide : 0 < 16)
  | add t u => exact tl_o2_lt h.2.2.1 _ _ _
  | mulL k t => exact tl_o1_lt h.2.1 _ _
  | mulR t k => exact (by decide : 0 < 16)
theorem tl_p_lt (h : tl_rl L O W F) (t : tl_T) : tl_p L O W t < 256 := by
  have := tl_s_lt h 0 t; have := tl_s_lt h 1 t; unfold tl_p; omega
theorem tl_p_0 (h : tl_rl L O W F) (t : tl_T) : tl_p L O W t % 16 = tl_s L O W 0 t := by
  have := tl_s_lt h 0 t; unfold tl_p; omega
theorem tl_p_1 (h : tl_rl L O W F) (t : tl_T) : tl_p L O W t / 16 = tl_s L O W 1 t := by
  have := tl_s_lt h 0 t; unfold tl_p; omega
theorem tl_p_num (c : Nat) : tl_p L O W (.num c) = tl_lp L c := by
  simp only [tl_p, tl_s, tl_lp, Nat.mul_zero, Nat.zero_add, Nat.mul_one]
theorem tl_p_one (h : tl_rl L O W F) (k : Nat) (t : tl_T) : tl_p L O W (.mulL k t) = tl_op O (tl_p L O W t) := by
  simp only [tl_op, tl_p_0 h, tl_p_1 h]; rfl
theorem tl_p_two (h : tl_rl L O W F) (t u : tl_T) : tl_p L O W (.add t u) = tl_tp W (tl_p L O W t) (tl_p L O W u) := by
  simp only [tl_tp, tl_p_0 h, tl_p_1 h]; rfl
theorem tl_w_0 (m : Nat) (t : tl_T) : ∀ q, (tl_s L O W m t).testBit q = false → tl_w L O W m t q = 0 := by
  induction t with
  | num c => intro q hq; simp only [tl_s] at hq; simp only [tl_w, hq]; rfl
  | var i => intro q _; rfl
  | mulR t k h => intro q _; rfl
  | mulL k t h =>
    intro q hq
    simp only [tl_s] at hq
    simp only [tl_w]
    refine Eq.trans (tl_sm_congr (g := fun _ => 0) ?_) (tl_sm_zero 4)
    intro p hp
    by_cases e : (O (4 * m + p)).testBit q = true
    · rw [if_pos e]
      by_cases e2 : (tl_s L O W m t).testBit p = true
      · have : (tl_o1 O m (tl_s L O W m t)).testBit q = true := tl_or_bit hp (by rw [if_pos e2]; exact e)
        rw [hq] at this; exact absurd this (by decide)
      · exact h p (by simpa using e2)
    · rw [if_neg e]
  | add t u h1 h2 =>
    intro q hq
    simp only [tl_s] at hq
    simp only [tl_w]
    refine Eq.trans (tl_sm_congr (g := fun _ => 0) ?_) (tl_sm_zero 16)
    intro p hp
    by_cases e : (W (16 * m + p)).testBit q = true
    · rw [if_pos e]
      by_cases e2 : (tl_s L O W m t).testBit (p % 4) = true
      · by_cases e3 : (tl_s L O W m u).testBit (p / 4) = true
        · have : (tl_o2 W m (tl_s L O W m t) (tl_s L O W m u)).testBit q = true := tl_or_bit hp (by rw [e2, e3]; exact e)
          rw [hq] at this; exact absurd this (by decide)
        · rw [h2 _ (by simpa using e3), Nat.mul_zero]
      · rw [h1 _ (by simpa using e2), Nat.zero_mul]
    · rw [if_neg e]
end
/-- whether a tree that the automata take (A, B) is of a kind -/
def tl_kb (kind : Nat) (A B : Bool) : Bool :=
  if kind = 0 then A else if kind = 1 then B else if kind = 2 then A && B else if kind = 3 then A || B
  else if kind = 4 then A && !B else if kind = 6 then true else !A && !B
def tl_is (F : Nat → Nat) (kind p : Nat) : Bool := tl_kb kind (decide (p % 16 &&& F 0 ≠ 0)) (decide (p / 16 &&& F 1 ≠ 0))
/-- the numbers of trees by size and pair -/
def tl_cn (L O W : Nat → Nat) (n p : Nat) : Nat := tl_ct (tl_p L O W) (tl_tr n) p
/-- the weight 1 of what is of the kind -/
def tl_k1 (F : Nat → Nat) (kind p : Nat) : Nat := if tl_is F kind p then 1 else 0
/-- how many trees of a size are of a kind -/
def tl_nk (L O W F : Nat → Nat) (kind n : Nat) : Nat := tl_ws (tl_tr n) (fun t => tl_k1 F kind (tl_p L O W t))
section
variable {L O W F : Nat → Nat}
theorem tl_cn_le (n p : Nat) (h : n ≤ 7) : tl_cn L O W n p ≤ 382 := Nat.le_trans (tl_ct_le _ _ _) (tl_tr_382 h)
theorem tl_nk_le (kind n : Nat) (h : n ≤ 7) : tl_nk L O W F kind n ≤ 382 := by
  refine Nat.le_trans (?_ : _ ≤ tl_ws (tl_tr n) (fun _ => 1)) ?_
  · exact tl_ws_le (fun t _ => by unfold tl_k1; split <;> omega)
  · rw [tl_ws_one]; exact tl_tr_382 h
/-- sums over pairs are sums over trees -/
theorem tl_cnw (h : tl_rl L O W F) (n : Nat) (g : Nat → Nat) : tl_sm (fun p => tl_cn L O W n p * g p) 256 = tl_ws (tl_tr n) (fun t => g (tl_p L O W t)) :=
  tl_cls _ _ _ _ (fun t _ => tl_p_lt h t)
theorem tl_nk_eq (h : tl_rl L O W F) (kind n : Nat) : tl_sm (fun p => tl_cn L O W n p * tl_k1 F kind p) 256 = tl_nk L O W F kind n := tl_cnw h n _
/-- the first part of a row: letter 2 on top -/
def tl_A (L O W : Nat → Nat) (n q P : Nat) : Nat := tl_sm (fun p => tl_cn L O W (n - 1) p * (if tl_op O p = q then 1 else 0)) P
/-- what a first child with pair one gives -/
def tl_D (L O W : Nat → Nat) (n i one q P : Nat) : Nat := tl_sm (fun p => tl_cn L O W (n - 1 - i) p * (if tl_tp W one p = q then 1 else 0)) P
/-- the row of size n after the cells up to k have been gone through -/
def tl_V (L O W : Nat → Nat) (n q k : Nat) : Nat := tl_A L O W n q 256 + tl_sm (fun j => tl_cn L O W (j / 256) (j % 256) * tl_D L O W n (j / 256) (j % 256) q 256) k
theorem tl_cn_0 (p : Nat) : tl_cn L O W 0 p = 0 := by
  simp only [tl_cn, tl_tr_0, tl_ct, tl_ws_nil]
theorem tl_V_0 (n q : Nat) : tl_V L O W n q 256 = tl_A L O W n q 256 := by
  unfold tl_V
  have : tl_sm (fun j => tl_cn L O W (j / 256) (j % 256) * tl_D L O W n (j / 256) (j % 256) q 256) 256 = 0 := by
    rw [← tl_sm_zero 256]
    apply tl_sm_congr
    intro i hi
    rw [Nat.div_eq_of_lt hi, tl_cn_0, Nat.zero_mul]
  rw [this]; rfl
theorem tl_V_end (h : tl_rl L O W F) {n : Nat} (h2 : 2 ≤ n) (h7 : n ≤ 7) (q : Nat) : tl_V L O W n q (256 * (n - 1)) = tl_cn L O W n q := by
  unfold tl_V
  rw [tl_sm_flat (fun i p => tl_cn L O W i p * tl_D L O W n i p q 256) (by decide)]
  unfold tl_A
  rw [tl_cnw h (n - 1) (fun p => if tl_op O p = q then 1 else 0)]
  rw [show tl_cn L O W n q = tl_ws (tl_tr n) (fun t => if tl_p L O W t = q then 1 else 0) from rfl, tl_tr_eq h2 h7, tl_ws_app, tl_ws_map, tl_ws_ps]
  congr 1
  · exact tl_ws_congr (fun t _ => by rw [tl_p_one h])
  · apply tl_sm_congr
    intro i _
    rw [tl_cnw h i (fun p => tl_D L O W n i p q 256)]
    apply tl_ws_congr
    intro t _
    unfold tl_D
    rw [tl_cnw h (n - 1 - i) (fun p => if tl_tp W (tl_p L O W t) p = q then 1 else 0)]
    exact tl_ws_congr (fun u _ => by rw [tl_p_two h])
theorem tl_V_mono (n q : Nat) {k k' : Nat} (h : k ≤ k') : tl_V L O W n q k ≤ tl_V L O W n q k' := by
  have := tl_sm_mono (fun j => tl_cn L O W (j / 256) (j % 256) * tl_D L O W n (j / 256) (j % 256) q 256) h
  unfold tl_V; omega
theorem tl_V_le (h : tl_rl L O W F) {n : Nat} (h2 : 2 ≤ n) (h7 : n ≤ 7) (q : Nat) {k : Nat} (hk : k ≤ 256 * (n - 1)) : tl_V L O W n q k ≤ 382 := by
  have := tl_V_mono (L := L) (O := O) (W := W) n q hk
  rw [tl_V_end h h2 h7 q] at this
  exact Nat.le_trans this (tl_cn_le n q h7)
theorem tl_A_le (h : tl_rl L O W F) {n : Nat} (h2 : 2 ≤ n) (h7 : n ≤ 7) (q : Nat) {P : Nat} (hP : P ≤ 256) : tl_A L O W n q P ≤ 382 := by
  have h1 : tl_A L O W n q P ≤ tl_A L O W n q 256 := tl_sm_mono _ hP
  have h3 := tl_V_le h h2 h7 q (k := 256) (by omega)
  rw [tl_V_0] at h3
  omega
theorem tl_V_s (n q k : Nat) : tl_V L O W n q (k + 1) = tl_V L O W n q k + tl_cn L O W (k / 256) (k % 256) * tl_D L O W n (k / 256) (k % 256) q 256 := by
  simp only [tl_V, tl_sm]; omega
theorem tl_cn_1 (q : Nat) : tl_cn L O W 1 q = (if tl_lp L 0 = q then 1 else 0) + (if tl_lp L 1 = q then 1 else 0) := by
  simp only [tl_cn, tl_ct, tl_tr_1, tl_ws_cons, tl_ws_nil, tl_p_num]; omega
end
end
section
/-! the component: rules over sets and pairs -/
def xr_ar (a : Nat → Int32) (f : Nat → Nat) : Prop := ∀ j, a j = nI (f j)
section
variable {L O W F : Nat → Nat}
variable {f_made f_height f_known f_level f_left f_came f_letters : Int32} {a_leafSet a_oneSet a_twoSet a_finalSet a_top a_first a_second a_sizes a_stack a_todo a_written a_numbers a_ways a_counts a_all a_weight a_wanted a_phase a_split a_done a_spelled : Nat → Int32}
theorem xa_o1 {post : Int32 → Prop} {m s : Nat} (hO : xr_ar a_oneSet O) (hm : m < 2) (hs : s < 2 ^ 31) (hp : post (nI (tl_o1 O m s))) : ∀ d i n, i + d = 4 → d < n →
    wX_overOne_5 post (nI m) (nI s) f_made f_height f_known f_level f_left f_came f_letters a_leafSet a_oneSet a_twoSet a_finalSet a_top a_first a_second a_sizes a_stack a_todo a_written a_numbers a_ways a_counts a_all a_weight a_wanted a_phase a_split a_done a_spelled n (nI (tl_or (fun p => if s.testBit p then O (4 * m + p) else 0) i)) (nI i) := by
  intro d
  induction d with
  | zero =>
    intro i n hi hn
    obtain ⟨n, rfl⟩ : ∃ k, n = k + 1 := ⟨n - 1, by omega⟩
    obtain rfl : i = 4 := by omega
    exact br_t (by decide) hp
  | succ d ih =>
    intro i n hi hn
    obtain ⟨n, rfl⟩ : ∃ k, n = k + 1 := ⟨n - 1, by omega⟩
    have h4 : ¬ (4 : Int32) ≤ nI i := nI_ge (b := 4) (by omega) (by decide)
    have hi1 := ih (i + 1) n (by omega) (by omega)
    by_cases hb : s.testBit i = true
    · refine br_f h4 (br_t ((tn_bit hs (by omega)).mpr hb) ⟨tn_ixi 4 8 m i (by omega), nm_r ?_ (nm_r (nI_1 i) hi1)⟩)
      rw [tn_ixc 4 m i (by omega), hO, tn_or]; simp only [tl_or, hb, if_true]
    · refine br_f h4 (br_f (fun z => hb ((tn_bit hs (by omega)).mp z)) (nm_r (nI_1 i) ?_))
      simp only [tl_or, hb, Bool.false_eq_true, if_false, Nat.or_zero] at hi1
      exact hi1
theorem xa_overOne {post : Int32 → Prop} {m s : Nat} {x1 x2 : Int32} (e1 : x1 = nI m) (e2 : x2 = nI s) (hO : xr_ar a_oneSet O) (hm : m < 2) (hs : s < 2 ^ 31) (hp : post (nI (tl_o1 O m s))) :
    wpX_overOne post (f_made, f_height, f_known, f_level, f_left, f_came, f_letters, a_leafSet, a_oneSet, a_twoSet, a_finalSet, a_top, a_first, a_second, a_sizes, a_stack, a_todo, a_written, a_numbers, a_ways, a_counts, a_all, a_weight, a_wanted, a_phase, a_split, a_done, a_spelled) x1 x2 := by
  subst e1 e2
  exact Exists.intro 5 (xa_o1 hO hm hs hp 4 0 5 rfl (by decide))
theorem xa_o2 {post : Int32 → Prop} {m a b : Nat} (hW : xr_ar a_twoSet W) (hm : m < 2) (ha : a < 2 ^ 31) (hb : b < 2 ^ 31) (hp : post (nI (tl_o2 W m a b))) : ∀ d i n, i + d = 16 → d < n →
    wX_overTwo_6 post (nI m) (nI a) (nI b) f_made f_height f_known f_level f_left f_came f_letters a_leafSet a_oneSet a_twoSet a_finalSet a_top a_first a_second a_sizes a_stack a_todo a_written a_numbers a_ways a_counts a_all a_weight a_wanted a_phase a_split a_done a_spelled n (nI (tl_or (fun k => if a.testBit (k % 4) && b.testBit (k / 4) then W (16 * m + k) else 0) i)) (nI i) := by
  intro d
  induction d with
  | zero =>
    intro i n hi hn
    obtain ⟨n, rfl⟩ : ∃ k, n = k + 1 := ⟨n - 1, by omega⟩
    obtain rfl : i = 16 := by omega
    exact br_t (by decide) hp
  | succ d ih =>
    intro i n hi hn
    obtain ⟨n, rfl⟩ : ∃ k, n = k + 1 := ⟨n - 1, by omega⟩
    have h4 : ¬ (16 : Int32) ≤ nI i := nI_ge (b := 16) (by omega) (by decide)
    have hi1 := ih (i + 1) n (by omega) (by omega)
    have hA : ((nI a >>> ((nI i &&& 3) &&& 31)) &&& 1) = 1 ↔ a.testBit (i % 4) = true := by
      rw [tn_and3 (by omega)]; exact tn_bit ha (by omega)
    have hB : ((nI b >>> ((nI i >>> ((2 : Int32) &&& 31)) &&& 31)) &&& 1) = 1 ↔ b.testBit (i / 4) = true := by
      rw [tn_shr2 (by omega)]; exact tn_bit hb (by omega)
    by_cases h1 : a.testBit (i % 4) = true
    · by_cases h2 : b.testBit (i / 4) = true
      · refine br_f h4 (br_t (hA.mpr h1) (br_t (hB.mpr h2) (br_f (by decide) ⟨tn_ixi 16 32 m i (by omega), nm_r ?_ (nm_r (nI_1 i) hi1)⟩)))
        rw [tn_ixc 16 m i (by omega), hW, tn_or]; simp only [tl_or, h1, h2, Bool.and_self, if_true]
      · simp only [tl_or, h1, h2, Bool.and_false, Bool.true_and, Bool.false_eq_true, if_false, Nat.or_zero] at hi1
        exact br_f h4 (br_t (hA.mpr h1) (br_f (fun z => h2 (hB.mp z)) (br_t rfl (nm_r (nI_1 i) hi1))))
    · simp only [tl_or, h1, Bool.false_and, Bool.false_eq_true, if_false, Nat.or_zero] at hi1
      exact br_f h4 (br_f (fun z => h1 (hA.mp z)) (br_t rfl (nm_r (nI_1 i) hi1)))
theorem xa_overTwo {post : Int32 → Prop} {m a b : Nat} {x1 x2 x3 : Int32} (e1 : x1 = nI m) (e2 : x2 = nI a) (e3 : x3 = nI b) (hW : xr_ar a_twoSet W) (hm : m < 2) (ha : a < 2 ^ 31) (hb : b < 2 ^ 31) (hp : post (nI (tl_o2 W m a b))) :
    wpX_overTwo post (f_made, f_height, f_known, f_level, f_left, f_came, f_letters, a_leafSet, a_oneSet, a_twoSet, a_finalSet, a_top, a_first, a_second, a_sizes, a_stack, a_todo, a_written, a_numbers, a_ways, a_counts, a_all, a_weight, a_wanted, a_phase, a_split, a_done, a_spelled) x1 x2 x3 := by
  subst e1 e2 e3
  exact Exists.intro 17 (xa_o2 hW hm ha hb hp 16 0 17 rfl (by decide))
theorem xa_leafPair {post : Int32 → Prop} {c : Nat} {x : Int32} (e : x = nI c) (hL : xr_ar a_leafSet L) (hl : ∀ j, L j < 16) (hc : c < 2) (hp : post (nI (tl_lp L c))) :
    wpX_leafPair post (f_made, f_height, f_known, f_level, f_left, f_came, f_letters, a_leafSet, a_oneSet, a_twoSet, a_finalSet, a_top, a_first, a_second, a_sizes, a_stack, a_todo, a_written, a_numbers, a_ways, a_counts, a_all, a_weight, a_wanted, a_phase, a_split, a_done, a_spelled) x := by
  subst e
  have e2 : (2 : Int32) + nI c = nI (2 + c) := nI_add 2 c
  unfold wpX_leafPair
  dsimp only
  rw [e2, nI_clamp (by omega), nI_clamp (by omega), hL, hL, tn_pair (hl _) (hl _)]
  exact ⟨vp_in_nI (by omega) (by omega), vp_in_nI (by omega) (by omega), hp⟩
theorem xa_onePair {post : Int32 → Prop} {p : Nat} {x : Int32} (e : x = nI p) (hO : xr_ar a_oneSet O) (ho : ∀ j, O j < 16) (hq : p < 2 ^ 31) (hp : post (nI (tl_op O p))) :
    wpX_onePair post (f_made, f_height, f_known, f_level, f_left, f_came, f_letters, a_leafSet, a_oneSet, a_twoSet, a_finalSet, a_top, a_first, a_second, a_sizes, a_stack, a_todo, a_written, a_numbers, a_ways, a_counts, a_all, a_weight, a_wanted, a_phase, a_split, a_done, a_spelled) x := by
  subst e
  unfold wpX_onePair
  dsimp only
  refine xa_overOne (m := 0) (s := p % 16) rfl (tn_and15 hq) hO (by omega) (by omega) ?_
  refine xa_overOne (m := 1) (s := p / 16) rfl (tn_shr4 hq) hO (by omega) (by omega) ?_
  rw [tn_pair (tl_o1_lt ho _ _) (tl_o1_lt ho _ _)]
  exact hp
theorem xa_twoPair {post : Int32 → Prop} {p q : Nat} {x y : Int32} (e : x = nI p) (e' : y = nI q) (hW : xr_ar a_twoSet W) (hw : ∀ j, W j < 16) (hq : p < 2 ^ 31) (hq' : q < 2 ^ 31) (hp : post (nI (tl_tp W p q))) :
    wpX_twoPair post (f_made, f_height, f_known, f_level, f_left, f_came, f_letters, a_leafSet, a_oneSet, a_twoSet, a_finalSet, a_top, a_first, a_second, a_sizes, a_stack, a_todo, a_written, a_numbers, a_ways, a_counts, a_all, a_weight, a_wanted, a_phase, a_split, a_done, a_spelled) x y := by
  subst e e'
  unfold wpX_twoPair
  dsimp only
  refine xa_overTwo (m := 0) (a := p % 16) (b := q % 16) rfl (tn_and15 hq) (tn_and15 hq') hW (by omega) (by omega) (by omega) ?_
  refine xa_overTwo (m := 1) (a := p / 16) (b := q / 16) rfl (tn_shr4 hq) (tn_shr4 hq') hW (by omega) (by omega) (by omega) ?_
  rw [tn_pair (tl_o2_lt hw _ _ _) (tl_o2_lt hw _ _ _)]
  exact hp
def tl_bi (b : Bool) : Nat := if b then 1 else 0
theorem xa_38 {post : Int32 → Prop} {kind : Nat} (hk : kind < 7) (A B : Bool) (hp : post (nI (tl_bi (tl_kb kind A B)))) :
    wX_isOf_38 post (nI kind) (nI (tl_bi A)) (nI (tl_bi B)) f_made f_height f_known f_level f_left f_came f_letters a_leafSet a_oneSet a_twoSet a_finalSet a_top a_first a_second a_sizes a_stack a_todo a_written a_numbers a_ways a_counts a_all a_weight a_wanted a_phase a_split a_done a_spelled := by
  unfold wX_isOf_38
  obtain rfl | rfl | rfl | rfl | rfl | rfl | rfl : kind = 0 ∨ kind = 1 ∨ kind = 2 ∨ kind = 3 ∨ kind = 4 ∨ kind = 5 ∨ kind = 6 := by omega
  all_goals
    cases A <;> cases B <;>
    repeat (first | exact hp | refine br_t (by decide) ?_ | refine br_f (by decide) ?_ | refine And.intro rfl ?_)
theorem xa_isOf {post : Int32 → Prop} {kind p : Nat} {x y : Int32} (e : x = nI kind) (e' : y = nI p) (hF : xr_ar a_finalSet F) (hk : kind < 7) (hq : p < 2 ^ 31) (hp : post (nI (tl_k1 F kind p))) :
    wpX_isOf post (f_made, f_height, f_known, f_level, f_left, f_came, f_letters, a_leafSet, a_oneSet, a_twoSet, a_finalSet, a_top, a_first, a_second, a_sizes, a_stack, a_todo, a_written, a_numbers, a_ways, a_counts, a_all, a_weight, a_wanted, a_phase, a_split, a_done, a_spelled) x y := by
  subst e e'
  have hA : ((nI p &&& 15) &&& (a_finalSet 0)) = nI (p % 16 &&& F 0) := by rw [tn_and15 hq, hF, tn_and]
  have hB : ((nI p >>> ((4 : Int32) &&& 31)) &&& (a_finalSet 1)) = nI (p / 16 &&& F 1) := by rw [tn_shr4 hq, hF, tn_and]
  have lA : p % 16 &&& F 0 < 2 ^ 31 := Nat.lt_of_le_of_lt Nat.and_le_left (by omega)
  have lB : p / 16 &&& F 1 < 2 ^ 31 := Nat.lt_of_le_of_lt Nat.and_le_left (by omega)
  have zA : nI (p % 16 &&& F 0) = 0 ↔ p % 16 &&& F 0 = 0 := by rw [← nI_0, nI_eq lA (by decide)]
  have zB : nI (p / 16 &&& F 1) = 0 ↔ p / 16 &&& F 1 = 0 := by rw [← nI_0, nI_eq lB (by decide)]
  have hp' : post (nI (tl_bi (tl_kb kind (decide (p % 16 &&& F 0 ≠ 0)) (decide (p / 16 &&& F 1 ≠ 0))))) := hp
  unfold wpX_isOf wX_isOf_19
  dsimp only
  rw [hA, hB, zA, zB]
  by_cases a : p % 16 &&& F 0 = 0
  · rw [decide_eq_false (by simpa using a)] at hp'
    by_cases b : p / 16 &&& F 1 = 0
    · rw [decide_eq_false (by simpa using b)] at hp'
      exact br_t a (br_t b (xa_38 hk false false hp'))
    · rw [decide_eq_true b] at hp'
      exact br_t a (br_f b (xa_38 hk false true hp'))
  · rw [decide_eq_true a] at hp'
    by_cases b : p / 16 &&& F 1 = 0
    · rw [decide_eq_false (by simpa using b)] at hp'
      exact br_f a (br_t b (xa_38 hk true false hp'))
    · rw [decide_eq_true b] at hp'
      exact br_f a (br_f b (xa_38 hk true true hp'))
theorem xa_c5 {post : Int32 → Prop} {kind n : Nat} {c : Nat → Nat} (hc : ∀ p, p < 256 → a_counts (256 * n + p) = nI (c p)) (hF : xr_ar a_finalSet F) (hk : kind < 7) (hn : n < 8) (hp : post (nI (tl_sm (fun p => c p * tl_k1 F kind p) 256))) : ∀ d i N, i + d = 256 → d < N →
    wX_countOf_5 post (nI kind) (nI n) f_made f_height f_known f_level f_left f_came f_letters a_leafSet a_oneSet a_twoSet a_finalSet a_top a_first a_second a_sizes a_stack a_todo a_written a_numbers a_ways a_counts a_all a_weight a_wanted a_phase a_split a_done a_spelled N (nI (tl_sm (fun p => c p * tl_k1 F kind p) i)) (nI i) := by
  intro d
  induction d with
  | zero =>
    intro i N hi hN
    obtain ⟨N, rfl⟩ : ∃ k, N = k + 1 := ⟨N - 1, by omega⟩
    obtain rfl : i = 256 := by omega
    exact br_t (by decide) hp
  | succ d ih =>
    intro i N hi hN
    obtain ⟨N, rfl⟩ : ∃ k, N = k + 1 := ⟨N - 1, by omega⟩
    have h4 : ¬ (256 : Int32) ≤ nI i := nI_ge (b := 256) (by omega) (by decide)
    have hi1 := ih (i + 1) N (by omega) (by omega)
    refine br_f h4 (xa_isOf (p := i) rfl rfl hF hk (by omega) ?_)
    by_cases z : tl_is F kind i = true
    · have ek : tl_k1 F kind i = 1 := by unfold tl_k1; rw [if_pos z]
      simp only [tl_sm, ek, Nat.mul_one] at hi1
      rw [ek]
      refine br_f (by decide) ⟨tn_ixi 256 2048 n i (by omega), nm_r ?_ (nm_r (nI_1 i) hi1)⟩
      rw [tn_ixc 256 n i (by omega), hc i (by omega), nI_add]
    · have ek : tl_k1 F kind i = 0 := by unfold tl_k1; rw [if_neg z]
      simp only [tl_sm, ek, Nat.mul_zero, Nat.add_zero] at hi1
      rw [ek]
      exact br_t rfl (nm_r (nI_1 i) hi1)
theorem xa_countOf {post : Int32 → Prop} {kind n : Nat} {x y : Int32} (e : x = nI kind) (e' : y = nI n) {c : Nat → Nat} (hc : ∀ p, p < 256 → a_counts (256 * n + p) = nI (c p)) (hF : xr_ar a_finalSet F) (hk : kind < 7) (hn : n < 8) (hp : post (nI (tl_sm (fun p => c p * tl_k1 F kind p) 256))) :
    wpX_countOf post (f_made, f_height, f_known, f_level, f_left, f_came, f_letters, a_leafSet, a_oneSet, a_twoSet, a_finalSet, a_top, a_first, a_second, a_sizes, a_stack, a_todo, a_written, a_numbers, a_ways, a_counts, a_all, a_weight, a_wanted, a_phase, a_split, a_done, a_spelled) x y := by
  subst e e'
  exact Exists.intro 257 (xa_c5 hc hF hk hn hp 256 0 257 rfl (by decide))
end
end
section
/-! the component's side of the relation; making trees -/
def tl_put {α : Type} (s : Nat → α) (k : Nat) (t : α) : Nat → α := fun i => if i = k then t else s i
theorem tl_put_s {α : Type} {s : Nat → α} {k : Nat} {t : α} : tl_put s k t k = t := if_pos rfl
theorem tl_put_n {α : Type} {s : Nat → α} {k i : Nat} {t : α} (h : i ≠ k) : tl_put s k t i = s i := if_neg h
/-- the counts by size and pair are right -/
def xr_GC (L O W : Nat → Nat) (a : Nat → Int32) : Prop := ∀ n p, n < 8 → p < 256 → a (256 * n + p) = nI (tl_cn L O W n p)
def xr_N (τ : Nat → tl_T) (top first second sizes : Nat → Int32) (k : Nat) : Prop :=
  ∃ f g : Nat, f < 12 ∧ g < 12 ∧ first k = nI f ∧ second k = nI g ∧ sizes k = nI (tl_sz (τ k)) ∧ tl_sz (τ k) ≤ 12 ∧
   ((∃ c, c < 2 ∧ top k = nI c ∧ τ k = .num c) ∨ (top k = nI 2 ∧ f < k ∧ τ k = .mulL 0 (τ f)) ∨ (top k = nI 3 ∧ f < k ∧ g < k ∧ τ k = .add (τ f) (τ g)))
def xr_P (τ : Nat → tl_T) (h : Nat) (s : Nat → tl_T) (m : Nat) (top first second sizes stack : Nat → Int32) : Prop :=
  (∀ k, k < m → xr_N τ top first second sizes k) ∧ (∀ i, i < h → ∃ p, p < m ∧ stack i = nI p ∧ τ p = s i)
/-- the stack's sizes together are the number of nodes made -/
def tl_sk (h : Nat) (s : Nat → tl_T) (m : Nat) : Prop := tl_sm (fun i => tl_sz (s i)) h = m ∧ m ≤ 12
theorem tl_sk_h {h : Nat} {s : Nat → tl_T} : h ≤ tl_sm (fun i => tl_sz (s i)) h := by
  induction h with
  | zero => exact Nat.le_refl _
  | succ h ih => simp only [tl_sm]; have := tl_szp (s h); omega
theorem tl_sk_put (s : Nat → tl_T) (k : Nat) (t : tl_T) : tl_sm (fun i => tl_sz (tl_put s k t i)) (k + 1) = tl_sm (fun i => tl_sz (s i)) k + tl_sz t := by
  simp only [tl_sm]
  rw [tl_put_s, tl_sm_congr (g := fun i => tl_sz (s i)) (fun i hi => by rw [tl_put_n (by omega)])]
theorem tl_sk_0 {h : Nat} {s : Nat → tl_T} {m : Nat} (K : tl_sk h s m) (hm : m < 12) (c : Nat) : tl_sk (h + 1) (tl_put s h (.num c)) (m + 1) := by
  refine ⟨?_, by omega⟩
  rw [tl_sk_put, K.1]; rfl
theorem tl_sk_1 {h : Nat} {s : Nat → tl_T} {m : Nat} (K : tl_sk h s m) (hm : m < 12) (h1 : 1 ≤ h) : tl_sk h (tl_put s (h - 1) (.mulL 0 (s (h - 1)))) (m + 1) := by
  obtain ⟨h, rfl⟩ : ∃ k, h = k + 1 := ⟨h - 1, by omega⟩
  refine ⟨?_, by omega⟩
  have := K.1
  simp only [tl_sm] at this
  rw [Nat.add_sub_cancel, tl_sk_put]; simp only [tl_sz]; omega
theorem tl_sk_2 {h : Nat} {s : Nat → tl_T} {m : Nat} (K : tl_sk h s m) (hm : m < 12) (h1 : 2 ≤ h) : tl_sk (h - 1) (tl_put s (h - 2) (.add (s (h - 2)) (s (h - 1)))) (m + 1) := by
  obtain ⟨h, rfl⟩ : ∃ k, h = k + 2 := ⟨h - 2, by omega⟩
  refine ⟨?_, by omega⟩
  have := K.1
  simp only [tl_sm] at this
  rw [show h + 2 - 1 = h + 1 from rfl, show h + 2 - 2 = h from rfl, tl_sk_put]; simp only [tl_sz]; omega
theorem tl_sk_top {h : Nat} {s : Nat → tl_T} {m : Nat} (K : tl_sk h s m) {i : Nat} (hi : i < h) : tl_sz (s i) ≤ m := by
  have h1 : tl_sm (fun i => tl_sz (s i)) (i + 1) ≤ tl_sm (fun i => tl_sz (s i)) h := tl_sm_mono _ hi
  have := K.1
  simp only [tl_sm] at h1
  omega
theorem xr_N_keep {τ τ' : Nat → tl_T} {t f g z t' f' g' z' : Nat → Int32} {k : Nat} (N : xr_N τ t f g z k) (hτ : ∀ j, j ≤ k → τ' j = τ j) (ht : t' k = t k) (hf : f' k = f k) (hg : g' k = g k) (hz : z' k = z k) : xr_N τ' t' f' g' z' k := by
  obtain ⟨a, b, ha, hb, e1, e2, e3, e4, e5⟩ := N
  refine ⟨a, b, ha, hb, by rw [hf]; exact e1, by rw [hg]; exact e2, ?_, ?_, ?_⟩
  · rw [hz, hτ k (Nat.le_refl k)]; exact e3
  · rw [hτ k (Nat.le_refl k)]; exact e4
  · rw [hτ k (Nat.le_refl k), ht]
    rcases e5 with ⟨c, h1, h2, h3⟩ | ⟨h1, h2, h3⟩ | ⟨h1, h2, h3, h4⟩
    · exact Or.inl ⟨c, h1, h2, h3⟩
    · exact Or.inr (Or.inl ⟨h1, h2, by rw [hτ a (by omega)]; exact h3⟩)
    · exact Or.inr (Or.inr ⟨h1, h2, h3, by rw [hτ a (by omega), hτ b (by omega)]; exact h4⟩)
theorem xr_push {τ : Nat → tl_T} {h : Nat} {s : Nat → tl_T} {m : Nat} {top first second sizes stack : Nat → Int32} (P : xr_P τ h s m top first second sizes stack)
    {h' x f g : Nat} {t : tl_T} (hh : h' ≤ h) (hf : f < 12) (hg : g < 12) (hz : tl_sz t ≤ 12)
    (hn : (∃ c, c < 2 ∧ x = c ∧ t = .num c) ∨ (x = 2 ∧ f < m ∧ t = .mulL 0 (τ f)) ∨ (x = 3 ∧ f < m ∧ g < m ∧ t = .add (τ f) (τ g))) :
    xr_P (tl_put τ m t) (h' + 1) (tl_put s h' t) (m + 1) (upd top m (nI x)) (upd first m (nI f)) (upd second m (nI g)) (upd sizes m (nI (tl_sz t))) (upd stack h' (nI m)) := by
  refine ⟨?_, ?_⟩
  · intro k hk
    by_cases e : k = m
    · subst e
      refine ⟨f, g, hf, hg, pk_us, pk_us, by rw [pk_us, tl_put_s], by rw [tl_put_s]; exact hz, ?_⟩
      rw [pk_us, tl_put_s]
      rcases hn with ⟨c, h1, h2, h3⟩ | ⟨h1, h2, h3⟩ | ⟨h1, h2, h3, h4⟩
      · exact Or.inl ⟨c, h1, by rw [h2], h3⟩
      · exact Or.inr (Or.inl ⟨by rw [h1], h2, by rw [tl_put_n (by omega)]; exact h3⟩)
      · exact Or.inr (Or.inr ⟨by rw [h1], h2, h3, by rw [tl_put_n (by omega), tl_put_n (by omega)]; exact h4⟩)
    · exact xr_N_keep (P.1 k (by omega)) (fun j hj => tl_put_n (by omega)) (pk_un e) (pk_un e) (pk_un e) (pk_un e)
  · intro i hi
    by_cases e : i = h'
    · subst e; exact ⟨m, by omega, pk_us, by rw [tl_put_s, tl_put_s]⟩
    · obtain ⟨p, hp, e1, e2⟩ := P.2 i (by omega)
      exact ⟨p, by omega, by rw [pk_un e]; exact e1, by rw [tl_put_n (by omega), tl_put_n e]; exact e2⟩
def xr_R (L O W F : Nat → Nat) (h : Nat) (s : Nat → tl_T) (m : Nat) (u : SX) : Prop := match u with
  | (f_made, f_height, f_known, f_level, f_left, f_came, f_letters, a_leafSet, a_oneSet, a_twoSet, a_finalSet, a_top, a_first, a_second, a_sizes, a_stack, a_todo, a_written, a_numbers, a_ways, a_counts, a_all, a_weight, a_wanted, a_phase, a_split, a_done, a_spelled) => f_made = nI m ∧ f_height = nI h ∧ (f_known = 0 ∨ (f_known = 1 ∧ xr_GC L O W a_counts)) ∧ xr_ar a_leafSet L ∧ xr_ar a_oneSet O ∧ xr_ar a_twoSet W ∧ xr_ar a_finalSet F ∧
    (∀ i, i < 13 → a_all i = nI (tl_tot i)) ∧ ∃ τ, xr_P τ h s m a_top a_first a_second a_sizes a_stack
section
variable {L O W F : Nat → Nat} {h m : Nat} {s : Nat → tl_T}
variable {f_made f_height f_known f_level f_left f_came f_letters : Int32} {a_leafSet a_oneSet a_twoSet a_finalSet a_top a_first a_second a_sizes a_stack a_todo a_written a_numbers a_ways a_counts a_all a_weight a_wanted a_phase a_split a_done a_spelled : Nat → Int32}
theorem xm_0 {post : Int32 → SX → Prop} {c : Nat} {x y : Int32} {τ : Nat → tl_T} (e1 : f_made = nI m) (e2 : f_height = nI h) (P : xr_P τ h s m a_top a_first a_second a_sizes a_stack) (K : tl_sk h s m) (hm : m < 12) (hc : c < 2) (ex : x = nI c) (ey : y = 0)
    (hp : ∀ t f g z k τ, xr_P τ (h + 1) (tl_put s h (.num c)) (m + 1) t f g z k → post (nI (h + 1)) (nI (m + 1), nI (h + 1), f_known, f_level, f_left, f_came, f_letters, a_leafSet, a_oneSet, a_twoSet, a_finalSet, t, f, g, z, k, a_todo, a_written, a_numbers, a_ways, a_counts, a_all, a_weight, a_wanted, a_phase, a_split, a_done, a_spelled)) : wpX_make post (f_made, f_height, f_known, f_level, f_left, f_came, f_letters, a_leafSet, a_oneSet, a_twoSet, a_finalSet, a_top, a_first, a_second, a_sizes, a_stack, a_todo, a_written, a_numbers, a_ways, a_counts, a_all, a_weight, a_wanted, a_phase, a_split, a_done, a_spelled) x y := by
  subst e1 e2 ex ey
  have hh : h ≤ m := by have := @tl_sk_h h s; have := K.1; omega
  have Q := xr_push P (h' := h) (x := c) (f := 0) (g := 0) (t := .num c) (by omega) (by omega) (by omega) (by simp only [tl_sz]; omega) (Or.inl ⟨c, hc, rfl, rfl⟩)
  have im : vp_in (nI m) 12 := vp_in_nI hm (by omega)
  have ih : vp_in (nI h) 12 := vp_in_nI (by omega) (by omega)
  have cm : (nI m).toNatClampNeg = m := nI_clamp (by omega)
  have ch : (nI h).toNatClampNeg = h := nI_clamp (by omega)
  unfold wpX_make
  dsimp only
  refine nm_r (e' := nI h) (Int32.sub_zero _) (br_t (by decide) ?_)
  unfold wX_make_27
  refine br_t (by decide) ?_
  unfold wX_make_48
  rw [cm]
  refine ⟨im, nm_r (congrArg _ (tn_nb2 (by omega))) ⟨im, nm_r (congrArg _ (tn_nb2 (n := 0) (by omega))) ⟨im, nm_r (congrArg _ (tn_nb2 (n := 0) (by omega))) (br_t (by decide) ?_)⟩⟩⟩
  unfold wX_make_107
  refine br_t (by decide) ?_
  unfold wX_make_124
  rw [cm, ch]
  refine ⟨im, nm_r (congrArg _ (tn_nb2 (n := 1) (by omega))) ⟨ih, nm_r (congrArg _ (tn_nb2 (by omega))) (nm_r (nI_1 h) (nm_r (nI_1 m) ?_))⟩⟩
  exact hp _ _ _ _ _ _ Q
theorem xm_1 {post : Int32 → SX → Prop} {x y : Int32} {τ : Nat → tl_T} (e1 : f_made = nI m) (e2 : f_height = nI h) (P : xr_P τ h s m a_top a_first a_second a_sizes a_stack) (K : tl_sk h s m) (hm : m < 12) (h1 : 1 ≤ h) (ex : x = 2) (ey : y = 1)
    (hp : ∀ t f g z k τ, xr_P τ h (tl_put s (h - 1) (.mulL 0 (s (h - 1)))) (m + 1) t f g z k → post (nI h) (nI (m + 1), nI h, f_known, f_level, f_left, f_came, f_letters, a_leafSet, a_oneSet, a_twoSet, a_finalSet, t, f, g, z, k, a_todo, a_written, a_numbers, a_ways, a_counts, a_all, a_weight, a_wanted, a_phase, a_split, a_done, a_spelled)) : wpX_make post (f_made, f_height, f_known, f_level, f_left, f_came, f_letters, a_leafSet, a_oneSet, a_twoSet, a_finalSet, a_top, a_first, a_second, a_sizes, a_stack, a_todo, a_written, a_numbers, a_ways, a_counts, a_all, a_weight, a_wanted, a_phase, a_split, a_done, a_spelled) x y := by
  have hh : h ≤ m := by have := @tl_sk_h h s; have := K.1; omega
  obtain ⟨h, rfl⟩ : ∃ k, h = k + 1 := ⟨h - 1, by omega⟩
  rw [Nat.add_sub_cancel] at hp
  subst e1 e2 ex ey
  obtain ⟨p, hpm, es, et⟩ := P.2 h (by omega)
  have hz := tl_sk_top K (i := h) (by omega)
  obtain ⟨_, _, _, _, _, _, eps, _, _⟩ := P.1 p hpm
  rw [et] at eps
  have Q := xr_push P (h' := h) (x := 2) (f := p) (g := 0) (t := .mulL 0 (s h)) (by omega) (by omega) (by omega) (by simp only [tl_sz]; omega) (Or.inr (Or.inl ⟨rfl, hpm, by rw [et]⟩))
  have im : vp_in (nI m) 12 := vp_in_nI hm (by omega)
  have ih : vp_in (nI h) 12 := vp_in_nI (by omega) (by omega)
  have ip : vp_in (nI p) 12 := vp_in_nI (by omega) (by omega)
  have cm : (nI m).toNatClampNeg = m := nI_clamp (by omega)
  have ch : (nI h).toNatClampNeg = h := nI_clamp (by omega)
  have cp : (nI p).toNatClampNeg = p := nI_clamp (by omega)
  unfold wpX_make
  dsimp only
  refine nm_r (e' := nI h) (nI_pred h) (br_f (by decide) ⟨ih, ?_⟩)
  rw [ch, es]
  unfold wX_make_27
  refine br_t (by decide) ?_
  unfold wX_make_48
  rw [cm, cp]
  refine ⟨im, nm_r (congrArg _ (tn_nb2 (n := 2) (by omega))) ⟨im, nm_r (congrArg _ (tn_nb2 (by omega))) ⟨im, nm_r (congrArg _ (tn_nb2 (n := 0) (by omega))) (br_f (by decide) ⟨ip, ?_⟩)⟩⟩⟩
  unfold wX_make_107
  refine br_t (by decide) ?_
  unfold wX_make_124
  rw [cm, ch, eps]
  refine ⟨im, nm_r (e' := upd a_sizes m (nI (1 + tl_sz (s h)))) ?_ ⟨ih, nm_r (congrArg _ (tn_nb2 (by omega))) (nm_r (nI_1 h) (nm_r (nI_1 m) ?_))⟩⟩
  · rw [show (1 : Int32) + nI (tl_sz (s h)) + 0 = nI (1 + tl_sz (s h)) from by rw [Int32.add_zero]; exact nI_add 1 _, tn_nb2 (by omega)]
  · exact hp _ _ _ _ _ _ Q
theorem xm_2 {post : Int32 → SX → Prop} {x y : Int32} {τ : Nat → tl_T} (e1 : f_made = nI m) (e2 : f_height = nI h) (P : xr_P τ h s m a_top a_first a_second a_sizes a_stack) (K : tl_sk h s m) (hm : m < 12) (h1 : 2 ≤ h) (ex : x = 3) (ey : y = 2)
    (hp : ∀ t f g z k τ, xr_P τ (h - 1) (tl_put s (h - 2) (.add (s (h - 2)) (s (h - 1)))) (m + 1) t f g z k → post (nI (h - 1)) (nI (m + 1), nI (h - 1), f_known, f_level, f_left, f_came, f_letters, a_leafSet, a_oneSet, a_twoSet, a_finalSet, t, f, g, z, k, a_todo, a_written, a_numbers, a_ways, a_counts, a_all, a_weight, a_wanted, a_phase, a_split, a_done, a_spelled)) : wpX_make post (f_made, f_height, f_known, f_level, f_left, f_came, f_letters, a_leafSet, a_oneSet, a_twoSet, a_finalSet, a_top, a_first, a_second, a_sizes, a_stack, a_todo, a_written, a_numbers, a_ways, a_counts, a_all, a_weight, a_wanted, a_phase, a_split, a_done, a_spelled) x y := by
  have hh : h ≤ m := by have := @tl_sk_h h s; have := K.1; omega
  obtain ⟨h, rfl⟩ : ∃ k, h = k + 2 := ⟨h - 2, by omega⟩
  rw [show h + 2 - 1 = h + 1 from rfl, show h + 2 - 2 = h from rfl] at hp
  subst e1 e2 ex ey
  obtain ⟨p, hpm, es, et⟩ := P.2 h (by omega)
  obtain ⟨q, hqm, fs, ft⟩ := P.2 (h + 1) (by omega)
  have hz : tl_sz (s h) + tl_sz (s (h + 1)) ≤ m := by
    have := K.1; simp only [tl_sm] at this; omega
  obtain ⟨_, _, _, _, _, _, eps, _, _⟩ := P.1 p hpm
  obtain ⟨_, _, _, _, _, _, eqs, _, _⟩ := P.1 q hqm
  rw [et] at eps
  rw [ft] at eqs
  have Q := xr_push P (h' := h) (x := 3) (f := p) (g := q) (t := .add (s h) (s (h + 1))) (by omega) (by omega) (by omega) (by simp only [tl_sz]; omega) (Or.inr (Or.inr ⟨rfl, hpm, hqm, by rw [et, ft]⟩))
  have im : vp_in (nI m) 12 := vp_in_nI hm (by omega)
  have ih : vp_in (nI h) 12 := vp_in_nI (by omega) (by omega)
  have ih1 : vp_in (nI (h + 1)) 12 := vp_in_nI (by omega) (by omega)
  have ip : vp_in (nI p) 12 := vp_in_nI (by omega) (by omega)
  have iq : vp_in (nI q) 12 := vp_in_nI (by omega) (by omega)
  have cm : (nI m).toNatClampNeg = m := nI_clamp (by omega)
  have ch : (nI h).toNatClampNeg = h := nI_clamp (by omega)
  have ch1 : (nI (h + 1)).toNatClampNeg = h + 1 := nI_clamp (by omega)
  have cp : (nI p).toNatClampNeg = p := nI_clamp (by omega)
  have cq : (nI q).toNatClampNeg = q := nI_clamp (by omega)
  unfold wpX_make
  dsimp only
  refine nm_r (e' := nI h) (tn_2 (h + 2) (by omega)) (br_f (by decide) ⟨ih, ?_⟩)
  rw [ch, es]
  unfold wX_make_27
  rw [nI_1 h, ch1, fs]
  refine br_f (by decide) ⟨ih1, ?_⟩
  unfold wX_make_48
  rw [cm, cp]
  refine ⟨im, nm_r (congrArg _ (tn_nb2 (n := 3) (by omega))) ⟨im, nm_r (congrArg _ (tn_nb2 (by omega))) ⟨im, nm_r (congrArg _ (tn_nb2 (by omega))) (br_f (by decide) ⟨ip, ?_⟩)⟩⟩⟩
  unfold wX_make_107
  rw [cq, eqs]
  refine br_f (by decide) ⟨iq, ?_⟩
  unfold wX_make_124
  rw [cm, ch, eps]
  refine ⟨im, nm_r (e' := upd a_sizes m (nI (1 + tl_sz (s h) + tl_sz (s (h + 1))))) ?_ ⟨ih, nm_r (congrArg _ (tn_nb2 (by omega))) (nm_r (nI_1 h) (nm_r (nI_1 m) ?_))⟩⟩
  · rw [show (1 : Int32) + nI (tl_sz (s h)) = nI (1 + tl_sz (s h)) from nI_add 1 _, nI_add, tn_nb2 (by omega)]
  · exact hp _ _ _ _ _ _ Q
end
end
section
/-! the component: reading the topmost tree -/
def tl_hd : tl_T → Nat
  | .num c => c
  | .mulL _ _ => 2
  | .add _ _ => 3
  | .var _ => 0
  | .mulR _ _ => 0
def tl_kd : tl_T → List tl_T
  | .mulL _ t => [t]
  | .add t u => [t, u]
  | .num _ => []
  | .var _ => []
  | .mulR _ _ => []
def tl_fw (l : List tl_T) : List Nat := l.flatMap tl_wd
theorem tl_fw_nil : tl_fw [] = [] := rfl
theorem tl_fw_cons (t : tl_T) (r : List tl_T) : tl_fw (t :: r) = tl_hd t :: tl_fw (tl_kd t ++ r) := by
  cases t <;> simp only [tl_fw, tl_kd, tl_hd, tl_wd, List.flatMap_cons, List.flatMap_append, List.flatMap_nil, List.cons_append, List.nil_append, List.append_nil, List.append_assoc]
theorem tl_fw_len (l : List tl_T) : l.length ≤ (tl_fw l).length := by
  induction l with
  | nil => exact Nat.le_refl _
  | cons t r ih =>
    have := tl_wdl t; have := tl_szp t
    simp only [tl_fw, List.flatMap_cons, List.length_append, List.length_cons] at ih ⊢
    omega
theorem tl_drop_s {l : List Nat} {n x : Nat} {r : List Nat} (h : l.drop n = x :: r) : l.getD n 0 = x ∧ l.drop (n + 1) = r ∧ n < l.length := by
  have hl : n < l.length := by
    rcases Nat.lt_or_ge n l.length with h1 | h1
    · exact h1
    · rw [List.drop_eq_nil_of_le h1] at h; exact absurd h (by simp)
  rw [List.drop_eq_getElem_cons hl] at h
  injection h with h1 h2
  refine ⟨?_, h2, hl⟩
  rw [List.getD_eq_getElem?_getD, List.getElem?_eq_getElem hl, Option.getD_some, h1]
/-- a stack of trees in an array, the topmost one first in the list -/
def tl_tk (τ : Nat → tl_T) (m : Nat) (td : Nat → Int32) : List tl_T → Prop
  | [] => True
  | t :: r => (∃ p, p < m ∧ td r.length = nI p ∧ τ p = t) ∧ tl_tk τ m td r
theorem tl_tk_upd {τ : Nat → tl_T} {m : Nat} {td : Nat → Int32} {k : Nat} {x : Int32} : ∀ {l : List tl_T}, tl_tk τ m td l → l.length ≤ k → tl_tk τ m (upd td k x) l := by
  intro l
  induction l with
  | nil => intro _ _; trivial
  | cons t r ih =>
    intro h hk
    simp only [List.length_cons] at hk
    obtain ⟨⟨p, h1, h2, h3⟩, h4⟩ := h
    exact ⟨⟨p, h1, by rw [pk_un (by omega)]; exact h2, h3⟩, ih h4 (by omega)⟩
theorem tl_tk_put {τ : Nat → tl_T} {m : Nat} {td : Nat → Int32} {p : Nat} {l : List tl_T} (h : tl_tk τ m td l) (hp : p < m) : tl_tk τ m (upd td l.length (nI p)) (τ p :: l) :=
  ⟨⟨p, hp, pk_us, rfl⟩, tl_tk_upd h (Nat.le_refl _)⟩
section
variable {L O W F : Nat → Nat} {h m : Nat} {s : Nat → tl_T} {τ : Nat → tl_T}
variable {f_made f_height f_known f_level f_left f_came f_letters : Int32} {a_leafSet a_oneSet a_twoSet a_finalSet a_top a_first a_second a_sizes a_stack a_todo a_written a_numbers a_ways a_counts a_all a_weight a_wanted a_phase a_split a_done a_spelled : Nat → Int32}
theorem xw_12 {post : Int32 → SX → Prop} (hm : m ≤ 12) (hN : ∀ k, k < m → xr_N τ a_top a_first a_second a_sizes k) {wo : List Nat} (hw : wo.length ≤ 12)
    (hp : ∀ td wr, (∀ i, i < wo.length → wr i = nI (wo.getD i 0)) → post (nI wo.length) (f_made, f_height, f_known, f_level, f_left, f_came, f_letters, a_leafSet, a_oneSet, a_twoSet, a_finalSet, a_top, a_first, a_second, a_sizes, a_stack, td, wr, a_numbers, a_ways, a_counts, a_all, a_weight, a_wanted, a_phase, a_split, a_done, a_spelled)) :
    ∀ d ws n N td wr, (tl_fw ws).length = d → n + d = wo.length → wo.drop n = tl_fw ws → (∀ i, i < n → wr i = nI (wo.getD i 0)) → tl_tk τ m td ws → d < N →
    wX_write_12 post f_made f_height f_known f_level f_left f_came f_letters N (nI ws.length) (nI n) a_leafSet a_oneSet a_twoSet a_finalSet a_top a_first a_second a_sizes a_stack td wr a_numbers a_ways a_counts a_all a_weight a_wanted a_phase a_split a_done a_spelled := by
  intro d
  induction d with
  | zero =>
    intro ws n N td wr hd hn hdr hwr htk hN'
    obtain ⟨N, rfl⟩ : ∃ k, N = k + 1 := ⟨N - 1, by omega⟩
    have h0 : ws.length = 0 := by have := tl_fw_len ws; omega
    have : n = wo.length := by omega
    subst this
    rw [h0]
    exact br_t (by decide) (hp td wr hwr)
  | succ d ih =>
    intro ws n N td wr hd hn hdr hwr htk hN'
    obtain ⟨N, rfl⟩ : ∃ k, N = k + 1 := ⟨N - 1, by omega⟩
    cases ws with
    | nil => rw [tl_fw_nil] at hd; exact absurd hd (by simp)
    | cons t r =>
      have hl := tl_fw_len (t :: r)
      rw [tl_fw_cons] at hdr hd hl
      obtain ⟨h1, h2, h3⟩ := tl_drop_s hdr
      simp only [List.length_cons] at hd hl ⊢
      obtain ⟨⟨p, hpm, etd, et⟩, htk'⟩ := htk
      have ip : vp_in (nI p) 12 := vp_in_nI (by omega) (by omega)
      have cp : (nI p).toNatClampNeg = p := nI_clamp (by omega)
      have cn : (nI n).toNatClampNeg = n := nI_clamp (by omega)
      have cr : (nI r.length).toNatClampNeg = r.length := nI_clamp (by omega)
      have cr1 : (nI (r.length + 1)).toNatClampNeg = r.length + 1 := nI_clamp (by omega)
      have ir : vp_in (nI r.length) 16 := vp_in_nI (by omega) (by omega)
      have ir1 : vp_in (nI (r.length + 1)) 16 := vp_in_nI (by omega) (by omega)
      have inn : vp_in (nI n) 12 := vp_in_nI (by omega) (by omega)
      have hwr' : ∀ i, i < n + 1 → upd wr n (nI (tl_hd t)) i = nI (wo.getD i 0) := by
        intro i hi
        by_cases e : i = n
        · subst e; rw [pk_us, h1]
        · rw [pk_un e]; exact hwr i (by omega)
      obtain ⟨f, g, hf, hg, ef, eg, ez, hz, hc⟩ := hN p hpm
      refine br_f (nI_nle (by omega) (by omega)) (br_f (nI_ge (b := 12) (by omega) (by decide)) (nm_r (e' := nI r.length) (pk_m1 _) ⟨ir, ?_⟩))
      rw [cr]
      refine nm_r (e' := nI p) etd ⟨ip, ?_⟩
      rw [cp, cn]
      rcases hc with ⟨c, hc2, etop, eτ⟩ | ⟨etop, hfk, eτ⟩ | ⟨etop, hfk, hgk, eτ⟩
      · rw [et] at eτ
        subst eτ
        have hthis := ih r (n + 1) N td (upd wr n (nI c)) (by simpa [tl_kd] using hd) (by omega) h2 hwr' htk' (by omega)
        rw [etop]
        refine ⟨inn, nm_r (congrArg _ (tn_nb (by omega))) (nm_r (nI_1 n) ⟨ip, br_f (fun z => ?_) ?_⟩)⟩
        · have := (nI_eq (a := c) (b := 3) (by omega) (by decide)).mp z; omega
        · unfold wX_write_76
          rw [cp, etop]
          exact ⟨ip, br_t (nI_lt (b := 2) (by omega) (by decide)) hthis⟩
      · rw [et] at eτ
        subst eτ
        have hthis := ih (τ f :: r) (n + 1) N (upd td r.length (nI f)) (upd wr n (nI 2)) (by simpa [tl_kd] using hd) (by omega) h2 hwr' (tl_tk_put htk' (by omega)) (by omega)
        rw [etop]
        refine ⟨inn, nm_r (congrArg _ (tn_nb (by omega))) (nm_r (nI_1 n) ⟨ip, br_f (by decide) ?_⟩)⟩
        unfold wX_write_76
        rw [cp, cr, etop, ef]
        exact ⟨ip, br_f (by decide) ⟨ip, ir, nm_r (congrArg _ (tn_nb (by omega))) (nm_r (nI_1 _) hthis)⟩⟩
      · rw [et] at eτ
        subst eτ
        have hthis := ih (τ f :: τ g :: r) (n + 1) N (upd (upd td r.length (nI g)) (r.length + 1) (nI f)) (upd wr n (nI 3)) (by simpa [tl_kd] using hd) (by omega) h2 hwr' (tl_tk_put (tl_tk_put htk' (by omega)) (by omega)) (by omega)
        rw [etop, eg]
        refine ⟨inn, nm_r (congrArg _ (tn_nb (by omega))) (nm_r (nI_1 n) ⟨ip, br_t (by decide) ⟨ip, ir, nm_r (congrArg _ (tn_nb (by omega))) (nm_r (nI_1 _) ?_)⟩⟩)⟩
        unfold wX_write_76
        rw [cp, cr1, etop, ef]
        exact ⟨ip, br_f (by decide) ⟨ip, ir1, nm_r (congrArg _ (tn_nb (by omega))) (nm_r (nI_1 _) hthis)⟩⟩
theorem xw_write {post : Int32 → SX → Prop} (hm : m ≤ 12) (hN : ∀ k, k < m → xr_N τ a_top a_first a_second a_sizes k) {p : Nat} (hpm : p < m) {x : Int32} (ex : x = nI p)
    (hp : ∀ td wr, (∀ i, i < (tl_wd (τ p)).length → wr i = nI ((tl_wd (τ p)).getD i 0)) → post (nI (tl_wd (τ p)).length) (f_made, f_height, f_known, f_level, f_left, f_came, f_letters, a_leafSet, a_oneSet, a_twoSet, a_finalSet, a_top, a_first, a_second, a_sizes, a_stack, td, wr, a_numbers, a_ways, a_counts, a_all, a_weight, a_wanted, a_phase, a_split, a_done, a_spelled)) :
    wpX_write post (f_made, f_height, f_known, f_level, f_left, f_came, f_letters, a_leafSet, a_oneSet, a_twoSet, a_finalSet, a_top, a_first, a_second, a_sizes, a_stack, a_todo, a_written, a_numbers, a_ways, a_counts, a_all, a_weight, a_wanted, a_phase, a_split, a_done, a_spelled) x := by
  subst ex
  obtain ⟨f, g, hf, hg, ef, eg, ez, hz, hc⟩ := hN p hpm
  have hfw : tl_fw [τ p] = tl_wd (τ p) := by simp only [tl_fw, List.flatMap_cons, List.flatMap_nil, List.append_nil]
  unfold wpX_write
  dsimp only
  refine nm_r (e' := upd a_todo 0 (nI p)) (congrArg _ (tn_nb2 (by omega))) ?_
  exact ⟨13, xw_12 hm hN (wo := tl_wd (τ p)) (by rw [tl_wdl]; exact hz) hp (tl_wd (τ p)).length [τ p] 0 13 (upd a_todo 0 (nI p)) a_written (by rw [hfw]) (by omega) (by rw [hfw]; rfl) (fun i hi => by omega) ⟨⟨p, hpm, pk_us, rfl⟩, trivial⟩ (by rw [tl_wdl]; omega)⟩
theorem xk_139 {post : Int32 → SX → Prop} {J : Int32 → (Nat → Int32) → (Nat → Int32) → (Nat → Int32) → (Nat → Int32) → (Nat → Int32) → (Nat → Int32) → (Nat → Int32) → (Nat → Int32) → (Nat → Int32) → (Nat → Int32) → (Nat → Int32) → (Nat → Int32) → (Nat → Int32) → (Nat → Int32) → (Nat → Int32) → (Nat → Int32) → (Nat → Int32) → (Nat → Int32) → (Nat → Int32) → (Nat → Int32) → (Nat → Int32) → Prop}
    {x1 : Int32} {k n a A B base : Nat} (hk : k < 12) (ha : a < 12) (hA : a_sizes a = nI A) (hn : n = 1 + A + B) (hn12 : n ≤ 12) (hall : ∀ i, i < 13 → a_all i = nI (tl_tot i))
    (K : ∀ num, (∀ j, j ≠ k → num j = a_numbers j) → num k = nI (base + tl_sm (fun i => tl_tot i * tl_tot (A + B - i)) A) → J (nI (k + 1)) a_leafSet a_oneSet a_twoSet a_finalSet a_top a_first a_second a_sizes a_stack a_todo a_written num a_ways a_counts a_all a_weight a_wanted a_phase a_split a_done a_spelled) :
    ∀ d i N num, i + d = A → 1 ≤ i → (∀ j, j ≠ k → num j = a_numbers j) → num k = nI (base + tl_sm (fun i => tl_tot i * tl_tot (A + B - i)) i) → d < N →
    wX_rank_139 post J x1 (nI k) (nI n) (nI a) f_made f_height f_known f_level f_left f_came f_letters N (nI i) a_leafSet a_oneSet a_twoSet a_finalSet a_top a_first a_second a_sizes a_stack a_todo a_written num a_ways a_counts a_all a_weight a_wanted a_phase a_split a_done a_spelled := by
  have ia : vp_in (nI a) 12 := vp_in_nI ha (by omega)
  have ik : vp_in (nI k) 12 := vp_in_nI hk (by omega)
  have ca : (nI a).toNatClampNeg = a := nI_clamp (by omega)
  have ck : (nI k).toNatClampNeg = k := nI_clamp (by omega)
  intro d
  induction d with
  | zero =>
    intro i N num hi h1 ho hv hN
    obtain ⟨N, rfl⟩ : ∃ k, N = k + 1 := ⟨N - 1, by omega⟩
    have : i = A := by omega
    subst this
    refine And.intro ia ?_
    rw [ca, hA]
    exact br_t (nI_le (Nat.le_refl _) (by omega)) (nm_r (nI_1 k) (K num ho hv))
  | succ d ih =>
    intro i N num hi h1 ho hv hN
    obtain ⟨N, rfl⟩ : ∃ k, N = k + 1 := ⟨N - 1, by omega⟩
    have e1 : (nI n - 1) - nI i = nI (A + B - i) := by rw [tn_1 n (by omega), pk_sub (by omega)]; exact congrArg nI (by omega)
    refine And.intro ia ?_
    rw [ca, hA, e1, ck, nI_clamp (n := i) (by omega), nI_clamp (n := A + B - i) (by omega), hall i (by omega), hall (A + B - i) (by omega), hv, pk_mul, nI_add]
    refine br_f (nI_ge (by omega) (by omega)) ⟨ik, vp_in_nI (by omega) (by omega), vp_in_nI (by omega) (by omega), ik, nm_e (nm_r (nI_1 i) ?_)⟩
    refine ih (i + 1) N _ (by omega) (by omega) (fun j hj => by rw [pk_un hj]; exact ho j hj) ?_ (by omega)
    rw [pk_us]; simp only [tl_sm]; exact congrArg nI (by omega)
theorem xk_14 {post : Int32 → SX → Prop} {t : Nat} (hm : m ≤ 12) (ht : t < m) (hN : ∀ k, k < m → xr_N τ a_top a_first a_second a_sizes k) (hall : ∀ i, i < 13 → a_all i = nI (tl_tot i))
    (hp : ∀ num, num t = nI (tl_rk (τ t)) → post (nI (tl_rk (τ t))) (f_made, f_height, f_known, f_level, f_left, f_came, f_letters, a_leafSet, a_oneSet, a_twoSet, a_finalSet, a_top, a_first, a_second, a_sizes, a_stack, a_todo, a_written, num, a_ways, a_counts, a_all, a_weight, a_wanted, a_phase, a_split, a_done, a_spelled)) :
    ∀ d k N num, k + d = t + 1 → (∀ j, j < k → num j = nI (tl_rk (τ j))) → d < N → wX_rank_14 post (nI t) f_made f_height f_known f_level f_left f_came f_letters N (nI k) a_leafSet a_oneSet a_twoSet a_finalSet a_top a_first a_second a_sizes a_stack a_todo a_written num a_ways a_counts a_all a_weight a_wanted a_phase a_split a_done a_spelled := by
  have it : vp_in (nI t) 12 := vp_in_nI (by omega) (by omega)
  have ct : (nI t).toNatClampNeg = t := nI_clamp (by omega)
  intro d
  induction d with
  | zero =>
    intro k N num hk hv hN'
    obtain ⟨N, rfl⟩ : ∃ k, N = k + 1 := ⟨N - 1, by omega⟩
    have : k = t + 1 := by omega
    subst this
    refine br_t (nI_lt (by omega) (by omega)) ⟨it, ?_⟩
    rw [ct, hv t (by omega)]
    exact hp num (hv t (by omega))
  | succ d ih =>
    intro k N num hk hv hN'
    obtain ⟨N, rfl⟩ : ∃ k, N = k + 1 := ⟨N - 1, by omega⟩
    have ik : vp_in (nI k) 12 := vp_in_nI (by omega) (by omega)
    have ck : (nI k).toNatClampNeg = k := nI_clamp (by omega)
    obtain ⟨f, g, hf, hg, ef, eg, ez, hz, hc⟩ := hN k (by omega)
    have iff' : vp_in (nI f) 12 := vp_in_nI (by omega) (by omega)
    have ig : vp_in (nI g) 12 := vp_in_nI (by omega) (by omega)
    have cf : (nI f).toNatClampNeg = f := nI_clamp (by omega)
    have cg : (nI g).toNatClampNeg = g := nI_clamp (by omega)
    refine br_f (nI_nlt (by omega) (by omega)) ⟨ik, ?_⟩
    rw [ck]
    refine nm_r ez ⟨ik, nm_r ef ⟨ik, nm_r eg ⟨ik, ?_⟩⟩⟩
    rw [cf, cg]
    have step : ∀ v, v = tl_rk (τ k) → ∀ j, j < k + 1 → upd num k (nI v) j = nI (tl_rk (τ j)) := by
      intro v hv' j hj
      by_cases e : j = k
      · subst e; rw [pk_us, hv']
      · rw [pk_un e]; exact hv j (by omega)
    rcases hc with ⟨c, hc2, etop, eτ⟩ | ⟨etop, hfk, eτ⟩ | ⟨etop, hfk, hgk, eτ⟩
    · rw [etop]
      exact br_f (nI_ge (b := 2) (by omega) (by decide)) ⟨ik, ik, nm_e (nm_r (nI_1 k) (ih (k + 1) N _ (by omega) (step c (by rw [eτ]; rfl)) (by omega)))⟩
    · rw [etop, hv f hfk]
      exact br_t (by decide) ⟨ik, br_t rfl ⟨iff', ik, nm_e (nm_r (nI_1 k) (ih (k + 1) N _ (by omega) (step _ (by rw [eτ]; rfl)) (by omega)))⟩⟩
    · obtain ⟨_, _, _, _, _, _, ezf, hzf, _⟩ := hN f (by omega)
      obtain ⟨_, _, _, _, _, _, ezg, hzg, _⟩ := hN g (by omega)
      have hsz : tl_sz (τ k) = 1 + tl_sz (τ f) + tl_sz (τ g) := by rw [eτ]; rfl
      have hpf := tl_szp (τ f)
      have hpg := tl_szp (τ g)
      have e1 : nI (tl_sz (τ k)) - 1 = nI (tl_sz (τ f) + tl_sz (τ g)) := by rw [tn_1 _ (by omega)]; exact congrArg nI (by omega)
      rw [etop, hv f hfk, hv g hgk, ezg, e1, nI_clamp (n := tl_sz (τ f) + tl_sz (τ g)) (by omega), nI_clamp (n := tl_sz (τ g)) (by omega), hall (tl_sz (τ f) + tl_sz (τ g)) (by omega), hall (tl_sz (τ g)) (by omega), pk_mul, nI_add, nI_add]
      refine br_t (by decide) ⟨ik, br_f (by decide) ⟨vp_in_nI (by omega) (by omega), iff', ig, vp_in_nI (by omega) (by omega), ig, ik, nm_e ⟨14, ?_⟩⟩⟩
      refine xk_139 (n := tl_sz (τ k)) (A := tl_sz (τ f)) (B := tl_sz (τ g)) (base := tl_tot (tl_sz (τ f) + tl_sz (τ g)) + tl_rk (τ f) * tl_tot (tl_sz (τ g)) + tl_rk (τ g)) (by omega) hf ezf hsz hz hall ?_ (tl_sz (τ f) - 1) 1 14 _ (by omega) (by omega) (fun j hj => rfl) ?_ (by omega)
      · intro num' ho hv'
        refine ih (k + 1) N _ (by omega) ?_ (by omega)
        intro j hj
        by_cases e : j = k
        · subst e; rw [hv', eτ]; rfl
        · rw [ho j e, pk_un e]; exact hv j (by omega)
      · rw [pk_us]
        exact congrArg nI (by simp only [tl_sm, tl_tot]; simp)
theorem xp_2 {post : Int32 → SX → Prop} {t : Nat} (hm : m ≤ 12) (ht : t < m) (hR : tl_rl L O W F) (hL : xr_ar a_leafSet L) (hO : xr_ar a_oneSet O) (hW : xr_ar a_twoSet W) (hN : ∀ k, k < m → xr_N τ a_top a_first a_second a_sizes k)
    (hp : ∀ num, num t = nI (tl_p L O W (τ t)) → post (nI (tl_p L O W (τ t))) (f_made, f_height, f_known, f_level, f_left, f_came, f_letters, a_leafSet, a_oneSet, a_twoSet, a_finalSet, a_top, a_first, a_second, a_sizes, a_stack, a_todo, a_written, num, a_ways, a_counts, a_all, a_weight, a_wanted, a_phase, a_split, a_done, a_spelled)) :
    ∀ d k N num, k + d = t + 1 → (∀ j, j < k → num j = nI (tl_p L O W (τ j))) → d < N → wX_pairOf_2 post (nI t) f_made f_height f_known f_level f_left f_came f_letters N (nI k) a_leafSet a_oneSet a_twoSet a_finalSet a_top a_first a_second a_sizes a_stack a_todo a_written num a_ways a_counts a_all a_weight a_wanted a_phase a_split a_done a_spelled := by
  have it : vp_in (nI t) 12 := vp_in_nI (by omega) (by omega)
  have ct : (nI t).toNatClampNeg = t := nI_clamp (by omega)
  intro d
  induction d with
  | zero =>
    intro k N num hk hv hN'
    obtain ⟨N, rfl⟩ : ∃ k, N = k + 1 := ⟨N - 1, by omega⟩
    have : k = t + 1 := by omega
    subst this
    refine br_t (nI_lt (by omega) (by omega)) ⟨it, ?_⟩
    rw [ct, hv t (by omega)]
    exact hp num (hv t (by omega))
  | succ d ih =>
    intro k N num hk hv hN'
    obtain ⟨N, rfl⟩ : ∃ k, N = k + 1 := ⟨N - 1, by omega⟩
    have ik : vp_in (nI k) 12 := vp_in_nI (by omega) (by omega)
    have ck : (nI k).toNatClampNeg = k := nI_clamp (by omega)
    obtain ⟨f, g, hf, hg, ef, eg, ez, hz, hc⟩ := hN k (by omega)
    have iff' : vp_in (nI f) 12 := vp_in_nI (by omega) (by omega)
    have ig : vp_in (nI g) 12 := vp_in_nI (by omega) (by omega)
    have cf : (nI f).toNatClampNeg = f := nI_clamp (by omega)
    have cg : (nI g).toNatClampNeg = g := nI_clamp (by omega)
    have step : ∀ v, v = tl_p L O W (τ k) → ∀ j, j < k + 1 → upd num k (nI v) j = nI (tl_p L O W (τ j)) := by
      intro v hv' j hj
      by_cases e : j = k
      · subst e; rw [pk_us, hv']
      · rw [pk_un e]; exact hv j (by omega)
    have fin : ∀ v, v = tl_p L O W (τ k) → vp_in (nI k) 12 ∧ ∀ y, y = upd num k (nI v) → ∀ z, z = nI k + 1 → wX_pairOf_2 post (nI t) f_made f_height f_known f_level f_left f_came f_letters N z a_leafSet a_oneSet a_twoSet a_finalSet a_top a_first a_second a_sizes a_stack a_todo a_written y a_ways a_counts a_all a_weight a_wanted a_phase a_split a_done a_spelled :=
      fun v hv' => ⟨ik, nm_e (nm_r (nI_1 k) (ih (k + 1) N _ (by omega) (step v hv') (by omega)))⟩
    refine br_f (nI_nlt (by omega) (by omega)) ⟨ik, ?_⟩
    rw [ck, ef, cf, eg, cg]
    refine ⟨iff', nm_e ⟨ik, ig, nm_e ⟨ik, ?_⟩⟩⟩
    rcases hc with ⟨c, hc2, etop, eτ⟩ | ⟨etop, hfk, eτ⟩ | ⟨etop, hfk, hgk, eτ⟩
    · rw [etop]
      exact br_f (nI_ge (b := 2) (by omega) (by decide)) ⟨ik, xa_leafPair rfl hL hR.1 hc2 (fin _ (by rw [eτ, tl_p_num]))⟩
    · rw [etop]
      have := tl_p_lt hR (τ f)
      exact br_t (by decide) ⟨ik, br_t rfl (xa_onePair (hv f hfk) hO hR.2.1 (by omega) (fin _ (by rw [eτ, tl_p_one hR])))⟩
    · rw [etop]
      have := tl_p_lt hR (τ f)
      have := tl_p_lt hR (τ g)
      exact br_t (by decide) ⟨ik, br_f (by decide) (xa_twoPair (hv f hfk) (hv g hgk) hW hR.2.2.1 (by omega) (by omega) (fin _ (by rw [eτ, tl_p_two hR])))⟩
end
end
section
/-! the component: runs -/
section
variable {L O W F : Nat → Nat} {h m : Nat} {s : Nat → tl_T} {τ : Nat → tl_T}
variable {f_made f_height f_known f_level f_left f_came f_letters : Int32} {a_leafSet a_oneSet a_twoSet a_finalSet a_top a_first a_second a_sizes a_stack a_todo a_written a_numbers a_ways a_counts a_all a_weight a_wanted a_phase a_split a_done a_spelled : Nat → Int32}
theorem xv_1 {post : Int32 → Prop} {a k q f : Nat} {w : Nat → Nat} (ha : a < 2) (hk : k < 12) (hq : q < 4) (hf : f < 12) (hR : tl_rl L O W F) (hO : xr_ar a_oneSet O)
    (et : a_top k = nI 2) (ef : a_first k = nI f) (hw : ∀ p, p < 4 → a_ways (4 * f + p) = nI (w p))
    (hp : post (nI (tl_sm (fun p => if (O (4 * a + p)).testBit q then w p else 0) 4))) :
    ∀ d i N, i + d = 16 → d < N → wX_waysOf_36 post (nI a) (nI k) (nI q) f_made f_height f_known f_level f_left f_came f_letters a_leafSet a_oneSet a_twoSet a_finalSet a_top a_first a_second a_sizes a_stack a_todo a_written a_numbers a_ways a_counts a_all a_weight a_wanted a_phase a_split a_done a_spelled N (nI (tl_sm (fun p => if (O (4 * a + p)).testBit q then w p else 0) (if i < 4 then i else 4))) (nI i) := by
  have ik : vp_in (nI k) 12 := vp_in_nI (by omega) (by omega)
  have ck : (nI k).toNatClampNeg = k := nI_clamp (by omega)
  intro d
  induction d with
  | zero =>
    intro i N hi hN
    obtain ⟨N, rfl⟩ : ∃ k, N = k + 1 := ⟨N - 1, by omega⟩
    obtain rfl : i = 16 := by omega
    exact br_t (by decide) hp
  | succ d ih =>
    intro i N hi hN
    obtain ⟨N, rfl⟩ : ∃ k, N = k + 1 := ⟨N - 1, by omega⟩
    have hi1 := ih (i + 1) N (by omega) (by omega)
    refine br_f (nI_ge (b := 16) (by omega) (by decide)) (And.intro ik ?_)
    rw [ck, ef, tn_and3 (by omega), tn_ixc 4 f (i % 4) (by omega), et]
    refine And.intro (tn_ixi 4 48 f (i % 4) (by omega)) (nm_e (And.intro ik (br_t rfl ?_)))
    by_cases h4 : i < 4
    · rw [if_pos h4]
      refine br_f (nI_ge (b := 4) (by omega) (by decide)) (And.intro (tn_ixi 4 8 a i (by omega)) ?_)
      rw [tn_ixc 4 a i (by omega), hO]
      have hb := tn_bit (s := O (4 * a + i)) (p := q) (by have := hR.2.1 (4 * a + i); omega) (by omega)
      have e1 : (if i + 1 < 4 then i + 1 else 4) = i + 1 := by split <;> omega
      rw [e1] at hi1
      have e110 : ∀ z, wX_waysOf_36 post (nI a) (nI k) (nI q) f_made f_height f_known f_level f_left f_came f_letters a_leafSet a_oneSet a_twoSet a_finalSet a_top a_first a_second a_sizes a_stack a_todo a_written a_numbers a_ways a_counts a_all a_weight a_wanted a_phase a_split a_done a_spelled N (nI z) (nI (i + 1)) → wX_waysOf_108 post (wX_waysOf_36 post (nI a) (nI k) (nI q) f_made f_height f_known f_level f_left f_came f_letters a_leafSet a_oneSet a_twoSet a_finalSet a_top a_first a_second a_sizes a_stack a_todo a_written a_numbers a_ways a_counts a_all a_weight a_wanted a_phase a_split a_done a_spelled N) (nI a) (nI k) (nI q) (nI i) (a_ways (4 * f + i % 4)) (nI z) f_made f_height f_known f_level f_left f_came f_letters a_leafSet a_oneSet a_twoSet a_finalSet a_top a_first a_second a_sizes a_stack a_todo a_written a_numbers a_ways a_counts a_all a_weight a_wanted a_phase a_split a_done a_spelled := by
        intro z hz
        unfold wX_waysOf_108 wX_waysOf_110
        rw [ck, et]
        exact And.intro ik (br_f (by decide) (nm_r (nI_1 i) hz))
      by_cases b : (O (4 * a + i)).testBit q = true
      · refine br_t (hb.mpr b) ?_
        have := e110 (tl_sm (fun p => if (O (4 * a + p)).testBit q then w p else 0) i + w i) (by
          simp only [tl_sm, b, if_true] at hi1; exact hi1)
        rw [← nI_add, ← hw i h4] at this
        rw [Nat.mod_eq_of_lt h4] at this ⊢
        exact this
      · refine br_f (fun z => b (hb.mp z)) ?_
        refine e110 _ ?_
        simp only [tl_sm, b, Bool.false_eq_true, if_false, Nat.add_zero] at hi1
        exact hi1
    · rw [if_neg h4]
      rw [if_neg (by omega)] at hi1
      refine br_t (nI_le (a := 4) (by omega) (by omega)) ?_
      unfold wX_waysOf_110
      rw [ck, et]
      exact And.intro ik (br_f (by decide) (nm_r (nI_1 i) hi1))
theorem xv_2 {post : Int32 → Prop} {a k q f g : Nat} {w v : Nat → Nat} (ha : a < 2) (hk : k < 12) (hq : q < 4) (hf : f < 12) (hg : g < 12) (hR : tl_rl L O W F) (hW : xr_ar a_twoSet W)
    (et : a_top k = nI 3) (ef : a_first k = nI f) (eg : a_second k = nI g) (hw : ∀ p, p < 4 → a_ways (4 * f + p) = nI (w p)) (hv : ∀ p, p < 4 → a_ways (4 * g + p) = nI (v p))
    (hp : post (nI (tl_sm (fun i => if (W (16 * a + i)).testBit q then w (i % 4) * v (i / 4) else 0) 16))) :
    ∀ d i N, i + d = 16 → d < N → wX_waysOf_36 post (nI a) (nI k) (nI q) f_made f_height f_known f_level f_left f_came f_letters a_leafSet a_oneSet a_twoSet a_finalSet a_top a_first a_second a_sizes a_stack a_todo a_written a_numbers a_ways a_counts a_all a_weight a_wanted a_phase a_split a_done a_spelled N (nI (tl_sm (fun i => if (W (16 * a + i)).testBit q then w (i % 4) * v (i / 4) else 0) i)) (nI i) := by
  have ik : vp_in (nI k) 12 := vp_in_nI (by omega) (by omega)
  have ck : (nI k).toNatClampNeg = k := nI_clamp (by omega)
  intro d
  induction d with
  | zero =>
    intro i N hi hN
    obtain ⟨N, rfl⟩ : ∃ k, N = k + 1 := ⟨N - 1, by omega⟩
    obtain rfl : i = 16 := by omega
    exact br_t (by decide) hp
  | succ d ih =>
    intro i N hi hN
    obtain ⟨N, rfl⟩ : ∃ k, N = k + 1 := ⟨N - 1, by omega⟩
    have hi1 := ih (i + 1) N (by omega) (by omega)
    refine br_f (nI_ge (b := 16) (by omega) (by decide)) (And.intro ik ?_)
    rw [ck, ef, tn_and3 (by omega), tn_ixc 4 f (i % 4) (by omega), et, hw (i % 4) (by omega)]
    refine And.intro (tn_ixi 4 48 f (i % 4) (by omega)) (nm_e (And.intro ik (br_f (by decide) ?_)))
    unfold wX_waysOf_110
    rw [ck, et, eg, tn_shr2 (by omega), tn_ixc 4 g (i / 4) (by omega), hv (i / 4) (by omega), tn_ixc 16 a i (by omega), hW]
    have hb := tn_bit (s := W (16 * a + i)) (p := q) (by have := hR.2.2.1 (16 * a + i); omega) (by omega)
    refine And.intro ik (br_t rfl (And.intro (tn_ixi 16 32 a i (by omega)) ?_))
    by_cases b : (W (16 * a + i)).testBit q = true
    · refine br_t (hb.mpr b) (And.intro ik (And.intro (tn_ixi 4 48 g (i / 4) (by omega)) (nm_r ?_ (nm_r (nI_1 i) hi1))))
      simp only [tl_sm, b, if_true]
      rw [pk_mul, nI_add]
    · simp only [tl_sm, b, Bool.false_eq_true, if_false, Nat.add_zero] at hi1
      exact br_f (fun z => b (hb.mp z)) (nm_r (nI_1 i) hi1)
theorem xv_waysOf {post : Int32 → Prop} {a k q : Nat} {x1 x2 x3 : Int32} (e1 : x1 = nI a) (e2 : x2 = nI k) (e3 : x3 = nI q) (ha : a < 2) (hk : k < m) (hm : m ≤ 12) (hq : q < 4) (hR : tl_rl L O W F)
    (hL : xr_ar a_leafSet L) (hO : xr_ar a_oneSet O) (hW : xr_ar a_twoSet W) (hN : ∀ k, k < m → xr_N τ a_top a_first a_second a_sizes k)
    (hw : ∀ j, j < k → ∀ p, p < 4 → a_ways (4 * j + p) = nI (tl_w L O W a (τ j) p)) (hp : post (nI (tl_w L O W a (τ k) q))) :
    wpX_waysOf post (f_made, f_height, f_known, f_level, f_left, f_came, f_letters, a_leafSet, a_oneSet, a_twoSet, a_finalSet, a_top, a_first, a_second, a_sizes, a_stack, a_todo, a_written, a_numbers, a_ways, a_counts, a_all, a_weight, a_wanted, a_phase, a_split, a_done, a_spelled) x1 x2 x3 := by
  subst e1 e2 e3
  have ik : vp_in (nI k) 12 := vp_in_nI (by omega) (by omega)
  have ck : (nI k).toNatClampNeg = k := nI_clamp (by omega)
  obtain ⟨f, g, hf, hg, ef, eg, ez, hz, hc⟩ := hN k hk
  unfold wpX_waysOf
  dsimp only
  rw [ck]
  refine And.intro ik ?_
  rcases hc with ⟨c, hc2, etop, eτ⟩ | ⟨etop, hfk, eτ⟩ | ⟨etop, hfk, hgk, eτ⟩
  · rw [eτ] at hp
    simp only [tl_w] at hp
    rw [etop, tn_ixc 2 a c (by omega), hL, tn_bitv (by have := hR.1 (2 * a + c); omega) (by omega)]
    exact br_f (nI_ge (b := 2) (by omega) (by decide)) (And.intro ik (And.intro (tn_ixi 2 4 a c (by omega)) hp))
  · rw [eτ] at hp
    simp only [tl_w] at hp
    have et' : (2 : Int32) ≤ a_top k := by rw [etop]; decide
    exact br_t et' (Exists.intro 17 (xv_1 ha (by omega) hq hf hR hO etop ef (hw f hfk) hp 16 0 17 rfl (by decide)))
  · rw [eτ] at hp
    simp only [tl_w] at hp
    have et' : (2 : Int32) ≤ a_top k := by rw [etop]; decide
    exact br_t et' (Exists.intro 17 (xv_2 ha (by omega) hq hf hg hR hW etop ef eg (hw f hfk) (hw g hgk) hp 16 0 17 rfl (by decide)))
def tl_rn (L O W F : Nat → Nat) (a : Nat) (t : tl_T) : Nat := tl_sm (fun q => if (F a).testBit q then tl_w L O W a t q else 0) 4
theorem xv_61 {post : Int32 → SX → Prop} {a t : Nat} (ha : a < 2) (ht : t < 12) (hR : tl_rl L O W F) (hF : xr_ar a_finalSet F)
    (hw : ∀ p, p < 4 → a_ways (4 * t + p) = nI (tl_w L O W a (τ t) p)) (hp : post (nI (tl_rn L O W F a (τ t))) (f_made, f_height, f_known, f_level, f_left, f_came, f_letters, a_leafSet, a_oneSet, a_twoSet, a_finalSet, a_top, a_first, a_second, a_sizes, a_stack, a_todo, a_written, a_numbers, a_ways, a_counts, a_all, a_weight, a_wanted, a_phase, a_split, a_done, a_spelled)) :
    ∀ d i N, i + d = 4 → d < N → wX_runs_61 post (nI a) (nI t) f_made f_height f_known f_level f_left f_came f_letters a_leafSet a_oneSet a_twoSet a_finalSet a_top a_first a_second a_sizes a_stack a_todo a_written a_numbers a_ways a_counts a_all a_weight a_wanted a_phase a_split a_done a_spelled N (nI (tl_sm (fun q => if (F a).testBit q then tl_w L O W a (τ t) q else 0) i)) (nI i) := by
  have ia : vp_in (nI a) 2 := vp_in_nI (by omega) (by omega)
  have ca : (nI a).toNatClampNeg = a := nI_clamp (by omega)
  intro d
  induction d with
  | zero =>
    intro i N hi hN
    obtain ⟨N, rfl⟩ : ∃ k, N = k + 1 := ⟨N - 1, by omega⟩
    obtain rfl : i = 4 := by omega
    exact br_t (by decide) hp
  | succ d ih =>
    intro i N hi hN
    obtain ⟨N, rfl⟩ : ∃ k, N = k + 1 := ⟨N - 1, by omega⟩
    have hi1 := ih (i + 1) N (by omega) (by omega)
    have hb := tn_bit (s := F a) (p := i) (by have := hR.2.2.2 a; omega) (by omega)
    refine br_f (nI_ge (b := 4) (by omega) (by decide)) (And.intro ia ?_)
    rw [ca, hF, tn_ixc 4 t i (by omega), hw i (by omega)]
    by_cases b : (F a).testBit i = true
    · refine br_t (hb.mpr b) (And.intro (tn_ixi 4 48 t i (by omega)) (nm_r ?_ (nm_r (nI_1 i) hi1)))
      simp only [tl_sm, b, if_true]
      rw [nI_add]
    · simp only [tl_sm, b, Bool.false_eq_true, if_false, Nat.add_zero] at hi1
      exact br_f (fun z => b (hb.mp z)) (nm_r (nI_1 i) hi1)
theorem xv_24 {post : Int32 → SX → Prop} {a t : Nat} (ha : a < 2) (hm : m ≤ 12) (ht : t < m) (hR : tl_rl L O W F) (hL : xr_ar a_leafSet L) (hO : xr_ar a_oneSet O) (hW : xr_ar a_twoSet W) (hF : xr_ar a_finalSet F) (hN : ∀ k, k < m → xr_N τ a_top a_first a_second a_sizes k)
    (hp : ∀ ws, post (nI (tl_rn L O W F a (τ t))) (f_made, f_height, f_known, f_level, f_left, f_came, f_letters, a_leafSet, a_oneSet, a_twoSet, a_finalSet, a_top, a_first, a_second, a_sizes, a_stack, a_todo, a_written, a_numbers, ws, a_counts, a_all, a_weight, a_wanted, a_phase, a_split, a_done, a_spelled)) :
    ∀ d i N ws, i + d = 4 * (t + 1) → (∀ j, j < i → ws j = nI (tl_w L O W a (τ (j / 4)) (j % 4))) → d < N → wX_runs_24 post (nI a) (nI t) f_made f_height f_known f_level f_left f_came f_letters N (nI i) a_leafSet a_oneSet a_twoSet a_finalSet a_top a_first a_second a_sizes a_stack a_todo a_written a_numbers ws a_counts a_all a_weight a_wanted a_phase a_split a_done a_spelled := by
  have e4 : (4 : Int32) * (nI t + 1) = nI (4 * (t + 1)) := by rw [nI_1]; exact pk_mul 4 (t + 1)
  intro d
  induction d with
  | zero =>
    intro i N ws hi hv hN'
    obtain ⟨N, rfl⟩ : ∃ k, N = k + 1 := ⟨N - 1, by omega⟩
    have : i = 4 * (t + 1) := by omega
    subst this
    refine br_t (by rw [e4]; exact nI_le (Nat.le_refl _) (by omega)) (Exists.intro 5 (xv_61 (τ := τ) ha (by omega) hR hF ?_ (hp ws) 4 0 5 rfl (by decide)))
    intro p hp4
    have := hv (4 * t + p) (by omega)
    rw [show (4 * t + p) / 4 = t by omega, show (4 * t + p) % 4 = p by omega] at this
    exact this
  | succ d ih =>
    intro i N ws hi hv hN'
    obtain ⟨N, rfl⟩ : ∃ k, N = k + 1 := ⟨N - 1, by omega⟩
    refine br_f (by rw [e4]; exact nI_ge (by omega) (by omega)) (xv_waysOf (m := m) (τ := τ) (k := i / 4) (q := i % 4) rfl (tn_shr2 (by omega)) (tn_and3 (by omega)) ha (by omega) hm (by omega) hR hL hO hW hN ?_ ?_)
    · intro j hj p hp4
      have := hv (4 * j + p) (by omega)
      rw [show (4 * j + p) / 4 = j by omega, show (4 * j + p) % 4 = p by omega] at this
      exact this
    · rw [nI_clamp (n := i) (by omega)]
      refine And.intro (vp_in_nI (by omega) (by omega)) (nm_e (nm_r (nI_1 i) (ih (i + 1) N _ (by omega) ?_ (by omega))))
      intro j hj
      by_cases e : j = i
      · subst e; rw [pk_us]
      · rw [pk_un e]; exact hv j (by omega)
end
end
section
/-! the component: its methods on rules and on the stack, sealed -/
theorem xr_ar_put {a : Nat → Int32} {f : Nat → Nat} (H : xr_ar a f) (k v : Nat) : xr_ar (upd a k (nI v)) (tl_put f k v) := by
  intro j
  by_cases e : j = k
  · subst e; rw [pk_us, tl_put_s]
  · rw [pk_un e, tl_put_n e]; exact H j
section
variable {L O W F : Nat → Nat} {h m : Nat} {s : Nat → tl_T}
variable {f_made f_height f_known f_level f_left f_came f_letters : Int32} {a_leafSet a_oneSet a_twoSet a_finalSet a_top a_first a_second a_sizes a_stack a_todo a_written a_numbers a_ways a_counts a_all a_weight a_wanted a_phase a_split a_done a_spelled : Nat → Int32}
theorem xb_aut {post : Int32 → Prop} {x : Int32} (hb : x < 0 ∨ 1 < x → post 1) (hg : ∀ a, a < 2 → x = nI a → post 0) : wpX_badAutomaton post (f_made, f_height, f_known, f_level, f_left, f_came, f_letters, a_leafSet, a_oneSet, a_twoSet, a_finalSet, a_top, a_first, a_second, a_sizes, a_stack, a_todo, a_written, a_numbers, a_ways, a_counts, a_all, a_weight, a_wanted, a_phase, a_split, a_done, a_spelled) x := by
  unfold wpX_badAutomaton
  by_cases h0 : x < 0
  · exact br_t h0 (hb (Or.inl h0))
  · by_cases h1 : x ≤ 1
    · obtain ⟨j, hj, e⟩ := nI_of2 (M := 1) (n := 1) (by decide) h0 h1
      exact br_f h0 (br_t h1 (hg j (by omega) e))
    · exact br_f h0 (br_f h1 (hb (Or.inr (Int32.not_le.mp h1))))
theorem xb_set {post : Int32 → Prop} {x : Int32} (hb : x < 0 ∨ 15 < x → post 1) (hg : ∀ a, a < 16 → x = nI a → post 0) : wpX_badSet post (f_made, f_height, f_known, f_level, f_left, f_came, f_letters, a_leafSet, a_oneSet, a_twoSet, a_finalSet, a_top, a_first, a_second, a_sizes, a_stack, a_todo, a_written, a_numbers, a_ways, a_counts, a_all, a_weight, a_wanted, a_phase, a_split, a_done, a_spelled) x := by
  unfold wpX_badSet
  by_cases h0 : x < 0
  · exact br_t h0 (hb (Or.inl h0))
  · by_cases h1 : x ≤ 15
    · obtain ⟨j, hj, e⟩ := nI_of2 (M := 15) (n := 15) (by decide) h0 h1
      exact br_f h0 (br_t h1 (hg j (by omega) e))
    · exact br_f h0 (br_f h1 (hb (Or.inr (Int32.not_le.mp h1))))
theorem xb_kind {post : Int32 → Prop} {x : Int32} (hb : x < 0 ∨ 6 < x → post 1) (hg : ∀ a, a < 7 → x = nI a → post 0) : wpX_badKind post (f_made, f_height, f_known, f_level, f_left, f_came, f_letters, a_leafSet, a_oneSet, a_twoSet, a_finalSet, a_top, a_first, a_second, a_sizes, a_stack, a_todo, a_written, a_numbers, a_ways, a_counts, a_all, a_weight, a_wanted, a_phase, a_split, a_done, a_spelled) x := by
  unfold wpX_badKind
  by_cases h0 : x < 0
  · exact br_t h0 (hb (Or.inl h0))
  · by_cases h1 : x ≤ 6
    · obtain ⟨j, hj, e⟩ := nI_of2 (M := 6) (n := 6) (by decide) h0 h1
      exact br_f h0 (br_t h1 (hg j (by omega) e))
    · exact br_f h0 (br_f h1 (hb (Or.inr (Int32.not_le.mp h1))))
end
section
variable {L O W F : Nat → Nat} {h m : Nat} {s : Nat → tl_T}
theorem xt_leafRule {post : Int32 → SX → Prop} {u : SX} {v1 v2 v3 : Int32} (R : xr_R L O W F h s m u)
    (hb : (v1 < 0 ∨ 1 < v1) ∨ (v2 < 0 ∨ 1 < v2) ∨ (v3 < 0 ∨ 15 < v3) → post (-1) u)
    (hg : ∀ a c v, a < 2 → c < 2 → v < 16 → v1 = nI a → v2 = nI c → v3 = nI v → ∀ u', xr_R (tl_put L (2 * a + c) v) O W F h s m u' → post (nI (L (2 * a + c))) u') :
    wpX_leafRule post u v1 v2 v3 := by
  obtain ⟨f_made, f_height, f_known, f_level, f_left, f_came, f_letters, a_leafSet, a_oneSet, a_twoSet, a_finalSet, a_top, a_first, a_second, a_sizes, a_stack, a_todo, a_written, a_numbers, a_ways, a_counts, a_all, a_weight, a_wanted, a_phase, a_split, a_done, a_spelled⟩ := u
  obtain ⟨e1, e2, e3, e4, e5, e6, e7, e8, e9⟩ := R
  unfold wpX_leafRule
  dsimp only
  refine xb_aut (fun b => br_f (by decide) (hb (Or.inl b))) (fun a ha ea => br_t rfl ?_)
  by_cases h0 : v2 < 0
  · exact br_t h0 (hb (Or.inr (Or.inl (Or.inl h0))))
  by_cases h1 : 1 < v2
  · exact br_f h0 (br_t h1 (hb (Or.inr (Or.inl (Or.inr h1)))))
  obtain ⟨c, hc, ec⟩ := nI_of2 (M := 1) (n := 1) (by decide) h0 (Int32.not_lt.mp h1)
  refine br_f h0 (br_f h1 (xb_set (fun b => br_f (by decide) (hb (Or.inr (Or.inr b)))) (fun v hv ev => br_t rfl ?_)))
  subst ea ec ev
  rw [tn_ixc 2 a c (by omega), tn_nb2 (by omega), e4]
  refine ⟨tn_ixi 2 4 a c (by omega), nm_e ⟨tn_ixi 2 4 a c (by omega), nm_e ?_⟩⟩
  exact hg a c v ha (by omega) hv rfl rfl rfl _ ⟨e1, e2, Or.inl rfl, xr_ar_put e4 _ _, e5, e6, e7, e8, e9⟩
theorem xt_oneRule {post : Int32 → SX → Prop} {u : SX} {v1 v2 v3 : Int32} (R : xr_R L O W F h s m u)
    (hb : (v1 < 0 ∨ 1 < v1) ∨ (v2 < 0 ∨ 3 < v2) ∨ (v3 < 0 ∨ 15 < v3) → post (-1) u)
    (hg : ∀ a c v, a < 2 → c < 4 → v < 16 → v1 = nI a → v2 = nI c → v3 = nI v → ∀ u', xr_R L (tl_put O (4 * a + c) v) W F h s m u' → post (nI (O (4 * a + c))) u') :
    wpX_oneRule post u v1 v2 v3 := by
  obtain ⟨f_made, f_height, f_known, f_level, f_left, f_came, f_letters, a_leafSet, a_oneSet, a_twoSet, a_finalSet, a_top, a_first, a_second, a_sizes, a_stack, a_todo, a_written, a_numbers, a_ways, a_counts, a_all, a_weight, a_wanted, a_phase, a_split, a_done, a_spelled⟩ := u
  obtain ⟨e1, e2, e3, e4, e5, e6, e7, e8, e9⟩ := R
  unfold wpX_oneRule
  dsimp only
  refine xb_aut (fun b => br_f (by decide) (hb (Or.inl b))) (fun a ha ea => br_t rfl ?_)
  by_cases h0 : v2 < 0
  · exact br_t h0 (hb (Or.inr (Or.inl (Or.inl h0))))
  by_cases h1 : 3 < v2
  · exact br_f h0 (br_t h1 (hb (Or.inr (Or.inl (Or.inr h1)))))
  obtain ⟨c, hc, ec⟩ := nI_of2 (M := 3) (n := 3) (by decide) h0 (Int32.not_lt.mp h1)
  refine br_f h0 (br_f h1 (xb_set (fun b => br_f (by decide) (hb (Or.inr (Or.inr b)))) (fun v hv ev => br_t rfl ?_)))
  subst ea ec ev
  rw [tn_ixc 4 a c (by omega), tn_nb2 (by omega), e5]
  refine ⟨tn_ixi 4 8 a c (by omega), nm_e ⟨tn_ixi 4 8 a c (by omega), nm_e ?_⟩⟩
  exact hg a c v ha (by omega) hv rfl rfl rfl _ ⟨e1, e2, Or.inl rfl, e4, xr_ar_put e5 _ _, e6, e7, e8, e9⟩
theorem xt_twoRule {post : Int32 → SX → Prop} {u : SX} {v1 v2 v3 : Int32} (R : xr_R L O W F h s m u)
    (hb : (v1 < 0 ∨ 1 < v1) ∨ (v2 < 0 ∨ 15 < v2) ∨ (v3 < 0 ∨ 15 < v3) → post (-1) u)
    (hg : ∀ a c v, a < 2 → c < 16 → v < 16 → v1 = nI a → v2 = nI c → v3 = nI v → ∀ u', xr_R L O (tl_put W (16 * a + c) v) F h s m u' → post (nI (W (16 * a + c))) u') :
    wpX_twoRule post u v1 v2 v3 := by
  obtain ⟨f_made, f_height, f_known, f_level, f_left, f_came, f_letters, a_leafSet, a_oneSet, a_twoSet, a_finalSet, a_top, a_first, a_second, a_sizes, a_stack, a_todo, a_written, a_numbers, a_ways, a_counts, a_all, a_weight, a_wanted, a_phase, a_split, a_done, a_spelled⟩ := u
  obtain ⟨e1, e2, e3, e4, e5, e6, e7, e8, e9⟩ := R
  unfold wpX_twoRule
  dsimp only
  refine xb_aut (fun b => br_f (by decide) (hb (Or.inl b))) (fun a ha ea => br_t rfl ?_)
  refine xb_set (fun b => br_f (by decide) (hb (Or.inr (Or.inl b)))) (fun c hc ec => br_t rfl ?_)
  refine xb_set (fun b => br_f (by decide) (hb (Or.inr (Or.inr b)))) (fun v hv ev => br_t rfl ?_)
  subst ea ec ev
  rw [tn_ixc 16 a c (by omega), tn_nb2 (by omega), e6]
  refine ⟨tn_ixi 16 32 a c (by omega), nm_e ⟨tn_ixi 16 32 a c (by omega), nm_e ?_⟩⟩
  exact hg a c v ha (by omega) hv rfl rfl rfl _ ⟨e1, e2, Or.inl rfl, e4, e5, xr_ar_put e6 _ _, e7, e8, e9⟩
theorem xt_finals {post : Int32 → SX → Prop} {u : SX} {v1 v2 : Int32} (R : xr_R L O W F h s m u)
    (hb : (v1 < 0 ∨ 1 < v1) ∨ (v2 < 0 ∨ 15 < v2) → post (-1) u)
    (hg : ∀ a v, a < 2 → v < 16 → v1 = nI a → v2 = nI v → ∀ u', xr_R L O W (tl_put F a v) h s m u' → post (nI (F a)) u') :
    wpX_finals post u v1 v2 := by
  obtain ⟨f_made, f_height, f_known, f_level, f_left, f_came, f_letters, a_leafSet, a_oneSet, a_twoSet, a_finalSet, a_top, a_first, a_second, a_sizes, a_stack, a_todo, a_written, a_numbers, a_ways, a_counts, a_all, a_weight, a_wanted, a_phase, a_split, a_done, a_spelled⟩ := u
  obtain ⟨e1, e2, e3, e4, e5, e6, e7, e8, e9⟩ := R
  unfold wpX_finals
  dsimp only
  refine xb_aut (fun b => br_f (by decide) (hb (Or.inl b))) (fun a ha ea => br_t rfl ?_)
  refine xb_set (fun b => br_f (by decide) (hb (Or.inr b))) (fun v hv ev => br_t rfl ?_)
  subst ea ev
  rw [nI_clamp (n := a) (by omega), tn_nb2 (by omega), e7]
  refine ⟨vp_in_nI (by omega) (by omega), nm_e ⟨vp_in_nI (by omega) (by omega), nm_e ?_⟩⟩
  exact hg a v ha hv rfl rfl _ ⟨e1, e2, e3, e4, e5, e6, xr_ar_put e7 _ _, e8, e9⟩
theorem xt_leaf {post : Int32 → SX → Prop} {u : SX} {v1 : Int32} (R : xr_R L O W F h s m u) (K : tl_sk h s m)
    (hb : v1 < 0 ∨ 1 < v1 → post (-1) u) (hf : ∀ c, c < 2 → v1 = nI c → m = 12 → post (-2) u)
    (hg : ∀ c, c < 2 → v1 = nI c → m < 12 → ∀ u', xr_R L O W F (h + 1) (tl_put s h (.num c)) (m + 1) u' → post (nI (h + 1)) u') :
    wpX_leaf post u v1 := by
  obtain ⟨f_made, f_height, f_known, f_level, f_left, f_came, f_letters, a_leafSet, a_oneSet, a_twoSet, a_finalSet, a_top, a_first, a_second, a_sizes, a_stack, a_todo, a_written, a_numbers, a_ways, a_counts, a_all, a_weight, a_wanted, a_phase, a_split, a_done, a_spelled⟩ := u
  have em : f_made = nI m := R.1
  have hm := K.2
  unfold wpX_leaf
  dsimp only
  by_cases h0 : v1 < 0
  · exact br_t h0 (hb (Or.inl h0))
  by_cases h1 : v1 ≤ 1
  · obtain ⟨c, hc, ec⟩ := nI_of2 (M := 1) (n := 1) (by decide) h0 h1
    refine br_f h0 (br_t h1 ?_)
    by_cases h12 : m = 12
    · exact br_t (by rw [em, h12]; rfl) (hf c (by omega) ec h12)
    · refine br_f (fun z => h12 ?_) ?_
      · rw [em] at z; exact (nI_eq (b := 12) (by omega) (by decide)).mp z
      · obtain ⟨e1, e2, e3, e4, e5, e6, e7, e8, τ, P⟩ := R
        exact xm_0 e1 e2 P K (by omega) (by omega) ec rfl (fun _ _ _ _ _ τ' Q => hg c (by omega) ec (by omega) _ ⟨rfl, rfl, e3, e4, e5, e6, e7, e8, τ', Q⟩)
  · exact br_f h0 (br_f h1 (hb (Or.inr (Int32.not_le.mp h1))))
theorem xt_one {post : Int32 → SX → Prop} {u : SX} (R : xr_R L O W F h s m u) (K : tl_sk h s m)
    (hf : m = 12 → post (-2) u) (hl : m < 12 → h < 1 → post (-3) u)
    (hg : m < 12 → 1 ≤ h → ∀ u', xr_R L O W F h (tl_put s (h - 1) (.mulL 0 (s (h - 1)))) (m + 1) u' → post (nI h) u') :
    wpX_one post u := by
  obtain ⟨f_made, f_height, f_known, f_level, f_left, f_came, f_letters, a_leafSet, a_oneSet, a_twoSet, a_finalSet, a_top, a_first, a_second, a_sizes, a_stack, a_todo, a_written, a_numbers, a_ways, a_counts, a_all, a_weight, a_wanted, a_phase, a_split, a_done, a_spelled⟩ := u
  have em : f_made = nI m := R.1
  have eh : f_height = nI h := R.2.1
  have hm := K.2
  have hh : h ≤ m := by have := @tl_sk_h h s; have := K.1; omega
  unfold wpX_one
  dsimp only
  by_cases h12 : m = 12
  · exact br_t (by rw [em, h12]; rfl) (hf h12)
  · refine br_f (fun z => h12 ?_) ?_
    · rw [em] at z; exact (nI_eq (b := 12) (by omega) (by decide)).mp z
    · by_cases h1 : 1 ≤ h
      · refine br_t (by rw [eh]; exact nI_le (a := 1) h1 (by omega)) ?_
        obtain ⟨e1, e2, e3, e4, e5, e6, e7, e8, τ, P⟩ := R
        exact xm_1 e1 e2 P K (by omega) h1 rfl rfl (fun _ _ _ _ _ τ' Q => hg (by omega) h1 _ ⟨rfl, rfl, e3, e4, e5, e6, e7, e8, τ', Q⟩)
      · exact br_f (by rw [eh]; exact nI_ge (b := 1) (by omega) (by decide)) (hl (by omega) (by omega))
theorem xt_two {post : Int32 → SX → Prop} {u : SX} (R : xr_R L O W F h s m u) (K : tl_sk h s m)
    (hf : m = 12 → post (-2) u) (hl : m < 12 → h < 2 → post (-3) u)
    (hg : m < 12 → 2 ≤ h → ∀ u', xr_R L O W F (h - 1) (tl_put s (h - 2) (.add (s (h - 2)) (s (h - 1)))) (m + 1) u' → post (nI (h - 1)) u') :
    wpX_two post u := by
  obtain ⟨f_made, f_height, f_known, f_level, f_left, f_came, f_letters, a_leafSet, a_oneSet, a_twoSet, a_finalSet, a_top, a_first, a_second, a_sizes, a_stack, a_todo, a_written, a_numbers, a_ways, a_counts, a_all, a_weight, a_wanted, a_phase, a_split, a_done, a_spelled⟩ := u
  have em : f_made = nI m := R.1
  have eh : f_height = nI h := R.2.1
  have hm := K.2
  have hh : h ≤ m := by have := @tl_sk_h h s; have := K.1; omega
  unfold wpX_two
  dsimp only
  by_cases h12 : m = 12
  · exact br_t (by rw [em, h12]; rfl) (hf h12)
  · refine br_f (fun z => h12 ?_) ?_
    · rw [em] at z; exact (nI_eq (b := 12) (by omega) (by decide)).mp z
    · by_cases h1 : 2 ≤ h
      · refine br_t (by rw [eh]; exact nI_le (a := 2) h1 (by omega)) ?_
        obtain ⟨e1, e2, e3, e4, e5, e6, e7, e8, τ, P⟩ := R
        exact xm_2 e1 e2 P K (by omega) h1 rfl rfl (fun _ _ _ _ _ τ' Q => hg (by omega) h1 _ ⟨rfl, rfl, e3, e4, e5, e6, e7, e8, τ', Q⟩)
      · exact br_f (by rw [eh]; exact nI_ge (b := 2) (by omega) (by decide)) (hl (by omega) (by omega))
theorem xt_discard {post : Int32 → SX → Prop} {u : SX} (R : xr_R L O W F h s m u)
    (hg : ∀ u', xr_R L O W F 0 s 0 u' → post (nI h) u') : wpX_discard post u := by
  obtain ⟨f_made, f_height, f_known, f_level, f_left, f_came, f_letters, a_leafSet, a_oneSet, a_twoSet, a_finalSet, a_top, a_first, a_second, a_sizes, a_stack, a_todo, a_written, a_numbers, a_ways, a_counts, a_all, a_weight, a_wanted, a_phase, a_split, a_done, a_spelled⟩ := u
  obtain ⟨e1, e2, e3, e4, e5, e6, e7, e8, τ, P⟩ := R
  unfold wpX_discard
  dsimp only
  rw [e2]
  exact hg _ ⟨rfl, rfl, e3, e4, e5, e6, e7, e8, τ, fun k hk => absurd hk (Nat.not_lt_zero k), fun k hk => absurd hk (Nat.not_lt_zero k)⟩
end
section
variable {L O W F : Nat → Nat} {h m : Nat} {s : Nat → tl_T}
variable {f_made f_height f_known f_level f_left f_came f_letters : Int32} {a_leafSet a_oneSet a_twoSet a_finalSet a_top a_first a_second a_sizes a_stack a_todo a_written a_numbers a_ways a_counts a_all a_weight a_wanted a_phase a_split a_done a_spelled : Nat → Int32}
/-- topmost: nothing, or the number of the node of the topmost tree -/
theorem xt_topmost {post : Int32 → Prop} (hm : m ≤ 12) (hh : h ≤ 12) {τ : Nat → tl_T} (eh : f_height = nI h) (P : xr_P τ h s m a_top a_first a_second a_sizes a_stack)
    (h0 : h = 0 → post (-1)) (h1 : ∀ p, 1 ≤ h → p < m → τ p = s (h - 1) → post (nI p)) : wpX_topmost post (f_made, f_height, f_known, f_level, f_left, f_came, f_letters, a_leafSet, a_oneSet, a_twoSet, a_finalSet, a_top, a_first, a_second, a_sizes, a_stack, a_todo, a_written, a_numbers, a_ways, a_counts, a_all, a_weight, a_wanted, a_phase, a_split, a_done, a_spelled) := by
  unfold wpX_topmost
  dsimp only
  rw [eh]
  by_cases hz : h = 0
  · subst hz; exact br_t (by decide) (h0 rfl)
  · obtain ⟨p, hp, es, et⟩ := P.2 (h - 1) (by omega)
    rw [tn_1 h (by omega), nI_clamp (n := h - 1) (by omega), es]
    exact br_f (nI_nle (by omega) (by omega)) ⟨vp_in_nI (by omega) (by omega), h1 p (by omega) hp et⟩
end
section
variable {L O W F : Nat → Nat} {h m : Nat} {s : Nat → tl_T}
theorem xt_size {post : Int32 → Prop} {u : SX} (R : xr_R L O W F h s m u) (K : tl_sk h s m)
    (h0 : h = 0 → post (-4)) (h1 : 1 ≤ h → post (nI (tl_sz (s (h - 1))))) : wpX_size post u := by
  obtain ⟨f_made, f_height, f_known, f_level, f_left, f_came, f_letters, a_leafSet, a_oneSet, a_twoSet, a_finalSet, a_top, a_first, a_second, a_sizes, a_stack, a_todo, a_written, a_numbers, a_ways, a_counts, a_all, a_weight, a_wanted, a_phase, a_split, a_done, a_spelled⟩ := u
  obtain ⟨e1, e2, e3, e4, e5, e6, e7, e8, τ, P⟩ := R
  have hm := K.2
  have hh : h ≤ m := by have := @tl_sk_h h s; have := K.1; omega
  unfold wpX_size
  dsimp only
  refine xt_topmost hm (by omega) e2 P (fun z => br_f (by decide) (h0 z)) (fun p hp hpm et => ?_)
  obtain ⟨_, _, _, _, _, _, ez, _, _⟩ := P.1 p hpm
  rw [nI_clamp (n := p) (by omega), ez, et]
  exact br_t (nI_pos' (by omega)) ⟨vp_in_nI (by omega) (by omega), h1 hp⟩
theorem xt_letter {post : Int32 → SX → Prop} {u : SX} {v1 : Int32} (R : xr_R L O W F h s m u) (K : tl_sk h s m)
    (h0 : h = 0 → post (-4) u)
    (h1 : ∀ j, 1 ≤ h → j < tl_sz (s (h - 1)) → v1 = nI j → ∀ u', xr_R L O W F h s m u' → post (nI ((tl_wd (s (h - 1))).getD j 0)) u')
    (h2 : 1 ≤ h → (∀ j, j < tl_sz (s (h - 1)) → v1 ≠ nI j) → ∀ u', xr_R L O W F h s m u' → post (-4) u') : wpX_letter post u v1 := by
  obtain ⟨f_made, f_height, f_known, f_level, f_left, f_came, f_letters, a_leafSet, a_oneSet, a_twoSet, a_finalSet, a_top, a_first, a_second, a_sizes, a_stack, a_todo, a_written, a_numbers, a_ways, a_counts, a_all, a_weight, a_wanted, a_phase, a_split, a_done, a_spelled⟩ := u
  obtain ⟨e1, e2, e3, e4, e5, e6, e7, e8, τ, P⟩ := R
  have hm := K.2
  have hh : h ≤ m := by have := @tl_sk_h h s; have := K.1; omega
  unfold wpX_letter
  dsimp only
  refine xt_topmost hm (by omega) e2 P (fun z => br_f (by decide) (h0 z)) (fun p hp hpm et => ?_)
  refine br_t (nI_pos' (by omega)) (xw_write hm P.1 hpm rfl (fun td wr hwr => ?_))
  rw [et, tl_wdl] at hwr
  rw [et, tl_wdl]
  have hz := tl_sk_top K (i := h - 1) (by omega)
  have R' : xr_R L O W F h s m (f_made, f_height, f_known, f_level, f_left, f_came, f_letters, a_leafSet, a_oneSet, a_twoSet, a_finalSet, a_top, a_first, a_second, a_sizes, a_stack, td, wr, a_numbers, a_ways, a_counts, a_all, a_weight, a_wanted, a_phase, a_split, a_done, a_spelled) := ⟨e1, e2, e3, e4, e5, e6, e7, e8, τ, P⟩
  dsimp only
  by_cases hn : v1 < 0
  · exact br_t hn (h2 hp (fun j hj e => by rw [e] at hn; exact nI_pos (by omega) hn) _ R')
  · obtain ⟨j, hj, rfl⟩ := nI_of hn
    by_cases hl : j < tl_sz (s (h - 1))
    · refine br_f hn (br_t (nI_lt hl (by omega)) ⟨vp_in_nI (by omega) (by omega), ?_⟩)
      rw [nI_clamp hj, hwr j hl]
      exact h1 j hp hl rfl _ R'
    · refine br_f hn (br_f (nI_nlt (by omega) hj) (h2 hp (fun i hi e => ?_) _ R'))
      have := (nI_eq hj (by omega)).mp e
      omega
theorem xt_rank {post : Int32 → SX → Prop} {u : SX} (R : xr_R L O W F h s m u) (K : tl_sk h s m)
    (h0 : h = 0 → post (-4) u) (h1 : 1 ≤ h → ∀ u', xr_R L O W F h s m u' → post (nI (tl_rk (s (h - 1)))) u') : wpX_rank post u := by
  obtain ⟨f_made, f_height, f_known, f_level, f_left, f_came, f_letters, a_leafSet, a_oneSet, a_twoSet, a_finalSet, a_top, a_first, a_second, a_sizes, a_stack, a_todo, a_written, a_numbers, a_ways, a_counts, a_all, a_weight, a_wanted, a_phase, a_split, a_done, a_spelled⟩ := u
  obtain ⟨e1, e2, e3, e4, e5, e6, e7, e8, τ, P⟩ := R
  have hm := K.2
  have hh : h ≤ m := by have := @tl_sk_h h s; have := K.1; omega
  unfold wpX_rank
  dsimp only
  refine xt_topmost hm (by omega) e2 P (fun z => br_f (by decide) (h0 z)) (fun p hp hpm et => ?_)
  refine br_t (nI_pos' (by omega)) (Exists.intro (p + 2) (xk_14 hm hpm P.1 e8 (fun num _ => ?_) (p + 1) 0 (p + 2) a_numbers (by omega) (fun j hj => absurd hj (Nat.not_lt_zero j)) (by omega)))
  rw [et]
  exact h1 hp _ ⟨e1, e2, e3, e4, e5, e6, e7, e8, τ, P⟩
theorem xt_states {post : Int32 → SX → Prop} {u : SX} {v1 : Int32} (hR : tl_rl L O W F) (R : xr_R L O W F h s m u) (K : tl_sk h s m)
    (hb : v1 < 0 ∨ 1 < v1 → post (-1) u) (h0 : ∀ a, a < 2 → v1 = nI a → h = 0 → post (-4) u)
    (h1 : ∀ a, a < 2 → v1 = nI a → 1 ≤ h → ∀ u', xr_R L O W F h s m u' → post (nI (tl_s L O W a (s (h - 1)))) u') : wpX_states post u v1 := by
  obtain ⟨f_made, f_height, f_known, f_level, f_left, f_came, f_letters, a_leafSet, a_oneSet, a_twoSet, a_finalSet, a_top, a_first, a_second, a_sizes, a_stack, a_todo, a_written, a_numbers, a_ways, a_counts, a_all, a_weight, a_wanted, a_phase, a_split, a_done, a_spelled⟩ := u
  obtain ⟨e1, e2, e3, e4, e5, e6, e7, e8, τ, P⟩ := R
  have hm := K.2
  have hh : h ≤ m := by have := @tl_sk_h h s; have := K.1; omega
  unfold wpX_states
  dsimp only
  refine xb_aut (fun b => br_f (by decide) (hb b)) (fun a ha ea => br_t rfl ?_)
  refine xt_topmost hm (by omega) e2 P (fun z => br_f (by decide) (h0 a ha ea z)) (fun p hp hpm et => ?_)
  refine br_t (nI_pos' (by omega)) ?_
  unfold wpX_pairOf
  dsimp only
  refine Exists.intro (p + 2) (xp_2 hm hpm hR e4 e5 e6 P.1 (fun num _ => ?_) (p + 1) 0 (p + 2) a_numbers (by omega) (fun j hj => absurd hj (Nat.not_lt_zero j)) (by omega))
  rw [et]
  have hlt := tl_p_lt hR (s (h - 1))
  dsimp only
  have R' : xr_R L O W F h s m (f_made, f_height, f_known, f_level, f_left, f_came, f_letters, a_leafSet, a_oneSet, a_twoSet, a_finalSet, a_top, a_first, a_second, a_sizes, a_stack, a_todo, a_written, num, a_ways, a_counts, a_all, a_weight, a_wanted, a_phase, a_split, a_done, a_spelled) := ⟨e1, e2, e3, e4, e5, e6, e7, e8, τ, P⟩
  rw [tn_and15 (by omega), tn_shr4 (by omega), tl_p_0 hR, tl_p_1 hR, ea]
  obtain rfl | rfl : a = 0 ∨ a = 1 := by omega
  · exact br_t rfl (h1 0 ha ea hp _ R')
  · exact br_f (by decide) (h1 1 ha ea hp _ R')
theorem xt_runs {post : Int32 → SX → Prop} {u : SX} {v1 : Int32} (hR : tl_rl L O W F) (R : xr_R L O W F h s m u) (K : tl_sk h s m)
    (hb : v1 < 0 ∨ 1 < v1 → post (-1) u) (h0 : ∀ a, a < 2 → v1 = nI a → h = 0 → post (-4) u)
    (h1 : ∀ a, a < 2 → v1 = nI a → 1 ≤ h → ∀ u', xr_R L O W F h s m u' → post (nI (tl_rn L O W F a (s (h - 1)))) u') : wpX_runs post u v1 := by
  obtain ⟨f_made, f_height, f_known, f_level, f_left, f_came, f_letters, a_leafSet, a_oneSet, a_twoSet, a_finalSet, a_top, a_first, a_second, a_sizes, a_stack, a_todo, a_written, a_numbers, a_ways, a_counts, a_all, a_weight, a_wanted, a_phase, a_split, a_done, a_spelled⟩ := u
  obtain ⟨e1, e2, e3, e4, e5, e6, e7, e8, τ, P⟩ := R
  have hm := K.2
  have hh : h ≤ m := by have := @tl_sk_h h s; have := K.1; omega
  unfold wpX_runs
  dsimp only
  refine xb_aut (fun b => br_f (by decide) (hb b)) (fun a ha ea => br_t rfl ?_)
  refine xt_topmost hm (by omega) e2 P (fun z => br_f (by decide) (h0 a ha ea z)) (fun p hp hpm et => ?_)
  rw [ea]
  refine br_t (nI_pos' (by omega)) (Exists.intro (4 * (p + 1) + 1) (xv_24 (τ := τ) ha hm hpm hR e4 e5 e6 e7 P.1 (fun ws => ?_) (4 * (p + 1)) 0 (4 * (p + 1) + 1) a_ways (by omega) (fun j hj => absurd hj (Nat.not_lt_zero j)) (by omega)))
  rw [et]
  exact h1 a ha ea hp _ ⟨e1, e2, e3, e4, e5, e6, e7, e8, τ, P⟩
end
end
section
/-! the component: counting -/
theorem tn_addS {a x : Nat} (h : a + x < 32768) : vp_nar .short ((nI a + (nI x).toInt16.toInt32).toInt16.toInt32) = nI (a + x) := by
  rw [tn_s (n := x) (by omega), nI_add, tn_ns2 h]
theorem xc_row {c : Nat → Int32} {n : Nat} {R R' : Nat → Nat} {q0 x : Nat} (h : ∀ q, q < 256 → c (256 * n + q) = nI (R q)) (hR : ∀ q, q < 256 → R' q = R q + (if q0 = q then x else 0)) :
    ∀ q, q < 256 → upd c (256 * n + q0) (nI (R q0 + x)) (256 * n + q) = nI (R' q) := by
  intro q hq
  rw [hR q hq]
  by_cases e : q0 = q
  · subst e; rw [pk_us, if_pos rfl]
  · rw [pk_un (by omega), if_neg e, h q hq, Nat.add_zero]
section
variable {L O W F : Nat → Nat} {h m : Nat} {s : Nat → tl_T}
variable {f_made f_height f_known f_level f_left f_came f_letters : Int32} {a_leafSet a_oneSet a_twoSet a_finalSet a_top a_first a_second a_sizes a_stack a_todo a_written a_numbers a_ways a_counts a_all a_weight a_wanted a_phase a_split a_done a_spelled : Nat → Int32}
theorem xc_17 {post : SX → Prop} {n i one M : Nat} {V0 cn : Nat → Nat} (hn : 2 ≤ n) (hn7 : n ≤ 7) (hi : 1 ≤ i) (hi2 : i + 2 ≤ n) (hone : one < 256) (hM : M ≤ 382) (hcn : ∀ p, cn p ≤ 382) (hW : xr_ar a_twoSet W) (hw : ∀ j, W j < 16)
    (h0 : ∀ p, p < 256 → a_counts (256 * (n - 1 - i) + p) = nI (cn p))
    (hbd : ∀ q, q < 256 → V0 q + M * tl_sm (fun p => cn p * (if tl_tp W one p = q then 1 else 0)) 256 ≤ 32767)
    (hp : ∀ c, (∀ j, (j < 256 * n ∨ 256 * n + 256 ≤ j) → c j = a_counts j) → (∀ q, q < 256 → c (256 * n + q) = nI (V0 q + M * tl_sm (fun p => cn p * (if tl_tp W one p = q then 1 else 0)) 256)) → post (f_made, f_height, f_known, f_level, f_left, f_came, f_letters, a_leafSet, a_oneSet, a_twoSet, a_finalSet, a_top, a_first, a_second, a_sizes, a_stack, a_todo, a_written, a_numbers, a_ways, c, a_all, a_weight, a_wanted, a_phase, a_split, a_done, a_spelled)) :
    ∀ d P N c, P + d = 256 → (∀ j, (j < 256 * n ∨ 256 * n + 256 ≤ j) → c j = a_counts j) → (∀ q, q < 256 → c (256 * n + q) = nI (V0 q + M * tl_sm (fun p => cn p * (if tl_tp W one p = q then 1 else 0)) P)) → d < N →
    wX_countWithTwo_17 post (nI n) (nI i) (nI one) (nI M) f_made f_height f_known f_level f_left f_came f_letters N (nI P) a_leafSet a_oneSet a_twoSet a_finalSet a_top a_first a_second a_sizes a_stack a_todo a_written a_numbers a_ways c a_all a_weight a_wanted a_phase a_split a_done a_spelled := by
  intro d
  induction d with
  | zero =>
    intro P N c hP ho hv hN
    obtain ⟨N, rfl⟩ : ∃ k, N = k + 1 := ⟨N - 1, by omega⟩
    obtain rfl : P = 256 := by omega
    exact br_t (by decide) (hp c ho hv)
  | succ d ih =>
    intro P N c hP ho hv hN
    obtain ⟨N, rfl⟩ : ∃ k, N = k + 1 := ⟨N - 1, by omega⟩
    have e1 : (nI n - 1) - nI i = nI (n - 1 - i) := by rw [tn_1 n (by omega), pk_sub (by omega)]
    have hMc : M * cn P ≤ 382 * 382 := Nat.mul_le_mul hM (hcn P)
    have eS : ∀ q, V0 q + M * tl_sm (fun p => cn p * (if tl_tp W one p = q then 1 else 0)) (P + 1) = V0 q + M * tl_sm (fun p => cn p * (if tl_tp W one p = q then 1 else 0)) P + (if tl_tp W one P = q then M * cn P else 0) := by
      intro q
      simp only [tl_sm, Nat.mul_add]
      by_cases e : tl_tp W one P = q
      · rw [if_pos e, if_pos e, Nat.mul_one]; omega
      · rw [if_neg e, if_neg e, Nat.mul_zero, Nat.mul_zero]; omega
    refine br_f (nI_ge (b := 256) (by omega) (by decide)) ?_
    rw [e1, tn_ixc 256 (n - 1 - i) P (by omega), ho _ (by omega), h0 P (by omega), pk_mul]
    refine And.intro (tn_ixi 256 2048 (n - 1 - i) P (by omega)) (nm_e ?_)
    by_cases hz : M * cn P = 0
    · rw [hz]
      refine br_t (by decide) (nm_r (nI_1 P) (ih (P + 1) N c (by omega) ho ?_ (by omega)))
      intro q hq
      rw [eS q, hz, hv q hq]
      congr 1
      split <;> rfl
    · refine br_f (nI_nle (by omega) (by omega)) (xa_twoPair rfl rfl hW hw (by omega) (by omega) ?_)
      have hq0 := tl_tp_lt hw one P
      generalize hq : tl_tp W one P = q0 at hq0
      have hb1 : V0 q0 + M * tl_sm (fun p => cn p * (if tl_tp W one p = q0 then 1 else 0)) P + M * cn P ≤ 32767 := by
        have h1 := eS q0
        rw [hq, if_pos rfl] at h1
        have h2 : tl_sm (fun p => cn p * (if tl_tp W one p = q0 then 1 else 0)) (P + 1) ≤ tl_sm (fun p => cn p * (if tl_tp W one p = q0 then 1 else 0)) 256 := tl_sm_mono _ (by omega)
        have h3 := Nat.mul_le_mul_left M h2
        have h4 := hbd q0 hq0
        omega
      rw [tn_ixc 256 n q0 (by omega), hv q0 hq0, tn_addS (by omega)]
      refine And.intro (tn_ixi 256 2048 n q0 (by omega)) (And.intro (tn_ixi 256 2048 n q0 (by omega)) (nm_e (nm_r (nI_1 P) (ih (P + 1) N _ (by omega) ?_ ?_ (by omega)))))
      · intro j hj
        rw [pk_un (by omega)]
        exact ho j hj
      · refine xc_row (R := fun q => V0 q + M * tl_sm (fun p => cn p * (if tl_tp W one p = q then 1 else 0)) P) hv (fun q _ => ?_)
        rw [← hq]
        exact eS q
theorem xc_countWithTwo {post : SX → Prop} {n i one M : Nat} {V0 cn : Nat → Nat} {x1 x2 x3 : Int32} (ex1 : x1 = nI n) (ex2 : x2 = nI i) (ex3 : x3 = nI one) (hn : 2 ≤ n) (hn7 : n ≤ 7) (hi : 1 ≤ i) (hi2 : i + 2 ≤ n) (hone : one < 256) (hM : M ≤ 382) (hcn : ∀ p, cn p ≤ 382) (hW : xr_ar a_twoSet W) (hw : ∀ j, W j < 16)
    (hMe : a_counts (256 * i + one) = nI M)
    (h0 : ∀ p, p < 256 → a_counts (256 * (n - 1 - i) + p) = nI (cn p))
    (hV : ∀ q, q < 256 → a_counts (256 * n + q) = nI (V0 q))
    (hbd : ∀ q, q < 256 → V0 q + M * tl_sm (fun p => cn p * (if tl_tp W one p = q then 1 else 0)) 256 ≤ 32767)
    (hp : ∀ c, (∀ j, (j < 256 * n ∨ 256 * n + 256 ≤ j) → c j = a_counts j) → (∀ q, q < 256 → c (256 * n + q) = nI (V0 q + M * tl_sm (fun p => cn p * (if tl_tp W one p = q then 1 else 0)) 256)) → post (f_made, f_height, f_known, f_level, f_left, f_came, f_letters, a_leafSet, a_oneSet, a_twoSet, a_finalSet, a_top, a_first, a_second, a_sizes, a_stack, a_todo, a_written, a_numbers, a_ways, c, a_all, a_weight, a_wanted, a_phase, a_split, a_done, a_spelled)) :
    wpX_countWithTwo post (f_made, f_height, f_known, f_level, f_left, f_came, f_letters, a_leafSet, a_oneSet, a_twoSet, a_finalSet, a_top, a_first, a_second, a_sizes, a_stack, a_todo, a_written, a_numbers, a_ways, a_counts, a_all, a_weight, a_wanted, a_phase, a_split, a_done, a_spelled) x1 x2 x3 := by
  subst ex1 ex2 ex3
  unfold wpX_countWithTwo
  dsimp only
  rw [tn_ixc 256 i one (by omega), hMe]
  refine And.intro (tn_ixi 256 2048 i one (by omega)) (nm_e (Exists.intro 257 (xc_17 hn hn7 hi hi2 hone hM hcn hW hw h0 hbd hp 256 0 257 a_counts rfl (fun j _ => rfl) (fun q hq => ?_) (by decide))))
  rw [hV q hq]
  simp only [tl_sm, Nat.mul_zero, Nat.add_zero]
/-- rows below n are right, the others empty -/
def xc_G (L O W : Nat → Nat) (n : Nat) (c : Nat → Int32) : Prop := (∀ k p, k < n → p < 256 → c (256 * k + p) = nI (tl_cn L O W k p)) ∧ (∀ j, 256 * n ≤ j → j < 2048 → c j = 0)
theorem xc_64 {post : SX → Prop} {n : Nat} (hn : 2 ≤ n) (hn7 : n ≤ 7) (hR : tl_rl L O W F) (hW : xr_ar a_twoSet W)
    (hp : ∀ c, xc_G L O W (n + 1) c → post (f_made, f_height, f_known, f_level, f_left, f_came, f_letters, a_leafSet, a_oneSet, a_twoSet, a_finalSet, a_top, a_first, a_second, a_sizes, a_stack, a_todo, a_written, a_numbers, a_ways, c, a_all, a_weight, a_wanted, a_phase, a_split, a_done, a_spelled)) :
    ∀ d k N c, k + d = 256 * (n - 1) → 256 ≤ k → (∀ i p, i < n → p < 256 → c (256 * i + p) = nI (tl_cn L O W i p)) → (∀ j, 256 * n + 256 ≤ j → j < 2048 → c j = 0) → (∀ q, q < 256 → c (256 * n + q) = nI (tl_V L O W n q k)) → d < N →
    wX_countSize_64 post (nI n) N (nI k) f_made f_height f_known f_level f_left f_came f_letters a_leafSet a_oneSet a_twoSet a_finalSet a_top a_first a_second a_sizes a_stack a_todo a_written a_numbers a_ways c a_all a_weight a_wanted a_phase a_split a_done a_spelled := by
  have e1 : (256 : Int32) * (nI n - 1) = nI (256 * (n - 1)) := by rw [tn_1 n (by omega)]; exact pk_mul 256 (n - 1)
  intro d
  induction d with
  | zero =>
    intro k N c hk h256 hlo hhi hv hN
    obtain ⟨N, rfl⟩ : ∃ k, N = k + 1 := ⟨N - 1, by omega⟩
    have : k = 256 * (n - 1) := by omega
    subst this
    refine br_t (by rw [e1]; exact nI_le (Nat.le_refl _) (by omega)) (hp c ⟨?_, fun j hj hj2 => hhi j (by omega) hj2⟩)
    intro i p hi hp'
    by_cases e : i = n
    · subst e; rw [hv p hp', tl_V_end hR hn hn7]
    · exact hlo i p (by omega) hp'
  | succ d ih =>
    intro k N c hk h256 hlo hhi hv hN
    obtain ⟨N, rfl⟩ : ∃ k, N = k + 1 := ⟨N - 1, by omega⟩
    have hk2 : k < 256 * (n - 1) := by omega
    have hdm : 256 * (k / 256) + k % 256 = k := by omega
    have hck : c k = nI (tl_cn L O W (k / 256) (k % 256)) := by
      have := hlo (k / 256) (k % 256) (by omega) (by omega)
      rw [hdm] at this; exact this
    have hle := tl_cn_le (L := L) (O := O) (W := W) (k / 256) (k % 256) (by omega)
    refine br_f (by rw [e1]; exact nI_ge (by omega) (by omega)) (And.intro (vp_in_nI (by omega) (by omega)) ?_)
    rw [nI_clamp (n := k) (by omega), hck]
    by_cases hz : tl_cn L O W (k / 256) (k % 256) = 0
    · rw [hz]
      refine br_t (by decide) (nm_r (nI_1 k) (ih (k + 1) N c (by omega) (by omega) hlo hhi ?_ (by omega)))
      intro q hq
      rw [hv q hq, tl_V_s, hz, Nat.zero_mul, Nat.add_zero]
    · refine br_f (nI_nle (by omega) (by omega)) (And.intro (by decide) (And.intro (by decide) ?_))
      have hV1 : ∀ q, tl_V L O W n q k + tl_cn L O W (k / 256) (k % 256) * tl_sm (fun p => tl_cn L O W (n - 1 - k / 256) p * (if tl_tp W (k % 256) p = q then 1 else 0)) 256 = tl_V L O W n q (k + 1) :=
        fun q => (tl_V_s n q k).symm
      refine xc_countWithTwo (n := n) (i := k / 256) (one := k % 256) (M := tl_cn L O W (k / 256) (k % 256)) (V0 := fun q => tl_V L O W n q k) (cn := fun p => tl_cn L O W (n - 1 - k / 256) p)
        rfl (pk_div (d := 256) (by omega) (by omega) (by omega)) (pk_rem (d := 256) (by omega) (by omega) (by omega)) hn hn7 (by omega) (by omega) (by omega) hle (fun p => tl_cn_le _ p (by omega)) hW hR.2.2.1 ?_ ?_ ?_ ?_ ?_
      · rw [hdm]; exact hck
      · exact fun p hp' => hlo _ p (by omega) hp'
      · exact hv
      · intro q hq
        rw [hV1 q]
        have := tl_V_le hR hn hn7 q (k := k + 1) (by omega)
        omega
      · intro c' ho' hv'
        refine nm_r (nI_1 k) (ih (k + 1) N c' (by omega) (by omega) ?_ ?_ ?_ (by omega))
        · intro i p hi hp'
          rw [ho' _ (by omega)]; exact hlo i p hi hp'
        · intro j hj hj2
          rw [ho' j (by omega)]; exact hhi j hj hj2
        · intro q hq
          rw [hv' q hq, hV1 q]
theorem xc_2 {post : SX → Prop} {n : Nat} (hn : 2 ≤ n) (hn7 : n ≤ 7) (hR : tl_rl L O W F) (hO : xr_ar a_oneSet O) (hW : xr_ar a_twoSet W)
    (hp : ∀ c, xc_G L O W (n + 1) c → post (f_made, f_height, f_known, f_level, f_left, f_came, f_letters, a_leafSet, a_oneSet, a_twoSet, a_finalSet, a_top, a_first, a_second, a_sizes, a_stack, a_todo, a_written, a_numbers, a_ways, c, a_all, a_weight, a_wanted, a_phase, a_split, a_done, a_spelled)) :
    ∀ d P N c, P + d = 256 → (∀ i p, i < n → p < 256 → c (256 * i + p) = nI (tl_cn L O W i p)) → (∀ j, 256 * n + 256 ≤ j → j < 2048 → c j = 0) → (∀ q, q < 256 → c (256 * n + q) = nI (tl_A L O W n q P)) → d < N →
    wX_countSize_2 post (nI n) f_made f_height f_known f_level f_left f_came f_letters N (nI P) a_leafSet a_oneSet a_twoSet a_finalSet a_top a_first a_second a_sizes a_stack a_todo a_written a_numbers a_ways c a_all a_weight a_wanted a_phase a_split a_done a_spelled := by
  intro d
  induction d with
  | zero =>
    intro P N c hP hlo hhi hv hN
    obtain ⟨N, rfl⟩ : ∃ k, N = k + 1 := ⟨N - 1, by omega⟩
    obtain rfl : P = 256 := by omega
    refine br_t (by decide) (Exists.intro 2048 (xc_64 hn hn7 hR hW hp (256 * (n - 1) - 256) 256 2048 c (by omega) (by omega) hlo hhi ?_ (by omega)))
    intro q hq
    rw [hv q hq, tl_V_0]
  | succ d ih =>
    intro P N c hP hlo hhi hv hN
    obtain ⟨N, rfl⟩ : ∃ k, N = k + 1 := ⟨N - 1, by omega⟩
    have hle := tl_cn_le (L := L) (O := O) (W := W) (n - 1) P (by omega)
    have eS : ∀ q, tl_A L O W n q (P + 1) = tl_A L O W n q P + (if tl_op O P = q then tl_cn L O W (n - 1) P else 0) := by
      intro q
      simp only [tl_A, tl_sm]
      split
      · rw [Nat.mul_one]
      · rw [Nat.mul_zero]
    refine br_f (nI_ge (b := 256) (by omega) (by decide)) ?_
    rw [tn_1 n (by omega), tn_ixc 256 (n - 1) P (by omega), hlo (n - 1) P (by omega) (by omega)]
    refine And.intro (tn_ixi 256 2048 (n - 1) P (by omega)) (nm_e ?_)
    by_cases hz : tl_cn L O W (n - 1) P = 0
    · rw [hz]
      refine br_t (by decide) (nm_r (nI_1 P) (ih (P + 1) N c (by omega) hlo hhi ?_ (by omega)))
      intro q hq
      rw [eS q, hz, hv q hq]
      congr 1
      split <;> rfl
    · refine br_f (nI_nle (by omega) (by omega)) (xa_onePair rfl hO hR.2.1 (by omega) ?_)
      have hq0 := tl_op_lt hR.2.1 P
      generalize hq : tl_op O P = q0 at hq0
      have hb1 : tl_A L O W n q0 P + tl_cn L O W (n - 1) P ≤ 382 := by
        have h1 := eS q0
        rw [hq, if_pos rfl] at h1
        have := tl_A_le hR hn hn7 q0 (P := P + 1) (by omega)
        omega
      rw [tn_ixc 256 n q0 (by omega), hv q0 hq0, tn_addS (by omega)]
      refine And.intro (tn_ixi 256 2048 n q0 (by omega)) (And.intro (tn_ixi 256 2048 n q0 (by omega)) (nm_e (nm_r (nI_1 P) (ih (P + 1) N _ (by omega) ?_ ?_ ?_ (by omega)))))
      · intro i p hi hp'
        rw [pk_un (by omega)]; exact hlo i p hi hp'
      · intro j hj hj2
        rw [pk_un (by omega)]; exact hhi j hj hj2
      · refine xc_row (R := fun q => tl_A L O W n q P) hv (fun q _ => ?_)
        rw [← hq]
        exact eS q
theorem xc_countSize {post : SX → Prop} {n : Nat} {x : Int32} (ex : x = nI n) (hn : 2 ≤ n) (hn7 : n ≤ 7) (hR : tl_rl L O W F) (hO : xr_ar a_oneSet O) (hW : xr_ar a_twoSet W) (hG : xc_G L O W n a_counts)
    (hp : ∀ c, xc_G L O W (n + 1) c → post (f_made, f_height, f_known, f_level, f_left, f_came, f_letters, a_leafSet, a_oneSet, a_twoSet, a_finalSet, a_top, a_first, a_second, a_sizes, a_stack, a_todo, a_written, a_numbers, a_ways, c, a_all, a_weight, a_wanted, a_phase, a_split, a_done, a_spelled)) : wpX_countSize post (f_made, f_height, f_known, f_level, f_left, f_came, f_letters, a_leafSet, a_oneSet, a_twoSet, a_finalSet, a_top, a_first, a_second, a_sizes, a_stack, a_todo, a_written, a_numbers, a_ways, a_counts, a_all, a_weight, a_wanted, a_phase, a_split, a_done, a_spelled) x := by
  subst ex
  exact Exists.intro 257 (xc_2 hn hn7 hR hO hW hp 256 0 257 a_counts rfl hG.1 (fun j hj hj2 => hG.2 j (by omega) hj2) (fun q hq => hG.2 _ (by omega) (by omega)) (by decide))
theorem xc_71 {post : SX → Prop} (hR : tl_rl L O W F) (hO : xr_ar a_oneSet O) (hW : xr_ar a_twoSet W)
    (hp : ∀ c, xr_GC L O W c → post (f_made, f_height, f_known, f_level, f_left, f_came, f_letters, a_leafSet, a_oneSet, a_twoSet, a_finalSet, a_top, a_first, a_second, a_sizes, a_stack, a_todo, a_written, a_numbers, a_ways, c, a_all, a_weight, a_wanted, a_phase, a_split, a_done, a_spelled)) :
    ∀ d n N c, n + d = 8 → 2 ≤ n → xc_G L O W n c → d < N → wX_find_71 post N (nI n) f_made f_height f_known f_level f_left f_came f_letters a_leafSet a_oneSet a_twoSet a_finalSet a_top a_first a_second a_sizes a_stack a_todo a_written a_numbers a_ways c a_all a_weight a_wanted a_phase a_split a_done a_spelled := by
  intro d
  induction d with
  | zero =>
    intro n N c hn h2 hG hN
    obtain ⟨N, rfl⟩ : ∃ k, N = k + 1 := ⟨N - 1, by omega⟩
    obtain rfl : n = 8 := by omega
    exact br_t (by decide) (hp c hG.1)
  | succ d ih =>
    intro n N c hn h2 hG hN
    obtain ⟨N, rfl⟩ : ∃ k, N = k + 1 := ⟨N - 1, by omega⟩
    refine br_f (nI_nlt (a := 7) (by omega) (by decide)) (xc_countSize rfl h2 (by omega) hR hO hW hG (fun c' hG' => ?_))
    exact nm_r (nI_1 n) (ih (n + 1) N c' (by omega) (by omega) hG' (by omega))
theorem xc_37 {post : SX → Prop} (hR : tl_rl L O W F) (hL : xr_ar a_leafSet L) (hO : xr_ar a_oneSet O) (hW : xr_ar a_twoSet W)
    (hp : ∀ c, xr_GC L O W c → post (f_made, f_height, f_known, f_level, f_left, f_came, f_letters, a_leafSet, a_oneSet, a_twoSet, a_finalSet, a_top, a_first, a_second, a_sizes, a_stack, a_todo, a_written, a_numbers, a_ways, c, a_all, a_weight, a_wanted, a_phase, a_split, a_done, a_spelled)) :
    ∀ d i N c, i + d = 2 → (∀ j, (j < 256 ∨ 512 ≤ j) → j < 2048 → c j = 0) → (∀ q, q < 256 → c (256 * 1 + q) = nI (tl_sm (fun b => if tl_lp L b = q then 1 else 0) i)) → d < N → wX_find_37 post f_made f_height f_known f_level f_left f_came f_letters N (nI i) a_leafSet a_oneSet a_twoSet a_finalSet a_top a_first a_second a_sizes a_stack a_todo a_written a_numbers a_ways c a_all a_weight a_wanted a_phase a_split a_done a_spelled := by
  intro d
  induction d with
  | zero =>
    intro i N c hi ho hv hN
    obtain ⟨N, rfl⟩ : ∃ k, N = k + 1 := ⟨N - 1, by omega⟩
    obtain rfl : i = 2 := by omega
    refine br_t (by decide) (Exists.intro 7 (xc_71 hR hO hW hp 6 2 7 c rfl (by omega) ⟨?_, fun j hj hj2 => ho j (by omega) hj2⟩ (by decide)))
    intro k p hk hp'
    obtain rfl | rfl : k = 0 ∨ k = 1 := by omega
    · rw [tl_cn_0, ho _ (by omega) (by omega)]; rfl
    · rw [hv p hp', tl_cn_1]
      simp only [tl_sm, Nat.zero_add]
  | succ d ih =>
    intro i N c hi ho hv hN
    obtain ⟨N, rfl⟩ : ∃ k, N = k + 1 := ⟨N - 1, by omega⟩
    refine br_f (nI_ge (b := 2) (by omega) (by decide)) (xa_leafPair rfl hL hR.1 (by omega) ?_)
    have hq0 := tl_lp_lt hR.1 i
    have hle : ∀ q, tl_sm (fun b => if tl_lp L b = q then 1 else 0) i ≤ 2 := by
      intro q
      refine Nat.le_trans (tl_sm_mono _ (show i ≤ 2 by omega)) ?_
      simp only [tl_sm]
      split <;> split <;> omega
    have e256 : ∀ x : Nat, (256 : Int32) + nI x = nI (256 * 1 + x) := fun x => nI_add 256 x
    rw [e256, nI_clamp (n := 256 * 1 + tl_lp L i) (by omega), hv _ hq0, nI_1, tn_ns2 (by have := hle (tl_lp L i); omega)]
    refine And.intro (vp_in_nI (by omega) (by omega)) (And.intro (vp_in_nI (by omega) (by omega)) (nm_e (nm_r (nI_1 i) (ih (i + 1) N _ (by omega) ?_ ?_ (by omega)))))
    · intro j hj hj2
      rw [pk_un (by omega)]; exact ho j hj hj2
    · exact xc_row (R := fun q => tl_sm (fun b => if tl_lp L b = q then 1 else 0) i) hv (fun q _ => rfl)
theorem xc_15 {post : SX → Prop} (hR : tl_rl L O W F) (hL : xr_ar a_leafSet L) (hO : xr_ar a_oneSet O) (hW : xr_ar a_twoSet W)
    (hp : ∀ c, xr_GC L O W c → post (f_made, f_height, f_known, f_level, f_left, f_came, f_letters, a_leafSet, a_oneSet, a_twoSet, a_finalSet, a_top, a_first, a_second, a_sizes, a_stack, a_todo, a_written, a_numbers, a_ways, c, a_all, a_weight, a_wanted, a_phase, a_split, a_done, a_spelled)) :
    ∀ d i N c, i + d = 2048 → (∀ j, j < i → c j = 0) → d < N → wX_find_15 post f_made f_height f_known f_level f_left f_came f_letters N (nI i) a_leafSet a_oneSet a_twoSet a_finalSet a_top a_first a_second a_sizes a_stack a_todo a_written a_numbers a_ways c a_all a_weight a_wanted a_phase a_split a_done a_spelled := by
  intro d
  induction d with
  | zero =>
    intro i N c hi ho hN
    obtain ⟨N, rfl⟩ : ∃ k, N = k + 1 := ⟨N - 1, by omega⟩
    obtain rfl : i = 2048 := by omega
    exact br_t (by decide) (Exists.intro 3 (xc_37 hR hL hO hW hp 2 0 3 c rfl (fun j _ hj => ho j hj) (fun q hq => ho _ (by omega)) (by decide)))
  | succ d ih =>
    intro i N c hi ho hN
    obtain ⟨N, rfl⟩ : ∃ k, N = k + 1 := ⟨N - 1, by omega⟩
    refine br_f (nI_ge (b := 2048) (by omega) (by decide)) (And.intro (vp_in_nI (by omega) (by omega)) ?_)
    rw [nI_clamp (n := i) (by omega)]
    refine nm_r (e' := upd c i 0) (congrArg _ (tn_ns (n := 0) (by omega))) (nm_r (nI_1 i) (ih (i + 1) N _ (by omega) ?_ (by omega)))
    intro j hj
    by_cases e : j = i
    · subst e; rw [pk_us]
    · rw [pk_un e]; exact ho j (by omega)
theorem xc_find {post : SX → Prop} (hR : tl_rl L O W F) (R : xr_R L O W F h s m (f_made, f_height, f_known, f_level, f_left, f_came, f_letters, a_leafSet, a_oneSet, a_twoSet, a_finalSet, a_top, a_first, a_second, a_sizes, a_stack, a_todo, a_written, a_numbers, a_ways, a_counts, a_all, a_weight, a_wanted, a_phase, a_split, a_done, a_spelled))
    (hp : ∀ c, xr_GC L O W c → post (f_made, f_height, 1, f_level, f_left, f_came, f_letters, a_leafSet, a_oneSet, a_twoSet, a_finalSet, a_top, a_first, a_second, a_sizes, a_stack, a_todo, a_written, a_numbers, a_ways, c, a_all, a_weight, a_wanted, a_phase, a_split, a_done, a_spelled)) : wpX_find post (f_made, f_height, f_known, f_level, f_left, f_came, f_letters, a_leafSet, a_oneSet, a_twoSet, a_finalSet, a_top, a_first, a_second, a_sizes, a_stack, a_todo, a_written, a_numbers, a_ways, a_counts, a_all, a_weight, a_wanted, a_phase, a_split, a_done, a_spelled) := by
  obtain ⟨e1, e2, e3, e4, e5, e6, e7, e8, e9⟩ := R
  unfold wpX_find
  dsimp only
  rcases e3 with e3 | ⟨e3, hG⟩
  · exact br_t e3 (Exists.intro 2049 (xc_15 (f_known := 1) hR e4 e5 e6 hp 2048 0 2049 a_counts rfl (fun j hj => absurd hj (Nat.not_lt_zero j)) (by decide)))
  · subst e3
    exact br_f (by decide) (hp a_counts hG)
end
/-- the least size from n on, among d, that has any -/
def tl_lst (g : Nat → Nat) : Nat → Nat → Int32
  | 0, _ => -4
  | d + 1, n => if 0 < g n then nI n else tl_lst g d (n + 1)
section
variable {L O W F : Nat → Nat} {h m : Nat} {s : Nat → tl_T}
variable {f_made f_height f_known f_level f_left f_came f_letters : Int32} {a_leafSet a_oneSet a_twoSet a_finalSet a_top a_first a_second a_sizes a_stack a_todo a_written a_numbers a_ways a_counts a_all a_weight a_wanted a_phase a_split a_done a_spelled : Nat → Int32}
theorem xc_23 {post : Int32 → SX → Prop} {kind : Nat} (hR : tl_rl L O W F) (hF : xr_ar a_finalSet F) (hG : xr_GC L O W a_counts) (hk : kind < 7) (hp : post (tl_lst (tl_nk L O W F kind) 7 1) (f_made, f_height, f_known, f_level, f_left, f_came, f_letters, a_leafSet, a_oneSet, a_twoSet, a_finalSet, a_top, a_first, a_second, a_sizes, a_stack, a_todo, a_written, a_numbers, a_ways, a_counts, a_all, a_weight, a_wanted, a_phase, a_split, a_done, a_spelled)) :
    ∀ d n N, n + d = 7 → 1 ≤ n → tl_lst (tl_nk L O W F kind) (d + 1) n = tl_lst (tl_nk L O W F kind) 7 1 → d < N → wX_least_23 post (nI kind) f_made f_height f_known f_level f_left f_came f_letters a_leafSet a_oneSet a_twoSet a_finalSet a_top a_first a_second a_sizes a_stack a_todo a_written a_numbers a_ways a_counts a_all a_weight a_wanted a_phase a_split a_done a_spelled N (nI n) (nI (tl_nk L O W F kind n)) := by
  intro d
  induction d with
  | zero =>
    intro n N hn h1 he hN
    obtain ⟨N, rfl⟩ : ∃ k, N = k + 1 := ⟨N - 1, by omega⟩
    obtain rfl : n = 7 := by omega
    rw [← he] at hp
    have hle := tl_nk_le (L := L) (O := O) (W := W) (F := F) kind 7 (by omega)
    simp only [tl_lst] at hp
    by_cases hz : 0 < tl_nk L O W F kind 7
    · rw [if_pos hz] at hp
      exact br_f (nI_ne0 hz (by omega)) (br_f (nI_nle hz (by omega)) hp)
    · rw [if_neg hz] at hp
      have hz : tl_nk L O W F kind 7 = 0 := by omega
      rw [hz]
      exact br_t rfl (br_t (by decide) (br_t (by decide) hp))
  | succ d ih =>
    intro n N hn h1 he hN
    obtain ⟨N, rfl⟩ : ∃ k, N = k + 1 := ⟨N - 1, by omega⟩
    have hle := tl_nk_le (L := L) (O := O) (W := W) (F := F) kind n (by omega)
    by_cases hz : 0 < tl_nk L O W F kind n
    · have : tl_lst (tl_nk L O W F kind) (d + 1 + 1) n = nI n := by simp only [tl_lst]; rw [if_pos hz]
      rw [← he, this] at hp
      exact br_f (nI_ne0 hz (by omega)) (br_f (nI_nle hz (by omega)) hp)
    · have e2 : tl_lst (tl_nk L O W F kind) (d + 1 + 1) n = tl_lst (tl_nk L O W F kind) (d + 1) (n + 1) := by
        simp only [tl_lst]; rw [if_neg hz]
      have hz : tl_nk L O W F kind n = 0 := by omega
      rw [hz]
      refine br_t rfl (br_f (nI_ge (b := 7) (by omega) (by decide)) (nm_r (nI_1 n) (xa_countOf (n := n + 1) rfl rfl (hG (n + 1) · (by omega)) hF hk (by omega) ?_)))
      rw [tl_nk_eq hR]
      exact ih (n + 1) N (by omega) (by omega) (by rw [← e2]; exact he) (by omega)
end
section
variable {L O W F : Nat → Nat} {h m : Nat} {s : Nat → tl_T}
theorem xt_count {post : Int32 → SX → Prop} {u : SX} {v1 v2 : Int32} (hR : tl_rl L O W F) (R : xr_R L O W F h s m u)
    (hb : (v1 < 0 ∨ 6 < v1) ∨ (v2 < 1 ∨ 7 < v2) → post (-1) u)
    (hg : ∀ kind n, kind < 7 → 1 ≤ n → n ≤ 7 → v1 = nI kind → v2 = nI n → ∀ u', xr_R L O W F h s m u' → post (nI (tl_nk L O W F kind n)) u') : wpX_count post u v1 v2 := by
  obtain ⟨f_made, f_height, f_known, f_level, f_left, f_came, f_letters, a_leafSet, a_oneSet, a_twoSet, a_finalSet, a_top, a_first, a_second, a_sizes, a_stack, a_todo, a_written, a_numbers, a_ways, a_counts, a_all, a_weight, a_wanted, a_phase, a_split, a_done, a_spelled⟩ := u
  have R0 := R
  obtain ⟨e1, e2, e3, e4, e5, e6, e7, e8, e9⟩ := R
  unfold wpX_count
  dsimp only
  refine xb_kind (fun b => br_f (by decide) (hb (Or.inl b))) (fun kind hk ek => br_t rfl ?_)
  by_cases h1 : v2 < 1
  · exact br_t h1 (hb (Or.inr (Or.inl h1)))
  by_cases h7 : v2 ≤ 7
  · obtain ⟨n, hn, en⟩ := nI_of2 (M := 7) (n := 7) (by decide) (fun z => h1 (Int32.lt_trans z (by decide))) h7
    have hn1 : 1 ≤ n := by
      rcases Nat.lt_or_ge 0 n with z | z
      · exact z
      · exfalso; apply h1; rw [en]; exact nI_lt (b := 1) (by omega) (by decide)
    refine br_f h1 (br_t h7 (xc_find hR R0 (fun c hG => ?_)))
    dsimp only
    refine xa_countOf ek en (hG n · (by omega)) e7 hk (by omega) ?_
    rw [tl_nk_eq hR]
    exact hg kind n hk hn1 hn ek en _ ⟨e1, e2, Or.inr ⟨rfl, hG⟩, e4, e5, e6, e7, e8, e9⟩
  · exact br_f h1 (br_f h7 (hb (Or.inr (Or.inr (Int32.not_le.mp h7)))))
theorem xt_least {post : Int32 → SX → Prop} {u : SX} {v1 : Int32} (hR : tl_rl L O W F) (R : xr_R L O W F h s m u)
    (hb : v1 < 0 ∨ 6 < v1 → post (-1) u)
    (hg : ∀ kind, kind < 7 → v1 = nI kind → ∀ u', xr_R L O W F h s m u' → post (tl_lst (tl_nk L O W F kind) 7 1) u') : wpX_least post u v1 := by
  obtain ⟨f_made, f_height, f_known, f_level, f_left, f_came, f_letters, a_leafSet, a_oneSet, a_twoSet, a_finalSet, a_top, a_first, a_second, a_sizes, a_stack, a_todo, a_written, a_numbers, a_ways, a_counts, a_all, a_weight, a_wanted, a_phase, a_split, a_done, a_spelled⟩ := u
  have R0 := R
  obtain ⟨e1, e2, e3, e4, e5, e6, e7, e8, e9⟩ := R
  unfold wpX_least
  dsimp only
  refine xb_kind (fun b => br_f (by decide) (hb b)) (fun kind hk ek => br_t rfl (xc_find hR R0 (fun c hG => ?_)))
  dsimp only
  refine xa_countOf (n := 1) ek rfl (hG 1 · (by omega)) e7 hk (by omega) ?_
  rw [tl_nk_eq hR, ek]
  exact Exists.intro 7 (xc_23 hR e7 hG hk (hg kind hk ek _ ⟨e1, e2, Or.inr ⟨rfl, hG⟩, e4, e5, e6, e7, e8, e9⟩) 6 1 7 rfl (by omega) rfl (by decide))
end
end
section
/-! the component: weights for finding -/
section
variable {L O W F : Nat → Nat}
/-- what a first child with pair one weighs, the second child having k letters -/
def tl_bs (L O W : Nat → Nat) (w : Nat → Nat) (one k : Nat) : Nat := tl_ws (tl_tr k) (fun u => w (tl_tp W one (tl_p L O W u)))
theorem tl_bs_eq (h : tl_rl L O W F) (w : Nat → Nat) (one k : Nat) : tl_sm (fun p => tl_cn L O W k p * w (tl_tp W one p)) 256 = tl_bs L O W w one k :=
  tl_cnw h k (fun p => w (tl_tp W one p))
theorem tl_w1_eq (h : tl_rl L O W F) (w : Nat → Nat) (k : Nat) : tl_sm (fun p => tl_cn L O W k p * w (tl_op O p)) 256 = tl_ws ((tl_tr k).map (fun t => .mulL 0 t)) (fun t => w (tl_p L O W t)) := by
  rw [tl_cnw h k (fun p => w (tl_op O p)), tl_ws_map]
  exact tl_ws_congr (fun t _ => by rw [tl_p_one h])
theorem tl_w2_eq (h : tl_rl L O W F) (w : Nat → Nat) (i k : Nat) : tl_sm (fun p => tl_cn L O W i p * tl_bs L O W w p k) 256 = tl_ws (tl_pr (tl_tr i) (tl_tr k)) (fun t => w (tl_p L O W t)) := by
  rw [tl_cnw h i (fun p => tl_bs L O W w p k), tl_ws_pr]
  refine tl_ws_congr (fun t _ => ?_)
  exact tl_ws_congr (fun u _ => by rw [tl_p_two h])
variable {f_made f_height f_known f_level f_left f_came f_letters : Int32} {a_leafSet a_oneSet a_twoSet a_finalSet a_top a_first a_second a_sizes a_stack a_todo a_written a_numbers a_ways a_counts a_all a_weight a_wanted a_phase a_split a_done a_spelled : Nat → Int32}
theorem xs_start {post : SX → Prop} {l n : Nat} {x : Int32} (ex : x = nI n) (el : f_level + 1 = nI l) (hl : l < 8) (hn : n < 128)
    (hp : post (f_made, f_height, f_known, nI l, f_left, f_came, f_letters, a_leafSet, a_oneSet, a_twoSet, a_finalSet, a_top, a_first, a_second, a_sizes, a_stack, a_todo, a_written, a_numbers, a_ways, a_counts, a_all, a_weight, upd a_wanted l (nI n), upd a_phase l (nI 0), a_split, a_done, a_spelled)) : wpX_start post (f_made, f_height, f_known, f_level, f_left, f_came, f_letters, a_leafSet, a_oneSet, a_twoSet, a_finalSet, a_top, a_first, a_second, a_sizes, a_stack, a_todo, a_written, a_numbers, a_ways, a_counts, a_all, a_weight, a_wanted, a_phase, a_split, a_done, a_spelled) x := by
  subst ex
  have il : vp_in (nI l) 8 := vp_in_nI hl (by omega)
  have cl : (nI l).toNatClampNeg = l := nI_clamp (by omega)
  unfold wpX_start
  dsimp only
  refine nm_r el ?_
  rw [cl]
  exact And.intro il (nm_r (congrArg _ (tn_nb2 (by omega))) (And.intro il (nm_r (congrArg _ (tn_nb (n := 0) (by omega))) hp)))
theorem xs_spell {post : SX → Prop} {k x : Nat} {y : Int32} (ey : y = nI x) (ek : f_letters = nI k) (hk : k < 12) (hx : x < 128)
    (hp : post (f_made, f_height, f_known, f_level, f_left, f_came, nI (k + 1), a_leafSet, a_oneSet, a_twoSet, a_finalSet, a_top, a_first, a_second, a_sizes, a_stack, a_todo, a_written, a_numbers, a_ways, a_counts, a_all, a_weight, a_wanted, a_phase, a_split, a_done, upd a_spelled k (nI x))) : wpX_spell post (f_made, f_height, f_known, f_level, f_left, f_came, f_letters, a_leafSet, a_oneSet, a_twoSet, a_finalSet, a_top, a_first, a_second, a_sizes, a_stack, a_todo, a_written, a_numbers, a_ways, a_counts, a_all, a_weight, a_wanted, a_phase, a_split, a_done, a_spelled) y := by
  subst ey ek
  unfold wpX_spell
  dsimp only
  rw [nI_clamp (n := k) (by omega)]
  exact And.intro (vp_in_nI hk (by omega)) (nm_r (congrArg _ (tn_nb2 (by omega))) (nm_r (nI_1 k) hp))
theorem xs_w4 {post : Int32 → Prop} {l n : Nat} {w : Nat → Nat} (hR : tl_rl L O W F) (hO : xr_ar a_oneSet O) (hG : xr_GC L O W a_counts) (el : f_level = nI l) (hl : l < 8) (hn : 1 ≤ n) (hn7 : n ≤ 8) (hw : ∀ p, p < 256 → a_weight (256 * l + p) = nI (w p))
    (hp : post (nI (tl_sm (fun p => tl_cn L O W (n - 1) p * w (tl_op O p)) 256))) : ∀ d P N, P + d = 256 → d < N → wX_withOne_4 post (nI n) f_made f_height f_known f_level f_left f_came f_letters a_leafSet a_oneSet a_twoSet a_finalSet a_top a_first a_second a_sizes a_stack a_todo a_written a_numbers a_ways a_counts a_all a_weight a_wanted a_phase a_split a_done a_spelled N (nI (tl_sm (fun p => tl_cn L O W (n - 1) p * w (tl_op O p)) P)) (nI P) := by
  subst el
  intro d
  induction d with
  | zero =>
    intro P N hP hN
    obtain ⟨N, rfl⟩ : ∃ k, N = k + 1 := ⟨N - 1, by omega⟩
    obtain rfl : P = 256 := by omega
    exact br_t (by decide) hp
  | succ d ih =>
    intro P N hP hN
    obtain ⟨N, rfl⟩ : ∃ k, N = k + 1 := ⟨N - 1, by omega⟩
    have hi1 := ih (P + 1) N (by omega) (by omega)
    have hle := tl_cn_le (L := L) (O := O) (W := W) (n - 1) P (by omega)
    refine br_f (nI_ge (b := 256) (by omega) (by decide)) ?_
    rw [tn_1 n hn, tn_ixc 256 (n - 1) P (by omega), hG (n - 1) P (by omega) (by omega)]
    refine And.intro (tn_ixi 256 2048 (n - 1) P (by omega)) (nm_e ?_)
    by_cases hz : tl_cn L O W (n - 1) P = 0
    · simp only [tl_sm, hz, Nat.zero_mul, Nat.add_zero] at hi1
      rw [hz]
      exact br_t (by decide) (nm_r (nI_1 P) hi1)
    · have hq := tl_op_lt hR.2.1 P
      refine br_f (nI_nle (by omega) (by omega)) (xa_onePair rfl hO hR.2.1 (by omega) ?_)
      rw [tn_ixc 256 l _ (by omega), hw _ hq, pk_mul, nI_add]
      exact And.intro (tn_ixi 256 2048 l _ (by omega)) (nm_e (nm_r (nI_1 P) hi1))
theorem xs_withOne {post : Int32 → Prop} {l n : Nat} {w : Nat → Nat} {x : Int32} (ex : x = nI n) (hR : tl_rl L O W F) (hO : xr_ar a_oneSet O) (hG : xr_GC L O W a_counts) (el : f_level = nI l) (hl : l < 8) (hn : 1 ≤ n) (hn7 : n ≤ 8) (hw : ∀ p, p < 256 → a_weight (256 * l + p) = nI (w p))
    (hp : post (nI (tl_ws ((tl_tr (n - 1)).map (fun t => .mulL 0 t)) (fun t => w (tl_p L O W t))))) : wpX_withOne post (f_made, f_height, f_known, f_level, f_left, f_came, f_letters, a_leafSet, a_oneSet, a_twoSet, a_finalSet, a_top, a_first, a_second, a_sizes, a_stack, a_todo, a_written, a_numbers, a_ways, a_counts, a_all, a_weight, a_wanted, a_phase, a_split, a_done, a_spelled) x := by
  subst ex
  rw [← tl_w1_eq hR] at hp
  exact Exists.intro 257 (xs_w4 hR hO hG el hl hn hn7 hw hp 256 0 257 rfl (by decide))
theorem xs_b5 {post : Int32 → Prop} {l k one : Nat} {w : Nat → Nat} (hR : tl_rl L O W F) (hW : xr_ar a_twoSet W) (hG : xr_GC L O W a_counts) (el : f_level = nI l) (hl : l < 8) (hk : k < 8) (ho : one < 256) (hw : ∀ p, p < 256 → a_weight (256 * l + p) = nI (w p))
    (hp : post (nI (tl_sm (fun p => tl_cn L O W k p * w (tl_tp W one p)) 256))) : ∀ d P N, P + d = 256 → d < N → wX_besides_5 post (nI one) (nI k) f_made f_height f_known f_level f_left f_came f_letters a_leafSet a_oneSet a_twoSet a_finalSet a_top a_first a_second a_sizes a_stack a_todo a_written a_numbers a_ways a_counts a_all a_weight a_wanted a_phase a_split a_done a_spelled N (nI (tl_sm (fun p => tl_cn L O W k p * w (tl_tp W one p)) P)) (nI P) := by
  subst el
  intro d
  induction d with
  | zero =>
    intro P N hP hN
    obtain ⟨N, rfl⟩ : ∃ k, N = k + 1 := ⟨N - 1, by omega⟩
    obtain rfl : P = 256 := by omega
    exact br_t (by decide) hp
  | succ d ih =>
    intro P N hP hN
    obtain ⟨N, rfl⟩ : ∃ k, N = k + 1 := ⟨N - 1, by omega⟩
    have hi1 := ih (P + 1) N (by omega) (by omega)
    have hle := tl_cn_le (L := L) (O := O) (W := W) k P (by omega)
    refine br_f (nI_ge (b := 256) (by omega) (by decide)) ?_
    rw [tn_ixc 256 k P (by omega), hG k P (by omega) (by omega)]
    refine And.intro (tn_ixi 256 2048 k P (by omega)) (nm_e ?_)
    by_cases hz : tl_cn L O W k P = 0
    · simp only [tl_sm, hz, Nat.zero_mul, Nat.add_zero] at hi1
      rw [hz]
      exact br_t (by decide) (nm_r (nI_1 P) hi1)
    · have hq := tl_tp_lt hR.2.2.1 one P
      refine br_f (nI_nle (by omega) (by omega)) (xa_twoPair rfl rfl hW hR.2.2.1 (by omega) (by omega) ?_)
      rw [tn_ixc 256 l _ (by omega), hw _ hq, pk_mul, nI_add]
      exact And.intro (tn_ixi 256 2048 l _ (by omega)) (nm_e (nm_r (nI_1 P) hi1))
theorem xs_besides {post : Int32 → Prop} {l k one : Nat} {w : Nat → Nat} {x y : Int32} (ex : x = nI one) (ey : y = nI k) (hR : tl_rl L O W F) (hW : xr_ar a_twoSet W) (hG : xr_GC L O W a_counts) (el : f_level = nI l) (hl : l < 8) (hk : k < 8) (ho : one < 256) (hw : ∀ p, p < 256 → a_weight (256 * l + p) = nI (w p))
    (hp : post (nI (tl_bs L O W w one k))) : wpX_besides post (f_made, f_height, f_known, f_level, f_left, f_came, f_letters, a_leafSet, a_oneSet, a_twoSet, a_finalSet, a_top, a_first, a_second, a_sizes, a_stack, a_todo, a_written, a_numbers, a_ways, a_counts, a_all, a_weight, a_wanted, a_phase, a_split, a_done, a_spelled) x y := by
  subst ex ey
  rw [← tl_bs_eq hR] at hp
  exact Exists.intro 257 (xs_b5 hR hW hG el hl hk ho hw hp 256 0 257 rfl (by decide))
theorem xs_t5 {post : Int32 → Prop} {l n i : Nat} {w : Nat → Nat} (hR : tl_rl L O W F) (hW : xr_ar a_twoSet W) (hG : xr_GC L O W a_counts) (el : f_level = nI l) (hl : l < 8) (hn : n ≤ 8) (hi : i < n) (hw : ∀ p, p < 256 → a_weight (256 * l + p) = nI (w p))
    (hp : post (nI (tl_sm (fun p => tl_cn L O W i p * tl_bs L O W w p (n - 1 - i)) 256))) : ∀ d P N, P + d = 256 → d < N → wX_withTwo_5 post (nI n) (nI i) f_made f_height f_known f_level f_left f_came f_letters a_leafSet a_oneSet a_twoSet a_finalSet a_top a_first a_second a_sizes a_stack a_todo a_written a_numbers a_ways a_counts a_all a_weight a_wanted a_phase a_split a_done a_spelled N (nI (tl_sm (fun p => tl_cn L O W i p * tl_bs L O W w p (n - 1 - i)) P)) (nI P) := by
  intro d
  induction d with
  | zero =>
    intro P N hP hN
    obtain ⟨N, rfl⟩ : ∃ k, N = k + 1 := ⟨N - 1, by omega⟩
    obtain rfl : P = 256 := by omega
    exact br_t (by decide) hp
  | succ d ih =>
    intro P N hP hN
    obtain ⟨N, rfl⟩ : ∃ k, N = k + 1 := ⟨N - 1, by omega⟩
    have hi1 := ih (P + 1) N (by omega) (by omega)
    have hle := tl_cn_le (L := L) (O := O) (W := W) i P (by omega)
    have e1 : (nI n - 1) - nI i = nI (n - 1 - i) := by rw [tn_1 n (by omega), pk_sub (by omega)]
    refine br_f (nI_ge (b := 256) (by omega) (by decide)) ?_
    rw [tn_ixc 256 i P (by omega), hG i P (by omega) (by omega)]
    refine And.intro (tn_ixi 256 2048 i P (by omega)) (nm_e ?_)
    by_cases hz : tl_cn L O W i P = 0
    · simp only [tl_sm, hz, Nat.zero_mul, Nat.add_zero] at hi1
      rw [hz]
      exact br_t (by decide) (nm_r (nI_1 P) hi1)
    · refine br_f (nI_nle (by omega) (by omega)) (xs_besides (w := w) rfl e1 hR hW hG el hl (by omega) (by omega) hw ?_)
      rw [pk_mul, nI_add]
      exact nm_e (nm_r (nI_1 P) hi1)
theorem xs_withTwo {post : Int32 → Prop} {l n i : Nat} {w : Nat → Nat} {x y : Int32} (ex : x = nI n) (ey : y = nI i) (hR : tl_rl L O W F) (hW : xr_ar a_twoSet W) (hG : xr_GC L O W a_counts) (el : f_level = nI l) (hl : l < 8) (hn : n ≤ 8) (hi : i < n) (hw : ∀ p, p < 256 → a_weight (256 * l + p) = nI (w p))
    (hp : post (nI (tl_ws (tl_pr (tl_tr i) (tl_tr (n - 1 - i))) (fun t => w (tl_p L O W t))))) : wpX_withTwo post (f_made, f_height, f_known, f_level, f_left, f_came, f_letters, a_leafSet, a_oneSet, a_twoSet, a_finalSet, a_top, a_first, a_second, a_sizes, a_stack, a_todo, a_written, a_numbers, a_ways, a_counts, a_all, a_weight, a_wanted, a_phase, a_split, a_done, a_spelled) x y := by
  subst ex ey
  rw [← tl_w2_eq hR] at hp
  exact Exists.intro 257 (xs_t5 hR hW hG el hl hn hi hw hp 256 0 257 rfl (by decide))
theorem xs_fill {a wt : Nat → Int32} {b P : Nat} {v : Nat → Nat} (h1 : ∀ j, j < b → wt j = a j) (h2 : ∀ p, p < P → wt (b + p) = nI (v p)) :
    (∀ j, j < b → upd wt (b + P) (nI (v P)) j = a j) ∧ (∀ p, p < P + 1 → upd wt (b + P) (nI (v P)) (b + p) = nI (v p)) := by
  refine ⟨fun j hj => by rw [pk_un (by omega)]; exact h1 j hj, fun p hp => ?_⟩
  by_cases e : p = P
  · subst e; rw [pk_us]
  · rw [pk_un (by omega)]; exact h2 p (by omega)
theorem xs_o2 {post : SX → Prop} {l n : Nat} {w : Nat → Nat} (hR : tl_rl L O W F) (hO : xr_ar a_oneSet O) (hG : xr_GC L O W a_counts) (el : f_level = nI l) (hl : l + 1 < 8) (hn : n < 8) (hw : ∀ p, p < 256 → a_weight (256 * l + p) = nI (w p))
    (hp : ∀ wt, (∀ j, j < 256 * (l + 1) → wt j = a_weight j) → (∀ p, p < 256 → wt (256 * (l + 1) + p) = nI (if 0 < tl_cn L O W n p then w (tl_op O p) else 0)) →
      post (f_made, f_height, f_known, nI (l + 1), f_left, f_came, f_letters, a_leafSet, a_oneSet, a_twoSet, a_finalSet, a_top, a_first, a_second, a_sizes, a_stack, a_todo, a_written, a_numbers, a_ways, a_counts, a_all, wt, upd a_wanted (l + 1) (nI n), upd a_phase (l + 1) (nI 0), a_split, a_done, a_spelled)) :
    ∀ d P N wt, P + d = 256 → (∀ j, j < 256 * (l + 1) → wt j = a_weight j) → (∀ p, p < P → wt (256 * (l + 1) + p) = nI (if 0 < tl_cn L O W n p then w (tl_op O p) else 0)) → d < N → wX_goToOnly_2 post (nI n) f_made f_height f_known f_level f_left f_came f_letters N (nI P) a_leafSet a_oneSet a_twoSet a_finalSet a_top a_first a_second a_sizes a_stack a_todo a_written a_numbers a_ways a_counts a_all wt a_wanted a_phase a_split a_done a_spelled := by
  subst el
  intro d
  induction d with
  | zero =>
    intro P N wt hP h1 h2 hN
    obtain ⟨N, rfl⟩ : ∃ k, N = k + 1 := ⟨N - 1, by omega⟩
    obtain rfl : P = 256 := by omega
    exact br_t (by decide) (xs_start rfl (nI_1 l) hl (by omega) (hp wt h1 h2))
  | succ d ih =>
    intro P N wt hP h1 h2 hN
    obtain ⟨N, rfl⟩ : ∃ k, N = k + 1 := ⟨N - 1, by omega⟩
    have hle := tl_cn_le (L := L) (O := O) (W := W) n P (by omega)
    obtain ⟨g1, g2⟩ := xs_fill (v := fun p => if 0 < tl_cn L O W n p then w (tl_op O p) else 0) h1 h2
    have hi1 := ih (P + 1) N _ (by omega) g1 g2 (by omega)
    refine br_f (nI_ge (b := 256) (by omega) (by decide)) ?_
    rw [tn_ixc 256 n P (by omega), hG n P (by omega) (by omega)]
    refine And.intro (tn_ixi 256 2048 n P (by omega)) ?_
    by_cases hz : 0 < tl_cn L O W n P
    · refine br_f (nI_nle (by omega) (by omega)) (br_f (by decide) (xa_onePair rfl hO hR.2.1 (by omega) (br_f (by decide) ?_)))
      have hq := tl_op_lt hR.2.1 P
      rw [nI_1 l, tn_ixc 256 (l + 1) P (by omega), tn_ixc 256 l _ (by omega), h1 _ (by omega), hw _ hq]
      simp only [hz, if_true] at hi1
      exact And.intro (tn_ixi 256 2048 l _ (by omega)) (And.intro (tn_ixi 256 2048 (l + 1) P (by omega)) (nm_e (nm_r (nI_1 P) hi1)))
    · have hz0 : tl_cn L O W n P = 0 := by omega
      rw [hz0]
      refine br_t (by decide) (br_t rfl (br_t rfl ?_))
      rw [nI_1 l, tn_ixc 256 (l + 1) P (by omega)]
      simp only [hz, if_false] at hi1
      exact And.intro (tn_ixi 256 2048 (l + 1) P (by omega)) (nm_e (nm_r (nI_1 P) hi1))
theorem xs_goToOnly {post : SX → Prop} {l n : Nat} {w : Nat → Nat} {x : Int32} (ex : x = nI n) (hR : tl_rl L O W F) (hO : xr_ar a_oneSet O) (hG : xr_GC L O W a_counts) (el : f_level = nI l) (hl : l + 1 < 8) (hn : n < 8) (hw : ∀ p, p < 256 → a_weight (256 * l + p) = nI (w p))
    (hp : ∀ wt, (∀ j, j < 256 * (l + 1) → wt j = a_weight j) → (∀ p, p < 256 → wt (256 * (l + 1) + p) = nI (if 0 < tl_cn L O W n p then w (tl_op O p) else 0)) →
      post (f_made, f_height, f_known, nI (l + 1), f_left, f_came, f_letters, a_leafSet, a_oneSet, a_twoSet, a_finalSet, a_top, a_first, a_second, a_sizes, a_stack, a_todo, a_written, a_numbers, a_ways, a_counts, a_all, wt, upd a_wanted (l + 1) (nI n), upd a_phase (l + 1) (nI 0), a_split, a_done, a_spelled)) :
    wpX_goToOnly post (f_made, f_height, f_known, f_level, f_left, f_came, f_letters, a_leafSet, a_oneSet, a_twoSet, a_finalSet, a_top, a_first, a_second, a_sizes, a_stack, a_todo, a_written, a_numbers, a_ways, a_counts, a_all, a_weight, a_wanted, a_phase, a_split, a_done, a_spelled) x := by
  subst ex
  exact Exists.intro 257 (xs_o2 hR hO hG el hl hn hw hp 256 0 257 a_weight rfl (fun j _ => rfl) (fun p h => absurd h (Nat.not_lt_zero p)) (by decide))
theorem xs_f2 {post : SX → Prop} {l n k : Nat} {w : Nat → Nat} (hR : tl_rl L O W F) (hW : xr_ar a_twoSet W) (hG : xr_GC L O W a_counts) (el : f_level = nI l) (hl : l + 1 < 8) (hn : n < 8) (hk : k < 8) (hw : ∀ p, p < 256 → a_weight (256 * l + p) = nI (w p))
    (hp : ∀ wt, (∀ j, j < 256 * (l + 1) → wt j = a_weight j) → (∀ p, p < 256 → wt (256 * (l + 1) + p) = nI (if 0 < tl_cn L O W n p then tl_bs L O W w p k else 0)) →
      post (f_made, f_height, f_known, nI (l + 1), f_left, f_came, f_letters, a_leafSet, a_oneSet, a_twoSet, a_finalSet, a_top, a_first, a_second, a_sizes, a_stack, a_todo, a_written, a_numbers, a_ways, a_counts, a_all, wt, upd a_wanted (l + 1) (nI n), upd a_phase (l + 1) (nI 0), a_split, a_done, a_spelled)) :
    ∀ d P N wt, P + d = 256 → (∀ j, j < 256 * (l + 1) → wt j = a_weight j) → (∀ p, p < P → wt (256 * (l + 1) + p) = nI (if 0 < tl_cn L O W n p then tl_bs L O W w p k else 0)) → d < N → wX_goToFirst_2 post (nI n) (nI k) f_made f_height f_known f_level f_left f_came f_letters N (nI P) a_leafSet a_oneSet a_twoSet a_finalSet a_top a_first a_second a_sizes a_stack a_todo a_written a_numbers a_ways a_counts a_all wt a_wanted a_phase a_split a_done a_spelled := by
  subst el
  intro d
  induction d with
  | zero =>
    intro P N wt hP h1 h2 hN
    obtain ⟨N, rfl⟩ : ∃ k, N = k + 1 := ⟨N - 1, by omega⟩
    obtain rfl : P = 256 := by omega
    exact br_t (by decide) (xs_start rfl (nI_1 l) hl (by omega) (hp wt h1 h2))
  | succ d ih =>
    intro P N wt hP h1 h2 hN
    obtain ⟨N, rfl⟩ : ∃ k, N = k + 1 := ⟨N - 1, by omega⟩
    have hle := tl_cn_le (L := L) (O := O) (W := W) n P (by omega)
    obtain ⟨g1, g2⟩ := xs_fill (v := fun p => if 0 < tl_cn L O W n p then tl_bs L O W w p k else 0) h1 h2
    have hi1 := ih (P + 1) N _ (by omega) g1 g2 (by omega)
    refine br_f (nI_ge (b := 256) (by omega) (by decide)) ?_
    rw [tn_ixc 256 n P (by omega), hG n P (by omega) (by omega)]
    refine And.intro (tn_ixi 256 2048 n P (by omega)) ?_
    by_cases hz : 0 < tl_cn L O W n P
    · refine br_f (nI_nle (by omega) (by omega)) (br_f (by decide) (xs_besides (w := w) rfl rfl hR hW hG rfl (by omega) hk (by omega) (fun p hp' => by rw [h1 _ (by omega)]; exact hw p hp') ?_))
      rw [nI_1 l, tn_ixc 256 (l + 1) P (by omega)]
      simp only [hz, if_true] at hi1
      exact And.intro (tn_ixi 256 2048 (l + 1) P (by omega)) (nm_e (nm_r (nI_1 P) hi1))
    · have hz0 : tl_cn L O W n P = 0 := by omega
      rw [hz0]
      refine br_t (by decide) (br_t rfl ?_)
      rw [nI_1 l, tn_ixc 256 (l + 1) P (by omega)]
      simp only [hz, if_false] at hi1
      exact And.intro (tn_ixi 256 2048 (l + 1) P (by omega)) (nm_e (nm_r (nI_1 P) hi1))
theorem xs_goToFirst {post : SX → Prop} {l n k : Nat} {w : Nat → Nat} {x y : Int32} (ex : x = nI n) (ey : y = nI k) (hR : tl_rl L O W F) (hW : xr_ar a_twoSet W) (hG : xr_GC L O W a_counts) (el : f_level = nI l) (hl : l + 1 < 8) (hn : n < 8) (hk : k < 8) (hw : ∀ p, p < 256 → a_weight (256 * l + p) = nI (w p))
    (hp : ∀ wt, (∀ j, j < 256 * (l + 1) → wt j = a_weight j) → (∀ p, p < 256 → wt (256 * (l + 1) + p) = nI (if 0 < tl_cn L O W n p then tl_bs L O W w p k else 0)) →
      post (f_made, f_height, f_known, nI (l + 1), f_left, f_came, f_letters, a_leafSet, a_oneSet, a_twoSet, a_finalSet, a_top, a_first, a_second, a_sizes, a_stack, a_todo, a_written, a_numbers, a_ways, a_counts, a_all, wt, upd a_wanted (l + 1) (nI n), upd a_phase (l + 1) (nI 0), a_split, a_done, a_spelled)) :
    wpX_goToFirst post (f_made, f_height, f_known, f_level, f_left, f_came, f_letters, a_leafSet, a_oneSet, a_twoSet, a_finalSet, a_top, a_first, a_second, a_sizes, a_stack, a_todo, a_written, a_numbers, a_ways, a_counts, a_all, a_weight, a_wanted, a_phase, a_split, a_done, a_spelled) x y := by
  subst ex ey
  exact Exists.intro 257 (xs_f2 hR hW hG el hl hn hk hw hp 256 0 257 a_weight rfl (fun j _ => rfl) (fun p h => absurd h (Nat.not_lt_zero p)) (by decide))
theorem xs_s2 {post : SX → Prop} {l n one : Nat} {w : Nat → Nat} (hR : tl_rl L O W F) (hW : xr_ar a_twoSet W) (hG : xr_GC L O W a_counts) (el : f_level = nI l) (hl : l + 1 < 8) (hn : n < 8) (ho : one < 256) (hw : ∀ p, p < 256 → a_weight (256 * l + p) = nI (w p))
    (hp : ∀ wt, (∀ j, j < 256 * (l + 1) → wt j = a_weight j) → (∀ p, p < 256 → wt (256 * (l + 1) + p) = nI (if 0 < tl_cn L O W n p then w (tl_tp W one p) else 0)) →
      post (f_made, f_height, f_known, nI (l + 1), f_left, f_came, f_letters, a_leafSet, a_oneSet, a_twoSet, a_finalSet, a_top, a_first, a_second, a_sizes, a_stack, a_todo, a_written, a_numbers, a_ways, a_counts, a_all, wt, upd a_wanted (l + 1) (nI n), upd a_phase (l + 1) (nI 0), a_split, a_done, a_spelled)) :
    ∀ d P N wt, P + d = 256 → (∀ j, j < 256 * (l + 1) → wt j = a_weight j) → (∀ p, p < P → wt (256 * (l + 1) + p) = nI (if 0 < tl_cn L O W n p then w (tl_tp W one p) else 0)) → d < N → wX_goToSecond_2 post (nI one) (nI n) f_made f_height f_known f_level f_left f_came f_letters N (nI P) a_leafSet a_oneSet a_twoSet a_finalSet a_top a_first a_second a_sizes a_stack a_todo a_written a_numbers a_ways a_counts a_all wt a_wanted a_phase a_split a_done a_spelled := by
  subst el
  intro d
  induction d with
  | zero =>
    intro P N wt hP h1 h2 hN
    obtain ⟨N, rfl⟩ : ∃ k, N = k + 1 := ⟨N - 1, by omega⟩
    obtain rfl : P = 256 := by omega
    exact br_t (by decide) (xs_start rfl (nI_1 l) hl (by omega) (hp wt h1 h2))
  | succ d ih =>
    intro P N wt hP h1 h2 hN
    obtain ⟨N, rfl⟩ : ∃ k, N = k + 1 := ⟨N - 1, by omega⟩
    have hle := tl_cn_le (L := L) (O := O) (W := W) n P (by omega)
    obtain ⟨g1, g2⟩ := xs_fill (v := fun p => if 0 < tl_cn L O W n p then w (tl_tp W one p) else 0) h1 h2
    have hi1 := ih (P + 1) N _ (by omega) g1 g2 (by omega)
    refine br_f (nI_ge (b := 256) (by omega) (by decide)) ?_
    rw [tn_ixc 256 n P (by omega), hG n P (by omega) (by omega)]
    refine And.intro (tn_ixi 256 2048 n P (by omega)) ?_
    by_cases hz : 0 < tl_cn L O W n P
    · refine br_f (nI_nle (by omega) (by omega)) (br_f (by decide) (xa_twoPair rfl rfl hW hR.2.2.1 (by omega) (by omega) (br_f (by decide) ?_)))
      have hq := tl_tp_lt hR.2.2.1 one P
      rw [nI_1 l, tn_ixc 256 (l + 1) P (by omega), tn_ixc 256 l _ (by omega), h1 _ (by omega), hw _ hq]
      simp only [hz, if_true] at hi1
      exact And.intro (tn_ixi 256 2048 l _ (by omega)) (And.intro (tn_ixi 256 2048 (l + 1) P (by omega)) (nm_e (nm_r (nI_1 P) hi1)))
    · have hz0 : tl_cn L O W n P = 0 := by omega
      rw [hz0]
      refine br_t (by decide) (br_t rfl (br_t rfl ?_))
      rw [nI_1 l, tn_ixc 256 (l + 1) P (by omega)]
      simp only [hz, if_false] at hi1
      exact And.intro (tn_ixi 256 2048 (l + 1) P (by omega)) (nm_e (nm_r (nI_1 P) hi1))
theorem xs_goToSecond {post : SX → Prop} {l n one : Nat} {w : Nat → Nat} {x y : Int32} (ex : x = nI one) (ey : y = nI n) (hR : tl_rl L O W F) (hW : xr_ar a_twoSet W) (hG : xr_GC L O W a_counts) (el : f_level = nI l) (hl : l + 1 < 8) (hn : n < 8) (ho : one < 256) (hw : ∀ p, p < 256 → a_weight (256 * l + p) = nI (w p))
    (hp : ∀ wt, (∀ j, j < 256 * (l + 1) → wt j = a_weight j) → (∀ p, p < 256 → wt (256 * (l + 1) + p) = nI (if 0 < tl_cn L O W n p then w (tl_tp W one p) else 0)) →
      post (f_made, f_height, f_known, nI (l + 1), f_left, f_came, f_letters, a_leafSet, a_oneSet, a_twoSet, a_finalSet, a_top, a_first, a_second, a_sizes, a_stack, a_todo, a_written, a_numbers, a_ways, a_counts, a_all, wt, upd a_wanted (l + 1) (nI n), upd a_phase (l + 1) (nI 0), a_split, a_done, a_spelled)) :
    wpX_goToSecond post (f_made, f_height, f_known, f_level, f_left, f_came, f_letters, a_leafSet, a_oneSet, a_twoSet, a_finalSet, a_top, a_first, a_second, a_sizes, a_stack, a_todo, a_written, a_numbers, a_ways, a_counts, a_all, a_weight, a_wanted, a_phase, a_split, a_done, a_spelled) x y := by
  subst ex ey
  exact Exists.intro 257 (xs_s2 hR hW hG el hl hn ho hw hp 256 0 257 a_weight rfl (fun j _ => rfl) (fun p h => absurd h (Nat.not_lt_zero p)) (by decide))
end
end
section
/-! the component: one step of the search -/
section
variable {L O W F : Nat → Nat}
variable {f_made f_height f_known f_level f_left f_came f_letters : Int32} {a_leafSet a_oneSet a_twoSet a_finalSet a_top a_first a_second a_sizes a_stack a_todo a_written a_numbers a_ways a_counts a_all a_weight a_wanted a_phase a_split a_done a_spelled : Nat → Int32}
theorem xz_leaf {post : SX → Prop} {l k lt : Nat} {w : Nat → Nat} (hR : tl_rl L O W F) (hL : xr_ar a_leafSet L) (hl : l < 8) (hlt : lt < 12) (hw : ∀ p, p < 256 → a_weight (256 * l + p) = nI (w p)) (hk : k < 2 ^ 31) (hw0 : w (tl_lp L 0) < 2 ^ 31)
    (h0 : k < w (tl_lp L 0) → post (f_made, f_height, f_known, nI l - 1, nI k, nI (tl_lp L 0), nI (lt + 1), a_leafSet, a_oneSet, a_twoSet, a_finalSet, a_top, a_first, a_second, a_sizes, a_stack, a_todo, a_written, a_numbers, a_ways, a_counts, a_all, a_weight, a_wanted, a_phase, a_split, a_done, upd a_spelled lt (nI 0)))
    (h1 : w (tl_lp L 0) ≤ k → post (f_made, f_height, f_known, nI l - 1, nI (k - w (tl_lp L 0)), nI (tl_lp L 1), nI (lt + 1), a_leafSet, a_oneSet, a_twoSet, a_finalSet, a_top, a_first, a_second, a_sizes, a_stack, a_todo, a_written, a_numbers, a_ways, a_counts, a_all, a_weight, a_wanted, a_phase, a_split, a_done, upd a_spelled lt (nI 1))) :
    wpX_chooseLeaf post (f_made, f_height, f_known, nI l, nI k, f_came, nI lt, a_leafSet, a_oneSet, a_twoSet, a_finalSet, a_top, a_first, a_second, a_sizes, a_stack, a_todo, a_written, a_numbers, a_ways, a_counts, a_all, a_weight, a_wanted, a_phase, a_split, a_done, a_spelled) := by
  unfold wpX_chooseLeaf
  dsimp only
  refine xa_leafPair (c := 0) rfl hL hR.1 (by omega) ?_
  have hq := tl_lp_lt hR.1 0
  rw [tn_ixc 256 l _ (by omega), hw _ hq]
  refine And.intro (tn_ixi 256 2048 l _ (by omega)) (nm_e ?_)
  by_cases hc : w (tl_lp L 0) ≤ k
  · refine br_t (nI_le hc hk) ?_
    unfold wX_chooseLeaf_35
    refine br_f (by decide) ?_
    unfold wX_chooseLeaf_54
    refine xs_spell (k := lt) (x := 1) rfl rfl hlt (by omega) ?_
    dsimp only
    refine xa_leafPair (c := 1) rfl hL hR.1 (by omega) (nm_e ?_)
    rw [pk_sub hc]
    exact h1 hc
  · refine br_f (nI_ge (by omega) hw0) ?_
    unfold wX_chooseLeaf_35
    refine br_t rfl ?_
    unfold wX_chooseLeaf_54
    refine xs_spell (k := lt) (x := 0) rfl rfl hlt (by omega) ?_
    dsimp only
    exact xa_leafPair (c := 0) rfl hL hR.1 (by omega) (nm_e (h0 (by omega)))
theorem xz_topOne {post : SX → Prop} {l k lt n : Nat} {w : Nat → Nat} (hR : tl_rl L O W F) (hO : xr_ar a_oneSet O) (hG : xr_GC L O W a_counts) (hl : l + 1 < 8) (hlt : lt < 12) (hn : 2 ≤ n) (hn7 : n ≤ 7)
    (hw : ∀ p, p < 256 → a_weight (256 * l + p) = nI (w p)) (hwa : a_wanted l = nI n)
    (hS : tl_ws ((tl_tr (n - 1)).map (fun t => .mulL 0 t)) (fun t => w (tl_p L O W t)) < 2 ^ 31)
    (hk : k < tl_ws ((tl_tr (n - 1)).map (fun t => .mulL 0 t)) (fun t => w (tl_p L O W t)))
    (hp : ∀ wt, (∀ j, j < 256 * (l + 1) → wt j = a_weight j) → (∀ p, p < 256 → wt (256 * (l + 1) + p) = nI (if 0 < tl_cn L O W (n - 1) p then w (tl_op O p) else 0)) →
      post (f_made, f_height, f_known, nI (l + 1), nI k, f_came, nI (lt + 1), a_leafSet, a_oneSet, a_twoSet, a_finalSet, a_top, a_first, a_second, a_sizes, a_stack, a_todo, a_written, a_numbers, a_ways, a_counts, a_all, wt, upd a_wanted (l + 1) (nI (n - 1)), upd (upd a_phase l (nI 1)) (l + 1) (nI 0), a_split, a_done, upd a_spelled lt (nI 2))) :
    wpX_chooseTop post (f_made, f_height, f_known, nI l, nI k, f_came, nI lt, a_leafSet, a_oneSet, a_twoSet, a_finalSet, a_top, a_first, a_second, a_sizes, a_stack, a_todo, a_written, a_numbers, a_ways, a_counts, a_all, a_weight, a_wanted, a_phase, a_split, a_done, a_spelled) := by
  unfold wpX_chooseTop
  dsimp only
  have il : vp_in (nI l) 8 := vp_in_nI (by omega) (by omega)
  have cl : (nI l).toNatClampNeg = l := nI_clamp (by omega)
  rw [cl]
  refine And.intro il (nm_r hwa (xs_withOne rfl hR hO hG rfl (by omega) (by omega) (by omega) hw ?_))
  refine br_f (nI_ge hk hS) (xs_spell (k := lt) (x := 2) rfl rfl hlt (by omega) ?_)
  dsimp only
  rw [cl]
  refine And.intro il (nm_r (congrArg _ (tn_nb (n := 1) (by omega))) ?_)
  exact xs_goToOnly (tn_1 n (by omega)) hR hO hG rfl hl (by omega) hw hp
theorem tl_psw_s (n i : Nat) (w : tl_T → Nat) : tl_ws (tl_ps tl_tr n (i + 1)) w = tl_ws (tl_ps tl_tr n i) w + tl_ws (tl_pr (tl_tr i) (tl_tr (n - 1 - i))) w := by
  simp only [tl_ps, tl_ws_app]
theorem tl_psw_mono (n : Nat) (w : tl_T → Nat) {i j : Nat} (h : i ≤ j) : tl_ws (tl_ps tl_tr n i) w ≤ tl_ws (tl_ps tl_tr n j) w := by
  rw [tl_ws_ps, tl_ws_ps]; exact tl_sm_mono _ h
theorem tl_ps_find {n m k : Nat} {w : tl_T → Nat} (h : k < tl_ws (tl_ps tl_tr n m) w) : ∃ i k2, 1 ≤ i ∧ i < m ∧ k = tl_ws (tl_ps tl_tr n i) w + k2 ∧ k2 < tl_ws (tl_pr (tl_tr i) (tl_tr (n - 1 - i))) w := by
  induction m with
  | zero => simp only [tl_ps, tl_ws_nil] at h; omega
  | succ m ih =>
    by_cases hc : k < tl_ws (tl_ps tl_tr n m) w
    · obtain ⟨i, k2, h1, h2, h3, h4⟩ := ih hc
      exact ⟨i, k2, h1, by omega, h3, h4⟩
    · rw [tl_psw_s] at h
      refine ⟨m, k - tl_ws (tl_ps tl_tr n m) w, ?_, by omega, by omega, by omega⟩
      rcases Nat.lt_or_ge 0 m with z | z
      · exact z
      · have : m = 0 := by omega
        subst this
        rw [tl_tr_0, tl_pr_nil, tl_ws_nil] at h
        omega
theorem xz_66 {post : SX → Prop} {l k lt n i k2 : Nat} {w : Nat → Nat} (hR : tl_rl L O W F) (hW : xr_ar a_twoSet W) (hG : xr_GC L O W a_counts) (hl : l + 1 < 8) (hlt : lt < 12) (hn : 2 ≤ n) (hn7 : n ≤ 7)
    (hw : ∀ p, p < 256 → a_weight (256 * l + p) = nI (w p))
    (hi : 1 ≤ i) (hi2 : i < n - 1) (ek : k = tl_ws (tl_ps tl_tr n i) (fun t => w (tl_p L O W t)) + k2) (hk2 : k2 < tl_ws (tl_pr (tl_tr i) (tl_tr (n - 1 - i))) (fun t => w (tl_p L O W t)))
    (hS : tl_ws (tl_ps tl_tr n (n - 1)) (fun t => w (tl_p L O W t)) < 2 ^ 31)
    (hp : ∀ wt, (∀ j, j < 256 * (l + 1) → wt j = a_weight j) → (∀ p, p < 256 → wt (256 * (l + 1) + p) = nI (if 0 < tl_cn L O W i p then tl_bs L O W w p (n - 1 - i) else 0)) →
      post (f_made, f_height, f_known, nI (l + 1), nI k2, f_came, nI (lt + 1), a_leafSet, a_oneSet, a_twoSet, a_finalSet, a_top, a_first, a_second, a_sizes, a_stack, a_todo, a_written, a_numbers, a_ways, a_counts, a_all, wt, upd a_wanted (l + 1) (nI i), upd (upd a_phase l (nI 2)) (l + 1) (nI 0), upd a_split l (nI i), a_done, upd a_spelled lt (nI 3))) :
    ∀ d j N, j + d = i → 1 ≤ j → d < N → wX_chooseTop_66 post (nI n) f_made f_height f_known (nI l) f_came (nI lt) a_leafSet a_oneSet a_twoSet a_finalSet a_top a_first a_second a_sizes a_stack a_todo a_written a_numbers a_ways a_counts a_all a_weight a_wanted a_phase a_split a_done a_spelled N (nI (tl_ws (tl_pr (tl_tr j) (tl_tr (n - 1 - j))) (fun t => w (tl_p L O W t)))) (nI j) (nI (k - tl_ws (tl_ps tl_tr n j) (fun t => w (tl_p L O W t)))) := by
  have il : vp_in (nI l) 8 := vp_in_nI (by omega) (by omega)
  have cl : (nI l).toNatClampNeg = l := nI_clamp (by omega)
  have hle : ∀ j, j ≤ n - 1 → tl_ws (tl_ps tl_tr n j) (fun t => w (tl_p L O W t)) < 2 ^ 31 := fun j hj => Nat.lt_of_le_of_lt (tl_psw_mono n _ hj) hS
  have hlt2 : ∀ j, j < n - 1 → tl_ws (tl_pr (tl_tr j) (tl_tr (n - 1 - j))) (fun t => w (tl_p L O W t)) < 2 ^ 31 := by
    intro j hj
    have := hle (j + 1) (by omega)
    rw [tl_psw_s] at this
    omega
  have hk31 : k < 2 ^ 31 := by
    have := hle (i + 1) (by omega)
    rw [tl_psw_s] at this
    omega
  have fin : wX_chooseTop_104 post (nI n) (nI i) f_made f_height f_known (nI l) (nI k2) f_came (nI lt) a_leafSet a_oneSet a_twoSet a_finalSet a_top a_first a_second a_sizes a_stack a_todo a_written a_numbers a_ways a_counts a_all a_weight a_wanted a_phase a_split a_done a_spelled := by
    unfold wX_chooseTop_104
    refine xs_spell (k := lt) (x := 3) rfl rfl hlt (by omega) ?_
    dsimp only
    rw [cl]
    refine And.intro il (nm_r (congrArg _ (tn_nb (n := 2) (by omega))) (And.intro il (nm_r (congrArg _ (tn_nb2 (by omega))) ?_)))
    have e1 : (nI n - 1) - nI i = nI (n - 1 - i) := by rw [tn_1 n (by omega), pk_sub (by omega)]
    exact xs_goToFirst rfl e1 hR hW hG rfl hl (by omega) (by omega) hw hp
  intro d
  induction d with
  | zero =>
    intro j N hj h1 hN
    obtain ⟨N, rfl⟩ : ∃ k, N = k + 1 := ⟨N - 1, by omega⟩
    have : j = i := by omega
    subst this
    have e2 : k - tl_ws (tl_ps tl_tr n j) (fun t => w (tl_p L O W t)) = k2 := by omega
    rw [e2]
    refine br_c (fun _ => fin) (fun _ => br_t (nI_lt hk2 (hlt2 j (by omega))) fin)
  | succ d ih =>
    intro j N hj h1 hN
    obtain ⟨N, rfl⟩ : ∃ k, N = k + 1 := ⟨N - 1, by omega⟩
    have hm := tl_psw_mono n (fun t => w (tl_p L O W t)) (show j + 1 ≤ i by omega)
    have hs := tl_psw_s n j (fun t => w (tl_p L O W t))
    have hl2 := hlt2 j (by omega)
    refine br_f (by rw [tn_2 n hn]; exact nI_ge (by omega) (by omega)) (br_f (nI_nlt (by omega) (by omega)) ?_)
    have e3 : nI (k - tl_ws (tl_ps tl_tr n j) (fun t => w (tl_p L O W t))) - nI (tl_ws (tl_pr (tl_tr j) (tl_tr (n - 1 - j))) (fun t => w (tl_p L O W t))) = nI (k - tl_ws (tl_ps tl_tr n (j + 1)) (fun t => w (tl_p L O W t))) := by
      rw [pk_sub (by omega)]; exact congrArg nI (by omega)
    refine nm_r e3 (nm_r (nI_1 j) (xs_withTwo (w := w) rfl rfl hR hW hG rfl (by omega) (by omega) (by omega) hw ?_))
    exact ih (j + 1) N (by omega) (by omega) (by omega)
theorem xz_topTwo {post : SX → Prop} {l k lt n i k2 : Nat} {w : Nat → Nat} (hR : tl_rl L O W F) (hO : xr_ar a_oneSet O) (hW : xr_ar a_twoSet W) (hG : xr_GC L O W a_counts) (hl : l + 1 < 8) (hlt : lt < 12) (hn : 2 ≤ n) (hn7 : n ≤ 7)
    (hw : ∀ p, p < 256 → a_weight (256 * l + p) = nI (w p)) (hwa : a_wanted l = nI n)
    (hi : 1 ≤ i) (hi2 : i < n - 1) (ek : k = tl_ws ((tl_tr (n - 1)).map (fun t => .mulL 0 t)) (fun t => w (tl_p L O W t)) + (tl_ws (tl_ps tl_tr n i) (fun t => w (tl_p L O W t)) + k2)) (hk2 : k2 < tl_ws (tl_pr (tl_tr i) (tl_tr (n - 1 - i))) (fun t => w (tl_p L O W t)))
    (hk31 : k < 2 ^ 31) (hS : tl_ws (tl_ps tl_tr n (n - 1)) (fun t => w (tl_p L O W t)) < 2 ^ 31)
    (hp : ∀ wt, (∀ j, j < 256 * (l + 1) → wt j = a_weight j) → (∀ p, p < 256 → wt (256 * (l + 1) + p) = nI (if 0 < tl_cn L O W i p then tl_bs L O W w p (n - 1 - i) else 0)) →
      post (f_made, f_height, f_known, nI (l + 1), nI k2, f_came, nI (lt + 1), a_leafSet, a_oneSet, a_twoSet, a_finalSet, a_top, a_first, a_second, a_sizes, a_stack, a_todo, a_written, a_numbers, a_ways, a_counts, a_all, wt, upd a_wanted (l + 1) (nI i), upd (upd a_phase l (nI 2)) (l + 1) (nI 0), upd a_split l (nI i), a_done, upd a_spelled lt (nI 3))) :
    wpX_chooseTop post (f_made, f_height, f_known, nI l, nI k, f_came, nI lt, a_leafSet, a_oneSet, a_twoSet, a_finalSet, a_top, a_first, a_second, a_sizes, a_stack, a_todo, a_written, a_numbers, a_ways, a_counts, a_all, a_weight, a_wanted, a_phase, a_split, a_done, a_spelled) := by
  unfold wpX_chooseTop
  dsimp only
  have il : vp_in (nI l) 8 := vp_in_nI (by omega) (by omega)
  have cl : (nI l).toNatClampNeg = l := nI_clamp (by omega)
  rw [cl]
  refine And.intro il (nm_r hwa (xs_withOne rfl hR hO hG rfl (by omega) (by omega) (by omega) hw ?_))
  refine br_t (nI_le (by omega) hk31) (nm_r (pk_sub (by omega)) (xs_withTwo (w := w) (i := 1) rfl rfl hR hW hG rfl (by omega) (by omega) (by omega) hw ?_))
  have e0 : tl_ws (tl_ps tl_tr n 1) (fun t => w (tl_p L O W t)) = 0 := by
    rw [tl_psw_s, tl_tr_0, tl_pr_nil, tl_ws_nil]; rfl
  have := xz_66 (k := k - tl_ws ((tl_tr (n - 1)).map (fun t => .mulL 0 t)) (fun t => w (tl_p L O W t))) hR hW hG hl hlt hn hn7 hw hi hi2 (by omega) hk2 hS hp (i - 1) 1 8 (by omega) (by omega) (by omega)
  rw [e0, Nat.sub_zero] at this
  exact Exists.intro 8 this
/-! work, by phases -/
theorem xz_work_leaf {post : SX → Prop} {l : Nat} (hl : l < 8) (el : f_level = nI l) (hph : a_phase l = nI 0) (hwa : a_wanted l = nI 1) (hp : wpX_chooseLeaf post (f_made, f_height, f_known, f_level, f_left, f_came, f_letters, a_leafSet, a_oneSet, a_twoSet, a_finalSet, a_top, a_first, a_second, a_sizes, a_stack, a_todo, a_written, a_numbers, a_ways, a_counts, a_all, a_weight, a_wanted, a_phase, a_split, a_done, a_spelled)) : wpX_work post (f_made, f_height, f_known, f_level, f_left, f_came, f_letters, a_leafSet, a_oneSet, a_twoSet, a_finalSet, a_top, a_first, a_second, a_sizes, a_stack, a_todo, a_written, a_numbers, a_ways, a_counts, a_all, a_weight, a_wanted, a_phase, a_split, a_done, a_spelled) := by
  have il : vp_in (nI l) 8 := vp_in_nI (by omega) (by omega)
  have cl : (nI l).toNatClampNeg = l := nI_clamp (by omega)
  subst el
  unfold wpX_work
  dsimp only
  rw [cl, hph, hwa]
  exact And.intro il (br_t rfl (And.intro il (br_t rfl hp)))
theorem xz_work_top {post : SX → Prop} {l n : Nat} (hl : l < 8) (el : f_level = nI l) (hph : a_phase l = nI 0) (hwa : a_wanted l = nI n) (hn : 2 ≤ n) (hn7 : n ≤ 7) (hp : wpX_chooseTop post (f_made, f_height, f_known, f_level, f_left, f_came, f_letters, a_leafSet, a_oneSet, a_twoSet, a_finalSet, a_top, a_first, a_second, a_sizes, a_stack, a_todo, a_written, a_numbers, a_ways, a_counts, a_all, a_weight, a_wanted, a_phase, a_split, a_done, a_spelled)) : wpX_work post (f_made, f_height, f_known, f_level, f_left, f_came, f_letters, a_leafSet, a_oneSet, a_twoSet, a_finalSet, a_top, a_first, a_second, a_sizes, a_stack, a_todo, a_written, a_numbers, a_ways, a_counts, a_all, a_weight, a_wanted, a_phase, a_split, a_done, a_spelled) := by
  have il : vp_in (nI l) 8 := vp_in_nI (by omega) (by omega)
  have cl : (nI l).toNatClampNeg = l := nI_clamp (by omega)
  subst el
  unfold wpX_work
  dsimp only
  rw [cl, hph, hwa]
  refine And.intro il (br_t rfl (And.intro il (br_f (fun z => ?_) hp)))
  have := (nI_eq (a := n) (b := 1) (by omega) (by decide)).mp z
  omega
theorem xz_work_1 {post : SX → Prop} {l c : Nat} (hR : tl_rl L O W F) (hO : xr_ar a_oneSet O) (hl : l < 8) (el : f_level = nI l) (ec : f_came = nI c) (hc : c < 256) (hph : a_phase l = nI 1)
    (hp : post (f_made, f_height, f_known, nI l - 1, f_left, nI (tl_op O c), f_letters, a_leafSet, a_oneSet, a_twoSet, a_finalSet, a_top, a_first, a_second, a_sizes, a_stack, a_todo, a_written, a_numbers, a_ways, a_counts, a_all, a_weight, a_wanted, a_phase, a_split, a_done, a_spelled)) : wpX_work post (f_made, f_height, f_known, f_level, f_left, f_came, f_letters, a_leafSet, a_oneSet, a_twoSet, a_finalSet, a_top, a_first, a_second, a_sizes, a_stack, a_todo, a_written, a_numbers, a_ways, a_counts, a_all, a_weight, a_wanted, a_phase, a_split, a_done, a_spelled) := by
  have il : vp_in (nI l) 8 := vp_in_nI (by omega) (by omega)
  have cl : (nI l).toNatClampNeg = l := nI_clamp (by omega)
  subst el ec
  unfold wpX_work
  dsimp only
  rw [cl, hph]
  exact And.intro il (br_f (by decide) (And.intro il (br_t rfl (xa_onePair rfl hO hR.2.1 (by omega) (nm_e hp)))))
theorem xz_work_2 {post : SX → Prop} {l c n i : Nat} {w : Nat → Nat} (hR : tl_rl L O W F) (hW : xr_ar a_twoSet W) (hG : xr_GC L O W a_counts) (hl : l + 1 < 8) (el : f_level = nI l) (ec : f_came = nI c) (hc : c < 256) (hph : a_phase l = nI 2) (hwa : a_wanted l = nI n) (hsp : a_split l = nI i) (hn7 : n ≤ 7) (hi : i < n)
    (hw : ∀ p, p < 256 → a_weight (256 * l + p) = nI (w p))
    (hp : ∀ wt, (∀ j, j < 256 * (l + 1) → wt j = a_weight j) → (∀ p, p < 256 → wt (256 * (l + 1) + p) = nI (if 0 < tl_cn L O W (n - 1 - i) p then w (tl_tp W c p) else 0)) →
      post (f_made, f_height, f_known, nI (l + 1), f_left, f_came, f_letters, a_leafSet, a_oneSet, a_twoSet, a_finalSet, a_top, a_first, a_second, a_sizes, a_stack, a_todo, a_written, a_numbers, a_ways, a_counts, a_all, wt, upd a_wanted (l + 1) (nI (n - 1 - i)), upd (upd a_phase l (nI 3)) (l + 1) (nI 0), a_split, upd a_done l (nI c), a_spelled)) : wpX_work post (f_made, f_height, f_known, f_level, f_left, f_came, f_letters, a_leafSet, a_oneSet, a_twoSet, a_finalSet, a_top, a_first, a_second, a_sizes, a_stack, a_todo, a_written, a_numbers, a_ways, a_counts, a_all, a_weight, a_wanted, a_phase, a_split, a_done, a_spelled) := by
  have il : vp_in (nI l) 8 := vp_in_nI (by omega) (by omega)
  have cl : (nI l).toNatClampNeg = l := nI_clamp (by omega)
  subst el ec
  unfold wpX_work
  dsimp only
  rw [cl, hph, hwa, hsp, tn_ns2 (by omega)]
  refine And.intro il (br_f (by decide) (And.intro il (br_f (by decide) (And.intro il (br_t rfl (And.intro il (nm_e (And.intro il (nm_r (congrArg _ (tn_nb (n := 3) (by omega))) (And.intro il (And.intro il ?_)))))))))))
  have e1 : (nI n - 1) - nI i = nI (n - 1 - i) := by rw [tn_1 n (by omega), pk_sub (by omega)]
  exact xs_goToSecond rfl e1 hR hW hG rfl hl (by omega) hc hw hp
theorem xz_work_3 {post : SX → Prop} {l c b : Nat} (hR : tl_rl L O W F) (hW : xr_ar a_twoSet W) (hl : l < 8) (el : f_level = nI l) (ec : f_came = nI c) (hc : c < 256) (hdn : a_done l = nI b) (hb : b < 256) (hph : a_phase l = nI 3)
    (hp : post (f_made, f_height, f_known, nI l - 1, f_left, nI (tl_tp W b c), f_letters, a_leafSet, a_oneSet, a_twoSet, a_finalSet, a_top, a_first, a_second, a_sizes, a_stack, a_todo, a_written, a_numbers, a_ways, a_counts, a_all, a_weight, a_wanted, a_phase, a_split, a_done, a_spelled)) : wpX_work post (f_made, f_height, f_known, f_level, f_left, f_came, f_letters, a_leafSet, a_oneSet, a_twoSet, a_finalSet, a_top, a_first, a_second, a_sizes, a_stack, a_todo, a_written, a_numbers, a_ways, a_counts, a_all, a_weight, a_wanted, a_phase, a_split, a_done, a_spelled) := by
  have il : vp_in (nI l) 8 := vp_in_nI (by omega) (by omega)
  have cl : (nI l).toNatClampNeg = l := nI_clamp (by omega)
  subst el ec
  unfold wpX_work
  dsimp only
  rw [cl, hph, hdn]
  exact And.intro il (br_f (by decide) (And.intro il (br_f (by decide) (And.intro il (br_f (by decide) (And.intro il (xa_twoPair rfl rfl hW hR.2.2.1 (by omega) (by omega) (nm_e hp))))))))
end
def xz_ld (post : Int32 → SX → Prop) (M : Nat) (x : Int32) (u : SX) : Prop := match u with
  | (f_made, f_height, f_known, f_level, f_left, f_came, f_letters, a_leafSet, a_oneSet, a_twoSet, a_finalSet, a_top, a_first, a_second, a_sizes, a_stack, a_todo, a_written, a_numbers, a_ways, a_counts, a_all, a_weight, a_wanted, a_phase, a_split, a_done, a_spelled) => wX_load_112 post M x f_made f_height f_known f_level f_left f_came f_letters a_leafSet a_oneSet a_twoSet a_finalSet a_top a_first a_second a_sizes a_stack a_todo a_written a_numbers a_ways a_counts a_all a_weight a_wanted a_phase a_split a_done a_spelled
section
variable {f_made f_height f_known f_level f_left f_came f_letters : Int32} {a_leafSet a_oneSet a_twoSet a_finalSet a_top a_first a_second a_sizes a_stack a_todo a_written a_numbers a_ways a_counts a_all a_weight a_wanted a_phase a_split a_done a_spelled : Nat → Int32}
/-- one turn of the loop of steps -/
theorem xz_step {post : Int32 → SX → Prop} {l st M : Nat} (hl : l < 8) (hst : st < 64) (el : f_level = nI l)
    (hp : ∀ Q : SX → Prop, (∀ u', xz_ld post M (nI (st + 1)) u' → Q u') → wpX_work Q (f_made, f_height, f_known, f_level, f_left, f_came, f_letters, a_leafSet, a_oneSet, a_twoSet, a_finalSet, a_top, a_first, a_second, a_sizes, a_stack, a_todo, a_written, a_numbers, a_ways, a_counts, a_all, a_weight, a_wanted, a_phase, a_split, a_done, a_spelled)) : wX_load_112 post (M + 1) (nI st) f_made f_height f_known f_level f_left f_came f_letters a_leafSet a_oneSet a_twoSet a_finalSet a_top a_first a_second a_sizes a_stack a_todo a_written a_numbers a_ways a_counts a_all a_weight a_wanted a_phase a_split a_done a_spelled := by
  subst el
  refine br_f (nI_ge (b := 64) (by omega) (by decide)) (br_f (nI_pos (by omega)) (hp _ ?_))
  intro u' hu
  obtain ⟨f_made, f_height, f_known, f_level, f_left, f_came, f_letters, a_leafSet, a_oneSet, a_twoSet, a_finalSet, a_top, a_first, a_second, a_sizes, a_stack, a_todo, a_written, a_numbers, a_ways, a_counts, a_all, a_weight, a_wanted, a_phase, a_split, a_done, a_spelled⟩ := u'
  exact nm_r (nI_1 st) hu
end
end
section
/-! the component: the search finds the tree that the number falls on -/
def tl_st : tl_T → Nat
  | .num _ => 1
  | .mulL _ t => 2 + tl_st t
  | .add t u => 3 + tl_st t + tl_st u
  | .var _ => 1
  | .mulR _ _ => 1
theorem tl_st_le (t : tl_T) : tl_st t ≤ 3 * tl_sz t := by
  induction t with
  | num c => simp only [tl_st, tl_sz]; omega
  | var i => simp only [tl_st, tl_sz]; omega
  | add t u h1 h2 => simp only [tl_st, tl_sz]; omega
  | mulL k t h => simp only [tl_st, tl_sz]; omega
  | mulR t k h => simp only [tl_st, tl_sz]; omega
def xz_fr (l : Nat) (wt wa ph sp dn wt' wa' ph' sp' dn' : Nat → Int32) : Prop :=
  (∀ j, j < 256 * l → wt' j = wt j) ∧ (∀ j, j < l → wa' j = wa j) ∧ (∀ j, j < l → ph' j = ph j) ∧ (∀ j, j < l → sp' j = sp j) ∧ (∀ j, j < l → dn' j = dn j)
def xz_sl (k : Nat) (spd spd' : Nat → Int32) (wo : List Nat) : Prop := (∀ i, i < k → spd' i = spd i) ∧ (∀ i, i < wo.length → spd' (k + i) = nI (wo.getD i 0))
theorem xz_sl_cons {k x : Nat} {spd spd' : Nat → Int32} {wo : List Nat} (h : xz_sl (k + 1) (upd spd k (nI x)) spd' wo) : xz_sl k spd spd' (x :: wo) := by
  refine ⟨fun i hi => by rw [h.1 i (by omega), pk_un (by omega)], fun i hi => ?_⟩
  cases i with
  | zero => rw [Nat.add_zero, h.1 k (by omega), pk_us]; rfl
  | succ i =>
    have := h.2 i (by simpa using hi)
    rw [show k + (i + 1) = k + 1 + i by omega, this]; rfl
theorem xz_sl_app {k k2 : Nat} {spd spd1 spd2 : Nat → Int32} {wo wo2 : List Nat} (h : xz_sl k spd spd1 wo) (hk : k2 = k + wo.length) (h2 : xz_sl k2 spd1 spd2 wo2) : xz_sl k spd spd2 (wo ++ wo2) := by
  subst hk
  refine ⟨fun i hi => by rw [h2.1 i (by omega), h.1 i hi], fun i hi => ?_⟩
  rw [List.length_append] at hi
  by_cases e : i < wo.length
  · rw [h2.1 _ (by omega), h.2 i e, List.getD_eq_getElem?_getD, List.getD_eq_getElem?_getD, List.getElem?_append_left e]
  · have := h2.2 (i - wo.length) (by omega)
    rw [show k + wo.length + (i - wo.length) = k + i by omega] at this
    rw [this, List.getD_eq_getElem?_getD, List.getD_eq_getElem?_getD, List.getElem?_append_right (by omega)]
section
variable {L O W F : Nat → Nat}
theorem tl_cn_pos {n : Nat} {t : tl_T} (ht : t ∈ tl_tr n) : 0 < tl_cn L O W n (tl_p L O W t) := tl_ct_pos ht
variable {f_made f_height f_known f_level f_left f_came f_letters : Int32} {a_leafSet a_oneSet a_twoSet a_finalSet a_top a_first a_second a_sizes a_stack a_todo a_written a_numbers a_ways a_counts a_all a_weight a_wanted a_phase a_split a_done a_spelled : Nat → Int32}
theorem xz_SP (hR : tl_rl L O W F) (hL : xr_ar a_leafSet L) (hO : xr_ar a_oneSet O) (hW : xr_ar a_twoSet W) (hG : xr_GC L O W a_counts) : ∀ B n, n < B → 1 ≤ n → n ≤ 7 → ∀ (w : Nat → Nat) (k : Nat),
    k < tl_ws (tl_tr n) (fun t => w (tl_p L O W t)) → tl_ws (tl_tr n) (fun t => w (tl_p L O W t)) < 2 ^ 31 → ∃ t k', tl_sel (tl_tr n) (fun t => w (tl_p L O W t)) k t k' ∧
    ∀ (l lt : Nat) (came : Int32) (wt wa ph sp dn spd : Nat → Int32), l + n ≤ 7 → lt + n ≤ 12 → (∀ p, p < 256 → wt (256 * l + p) = nI (w p)) → wa l = nI n → ph l = nI 0 →
    ∀ (post : Int32 → SX → Prop) (M st : Nat), st + tl_st t ≤ 64 →
    (∀ wt' wa' ph' sp' dn' spd', xz_fr l wt wa ph sp dn wt' wa' ph' sp' dn' → xz_sl lt spd spd' (tl_wd t) →
      wX_load_112 post M (nI (st + tl_st t)) f_made f_height f_known (nI l - 1) (nI k') (nI (tl_p L O W t)) (nI (lt + n)) a_leafSet a_oneSet a_twoSet a_finalSet a_top a_first a_second a_sizes a_stack a_todo a_written a_numbers a_ways a_counts a_all wt' wa' ph' sp' dn' spd') →
    wX_load_112 post (M + tl_st t) (nI st) f_made f_height f_known (nI l) (nI k) came (nI lt) a_leafSet a_oneSet a_twoSet a_finalSet a_top a_first a_second a_sizes a_stack a_todo a_written a_numbers a_ways a_counts a_all wt wa ph sp dn spd := by
  intro B
  induction B with
  | zero => intro n h; omega
  | succ B ih =>
    intro n hnB h1 h7 w k hk hS
    by_cases hn1 : n = 1
    · subst hn1
      rw [tl_tr_1] at hk hS ⊢
      simp only [tl_ws_cons, tl_ws_nil, tl_p_num] at hk hS
      by_cases hc : k < w (tl_lp L 0)
      · refine ⟨.num 0, k, ⟨[], [.num 1], rfl, by rw [tl_ws_nil]; omega, by show k < w (tl_p L O W (.num 0)); rw [tl_p_num]; exact hc⟩, ?_⟩
        intro l lt came wt wa ph sp dn spd hl hlt hw hwa hph post M st hst K
        have hst' : st + 1 ≤ 64 := hst
        refine xz_step (l := l) (M := M) (by omega) (by omega) rfl (fun Q hQ => xz_work_leaf (by omega) rfl hph hwa (xz_leaf hR hL (by omega) (by omega) hw (by omega) (by omega) (fun _ => hQ _ ?_) (fun h => absurd hc (by omega))))
        have := K wt wa ph sp dn (upd spd lt (nI 0)) ⟨fun _ _ => rfl, fun _ _ => rfl, fun _ _ => rfl, fun _ _ => rfl, fun _ _ => rfl⟩ (xz_sl_cons (wo := []) ⟨fun _ _ => rfl, fun i hi => absurd hi (Nat.not_lt_zero i)⟩)
        rw [tl_p_num] at this
        exact this
      · refine ⟨.num 1, k - w (tl_lp L 0), ⟨[.num 0], [], rfl, by simp only [tl_ws_cons, tl_ws_nil, tl_p_num]; omega, by show _ < w (tl_p L O W (.num 1)); rw [tl_p_num]; omega⟩, ?_⟩
        intro l lt came wt wa ph sp dn spd hl hlt hw hwa hph post M st hst K
        have hst' : st + 1 ≤ 64 := hst
        refine xz_step (l := l) (M := M) (by omega) (by omega) rfl (fun Q hQ => xz_work_leaf (by omega) rfl hph hwa (xz_leaf hR hL (by omega) (by omega) hw (by omega) (by omega) (fun h => absurd h hc) (fun _ => hQ _ ?_)))
        have := K wt wa ph sp dn (upd spd lt (nI 1)) ⟨fun _ _ => rfl, fun _ _ => rfl, fun _ _ => rfl, fun _ _ => rfl, fun _ _ => rfl⟩ (xz_sl_cons (wo := []) ⟨fun _ _ => rfl, fun i hi => absurd hi (Nat.not_lt_zero i)⟩)
        rw [tl_p_num] at this
        exact this
    have h2 : 2 ≤ n := by omega
    have eT := tl_tr_eq h2 h7
    have eS : tl_ws (tl_tr n) (fun t => w (tl_p L O W t)) = tl_ws ((tl_tr (n - 1)).map (fun t => .mulL 0 t)) (fun t => w (tl_p L O W t)) + tl_ws (tl_ps tl_tr n (n - 1)) (fun t => w (tl_p L O W t)) := by
      rw [eT, tl_ws_app]
    by_cases hc : k < tl_ws ((tl_tr (n - 1)).map (fun t => .mulL 0 t)) (fun t => w (tl_p L O W t))
    · have eW : tl_ws (tl_tr (n - 1)) (fun t => (fun p => if 0 < tl_cn L O W (n - 1) p then w (tl_op O p) else 0) (tl_p L O W t)) = tl_ws ((tl_tr (n - 1)).map (fun t => .mulL 0 t)) (fun t => w (tl_p L O W t)) := by
        rw [tl_ws_map]
        exact tl_ws_congr (fun t ht => by dsimp only; rw [if_pos (tl_cn_pos ht), tl_p_one hR])
      obtain ⟨t, k', hsel, run⟩ := ih (n - 1) (by omega) (by omega) (by omega) (fun p => if 0 < tl_cn L O W (n - 1) p then w (tl_op O p) else 0) k (by rw [eW]; exact hc) (by rw [eW]; omega)
      refine ⟨.mulL 0 t, k', ?_, ?_⟩
      · rw [eT]
        refine tl_sel_l (tl_sel_map (c := fun t => .mulL 0 t) (tl_sel_congr ?_ hsel))
        intro u hu
        rw [if_pos (tl_cn_pos hu), tl_p_one hR]
      intro l lt came wt wa ph sp dn spd hl hlt hw hwa hph post M st hst K
      simp only [tl_st] at hst K ⊢
      have e1 : M + (2 + tl_st t) = (M + 1 + tl_st t) + 1 := by omega
      rw [e1]
      refine xz_step (l := l) (by omega) (by omega) rfl (fun Q hQ => xz_work_top (by omega) rfl hph hwa h2 h7 (xz_topOne hR hO hG (by omega) (by omega) h2 h7 hw hwa (by omega) hc (fun wt1 g1 g2 => hQ _ ?_)))
      refine run (l + 1) (lt + 1) came wt1 (upd wa (l + 1) (nI (n - 1))) (upd (upd ph l (nI 1)) (l + 1) (nI 0)) sp dn (upd spd lt (nI 2)) (by omega) (by omega) g2 pk_us pk_us post (M + 1) (st + 1) (by omega) ?_
      intro wt' wa' ph' sp' dn' spd' hfr hsl
      rw [nI_pred]
      refine xz_step (l := l) (by omega) (by omega) rfl (fun Q hQ => xz_work_1 hR hO (by omega) rfl rfl (tl_p_lt hR t) ?_ (hQ _ ?_))
      · rw [hfr.2.2.1 l (by omega), pk_un (by omega), pk_us]
      · have := K wt' wa' ph' sp' dn' spd' ⟨fun j hj => by rw [hfr.1 j (by omega), g1 j (by omega)], fun j hj => by rw [hfr.2.1 j (by omega), pk_un (by omega)], fun j hj => by rw [hfr.2.2.1 j (by omega), pk_un (by omega), pk_un (by omega)], fun j hj => hfr.2.2.2.1 j (by omega), fun j hj => hfr.2.2.2.2 j (by omega)⟩ (xz_sl_cons hsl)
        rw [tl_p_one hR, show st + (2 + tl_st t) = st + 1 + tl_st t + 1 by omega, show lt + n = lt + 1 + (n - 1) by omega] at this
        exact this
    · have hk2 : k - tl_ws ((tl_tr (n - 1)).map (fun t => .mulL 0 t)) (fun t => w (tl_p L O W t)) < tl_ws (tl_ps tl_tr n (n - 1)) (fun t => w (tl_p L O W t)) := by omega
      obtain ⟨i, k2, hi1, hi2, ek2, hk2'⟩ := tl_ps_find hk2
      have hmono := tl_psw_mono n (fun t => w (tl_p L O W t)) (show i + 1 ≤ n - 1 by omega)
      rw [tl_psw_s] at hmono
      have eW : tl_ws (tl_tr i) (fun t => (fun p => if 0 < tl_cn L O W i p then tl_bs L O W w p (n - 1 - i) else 0) (tl_p L O W t)) = tl_ws (tl_pr (tl_tr i) (tl_tr (n - 1 - i))) (fun t => w (tl_p L O W t)) := by
        rw [tl_ws_pr]
        refine tl_ws_congr (fun t ht => ?_)
        dsimp only
        rw [if_pos (tl_cn_pos ht)]
        exact tl_ws_congr (fun u _ => by rw [tl_p_two hR])
      obtain ⟨t1, k1, hsel1, run1⟩ := ih i (by omega) hi1 (by omega) (fun p => if 0 < tl_cn L O W i p then tl_bs L O W w p (n - 1 - i) else 0) k2 (by rw [eW]; exact hk2') (by rw [eW]; omega)
      have hm1 := tl_sel_mem hsel1
      have hk1 : k1 < tl_bs L O W w (tl_p L O W t1) (n - 1 - i) := by
        obtain ⟨_, _, _, _, hh⟩ := hsel1
        dsimp only at hh
        rw [if_pos (tl_cn_pos hm1)] at hh
        exact hh
      have hb1 : tl_bs L O W w (tl_p L O W t1) (n - 1 - i) ≤ tl_ws (tl_pr (tl_tr i) (tl_tr (n - 1 - i))) (fun t => w (tl_p L O W t)) := by
        rw [← eW]
        have := tl_ws_mem (f := fun t => (fun p => if 0 < tl_cn L O W i p then tl_bs L O W w p (n - 1 - i) else 0) (tl_p L O W t)) hm1
        dsimp only at this
        rw [if_pos (tl_cn_pos hm1)] at this
        exact this
      have eW2 : tl_ws (tl_tr (n - 1 - i)) (fun t => (fun p => if 0 < tl_cn L O W (n - 1 - i) p then w (tl_tp W (tl_p L O W t1) p) else 0) (tl_p L O W t)) = tl_bs L O W w (tl_p L O W t1) (n - 1 - i) :=
        tl_ws_congr (fun u hu => by dsimp only; rw [if_pos (tl_cn_pos hu)])
      obtain ⟨t2, k', hsel2, run2⟩ := ih (n - 1 - i) (by omega) (by omega) (by omega) (fun p => if 0 < tl_cn L O W (n - 1 - i) p then w (tl_tp W (tl_p L O W t1) p) else 0) k1 (by rw [eW2]; exact hk1) (by rw [eW2]; omega)
      refine ⟨.add t1 t2, k', ?_, ?_⟩
      · have ek : k = tl_ws ((tl_tr (n - 1)).map (fun t => .mulL 0 t)) (fun t => w (tl_p L O W t)) + (tl_ws (tl_ps tl_tr n i) (fun t => w (tl_p L O W t)) + k2) := by omega
        rw [eT, ek]
        refine tl_sel_r (tl_sel_ps hi2 (tl_sel_pr (tl_sel_congr (fun t ht => ?_) hsel1) (tl_sel_congr (fun u hu => ?_) hsel2)))
        · rw [if_pos (tl_cn_pos ht)]
          exact tl_ws_congr (fun u _ => by rw [tl_p_two hR])
        · rw [if_pos (tl_cn_pos hu), tl_p_two hR]
      intro l lt came wt wa ph sp dn spd hl hlt hw hwa hph post M st hst K
      have hz1 : tl_sz t1 = i := tl_tr_size (by omega) hm1
      simp only [tl_st] at hst K ⊢
      have e1 : M + (3 + tl_st t1 + tl_st t2) = (((M + 1) + tl_st t2) + 1 + tl_st t1) + 1 := by omega
      rw [e1]
      refine xz_step (l := l) (by omega) (by omega) rfl (fun Q hQ => xz_work_top (by omega) rfl hph hwa h2 h7 (xz_topTwo (i := i) (k2 := k2) hR hO hW hG (by omega) (by omega) h2 h7 hw hwa hi1 hi2 (by omega) hk2' (by omega) (by omega) (fun wt1 g1 g2 => hQ _ ?_)))
      refine run1 (l + 1) (lt + 1) came wt1 (upd wa (l + 1) (nI i)) (upd (upd ph l (nI 2)) (l + 1) (nI 0)) (upd sp l (nI i)) dn (upd spd lt (nI 3)) (by omega) (by omega) g2 pk_us pk_us post _ (st + 1) (by omega) ?_
      intro wt2 wa2 ph2 sp2 dn2 spd2 hfr hsl
      rw [nI_pred]
      refine xz_step (l := l) (by omega) (by omega) rfl (fun Q hQ => xz_work_2 (n := n) (i := i) (w := w) hR hW hG (by omega) rfl rfl (tl_p_lt hR t1) ?_ ?_ ?_ h7 (by omega) ?_ (fun wt3 g3 g4 => hQ _ ?_))
      · rw [hfr.2.2.1 l (by omega), pk_un (by omega), pk_us]
      · rw [hfr.2.1 l (by omega), pk_un (by omega), hwa]
      · rw [hfr.2.2.2.1 l (by omega), pk_us]
      · intro p hp
        rw [hfr.1 _ (by omega), g1 _ (by omega), hw p hp]
      refine run2 (l + 1) (lt + 1 + i) _ wt3 (upd wa2 (l + 1) (nI (n - 1 - i))) (upd (upd ph2 l (nI 3)) (l + 1) (nI 0)) sp2 (upd dn2 l (nI (tl_p L O W t1))) spd2 (by omega) (by omega) g4 pk_us pk_us post (M + 1) (st + 1 + tl_st t1 + 1) (by omega) ?_
      intro wt4 wa4 ph4 sp4 dn4 spd4 hfr4 hsl4
      rw [nI_pred]
      refine xz_step (l := l) (by omega) (by omega) rfl (fun Q hQ => xz_work_3 (b := tl_p L O W t1) hR hW (by omega) rfl rfl (tl_p_lt hR t2) ?_ (tl_p_lt hR t1) ?_ (hQ _ ?_))
      · rw [hfr4.2.2.2.2 l (by omega), pk_us]
      · rw [hfr4.2.2.1 l (by omega), pk_un (by omega), pk_us]
      · have := K wt4 wa4 ph4 sp4 dn4 spd4
          ⟨fun j hj => by rw [hfr4.1 j (by omega), g3 j (by omega), hfr.1 j (by omega), g1 j (by omega)],
           fun j hj => by rw [hfr4.2.1 j (by omega), pk_un (by omega), hfr.2.1 j (by omega), pk_un (by omega)],
           fun j hj => by rw [hfr4.2.2.1 j (by omega), pk_un (by omega), pk_un (by omega), hfr.2.2.1 j (by omega), pk_un (by omega), pk_un (by omega)],
           fun j hj => by rw [hfr4.2.2.2.1 j (by omega), hfr.2.2.2.1 j (by omega), pk_un (by omega)],
           fun j hj => by rw [hfr4.2.2.2.2 j (by omega), pk_un (by omega), hfr.2.2.2.2 j (by omega)]⟩
          (xz_sl_cons (xz_sl_app hsl (by rw [tl_wdl, hz1]) hsl4))
        rw [tl_p_two hR, show st + (3 + tl_st t1 + tl_st t2) = st + 1 + tl_st t1 + 1 + tl_st t2 + 1 by omega, show lt + n = lt + 1 + i + (n - 1 - i) by omega] at this
        exact this
end
end
section
/-! the component: taking over what was spelled; load; the constructor -/
def tl_ok : tl_T → Prop
  | .num c => c < 2
  | .mulL k t => k = 0 ∧ tl_ok t
  | .add t u => tl_ok t ∧ tl_ok u
  | .var _ => False
  | .mulR _ _ => False
theorem tl_tr_okk : ∀ N n : Nat, n < N → n ≤ 7 → ∀ t, t ∈ tl_tr n → tl_ok t := by
  intro N
  induction N with
  | zero => intro n h; omega
  | succ N ih =>
    intro n hn h7 t ht
    by_cases h0 : n = 0
    · subst h0; rw [tl_tr_0] at ht; exact absurd ht (List.not_mem_nil)
    by_cases h1 : n = 1
    · subst h1; rw [tl_tr_1] at ht
      simp only [List.mem_cons, List.not_mem_nil, or_false] at ht
      rcases ht with rfl | rfl
      · show 0 < 2; decide
      · show 1 < 2; decide
    rw [tl_tr_eq (by omega) h7, List.mem_append] at ht
    rcases ht with ht | ht
    · obtain ⟨u, hu, rfl⟩ := List.mem_map.mp ht
      exact ⟨rfl, ih (n - 1) (by omega) (by omega) u hu⟩
    · obtain ⟨i, hi, hp⟩ := tl_mem_ps ht
      obtain ⟨x, hx, y, hy, rfl⟩ := tl_mem_pr.mp hp
      exact ⟨ih i (by omega) (by omega) x hx, ih (n - 1 - i) (by omega) (by omega) y hy⟩
theorem tl_tr_ok {n : Nat} (h7 : n ≤ 7) {t : tl_T} (ht : t ∈ tl_tr n) : tl_ok t := tl_tr_okk (n + 1) n (by omega) h7 t ht
theorem xr_P_congr {τ : Nat → tl_T} {h : Nat} {s s' : Nat → tl_T} {m : Nat} {ta tb tc td te : Nat → Int32} (P : xr_P τ h s m ta tb tc td te) (e : ∀ i, i < h → s' i = s i) : xr_P τ h s' m ta tb tc td te :=
  ⟨P.1, fun i hi => by rw [e i hi]; exact P.2 i hi⟩
theorem tl_sk_push {h : Nat} {s : Nat → tl_T} {m : Nat} (K : tl_sk h s m) {t : tl_T} (hm : m + tl_sz t ≤ 12) : tl_sk (h + 1) (tl_put s h t) (m + tl_sz t) :=
  ⟨by rw [tl_sk_put, K.1], hm⟩
theorem xo_m1 (x : Int32) : x + (-1) = x - 1 := by rw [Int32.sub_eq_add_neg]
section
variable {f_made f_height f_known f_level f_left f_came f_letters : Int32} {a_leafSet a_oneSet a_twoSet a_finalSet a_top a_first a_second a_sizes a_stack a_todo a_written a_numbers a_ways a_counts a_all a_weight a_wanted a_phase a_split a_done a_spelled : Nat → Int32}
theorem xo_TK {post : SX → Prop} : ∀ t, tl_ok t → ∀ (a N h m : Nat) (s τ : Nat → tl_T) (ta tb tc td te : Nat → Int32), (∀ i, i < tl_sz t → a_spelled (a + i) = nI ((tl_wd t).getD i 0)) → a + tl_sz t ≤ 12 →
    xr_P τ h s m ta tb tc td te → tl_sk h s m → m + tl_sz t ≤ 12 →
    (∀ ta' tb' tc' td' te' τ', xr_P τ' (h + 1) (tl_put s h t) (m + tl_sz t) ta' tb' tc' td' te' → wX_takeOver_12 post N (nI a - 1) (nI (m + tl_sz t)) (nI (h + 1)) f_known f_level f_left f_came f_letters a_leafSet a_oneSet a_twoSet a_finalSet ta' tb' tc' td' te' a_todo a_written a_numbers a_ways a_counts a_all a_weight a_wanted a_phase a_split a_done a_spelled) →
    wX_takeOver_12 post (N + tl_sz t) (nI (a + tl_sz t) - 1) (nI m) (nI h) f_known f_level f_left f_came f_letters a_leafSet a_oneSet a_twoSet a_finalSet ta tb tc td te a_todo a_written a_numbers a_ways a_counts a_all a_weight a_wanted a_phase a_split a_done a_spelled := by
  intro t
  induction t with
  | var i => intro ok; exact absurd ok (fun z => z)
  | mulR t k ih => intro ok; exact absurd ok (fun z => z)
  | num c =>
    intro ok a N h m s τ ta tb tc td te hsp ha P K hm hp
    have ok' : c < 2 := ok
    simp only [tl_sz] at ha hm hp hsp ⊢
    have e0 : a_spelled a = nI c := hsp 0 (by omega)
    rw [nI_pred]
    refine br_f (nI_pos (by omega)) (And.intro (vp_in_nI (by omega) (by omega)) ?_)
    rw [nI_clamp (n := a) (by omega)]
    refine nm_r e0 (br_f (fun z => ?_) ?_)
    · have := (nI_eq (b := 3) (by omega) (by decide)).mp z; omega
    · unfold wX_takeOver_74
      refine br_f (nI_ge (b := 2) (by omega) (by decide)) ?_
      unfold wX_takeOver_88
      refine xm_0 rfl rfl P K (by omega) ok' rfl rfl (fun ta' tb' tc' td' te' τ' Q => ?_)
      refine nm_r (xo_m1 _) ?_
      exact hp _ _ _ _ _ _ Q
  | mulL k t ih =>
    intro ok a N h m s τ ta tb tc td te hsp ha P K hm hp
    obtain ⟨rfl, ok'⟩ := ok
    simp only [tl_sz] at ha hm hp hsp ⊢
    have e0 : a_spelled a = nI 2 := hsp 0 (by omega)
    rw [show N + (1 + tl_sz t) = (N + 1) + tl_sz t by omega, show a + (1 + tl_sz t) = (a + 1) + tl_sz t by omega]
    refine ih ok' (a + 1) (N + 1) h m s τ ta tb tc td te (fun i hi => ?_) (by omega) P K (by omega) ?_
    · have := hsp (i + 1) (by omega)
      rw [show a + (i + 1) = a + 1 + i by omega] at this
      exact this
    · intro ta' tb' tc' td' te' τ' P'
      have K' := tl_sk_push K (t := t) (by omega)
      rw [nI_pred]
      refine br_f (nI_pos (by omega)) (And.intro (vp_in_nI (by omega) (by omega)) ?_)
      rw [nI_clamp (n := a) (by omega)]
      refine nm_r e0 (br_f (by decide) ?_)
      unfold wX_takeOver_74
      refine br_t (by decide) ?_
      unfold wX_takeOver_88
      refine xm_1 rfl rfl P' K' (by omega) (by omega) rfl rfl (fun ta' tb' tc' td' te' τ' Q => ?_)
      refine nm_r (xo_m1 _) ?_
      rw [Nat.add_sub_cancel, tl_put_s] at Q
      rw [show m + (1 + tl_sz t) = m + tl_sz t + 1 by omega] at hp
      refine hp _ _ _ _ _ _ (xr_P_congr Q (fun i hi => ?_))
      by_cases e : i = h
      · subst e; rw [tl_put_s, tl_put_s]
      · rw [tl_put_n e, tl_put_n e, tl_put_n e]
  | add t u ih1 ih2 =>
    intro ok a N h m s τ ta tb tc td te hsp ha P K hm hp
    simp only [tl_sz] at ha hm hp hsp ⊢
    have e0 : a_spelled a = nI 3 := hsp 0 (by omega)
    have hwt := tl_wdl t
    rw [show N + (1 + tl_sz t + tl_sz u) = ((N + 1) + tl_sz t) + tl_sz u by omega, show a + (1 + tl_sz t + tl_sz u) = (a + 1 + tl_sz t) + tl_sz u by omega]
    refine ih2 ok.2 (a + 1 + tl_sz t) (N + 1 + tl_sz t) h m s τ ta tb tc td te (fun i hi => ?_) (by omega) P K (by omega) ?_
    · have := hsp (tl_sz t + i + 1) (by omega)
      rw [show a + (tl_sz t + i + 1) = a + 1 + tl_sz t + i by omega] at this
      rw [this]
      simp only [tl_wd, List.getD_cons_succ]
      rw [List.getD_eq_getElem?_getD, List.getD_eq_getElem?_getD, List.getElem?_append_right (by omega), hwt, Nat.add_sub_cancel_left]
    · intro ta1 tb1 tc1 td1 te1 τ1 P1
      have K1 := tl_sk_push K (t := u) (by omega)
      refine ih1 ok.1 (a + 1) (N + 1) (h + 1) (m + tl_sz u) (tl_put s h u) τ1 ta1 tb1 tc1 td1 te1 (fun i hi => ?_) (by omega) P1 K1 (by omega) ?_
      · have := hsp (i + 1) (by omega)
        rw [show a + (i + 1) = a + 1 + i by omega] at this
        rw [this]
        simp only [tl_wd, List.getD_cons_succ]
        rw [List.getD_eq_getElem?_getD, List.getD_eq_getElem?_getD, List.getElem?_append_left (by omega)]
      · intro ta2 tb2 tc2 td2 te2 τ2 P2
        have K2 := tl_sk_push K1 (t := t) (by omega)
        have hh2 : h + 2 ≤ m + tl_sz u + tl_sz t := by have := @tl_sk_h (h + 1 + 1) (tl_put (tl_put s h u) (h + 1) t); have := K2.1; omega
        obtain ⟨p1, hp1, es1, et1⟩ := P2.2 (h + 1) (by omega)
        obtain ⟨p2, hp2, es2, et2⟩ := P2.2 h (by omega)
        rw [tl_put_s] at et1
        rw [tl_put_n (by omega), tl_put_s] at et2
        rw [nI_pred]
        refine br_f (nI_pos (by omega)) (And.intro (vp_in_nI (by omega) (by omega)) ?_)
        rw [nI_clamp (n := a) (by omega)]
        refine nm_r e0 (br_t rfl ?_)
        have i1 : vp_in (nI (h + 1)) 12 := vp_in_nI (by omega) (by omega)
        have i0 : vp_in (nI h) 12 := vp_in_nI (by omega) (by omega)
        rw [show nI (h + 1 + 1) - 1 = nI (h + 1) from nI_pred _, show nI (h + 1 + 1) - 2 = nI h from tn_2 (h + 2) (by omega), nI_clamp (n := h + 1) (by omega), nI_clamp (n := h) (by omega), es2, tn_nb (n := p2) (by omega)]
        refine And.intro i1 (nm_r es1 (And.intro i0 (And.intro i1 (nm_e (And.intro i0 (nm_r (congrArg _ (tn_nb (n := p1) (by omega))) ?_))))))
        have P3 : xr_P τ2 (h + 1 + 1) (tl_put (tl_put s h t) (h + 1) u) (m + tl_sz u + tl_sz t) ta2 tb2 tc2 td2 (upd (upd te2 (h + 1) (nI p2)) h (nI p1)) := by
          refine ⟨P2.1, fun i hi => ?_⟩
          by_cases e1 : i = h + 1
          · subst e1; exact ⟨p2, hp2, by rw [pk_un (by omega), pk_us], by rw [tl_put_s]; exact et2⟩
          · by_cases e2 : i = h
            · subst e2; exact ⟨p1, hp1, by rw [pk_us], by rw [tl_put_n e1, tl_put_s]; exact et1⟩
            · obtain ⟨p, q1, q2, q3⟩ := P2.2 i hi
              rw [tl_put_n e1, tl_put_n e2] at q3
              exact ⟨p, q1, by rw [pk_un e2, pk_un e1]; exact q2, by rw [tl_put_n e1, tl_put_n e2]; exact q3⟩
        have K3 : tl_sk (h + 1 + 1) (tl_put (tl_put s h t) (h + 1) u) (m + tl_sz u + tl_sz t) := by
          have := tl_sk_push (tl_sk_push K (t := t) (by omega)) (t := u) (by omega)
          rw [show m + tl_sz u + tl_sz t = m + tl_sz t + tl_sz u by omega]
          exact this
        unfold wX_takeOver_74
        refine br_t (by decide) ?_
        unfold wX_takeOver_88
        refine xm_2 rfl rfl P3 K3 (by omega) (by omega) rfl rfl (fun ta' tb' tc' td' te' τ' Q => ?_)
        refine nm_r (xo_m1 _) ?_
        rw [show h + 1 + 1 - 1 = h + 1 from rfl, show h + 1 + 1 - 2 = h from rfl, tl_put_s, tl_put_n (by omega), tl_put_s] at Q
        rw [show m + (1 + tl_sz t + tl_sz u) = m + tl_sz u + tl_sz t + 1 by omega] at hp
        refine hp _ _ _ _ _ _ (xr_P_congr Q (fun i hi => ?_))
        by_cases e : i = h
        · subst e; rw [tl_put_s, tl_put_s]
        · rw [tl_put_n e, tl_put_n e, tl_put_n (by omega), tl_put_n e]
end
section
variable {L O W F : Nat → Nat} {h m : Nat} {s : Nat → tl_T}
variable {f_made f_height f_known f_level f_left f_came f_letters : Int32} {a_leafSet a_oneSet a_twoSet a_finalSet a_top a_first a_second a_sizes a_stack a_todo a_written a_numbers a_ways a_counts a_all a_weight a_wanted a_phase a_split a_done a_spelled : Nat → Int32}
theorem xo_136 {post : Int32 → SX → Prop} {n : Nat} {t : tl_T} (R : xr_R L O W F h s m (f_made, f_height, f_known, f_level, f_left, f_came, f_letters, a_leafSet, a_oneSet, a_twoSet, a_finalSet, a_top, a_first, a_second, a_sizes, a_stack, a_todo, a_written, a_numbers, a_ways, a_counts, a_all, a_weight, a_wanted, a_phase, a_split, a_done, a_spelled)) (hn : n ≤ 7) (ht : t ∈ tl_tr n) (el : f_letters = nI n) (hsp : ∀ i, i < n → a_spelled i = nI ((tl_wd t).getD i 0))
    (hp : ∀ u', xr_R L O W F 1 (tl_put s 0 t) n u' → post 0 u') : wX_load_136 post f_made f_height f_known f_level f_left f_came f_letters a_leafSet a_oneSet a_twoSet a_finalSet a_top a_first a_second a_sizes a_stack a_todo a_written a_numbers a_ways a_counts a_all a_weight a_wanted a_phase a_split a_done a_spelled := by
  obtain ⟨e1, e2, e3, e4, e5, e6, e7, e8, τ, P⟩ := R
  subst el
  have hz := tl_tr_size hn ht
  unfold wX_load_136 wpX_takeOver wpX_discard
  dsimp only
  refine nm_e ?_
  have := xo_TK (post := fun u => match u with | (f_made, f_height, f_known, f_level, f_left, f_came, f_letters, a_leafSet, a_oneSet, a_twoSet, a_finalSet, a_top, a_first, a_second, a_sizes, a_stack, a_todo, a_written, a_numbers, a_ways, a_counts, a_all, a_weight, a_wanted, a_phase, a_split, a_done, a_spelled) => post 0 (f_made, f_height, f_known, f_level, f_left, f_came, f_letters, a_leafSet, a_oneSet, a_twoSet, a_finalSet, a_top, a_first, a_second, a_sizes, a_stack, a_todo, a_written, a_numbers, a_ways, a_counts, a_all, a_weight, a_wanted, a_phase, a_split, a_done, a_spelled)) (f_known := f_known) (f_level := f_level) (f_left := f_left) (f_came := f_came) (f_letters := nI n) (a_leafSet := a_leafSet) (a_oneSet := a_oneSet) (a_twoSet := a_twoSet) (a_finalSet := a_finalSet) (a_todo := a_todo) (a_written := a_written) (a_numbers := a_numbers) (a_ways := a_ways) (a_counts := a_counts) (a_all := a_all) (a_weight := a_weight) (a_wanted := a_wanted) (a_phase := a_phase) (a_split := a_split) (a_done := a_done) (a_spelled := a_spelled)
    t (tl_tr_ok hn ht) 0 1 0 0 s τ a_top a_first a_second a_sizes a_stack (fun i hi => by rw [Nat.zero_add]; exact hsp i (by omega)) (by omega)
    ⟨fun k hk => absurd hk (Nat.not_lt_zero k), fun k hk => absurd hk (Nat.not_lt_zero k)⟩ ⟨rfl, by omega⟩ (by omega) ?_
  · rw [hz, Nat.zero_add] at this
    exact Exists.intro (1 + n) this
  · intro ta' tb' tc' td' te' τ' Q
    rw [show 0 + tl_sz t = n by omega] at Q ⊢
    refine br_t (by decide) ?_
    exact hp _ ⟨rfl, rfl, e3, e4, e5, e6, e7, e8, τ', Q⟩
theorem xo_49 {post : Int32 → SX → Prop} {kind n k : Nat} (hR : tl_rl L O W F) (R : xr_R L O W F h s m (f_made, f_height, f_known, f_level, f_left, f_came, f_letters, a_leafSet, a_oneSet, a_twoSet, a_finalSet, a_top, a_first, a_second, a_sizes, a_stack, a_todo, a_written, a_numbers, a_ways, a_counts, a_all, a_weight, a_wanted, a_phase, a_split, a_done, a_spelled)) (hG : xr_GC L O W a_counts) (hk7 : kind < 7) (hn1 : 1 ≤ n) (hn : n ≤ 7) (hk : k < tl_nk L O W F kind n)
    (hp : ∀ t, tl_sel (tl_tr n) (fun t => tl_k1 F kind (tl_p L O W t)) k t 0 → ∀ u', xr_R L O W F 1 (tl_put s 0 t) n u' → post 0 u') :
    ∀ d P N wt, P + d = 256 → (∀ p, p < P → wt p = nI (tl_k1 F kind p)) → d < N → wX_load_49 post (nI kind) (nI n) (nI k) f_made f_height f_known f_level f_left f_came f_letters N (nI P) a_leafSet a_oneSet a_twoSet a_finalSet a_top a_first a_second a_sizes a_stack a_todo a_written a_numbers a_ways a_counts a_all wt a_wanted a_phase a_split a_done a_spelled := by
  obtain ⟨e1, e2, e3, e4, e5, e6, e7, e8, e9⟩ := R
  intro d
  induction d with
  | zero =>
    intro P N wt hP hw hN
    obtain ⟨N, rfl⟩ : ∃ k, N = k + 1 := ⟨N - 1, by omega⟩
    obtain rfl : P = 256 := by omega
    refine br_t (by decide) (xs_start (l := 0) rfl (by decide) (by omega) (by omega) ?_)
    have hle := tl_nk_le (L := L) (O := O) (W := W) (F := F) kind n hn
    obtain ⟨t, k', hsel, run⟩ := xz_SP (f_made := f_made) (f_height := f_height) (f_known := f_known) (a_leafSet := a_leafSet) (a_oneSet := a_oneSet) (a_twoSet := a_twoSet) (a_finalSet := a_finalSet) (a_top := a_top) (a_first := a_first) (a_second := a_second) (a_sizes := a_sizes) (a_stack := a_stack) (a_todo := a_todo) (a_written := a_written) (a_numbers := a_numbers) (a_ways := a_ways) (a_counts := a_counts) (a_all := a_all)
      hR e4 e5 e6 hG (n + 1) n (by omega) hn1 hn (tl_k1 F kind) k hk (Nat.lt_of_le_of_lt hle (by decide))
    have hm := tl_sel_mem hsel
    have hk0 : k' = 0 := by
      obtain ⟨_, _, _, _, hh⟩ := hsel
      dsimp only [tl_k1] at hh
      split at hh <;> omega
    subst hk0
    have hst : tl_st t ≤ 21 := by have := tl_st_le t; have := tl_tr_size hn hm; omega
    refine Exists.intro (1 + tl_st t) (run 0 0 _ wt _ _ a_split a_done a_spelled (by omega) (by omega) (fun p hp' => by rw [Nat.mul_zero, Nat.zero_add]; exact hw p hp') pk_us pk_us post 1 0 (by omega) ?_)
    intro wt' wa' ph' sp' dn' spd' _ hsl
    have fin : wX_load_136 post f_made f_height f_known (nI 0 - 1) (nI 0) (nI (tl_p L O W t)) (nI (0 + n)) a_leafSet a_oneSet a_twoSet a_finalSet a_top a_first a_second a_sizes a_stack a_todo a_written a_numbers a_ways a_counts a_all wt' wa' ph' sp' dn' spd' := by
      refine xo_136 (L := L) (O := O) (W := W) (F := F) (h := h) (m := m) (s := s) (n := n) (t := t) ⟨e1, e2, e3, e4, e5, e6, e7, e8, e9⟩ hn hm (by rw [Nat.zero_add]) (fun i hi => ?_) (hp t hsel)
      have := hsl.2 i (by rw [tl_wdl, tl_tr_size hn hm]; exact hi)
      rw [Nat.zero_add] at this
      exact this
    exact br_c (fun _ => fin) (fun _ => br_t (by decide) fin)
  | succ d ih =>
    intro P N wt hP hw hN
    obtain ⟨N, rfl⟩ : ∃ k, N = k + 1 := ⟨N - 1, by omega⟩
    refine br_f (nI_ge (b := 256) (by omega) (by decide)) (xa_isOf rfl rfl e7 hk7 (by omega) ?_)
    have ip : vp_in (nI P) 2048 := vp_in_nI (by omega) (by omega)
    have hw' : ∀ v, nI v = nI (tl_k1 F kind P) → ∀ p, p < P + 1 → upd wt P (nI v) p = nI (tl_k1 F kind p) := by
      intro v hv p hp'
      by_cases e : p = P
      · subst e; rw [pk_us]; exact hv
      · rw [pk_un e]; exact hw p (by omega)
    rw [nI_clamp (n := P) (by omega)]
    by_cases z : tl_is F kind P = true
    · have ek : tl_k1 F kind P = 1 := by unfold tl_k1; rw [if_pos z]
      rw [ek]
      exact br_f (by decide) (And.intro ip (nm_e (nm_r (nI_1 P) (ih (P + 1) N _ (by omega) (hw' 1 (by rw [ek])) (by omega)))))
    · have ek : tl_k1 F kind P = 0 := by unfold tl_k1; rw [if_neg z]
      rw [ek]
      exact br_t rfl (And.intro ip (nm_e (nm_r (nI_1 P) (ih (P + 1) N _ (by omega) (hw' 0 (by rw [ek])) (by omega)))))
end
section
variable {L O W F : Nat → Nat} {h m : Nat} {s : Nat → tl_T}
theorem xt_load {post : Int32 → SX → Prop} {u : SX} {v1 v2 v3 : Int32} (hR : tl_rl L O W F) (R : xr_R L O W F h s m u)
    (hb : (v1 < 0 ∨ 6 < v1) ∨ (v2 < 1 ∨ 7 < v2) → post (-1) u)
    (hn : ∀ kind n, kind < 7 → 1 ≤ n → n ≤ 7 → v1 = nI kind → v2 = nI n → (∀ k, k < tl_nk L O W F kind n → v3 ≠ nI k) → ∀ u', xr_R L O W F h s m u' → post (-4) u')
    (hg : ∀ kind n k t, kind < 7 → 1 ≤ n → n ≤ 7 → v1 = nI kind → v2 = nI n → k < tl_nk L O W F kind n → v3 = nI k → tl_sel (tl_tr n) (fun t => tl_k1 F kind (tl_p L O W t)) k t 0 →
      ∀ u', xr_R L O W F 1 (tl_put s 0 t) n u' → post 0 u') : wpX_load post u v1 v2 v3 := by
  obtain ⟨f_made, f_height, f_known, f_level, f_left, f_came, f_letters, a_leafSet, a_oneSet, a_twoSet, a_finalSet, a_top, a_first, a_second, a_sizes, a_stack, a_todo, a_written, a_numbers, a_ways, a_counts, a_all, a_weight, a_wanted, a_phase, a_split, a_done, a_spelled⟩ := u
  have R0 := R
  obtain ⟨e1, e2, e3, e4, e5, e6, e7, e8, e9⟩ := R
  unfold wpX_load
  dsimp only
  refine xb_kind (fun b => br_f (by decide) (hb (Or.inl b))) (fun kind hk ek => br_t rfl ?_)
  by_cases h1 : v2 < 1
  · exact br_t h1 (hb (Or.inr (Or.inl h1)))
  by_cases h7 : v2 ≤ 7
  · obtain ⟨n, hn7, en⟩ := nI_of2 (M := 7) (n := 7) (by decide) (fun z => h1 (Int32.lt_trans z (by decide))) h7
    have hn1 : 1 ≤ n := by
      rcases Nat.lt_or_ge 0 n with z | z
      · exact z
      · exfalso; apply h1; rw [en]; exact nI_lt (b := 1) (by omega) (by decide)
    refine br_f h1 (br_t h7 (xc_find hR R0 (fun c hG => ?_)))
    dsimp only
    refine xa_countOf ek en (hG n · (by omega)) e7 hk (by omega) ?_
    rw [tl_nk_eq hR]
    have hle := tl_nk_le (L := L) (O := O) (W := W) (F := F) kind n hn7
    have R' : xr_R L O W F h s m (f_made, f_height, 1, f_level, f_left, f_came, f_letters, a_leafSet, a_oneSet, a_twoSet, a_finalSet, a_top, a_first, a_second, a_sizes, a_stack, a_todo, a_written, a_numbers, a_ways, c, a_all, a_weight, a_wanted, a_phase, a_split, a_done, a_spelled) := ⟨e1, e2, Or.inr ⟨rfl, hG⟩, e4, e5, e6, e7, e8, e9⟩
    by_cases h3 : v3 < 0
    · exact br_t h3 (hn kind n hk hn1 hn7 ek en (fun k hk' e => by rw [e] at h3; exact nI_pos (by omega) h3) _ R')
    · obtain ⟨k, hk31, rfl⟩ := nI_of h3
      by_cases hlt : k < tl_nk L O W F kind n
      · refine br_f h3 (br_t (nI_lt hlt (by omega)) ?_)
        rw [ek, en]
        exact Exists.intro 257 (xo_49 hR R' hG hk hn1 hn7 hlt (fun t hsel u' Ru => hg kind n k t hk hn1 hn7 ek en hlt rfl hsel u' Ru) 256 0 257 a_weight rfl (fun p hp' => absurd hp' (Nat.not_lt_zero p)) (by decide))
      · refine br_f h3 (br_f (nI_nlt (by omega) hk31) (hn kind n hk hn1 hn7 ek en (fun j hj e => ?_) _ R'))
        have := (nI_eq hk31 (by omega)).mp e
        omega
  · exact br_f h1 (br_f h7 (hb (Or.inr (Or.inr (Int32.not_le.mp h7)))))
end
section
variable {f_made f_height f_known f_level f_left f_came f_letters : Int32} {a_leafSet a_oneSet a_twoSet a_finalSet a_top a_first a_second a_sizes a_stack a_todo a_written a_numbers a_ways a_counts a_all a_weight a_wanted a_phase a_split a_done a_spelled : Nat → Int32}
theorem xi_198 {post : SX → Prop} {J : Int32 → (Nat → Int32) → (Nat → Int32) → (Nat → Int32) → (Nat → Int32) → (Nat → Int32) → (Nat → Int32) → (Nat → Int32) → (Nat → Int32) → (Nat → Int32) → (Nat → Int32) → (Nat → Int32) → (Nat → Int32) → (Nat → Int32) → (Nat → Int32) → (Nat → Int32) → (Nat → Int32) → (Nat → Int32) → (Nat → Int32) → (Nat → Int32) → (Nat → Int32) → (Nat → Int32) → Prop}
    {n : Nat} (h2 : 2 ≤ n) (hn : n ≤ 12) (hall : ∀ i, i < n → a_all i = nI (tl_tot i))
    (K : J (nI (n + 1)) a_leafSet a_oneSet a_twoSet a_finalSet a_top a_first a_second a_sizes a_stack a_todo a_written a_numbers a_ways a_counts (upd a_all n (nI (tl_tot n))) a_weight a_wanted a_phase a_split a_done a_spelled) :
    ∀ d i N, i + d = n - 1 → 1 ≤ i → d < N → wX_init_198 post J (nI n) f_made f_height f_known f_level f_left f_came f_letters a_leafSet a_oneSet a_twoSet a_finalSet a_top a_first a_second a_sizes a_stack a_todo a_written a_numbers a_ways a_counts a_all a_weight a_wanted a_phase a_split a_done a_spelled N (nI (tl_tot (n - 1) + tl_sm (fun i => tl_tot i * tl_tot (n - 1 - i)) i)) (nI i) := by
  intro d
  induction d with
  | zero =>
    intro i N hi h1 hN
    obtain ⟨N, rfl⟩ : ∃ k, N = k + 1 := ⟨N - 1, by omega⟩
    have : i = n - 1 := by omega
    subst this
    refine br_t (by rw [tn_1 n (by omega)]; exact nI_le (Nat.le_refl _) (by omega)) (And.intro (vp_in_nI (by omega) (by omega)) ?_)
    rw [nI_clamp (n := n) (by omega), ← tl_tot_rec n (by omega) h2]
    exact nm_e (nm_r (nI_1 n) K)
  | succ d ih =>
    intro i N hi h1 hN
    obtain ⟨N, rfl⟩ : ∃ k, N = k + 1 := ⟨N - 1, by omega⟩
    have e1 : (nI n - 1) - nI i = nI (n - 1 - i) := by rw [tn_1 n (by omega), pk_sub (by omega)]
    refine br_f (by rw [tn_1 n (by omega)]; exact nI_ge (by omega) (by omega)) ?_
    rw [e1, nI_clamp (n := i) (by omega), nI_clamp (n := n - 1 - i) (by omega), hall i (by omega), hall (n - 1 - i) (by omega), pk_mul, nI_add]
    refine And.intro (vp_in_nI (by omega) (by omega)) (And.intro (vp_in_nI (by omega) (by omega)) (nm_r (e' := nI (tl_tot (n - 1) + tl_sm (fun i => tl_tot i * tl_tot (n - 1 - i)) (i + 1))) ?_ (nm_r (nI_1 i) (ih (i + 1) N (by omega) (by omega) (by omega)))))
    simp only [tl_sm]; exact congrArg nI (by omega)
theorem xi_181 {post : SX → Prop} (hp : ∀ all, (∀ i, i < 13 → all i = nI (tl_tot i)) → post (f_made, f_height, f_known, f_level, f_left, f_came, f_letters, a_leafSet, a_oneSet, a_twoSet, a_finalSet, a_top, a_first, a_second, a_sizes, a_stack, a_todo, a_written, a_numbers, a_ways, a_counts, all, a_weight, a_wanted, a_phase, a_split, a_done, a_spelled)) :
    ∀ d n N all, n + d = 13 → 2 ≤ n → (∀ i, i < n → all i = nI (tl_tot i)) → d < N → wX_init_181 post f_made f_height f_known f_level f_left f_came f_letters N (nI n) a_leafSet a_oneSet a_twoSet a_finalSet a_top a_first a_second a_sizes a_stack a_todo a_written a_numbers a_ways a_counts all a_weight a_wanted a_phase a_split a_done a_spelled := by
  intro d
  induction d with
  | zero =>
    intro n N all hn h2 hv hN
    obtain ⟨N, rfl⟩ : ∃ k, N = k + 1 := ⟨N - 1, by omega⟩
    obtain rfl : n = 13 := by omega
    exact br_t (by decide) (hp all hv)
  | succ d ih =>
    intro n N all hn h2 hv hN
    obtain ⟨N, rfl⟩ : ∃ k, N = k + 1 := ⟨N - 1, by omega⟩
    refine br_f (nI_nlt (a := 12) (by omega) (by decide)) ?_
    rw [tn_1 n (by omega), nI_clamp (n := n - 1) (by omega), hv (n - 1) (by omega)]
    refine And.intro (vp_in_nI (by omega) (by omega)) (nm_e (Exists.intro 13 ?_))
    have := xi_198 (post := post) (J := wX_init_181 post f_made f_height f_known f_level f_left f_came f_letters N) (a_all := all) (f_made := f_made) (f_height := f_height) (f_known := f_known) (f_level := f_level) (f_left := f_left) (f_came := f_came) (f_letters := f_letters) h2 (by omega) hv (ih (n + 1) N _ (by omega) (by omega) (fun i hi => by
      by_cases e : i = n
      · subst e; rw [pk_us]
      · rw [pk_un e]; exact hv i (by omega)) (by omega)) (n - 2) 1 13 (by omega) (by omega) (by omega)
    have e0 : tl_sm (fun i => tl_tot i * tl_tot (n - 1 - i)) 1 = 0 := by
      simp only [tl_sm]
      rw [show tl_tot 0 = 0 from rfl, Nat.zero_mul]
    rw [e0, Nat.add_zero] at this
    exact this
end
theorem xi_init {post : SX → Prop} (hp : ∀ u, xr_R (fun _ => 0) (fun _ => 0) (fun _ => 0) (fun _ => 0) 0 (fun _ => .num 0) 0 u → post u) : wpX_init post := by
  unfold wpX_init
  refine nm_e (Exists.intro 12 (xi_181 (fun all hv => hp _ ⟨rfl, rfl, Or.inl rfl, fun _ => rfl, fun _ => rfl, fun _ => rfl, fun _ => rfl, hv, fun _ => .num 0, fun k hk => absurd hk (Nat.not_lt_zero k), fun k hk => absurd hk (Nat.not_lt_zero k)⟩) 11 2 12 _ rfl (by omega) (fun i hi => ?_) (by decide)))
  obtain rfl | rfl : i = 0 ∨ i = 1 := by omega
  · rfl
  · rfl
end
section
/-! the reference's side of the relation; ranks; making trees -/
def yr_N (σ : Nat → tl_T) (le fi se sz : Nat → Int32) (j : Nat) : Prop :=
  sz j = nI (tl_sz (σ j)) ∧ tl_sz (σ j) ≤ 12 ∧
  ((∃ c, c < 2 ∧ le j = nI c ∧ fi j = -1 ∧ se j = -1 ∧ σ j = .num c) ∨
   (∃ f, f < j ∧ le j = nI 2 ∧ fi j = nI f ∧ se j = -1 ∧ σ j = .mulL 0 (σ f)) ∨
   (∃ f g, f < j ∧ g < j ∧ le j = nI 3 ∧ fi j = nI f ∧ se j = nI g ∧ σ j = .add (σ f) (σ g)))
theorem yr_N_keep {σ σ' : Nat → tl_T} {le fi se sz le' fi' se' sz' : Nat → Int32} {j : Nat} (N : yr_N σ le fi se sz j) (hσ : ∀ i, i ≤ j → σ' i = σ i) (h1 : le' j = le j) (h2 : fi' j = fi j) (h3 : se' j = se j) (h4 : sz' j = sz j) : yr_N σ' le' fi' se' sz' j := by
  obtain ⟨a, b, c⟩ := N
  refine ⟨by rw [h4, hσ j (Nat.le_refl j)]; exact a, by rw [hσ j (Nat.le_refl j)]; exact b, ?_⟩
  rw [h1, h2, h3, hσ j (Nat.le_refl j)]
  rcases c with c | ⟨f, hf, c1, c2, c3, c4⟩ | ⟨f, g, hf, hg, c1, c2, c3, c4⟩
  · exact Or.inl c
  · exact Or.inr (Or.inl ⟨f, hf, c1, c2, c3, by rw [hσ f (by omega)]; exact c4⟩)
  · exact Or.inr (Or.inr ⟨f, g, hf, hg, c1, c2, c3, by rw [hσ f (by omega), hσ g (by omega)]; exact c4⟩)
/-- a new node -/
theorem yr_N_new {σ : Nat → tl_T} {le fi se sz : Nat → Int32} {M : Nat} {t : tl_T} {x y z : Int32} (hz : tl_sz t ≤ 12)
    (c : (∃ c, c < 2 ∧ x = nI c ∧ y = -1 ∧ z = -1 ∧ t = .num c) ∨ (∃ f, f < M ∧ x = nI 2 ∧ y = nI f ∧ z = -1 ∧ t = .mulL 0 (σ f)) ∨ (∃ f g, f < M ∧ g < M ∧ x = nI 3 ∧ y = nI f ∧ z = nI g ∧ t = .add (σ f) (σ g))) :
    yr_N (tl_put σ M t) (upd le M x) (upd fi M y) (upd se M z) (upd sz M (nI (tl_sz t))) M := by
  refine ⟨by rw [pk_us, tl_put_s], by rw [tl_put_s]; exact hz, ?_⟩
  rw [pk_us, pk_us, pk_us, tl_put_s]
  rcases c with c | ⟨f, hf, c1, c2, c3, c4⟩ | ⟨f, g, hf, hg, c1, c2, c3, c4⟩
  · exact Or.inl c
  · exact Or.inr (Or.inl ⟨f, hf, c1, c2, c3, by rw [tl_put_n (by omega)]; exact c4⟩)
  · exact Or.inr (Or.inr ⟨f, g, hf, hg, c1, c2, c3, by rw [tl_put_n (by omega), tl_put_n (by omega)]; exact c4⟩)
def yr_P (σ : Nat → tl_T) (h : Nat) (s : Nat → tl_T) (M : Nat) (le fi se sz rk st : Nat → Int32) : Prop :=
  (∀ j, j < M → yr_N σ le fi se sz j ∧ rk j = nI (tl_rk (σ j))) ∧ (∀ i, i < h → ∃ p, p < M ∧ st i = nI p ∧ σ p = s i)
theorem yr_push {σ : Nat → tl_T} {h : Nat} {s : Nat → tl_T} {M : Nat} {le fi se sz rk st : Nat → Int32} (P : yr_P σ h s M le fi se sz rk st) {h' : Nat} {t : tl_T} {x y z : Int32} (hh : h' ≤ h) (hz : tl_sz t ≤ 12)
    (c : (∃ c, c < 2 ∧ x = nI c ∧ y = -1 ∧ z = -1 ∧ t = .num c) ∨ (∃ f, f < M ∧ x = nI 2 ∧ y = nI f ∧ z = -1 ∧ t = .mulL 0 (σ f)) ∨ (∃ f g, f < M ∧ g < M ∧ x = nI 3 ∧ y = nI f ∧ z = nI g ∧ t = .add (σ f) (σ g))) :
    yr_P (tl_put σ M t) (h' + 1) (tl_put s h' t) (M + 1) (upd le M x) (upd fi M y) (upd se M z) (upd sz M (nI (tl_sz t))) (upd rk M (nI (tl_rk t))) (upd st h' (nI M)) := by
  refine ⟨fun j hj => ?_, fun i hi => ?_⟩
  · by_cases e : j = M
    · subst e
      exact ⟨yr_N_new hz c, by rw [pk_us, tl_put_s]⟩
    · obtain ⟨N, r⟩ := P.1 j (by omega)
      exact ⟨yr_N_keep N (fun i hi => tl_put_n (by omega)) (pk_un e) (pk_un e) (pk_un e) (pk_un e), by rw [pk_un e, tl_put_n e]; exact r⟩
  · by_cases e : i = h'
    · subst e; exact ⟨M, by omega, pk_us, by rw [tl_put_s, tl_put_s]⟩
    · obtain ⟨p, hp, e1, e2⟩ := P.2 i (by omega)
      exact ⟨p, by omega, by rw [pk_un e]; exact e1, by rw [tl_put_n (by omega), tl_put_n e]; exact e2⟩
def yr_R (L O W F : Nat → Nat) (h : Nat) (s : Nat → tl_T) (m : Nat) (u : SY) : Prop := match u with
  | (f_many, f_made, f_spent, f_depth, a_leaves, a_ones, a_twos, a_ends, a_letters, a_firsts, a_seconds, a_sizes, a_begins, a_totals, a_ranks, a_sets, a_ways, a_marks, a_stack, a_open) => f_many = nI 570 ∧ f_spent = nI m ∧ f_depth = nI h ∧ xr_ar a_leaves L ∧ xr_ar a_ones O ∧ xr_ar a_twos W ∧ xr_ar a_ends F ∧
    (∀ n, n < 9 → a_begins n = nI (tl_bg n)) ∧ (∀ i, i < 13 → a_totals i = nI (tl_tot i)) ∧
    ∃ my σ, my ≤ m ∧ f_made = nI my ∧ (∀ j, j < 570 → σ j = tl_at (tl_al 7) j) ∧ yr_P σ h s (570 + my) a_letters a_firsts a_seconds a_sizes a_ranks a_stack
section
variable {L O W F : Nat → Nat} {h m : Nat} {s : Nat → tl_T} {σ : Nat → tl_T}
variable {f_many f_made f_spent f_depth : Int32} {a_leaves a_ones a_twos a_ends a_letters a_firsts a_seconds a_sizes a_begins a_totals a_ranks a_sets a_ways a_marks a_stack a_open : Nat → Int32}
theorem yk_106 {post : Int32 → Prop} {A B base : Nat} (hn : A + B ≤ 11) (ht : ∀ i, i < 13 → a_totals i = nI (tl_tot i)) (hp : post (nI (base + tl_sm (fun i => tl_tot i * tl_tot (A + B - i)) A))) :
    ∀ d i N, i + d = A → 1 ≤ i → d < N → wY_rankOf_106 post (nI (1 + A + B)) (nI A) f_many f_made f_spent f_depth a_leaves a_ones a_twos a_ends a_letters a_firsts a_seconds a_sizes a_begins a_totals a_ranks a_sets a_ways a_marks a_stack a_open N (nI (base + tl_sm (fun i => tl_tot i * tl_tot (A + B - i)) i)) (nI i) := by
  intro d
  induction d with
  | zero =>
    intro i N hi h1 hN
    obtain ⟨N, rfl⟩ : ∃ k, N = k + 1 := ⟨N - 1, by omega⟩
    have : i = A := by omega
    subst this
    exact br_t (nI_le (Nat.le_refl _) (by omega)) hp
  | succ d ih =>
    intro i N hi h1 hN
    obtain ⟨N, rfl⟩ : ∃ k, N = k + 1 := ⟨N - 1, by omega⟩
    have e1 : (nI (1 + A + B) - 1) - nI i = nI (A + B - i) := by rw [tn_1 _ (by omega), pk_sub (by omega)]; exact congrArg nI (by omega)
    refine br_f (nI_ge (by omega) (by omega)) ?_
    rw [e1, nI_clamp (n := i) (by omega), nI_clamp (n := A + B - i) (by omega), ht i (by omega), ht (A + B - i) (by omega), pk_mul, nI_add]
    refine And.intro (vp_in_nI (by omega) (by omega)) (And.intro (vp_in_nI (by omega) (by omega)) (nm_r (e' := nI (base + tl_sm (fun i => tl_tot i * tl_tot (A + B - i)) (i + 1))) ?_ (nm_r (nI_1 i) (ih (i + 1) N (by omega) (by omega) (by omega)))))
    simp only [tl_sm]; exact congrArg nI (by omega)
theorem yk_rankOf {post : Int32 → Prop} {j : Nat} {x : Int32} (ex : x = nI j) (hj : j < 600) (ht : ∀ i, i < 13 → a_totals i = nI (tl_tot i)) (N : yr_N σ a_letters a_firsts a_seconds a_sizes j)
    (hc : ∀ i, i < j → a_sizes i = nI (tl_sz (σ i)) ∧ a_ranks i = nI (tl_rk (σ i))) (hp : post (nI (tl_rk (σ j)))) : wpY_rankOf post (f_many, f_made, f_spent, f_depth, a_leaves, a_ones, a_twos, a_ends, a_letters, a_firsts, a_seconds, a_sizes, a_begins, a_totals, a_ranks, a_sets, a_ways, a_marks, a_stack, a_open) x := by
  subst ex
  obtain ⟨ez, hz, c⟩ := N
  have ij : vp_in (nI j) 600 := vp_in_nI hj (by omega)
  unfold wpY_rankOf
  dsimp only
  rw [nI_clamp (n := j) (by omega)]
  refine And.intro ij ?_
  rcases c with ⟨c, hc2, c1, c2, c3, c4⟩ | ⟨f, hf, c1, c2, c3, c4⟩ | ⟨f, g, hf, hg, c1, c2, c3, c4⟩
  · rw [c4] at hp
    rw [c1]
    exact br_f (nI_ge (b := 2) (by omega) (by decide)) (And.intro ij hp)
  · rw [c4] at hp
    rw [c1, c2, nI_clamp (n := f) (by omega), (hc f hf).2]
    exact br_t (by decide) (And.intro ij (br_t rfl (And.intro ij (And.intro (vp_in_nI (by omega) (by omega)) hp))))
  · rw [c4] at hp hz ez
    have hpf := tl_szp (σ f)
    have hpg := tl_szp (σ g)
    simp only [tl_sz] at hz ez
    have e1 : nI (1 + tl_sz (σ f) + tl_sz (σ g)) - 1 = nI (tl_sz (σ f) + tl_sz (σ g)) := by rw [tn_1 _ (by omega)]; exact congrArg nI (by omega)
    have e2 : nI (tl_sz (σ f) + tl_sz (σ g)) - nI (tl_sz (σ f)) = nI (tl_sz (σ g)) := by rw [pk_sub (by omega)]; exact congrArg nI (by omega)
    rw [c1, c2, c3, nI_clamp (n := f) (by omega), nI_clamp (n := g) (by omega), (hc f hf).1, (hc f hf).2, (hc g hg).2]
    have iif : vp_in (nI f) 600 := vp_in_nI (by omega) (by omega)
    have iig : vp_in (nI g) 600 := vp_in_nI (by omega) (by omega)
    refine br_t (by decide) (And.intro ij (br_f (by decide) (And.intro ij (nm_r ez (And.intro ij (And.intro iif (nm_e ?_)))))))
    rw [e1, e2, nI_clamp (n := tl_sz (σ f) + tl_sz (σ g)) (by omega), nI_clamp (n := tl_sz (σ g)) (by omega), ht (tl_sz (σ f) + tl_sz (σ g)) (by omega), ht (tl_sz (σ g)) (by omega), pk_mul, nI_add, nI_add]
    refine And.intro (vp_in_nI (by omega) (by omega)) (And.intro ij (And.intro iif (And.intro (vp_in_nI (by omega) (by omega)) (And.intro ij (And.intro iig (nm_e ?_))))))
    have := yk_106 (post := post) (f_many := f_many) (f_made := f_made) (f_spent := f_spent) (f_depth := f_depth) (a_leaves := a_leaves) (a_ones := a_ones) (a_twos := a_twos) (a_ends := a_ends) (a_letters := a_letters) (a_firsts := a_firsts) (a_seconds := a_seconds) (a_sizes := a_sizes) (a_begins := a_begins) (a_totals := a_totals) (a_ranks := a_ranks) (a_sets := a_sets) (a_ways := a_ways) (a_marks := a_marks) (a_stack := a_stack) (a_open := a_open)
      (A := tl_sz (σ f)) (B := tl_sz (σ g)) (base := tl_tot (tl_sz (σ f) + tl_sz (σ g)) + tl_rk (σ f) * tl_tot (tl_sz (σ g)) + tl_rk (σ g)) (by omega) ht hp (tl_sz (σ f) - 1) 1 13 (by omega) (by omega) (by omega)
    have e0 : tl_sm (fun i => tl_tot i * tl_tot (tl_sz (σ f) + tl_sz (σ g) - i)) 1 = 0 := by
      simp only [tl_sm]
      rw [show tl_tot 0 = 0 from rfl, Nat.zero_mul]
    rw [e0, Nat.add_zero] at this
    exact Exists.intro 13 this
/-- from the sizes on -/
theorem ym_71 {post : Int32 → SY → Prop} {my sp h' : Nat} {t : tl_T} {x4 z0 z1 z2 x y z : Int32} {le fi se : Nat → Int32}
    (hmy : my < 12) (hh12 : h' < 12) (ht : ∀ i, i < 13 → a_totals i = nI (tl_tot i))
    (P : yr_P σ h s (570 + my) le fi se a_sizes a_ranks a_stack) (hh : h' ≤ h) (hz : tl_sz t ≤ 12)
    (c : (∃ c, c < 2 ∧ x = nI c ∧ y = -1 ∧ z = -1 ∧ t = .num c) ∨ (∃ f, f < 570 + my ∧ x = nI 2 ∧ y = nI f ∧ z = -1 ∧ t = .mulL 0 (σ f)) ∨ (∃ f g, f < 570 + my ∧ g < 570 + my ∧ x = nI 3 ∧ y = nI f ∧ z = nI g ∧ t = .add (σ f) (σ g)))
    (e4 : x4 = nI (570 + my)) (e2 : z2 = nI (570 + my)) (es : z1 + z0 = nI (tl_sz t)) (em : f_made = nI my) (esp : f_spent = nI sp) (ed : f_depth = nI h')
    (hl : a_letters = upd le (570 + my) x) (hfi : a_firsts = upd fi (570 + my) y) (hse : a_seconds = upd se (570 + my) z)
    (hp : ∀ sz rk st σ', yr_P σ' (h' + 1) (tl_put s h' t) (570 + (my + 1)) a_letters a_firsts a_seconds sz rk st → (∀ j, j < 570 → σ' j = σ j) →
      post (nI (h' + 1)) (f_many, nI (my + 1), nI (sp + 1), nI (h' + 1), a_leaves, a_ones, a_twos, a_ends, a_letters, a_firsts, a_seconds, sz, a_begins, a_totals, rk, a_sets, a_ways, a_marks, st, a_open)) :
    wY_make_71 post x4 z0 z1 z2 f_many f_made f_spent f_depth a_leaves a_ones a_twos a_ends a_letters a_firsts a_seconds a_sizes a_begins a_totals a_ranks a_sets a_ways a_marks a_stack a_open := by
  subst e4 e2 em esp ed
  have Q := yr_push P hh hz c
  have ix : vp_in (nI (570 + my)) 600 := vp_in_nI (by omega) (by omega)
  unfold wY_make_71
  rw [nI_clamp (n := 570 + my) (by omega), nI_clamp (n := h') (by omega), es]
  refine And.intro ix (nm_e ?_)
  have hN := (Q.1 (570 + my) (by omega)).1
  rw [← hl, ← hfi, ← hse] at hN Q
  refine yk_rankOf (σ := tl_put σ (570 + my) t) rfl (by omega) ht hN (fun i hi => ?_) ?_
  · obtain ⟨n1, n2⟩ := P.1 i hi
    exact ⟨by rw [pk_un (by omega), tl_put_n (by omega)]; exact n1.1, by rw [tl_put_n (by omega)]; exact n2⟩
  · rw [tl_put_s]
    refine And.intro ix (nm_e (And.intro (vp_in_nI hh12 (by omega)) (nm_e (nm_r (nI_1 h') (nm_r (nI_1 my) (nm_r (nI_1 sp) ?_))))))
    exact hp _ _ _ _ Q (fun j hj => tl_put_n (by omega))
theorem ym_0 {post : Int32 → SY → Prop} {my sp c : Nat} {x y z : Int32} (hmy : my < 12) (hh12 : h < 12) (ht : ∀ i, i < 13 → a_totals i = nI (tl_tot i)) (hc : c < 2)
    (P : yr_P σ h s (570 + my) a_letters a_firsts a_seconds a_sizes a_ranks a_stack)
    (ex : x = nI c) (ey : y = -1) (ez : z = -1) (e0 : f_many = nI 570) (em : f_made = nI my) (esp : f_spent = nI sp) (ed : f_depth = nI h)
    (hp : ∀ le fi se sz rk st σ', yr_P σ' (h + 1) (tl_put s h (.num c)) (570 + (my + 1)) le fi se sz rk st → (∀ j, j < 570 → σ' j = σ j) →
      post (nI (h + 1)) (f_many, nI (my + 1), nI (sp + 1), nI (h + 1), a_leaves, a_ones, a_twos, a_ends, le, fi, se, sz, a_begins, a_totals, rk, a_sets, a_ways, a_marks, st, a_open)) :
    wpY_make post (f_many, f_made, f_spent, f_depth, a_leaves, a_ones, a_twos, a_ends, a_letters, a_firsts, a_seconds, a_sizes, a_begins, a_totals, a_ranks, a_sets, a_ways, a_marks, a_stack, a_open) x y z := by
  have ix : vp_in (nI (570 + my)) 600 := vp_in_nI (by omega) (by omega)
  unfold wpY_make
  dsimp only
  refine nm_r (e' := nI (570 + my)) (by rw [e0, em, nI_add]) ?_
  rw [nI_clamp (n := 570 + my) (by omega)]
  refine And.intro ix (nm_e (And.intro ix (nm_e (And.intro ix (nm_e (br_f (by rw [ey]; decide) ?_))))))
  unfold wY_make_56
  refine br_f (by rw [ez]; decide) ?_
  exact ym_71 (x := x) (y := y) (z := z) (t := .num c) hmy hh12 ht P (Nat.le_refl _) (by simp only [tl_sz]; omega) (Or.inl ⟨c, hc, ex, ey, ez, rfl⟩) rfl rfl (by simp only [tl_sz]; decide) em esp ed rfl rfl rfl (fun sz rk st σ' Q hσ => hp _ _ _ sz rk st σ' Q hσ)
theorem ym_1 {post : Int32 → SY → Prop} {my sp h' f : Nat} {x y z : Int32} (hmy : my < 12) (hh12 : h' < 12) (hh : h' ≤ h) (ht : ∀ i, i < 13 → a_totals i = nI (tl_tot i)) (hf : f < 570 + my) (hz : 1 + tl_sz (σ f) ≤ 12)
    (P : yr_P σ h s (570 + my) a_letters a_firsts a_seconds a_sizes a_ranks a_stack)
    (ex : x = 2) (ey : y = nI f) (ez : z = -1) (e0 : f_many = nI 570) (em : f_made = nI my) (esp : f_spent = nI sp) (ed : f_depth = nI h')
    (hp : ∀ le fi se sz rk st σ', yr_P σ' (h' + 1) (tl_put s h' (.mulL 0 (σ f))) (570 + (my + 1)) le fi se sz rk st → (∀ j, j < 570 → σ' j = σ j) →
      post (nI (h' + 1)) (f_many, nI (my + 1), nI (sp + 1), nI (h' + 1), a_leaves, a_ones, a_twos, a_ends, le, fi, se, sz, a_begins, a_totals, rk, a_sets, a_ways, a_marks, st, a_open)) :
    wpY_make post (f_many, f_made, f_spent, f_depth, a_leaves, a_ones, a_twos, a_ends, a_letters, a_firsts, a_seconds, a_sizes, a_begins, a_totals, a_ranks, a_sets, a_ways, a_marks, a_stack, a_open) x y z := by
  have ix : vp_in (nI (570 + my)) 600 := vp_in_nI (by omega) (by omega)
  unfold wpY_make
  dsimp only
  refine nm_r (e' := nI (570 + my)) (by rw [e0, em, nI_add]) ?_
  rw [nI_clamp (n := 570 + my) (by omega)]
  refine And.intro ix (nm_e (And.intro ix (nm_e (And.intro ix (nm_e (br_t (by rw [ey]; exact nI_pos' (by omega)) ?_))))))
  refine And.intro (by rw [ey]; exact vp_in_nI (by omega) (by omega)) ?_
  unfold wY_make_56
  refine br_f (by rw [ez]; decide) ?_
  have es : (1 : Int32) + a_sizes y.toNatClampNeg + 0 = nI (1 + tl_sz (σ f)) := by
    rw [ey, nI_clamp (n := f) (by omega), (P.1 f hf).1.1, Int32.add_zero]; exact nI_add 1 _
  exact ym_71 (x := x) (y := y) (z := z) (t := .mulL 0 (σ f)) hmy hh12 ht P hh hz (Or.inr (Or.inl ⟨f, hf, ex, ey, ez, rfl⟩)) rfl rfl es em esp ed rfl rfl rfl (fun sz rk st σ' Q hσ => hp _ _ _ sz rk st σ' Q hσ)
theorem ym_2 {post : Int32 → SY → Prop} {my sp h' f g : Nat} {x y z : Int32} (hmy : my < 12) (hh12 : h' < 12) (hh : h' ≤ h) (ht : ∀ i, i < 13 → a_totals i = nI (tl_tot i)) (hf : f < 570 + my) (hg : g < 570 + my) (hz : 1 + tl_sz (σ f) + tl_sz (σ g) ≤ 12)
    (P : yr_P σ h s (570 + my) a_letters a_firsts a_seconds a_sizes a_ranks a_stack)
    (ex : x = 3) (ey : y = nI f) (ez : z = nI g) (e0 : f_many = nI 570) (em : f_made = nI my) (esp : f_spent = nI sp) (ed : f_depth = nI h')
    (hp : ∀ le fi se sz rk st σ', yr_P σ' (h' + 1) (tl_put s h' (.add (σ f) (σ g))) (570 + (my + 1)) le fi se sz rk st → (∀ j, j < 570 → σ' j = σ j) →
      post (nI (h' + 1)) (f_many, nI (my + 1), nI (sp + 1), nI (h' + 1), a_leaves, a_ones, a_twos, a_ends, le, fi, se, sz, a_begins, a_totals, rk, a_sets, a_ways, a_marks, st, a_open)) :
    wpY_make post (f_many, f_made, f_spent, f_depth, a_leaves, a_ones, a_twos, a_ends, a_letters, a_firsts, a_seconds, a_sizes, a_begins, a_totals, a_ranks, a_sets, a_ways, a_marks, a_stack, a_open) x y z := by
  have ix : vp_in (nI (570 + my)) 600 := vp_in_nI (by omega) (by omega)
  unfold wpY_make
  dsimp only
  refine nm_r (e' := nI (570 + my)) (by rw [e0, em, nI_add]) ?_
  rw [nI_clamp (n := 570 + my) (by omega)]
  refine And.intro ix (nm_e (And.intro ix (nm_e (And.intro ix (nm_e (br_t (by rw [ey]; exact nI_pos' (by omega)) ?_))))))
  refine And.intro (by rw [ey]; exact vp_in_nI (by omega) (by omega)) ?_
  unfold wY_make_56
  refine br_t (by rw [ez]; exact nI_pos' (by omega)) (And.intro (by rw [ez]; exact vp_in_nI (by omega) (by omega)) ?_)
  have es : (1 : Int32) + a_sizes y.toNatClampNeg + a_sizes z.toNatClampNeg = nI (1 + tl_sz (σ f) + tl_sz (σ g)) := by
    rw [ey, ez, nI_clamp (n := f) (by omega), nI_clamp (n := g) (by omega), (P.1 f hf).1.1, (P.1 g hg).1.1, ← nI_add, ← nI_add]; rfl
  exact ym_71 (x := x) (y := y) (z := z) (t := .add (σ f) (σ g)) hmy hh12 ht P hh hz (Or.inr (Or.inr ⟨f, g, hf, hg, ex, ey, ez, rfl⟩)) rfl rfl es em esp ed rfl rfl rfl (fun sz rk st σ' Q hσ => hp _ _ _ sz rk st σ' Q hσ)
end
end
section
/-! the reference: rules, stack, letters -/
section
variable {f_many f_made f_spent f_depth : Int32} {a_leaves a_ones a_twos a_ends a_letters a_firsts a_seconds a_sizes a_begins a_totals a_ranks a_sets a_ways a_marks a_stack a_open : Nat → Int32}
theorem yb_bad1 {post : Int32 → Prop} {x : Int32} (hb : x < 0 ∨ 1 < x) (hp : post 1) : wpY_bad post (f_many, f_made, f_spent, f_depth, a_leaves, a_ones, a_twos, a_ends, a_letters, a_firsts, a_seconds, a_sizes, a_begins, a_totals, a_ranks, a_sets, a_ways, a_marks, a_stack, a_open) x := by
  unfold wpY_bad
  by_cases h0 : x < 0
  · exact br_t h0 hp
  · exact br_f h0 (br_f (Int32.not_le.mpr (hb.resolve_left h0)) hp)
theorem yb_bad0 {post : Int32 → Prop} {x : Int32} {a : Nat} (ha : a < 2) (ex : x = nI a) (hp : post 0) : wpY_bad post (f_many, f_made, f_spent, f_depth, a_leaves, a_ones, a_twos, a_ends, a_letters, a_firsts, a_seconds, a_sizes, a_begins, a_totals, a_ranks, a_sets, a_ways, a_marks, a_stack, a_open) x := by
  subst ex
  unfold wpY_bad
  exact br_f (nI_pos (by omega)) (br_t (nI_le (b := 1) (by omega) (by decide)) hp)
theorem yb_set1 {post : Int32 → Prop} {x : Int32} (hb : x < 0 ∨ 15 < x) (hp : post 1) : wpY_noSet post (f_many, f_made, f_spent, f_depth, a_leaves, a_ones, a_twos, a_ends, a_letters, a_firsts, a_seconds, a_sizes, a_begins, a_totals, a_ranks, a_sets, a_ways, a_marks, a_stack, a_open) x := by
  unfold wpY_noSet
  by_cases h0 : x < 0
  · exact br_t h0 hp
  · exact br_f h0 (br_f (Int32.not_le.mpr (hb.resolve_left h0)) hp)
theorem yb_set0 {post : Int32 → Prop} {x : Int32} {a : Nat} (ha : a < 16) (ex : x = nI a) (hp : post 0) : wpY_noSet post (f_many, f_made, f_spent, f_depth, a_leaves, a_ones, a_twos, a_ends, a_letters, a_firsts, a_seconds, a_sizes, a_begins, a_totals, a_ranks, a_sets, a_ways, a_marks, a_stack, a_open) x := by
  subst ex
  unfold wpY_noSet
  exact br_f (nI_pos (by omega)) (br_t (nI_le (b := 15) (by omega) (by decide)) hp)
theorem yb_kind1 {post : Int32 → Prop} {x : Int32} (hb : x < 0 ∨ 6 < x) (hp : post 1) : wpY_noKind post (f_many, f_made, f_spent, f_depth, a_leaves, a_ones, a_twos, a_ends, a_letters, a_firsts, a_seconds, a_sizes, a_begins, a_totals, a_ranks, a_sets, a_ways, a_marks, a_stack, a_open) x := by
  unfold wpY_noKind
  by_cases h0 : x < 0
  · exact br_t h0 hp
  · exact br_f h0 (br_f (Int32.not_le.mpr (hb.resolve_left h0)) hp)
theorem yb_kind0 {post : Int32 → Prop} {x : Int32} {a : Nat} (ha : a < 7) (ex : x = nI a) (hp : post 0) : wpY_noKind post (f_many, f_made, f_spent, f_depth, a_leaves, a_ones, a_twos, a_ends, a_letters, a_firsts, a_seconds, a_sizes, a_begins, a_totals, a_ranks, a_sets, a_ways, a_marks, a_stack, a_open) x := by
  subst ex
  unfold wpY_noKind
  exact br_f (nI_pos (by omega)) (br_t (nI_le (b := 6) (by omega) (by decide)) hp)
end
/-- either bad or a number -/
theorem yb_or {x : Int32} (n : Nat) {M : Int32} (hM : M.toInt = n) : (x < 0 ∨ M < x) ∨ ∃ a, a < n + 1 ∧ x = nI a := by
  by_cases h0 : x < 0
  · exact Or.inl (Or.inl h0)
  · by_cases h1 : x ≤ M
    · obtain ⟨j, hj, e⟩ := nI_of2 hM h0 h1
      exact Or.inr ⟨j, by omega, e⟩
    · exact Or.inl (Or.inr (Int32.not_le.mp h1))
section
variable {L O W F : Nat → Nat} {h m : Nat} {s : Nat → tl_T}
theorem yt_leafRule_b {post : Int32 → SY → Prop} {u : SY} {v1 v2 v3 : Int32} (hb : (v1 < 0 ∨ 1 < v1) ∨ (v2 < 0 ∨ 1 < v2) ∨ (v3 < 0 ∨ 15 < v3)) (hp : post (-1) u) : wpY_leafRule post u v1 v2 v3 := by
  obtain ⟨f_many, f_made, f_spent, f_depth, a_leaves, a_ones, a_twos, a_ends, a_letters, a_firsts, a_seconds, a_sizes, a_begins, a_totals, a_ranks, a_sets, a_ways, a_marks, a_stack, a_open⟩ := u
  unfold wpY_leafRule
  dsimp only
  rcases yb_or (x := v1) 1 (M := 1) (by decide) with b | ⟨a, ha, ea⟩
  · exact yb_bad1 b (br_f (by decide) hp)
  refine yb_bad0 ha ea (br_t rfl ?_)
  by_cases h0 : v2 < 0
  · exact br_t h0 hp
  by_cases h1 : 1 < v2
  · exact br_f h0 (br_t h1 hp)
  refine br_f h0 (br_f h1 ?_)
  rcases hb with b | b | b
  · rw [ea] at b
    rcases b with b | b
    · exact absurd b (nI_pos (by omega))
    · exact absurd b (nI_nlt (a := 1) (b := a) (by omega) (by decide))
  · exact absurd b (by rintro (b | b); exact h0 b; exact h1 b)
  · exact yb_set1 b (br_f (by decide) hp)
theorem yt_leafRule_g {post : Int32 → SY → Prop} {u : SY} {a c v : Nat} (R : yr_R L O W F h s m u) (ha : a < 2) (hc : c < 2) (hv : v < 16)
    (hg : ∀ u', yr_R (tl_put L (2 * a + c) v) O W F h s m u' → post (nI (L (2 * a + c))) u') : wpY_leafRule post u (nI a) (nI c) (nI v) := by
  obtain ⟨f_many, f_made, f_spent, f_depth, a_leaves, a_ones, a_twos, a_ends, a_letters, a_firsts, a_seconds, a_sizes, a_begins, a_totals, a_ranks, a_sets, a_ways, a_marks, a_stack, a_open⟩ := u
  obtain ⟨e1, e2, e3, e4, e5, e6, e7, e8, e9, e10⟩ := R
  unfold wpY_leafRule
  dsimp only
  refine yb_bad0 ha rfl (br_t rfl (br_f (nI_pos (by omega)) (br_f (nI_nlt (a := 1) (by omega) (by decide)) (yb_set0 hv rfl (br_t rfl ?_)))))
  rw [tn_ixc 2 a c (by omega), e4]
  refine ⟨tn_ixi 2 4 a c (by omega), nm_e ⟨tn_ixi 2 4 a c (by omega), nm_e ?_⟩⟩
  exact hg _ ⟨e1, e2, e3, xr_ar_put e4 _ _, e5, e6, e7, e8, e9, e10⟩
theorem yt_oneRule_b {post : Int32 → SY → Prop} {u : SY} {v1 v2 v3 : Int32} (hb : (v1 < 0 ∨ 1 < v1) ∨ (v2 < 0 ∨ 3 < v2) ∨ (v3 < 0 ∨ 15 < v3)) (hp : post (-1) u) : wpY_oneRule post u v1 v2 v3 := by
  obtain ⟨f_many, f_made, f_spent, f_depth, a_leaves, a_ones, a_twos, a_ends, a_letters, a_firsts, a_seconds, a_sizes, a_begins, a_totals, a_ranks, a_sets, a_ways, a_marks, a_stack, a_open⟩ := u
  unfold wpY_oneRule
  dsimp only
  rcases yb_or (x := v1) 1 (M := 1) (by decide) with b | ⟨a, ha, ea⟩
  · exact yb_bad1 b (br_f (by decide) hp)
  refine yb_bad0 ha ea (br_t rfl ?_)
  by_cases h0 : v2 < 0
  · exact br_t h0 hp
  by_cases h1 : 3 < v2
  · exact br_f h0 (br_t h1 hp)
  refine br_f h0 (br_f h1 ?_)
  rcases hb with b | b | b
  · rw [ea] at b
    rcases b with b | b
    · exact absurd b (nI_pos (by omega))
    · exact absurd b (nI_nlt (a := 1) (b := a) (by omega) (by decide))
  · exact absurd b (by rintro (b | b); exact h0 b; exact h1 b)
  · exact yb_set1 b (br_f (by decide) hp)
theorem yt_oneRule_g {post : Int32 → SY → Prop} {u : SY} {a c v : Nat} (R : yr_R L O W F h s m u) (ha : a < 2) (hc : c < 4) (hv : v < 16)
    (hg : ∀ u', yr_R L (tl_put O (4 * a + c) v) W F h s m u' → post (nI (O (4 * a + c))) u') : wpY_oneRule post u (nI a) (nI c) (nI v) := by
  obtain ⟨f_many, f_made, f_spent, f_depth, a_leaves, a_ones, a_twos, a_ends, a_letters, a_firsts, a_seconds, a_sizes, a_begins, a_totals, a_ranks, a_sets, a_ways, a_marks, a_stack, a_open⟩ := u
  obtain ⟨e1, e2, e3, e4, e5, e6, e7, e8, e9, e10⟩ := R
  unfold wpY_oneRule
  dsimp only
  refine yb_bad0 ha rfl (br_t rfl (br_f (nI_pos (by omega)) (br_f (nI_nlt (a := 3) (by omega) (by decide)) (yb_set0 hv rfl (br_t rfl ?_)))))
  rw [tn_ixc 4 a c (by omega), e5]
  refine ⟨tn_ixi 4 8 a c (by omega), nm_e ⟨tn_ixi 4 8 a c (by omega), nm_e ?_⟩⟩
  exact hg _ ⟨e1, e2, e3, e4, xr_ar_put e5 _ _, e6, e7, e8, e9, e10⟩
theorem yt_twoRule_b {post : Int32 → SY → Prop} {u : SY} {v1 v2 v3 : Int32} (hb : (v1 < 0 ∨ 1 < v1) ∨ (v2 < 0 ∨ 15 < v2) ∨ (v3 < 0 ∨ 15 < v3)) (hp : post (-1) u) : wpY_twoRule post u v1 v2 v3 := by
  obtain ⟨f_many, f_made, f_spent, f_depth, a_leaves, a_ones, a_twos, a_ends, a_letters, a_firsts, a_seconds, a_sizes, a_begins, a_totals, a_ranks, a_sets, a_ways, a_marks, a_stack, a_open⟩ := u
  unfold wpY_twoRule
  dsimp only
  rcases yb_or (x := v1) 1 (M := 1) (by decide) with b | ⟨a, ha, ea⟩
  · exact yb_bad1 b (br_f (by decide) hp)
  refine yb_bad0 ha ea (br_t rfl ?_)
  by_cases h0 : v2 < 0
  · exact br_t h0 hp
  by_cases h1 : 15 < v2
  · exact br_f h0 (br_t h1 hp)
  refine br_f h0 (br_f h1 ?_)
  rcases hb with b | b | b
  · rw [ea] at b
    rcases b with b | b
    · exact absurd b (nI_pos (by omega))
    · exact absurd b (nI_nlt (a := 1) (b := a) (by omega) (by decide))
  · exact absurd b (by rintro (b | b); exact h0 b; exact h1 b)
  · exact yb_set1 b (br_f (by decide) hp)
theorem yt_twoRule_g {post : Int32 → SY → Prop} {u : SY} {a c v : Nat} (R : yr_R L O W F h s m u) (ha : a < 2) (hc : c < 16) (hv : v < 16)
    (hg : ∀ u', yr_R L O (tl_put W (16 * a + c) v) F h s m u' → post (nI (W (16 * a + c))) u') : wpY_twoRule post u (nI a) (nI c) (nI v) := by
  obtain ⟨f_many, f_made, f_spent, f_depth, a_leaves, a_ones, a_twos, a_ends, a_letters, a_firsts, a_seconds, a_sizes, a_begins, a_totals, a_ranks, a_sets, a_ways, a_marks, a_stack, a_open⟩ := u
  obtain ⟨e1, e2, e3, e4, e5, e6, e7, e8, e9, e10⟩ := R
  unfold wpY_twoRule
  dsimp only
  refine yb_bad0 ha rfl (br_t rfl (br_f (nI_pos (by omega)) (br_f (nI_nlt (a := 15) (by omega) (by decide)) (yb_set0 hv rfl (br_t rfl ?_)))))
  rw [tn_ixc 16 a c (by omega), e6]
  refine ⟨tn_ixi 16 32 a c (by omega), nm_e ⟨tn_ixi 16 32 a c (by omega), nm_e ?_⟩⟩
  exact hg _ ⟨e1, e2, e3, e4, e5, xr_ar_put e6 _ _, e7, e8, e9, e10⟩
theorem yt_finals_b {post : Int32 → SY → Prop} {u : SY} {v1 v2 : Int32} (hb : (v1 < 0 ∨ 1 < v1) ∨ (v2 < 0 ∨ 15 < v2)) (hp : post (-1) u) : wpY_finals post u v1 v2 := by
  obtain ⟨f_many, f_made, f_spent, f_depth, a_leaves, a_ones, a_twos, a_ends, a_letters, a_firsts, a_seconds, a_sizes, a_begins, a_totals, a_ranks, a_sets, a_ways, a_marks, a_stack, a_open⟩ := u
  unfold wpY_finals
  dsimp only
  rcases yb_or (x := v1) 1 (M := 1) (by decide) with b | ⟨a, ha, ea⟩
  · exact yb_bad1 b (br_f (by decide) hp)
  refine yb_bad0 ha ea (br_t rfl ?_)
  rcases hb with b | b
  · rw [ea] at b
    rcases b with b | b
    · exact absurd b (nI_pos (by omega))
    · exact absurd b (nI_nlt (a := 1) (b := a) (by omega) (by decide))
  · exact yb_set1 b (br_f (by decide) hp)
theorem yt_finals_g {post : Int32 → SY → Prop} {u : SY} {a v : Nat} (R : yr_R L O W F h s m u) (ha : a < 2) (hv : v < 16)
    (hg : ∀ u', yr_R L O W (tl_put F a v) h s m u' → post (nI (F a)) u') : wpY_finals post u (nI a) (nI v) := by
  obtain ⟨f_many, f_made, f_spent, f_depth, a_leaves, a_ones, a_twos, a_ends, a_letters, a_firsts, a_seconds, a_sizes, a_begins, a_totals, a_ranks, a_sets, a_ways, a_marks, a_stack, a_open⟩ := u
  obtain ⟨e1, e2, e3, e4, e5, e6, e7, e8, e9, e10⟩ := R
  unfold wpY_finals
  dsimp only
  refine yb_bad0 ha rfl (br_t rfl (yb_set0 hv rfl (br_t rfl ?_)))
  rw [nI_clamp (n := a) (by omega), e7]
  refine ⟨vp_in_nI (by omega) (by omega), nm_e ⟨vp_in_nI (by omega) (by omega), nm_e ?_⟩⟩
  exact hg _ ⟨e1, e2, e3, e4, e5, e6, xr_ar_put e7 _ _, e8, e9, e10⟩
theorem yt_leaf_b {post : Int32 → SY → Prop} {u : SY} {v1 : Int32} (hb : v1 < 0 ∨ 1 < v1) (hp : post (-1) u) : wpY_leaf post u v1 := by
  obtain ⟨f_many, f_made, f_spent, f_depth, a_leaves, a_ones, a_twos, a_ends, a_letters, a_firsts, a_seconds, a_sizes, a_begins, a_totals, a_ranks, a_sets, a_ways, a_marks, a_stack, a_open⟩ := u
  unfold wpY_leaf
  dsimp only
  by_cases h0 : v1 < 0
  · exact br_t h0 hp
  · exact br_f h0 (br_f (Int32.not_le.mpr (hb.resolve_left h0)) hp)
theorem yt_leaf_f {post : Int32 → SY → Prop} {u : SY} {c : Nat} (R : yr_R L O W F h s m u) (hc : c < 2) (hm : m = 12) (hp : post (-2) u) : wpY_leaf post u (nI c) := by
  obtain ⟨f_many, f_made, f_spent, f_depth, a_leaves, a_ones, a_twos, a_ends, a_letters, a_firsts, a_seconds, a_sizes, a_begins, a_totals, a_ranks, a_sets, a_ways, a_marks, a_stack, a_open⟩ := u
  have e2 : f_spent = nI m := R.2.1
  unfold wpY_leaf
  dsimp only
  exact br_f (nI_pos (by omega)) (br_t (nI_le (b := 1) (by omega) (by decide)) (br_t (by rw [e2, hm]; rfl) hp))
theorem yt_leaf_g {post : Int32 → SY → Prop} {u : SY} {c : Nat} (R : yr_R L O W F h s m u) (K : tl_sk h s m) (hc : c < 2) (hm : m < 12)
    (hp : ∀ u', yr_R L O W F (h + 1) (tl_put s h (.num c)) (m + 1) u' → post (nI (h + 1)) u') : wpY_leaf post u (nI c) := by
  obtain ⟨f_many, f_made, f_spent, f_depth, a_leaves, a_ones, a_twos, a_ends, a_letters, a_firsts, a_seconds, a_sizes, a_begins, a_totals, a_ranks, a_sets, a_ways, a_marks, a_stack, a_open⟩ := u
  obtain ⟨e1, e2, e3, e4, e5, e6, e7, e8, e9, my, σ, hmy, em, hσ, P⟩ := R
  have hh : h ≤ m := by have := @tl_sk_h h s; have := K.1; omega
  unfold wpY_leaf
  dsimp only
  refine br_f (nI_pos (by omega)) (br_t (nI_le (b := 1) (by omega) (by decide)) (br_f (fun z => ?_) ?_))
  · rw [e2] at z; have := (nI_eq (b := 12) (by omega) (by decide)).mp z; omega
  · exact ym_0 (by omega) (by omega) e9 hc P rfl rfl rfl e1 em e2 e3 (fun le fi se sz rk st σ' Q hσ' =>
      hp _ ⟨e1, rfl, rfl, e4, e5, e6, e7, e8, e9, my + 1, σ', by omega, rfl, fun j hj => by rw [hσ' j hj, hσ j hj], Q⟩)
theorem yt_one_f {post : Int32 → SY → Prop} {u : SY} (R : yr_R L O W F h s m u) (hm : m = 12) (hp : post (-2) u) : wpY_one post u := by
  obtain ⟨f_many, f_made, f_spent, f_depth, a_leaves, a_ones, a_twos, a_ends, a_letters, a_firsts, a_seconds, a_sizes, a_begins, a_totals, a_ranks, a_sets, a_ways, a_marks, a_stack, a_open⟩ := u
  have e2 : f_spent = nI m := R.2.1
  unfold wpY_one
  dsimp only
  exact br_t (by rw [e2, hm]; rfl) hp
theorem yt_one_l {post : Int32 → SY → Prop} {u : SY} (R : yr_R L O W F h s m u) (hm : m < 12) (hh : h < 1) (hp : post (-3) u) : wpY_one post u := by
  obtain ⟨f_many, f_made, f_spent, f_depth, a_leaves, a_ones, a_twos, a_ends, a_letters, a_firsts, a_seconds, a_sizes, a_begins, a_totals, a_ranks, a_sets, a_ways, a_marks, a_stack, a_open⟩ := u
  have e2 : f_spent = nI m := R.2.1
  have e3 : f_depth = nI h := R.2.2.1
  unfold wpY_one
  dsimp only
  refine br_f (fun z => ?_) (br_f (by rw [e3]; exact nI_ge (b := 1) (by omega) (by decide)) hp)
  rw [e2] at z; have := (nI_eq (b := 12) (by omega) (by decide)).mp z; omega
theorem yt_one_g {post : Int32 → SY → Prop} {u : SY} (R : yr_R L O W F h s m u) (K : tl_sk h s m) (hm : m < 12) (h1 : 1 ≤ h)
    (hp : ∀ u', yr_R L O W F h (tl_put s (h - 1) (.mulL 0 (s (h - 1)))) (m + 1) u' → post (nI h) u') : wpY_one post u := by
  obtain ⟨f_many, f_made, f_spent, f_depth, a_leaves, a_ones, a_twos, a_ends, a_letters, a_firsts, a_seconds, a_sizes, a_begins, a_totals, a_ranks, a_sets, a_ways, a_marks, a_stack, a_open⟩ := u
  obtain ⟨e1, e2, e3, e4, e5, e6, e7, e8, e9, my, σ, hmy, em, hσ, P⟩ := R
  have hh : h ≤ m := by have := @tl_sk_h h s; have := K.1; omega
  obtain ⟨h, rfl⟩ : ∃ k, h = k + 1 := ⟨h - 1, by omega⟩
  rw [Nat.add_sub_cancel] at hp
  obtain ⟨p, hpm, es, et⟩ := P.2 h (by omega)
  have hz := tl_sk_top K (i := h) (by omega)
  unfold wpY_one
  dsimp only
  rw [e3, nI_pred]
  refine br_f (fun z => ?_) (br_t (nI_le (a := 1) (by omega) (by omega)) (nm_e (And.intro (vp_in_nI (by omega) (by omega)) ?_)))
  · rw [e2] at z; have := (nI_eq (b := 12) (by omega) (by decide)).mp z; omega
  · rw [nI_clamp (n := h) (by omega), es]
    refine ym_1 (h' := h) (f := p) (by omega) (by omega) (by omega) e9 hpm (by rw [et]; omega) P rfl rfl rfl e1 em e2 rfl (fun le fi se sz rk st σ' Q hσ' => ?_)
    rw [et] at Q
    exact hp _ ⟨e1, rfl, rfl, e4, e5, e6, e7, e8, e9, my + 1, σ', by omega, rfl, fun j hj => by rw [hσ' j hj, hσ j hj], Q⟩
theorem yt_two_f {post : Int32 → SY → Prop} {u : SY} (R : yr_R L O W F h s m u) (hm : m = 12) (hp : post (-2) u) : wpY_two post u := by
  obtain ⟨f_many, f_made, f_spent, f_depth, a_leaves, a_ones, a_twos, a_ends, a_letters, a_firsts, a_seconds, a_sizes, a_begins, a_totals, a_ranks, a_sets, a_ways, a_marks, a_stack, a_open⟩ := u
  have e2 : f_spent = nI m := R.2.1
  unfold wpY_two
  dsimp only
  exact br_t (by rw [e2, hm]; rfl) hp
theorem yt_two_l {post : Int32 → SY → Prop} {u : SY} (R : yr_R L O W F h s m u) (hm : m < 12) (hh : h < 2) (hp : post (-3) u) : wpY_two post u := by
  obtain ⟨f_many, f_made, f_spent, f_depth, a_leaves, a_ones, a_twos, a_ends, a_letters, a_firsts, a_seconds, a_sizes, a_begins, a_totals, a_ranks, a_sets, a_ways, a_marks, a_stack, a_open⟩ := u
  have e2 : f_spent = nI m := R.2.1
  have e3 : f_depth = nI h := R.2.2.1
  unfold wpY_two
  dsimp only
  refine br_f (fun z => ?_) (br_f (by rw [e3]; exact nI_ge (b := 2) (by omega) (by decide)) hp)
  rw [e2] at z; have := (nI_eq (b := 12) (by omega) (by decide)).mp z; omega
theorem yt_two_g {post : Int32 → SY → Prop} {u : SY} (R : yr_R L O W F h s m u) (K : tl_sk h s m) (hm : m < 12) (h1 : 2 ≤ h)
    (hp : ∀ u', yr_R L O W F (h - 1) (tl_put s (h - 2) (.add (s (h - 2)) (s (h - 1)))) (m + 1) u' → post (nI (h - 1)) u') : wpY_two post u := by
  obtain ⟨f_many, f_made, f_spent, f_depth, a_leaves, a_ones, a_twos, a_ends, a_letters, a_firsts, a_seconds, a_sizes, a_begins, a_totals, a_ranks, a_sets, a_ways, a_marks, a_stack, a_open⟩ := u
  obtain ⟨e1, e2, e3, e4, e5, e6, e7, e8, e9, my, σ, hmy, em, hσ, P⟩ := R
  have hh : h ≤ m := by have := @tl_sk_h h s; have := K.1; omega
  obtain ⟨h, rfl⟩ : ∃ k, h = k + 2 := ⟨h - 2, by omega⟩
  rw [show h + 2 - 1 = h + 1 from rfl, show h + 2 - 2 = h from rfl] at hp
  obtain ⟨p, hpm, es, et⟩ := P.2 h (by omega)
  obtain ⟨q, hqm, fs, ft⟩ := P.2 (h + 1) (by omega)
  have hz : tl_sz (s h) + tl_sz (s (h + 1)) ≤ m := by
    have := K.1; simp only [tl_sm] at this; omega
  unfold wpY_two
  dsimp only
  rw [e3, tn_2 (h + 2) (by omega), show h + 2 - 2 = h from rfl]
  refine br_f (fun z => ?_) (br_t (nI_le (a := 2) (by omega) (by omega)) (nm_e ?_))
  · rw [e2] at z; have := (nI_eq (b := 12) (by omega) (by decide)).mp z; omega
  · rw [nI_1 h, nI_clamp (n := h) (by omega), nI_clamp (n := h + 1) (by omega), es, fs]
    refine And.intro (vp_in_nI (by omega) (by omega)) (And.intro (vp_in_nI (by omega) (by omega)) ?_)
    refine ym_2 (h' := h) (f := p) (g := q) (by omega) (by omega) (by omega) e9 hpm hqm (by rw [et, ft]; omega) P rfl rfl rfl e1 em e2 rfl (fun le fi se sz rk st σ' Q hσ' => ?_)
    rw [et, ft] at Q
    exact hp _ ⟨e1, rfl, rfl, e4, e5, e6, e7, e8, e9, my + 1, σ', by omega, rfl, fun j hj => by rw [hσ' j hj, hσ j hj], Q⟩
theorem yt_discard {post : Int32 → SY → Prop} {u : SY} (R : yr_R L O W F h s m u)
    (hg : ∀ u', yr_R L O W F 0 s 0 u' → post (nI h) u') : wpY_discard post u := by
  obtain ⟨f_many, f_made, f_spent, f_depth, a_leaves, a_ones, a_twos, a_ends, a_letters, a_firsts, a_seconds, a_sizes, a_begins, a_totals, a_ranks, a_sets, a_ways, a_marks, a_stack, a_open⟩ := u
  obtain ⟨e1, e2, e3, e4, e5, e6, e7, e8, e9, my, σ, hmy, em, hσ, P⟩ := R
  unfold wpY_discard
  dsimp only
  rw [e3]
  exact hg _ ⟨e1, rfl, rfl, e4, e5, e6, e7, e8, e9, 0, σ, Nat.le_refl _, rfl, hσ, fun j hj => P.1 j (by omega), fun k hk => absurd hk (Nat.not_lt_zero k)⟩
theorem yt_size {post : Int32 → Prop} {u : SY} (R : yr_R L O W F h s m u) (K : tl_sk h s m)
    (h0 : h = 0 → post (-4)) (h1 : 1 ≤ h → post (nI (tl_sz (s (h - 1))))) : wpY_size post u := by
  obtain ⟨f_many, f_made, f_spent, f_depth, a_leaves, a_ones, a_twos, a_ends, a_letters, a_firsts, a_seconds, a_sizes, a_begins, a_totals, a_ranks, a_sets, a_ways, a_marks, a_stack, a_open⟩ := u
  obtain ⟨e1, e2, e3, e4, e5, e6, e7, e8, e9, my, σ, hmy, em, hσ, P⟩ := R
  have hm := K.2
  have hh : h ≤ m := by have := @tl_sk_h h s; have := K.1; omega
  unfold wpY_size
  dsimp only
  rw [e3]
  by_cases hz : h = 0
  · subst hz; exact br_t rfl (h0 rfl)
  · obtain ⟨p, hpm, es, et⟩ := P.2 (h - 1) (by omega)
    rw [tn_1 h (by omega), nI_clamp (n := h - 1) (by omega), es, nI_clamp (n := p) (by omega), (P.1 p hpm).1.1, et]
    exact br_f (nI_ne0 (by omega) (by omega)) (And.intro (vp_in_nI (by omega) (by omega)) (And.intro (vp_in_nI (by omega) (by omega)) (h1 (by omega))))
theorem yt_rank {post : Int32 → Prop} {u : SY} (R : yr_R L O W F h s m u) (K : tl_sk h s m)
    (h0 : h = 0 → post (-4)) (h1 : 1 ≤ h → post (nI (tl_rk (s (h - 1))))) : wpY_rank post u := by
  obtain ⟨f_many, f_made, f_spent, f_depth, a_leaves, a_ones, a_twos, a_ends, a_letters, a_firsts, a_seconds, a_sizes, a_begins, a_totals, a_ranks, a_sets, a_ways, a_marks, a_stack, a_open⟩ := u
  obtain ⟨e1, e2, e3, e4, e5, e6, e7, e8, e9, my, σ, hmy, em, hσ, P⟩ := R
  have hm := K.2
  have hh : h ≤ m := by have := @tl_sk_h h s; have := K.1; omega
  unfold wpY_rank
  dsimp only
  rw [e3]
  by_cases hz : h = 0
  · subst hz; exact br_t rfl (h0 rfl)
  · obtain ⟨p, hpm, es, et⟩ := P.2 (h - 1) (by omega)
    rw [tn_1 h (by omega), nI_clamp (n := h - 1) (by omega), es, nI_clamp (n := p) (by omega), (P.1 p hpm).2, et]
    exact br_f (nI_ne0 (by omega) (by omega)) (And.intro (vp_in_nI (by omega) (by omega)) (And.intro (vp_in_nI (by omega) (by omega)) (h1 (by omega))))
end
section
variable {M : Nat} {σ : Nat → tl_T}
variable {f_many f_made f_spent f_depth : Int32} {a_leaves a_ones a_twos a_ends a_letters a_firsts a_seconds a_sizes a_begins a_totals a_ranks a_sets a_ways a_marks a_stack a_open : Nat → Int32}
theorem yw_31 {post : Int32 → SY → Prop} {x1 r : Int32} (hM : M ≤ 600) (hN : ∀ j, j < M → yr_N σ a_letters a_firsts a_seconds a_sizes j) {wo : List Nat} (hw : wo.length ≤ 12)
    (h1 : ∀ i, i < wo.length → x1 = nI i → r = nI (wo.getD i 0)) (h2 : (∀ i, i < wo.length → x1 ≠ nI i) → r = -4)
    (hp : ∀ od, post r (f_many, f_made, f_spent, f_depth, a_leaves, a_ones, a_twos, a_ends, a_letters, a_firsts, a_seconds, a_sizes, a_begins, a_totals, a_ranks, a_sets, a_ways, a_marks, a_stack, od)) :
    ∀ d ws n N od, (tl_fw ws).length = d → n + d = wo.length → wo.drop n = tl_fw ws → (∀ i, i < n → x1 ≠ nI i) → tl_tk σ M od ws → d < N →
    wY_letter_31 post x1 f_many f_made f_spent f_depth N (nI ws.length) (nI n) a_leaves a_ones a_twos a_ends a_letters a_firsts a_seconds a_sizes a_begins a_totals a_ranks a_sets a_ways a_marks a_stack od := by
  intro d
  induction d with
  | zero =>
    intro ws n N od hd hn hdr hne htk hN'
    obtain ⟨N, rfl⟩ : ∃ k, N = k + 1 := ⟨N - 1, by omega⟩
    have h0 : ws.length = 0 := by have := tl_fw_len ws; omega
    have : n = wo.length := by omega
    subst this
    rw [h0]
    have := hp od
    rw [h2 hne] at this
    exact br_t (by decide) this
  | succ d ih =>
    intro ws n N od hd hn hdr hne htk hN'
    obtain ⟨N, rfl⟩ : ∃ k, N = k + 1 := ⟨N - 1, by omega⟩
    cases ws with
    | nil => rw [tl_fw_nil] at hd; exact absurd hd (by simp)
    | cons t rs =>
      have hl := tl_fw_len (t :: rs)
      rw [tl_fw_cons] at hdr hd hl
      obtain ⟨g1, g2, g3⟩ := tl_drop_s hdr
      simp only [List.length_cons] at hd hl ⊢
      obtain ⟨⟨p, hpm, etd, et⟩, htk'⟩ := htk
      have ip : vp_in (nI p) 600 := vp_in_nI (by omega) (by omega)
      have cp : (nI p).toNatClampNeg = p := nI_clamp (by omega)
      have cr : (nI rs.length).toNatClampNeg = rs.length := nI_clamp (by omega)
      have cr1 : (nI (rs.length + 1)).toNatClampNeg = rs.length + 1 := nI_clamp (by omega)
      have ir : vp_in (nI rs.length) 24 := vp_in_nI (by omega) (by omega)
      have ir1 : vp_in (nI (rs.length + 1)) 24 := vp_in_nI (by omega) (by omega)
      obtain ⟨ez, hz, hc⟩ := hN p hpm
      have elet : a_letters p = nI (tl_hd t) := by
        rcases hc with ⟨c, hc2, c1, c2, c3, c4⟩ | ⟨f, hf, c1, c2, c3, c4⟩ | ⟨f, g, hf, hg, c1, c2, c3, c4⟩
        · rw [← et, c4, c1]; rfl
        · rw [← et, c4, c1]; rfl
        · rw [← et, c4, c1]; rfl
      refine br_f (nI_nle (by omega) (by omega)) (nm_r (e' := nI rs.length) (pk_m1 _) ⟨ir, ?_⟩)
      rw [cr]
      refine nm_r (e' := nI p) etd ?_
      rw [cp]
      by_cases hx : nI n = x1
      · have := hp od
        rw [h1 n g3 hx.symm, g1, ← elet] at this
        exact br_t hx (And.intro ip this)
      · have hne' : ∀ i, i < n + 1 → x1 ≠ nI i := by
          intro i hi
          by_cases e : i = n
          · subst e; exact fun z => hx z.symm
          · exact hne i (by omega)
        refine br_f hx (nm_r (nI_1 n) (And.intro ip ?_))
        rcases hc with ⟨c, hc2, c1, c2, c3, c4⟩ | ⟨f, hf, c1, c2, c3, c4⟩ | ⟨f, g, hf, hg, c1, c2, c3, c4⟩
        · rw [et] at c4
          subst c4
          have hthis := ih rs (n + 1) N od (by simpa [tl_kd] using hd) (by omega) g2 hne' htk' (by omega)
          rw [c3]
          refine br_t (by decide) ?_
          unfold wY_letter_88
          rw [cp, c2]
          exact And.intro ip (br_t (by decide) hthis)
        · rw [et] at c4
          subst c4
          have hthis := ih (σ f :: rs) (n + 1) N (upd od rs.length (nI f)) (by simpa [tl_kd] using hd) (by omega) g2 hne' (tl_tk_put htk' (by omega)) (by omega)
          rw [c3]
          refine br_t (by decide) ?_
          unfold wY_letter_88
          rw [cp, c2, cr]
          exact And.intro ip (br_f (nI_pos (by omega)) (And.intro ip (And.intro ir (nm_e (nm_r (nI_1 _) hthis)))))
        · rw [et] at c4
          subst c4
          have hthis := ih (σ f :: σ g :: rs) (n + 1) N (upd (upd od rs.length (nI g)) (rs.length + 1) (nI f)) (by simpa [tl_kd] using hd) (by omega) g2 hne' (tl_tk_put (tl_tk_put htk' (by omega)) (by omega)) (by omega)
          rw [c3]
          refine br_f (nI_pos (by omega)) (And.intro ip (And.intro ir (nm_e (nm_r (nI_1 _) ?_))))
          unfold wY_letter_88
          rw [cp, c2, cr1]
          exact And.intro ip (br_f (nI_pos (by omega)) (And.intro ip (And.intro ir1 (nm_e (nm_r (nI_1 _) hthis)))))
end
section
variable {L O W F : Nat → Nat} {h m : Nat} {s : Nat → tl_T}
theorem yt_letter_0 {post : Int32 → SY → Prop} {u : SY} {v1 : Int32} (R : yr_R L O W F h s m u) (h0 : h = 0) (hp : post (-4) u) : wpY_letter post u v1 := by
  obtain ⟨f_many, f_made, f_spent, f_depth, a_leaves, a_ones, a_twos, a_ends, a_letters, a_firsts, a_seconds, a_sizes, a_begins, a_totals, a_ranks, a_sets, a_ways, a_marks, a_stack, a_open⟩ := u
  have e3 : f_depth = nI h := R.2.2.1
  unfold wpY_letter
  dsimp only
  exact br_t (by rw [e3, h0]; rfl) hp
theorem yt_letter {post : Int32 → SY → Prop} {u : SY} {v1 r : Int32} (R : yr_R L O W F h s m u) (K : tl_sk h s m) (h0 : 1 ≤ h)
    (h1 : ∀ j, j < tl_sz (s (h - 1)) → v1 = nI j → r = nI ((tl_wd (s (h - 1))).getD j 0)) (h2 : (∀ j, j < tl_sz (s (h - 1)) → v1 ≠ nI j) → r = -4)
    (hp : ∀ u', yr_R L O W F h s m u' → post r u') : wpY_letter post u v1 := by
  obtain ⟨f_many, f_made, f_spent, f_depth, a_leaves, a_ones, a_twos, a_ends, a_letters, a_firsts, a_seconds, a_sizes, a_begins, a_totals, a_ranks, a_sets, a_ways, a_marks, a_stack, a_open⟩ := u
  obtain ⟨e1, e2, e3, e4, e5, e6, e7, e8, e9, my, σ, hmy, em, hσ, P⟩ := R
  have hm := K.2
  have hh : h ≤ m := by have := @tl_sk_h h s; have := K.1; omega
  have hz := tl_sk_top K (i := h - 1) (by omega)
  obtain ⟨p, hpm, es, et⟩ := P.2 (h - 1) (by omega)
  have hfw : tl_fw [s (h - 1)] = tl_wd (s (h - 1)) := by simp only [tl_fw, List.flatMap_cons, List.flatMap_nil, List.append_nil]
  unfold wpY_letter
  dsimp only
  rw [e3, tn_1 h (by omega), nI_clamp (n := h - 1) (by omega), es]
  refine br_f (nI_ne0 (by omega) (by omega)) (And.intro (vp_in_nI (by omega) (by omega)) (nm_e ?_))
  refine Exists.intro 13 (yw_31 (M := 570 + my) (σ := σ) (r := r) (by omega) (fun j hj => (P.1 j hj).1) (wo := tl_wd (s (h - 1))) (by rw [tl_wdl]; omega) (by rw [tl_wdl]; exact h1) (by rw [tl_wdl]; exact h2) ?_
    (tl_wd (s (h - 1))).length [s (h - 1)] 0 13 (upd a_open 0 (nI p)) (by rw [hfw]) (by omega) (by rw [hfw]; rfl) (fun i hi => absurd hi (Nat.not_lt_zero i)) ⟨⟨p, hpm, pk_us, et⟩, trivial⟩ (by rw [tl_wdl]; omega))
  intro od
  exact hp _ ⟨e1, e2, rfl, e4, e5, e6, e7, e8, e9, my, σ, hmy, em, hσ, P⟩
end
end
section
/-! the reference: judging all trees -/
def yj_D (L O W : Nat → Nat) (a : Nat) (σ : Nat → tl_T) (t : Nat) (se wa : Nat → Int32) : Prop :=
  ∀ j, j < t → se j = nI (tl_s L O W a (σ j)) ∧ ∀ q, q < 4 → wa (4 * j + q) = nI (tl_w L O W a (σ j) q)
def yj_C (t S : Nat) (w : Nat → Nat) (se wa : Nat → Int32) : Prop := se t = nI S ∧ ∀ q, q < 4 → wa (4 * t + q) = nI (w q)
theorem yj_C_w {t S S' : Nat} {w w' : Nat → Nat} {se wa : Nat → Int32} (C : yj_C t S w se wa) (hS : S = S') (h : ∀ q, q < 4 → w q = w' q) : yj_C t S' w' se wa :=
  ⟨by rw [← hS]; exact C.1, fun q hq => by rw [← h q hq]; exact C.2 q hq⟩
section
variable {L O W F : Nat → Nat} {σ : Nat → tl_T}
variable {f_many f_made f_spent f_depth : Int32} {a_leaves a_ones a_twos a_ends a_letters a_firsts a_seconds a_sizes a_begins a_totals a_ranks a_sets a_ways a_marks a_stack a_open : Nat → Int32}
theorem yj_13 {post : SY → Prop} {t set times : Nat} {w : Nat → Nat} (ht : t < 600) (hs : set < 16)
    (hp : ∀ wa, (∀ j, (j < 4 * t ∨ 4 * t + 4 ≤ j) → wa j = a_ways j) → (∀ q, q < 4 → wa (4 * t + q) = nI (w q + (if set.testBit q then times else 0))) → post (f_many, f_made, f_spent, f_depth, a_leaves, a_ones, a_twos, a_ends, a_letters, a_firsts, a_seconds, a_sizes, a_begins, a_totals, a_ranks, a_sets, wa, a_marks, a_stack, a_open)) :
    ∀ d i N wa, i + d = 4 → (∀ j, (j < 4 * t ∨ 4 * t + 4 ≤ j) → wa j = a_ways j) → (∀ q, q < i → wa (4 * t + q) = nI (w q + (if set.testBit q then times else 0))) → (∀ q, i ≤ q → q < 4 → wa (4 * t + q) = nI (w q)) → d < N →
    wY_allow_13 post (nI t) (nI set) (nI times) f_many f_made f_spent f_depth N (nI i) a_leaves a_ones a_twos a_ends a_letters a_firsts a_seconds a_sizes a_begins a_totals a_ranks a_sets wa a_marks a_stack a_open := by
  intro d
  induction d with
  | zero =>
    intro i N wa hi ho h1 h2 hN
    obtain ⟨N, rfl⟩ : ∃ k, N = k + 1 := ⟨N - 1, by omega⟩
    obtain rfl : i = 4 := by omega
    exact br_t (by decide) (hp wa ho h1)
  | succ d ih =>
    intro i N wa hi ho h1 h2 hN
    obtain ⟨N, rfl⟩ : ∃ k, N = k + 1 := ⟨N - 1, by omega⟩
    have hb := tn_bit (s := set) (p := i) (by omega) (by omega)
    refine br_f (nI_ge (b := 4) (by omega) (by decide)) ?_
    rw [tn_ixc 4 t i (by omega), h2 i (Nat.le_refl _) (by omega), nI_add]
    have ii := tn_ixi 4 2400 (k := 4) t i (by omega)
    by_cases b : set.testBit i = true
    · refine br_t (hb.mpr b) (And.intro ii (And.intro ii (nm_e (nm_r (nI_1 i) (ih (i + 1) N _ (by omega) ?_ ?_ ?_ (by omega))))))
      · intro j hj; rw [pk_un (by omega)]; exact ho j hj
      · intro q hq
        by_cases e : q = i
        · subst e; rw [pk_us, if_pos b]
        · rw [pk_un (by omega)]; exact h1 q (by omega)
      · intro q hq hq4; rw [pk_un (by omega)]; exact h2 q (by omega) hq4
    · refine br_f (fun z => b (hb.mp z)) (nm_r (nI_1 i) (ih (i + 1) N _ (by omega) ho ?_ (fun q hq hq4 => h2 q (by omega) hq4) (by omega)))
      intro q hq
      by_cases e : q = i
      · subst e; rw [if_neg b]; exact h2 q (Nat.le_refl _) (by omega)
      · exact h1 q (by omega)
theorem yj_allow {post : SY → Prop} {a t set times S : Nat} {w : Nat → Nat} {x1 x2 x3 : Int32} (e1 : x1 = nI t) (e2 : x2 = nI set) (e3 : x3 = nI times) (ht : t < 600) (hs : set < 16)
    (hD : yj_D L O W a σ t a_sets a_ways) (hC : yj_C t S w a_sets a_ways)
    (hp : ∀ se wa, yj_D L O W a σ t se wa → yj_C t (S ||| set) (fun q => w q + (if set.testBit q then times else 0)) se wa → post (f_many, f_made, f_spent, f_depth, a_leaves, a_ones, a_twos, a_ends, a_letters, a_firsts, a_seconds, a_sizes, a_begins, a_totals, a_ranks, se, wa, a_marks, a_stack, a_open)) : wpY_allow post (f_many, f_made, f_spent, f_depth, a_leaves, a_ones, a_twos, a_ends, a_letters, a_firsts, a_seconds, a_sizes, a_begins, a_totals, a_ranks, a_sets, a_ways, a_marks, a_stack, a_open) x1 x2 x3 := by
  subst e1 e2 e3
  have it : vp_in (nI t) 600 := vp_in_nI ht (by omega)
  unfold wpY_allow
  dsimp only
  rw [nI_clamp (n := t) (by omega), hC.1, tn_or]
  refine And.intro it (And.intro it (nm_e (Exists.intro 5 (yj_13 ht hs (fun wa ho hv => hp _ wa ?_ ⟨pk_us, hv⟩) 4 0 5 a_ways rfl (fun j _ => rfl) (fun q hq => absurd hq (Nat.not_lt_zero q)) (fun q _ hq => hC.2 q hq) (by decide)))))
  intro j hj
  refine ⟨by rw [pk_un (by omega)]; exact (hD j hj).1, fun q hq => ?_⟩
  rw [ho _ (by omega)]; exact (hD j hj).2 q hq
/-- the parts of the sums of a node with two children, in the reference's order -/
def yj_G (W : Nat → Nat) (a A B : Nat) : Nat → Nat := fun k => if A.testBit (k % 4) && B.testBit (k / 4) then W (16 * a + k) else 0
def yj_H (W : Nat → Nat) (a q : Nat) (w v : Nat → Nat) : Nat → Nat := fun k => if (W (16 * a + k)).testBit q then w (k % 4) * v (k / 4) else 0
theorem yj_141 {post : SY → Prop} {J : Int32 → Int32 → Int32 → Int32 → Int32 → (Nat → Int32) → (Nat → Int32) → (Nat → Int32) → (Nat → Int32) → (Nat → Int32) → (Nat → Int32) → (Nat → Int32) → (Nat → Int32) → (Nat → Int32) → (Nat → Int32) → (Nat → Int32) → (Nat → Int32) → (Nat → Int32) → (Nat → Int32) → (Nat → Int32) → (Nat → Int32) → Prop}
    {a t p f g : Nat} (hR : tl_rl L O W F) (hW : xr_ar a_twos W) (ha : a < 2) (ht : t < 600) (hp4 : p < 4) (hf : f < t) (hg : g < t) (el : a_letters t = nI 3) (eg : a_seconds t = nI g)
    (hJ : ∀ se wa, yj_D L O W a σ t se wa → yj_C t (tl_or (fun k => yj_G W a (tl_s L O W a (σ f)) (tl_s L O W a (σ g)) (k / 4 + 4 * (k % 4))) (4 * (p + 1))) (fun r => tl_sm (fun k => yj_H W a r (tl_w L O W a (σ f)) (tl_w L O W a (σ g)) (k / 4 + 4 * (k % 4))) (4 * (p + 1))) se wa → J (nI (p + 1)) f_many f_made f_spent f_depth a_leaves a_ones a_twos a_ends a_letters a_firsts a_seconds a_sizes a_begins a_totals a_ranks se wa a_marks a_stack a_open) :
    ∀ d q N se wa, q + d = 4 → yj_D L O W a σ t se wa → yj_C t (tl_or (fun k => yj_G W a (tl_s L O W a (σ f)) (tl_s L O W a (σ g)) (k / 4 + 4 * (k % 4))) (4 * p + q)) (fun r => tl_sm (fun k => yj_H W a r (tl_w L O W a (σ f)) (tl_w L O W a (σ g)) (k / 4 + 4 * (k % 4))) (4 * p + q)) se wa → d < N →
    wY_judge_141 post J (nI a) (nI t) (nI p) (nI f) N (nI q) f_many f_made f_spent f_depth a_leaves a_ones a_twos a_ends a_letters a_firsts a_seconds a_sizes a_begins a_totals a_ranks se wa a_marks a_stack a_open := by
  have it : vp_in (nI t) 600 := vp_in_nI ht (by omega)
  have iif : vp_in (nI f) 600 := vp_in_nI (by omega) (by omega)
  have iig : vp_in (nI g) 600 := vp_in_nI (by omega) (by omega)
  intro d
  induction d with
  | zero =>
    intro q N se wa hq hD hC hN
    obtain ⟨N, rfl⟩ : ∃ k, N = k + 1 := ⟨N - 1, by omega⟩
    obtain rfl : q = 4 := by omega
    exact br_t (by decide) (nm_r (nI_1 p) (hJ se wa hD hC))
  | succ d ih =>
    intro q N se wa hq hD hC hN
    obtain ⟨N, rfl⟩ : ∃ k, N = k + 1 := ⟨N - 1, by omega⟩
    have hsf := tl_s_lt hR a (σ f)
    have hsg := tl_s_lt hR a (σ g)
    have bf := tn_bit (s := tl_s L O W a (σ f)) (p := p) (by omega) (by omega)
    have bg := tn_bit (s := tl_s L O W a (σ g)) (p := q) (by omega) (by omega)
    have ei : (4 * p + q) / 4 + 4 * ((4 * p + q) % 4) = p + 4 * q := by omega
    have em : (p + 4 * q) % 4 = p := by omega
    have ed : (p + 4 * q) / 4 = q := by omega
    refine br_f (nI_ge (b := 4) (by omega) (by decide)) (And.intro it ?_)
    rw [nI_clamp (n := t) (by omega), el, eg]
    refine br_t rfl (And.intro it (nm_e (And.intro iif ?_)))
    rw [nI_clamp (n := f) (by omega), (hD f hf).1, nI_clamp (n := g) (by omega), (hD g hg).1]
    -- nothing added
    have skip : (tl_w L O W a (σ f) p = 0 ∨ tl_w L O W a (σ g) q = 0) → ((tl_s L O W a (σ f)).testBit p && (tl_s L O W a (σ g)).testBit q) = false →
        wY_judge_200 post J (wY_judge_141 post J (nI a) (nI t) (nI p) (nI f) N) (nI a) (nI t) (nI p) (nI f) (nI q) (nI g) f_many f_made f_spent f_depth a_leaves a_ones a_twos a_ends a_letters a_firsts a_seconds a_sizes a_begins a_totals a_ranks se wa a_marks a_stack a_open := by
      intro h0 hb
      unfold wY_judge_200 wY_judge_201
      refine br_t rfl (nm_r (nI_1 q) (ih (q + 1) N se wa (by omega) hD (yj_C_w hC ?_ ?_) (by omega)))
      · rw [show 4 * p + (q + 1) = 4 * p + q + 1 from rfl]
        simp only [tl_or]
        rw [ei]
        simp only [yj_G, em, ed, hb, Bool.false_eq_true, if_false, Nat.or_zero]
      · intro r _
        rw [show 4 * p + (q + 1) = 4 * p + q + 1 from rfl]
        simp only [tl_sm]
        rw [ei]
        simp only [yj_H, em, ed]
        have : tl_w L O W a (σ f) p * tl_w L O W a (σ g) q = 0 := by
          rcases h0 with h0 | h0
          · rw [h0, Nat.zero_mul]
          · rw [h0, Nat.mul_zero]
        rw [this]
        split <;> rfl
    by_cases b1 : (tl_s L O W a (σ f)).testBit p = true
    · by_cases b2 : (tl_s L O W a (σ g)).testBit q = true
      · refine br_t (bf.mpr b1) (And.intro iig (br_t (bg.mpr b2) ?_))
        unfold wY_judge_201
        have ex : ((16 : Int32) * nI a + nI p) + 4 * nI q = nI (16 * a + (p + 4 * q)) := by
          rw [tn_ix 16 a p, show (4 : Int32) * nI q = nI (4 * q) from pk_mul 4 q, nI_add, Nat.add_assoc]
        rw [ex, tn_ixc 4 f p (by omega), tn_ixc 4 g q (by omega), nI_clamp (n := 16 * a + (p + 4 * q)) (by omega), hW, (hD f hf).2 p hp4, (hD g hg).2 q (by omega), pk_mul]
        refine br_f (by decide) (And.intro (vp_in_nI (by omega) (by omega)) (And.intro (tn_ixi 4 2400 f p (by omega)) (And.intro (tn_ixi 4 2400 g q (by omega)) ?_)))
        refine yj_allow (L := L) (O := O) (W := W) (σ := σ) rfl rfl rfl ht (hR.2.2.1 _) hD hC (fun se' wa' hD' hC' => ?_)
        refine nm_r (nI_1 q) (ih (q + 1) N se' wa' (by omega) hD' (yj_C_w hC' ?_ ?_) (by omega))
        · rw [show 4 * p + (q + 1) = 4 * p + q + 1 from rfl]
          simp only [tl_or]
          rw [ei]
          simp only [yj_G, em, ed, b1, b2, Bool.and_self, if_true]
        · intro r _
          rw [show 4 * p + (q + 1) = 4 * p + q + 1 from rfl]
          simp only [tl_sm]
          rw [ei]
          simp only [yj_H, em, ed]
      · exact br_t (bf.mpr b1) (And.intro iig (br_f (fun z => b2 (bg.mp z)) (skip (Or.inr (tl_w_0 a (σ g) q (by simpa using b2))) (by simp [b2]))))
    · exact br_f (fun z => b1 (bf.mp z)) (skip (Or.inl (tl_w_0 a (σ f) p (by simpa using b1))) (by simp [b1]))
theorem yj_64two {post : SY → Prop} {a t f g : Nat} (hR : tl_rl L O W F) (hW : xr_ar a_twos W) (ha : a < 2) (ht : t < 600) (hf : f < t) (hg : g < t) (el : a_letters t = nI 3) (ef : a_firsts t = nI f) (eg : a_seconds t = nI g) (et : σ t = .add (σ f) (σ g))
    (hp : ∀ se wa, yj_D L O W a σ (t + 1) se wa → post (f_many, f_made, f_spent, f_depth, a_leaves, a_ones, a_twos, a_ends, a_letters, a_firsts, a_seconds, a_sizes, a_begins, a_totals, a_ranks, se, wa, a_marks, a_stack, a_open)) :
    ∀ d p N se wa, p + d = 4 → yj_D L O W a σ t se wa → yj_C t (tl_or (fun k => yj_G W a (tl_s L O W a (σ f)) (tl_s L O W a (σ g)) (k / 4 + 4 * (k % 4))) (4 * p)) (fun r => tl_sm (fun k => yj_H W a r (tl_w L O W a (σ f)) (tl_w L O W a (σ g)) (k / 4 + 4 * (k % 4))) (4 * p)) se wa → d < N →
    wY_judge_64 post (nI a) (nI t) N (nI p) f_many f_made f_spent f_depth a_leaves a_ones a_twos a_ends a_letters a_firsts a_seconds a_sizes a_begins a_totals a_ranks se wa a_marks a_stack a_open := by
  have it : vp_in (nI t) 600 := vp_in_nI ht (by omega)
  intro d
  induction d with
  | zero =>
    intro p N se wa hp' hD hC hN
    obtain ⟨N, rfl⟩ : ∃ k, N = k + 1 := ⟨N - 1, by omega⟩
    obtain rfl : p = 4 := by omega
    refine br_t (by decide) (hp se wa ?_)
    intro j hj
    by_cases e : j = t
    · subst e
      rw [et]
      refine ⟨?_, fun q hq => ?_⟩
      · rw [hC.1]
        exact congrArg nI (tl_or_T (yj_G W a (tl_s L O W a (σ f)) (tl_s L O W a (σ g))))
      · rw [hC.2 q hq]
        exact congrArg nI (tl_sm_T (yj_H W a q (tl_w L O W a (σ f)) (tl_w L O W a (σ g))))
    · exact hD j (by omega)
  | succ d ih =>
    intro p N se wa hp' hD hC hN
    obtain ⟨N, rfl⟩ : ∃ k, N = k + 1 := ⟨N - 1, by omega⟩
    refine br_f (nI_ge (b := 4) (by omega) (by decide)) (And.intro it ?_)
    rw [nI_clamp (n := t) (by omega), el, ef]
    refine br_f (by decide) (And.intro it (nm_e (And.intro it (br_f (by decide) ?_))))
    exact Exists.intro 5 (yj_141 (L := L) (O := O) (W := W) (F := F) (σ := σ) (f := f) (g := g) hR hW ha ht (by omega) hf hg el eg (fun se' wa' hD' hC' => ih (p + 1) N se' wa' (by omega) hD' hC' (by omega)) 4 0 5 se wa rfl hD hC (by decide))
theorem yj_64one {post : SY → Prop} {a t f : Nat} (hR : tl_rl L O W F) (hO : xr_ar a_ones O) (ha : a < 2) (ht : t < 600) (hf : f < t) (el : a_letters t = nI 2) (ef : a_firsts t = nI f) (et : σ t = .mulL 0 (σ f))
    (hp : ∀ se wa, yj_D L O W a σ (t + 1) se wa → post (f_many, f_made, f_spent, f_depth, a_leaves, a_ones, a_twos, a_ends, a_letters, a_firsts, a_seconds, a_sizes, a_begins, a_totals, a_ranks, se, wa, a_marks, a_stack, a_open)) :
    ∀ d p N se wa, p + d = 4 → yj_D L O W a σ t se wa → yj_C t (tl_or (fun k => if (tl_s L O W a (σ f)).testBit k then O (4 * a + k) else 0) p) (fun r => tl_sm (fun k => if (O (4 * a + k)).testBit r then tl_w L O W a (σ f) k else 0) p) se wa → d < N →
    wY_judge_64 post (nI a) (nI t) N (nI p) f_many f_made f_spent f_depth a_leaves a_ones a_twos a_ends a_letters a_firsts a_seconds a_sizes a_begins a_totals a_ranks se wa a_marks a_stack a_open := by
  have it : vp_in (nI t) 600 := vp_in_nI ht (by omega)
  have iif : vp_in (nI f) 600 := vp_in_nI (by omega) (by omega)
  intro d
  induction d with
  | zero =>
    intro p N se wa hp' hD hC hN
    obtain ⟨N, rfl⟩ : ∃ k, N = k + 1 := ⟨N - 1, by omega⟩
    obtain rfl : p = 4 := by omega
    refine br_t (by decide) (hp se wa ?_)
    intro j hj
    by_cases e : j = t
    · subst e
      rw [et]
      exact hC
    · exact hD j (by omega)
  | succ d ih =>
    intro p N se wa hp' hD hC hN
    obtain ⟨N, rfl⟩ : ∃ k, N = k + 1 := ⟨N - 1, by omega⟩
    have hsf := tl_s_lt hR a (σ f)
    have bf := tn_bit (s := tl_s L O W a (σ f)) (p := p) (by omega) (by omega)
    have out : ∀ se wa, yj_D L O W a σ t se wa → yj_C t (tl_or (fun k => if (tl_s L O W a (σ f)).testBit k then O (4 * a + k) else 0) (p + 1)) (fun r => tl_sm (fun k => if (O (4 * a + k)).testBit r then tl_w L O W a (σ f) k else 0) (p + 1)) se wa →
        ∃ n141 : Nat, wY_judge_141 post (wY_judge_64 post (nI a) (nI t) N) (nI a) (nI t) (nI p) (nI f) n141 0 f_many f_made f_spent f_depth a_leaves a_ones a_twos a_ends a_letters a_firsts a_seconds a_sizes a_begins a_totals a_ranks se wa a_marks a_stack a_open := by
      intro se' wa' hD' hC'
      refine Exists.intro 1 (br_f (by decide) (And.intro it ?_))
      rw [nI_clamp (n := t) (by omega), el]
      exact br_f (by decide) (nm_r (nI_1 p) (ih (p + 1) N se' wa' (by omega) hD' hC' (by omega)))
    refine br_f (nI_ge (b := 4) (by omega) (by decide)) (And.intro it ?_)
    rw [nI_clamp (n := t) (by omega), el, ef]
    refine br_f (by decide) (And.intro it (nm_e (And.intro it (br_t rfl (And.intro iif ?_)))))
    rw [nI_clamp (n := f) (by omega), (hD f hf).1, tn_ixc 4 a p (by omega), hO, tn_ixc 4 f p (by omega), (hD f hf).2 p (by omega)]
    by_cases b1 : (tl_s L O W a (σ f)).testBit p = true
    · refine br_t (bf.mpr b1) (And.intro (tn_ixi 4 8 a p (by omega)) (And.intro (tn_ixi 4 2400 f p (by omega)) ?_))
      refine yj_allow (L := L) (O := O) (W := W) (σ := σ) rfl rfl rfl ht (hR.2.1 _) hD hC (fun se' wa' hD' hC' => ?_)
      refine out se' wa' hD' (yj_C_w hC' ?_ (fun r _ => rfl))
      simp only [tl_or, b1, if_true]
    · refine br_f (fun z => b1 (bf.mp z)) (out se wa hD (yj_C_w hC ?_ (fun r _ => ?_)))
      · simp only [tl_or, b1, Bool.false_eq_true, if_false, Nat.or_zero]
      · simp only [tl_sm, tl_w_0 a (σ f) p (by simpa using b1)]
        split <;> rfl
theorem yj_2 {post : SY → Prop} {a t : Nat} (hR : tl_rl L O W F) (hL : xr_ar a_leaves L) (hO : xr_ar a_ones O) (hW : xr_ar a_twos W) (ha : a < 2) (ht : t < 600) (hN : yr_N σ a_letters a_firsts a_seconds a_sizes t)
    (hD : yj_D L O W a σ t a_sets a_ways)
    (hp : ∀ se wa, yj_D L O W a σ (t + 1) se wa → post (f_many, f_made, f_spent, f_depth, a_leaves, a_ones, a_twos, a_ends, a_letters, a_firsts, a_seconds, a_sizes, a_begins, a_totals, a_ranks, se, wa, a_marks, a_stack, a_open)) :
    ∀ d q N wa, q + d = 4 → (∀ j, j < 4 * t → wa j = a_ways j) → (∀ r, r < q → wa (4 * t + r) = nI 0) → d < N → wY_judge_2 post (nI a) (nI t) f_many f_made f_spent f_depth N (nI q) a_leaves a_ones a_twos a_ends a_letters a_firsts a_seconds a_sizes a_begins a_totals a_ranks a_sets wa a_marks a_stack a_open := by
  have it : vp_in (nI t) 600 := vp_in_nI ht (by omega)
  intro d
  induction d with
  | zero =>
    intro q N wa hq ho h0 hN'
    obtain ⟨N, rfl⟩ : ∃ k, N = k + 1 := ⟨N - 1, by omega⟩
    obtain rfl : q = 4 := by omega
    have hD' : yj_D L O W a σ t (upd a_sets t 0) wa := by
      intro j hj
      refine ⟨by rw [pk_un (by omega)]; exact (hD j hj).1, fun r hr => ?_⟩
      rw [ho _ (by omega)]; exact (hD j hj).2 r hr
    have hC' : yj_C t 0 (fun _ => 0) (upd a_sets t 0) wa := ⟨pk_us, h0⟩
    refine br_t (by decide) (And.intro it ?_)
    rw [nI_clamp (n := t) (by omega)]
    refine nm_e (And.intro it ?_)
    obtain ⟨ez, hz, hc⟩ := hN
    rcases hc with ⟨c, hc2, c1, c2, c3, c4⟩ | ⟨f, hf, c1, c2, c3, c4⟩ | ⟨f, g, hf, hg, c1, c2, c3, c4⟩
    · rw [c1, tn_ixc 2 a c (by omega), hL]
      refine br_f (nI_ge (b := 2) (by omega) (by decide)) (And.intro it (And.intro (tn_ixi 2 4 a c (by omega)) ?_))
      refine yj_allow (L := L) (O := O) (W := W) (σ := σ) (times := 1) rfl rfl rfl ht (hR.1 _) hD' hC' (fun se' wa' hD2 hC2 => ?_)
      refine Exists.intro 1 (br_f (by decide) (And.intro it ?_))
      rw [nI_clamp (n := t) (by omega), c1]
      refine br_t (nI_lt (b := 2) (by omega) (by decide)) (hp se' wa' ?_)
      intro j hj
      by_cases e : j = t
      · subst e
        rw [c4]
        refine ⟨?_, fun r hr => ?_⟩
        · rw [hC2.1, Nat.zero_or]; rfl
        · rw [hC2.2 r hr]
          simp only [Nat.zero_add]; rfl
      · exact hD2 j (by omega)
    · rw [c1]
      exact br_t (by decide) (Exists.intro 5 (yj_64one (L := L) (O := O) (W := W) (F := F) (σ := σ) (f := f) hR hO ha ht hf c1 c2 c4 hp 4 0 5 _ wa rfl hD' hC' (by decide)))
    · rw [c1]
      exact br_t (by decide) (Exists.intro 5 (yj_64two (L := L) (O := O) (W := W) (F := F) (σ := σ) (f := f) (g := g) hR hW ha ht hf hg c1 c2 c3 c4 hp 4 0 5 _ wa rfl hD' hC' (by decide)))
  | succ d ih =>
    intro q N wa hq ho h0 hN'
    obtain ⟨N, rfl⟩ : ∃ k, N = k + 1 := ⟨N - 1, by omega⟩
    refine br_f (nI_ge (b := 4) (by omega) (by decide)) ?_
    rw [tn_ixc 4 t q (by omega)]
    refine And.intro (tn_ixi 4 2400 t q (by omega)) (nm_e (nm_r (nI_1 q) (ih (q + 1) N _ (by omega) ?_ ?_ (by omega))))
    · intro j hj; rw [pk_un (by omega)]; exact ho j hj
    · intro r hr
      by_cases e : r = q
      · subst e; rw [pk_us]; rfl
      · rw [pk_un (by omega)]; exact h0 r (by omega)
theorem yj_judge {post : SY → Prop} {a t : Nat} {x y : Int32} (ex : x = nI a) (ey : y = nI t) (hR : tl_rl L O W F) (hL : xr_ar a_leaves L) (hO : xr_ar a_ones O) (hW : xr_ar a_twos W) (ha : a < 2) (ht : t < 600) (hN : yr_N σ a_letters a_firsts a_seconds a_sizes t)
    (hD : yj_D L O W a σ t a_sets a_ways)
    (hp : ∀ se wa, yj_D L O W a σ (t + 1) se wa → post (f_many, f_made, f_spent, f_depth, a_leaves, a_ones, a_twos, a_ends, a_letters, a_firsts, a_seconds, a_sizes, a_begins, a_totals, a_ranks, se, wa, a_marks, a_stack, a_open)) : wpY_judge post (f_many, f_made, f_spent, f_depth, a_leaves, a_ones, a_twos, a_ends, a_letters, a_firsts, a_seconds, a_sizes, a_begins, a_totals, a_ranks, a_sets, a_ways, a_marks, a_stack, a_open) x y := by
  subst ex ey
  exact Exists.intro 5 (yj_2 hR hL hO hW ha ht hN hD hp 4 0 5 a_ways rfl (fun j _ => rfl) (fun r hr => absurd hr (Nat.not_lt_zero r)) (by decide))
theorem yj_all2 {post : SY → Prop} {a M : Nat} (hR : tl_rl L O W F) (hL : xr_ar a_leaves L) (hO : xr_ar a_ones O) (hW : xr_ar a_twos W) (ha : a < 2) (hM : M ≤ 600) (eM : f_many + f_made = nI M) (hN : ∀ j, j < M → yr_N σ a_letters a_firsts a_seconds a_sizes j)
    (hp : ∀ se wa, yj_D L O W a σ M se wa → post (f_many, f_made, f_spent, f_depth, a_leaves, a_ones, a_twos, a_ends, a_letters, a_firsts, a_seconds, a_sizes, a_begins, a_totals, a_ranks, se, wa, a_marks, a_stack, a_open)) :
    ∀ d t N se wa, t + d = M → yj_D L O W a σ t se wa → d < N → wY_judgeAll_2 post (nI a) N (nI t) f_many f_made f_spent f_depth a_leaves a_ones a_twos a_ends a_letters a_firsts a_seconds a_sizes a_begins a_totals a_ranks se wa a_marks a_stack a_open := by
  intro d
  induction d with
  | zero =>
    intro t N se wa ht hD hN'
    obtain ⟨N, rfl⟩ : ∃ k, N = k + 1 := ⟨N - 1, by omega⟩
    have : t = M := by omega
    subst this
    exact br_t (by rw [eM]; exact nI_le (Nat.le_refl _) (by omega)) (hp se wa hD)
  | succ d ih =>
    intro t N se wa ht hD hN'
    obtain ⟨N, rfl⟩ : ∃ k, N = k + 1 := ⟨N - 1, by omega⟩
    refine br_f (by rw [eM]; exact nI_ge (by omega) (by omega)) (yj_judge (L := L) (O := O) (W := W) (F := F) (σ := σ) rfl rfl hR hL hO hW ha (by omega) (hN t (by omega)) hD (fun se' wa' hD' => ?_))
    exact nm_r (nI_1 t) (ih (t + 1) N se' wa' (by omega) hD' (by omega))
theorem yj_judgeAll {post : SY → Prop} {a M : Nat} {x : Int32} (ex : x = nI a) (hR : tl_rl L O W F) (hL : xr_ar a_leaves L) (hO : xr_ar a_ones O) (hW : xr_ar a_twos W) (ha : a < 2) (hM : M ≤ 600) (eM : f_many + f_made = nI M) (hN : ∀ j, j < M → yr_N σ a_letters a_firsts a_seconds a_sizes j)
    (hp : ∀ se wa, yj_D L O W a σ M se wa → post (f_many, f_made, f_spent, f_depth, a_leaves, a_ones, a_twos, a_ends, a_letters, a_firsts, a_seconds, a_sizes, a_begins, a_totals, a_ranks, se, wa, a_marks, a_stack, a_open)) : wpY_judgeAll post (f_many, f_made, f_spent, f_depth, a_leaves, a_ones, a_twos, a_ends, a_letters, a_firsts, a_seconds, a_sizes, a_begins, a_totals, a_ranks, a_sets, a_ways, a_marks, a_stack, a_open) x := by
  subst ex
  exact Exists.intro (M + 1) (yj_all2 hR hL hO hW ha hM eM hN hp M 0 (M + 1) a_sets a_ways (by omega) (fun j hj => absurd hj (Nat.not_lt_zero j)) (by omega))
end
end
section
/-! the reference: states, runs, marks, counting, load -/
theorem tl_take_s {l : List tl_T} {i : Nat} (h : i < l.length) : l.take (i + 1) = l.take i ++ [tl_at l i] := by
  induction l generalizing i with
  | nil => exact absurd h (Nat.not_lt_zero _)
  | cons t l ih =>
    cases i with
    | zero => rfl
    | succ i =>
      rw [List.take_succ_cons, List.take_succ_cons, ih (by simpa using h)]
      rfl
theorem tl_wst_s {l : List tl_T} {i : Nat} (h : i < l.length) (f : tl_T → Nat) : tl_ws (l.take (i + 1)) f = tl_ws (l.take i) f + f (tl_at l i) := by
  rw [tl_take_s h, tl_ws_app, tl_ws_cons, tl_ws_nil, Nat.add_zero]
theorem tl_wst_mono {l : List tl_T} (f : tl_T → Nat) {i j : Nat} (h : i ≤ j) (hj : j ≤ l.length) : tl_ws (l.take i) f ≤ tl_ws (l.take j) f := by
  induction j with
  | zero => have : i = 0 := by omega
            subst this; exact Nat.le_refl _
  | succ j ih =>
    by_cases e : i = j + 1
    · subst e; exact Nat.le_refl _
    · rw [tl_wst_s (by omega)]; have := ih (by omega) (by omega); omega
section
variable {L O W F : Nat → Nat} {h m : Nat} {s : Nat → tl_T}
theorem yt_states_b {post : Int32 → SY → Prop} {u : SY} {v1 : Int32} (hb : v1 < 0 ∨ 1 < v1) (hp : post (-1) u) : wpY_states post u v1 := by
  obtain ⟨f_many, f_made, f_spent, f_depth, a_leaves, a_ones, a_twos, a_ends, a_letters, a_firsts, a_seconds, a_sizes, a_begins, a_totals, a_ranks, a_sets, a_ways, a_marks, a_stack, a_open⟩ := u
  unfold wpY_states
  dsimp only
  exact yb_bad1 hb (br_f (by decide) hp)
theorem yt_states_0 {post : Int32 → SY → Prop} {u : SY} {a : Nat} (R : yr_R L O W F h s m u) (ha : a < 2) (h0 : h = 0) (hp : post (-4) u) : wpY_states post u (nI a) := by
  obtain ⟨f_many, f_made, f_spent, f_depth, a_leaves, a_ones, a_twos, a_ends, a_letters, a_firsts, a_seconds, a_sizes, a_begins, a_totals, a_ranks, a_sets, a_ways, a_marks, a_stack, a_open⟩ := u
  have e3 : f_depth = nI h := R.2.2.1
  unfold wpY_states
  dsimp only
  exact yb_bad0 ha rfl (br_t rfl (br_t (by rw [e3, h0]; rfl) hp))
theorem yt_states {post : Int32 → SY → Prop} {u : SY} {a : Nat} (hR : tl_rl L O W F) (R : yr_R L O W F h s m u) (K : tl_sk h s m) (ha : a < 2) (h0 : 1 ≤ h)
    (hp : ∀ u', yr_R L O W F h s m u' → post (nI (tl_s L O W a (s (h - 1)))) u') : wpY_states post u (nI a) := by
  obtain ⟨f_many, f_made, f_spent, f_depth, a_leaves, a_ones, a_twos, a_ends, a_letters, a_firsts, a_seconds, a_sizes, a_begins, a_totals, a_ranks, a_sets, a_ways, a_marks, a_stack, a_open⟩ := u
  obtain ⟨e1, e2, e3, e4, e5, e6, e7, e8, e9, my, σ, hmy, em, hσ, P⟩ := R
  have hm := K.2
  have hh : h ≤ m := by have := @tl_sk_h h s; have := K.1; omega
  obtain ⟨p, hpm, es, et⟩ := P.2 (h - 1) (by omega)
  subst e3
  unfold wpY_states
  dsimp only
  refine yb_bad0 ha rfl (br_t rfl (br_f (nI_ne0 (by omega) (by omega)) ?_))
  refine yj_judgeAll (L := L) (O := O) (W := W) (F := F) (σ := σ) (M := 570 + my) rfl hR e4 e5 e6 ha (by omega) (by rw [e1, em, nI_add]) (fun j hj => (P.1 j hj).1) (fun se wa hD => ?_)
  dsimp only
  rw [tn_1 h (by omega), nI_clamp (n := h - 1) (by omega), es, nI_clamp (n := p) (by omega), (hD p hpm).1, et]
  refine And.intro (vp_in_nI (by omega) (by omega)) (And.intro (vp_in_nI (by omega) (by omega)) ?_)
  exact hp _ ⟨e1, e2, rfl, e4, e5, e6, e7, e8, e9, my, σ, hmy, em, hσ, P⟩
theorem yt_runs_b {post : Int32 → SY → Prop} {u : SY} {v1 : Int32} (hb : v1 < 0 ∨ 1 < v1) (hp : post (-1) u) : wpY_runs post u v1 := by
  obtain ⟨f_many, f_made, f_spent, f_depth, a_leaves, a_ones, a_twos, a_ends, a_letters, a_firsts, a_seconds, a_sizes, a_begins, a_totals, a_ranks, a_sets, a_ways, a_marks, a_stack, a_open⟩ := u
  unfold wpY_runs
  dsimp only
  exact yb_bad1 hb (br_f (by decide) hp)
theorem yt_runs_0 {post : Int32 → SY → Prop} {u : SY} {a : Nat} (R : yr_R L O W F h s m u) (ha : a < 2) (h0 : h = 0) (hp : post (-4) u) : wpY_runs post u (nI a) := by
  obtain ⟨f_many, f_made, f_spent, f_depth, a_leaves, a_ones, a_twos, a_ends, a_letters, a_firsts, a_seconds, a_sizes, a_begins, a_totals, a_ranks, a_sets, a_ways, a_marks, a_stack, a_open⟩ := u
  have e3 : f_depth = nI h := R.2.2.1
  unfold wpY_runs
  dsimp only
  exact yb_bad0 ha rfl (br_t rfl (br_t (by rw [e3, h0]; rfl) hp))
end
section
variable {L O W F : Nat → Nat} {σ : Nat → tl_T}
variable {f_many f_made f_spent f_depth : Int32} {a_leaves a_ones a_twos a_ends a_letters a_firsts a_seconds a_sizes a_begins a_totals a_ranks a_sets a_ways a_marks a_stack a_open : Nat → Int32}
theorem yv_29 {post : Int32 → SY → Prop} {a h p : Nat} {t : tl_T} (hR : tl_rl L O W F) (hF : xr_ar a_ends F) (ha : a < 2) (h1 : 1 ≤ h) (h12 : h ≤ 12) (hp6 : p < 600) (ed : f_depth = nI h) (es : a_stack (h - 1) = nI p)
    (hw : ∀ q, q < 4 → a_ways (4 * p + q) = nI (tl_w L O W a t q)) (hp : post (nI (tl_rn L O W F a t)) (f_many, f_made, f_spent, f_depth, a_leaves, a_ones, a_twos, a_ends, a_letters, a_firsts, a_seconds, a_sizes, a_begins, a_totals, a_ranks, a_sets, a_ways, a_marks, a_stack, a_open)) :
    ∀ d i N, i + d = 4 → d < N → wY_runs_29 post (nI a) f_many f_made f_spent f_depth a_leaves a_ones a_twos a_ends a_letters a_firsts a_seconds a_sizes a_begins a_totals a_ranks a_sets a_ways a_marks a_stack a_open N (nI (tl_sm (fun q => if (F a).testBit q then tl_w L O W a t q else 0) i)) (nI i) := by
  subst ed
  have ia : vp_in (nI a) 2 := vp_in_nI (by omega) (by omega)
  intro d
  induction d with
  | zero =>
    intro i N hi hN
    obtain ⟨N, rfl⟩ : ∃ k, N = k + 1 := ⟨N - 1, by omega⟩
    obtain rfl : i = 4 := by omega
    exact br_t (by decide) hp
  | succ d ih =>
    intro i N hi hN
    obtain ⟨N, rfl⟩ : ∃ k, N = k + 1 := ⟨N - 1, by omega⟩
    have hi1 := ih (i + 1) N (by omega) (by omega)
    have hb := tn_bit (s := F a) (p := i) (by have := hR.2.2.2 a; omega) (by omega)
    refine br_f (nI_ge (b := 4) (by omega) (by decide)) (And.intro ia ?_)
    rw [nI_clamp (n := a) (by omega), hF, tn_1 h h1, nI_clamp (n := h - 1) (by omega), es, tn_ixc 4 p i (by omega), hw i (by omega)]
    by_cases b : (F a).testBit i = true
    · refine br_t (hb.mpr b) (And.intro (vp_in_nI (by omega) (by omega)) (And.intro (tn_ixi 4 2400 p i (by omega)) (nm_r ?_ (nm_r (nI_1 i) hi1))))
      simp only [tl_sm, b, if_true]
      rw [nI_add]
    · simp only [tl_sm, b, Bool.false_eq_true, if_false, Nat.add_zero] at hi1
      exact br_f (fun z => b (hb.mp z)) (nm_r (nI_1 i) hi1)
/-- bit m of a mark: automaton m takes the tree -/
def tl_mk (F : Nat → Nat) (p : Nat) : Nat := tl_bi (decide (p % 16 &&& F 0 ≠ 0)) + 2 * tl_bi (decide (p / 16 &&& F 1 ≠ 0))
theorem yi_isOfk {post : Int32 → Prop} {kind : Nat} (hk : kind < 7) (A B : Bool) (hp : post (nI (tl_bi (tl_kb kind A B)))) : wpY_isOf post (f_many, f_made, f_spent, f_depth, a_leaves, a_ones, a_twos, a_ends, a_letters, a_firsts, a_seconds, a_sizes, a_begins, a_totals, a_ranks, a_sets, a_ways, a_marks, a_stack, a_open) (nI kind) (nI (tl_bi A + 2 * tl_bi B)) := by
  unfold wpY_isOf
  dsimp only
  obtain rfl | rfl | rfl | rfl | rfl | rfl | rfl : kind = 0 ∨ kind = 1 ∨ kind = 2 ∨ kind = 3 ∨ kind = 4 ∨ kind = 5 ∨ kind = 6 := by omega
  all_goals
    cases A <;> cases B <;>
    repeat (first | exact hp | refine br_t (by decide) ?_ | refine br_f (by decide) ?_ | refine And.intro (by decide) ?_)
theorem yi_isOf {post : Int32 → Prop} {kind p : Nat} {x y : Int32} (ex : x = nI kind) (ey : y = nI (tl_mk F p)) (hk : kind < 7) (hp : post (nI (tl_k1 F kind p))) : wpY_isOf post (f_many, f_made, f_spent, f_depth, a_leaves, a_ones, a_twos, a_ends, a_letters, a_firsts, a_seconds, a_sizes, a_begins, a_totals, a_ranks, a_sets, a_ways, a_marks, a_stack, a_open) x y := by
  subst ex ey
  exact yi_isOfk hk _ _ hp
theorem yi_55 {post : SY → Prop} {M : Nat} (hF : xr_ar a_ends F) (hR : tl_rl L O W F) (eM : f_many = nI 570) (hM : 570 ≤ M) (hD : yj_D L O W 1 σ M a_sets a_ways)
    (hp : ∀ mk, (∀ j, j < 570 → mk j = nI (tl_mk F (tl_p L O W (σ j)))) → post (f_many, f_made, f_spent, f_depth, a_leaves, a_ones, a_twos, a_ends, a_letters, a_firsts, a_seconds, a_sizes, a_begins, a_totals, a_ranks, a_sets, a_ways, mk, a_stack, a_open)) :
    ∀ d t N mk, t + d = 570 → (∀ j, j < t → mk j = nI (tl_mk F (tl_p L O W (σ j)))) → (∀ j, t ≤ j → j < 570 → mk j = nI (tl_bi (decide (tl_s L O W 0 (σ j) &&& F 0 ≠ 0)))) → d < N →
    wY_mark_55 post f_many f_made f_spent f_depth N (nI t) a_leaves a_ones a_twos a_ends a_letters a_firsts a_seconds a_sizes a_begins a_totals a_ranks a_sets a_ways mk a_stack a_open := by
  subst eM
  intro d
  induction d with
  | zero =>
    intro t N mk ht h1 h2 hN
    obtain ⟨N, rfl⟩ : ∃ k, N = k + 1 := ⟨N - 1, by omega⟩
    obtain rfl : t = 570 := by omega
    exact br_t (nI_le (Nat.le_refl _) (by omega)) (hp mk h1)
  | succ d ih =>
    intro t N mk ht h1 h2 hN
    obtain ⟨N, rfl⟩ : ∃ k, N = k + 1 := ⟨N - 1, by omega⟩
    have it : vp_in (nI t) 600 := vp_in_nI (by omega) (by omega)
    have hlt : tl_s L O W 1 (σ t) &&& F 1 < 2 ^ 31 := Nat.lt_of_le_of_lt Nat.and_le_left (by have := tl_s_lt hR 1 (σ t); omega)
    refine br_f (nI_ge (by omega) (by omega)) (And.intro it (And.intro it ?_))
    rw [nI_clamp (n := t) (by omega), (hD t (by omega)).1, hF, tn_and, h2 t (Nat.le_refl _) (by omega)]
    have st : ∀ v, v = tl_mk F (tl_p L O W (σ t)) → wY_mark_55 post (nI 570) f_made f_spent f_depth N (nI (t + 1)) a_leaves a_ones a_twos a_ends a_letters a_firsts a_seconds a_sizes a_begins a_totals a_ranks a_sets a_ways (upd mk t (nI v)) a_stack a_open := by
      intro v hv
      refine ih (t + 1) N _ (by omega) ?_ ?_ (by omega)
      · intro j hj
        by_cases e : j = t
        · subst e; rw [pk_us, hv]
        · rw [pk_un e]; exact h1 j (by omega)
      · intro j hj hj2
        rw [pk_un (by omega)]; exact h2 j (by omega) hj2
    have e0 := tl_p_0 hR (σ t)
    have e1 := tl_p_1 hR (σ t)
    by_cases b : tl_s L O W 1 (σ t) &&& F 1 = 0
    · have st' := st (tl_bi (decide (tl_s L O W 0 (σ t) &&& F 0 ≠ 0))) (by
        unfold tl_mk; rw [e0, e1, decide_eq_false (p := tl_s L O W 1 (σ t) &&& F 1 ≠ 0) (by simpa using b)]; rfl)
      rw [b]
      refine br_t rfl (And.intro it (nm_r (e' := upd mk t (nI (tl_bi (decide (tl_s L O W 0 (σ t) &&& F 0 ≠ 0))))) ?_ (nm_r (nI_1 t) st')))
      rw [Int32.add_zero]
    · have st' := st (tl_bi (decide (tl_s L O W 0 (σ t) &&& F 0 ≠ 0)) + 2) (by
        unfold tl_mk; rw [e0, e1, decide_eq_true (p := tl_s L O W 1 (σ t) &&& F 1 ≠ 0) b]; rfl)
      refine br_f (nI_ne0 (by omega) hlt) (And.intro it (nm_r (e' := upd mk t (nI (tl_bi (decide (tl_s L O W 0 (σ t) &&& F 0 ≠ 0)) + 2))) ?_ (nm_r (nI_1 t) st')))
      exact congrArg _ (nI_add _ 2)
theorem yi_7 {post : SY → Prop} {my : Nat} (hR : tl_rl L O W F) (hL : xr_ar a_leaves L) (hO : xr_ar a_ones O) (hW : xr_ar a_twos W) (hF : xr_ar a_ends F) (eM : f_many = nI 570) (em : f_made = nI my) (hmy : my ≤ 12) (hN : ∀ j, j < 570 + my → yr_N σ a_letters a_firsts a_seconds a_sizes j) (hD : yj_D L O W 0 σ (570 + my) a_sets a_ways)
    (hp : ∀ se wa mk, (∀ j, j < 570 → mk j = nI (tl_mk F (tl_p L O W (σ j)))) → post (f_many, f_made, f_spent, f_depth, a_leaves, a_ones, a_twos, a_ends, a_letters, a_firsts, a_seconds, a_sizes, a_begins, a_totals, a_ranks, se, wa, mk, a_stack, a_open)) :
    ∀ d t N mk, t + d = 570 → (∀ j, j < t → mk j = nI (tl_bi (decide (tl_s L O W 0 (σ j) &&& F 0 ≠ 0)))) → d < N →
    wY_mark_7 post f_many f_made f_spent f_depth N (nI t) a_leaves a_ones a_twos a_ends a_letters a_firsts a_seconds a_sizes a_begins a_totals a_ranks a_sets a_ways mk a_stack a_open := by
  subst eM
  intro d
  induction d with
  | zero =>
    intro t N mk ht h1 hN'
    obtain ⟨N, rfl⟩ : ∃ k, N = k + 1 := ⟨N - 1, by omega⟩
    obtain rfl : t = 570 := by omega
    refine br_t (nI_le (Nat.le_refl _) (by omega)) (yj_judgeAll (L := L) (O := O) (W := W) (F := F) (σ := σ) (a := 1) (M := 570 + my) rfl hR hL hO hW (by omega) (by omega) (by rw [em, nI_add]) hN (fun se wa hD1 => ?_))
    exact Exists.intro 571 (yi_55 (L := L) (O := O) (W := W) (σ := σ) (M := 570 + my) hF hR rfl (by omega) hD1 (fun mk' hm => hp se wa mk' hm) 570 0 571 mk rfl (fun j hj => absurd hj (Nat.not_lt_zero j)) (fun j _ hj => h1 j hj) (by decide))
  | succ d ih =>
    intro t N mk ht h1 hN'
    obtain ⟨N, rfl⟩ : ∃ k, N = k + 1 := ⟨N - 1, by omega⟩
    have it : vp_in (nI t) 600 := vp_in_nI (by omega) (by omega)
    have hlt : tl_s L O W 0 (σ t) &&& F 0 < 2 ^ 31 := Nat.lt_of_le_of_lt Nat.and_le_left (by have := tl_s_lt hR 0 (σ t); omega)
    refine br_f (nI_ge (by omega) (by omega)) (And.intro it ?_)
    rw [nI_clamp (n := t) (by omega), (hD t (by omega)).1, hF, tn_and]
    have st : ∀ v, v = tl_bi (decide (tl_s L O W 0 (σ t) &&& F 0 ≠ 0)) → wY_mark_7 post (nI 570) f_made f_spent f_depth N (nI (t + 1)) a_leaves a_ones a_twos a_ends a_letters a_firsts a_seconds a_sizes a_begins a_totals a_ranks a_sets a_ways (upd mk t (nI v)) a_stack a_open := by
      intro v hv
      refine ih (t + 1) N _ (by omega) ?_ (by omega)
      intro j hj
      by_cases e : j = t
      · subst e; rw [pk_us, hv]
      · rw [pk_un e]; exact h1 j (by omega)
    by_cases b : tl_s L O W 0 (σ t) &&& F 0 = 0
    · have st' := st 0 (by rw [decide_eq_false (by simpa using b)]; rfl)
      rw [b]
      exact br_t rfl (And.intro it (nm_e (nm_r (nI_1 t) st')))
    · have st' := st 1 (by rw [decide_eq_true b]; rfl)
      exact br_f (nI_ne0 (by omega) hlt) (And.intro it (nm_e (nm_r (nI_1 t) st')))
theorem yi_mark {post : SY → Prop} {my : Nat} (hR : tl_rl L O W F) (hL : xr_ar a_leaves L) (hO : xr_ar a_ones O) (hW : xr_ar a_twos W) (hF : xr_ar a_ends F) (eM : f_many = nI 570) (em : f_made = nI my) (hmy : my ≤ 12) (hN : ∀ j, j < 570 + my → yr_N σ a_letters a_firsts a_seconds a_sizes j)
    (hp : ∀ se wa mk, (∀ j, j < 570 → mk j = nI (tl_mk F (tl_p L O W (σ j)))) → post (f_many, f_made, f_spent, f_depth, a_leaves, a_ones, a_twos, a_ends, a_letters, a_firsts, a_seconds, a_sizes, a_begins, a_totals, a_ranks, se, wa, mk, a_stack, a_open)) : wpY_mark post (f_many, f_made, f_spent, f_depth, a_leaves, a_ones, a_twos, a_ends, a_letters, a_firsts, a_seconds, a_sizes, a_begins, a_totals, a_ranks, a_sets, a_ways, a_marks, a_stack, a_open) := by
  unfold wpY_mark
  dsimp only
  refine yj_judgeAll (L := L) (O := O) (W := W) (F := F) (σ := σ) (a := 0) (M := 570 + my) rfl hR hL hO hW (by omega) (by omega) (by rw [eM, em, nI_add]) hN (fun se wa hD => ?_)
  exact Exists.intro 571 (yi_7 (L := L) (O := O) (W := W) (F := F) (σ := σ) hR hL hO hW hF eM em hmy hN hD hp 570 0 571 a_marks rfl (fun j hj => absurd hj (Nat.not_lt_zero j)) (by decide))
theorem yi_10 {post : Int32 → Prop} {kind n : Nat} (hk : kind < 7) (h1 : 1 ≤ n) (h7 : n ≤ 7) (hb : ∀ n, n < 9 → a_begins n = nI (tl_bg n)) (hσ : ∀ j, j < 570 → σ j = tl_at (tl_al 7) j) (hm : ∀ j, j < 570 → a_marks j = nI (tl_mk F (tl_p L O W (σ j))))
    (hp : post (nI (tl_nk L O W F kind n))) :
    ∀ d i N, i + d = tl_tot n → d < N → wY_counted_10 post (nI kind) (nI n) f_many f_made f_spent f_depth a_leaves a_ones a_twos a_ends a_letters a_firsts a_seconds a_sizes a_begins a_totals a_ranks a_sets a_ways a_marks a_stack a_open N (nI (tl_ws ((tl_tr n).take i) (fun t => tl_k1 F kind (tl_p L O W t)))) (nI (tl_bg n + i)) := by
  have ebg := tl_bg_tot n (by omega) h1
  have hle := tl_bg_570 (n + 1) (by omega)
  have hlen := tl_tr_len n (by omega)
  intro d
  induction d with
  | zero =>
    intro i N hi hN
    obtain ⟨N, rfl⟩ : ∃ k, N = k + 1 := ⟨N - 1, by omega⟩
    have : i = tl_tot n := by omega
    subst this
    refine And.intro (by rw [nI_1]; exact vp_in_nI (by omega) (by omega)) ?_
    rw [nI_1, nI_clamp (n := n + 1) (by omega), hb (n + 1) (by omega), ebg, ← hlen, List.take_length]
    exact br_t (nI_le (by omega) (by omega)) hp
  | succ d ih =>
    intro i N hi hN
    obtain ⟨N, rfl⟩ : ∃ k, N = k + 1 := ⟨N - 1, by omega⟩
    have hi1 := ih (i + 1) N (by omega) (by omega)
    have es : σ (tl_bg n + i) = tl_at (tl_tr n) i := by rw [hσ _ (by omega), tl_at_tr h1 h7 (by omega)]
    rw [tl_wst_s (by omega)] at hi1
    refine And.intro (by rw [nI_1]; exact vp_in_nI (by omega) (by omega)) ?_
    rw [nI_1 n, nI_clamp (n := n + 1) (by omega), hb (n + 1) (by omega), ebg, nI_clamp (n := tl_bg n + i) (by omega)]
    refine br_f (nI_ge (by omega) (by omega)) (And.intro (vp_in_nI (by omega) (by omega)) (yi_isOf rfl (hm _ (by omega)) hk ?_))
    rw [es]
    by_cases z : tl_is F kind (tl_p L O W (tl_at (tl_tr n) i)) = true
    · have ek : tl_k1 F kind (tl_p L O W (tl_at (tl_tr n) i)) = 1 := by unfold tl_k1; rw [if_pos z]
      rw [ek] at hi1
      rw [ek]
      exact br_f (by decide) (nm_r (nI_1 _) (nm_r (nI_1 _) hi1))
    · have ek : tl_k1 F kind (tl_p L O W (tl_at (tl_tr n) i)) = 0 := by unfold tl_k1; rw [if_neg z]
      rw [ek, Nat.add_zero] at hi1
      rw [ek]
      exact br_t rfl (nm_r (nI_1 _) hi1)
theorem yi_counted {post : Int32 → Prop} {kind n : Nat} {x y : Int32} (ex : x = nI kind) (ey : y = nI n) (hk : kind < 7) (h1 : 1 ≤ n) (h7 : n ≤ 7) (hb : ∀ n, n < 9 → a_begins n = nI (tl_bg n)) (hσ : ∀ j, j < 570 → σ j = tl_at (tl_al 7) j) (hm : ∀ j, j < 570 → a_marks j = nI (tl_mk F (tl_p L O W (σ j))))
    (hp : post (nI (tl_nk L O W F kind n))) : wpY_counted post (f_many, f_made, f_spent, f_depth, a_leaves, a_ones, a_twos, a_ends, a_letters, a_firsts, a_seconds, a_sizes, a_begins, a_totals, a_ranks, a_sets, a_ways, a_marks, a_stack, a_open) x y := by
  subst ex ey
  have hle := tl_tr_382 h7
  rw [tl_tr_len n (by omega)] at hle
  unfold wpY_counted
  dsimp only
  rw [nI_clamp (n := n) (by omega), hb n (by omega)]
  exact And.intro (vp_in_nI (by omega) (by omega)) (nm_e (Exists.intro 383 (yi_10 hk h1 h7 hb hσ hm hp (tl_tot n) 0 383 (by omega) (by omega))))
theorem yi_16 {post : Int32 → SY → Prop} {kind : Nat} (hk : kind < 7) (hb : ∀ n, n < 9 → a_begins n = nI (tl_bg n)) (hσ : ∀ j, j < 570 → σ j = tl_at (tl_al 7) j) (hm : ∀ j, j < 570 → a_marks j = nI (tl_mk F (tl_p L O W (σ j))))
    (hp : post (tl_lst (tl_nk L O W F kind) 7 1) (f_many, f_made, f_spent, f_depth, a_leaves, a_ones, a_twos, a_ends, a_letters, a_firsts, a_seconds, a_sizes, a_begins, a_totals, a_ranks, a_sets, a_ways, a_marks, a_stack, a_open)) :
    ∀ d n N, n + d = 8 → 1 ≤ n → tl_lst (tl_nk L O W F kind) d n = tl_lst (tl_nk L O W F kind) 7 1 → d < N → wY_least_16 post (nI kind) f_many f_made f_spent f_depth a_leaves a_ones a_twos a_ends a_letters a_firsts a_seconds a_sizes a_begins a_totals a_ranks a_sets a_ways a_marks a_stack a_open N (nI n) := by
  intro d
  induction d with
  | zero =>
    intro n N hn h1 he hN
    obtain ⟨N, rfl⟩ : ∃ k, N = k + 1 := ⟨N - 1, by omega⟩
    obtain rfl : n = 8 := by omega
    rw [← he] at hp
    exact br_t (by decide) hp
  | succ d ih =>
    intro n N hn h1 he hN
    obtain ⟨N, rfl⟩ : ∃ k, N = k + 1 := ⟨N - 1, by omega⟩
    have hle := tl_nk_le (L := L) (O := O) (W := W) (F := F) kind n (by omega)
    refine br_f (nI_nlt (a := 7) (by omega) (by decide)) (yi_counted (σ := σ) rfl rfl hk h1 (by omega) hb hσ hm ?_)
    by_cases hz : 0 < tl_nk L O W F kind n
    · have : tl_lst (tl_nk L O W F kind) (d + 1) n = nI n := by simp only [tl_lst]; rw [if_pos hz]
      rw [← he, this] at hp
      exact br_f (nI_nle hz (by omega)) hp
    · have e2 : tl_lst (tl_nk L O W F kind) (d + 1) n = tl_lst (tl_nk L O W F kind) d (n + 1) := by
        simp only [tl_lst]; rw [if_neg hz]
      have hz : tl_nk L O W F kind n = 0 := by omega
      rw [hz]
      exact br_t (by decide) (nm_r (nI_1 n) (ih (n + 1) N (by omega) (by omega) (by rw [← e2]; exact he) (by omega)))
/-- load: from place i of the trees of the size on; e is where it ends -/
theorem yi_36 {post : Int32 → SY → Prop} {kind n e : Nat} {x3 : Int32} (hk : kind < 7) (h1 : 1 ≤ n) (h7 : n ≤ 7) (hb : ∀ n, n < 9 → a_begins n = nI (tl_bg n)) (hσ : ∀ j, j < 570 → σ j = tl_at (tl_al 7) j) (hm : ∀ j, j < 570 → a_marks j = nI (tl_mk F (tl_p L O W (σ j))))
    (he : e ≤ tl_tot n)
    (hne : ∀ i, i < e → tl_k1 F kind (tl_p L O W (tl_at (tl_tr n) i)) = 1 → nI (tl_ws ((tl_tr n).take i) (fun t => tl_k1 F kind (tl_p L O W t))) ≠ x3)
    (hp0 : e = tl_tot n → post (-4) (f_many, f_made, f_spent, f_depth, a_leaves, a_ones, a_twos, a_ends, a_letters, a_firsts, a_seconds, a_sizes, a_begins, a_totals, a_ranks, a_sets, a_ways, a_marks, a_stack, a_open))
    (hp1 : e < tl_tot n → tl_k1 F kind (tl_p L O W (tl_at (tl_tr n) e)) = 1 ∧ nI (tl_ws ((tl_tr n).take e) (fun t => tl_k1 F kind (tl_p L O W t))) = x3 ∧
      post 0 (f_many, 0, nI n, 1, a_leaves, a_ones, a_twos, a_ends, a_letters, a_firsts, a_seconds, a_sizes, a_begins, a_totals, a_ranks, a_sets, a_ways, a_marks, upd a_stack 0 (nI (tl_bg n + e)), a_open)) :
    ∀ d i N, i + d = e → d < N → wY_load_36 post (nI kind) (nI n) x3 f_many f_made f_spent f_depth a_leaves a_ones a_twos a_ends a_letters a_firsts a_seconds a_sizes a_begins a_totals a_ranks a_sets a_ways a_marks a_stack a_open N (nI (tl_ws ((tl_tr n).take i) (fun t => tl_k1 F kind (tl_p L O W t)))) (nI (tl_bg n + i)) := by
  have ebg := tl_bg_tot n (by omega) h1
  have hle := tl_bg_570 (n + 1) (by omega)
  have hlen := tl_tr_len n (by omega)
  intro d
  induction d with
  | zero =>
    intro i N hi hN
    obtain ⟨N, rfl⟩ : ∃ k, N = k + 1 := ⟨N - 1, by omega⟩
    have : i = e := by omega
    subst this
    refine And.intro (by rw [nI_1]; exact vp_in_nI (by omega) (by omega)) ?_
    rw [nI_1, nI_clamp (n := n + 1) (by omega), hb (n + 1) (by omega), ebg, nI_clamp (n := tl_bg n + i) (by omega)]
    by_cases c : i = tl_tot n
    · exact br_t (nI_le (by omega) (by omega)) (hp0 c)
    · obtain ⟨ek, ex, hp⟩ := hp1 (by omega)
      have es : σ (tl_bg n + i) = tl_at (tl_tr n) i := by rw [hσ _ (by omega), tl_at_tr h1 h7 (by omega)]
      refine br_f (nI_ge (by omega) (by omega)) (And.intro (vp_in_nI (by omega) (by omega)) (yi_isOf rfl (hm _ (by omega)) hk ?_))
      rw [es, ek]
      exact br_f (by decide) (br_t ex (nm_e hp))
  | succ d ih =>
    intro i N hi hN
    obtain ⟨N, rfl⟩ : ∃ k, N = k + 1 := ⟨N - 1, by omega⟩
    have hi1 := ih (i + 1) N (by omega) (by omega)
    have es : σ (tl_bg n + i) = tl_at (tl_tr n) i := by rw [hσ _ (by omega), tl_at_tr h1 h7 (by omega)]
    rw [tl_wst_s (by omega)] at hi1
    refine And.intro (by rw [nI_1]; exact vp_in_nI (by omega) (by omega)) ?_
    rw [nI_1 n, nI_clamp (n := n + 1) (by omega), hb (n + 1) (by omega), ebg, nI_clamp (n := tl_bg n + i) (by omega)]
    refine br_f (nI_ge (by omega) (by omega)) (And.intro (vp_in_nI (by omega) (by omega)) (yi_isOf rfl (hm _ (by omega)) hk ?_))
    rw [es]
    by_cases z : tl_is F kind (tl_p L O W (tl_at (tl_tr n) i)) = true
    · have ek : tl_k1 F kind (tl_p L O W (tl_at (tl_tr n) i)) = 1 := by unfold tl_k1; rw [if_pos z]
      rw [ek] at hi1
      rw [ek]
      exact br_f (by decide) (br_f (hne i (by omega) ek) (nm_r (nI_1 _) (nm_r (nI_1 _) hi1)))
    · have ek : tl_k1 F kind (tl_p L O W (tl_at (tl_tr n) i)) = 0 := by unfold tl_k1; rw [if_neg z]
      rw [ek, Nat.add_zero] at hi1
      rw [ek]
      exact br_t rfl (nm_r (nI_1 _) hi1)
end
section
variable {L O W F : Nat → Nat} {h m : Nat} {s : Nat → tl_T}
theorem yt_runs {post : Int32 → SY → Prop} {u : SY} {a : Nat} (hR : tl_rl L O W F) (R : yr_R L O W F h s m u) (K : tl_sk h s m) (ha : a < 2) (h0 : 1 ≤ h)
    (hp : ∀ u', yr_R L O W F h s m u' → post (nI (tl_rn L O W F a (s (h - 1)))) u') : wpY_runs post u (nI a) := by
  obtain ⟨f_many, f_made, f_spent, f_depth, a_leaves, a_ones, a_twos, a_ends, a_letters, a_firsts, a_seconds, a_sizes, a_begins, a_totals, a_ranks, a_sets, a_ways, a_marks, a_stack, a_open⟩ := u
  obtain ⟨e1, e2, e3, e4, e5, e6, e7, e8, e9, my, σ, hmy, em, hσ, P⟩ := R
  have hm := K.2
  have hh : h ≤ m := by have := @tl_sk_h h s; have := K.1; omega
  obtain ⟨p, hpm, es, et⟩ := P.2 (h - 1) (by omega)
  unfold wpY_runs
  dsimp only
  refine yb_bad0 ha rfl (br_t rfl (br_f (by rw [e3]; exact nI_ne0 (by omega) (by omega)) ?_))
  refine yj_judgeAll (L := L) (O := O) (W := W) (F := F) (σ := σ) (M := 570 + my) rfl hR e4 e5 e6 ha (by omega) (by rw [e1, em, nI_add]) (fun j hj => (P.1 j hj).1) (fun se wa hD => ?_)
  dsimp only
  refine Exists.intro 5 (yv_29 (L := L) (O := O) (W := W) (t := s (h - 1)) (p := p) hR e7 ha h0 (by omega) (by omega) e3 es ?_ ?_ 4 0 5 rfl (by decide))
  · rw [← et]; exact (hD p hpm).2
  · exact hp _ ⟨e1, e2, e3, e4, e5, e6, e7, e8, e9, my, σ, hmy, em, hσ, P⟩
theorem yt_count_b {post : Int32 → SY → Prop} {u : SY} {v1 v2 : Int32} (hb : (v1 < 0 ∨ 6 < v1) ∨ (v2 < 1 ∨ 7 < v2)) (hp : post (-1) u) : wpY_count post u v1 v2 := by
  obtain ⟨f_many, f_made, f_spent, f_depth, a_leaves, a_ones, a_twos, a_ends, a_letters, a_firsts, a_seconds, a_sizes, a_begins, a_totals, a_ranks, a_sets, a_ways, a_marks, a_stack, a_open⟩ := u
  unfold wpY_count
  dsimp only
  rcases yb_or (x := v1) 6 (M := 6) (by decide) with b | ⟨a, ha, ea⟩
  · exact yb_kind1 b (br_f (by decide) hp)
  refine yb_kind0 ha ea (br_t rfl ?_)
  by_cases h0 : v2 < 1
  · exact br_t h0 hp
  by_cases h1 : v2 ≤ 7
  · exfalso
    rcases hb with b | b
    · rw [ea] at b
      rcases b with b | b
      · exact absurd b (nI_pos (by omega))
      · exact absurd b (nI_nlt (a := 6) (b := a) (by omega) (by decide))
    · rcases b with b | b
      · exact h0 b
      · exact absurd h1 (Int32.not_le.mpr b)
  · exact br_f h0 (br_f h1 hp)
theorem yt_count {post : Int32 → SY → Prop} {u : SY} {kind n : Nat} (hR : tl_rl L O W F) (R : yr_R L O W F h s m u) (hm12 : m ≤ 12) (hk : kind < 7) (h1 : 1 ≤ n) (h7 : n ≤ 7)
    (hp : ∀ u', yr_R L O W F h s m u' → post (nI (tl_nk L O W F kind n)) u') : wpY_count post u (nI kind) (nI n) := by
  obtain ⟨f_many, f_made, f_spent, f_depth, a_leaves, a_ones, a_twos, a_ends, a_letters, a_firsts, a_seconds, a_sizes, a_begins, a_totals, a_ranks, a_sets, a_ways, a_marks, a_stack, a_open⟩ := u
  obtain ⟨e1, e2, e3, e4, e5, e6, e7, e8, e9, my, σ, hmy, em, hσ, P⟩ := R
  unfold wpY_count
  dsimp only
  refine yb_kind0 hk rfl (br_t rfl (br_f (nI_nlt (b := 1) (by omega) (by omega)) (br_t (nI_le (b := 7) (by omega) (by decide)) ?_)))
  refine yi_mark (L := L) (O := O) (W := W) (F := F) (σ := σ) (my := my) hR e4 e5 e6 e7 e1 em (by omega) (fun j hj => (P.1 j hj).1) (fun se wa mk hmk => ?_)
  dsimp only
  exact yi_counted (L := L) (O := O) (W := W) (F := F) (σ := σ) rfl rfl hk h1 h7 e8 hσ hmk (hp _ ⟨e1, e2, e3, e4, e5, e6, e7, e8, e9, my, σ, hmy, em, hσ, P⟩)
theorem yt_least_b {post : Int32 → SY → Prop} {u : SY} {v1 : Int32} (hb : v1 < 0 ∨ 6 < v1) (hp : post (-1) u) : wpY_least post u v1 := by
  obtain ⟨f_many, f_made, f_spent, f_depth, a_leaves, a_ones, a_twos, a_ends, a_letters, a_firsts, a_seconds, a_sizes, a_begins, a_totals, a_ranks, a_sets, a_ways, a_marks, a_stack, a_open⟩ := u
  unfold wpY_least
  dsimp only
  exact yb_kind1 hb (br_f (by decide) hp)
theorem yt_least {post : Int32 → SY → Prop} {u : SY} {kind : Nat} (hR : tl_rl L O W F) (R : yr_R L O W F h s m u) (hm12 : m ≤ 12) (hk : kind < 7)
    (hp : ∀ u', yr_R L O W F h s m u' → post (tl_lst (tl_nk L O W F kind) 7 1) u') : wpY_least post u (nI kind) := by
  obtain ⟨f_many, f_made, f_spent, f_depth, a_leaves, a_ones, a_twos, a_ends, a_letters, a_firsts, a_seconds, a_sizes, a_begins, a_totals, a_ranks, a_sets, a_ways, a_marks, a_stack, a_open⟩ := u
  obtain ⟨e1, e2, e3, e4, e5, e6, e7, e8, e9, my, σ, hmy, em, hσ, P⟩ := R
  unfold wpY_least
  dsimp only
  refine yb_kind0 hk rfl (br_t rfl ?_)
  refine yi_mark (L := L) (O := O) (W := W) (F := F) (σ := σ) (my := my) hR e4 e5 e6 e7 e1 em (by omega) (fun j hj => (P.1 j hj).1) (fun se wa mk hmk => ?_)
  dsimp only
  exact Exists.intro 8 (yi_16 (L := L) (O := O) (W := W) (F := F) (σ := σ) hk e8 hσ hmk (hp _ ⟨e1, e2, e3, e4, e5, e6, e7, e8, e9, my, σ, hmy, em, hσ, P⟩) 7 1 8 rfl (by omega) rfl (by decide))
theorem yt_load_b {post : Int32 → SY → Prop} {u : SY} {v1 v2 v3 : Int32} (hb : (v1 < 0 ∨ 6 < v1) ∨ (v2 < 1 ∨ 7 < v2)) (hp : post (-1) u) : wpY_load post u v1 v2 v3 := by
  obtain ⟨f_many, f_made, f_spent, f_depth, a_leaves, a_ones, a_twos, a_ends, a_letters, a_firsts, a_seconds, a_sizes, a_begins, a_totals, a_ranks, a_sets, a_ways, a_marks, a_stack, a_open⟩ := u
  unfold wpY_load
  dsimp only
  rcases yb_or (x := v1) 6 (M := 6) (by decide) with b | ⟨a, ha, ea⟩
  · exact yb_kind1 b (br_f (by decide) hp)
  refine yb_kind0 ha ea (br_t rfl ?_)
  by_cases h0 : v2 < 1
  · exact br_t h0 hp
  by_cases h1 : v2 ≤ 7
  · exfalso
    rcases hb with b | b
    · rw [ea] at b
      rcases b with b | b
      · exact absurd b (nI_pos (by omega))
      · exact absurd b (nI_nlt (a := 6) (b := a) (by omega) (by decide))
    · rcases b with b | b
      · exact h0 b
      · exact absurd h1 (Int32.not_le.mpr b)
  · exact br_f h0 (br_f h1 hp)
theorem yt_load_n {post : Int32 → SY → Prop} {u : SY} {kind n : Nat} {v3 : Int32} (hR : tl_rl L O W F) (R : yr_R L O W F h s m u) (hm12 : m ≤ 12) (hk : kind < 7) (h1 : 1 ≤ n) (h7 : n ≤ 7) (hne : ∀ k, k < tl_nk L O W F kind n → v3 ≠ nI k)
    (hp : ∀ u', yr_R L O W F h s m u' → post (-4) u') : wpY_load post u (nI kind) (nI n) v3 := by
  obtain ⟨f_many, f_made, f_spent, f_depth, a_leaves, a_ones, a_twos, a_ends, a_letters, a_firsts, a_seconds, a_sizes, a_begins, a_totals, a_ranks, a_sets, a_ways, a_marks, a_stack, a_open⟩ := u
  obtain ⟨e1, e2, e3, e4, e5, e6, e7, e8, e9, my, σ, hmy, em, hσ, P⟩ := R
  have hle := tl_tr_382 h7
  have hlen := tl_tr_len n (by omega)
  unfold wpY_load
  dsimp only
  refine yb_kind0 hk rfl (br_t rfl (br_f (nI_nlt (b := 1) (by omega) (by omega)) (br_t (nI_le (b := 7) (by omega) (by decide)) ?_)))
  refine yi_mark (L := L) (O := O) (W := W) (F := F) (σ := σ) (my := my) hR e4 e5 e6 e7 e1 em (by omega) (fun j hj => (P.1 j hj).1) (fun se wa mk hmk => ?_)
  dsimp only
  rw [nI_clamp (n := n) (by omega), e8 n (by omega)]
  refine And.intro (vp_in_nI (by omega) (by omega)) (nm_e (Exists.intro 383 ?_))
  refine yi_36 (L := L) (O := O) (W := W) (F := F) (σ := σ) (e := tl_tot n) hk h1 h7 e8 hσ hmk (Nat.le_refl _) (fun i hi ek e => ?_) (fun _ => hp _ ⟨e1, e2, e3, e4, e5, e6, e7, e8, e9, my, σ, hmy, em, hσ, P⟩) (fun z => absurd z (Nat.lt_irrefl _)) (tl_tot n) 0 383 (by omega) (by omega)
  refine hne _ ?_ e.symm
  have h2 := tl_wst_mono (l := tl_tr n) (fun t => tl_k1 F kind (tl_p L O W t)) (show i + 1 ≤ (tl_tr n).length by omega) (Nat.le_refl _)
  rw [tl_wst_s (by omega), ek, List.take_length] at h2
  have e9 : tl_nk L O W F kind n = tl_ws (tl_tr n) (fun t => tl_k1 F kind (tl_p L O W t)) := rfl
  omega
theorem yt_load_g {post : Int32 → SY → Prop} {u : SY} {kind n k : Nat} {t : tl_T} (hR : tl_rl L O W F) (R : yr_R L O W F h s m u) (hm12 : m ≤ 12) (hk : kind < 7) (h1 : 1 ≤ n) (h7 : n ≤ 7) (hs : tl_sel (tl_tr n) (fun t => tl_k1 F kind (tl_p L O W t)) k t 0)
    (hp : ∀ u', yr_R L O W F 1 (tl_put s 0 t) n u' → post 0 u') : wpY_load post u (nI kind) (nI n) (nI k) := by
  obtain ⟨f_many, f_made, f_spent, f_depth, a_leaves, a_ones, a_twos, a_ends, a_letters, a_firsts, a_seconds, a_sizes, a_begins, a_totals, a_ranks, a_sets, a_ways, a_marks, a_stack, a_open⟩ := u
  obtain ⟨e1, e2, e3, e4, e5, e6, e7, e8, e9, my, σ, hmy, em, hσ, P⟩ := R
  have hle := tl_tr_382 h7
  have hlen := tl_tr_len n (by omega)
  have ebg := tl_bg_tot n (by omega) h1
  have hbg := tl_bg_570 (n + 1) (by omega)
  obtain ⟨l1, l2, el, ek, hk1⟩ := hs
  have hl1 : l1.length < (tl_tr n).length := by rw [el, List.length_append, List.length_cons]; omega
  have hat : tl_at (tl_tr n) l1.length = t := by
    have := tl_at_r (a := l1) (b := t :: l2) (j := 0)
    rw [Nat.add_zero] at this
    rw [el, this]; rfl
  have htk : (tl_tr n).take l1.length = l1 := by
    conv => lhs; rw [el]
    exact List.take_left
  have hkt : tl_k1 F kind (tl_p L O W t) = 1 := by
    dsimp only at hk1
    unfold tl_k1 at hk1 ⊢
    split <;> simp_all
  have hw31 : tl_ws l1 (fun t => tl_k1 F kind (tl_p L O W t)) ≤ 382 := by
    have h2 := tl_wst_mono (l := tl_tr n) (fun t => tl_k1 F kind (tl_p L O W t)) (Nat.le_of_lt hl1) (Nat.le_refl _)
    rw [htk, List.take_length] at h2
    exact Nat.le_trans h2 (tl_nk_le (L := L) (O := O) (W := W) (F := F) kind n h7)
  unfold wpY_load
  dsimp only
  refine yb_kind0 hk rfl (br_t rfl (br_f (nI_nlt (b := 1) (by omega) (by omega)) (br_t (nI_le (b := 7) (by omega) (by decide)) ?_)))
  refine yi_mark (L := L) (O := O) (W := W) (F := F) (σ := σ) (my := my) hR e4 e5 e6 e7 e1 em (by omega) (fun j hj => (P.1 j hj).1) (fun se wa mk hmk => ?_)
  dsimp only
  rw [nI_clamp (n := n) (by omega), e8 n (by omega)]
  refine And.intro (vp_in_nI (by omega) (by omega)) (nm_e (Exists.intro 383 ?_))
  refine yi_36 (L := L) (O := O) (W := W) (F := F) (σ := σ) (e := l1.length) hk h1 h7 e8 hσ hmk (by omega) (fun i hi ei e => ?_) (fun z => absurd z (by omega)) (fun _ => ⟨by rw [hat]; exact hkt, by rw [htk, ek, Nat.add_zero], ?_⟩) l1.length 0 383 (by omega) (by omega)
  · have h2 := tl_wst_mono (l := tl_tr n) (fun t => tl_k1 F kind (tl_p L O W t)) (show i + 1 ≤ l1.length by omega) (by omega)
    rw [tl_wst_s (by omega), ei, htk] at h2
    have := (nI_eq (by omega) (by omega)).mp e
    omega
  · refine hp _ ⟨e1, rfl, rfl, e4, e5, e6, e7, e8, e9, 0, σ, Nat.zero_le _, rfl, hσ, fun j hj => P.1 j (by omega), fun i hi => ?_⟩
    obtain rfl : i = 0 := by omega
    exact ⟨tl_bg n + l1.length, by omega, pk_us, by rw [tl_put_s, hσ _ (by omega), tl_at_tr h1 h7 (by omega), hat]⟩
end
end
section
/-! the reference: its constructor lists all trees of up to seven letters -/
def yn_T (l : List tl_T) (le fi se sz : Nat → Int32) : Prop := ∀ j, j < l.length → yr_N (tl_at l) le fi se sz j
theorem yn_push {l : List tl_T} {le fi se sz : Nat → Int32} (T : yn_T l le fi se sz) {t : tl_T} {x y z : Int32} (hz : tl_sz t ≤ 12)
    (c : (∃ c, c < 2 ∧ x = nI c ∧ y = -1 ∧ z = -1 ∧ t = .num c) ∨ (∃ f, f < l.length ∧ x = nI 2 ∧ y = nI f ∧ z = -1 ∧ t = .mulL 0 (tl_at l f)) ∨ (∃ f g, f < l.length ∧ g < l.length ∧ x = nI 3 ∧ y = nI f ∧ z = nI g ∧ t = .add (tl_at l f) (tl_at l g))) :
    yn_T (l ++ [t]) (upd le l.length x) (upd fi l.length y) (upd se l.length z) (upd sz l.length (nI (tl_sz t))) := by
  have hlast : tl_at (l ++ [t]) l.length = t := by
    have := tl_at_r (a := l) (b := [t]) (j := 0)
    rw [Nat.add_zero] at this
    rw [this]; rfl
  intro j hj
  rw [List.length_append, List.length_singleton] at hj
  by_cases e : j = l.length
  · subst e
    refine yr_N_keep (yr_N_new (σ := tl_at l) hz c) (fun i hi => ?_) rfl rfl rfl rfl
    by_cases e : i = l.length
    · subst e; rw [hlast, tl_put_s]
    · rw [tl_at_l (by omega), tl_put_n e]
  · exact yr_N_keep (T j (by omega)) (fun i hi => tl_at_l (by omega)) (pk_un e) (pk_un e) (pk_un e) (pk_un e)
theorem tl_at_trm {m k i : Nat} (h1 : 1 ≤ k) (hk : k ≤ m) (h7 : m ≤ 7) (hi : i < tl_tot k) : tl_bg k + i < (tl_al m).length ∧ tl_at (tl_al m) (tl_bg k + i) = tl_at (tl_tr k) i := by
  obtain ⟨n, rfl⟩ : ∃ n, k = n + 1 := ⟨k - 1, by omega⟩
  have hb := tl_bg_tot (n + 1) (by omega) (by omega)
  have hl : tl_bg (n + 1) + i < (tl_al (n + 1)).length := by
    rw [← tl_bg_len (n + 1) (by omega), hb]; omega
  have e := tl_at_al (n + 1) (m - (n + 1)) hl
  rw [show n + 1 + (m - (n + 1)) = m by omega] at e
  refine ⟨?_, ?_⟩
  · have mono : ∀ d, (tl_al (n + 1)).length ≤ (tl_al (n + 1 + d)).length := by
      intro d
      induction d with
      | zero => exact Nat.le_refl _
      | succ d ih => rw [← Nat.add_assoc]; simp only [tl_al, List.length_append] at ih ⊢; omega
    have := mono (m - (n + 1))
    rw [show n + 1 + (m - (n + 1)) = m by omega] at this
    omega
  · rw [e]
    simp only [tl_al]
    rw [tl_bg_len n (by omega), tl_at_r]
theorem tl_at_szk {k i : Nat} (h7 : k ≤ 7) (hi : i < tl_tot k) : tl_sz (tl_at (tl_tr k) i) = k := tl_tr_size h7 (tl_at_mem (by rw [tl_tr_len k (by omega)]; exact hi))
theorem tl_pr_len (a b : List tl_T) : (tl_pr a b).length = a.length * b.length := by
  induction a with
  | nil => rw [tl_pr_nil]; simp
  | cons t a ih => rw [tl_pr_cons, List.length_append, List.length_map, ih, List.length_cons, Nat.succ_mul]; omega
section
variable {f_many f_made f_spent f_depth : Int32} {a_leaves a_ones a_twos a_ends a_letters a_firsts a_seconds a_sizes a_begins a_totals a_ranks a_sets a_ways a_marks a_stack a_open : Nat → Int32}
theorem yn_68 {post : SY → Prop} {l : List tl_T} {t : tl_T} {z0 z1 z2 x y z : Int32} {le fi se : Nat → Int32} (hl : l.length < 600) (em : f_many = nI l.length) (T : yn_T l le fi se a_sizes) (hz : tl_sz t ≤ 12)
    (c : (∃ c, c < 2 ∧ x = nI c ∧ y = -1 ∧ z = -1 ∧ t = .num c) ∨ (∃ f, f < l.length ∧ x = nI 2 ∧ y = nI f ∧ z = -1 ∧ t = .mulL 0 (tl_at l f)) ∨ (∃ f g, f < l.length ∧ g < l.length ∧ x = nI 3 ∧ y = nI f ∧ z = nI g ∧ t = .add (tl_at l f) (tl_at l g)))
    (e2 : z2 = f_many) (es : z1 + z0 = nI (tl_sz t)) (h1 : a_letters = upd le l.length x) (h2 : a_firsts = upd fi l.length y) (h3 : a_seconds = upd se l.length z)
    (hp : ∀ sz, yn_T (l ++ [t]) a_letters a_firsts a_seconds sz → post (nI (l.length + 1), f_made, f_spent, f_depth, a_leaves, a_ones, a_twos, a_ends, a_letters, a_firsts, a_seconds, sz, a_begins, a_totals, a_ranks, a_sets, a_ways, a_marks, a_stack, a_open)) : wY_add_68 post z0 z1 z2 f_many f_made f_spent f_depth a_leaves a_ones a_twos a_ends a_letters a_firsts a_seconds a_sizes a_begins a_totals a_ranks a_sets a_ways a_marks a_stack a_open := by
  subst e2 em
  have Q := yn_push T hz c
  rw [← h1, ← h2, ← h3] at Q
  unfold wY_add_68
  rw [nI_clamp (n := l.length) (by omega), es]
  exact And.intro (vp_in_nI hl (by omega)) (nm_e (nm_r (nI_1 _) (hp _ Q)))
theorem yn_add0 {post : SY → Prop} {l : List tl_T} {c : Nat} {x y z : Int32} (hl : l.length < 600) (em : f_many = nI l.length) (T : yn_T l a_letters a_firsts a_seconds a_sizes) (hc : c < 2) (ex : x = nI c) (ey : y = -1) (ez : z = -1)
    (hp : ∀ le fi se sz, yn_T (l ++ [.num c]) le fi se sz → post (nI (l.length + 1), f_made, f_spent, f_depth, a_leaves, a_ones, a_twos, a_ends, le, fi, se, sz, a_begins, a_totals, a_ranks, a_sets, a_ways, a_marks, a_stack, a_open)) : wpY_add post (f_many, f_made, f_spent, f_depth, a_leaves, a_ones, a_twos, a_ends, a_letters, a_firsts, a_seconds, a_sizes, a_begins, a_totals, a_ranks, a_sets, a_ways, a_marks, a_stack, a_open) x y z := by
  have ii : vp_in f_many 600 := by rw [em]; exact vp_in_nI hl (by omega)
  have ci : f_many.toNatClampNeg = l.length := by rw [em]; exact nI_clamp (by omega)
  unfold wpY_add
  dsimp only
  rw [ci]
  refine And.intro ii (nm_e (And.intro ii (nm_e (And.intro ii (nm_e (br_f (by rw [ey]; decide) ?_))))))
  unfold wY_add_53
  refine br_f (by rw [ez]; decide) ?_
  exact yn_68 (x := x) (y := y) (z := z) (t := .num c) hl em T (by simp only [tl_sz]; omega) (Or.inl ⟨c, hc, ex, ey, ez, rfl⟩) rfl (by simp only [tl_sz]; decide) rfl rfl rfl (fun sz Q => hp _ _ _ sz Q)
theorem yn_add1 {post : SY → Prop} {l : List tl_T} {f : Nat} {x y z : Int32} (hl : l.length < 600) (em : f_many = nI l.length) (T : yn_T l a_letters a_firsts a_seconds a_sizes) (hf : f < l.length) (hz : 1 + tl_sz (tl_at l f) ≤ 12) (ex : x = 2) (ey : y = nI f) (ez : z = -1)
    (hp : ∀ le fi se sz, yn_T (l ++ [.mulL 0 (tl_at l f)]) le fi se sz → post (nI (l.length + 1), f_made, f_spent, f_depth, a_leaves, a_ones, a_twos, a_ends, le, fi, se, sz, a_begins, a_totals, a_ranks, a_sets, a_ways, a_marks, a_stack, a_open)) : wpY_add post (f_many, f_made, f_spent, f_depth, a_leaves, a_ones, a_twos, a_ends, a_letters, a_firsts, a_seconds, a_sizes, a_begins, a_totals, a_ranks, a_sets, a_ways, a_marks, a_stack, a_open) x y z := by
  have ii : vp_in f_many 600 := by rw [em]; exact vp_in_nI hl (by omega)
  have ci : f_many.toNatClampNeg = l.length := by rw [em]; exact nI_clamp (by omega)
  unfold wpY_add
  dsimp only
  rw [ci]
  refine And.intro ii (nm_e (And.intro ii (nm_e (And.intro ii (nm_e (br_t (by rw [ey]; exact nI_pos' (by omega)) ?_))))))
  refine And.intro (by rw [ey]; exact vp_in_nI (by omega) (by omega)) ?_
  unfold wY_add_53
  refine br_f (by rw [ez]; decide) ?_
  have es : (1 : Int32) + a_sizes y.toNatClampNeg + 0 = nI (1 + tl_sz (tl_at l f)) := by
    rw [ey, nI_clamp (n := f) (by omega), (T f hf).1, Int32.add_zero]; exact nI_add 1 _
  exact yn_68 (x := x) (y := y) (z := z) (t := .mulL 0 (tl_at l f)) hl em T hz (Or.inr (Or.inl ⟨f, hf, ex, ey, ez, rfl⟩)) rfl es rfl rfl rfl (fun sz Q => hp _ _ _ sz Q)
theorem yn_add2 {post : SY → Prop} {l : List tl_T} {f g : Nat} {x y z : Int32} (hl : l.length < 600) (em : f_many = nI l.length) (T : yn_T l a_letters a_firsts a_seconds a_sizes) (hf : f < l.length) (hg : g < l.length) (hz : 1 + tl_sz (tl_at l f) + tl_sz (tl_at l g) ≤ 12) (ex : x = 3) (ey : y = nI f) (ez : z = nI g)
    (hp : ∀ le fi se sz, yn_T (l ++ [.add (tl_at l f) (tl_at l g)]) le fi se sz → post (nI (l.length + 1), f_made, f_spent, f_depth, a_leaves, a_ones, a_twos, a_ends, le, fi, se, sz, a_begins, a_totals, a_ranks, a_sets, a_ways, a_marks, a_stack, a_open)) : wpY_add post (f_many, f_made, f_spent, f_depth, a_leaves, a_ones, a_twos, a_ends, a_letters, a_firsts, a_seconds, a_sizes, a_begins, a_totals, a_ranks, a_sets, a_ways, a_marks, a_stack, a_open) x y z := by
  have ii : vp_in f_many 600 := by rw [em]; exact vp_in_nI hl (by omega)
  have ci : f_many.toNatClampNeg = l.length := by rw [em]; exact nI_clamp (by omega)
  unfold wpY_add
  dsimp only
  rw [ci]
  refine And.intro ii (nm_e (And.intro ii (nm_e (And.intro ii (nm_e (br_t (by rw [ey]; exact nI_pos' (by omega)) ?_))))))
  refine And.intro (by rw [ey]; exact vp_in_nI (by omega) (by omega)) ?_
  unfold wY_add_53
  refine br_t (by rw [ez]; exact nI_pos' (by omega)) (And.intro (by rw [ez]; exact vp_in_nI (by omega) (by omega)) ?_)
  have es : (1 : Int32) + a_sizes y.toNatClampNeg + a_sizes z.toNatClampNeg = nI (1 + tl_sz (tl_at l f) + tl_sz (tl_at l g)) := by
    rw [ey, ez, nI_clamp (n := f) (by omega), nI_clamp (n := g) (by omega), (T f hf).1, (T g hg).1, ← nI_add, ← nI_add]; rfl
  exact yn_68 (x := x) (y := y) (z := z) (t := .add (tl_at l f) (tl_at l g)) hl em T hz (Or.inr (Or.inr ⟨f, g, hf, hg, ex, ey, ez, rfl⟩)) rfl es rfl rfl rfl (fun sz Q => hp _ _ _ sz Q)
end
section
variable {m i j : Nat}
variable {f_many f_made f_spent f_depth : Int32} {a_leaves a_ones a_twos a_ends a_letters a_firsts a_seconds a_sizes a_begins a_totals a_ranks a_sets a_ways a_marks a_stack a_open : Nat → Int32}
theorem yn_27 {post : SY → Prop} {J : Int32 → Int32 → Int32 → Int32 → Int32 → (Nat → Int32) → (Nat → Int32) → (Nat → Int32) → (Nat → Int32) → (Nat → Int32) → (Nat → Int32) → (Nat → Int32) → (Nat → Int32) → (Nat → Int32) → (Nat → Int32) → (Nat → Int32) → (Nat → Int32) → (Nat → Int32) → (Nat → Int32) → (Nat → Int32) → (Nat → Int32) → Prop}
    {x : Nat} {r : List tl_T} (hm : m ≤ 6) (hi1 : 1 ≤ i) (him : i ≤ m) (hj1 : 1 ≤ j) (hjm : j ≤ m) (hij : i + j ≤ m) (hx : x < tl_tot i) (hb : ∀ k, k < m + 2 → a_begins k = nI (tl_bg k))
    (hB : (tl_al m).length + r.length + tl_tot j ≤ 570)
    (hJ : ∀ le fi se sz, yn_T (tl_al m ++ (r ++ List.map (β := tl_T) (fun u => .add (tl_at (tl_tr i) x) u) (tl_tr j))) le fi se sz →
      J (nI (tl_bg i + x + 1)) (nI ((tl_al m).length + r.length + tl_tot j)) f_made f_spent f_depth a_leaves a_ones a_twos a_ends le fi se sz a_begins a_totals a_ranks a_sets a_ways a_marks a_stack a_open) :
    ∀ d v N le fi se sz, v + d = tl_tot j → yn_T (tl_al m ++ (r ++ List.map (β := tl_T) (fun u => .add (tl_at (tl_tr i) x) u) ((tl_tr j).take v))) le fi se sz → d < N →
    wY_pairs_27 post J (nI i) (nI j) (nI (tl_bg i + x)) N (nI (tl_bg j + v)) (nI ((tl_al m).length + r.length + v)) f_made f_spent f_depth a_leaves a_ones a_twos a_ends le fi se sz a_begins a_totals a_ranks a_sets a_ways a_marks a_stack a_open := by
  have ebj := tl_bg_tot j (by omega) hj1
  have hbj := tl_bg_570 (j + 1) (by omega)
  have hbi := tl_bg_570 (i + 1) (by omega)
  have ebi := tl_bg_tot i (by omega) hi1
  have hlj := tl_tr_len j (by omega)
  intro d
  induction d with
  | zero =>
    intro v N le fi se sz hv T hN
    obtain ⟨N, rfl⟩ : ∃ k, N = k + 1 := ⟨N - 1, by omega⟩
    have : v = tl_tot j := by omega
    subst this
    rw [← hlj, List.take_length] at T
    refine And.intro (by rw [nI_1]; exact vp_in_nI (by omega) (by omega)) ?_
    rw [nI_1 j, nI_clamp (n := j + 1) (by omega), hb (j + 1) (by omega), ebj]
    exact br_t (nI_le (Nat.le_refl _) (by omega)) (nm_r (nI_1 _) (hJ le fi se sz T))
  | succ d ih =>
    intro v N le fi se sz hv T hN
    obtain ⟨N, rfl⟩ : ∃ k, N = k + 1 := ⟨N - 1, by omega⟩
    obtain ⟨lf, ef⟩ := tl_at_trm (m := m) hi1 him (by omega) hx
    obtain ⟨lg, eg⟩ := tl_at_trm (m := m) (i := v) hj1 hjm (by omega) (by omega)
    have hlen : (tl_al m ++ (r ++ List.map (β := tl_T) (fun u => .add (tl_at (tl_tr i) x) u) ((tl_tr j).take v))).length = (tl_al m).length + r.length + v := by
      rw [List.length_append, List.length_append, List.length_map, List.length_take, hlj]; omega
    have eF : tl_at (tl_al m ++ (r ++ List.map (β := tl_T) (fun u => .add (tl_at (tl_tr i) x) u) ((tl_tr j).take v))) (tl_bg i + x) = tl_at (tl_tr i) x := by rw [tl_at_l lf, ef]
    have eG : tl_at (tl_al m ++ (r ++ List.map (β := tl_T) (fun u => .add (tl_at (tl_tr i) x) u) ((tl_tr j).take v))) (tl_bg j + v) = tl_at (tl_tr j) v := by rw [tl_at_l lg, eg]
    refine And.intro (by rw [nI_1]; exact vp_in_nI (by omega) (by omega)) ?_
    rw [nI_1 j, nI_clamp (n := j + 1) (by omega), hb (j + 1) (by omega), ebj]
    refine br_f (nI_ge (by omega) (by omega)) (yn_add2 (f := tl_bg i + x) (g := tl_bg j + v) (by rw [hlen]; omega) (by rw [hlen]) T (by omega) (by omega) ?_ rfl rfl rfl (fun le' fi' se' sz' T' => ?_))
    · rw [eF, eG, tl_at_szk (by omega) hx, tl_at_szk (by omega) (by omega)]; omega
    · rw [eF, eG] at T'
      rw [hlen]
      refine nm_r (nI_1 _) (ih (v + 1) N le' fi' se' sz' (by omega) ?_ (by omega))
      rw [tl_take_s (by omega), List.map_append, List.map_singleton]
      simp only [List.append_assoc] at T' ⊢
      exact T'
theorem yn_7 {post : SY → Prop} {r : List tl_T} (hm : m ≤ 6) (hi1 : 1 ≤ i) (him : i ≤ m) (hj1 : 1 ≤ j) (hjm : j ≤ m) (hij : i + j ≤ m) (hb : ∀ k, k < m + 2 → a_begins k = nI (tl_bg k))
    (hB : (tl_al m).length + r.length + tl_tot i * tl_tot j ≤ 570)
    (hp : ∀ le fi se sz, yn_T (tl_al m ++ (r ++ tl_pr (tl_tr i) (tl_tr j))) le fi se sz →
      post (nI ((tl_al m).length + r.length + tl_tot i * tl_tot j), f_made, f_spent, f_depth, a_leaves, a_ones, a_twos, a_ends, le, fi, se, sz, a_begins, a_totals, a_ranks, a_sets, a_ways, a_marks, a_stack, a_open)) :
    ∀ d x N le fi se sz, x + d = tl_tot i → yn_T (tl_al m ++ (r ++ tl_pr ((tl_tr i).take x) (tl_tr j))) le fi se sz → d < N →
    wY_pairs_7 post (nI i) (nI j) N (nI (tl_bg i + x)) (nI ((tl_al m).length + r.length + x * tl_tot j)) f_made f_spent f_depth a_leaves a_ones a_twos a_ends le fi se sz a_begins a_totals a_ranks a_sets a_ways a_marks a_stack a_open := by
  have ebi := tl_bg_tot i (by omega) hi1
  have hbi := tl_bg_570 (i + 1) (by omega)
  have hbj := tl_bg_570 j (by omega)
  have hli := tl_tr_len i (by omega)
  have hlj := tl_tr_len j (by omega)
  intro d
  induction d with
  | zero =>
    intro x N le fi se sz hx T hN
    obtain ⟨N, rfl⟩ : ∃ k, N = k + 1 := ⟨N - 1, by omega⟩
    have : x = tl_tot i := by omega
    subst this
    rw [← hli, List.take_length] at T
    refine And.intro (by rw [nI_1]; exact vp_in_nI (by omega) (by omega)) ?_
    rw [nI_1 i, nI_clamp (n := i + 1) (by omega), hb (i + 1) (by omega), ebi]
    exact br_t (nI_le (Nat.le_refl _) (by omega)) (hp le fi se sz T)
  | succ d ih =>
    intro x N le fi se sz hx T hN
    obtain ⟨N, rfl⟩ : ∃ k, N = k + 1 := ⟨N - 1, by omega⟩
    have hxm : (x + 1) * tl_tot j ≤ tl_tot i * tl_tot j := Nat.mul_le_mul_right _ (by omega)
    rw [Nat.succ_mul] at hxm
    refine And.intro (by rw [nI_1]; exact vp_in_nI (by omega) (by omega)) ?_
    rw [nI_1 i, nI_clamp (n := i + 1) (by omega), hb (i + 1) (by omega), ebi, nI_clamp (n := j) (by omega), hb j (by omega)]
    refine br_f (nI_ge (by omega) (by omega)) (And.intro (vp_in_nI (by omega) (by omega)) (nm_e (Exists.intro (tl_tot j + 1) ?_)))
    have hlen : (r ++ tl_pr ((tl_tr i).take x) (tl_tr j)).length = r.length + x * tl_tot j := by
      rw [List.length_append, tl_pr_len, List.length_take, hli, hlj, Nat.min_eq_left (by omega)]
    have := yn_27 (post := post) (J := wY_pairs_7 post (nI i) (nI j) N) (m := m) (i := i) (j := j) (x := x) (r := r ++ tl_pr ((tl_tr i).take x) (tl_tr j)) (f_made := f_made) (f_spent := f_spent) (f_depth := f_depth) (a_leaves := a_leaves) (a_ones := a_ones) (a_twos := a_twos) (a_ends := a_ends) (a_begins := a_begins) (a_totals := a_totals) (a_ranks := a_ranks) (a_sets := a_sets) (a_ways := a_ways) (a_marks := a_marks) (a_stack := a_stack) (a_open := a_open)
      hm hi1 him hj1 hjm hij (by omega) hb (by rw [hlen]; omega) (fun le' fi' se' sz' T' => ?_) (tl_tot j) 0 (tl_tot j + 1) le fi se sz (by omega) (by simpa using T) (by omega)
    · rw [hlen, ← Nat.add_assoc, Nat.add_zero] at this
      exact this
    · have e5 : (tl_al m).length + (r ++ tl_pr ((tl_tr i).take x) (tl_tr j)).length + tl_tot j = (tl_al m).length + r.length + (x + 1) * tl_tot j := by
        rw [hlen, Nat.succ_mul]; omega
      rw [e5]
      refine ih (x + 1) N le' fi' se' sz' (by omega) ?_ (by omega)
      rw [tl_take_s (by omega), tl_pr_app, tl_pr_cons, tl_pr_nil, List.append_nil]
      simp only [List.append_assoc] at T' ⊢
      exact T'
theorem yn_pairs {post : SY → Prop} {r : List tl_T} {x y : Int32} (ex : x = nI i) (ey : y = nI j) (hm : m ≤ 6) (hi1 : 1 ≤ i) (him : i ≤ m) (hj1 : 1 ≤ j) (hjm : j ≤ m) (hij : i + j ≤ m) (hb : ∀ k, k < m + 2 → a_begins k = nI (tl_bg k))
    (hB : (tl_al m).length + r.length + tl_tot i * tl_tot j ≤ 570) (em : f_many = nI ((tl_al m).length + r.length)) (T : yn_T (tl_al m ++ r) a_letters a_firsts a_seconds a_sizes)
    (hp : ∀ le fi se sz, yn_T (tl_al m ++ (r ++ tl_pr (tl_tr i) (tl_tr j))) le fi se sz →
      post (nI ((tl_al m).length + r.length + tl_tot i * tl_tot j), f_made, f_spent, f_depth, a_leaves, a_ones, a_twos, a_ends, le, fi, se, sz, a_begins, a_totals, a_ranks, a_sets, a_ways, a_marks, a_stack, a_open)) : wpY_pairs post (f_many, f_made, f_spent, f_depth, a_leaves, a_ones, a_twos, a_ends, a_letters, a_firsts, a_seconds, a_sizes, a_begins, a_totals, a_ranks, a_sets, a_ways, a_marks, a_stack, a_open) x y := by
  subst ex ey em
  have hbi := tl_bg_570 i (by omega)
  unfold wpY_pairs
  dsimp only
  rw [nI_clamp (n := i) (by omega), hb i (by omega)]
  refine And.intro (vp_in_nI (by omega) (by omega)) (nm_e (Exists.intro (tl_tot i + 1) ?_))
  have := yn_7 (post := post) (m := m) (i := i) (j := j) (r := r) hm hi1 him hj1 hjm hij hb hB hp (tl_tot i) 0 (tl_tot i + 1) a_letters a_firsts a_seconds a_sizes (by omega) (by simpa [tl_pr_nil] using T) (by omega)
  rw [Nat.zero_mul, Nat.add_zero] at this
  exact this
end
section
variable {n : Nat}
variable {f_many f_made f_spent f_depth : Int32} {a_leaves a_ones a_twos a_ends a_letters a_firsts a_seconds a_sizes a_begins a_totals a_ranks a_sets a_ways a_marks a_stack a_open : Nat → Int32}
/-- lengths of what is there while size n is being added -/
theorem yn_len (h2 : 2 ≤ n) (h7 : n ≤ 7) : (tl_al (n - 1)).length + (List.map (β := tl_T) (fun t => .mulL 0 t) (tl_tr (n - 1))).length + (tl_ps tl_tr n (n - 1)).length ≤ 570 := by
  have e1 := tl_bg_len n (by omega)
  have e2 := tl_bg_570 (n + 1) (by omega)
  obtain ⟨k, rfl⟩ : ∃ k, n = k + 1 := ⟨n - 1, by omega⟩
  rw [show tl_al (k + 1) = tl_al k ++ tl_tr (k + 1) from rfl, tl_tr_eq h2 h7, List.length_append, List.length_append, List.length_map] at e1
  rw [List.length_map]
  rw [Nat.add_sub_cancel] at e1 ⊢
  omega
theorem yn_psl (f : Nat → List tl_T) (n : Nat) {i j : Nat} (h : i ≤ j) : (tl_ps f n i).length ≤ (tl_ps f n j).length := by
  induction j with
  | zero => have : i = 0 := by omega
            subst this; exact Nat.le_refl _
  | succ j ih =>
    by_cases e : i = j + 1
    · subst e; exact Nat.le_refl _
    · have := ih (by omega); simp only [tl_ps, List.length_append]; omega
theorem yn_287 {post : SY → Prop} {J : Int32 → Int32 → Int32 → Int32 → Int32 → (Nat → Int32) → (Nat → Int32) → (Nat → Int32) → (Nat → Int32) → (Nat → Int32) → (Nat → Int32) → (Nat → Int32) → (Nat → Int32) → (Nat → Int32) → (Nat → Int32) → (Nat → Int32) → (Nat → Int32) → (Nat → Int32) → (Nat → Int32) → (Nat → Int32) → (Nat → Int32) → Prop}
    (h2 : 2 ≤ n) (h7 : n ≤ 7) (hb : ∀ k, k < n + 1 → a_begins k = nI (tl_bg k))
    (hJ : ∀ le fi se sz, yn_T (tl_al n) le fi se sz → J (nI (n + 1)) (nI (tl_al n).length) f_made f_spent f_depth a_leaves a_ones a_twos a_ends le fi se sz a_begins a_totals a_ranks a_sets a_ways a_marks a_stack a_open) :
    ∀ d i N le fi se sz, i + d = n - 1 → 1 ≤ i → yn_T (tl_al (n - 1) ++ (List.map (β := tl_T) (fun t => .mulL 0 t) (tl_tr (n - 1)) ++ tl_ps tl_tr n i)) le fi se sz → d < N →
    wY_init_287 post J (nI n) N (nI i) (nI (tl_al (n - 1) ++ (List.map (β := tl_T) (fun t => .mulL 0 t) (tl_tr (n - 1)) ++ tl_ps tl_tr n i)).length) f_made f_spent f_depth a_leaves a_ones a_twos a_ends le fi se sz a_begins a_totals a_ranks a_sets a_ways a_marks a_stack a_open := by
  intro d
  induction d with
  | zero =>
    intro i N le fi se sz hi h1 T hN
    obtain ⟨N, rfl⟩ : ∃ k, N = k + 1 := ⟨N - 1, by omega⟩
    have : i = n - 1 := by omega
    subst this
    have eal : tl_al (n - 1) ++ (List.map (β := tl_T) (fun t => .mulL 0 t) (tl_tr (n - 1)) ++ tl_ps tl_tr n (n - 1)) = tl_al n := by
      rw [← tl_tr_eq h2 h7]
      obtain ⟨k, rfl⟩ : ∃ k, n = k + 1 := ⟨n - 1, by omega⟩
      rfl
    rw [eal] at T ⊢
    exact br_t (by rw [tn_1 n (by omega)]; exact nI_le (Nat.le_refl _) (by omega)) (nm_r (nI_1 n) (hJ le fi se sz T))
  | succ d ih =>
    intro i N le fi se sz hi h1 T hN
    obtain ⟨N, rfl⟩ : ∃ k, N = k + 1 := ⟨N - 1, by omega⟩
    have e1 : (nI n - 1) - nI i = nI (n - 1 - i) := by rw [tn_1 n (by omega), pk_sub (by omega)]
    have hli := tl_tr_len i (by omega)
    have hlj := tl_tr_len (n - 1 - i) (by omega)
    have hmul : (tl_pr (tl_tr i) (tl_tr (n - 1 - i))).length = tl_tot i * tl_tot (n - 1 - i) := by rw [tl_pr_len, hli, hlj]
    have hB : (tl_al (n - 1)).length + (List.map (β := tl_T) (fun t => .mulL 0 t) (tl_tr (n - 1)) ++ tl_ps tl_tr n i).length + tl_tot i * tl_tot (n - 1 - i) ≤ 570 := by
      have h3 := yn_len h2 h7
      have h4 := yn_psl tl_tr n (show i + 1 ≤ n - 1 by omega)
      simp only [tl_ps, List.length_append] at h4
      rw [List.length_append]
      omega
    refine br_f (by rw [tn_1 n (by omega)]; exact nI_ge (by omega) (by omega)) ?_
    refine yn_pairs (m := n - 1) (r := List.map (β := tl_T) (fun t => .mulL 0 t) (tl_tr (n - 1)) ++ tl_ps tl_tr n i) rfl e1 (by omega) h1 (by omega) (by omega) (by omega) (by omega) (fun k hk => hb k (by omega)) hB (by rw [List.length_append]) T (fun le' fi' se' sz' T' => ?_)
    refine nm_r (nI_1 i) ?_
    have := ih (i + 1) N le' fi' se' sz' (by omega) (by omega) (by simp only [tl_ps, List.append_assoc] at T' ⊢; exact T') (by omega)
    have e5 : (tl_al (n - 1) ++ (List.map (β := tl_T) (fun t => .mulL 0 t) (tl_tr (n - 1)) ++ tl_ps tl_tr n (i + 1))).length = (tl_al (n - 1)).length + (List.map (β := tl_T) (fun t => .mulL 0 t) (tl_tr (n - 1)) ++ tl_ps tl_tr n i).length + tl_tot i * tl_tot (n - 1 - i) := by
      simp only [tl_ps, List.length_append, hmul]; omega
    rw [e5] at this
    exact this
theorem yn_262 {post : SY → Prop} {J : Int32 → Int32 → Int32 → Int32 → Int32 → (Nat → Int32) → (Nat → Int32) → (Nat → Int32) → (Nat → Int32) → (Nat → Int32) → (Nat → Int32) → (Nat → Int32) → (Nat → Int32) → (Nat → Int32) → (Nat → Int32) → (Nat → Int32) → (Nat → Int32) → (Nat → Int32) → (Nat → Int32) → (Nat → Int32) → (Nat → Int32) → Prop}
    (h2 : 2 ≤ n) (h7 : n ≤ 7) (hb : ∀ k, k < n + 1 → a_begins k = nI (tl_bg k))
    (hJ : ∀ le fi se sz, yn_T (tl_al n) le fi se sz → J (nI (n + 1)) (nI (tl_al n).length) f_made f_spent f_depth a_leaves a_ones a_twos a_ends le fi se sz a_begins a_totals a_ranks a_sets a_ways a_marks a_stack a_open) :
    ∀ d i N le fi se sz, i + d = tl_tot (n - 1) → yn_T (tl_al (n - 1) ++ List.map (β := tl_T) (fun t => .mulL 0 t) ((tl_tr (n - 1)).take i)) le fi se sz → d < N →
    wY_init_262 post J (nI n) N (nI (tl_bg (n - 1) + i)) (nI ((tl_al (n - 1)).length + i)) f_made f_spent f_depth a_leaves a_ones a_twos a_ends le fi se sz a_begins a_totals a_ranks a_sets a_ways a_marks a_stack a_open := by
  have ebg := tl_bg_tot (n - 1) (by omega) (by omega)
  rw [show n - 1 + 1 = n by omega] at ebg
  have hbg := tl_bg_570 n (by omega)
  have hli := tl_tr_len (n - 1) (by omega)
  have h3 := yn_len h2 h7
  rw [List.length_map, hli] at h3
  intro d
  induction d with
  | zero =>
    intro i N le fi se sz hi T hN
    obtain ⟨N, rfl⟩ : ∃ k, N = k + 1 := ⟨N - 1, by omega⟩
    have : i = tl_tot (n - 1) := by omega
    subst this
    rw [← hli, List.take_length] at T
    refine And.intro (vp_in_nI (by omega) (by omega)) ?_
    rw [nI_clamp (n := n) (by omega), hb n (by omega), ebg]
    refine br_t (nI_le (Nat.le_refl _) (by omega)) (Exists.intro 8 ?_)
    have eps : tl_ps tl_tr n 1 = [] := by simp only [tl_ps]; rw [tl_tr_0, tl_pr_nil]; rfl
    have := yn_287 (post := post) (f_made := f_made) (f_spent := f_spent) (f_depth := f_depth) (a_leaves := a_leaves) (a_ones := a_ones) (a_twos := a_twos) (a_ends := a_ends) (a_begins := a_begins) (a_totals := a_totals) (a_ranks := a_ranks) (a_sets := a_sets) (a_ways := a_ways) (a_marks := a_marks) (a_stack := a_stack) (a_open := a_open) h2 h7 hb hJ (n - 2) 1 8 le fi se sz (by omega) (by omega) (by rw [eps, List.append_nil]; exact T) (by omega)
    rw [eps, List.append_nil, List.length_append, List.length_map, hli] at this
    exact this
  | succ d ih =>
    intro i N le fi se sz hi T hN
    obtain ⟨N, rfl⟩ : ∃ k, N = k + 1 := ⟨N - 1, by omega⟩
    obtain ⟨lf, ef⟩ := tl_at_trm (m := n - 1) (k := n - 1) (i := i) (by omega) (by omega) (by omega) (by omega)
    have hlen : (tl_al (n - 1) ++ List.map (β := tl_T) (fun t => .mulL 0 t) ((tl_tr (n - 1)).take i)).length = (tl_al (n - 1)).length + i := by
      rw [List.length_append, List.length_map, List.length_take, hli]; omega
    have eF : tl_at (tl_al (n - 1) ++ List.map (β := tl_T) (fun t => .mulL 0 t) ((tl_tr (n - 1)).take i)) (tl_bg (n - 1) + i) = tl_at (tl_tr (n - 1)) i := by rw [tl_at_l lf, ef]
    refine And.intro (vp_in_nI (by omega) (by omega)) ?_
    rw [nI_clamp (n := n) (by omega), hb n (by omega), ebg]
    refine br_f (nI_ge (by omega) (by omega)) (yn_add1 (f := tl_bg (n - 1) + i) (by rw [hlen]; omega) (by rw [hlen]) T (by omega) ?_ rfl rfl rfl (fun le' fi' se' sz' T' => ?_))
    · rw [eF, tl_at_szk (by omega) (by omega)]; omega
    · rw [eF] at T'
      rw [hlen]
      refine nm_r (nI_1 _) (ih (i + 1) N le' fi' se' sz' (by omega) ?_ (by omega))
      rw [tl_take_s (by omega), List.map_append, List.map_singleton]
      simp only [List.append_assoc] at T' ⊢
      exact T'
theorem yn_329 {post : SY → Prop} (em : f_many = nI 570) (T : yn_T (tl_al 7) a_letters a_firsts a_seconds a_sizes) (hb : ∀ k, k < 9 → a_begins k = nI (tl_bg k))
    (hp : ∀ rk, (∀ j, j < 570 → rk j = nI (tl_rk (tl_at (tl_al 7) j))) → post (f_many, f_made, f_spent, f_depth, a_leaves, a_ones, a_twos, a_ends, a_letters, a_firsts, a_seconds, a_sizes, a_begins, a_totals, rk, a_sets, a_ways, a_marks, a_stack, a_open)) :
    ∀ d j N rk, j + d = 570 → (∀ i, i < j → rk i = nI (tl_rk (tl_at (tl_al 7) i))) → d < N → wY_init_329 post f_many f_made f_spent f_depth N (nI j) a_leaves a_ones a_twos a_ends a_letters a_firsts a_seconds a_sizes a_begins a_totals rk a_sets a_ways a_marks a_stack a_open := by
  subst em
  intro d
  induction d with
  | zero =>
    intro j N rk hj hv hN
    obtain ⟨N, rfl⟩ : ∃ k, N = k + 1 := ⟨N - 1, by omega⟩
    obtain rfl : j = 570 := by omega
    exact br_t (nI_le (Nat.le_refl _) (by omega)) (hp rk hv)
  | succ d ih =>
    intro j N rk hj hv hN
    obtain ⟨N, rfl⟩ : ∃ k, N = k + 1 := ⟨N - 1, by omega⟩
    have hsz := tl_at_sz (j := j) (by omega)
    have hrk := tl_at_rk (j := j) (by omega)
    have ij : vp_in (nI j) 600 := vp_in_nI (by omega) (by omega)
    refine br_f (nI_ge (by omega) (by omega)) (And.intro ij ?_)
    rw [nI_clamp (n := j) (by omega), (T j (by rw [tl_al_len]; omega)).1, nI_clamp (n := tl_sz (tl_at (tl_al 7) j)) (by omega), hb _ (by omega), pk_sub (by omega)]
    refine And.intro (vp_in_nI (by omega) (by omega)) (And.intro ij (nm_e (nm_r (nI_1 j) (ih (j + 1) N _ (by omega) ?_ (by omega)))))
    intro i hi
    by_cases e : i = j
    · subst e; rw [pk_us]; exact congrArg nI (by omega)
    · rw [pk_un e]; exact hv i (by omega)
theorem yn_237 {post : SY → Prop} 
    (hp : ∀ le fi se sz be rk, yn_T (tl_al 7) le fi se sz → (∀ k, k < 9 → be k = nI (tl_bg k)) → (∀ j, j < 570 → rk j = nI (tl_rk (tl_at (tl_al 7) j))) →
      post (nI 570, f_made, f_spent, f_depth, a_leaves, a_ones, a_twos, a_ends, le, fi, se, sz, be, a_totals, rk, a_sets, a_ways, a_marks, a_stack, a_open)) :
    ∀ d n N le fi se sz be, n + d = 8 → 2 ≤ n → yn_T (tl_al (n - 1)) le fi se sz → (∀ k, k < n → be k = nI (tl_bg k)) → d < N →
    wY_init_237 post N (nI n) (nI (tl_al (n - 1)).length) f_made f_spent f_depth a_leaves a_ones a_twos a_ends le fi se sz be a_totals a_ranks a_sets a_ways a_marks a_stack a_open := by
  intro d
  induction d with
  | zero =>
    intro n N le fi se sz be hn h2 T hb hN
    obtain ⟨N, rfl⟩ : ∃ k, N = k + 1 := ⟨N - 1, by omega⟩
    obtain rfl : n = 8 := by omega
    have hb' : ∀ k, k < 9 → upd be 8 (nI 570) k = nI (tl_bg k) := by
      intro k hk
      by_cases e : k = 8
      · subst e; rw [pk_us]; rfl
      · rw [pk_un e]; exact hb k (by omega)
    rw [show (tl_al (8 - 1)).length = 570 from tl_al_len]
    exact br_t (by decide) (nm_e (Exists.intro 571 (yn_329 rfl T hb' (fun rk hv => hp le fi se sz _ rk T hb' hv) 570 0 571 a_ranks rfl (fun i hi => absurd hi (Nat.not_lt_zero i)) (by decide))))
  | succ d ih =>
    intro n N le fi se sz be hn h2 T hb hN
    obtain ⟨N, rfl⟩ : ∃ k, N = k + 1 := ⟨N - 1, by omega⟩
    have eb := tl_bg_len (n - 1) (by omega)
    rw [show n - 1 + 1 = n by omega] at eb
    have hb' : ∀ k, k < n + 1 → upd be n (nI (tl_al (n - 1)).length) k = nI (tl_bg k) := by
      intro k hk
      by_cases e : k = n
      · subst e; rw [pk_us, eb]
      · rw [pk_un e]; exact hb k (by omega)
    refine br_f (nI_nlt (a := 7) (by omega) (by decide)) (And.intro (vp_in_nI (by omega) (by omega)) ?_)
    rw [nI_clamp (n := n) (by omega)]
    refine nm_e (And.intro (by rw [tn_1 n (by omega)]; exact vp_in_nI (by omega) (by omega)) ?_)
    rw [tn_1 n (by omega), nI_clamp (n := n - 1) (by omega), hb' (n - 1) (by omega)]
    refine nm_e (Exists.intro 383 ?_)
    have htot := tl_tr_382 (n := n - 1) (by omega)
    rw [tl_tr_len (n - 1) (by omega)] at htot
    exact yn_262 (post := post) (f_made := f_made) (f_spent := f_spent) (f_depth := f_depth) (a_leaves := a_leaves) (a_ones := a_ones) (a_twos := a_twos) (a_ends := a_ends) (a_begins := upd be n (nI (tl_al (n - 1)).length)) (a_totals := a_totals) (a_ranks := a_ranks) (a_sets := a_sets) (a_ways := a_ways) (a_marks := a_marks) (a_stack := a_stack) (a_open := a_open)
      h2 (by omega) hb' (fun le' fi' se' sz' T' => ih (n + 1) N le' fi' se' sz' _ (by omega) (by omega) T' hb' (by omega)) (tl_tot (n - 1)) 0 383 le fi se sz (by omega) (by simpa using T) (by omega)
theorem yn_169 {post : SY → Prop} {J : Int32 → (Nat → Int32) → (Nat → Int32) → (Nat → Int32) → (Nat → Int32) → (Nat → Int32) → (Nat → Int32) → (Nat → Int32) → (Nat → Int32) → (Nat → Int32) → (Nat → Int32) → (Nat → Int32) → (Nat → Int32) → (Nat → Int32) → (Nat → Int32) → (Nat → Int32) → (Nat → Int32) → Prop}
    (h2 : 2 ≤ n) (hn : n < 20) (hJ : ∀ tt, (∀ i, i < n + 1 → tt i = nI (tl_tot i)) → J (nI (n + 1)) a_leaves a_ones a_twos a_ends a_letters a_firsts a_seconds a_sizes a_begins tt a_ranks a_sets a_ways a_marks a_stack a_open) :
    ∀ d i N tt, i + d = n - 1 → 1 ≤ i → (∀ i, i < n → tt i = nI (tl_tot i)) → tt n = nI (tl_tot (n - 1) + tl_sm (fun i => tl_tot i * tl_tot (n - 1 - i)) i) → d < N → wY_init_169 post J (nI n) f_many f_made f_spent f_depth N (nI i) a_leaves a_ones a_twos a_ends a_letters a_firsts a_seconds a_sizes a_begins tt a_ranks a_sets a_ways a_marks a_stack a_open := by
  intro d
  induction d with
  | zero =>
    intro i N tt hi h1 hv hvn hN
    obtain ⟨N, rfl⟩ : ∃ k, N = k + 1 := ⟨N - 1, by omega⟩
    have : i = n - 1 := by omega
    subst this
    rw [← tl_tot_rec n hn h2] at hvn
    refine br_t (by rw [tn_1 n (by omega)]; exact nI_le (Nat.le_refl _) (by omega)) (nm_r (nI_1 n) (hJ tt (fun i hi => ?_)))
    by_cases e : i = n
    · subst e; exact hvn
    · exact hv i (by omega)
  | succ d ih =>
    intro i N tt hi h1 hv hvn hN
    obtain ⟨N, rfl⟩ : ∃ k, N = k + 1 := ⟨N - 1, by omega⟩
    have e1 : (nI n - 1) - nI i = nI (n - 1 - i) := by rw [tn_1 n (by omega), pk_sub (by omega)]
    have inn : vp_in (nI n) 20 := vp_in_nI (by omega) (by omega)
    refine br_f (by rw [tn_1 n (by omega)]; exact nI_ge (by omega) (by omega)) ?_
    rw [e1, nI_clamp (n := n) (by omega), nI_clamp (n := i) (by omega), nI_clamp (n := n - 1 - i) (by omega), hv i (by omega), hv (n - 1 - i) (by omega), hvn, pk_mul, nI_add]
    refine And.intro inn (And.intro (vp_in_nI (by omega) (by omega)) (And.intro (vp_in_nI (by omega) (by omega)) (And.intro inn (nm_e (nm_r (nI_1 i) (ih (i + 1) N _ (by omega) (by omega) (fun j hj => by rw [pk_un (by omega)]; exact hv j hj) ?_ (by omega)))))))
    rw [pk_us]
    simp only [tl_sm]; exact congrArg nI (by omega)
end
section
variable {f_many f_made f_spent f_depth : Int32} {a_leaves a_ones a_twos a_ends a_letters a_firsts a_seconds a_sizes a_begins a_totals a_ranks a_sets a_ways a_marks a_stack a_open : Nat → Int32}
theorem yn_147 {post : SY → Prop} (em : f_many = 0) (eb : a_begins = fun _ => 0)
    (hp : ∀ le fi se sz be tt rk, yn_T (tl_al 7) le fi se sz → (∀ k, k < 9 → be k = nI (tl_bg k)) → (∀ j, j < 570 → rk j = nI (tl_rk (tl_at (tl_al 7) j))) → (∀ i, i < 20 → tt i = nI (tl_tot i)) →
      post (nI 570, f_made, f_spent, f_depth, a_leaves, a_ones, a_twos, a_ends, le, fi, se, sz, be, tt, rk, a_sets, a_ways, a_marks, a_stack, a_open)) :
    ∀ d n N tt, n + d = 20 → 2 ≤ n → (∀ i, i < n → tt i = nI (tl_tot i)) → d < N → wY_init_147 post f_many f_made f_spent f_depth N (nI n) a_leaves a_ones a_twos a_ends a_letters a_firsts a_seconds a_sizes a_begins tt a_ranks a_sets a_ways a_marks a_stack a_open := by
  subst em eb
  intro d
  induction d with
  | zero =>
    intro n N tt hn h2 hv hN
    obtain ⟨N, rfl⟩ : ∃ k, N = k + 1 := ⟨N - 1, by omega⟩
    obtain rfl : n = 20 := by omega
    refine br_t (by decide) (nm_e ?_)
    refine yn_add0 (l := []) (c := 0) (by decide) rfl (fun j hj => absurd hj (Nat.not_lt_zero j)) (by decide) rfl rfl rfl (fun le fi se sz T => ?_)
    refine yn_add0 (l := [.num 0]) (c := 1) (by decide) rfl T (by decide) rfl rfl rfl (fun le fi se sz T => ?_)
    refine Exists.intro 7 ?_
    have T1 : yn_T (tl_al (2 - 1)) le fi se sz := by
      rw [show tl_al (2 - 1) = [.num 0, .num 1] by
        show [] ++ tl_tr 1 = _
        rw [tl_tr_1]; rfl]
      exact T
    have := yn_237 (post := post) (f_made := f_made) (f_spent := f_spent) (f_depth := f_depth) (a_leaves := a_leaves) (a_ones := a_ones) (a_twos := a_twos) (a_ends := a_ends) (a_totals := tt) (a_ranks := a_ranks) (a_sets := a_sets) (a_ways := a_ways) (a_marks := a_marks) (a_stack := a_stack) (a_open := a_open)
      (fun le' fi' se' sz' be' rk' T' hb' hr' => hp le' fi' se' sz' be' tt rk' T' hb' hr' hv) 6 2 7 le fi se sz (upd (fun _ => 0) 1 0) rfl (by omega) T1 (fun k hk => by
        obtain rfl | rfl : k = 0 ∨ k = 1 := by omega
        · rfl
        · rfl) (by decide)
    rw [← tl_bg_len (2 - 1) (by decide)] at this
    exact this
  | succ d ih =>
    intro n N tt hn h2 hv hN
    obtain ⟨N, rfl⟩ : ∃ k, N = k + 1 := ⟨N - 1, by omega⟩
    refine br_f (nI_ge (b := 20) (by omega) (by decide)) (And.intro (by rw [tn_1 n (by omega)]; exact vp_in_nI (by omega) (by omega)) (And.intro (vp_in_nI (by omega) (by omega)) ?_))
    rw [tn_1 n (by omega), nI_clamp (n := n - 1) (by omega), nI_clamp (n := n) (by omega), hv (n - 1) (by omega)]
    refine nm_e (Exists.intro 20 (yn_169 h2 (by omega) (fun tt' hv' => ih (n + 1) N tt' (by omega) (by omega) hv' (by omega)) (n - 2) 1 20 _ (by omega) (by omega) (fun i hi => by rw [pk_un (by omega)]; exact hv i hi) ?_ (by omega)))
    rw [pk_us]
    have e0 : tl_sm (fun i => tl_tot i * tl_tot (n - 1 - i)) 1 = 0 := by
      simp only [tl_sm]
      rw [show tl_tot 0 = 0 from rfl, Nat.zero_mul]
    rw [e0, Nat.add_zero]
end
theorem yn_init {post : SY → Prop} (hp : ∀ u, yr_R (fun _ => 0) (fun _ => 0) (fun _ => 0) (fun _ => 0) 0 (fun _ => .num 0) 0 u → post u) : wpY_init post := by
  unfold wpY_init
  refine nm_e (Exists.intro 19 (yn_147 rfl rfl (fun le fi se sz be tt rk T hb hr ht => hp _ ⟨rfl, rfl, rfl, fun _ => rfl, fun _ => rfl, fun _ => rfl, fun _ => rfl, hb, fun i hi => ht i (by omega), 0, tl_at (tl_al 7), Nat.le_refl _, rfl, fun j _ => rfl, fun j hj => ⟨T j (by rw [tl_al_len]; exact hj), hr j hj⟩, fun k hk => absurd hk (Nat.not_lt_zero k)⟩) 18 2 19 _ rfl (by omega) (fun i hi => ?_) (by decide)))
  obtain rfl | rfl : i = 0 ∨ i = 1 := by omega
  · rfl
  · rfl
end
section
/-! the relation, and what is owed -/
/-- both objects hold the same rules and the same stack of trees -/
def i_Rel (k : Nat) (u : SX) (v : SY) : Prop :=
  ∃ (L O W F : Nat → Nat) (h : Nat) (s : Nat → tl_T) (m : Nat), tl_rl L O W F ∧ tl_sk h s m ∧ xr_R L O W F h s m u ∧ yr_R L O W F h s m v
theorem i_up {k : Nat} {u : SX} {v : SY} (h : i_Rel k u v) : i_Rel (k + 4) u v := h
theorem i_vc0 : wpX_init (fun u => wpY_init (fun v => i_Rel 0 u v)) :=
  xi_init (fun _ RX => yn_init (fun _ RY => ⟨_, _, _, _, _, _, _, ⟨fun _ => by decide, fun _ => by decide, fun _ => by decide, fun _ => by decide⟩, ⟨rfl, by decide⟩, RX, RY⟩))
theorem iz_put {L : Nat → Nat} (hL : ∀ j, L j < 16) {k v : Nat} (hv : v < 16) : ∀ j, tl_put L k v j < 16 := by
  intro j
  by_cases e : j = k
  · subst e; rw [tl_put_s]; exact hv
  · rw [tl_put_n e]; exact hL j
theorem i_vc_leafRule {k : Nat} {u : SX} {v : SY} (I : i_Rel k u v) (hk : k + 4 ≤ 2048) (v1 : Int32) (v2 : Int32) (v3 : Int32) : wpX_leafRule (fun r u' => wpY_leafRule (fun r' v' => r' = r ∧ i_Rel (k + 4) u' v') v v1 v2 v3) u v1 v2 v3 := by
  have I0 := I
  obtain ⟨L, O, W, F, h, s, m, hR, K, RX, RY⟩ := I
  refine xt_leafRule RX (fun b => yt_leafRule_b b ⟨rfl, I0⟩) (fun a c w ha hc hw e1 e2 e3 u' RX' => ?_)
  subst e1 e2 e3
  exact yt_leafRule_g RY ha hc hw (fun v' RY' => ⟨rfl, _, _, _, _, _, _, _, ⟨iz_put hR.1 hw, hR.2⟩, K, RX', RY'⟩)
theorem i_vc_oneRule {k : Nat} {u : SX} {v : SY} (I : i_Rel k u v) (hk : k + 4 ≤ 2048) (v1 : Int32) (v2 : Int32) (v3 : Int32) : wpX_oneRule (fun r u' => wpY_oneRule (fun r' v' => r' = r ∧ i_Rel (k + 4) u' v') v v1 v2 v3) u v1 v2 v3 := by
  have I0 := I
  obtain ⟨L, O, W, F, h, s, m, hR, K, RX, RY⟩ := I
  refine xt_oneRule RX (fun b => yt_oneRule_b b ⟨rfl, I0⟩) (fun a c w ha hc hw e1 e2 e3 u' RX' => ?_)
  subst e1 e2 e3
  exact yt_oneRule_g RY ha hc hw (fun v' RY' => ⟨rfl, _, _, _, _, _, _, _, ⟨hR.1, iz_put hR.2.1 hw, hR.2.2⟩, K, RX', RY'⟩)
theorem i_vc_twoRule {k : Nat} {u : SX} {v : SY} (I : i_Rel k u v) (hk : k + 4 ≤ 2048) (v1 : Int32) (v2 : Int32) (v3 : Int32) : wpX_twoRule (fun r u' => wpY_twoRule (fun r' v' => r' = r ∧ i_Rel (k + 4) u' v') v v1 v2 v3) u v1 v2 v3 := by
  have I0 := I
  obtain ⟨L, O, W, F, h, s, m, hR, K, RX, RY⟩ := I
  refine xt_twoRule RX (fun b => yt_twoRule_b b ⟨rfl, I0⟩) (fun a c w ha hc hw e1 e2 e3 u' RX' => ?_)
  subst e1 e2 e3
  exact yt_twoRule_g RY ha hc hw (fun v' RY' => ⟨rfl, _, _, _, _, _, _, _, ⟨hR.1, hR.2.1, iz_put hR.2.2.1 hw, hR.2.2.2⟩, K, RX', RY'⟩)
theorem i_vc_finals {k : Nat} {u : SX} {v : SY} (I : i_Rel k u v) (hk : k + 4 ≤ 2048) (v1 : Int32) (v2 : Int32) : wpX_finals (fun r u' => wpY_finals (fun r' v' => r' = r ∧ i_Rel (k + 4) u' v') v v1 v2) u v1 v2 := by
  have I0 := I
  obtain ⟨L, O, W, F, h, s, m, hR, K, RX, RY⟩ := I
  refine xt_finals RX (fun b => yt_finals_b b ⟨rfl, I0⟩) (fun a w ha hw e1 e2 u' RX' => ?_)
  subst e1 e2
  exact yt_finals_g RY ha hw (fun v' RY' => ⟨rfl, _, _, _, _, _, _, _, ⟨hR.1, hR.2.1, hR.2.2.1, iz_put hR.2.2.2 hw⟩, K, RX', RY'⟩)
theorem i_vc_leaf {k : Nat} {u : SX} {v : SY} (I : i_Rel k u v) (hk : k + 4 ≤ 2048) (v1 : Int32) : wpX_leaf (fun r u' => wpY_leaf (fun r' v' => r' = r ∧ i_Rel (k + 4) u' v') v v1) u v1 := by
  have I0 := I
  obtain ⟨L, O, W, F, h, s, m, hR, K, RX, RY⟩ := I
  refine xt_leaf RX K (fun b => yt_leaf_b b ⟨rfl, I0⟩) (fun c hc e hm => ?_) (fun c hc e hm u' RX' => ?_)
  · subst e
    exact yt_leaf_f RY hc hm ⟨rfl, I0⟩
  · subst e
    exact yt_leaf_g RY K hc hm (fun v' RY' => ⟨rfl, _, _, _, _, _, _, _, hR, tl_sk_0 K hm c, RX', RY'⟩)
theorem i_vc_one {k : Nat} {u : SX} {v : SY} (I : i_Rel k u v) (hk : k + 4 ≤ 2048) : wpX_one (fun r u' => wpY_one (fun r' v' => r' = r ∧ i_Rel (k + 4) u' v') v) u := by
  have I0 := I
  obtain ⟨L, O, W, F, h, s, m, hR, K, RX, RY⟩ := I
  exact xt_one RX K (fun hm => yt_one_f RY hm ⟨rfl, I0⟩) (fun hm hh => yt_one_l RY hm hh ⟨rfl, I0⟩)
    (fun hm h1 u' RX' => yt_one_g RY K hm h1 (fun v' RY' => ⟨rfl, _, _, _, _, _, _, _, hR, tl_sk_1 K hm h1, RX', RY'⟩))
theorem i_vc_two {k : Nat} {u : SX} {v : SY} (I : i_Rel k u v) (hk : k + 4 ≤ 2048) : wpX_two (fun r u' => wpY_two (fun r' v' => r' = r ∧ i_Rel (k + 4) u' v') v) u := by
  have I0 := I
  obtain ⟨L, O, W, F, h, s, m, hR, K, RX, RY⟩ := I
  exact xt_two RX K (fun hm => yt_two_f RY hm ⟨rfl, I0⟩) (fun hm hh => yt_two_l RY hm hh ⟨rfl, I0⟩)
    (fun hm h1 u' RX' => yt_two_g RY K hm h1 (fun v' RY' => ⟨rfl, _, _, _, _, _, _, _, hR, tl_sk_2 K hm h1, RX', RY'⟩))
theorem i_vc_discard {k : Nat} {u : SX} {v : SY} (I : i_Rel k u v) (hk : k + 4 ≤ 2048) : wpX_discard (fun r u' => wpY_discard (fun r' v' => r' = r ∧ i_Rel (k + 4) u' v') v) u := by
  obtain ⟨L, O, W, F, h, s, m, hR, K, RX, RY⟩ := I
  exact xt_discard RX (fun u' RX' => yt_discard RY (fun v' RY' => ⟨rfl, _, _, _, _, _, _, _, hR, ⟨rfl, Nat.zero_le _⟩, RX', RY'⟩))
theorem i_vc_size {k : Nat} {u : SX} {v : SY} (I : i_Rel k u v) (hk : k + 4 ≤ 2048) : wpX_size (fun r => wpY_size (fun r' => r' = r ∧ i_Rel (k + 4) u v) v) u := by
  have I0 := I
  obtain ⟨L, O, W, F, h, s, m, hR, K, RX, RY⟩ := I
  exact xt_size RX K (fun h0 => yt_size RY K (fun _ => ⟨rfl, I0⟩) (fun z => absurd z (by omega))) (fun h1 => yt_size RY K (fun z => absurd z (by omega)) (fun _ => ⟨rfl, I0⟩))
theorem i_vc_letter {k : Nat} {u : SX} {v : SY} (I : i_Rel k u v) (hk : k + 4 ≤ 2048) (v1 : Int32) : wpX_letter (fun r u' => wpY_letter (fun r' v' => r' = r ∧ i_Rel (k + 4) u' v') v v1) u v1 := by
  have I0 := I
  obtain ⟨L, O, W, F, h, s, m, hR, K, RX, RY⟩ := I
  refine xt_letter RX K (fun h0 => yt_letter_0 RY h0 ⟨rfl, I0⟩) (fun j h1 hj e u' RX' => ?_) (fun h1 hne u' RX' => ?_)
  · have hz := tl_sk_top K (i := h - 1) (by omega)
    have hm := K.2
    refine yt_letter RY K h1 (fun i hi ei => ?_) (fun z => absurd e (z j hj)) (fun v' RY' => ⟨rfl, _, _, _, _, _, _, _, hR, K, RX', RY'⟩)
    have := (nI_eq (by omega) (by omega)).mp (e.symm.trans ei)
    rw [this]
  · exact yt_letter RY K h1 (fun i hi ei => absurd ei (hne i hi)) (fun _ => rfl) (fun v' RY' => ⟨rfl, _, _, _, _, _, _, _, hR, K, RX', RY'⟩)
theorem i_vc_rank {k : Nat} {u : SX} {v : SY} (I : i_Rel k u v) (hk : k + 4 ≤ 2048) : wpX_rank (fun r u' => wpY_rank (fun r' => r' = r ∧ i_Rel (k + 4) u' v) v) u := by
  have I0 := I
  obtain ⟨L, O, W, F, h, s, m, hR, K, RX, RY⟩ := I
  exact xt_rank RX K (fun h0 => yt_rank RY K (fun _ => ⟨rfl, I0⟩) (fun z => absurd z (by omega))) (fun h1 u' RX' => yt_rank RY K (fun z => absurd z (by omega)) (fun _ => ⟨rfl, _, _, _, _, _, _, _, hR, K, RX', RY⟩))
theorem i_vc_states {k : Nat} {u : SX} {v : SY} (I : i_Rel k u v) (hk : k + 4 ≤ 2048) (v1 : Int32) : wpX_states (fun r u' => wpY_states (fun r' v' => r' = r ∧ i_Rel (k + 4) u' v') v v1) u v1 := by
  have I0 := I
  obtain ⟨L, O, W, F, h, s, m, hR, K, RX, RY⟩ := I
  refine xt_states hR RX K (fun b => yt_states_b b ⟨rfl, I0⟩) (fun a ha e h0 => ?_) (fun a ha e h1 u' RX' => ?_)
  · subst e
    exact yt_states_0 RY ha h0 ⟨rfl, I0⟩
  · subst e
    exact yt_states hR RY K ha h1 (fun v' RY' => ⟨rfl, _, _, _, _, _, _, _, hR, K, RX', RY'⟩)
theorem i_vc_runs {k : Nat} {u : SX} {v : SY} (I : i_Rel k u v) (hk : k + 4 ≤ 2048) (v1 : Int32) : wpX_runs (fun r u' => wpY_runs (fun r' v' => r' = r ∧ i_Rel (k + 4) u' v') v v1) u v1 := by
  have I0 := I
  obtain ⟨L, O, W, F, h, s, m, hR, K, RX, RY⟩ := I
  refine xt_runs hR RX K (fun b => yt_runs_b b ⟨rfl, I0⟩) (fun a ha e h0 => ?_) (fun a ha e h1 u' RX' => ?_)
  · subst e
    exact yt_runs_0 RY ha h0 ⟨rfl, I0⟩
  · subst e
    exact yt_runs hR RY K ha h1 (fun v' RY' => ⟨rfl, _, _, _, _, _, _, _, hR, K, RX', RY'⟩)
theorem i_vc_count {k : Nat} {u : SX} {v : SY} (I : i_Rel k u v) (hk : k + 4 ≤ 2048) (v1 : Int32) (v2 : Int32) : wpX_count (fun r u' => wpY_count (fun r' v' => r' = r ∧ i_Rel (k + 4) u' v') v v1 v2) u v1 v2 := by
  have I0 := I
  obtain ⟨L, O, W, F, h, s, m, hR, K, RX, RY⟩ := I
  refine xt_count hR RX (fun b => yt_count_b b ⟨rfl, I0⟩) (fun kind n hkd h1 h7 e1 e2 u' RX' => ?_)
  subst e1 e2
  exact yt_count hR RY K.2 hkd h1 h7 (fun v' RY' => ⟨rfl, _, _, _, _, _, _, _, hR, K, RX', RY'⟩)
theorem i_vc_least {k : Nat} {u : SX} {v : SY} (I : i_Rel k u v) (hk : k + 4 ≤ 2048) (v1 : Int32) : wpX_least (fun r u' => wpY_least (fun r' v' => r' = r ∧ i_Rel (k + 4) u' v') v v1) u v1 := by
  have I0 := I
  obtain ⟨L, O, W, F, h, s, m, hR, K, RX, RY⟩ := I
  refine xt_least hR RX (fun b => yt_least_b b ⟨rfl, I0⟩) (fun kind hkd e1 u' RX' => ?_)
  subst e1
  exact yt_least hR RY K.2 hkd (fun v' RY' => ⟨rfl, _, _, _, _, _, _, _, hR, K, RX', RY'⟩)
theorem i_vc_load {k : Nat} {u : SX} {v : SY} (I : i_Rel k u v) (hk : k + 4 ≤ 2048) (v1 : Int32) (v2 : Int32) (v3 : Int32) : wpX_load (fun r u' => wpY_load (fun r' v' => r' = r ∧ i_Rel (k + 4) u' v') v v1 v2 v3) u v1 v2 v3 := by
  have I0 := I
  obtain ⟨L, O, W, F, h, s, m, hR, K, RX, RY⟩ := I
  refine xt_load hR RX (fun b => yt_load_b b ⟨rfl, I0⟩) (fun kind n hkd h1 h7 e1 e2 hne u' RX' => ?_) (fun kind n j t hkd h1 h7 e1 e2 hj e3 hsel u' RX' => ?_)
  · subst e1 e2
    exact yt_load_n hR RY K.2 hkd h1 h7 hne (fun v' RY' => ⟨rfl, _, _, _, _, _, _, _, hR, K, RX', RY'⟩)
  · subst e1 e2 e3
    have hz := tl_tr_size h7 (tl_sel_mem hsel)
    refine yt_load_g hR RY K.2 hkd h1 h7 hsel (fun v' RY' => ⟨rfl, _, _, _, _, _, _, _, hR, ⟨?_, by omega⟩, RX', RY'⟩)
    simp only [tl_sm]
    rw [tl_put_s, hz, Nat.zero_add]
end
